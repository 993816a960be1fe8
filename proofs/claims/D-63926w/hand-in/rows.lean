section
-- ===== PART A: goes FIRST, ahead of the names: the tables' words, and 'selects' of the private methods out of them =====
/-- a private method of a class that the tables say can be made, by its rows of tables_1 -/
def lw_okq (q : MethodName × Nat) : Prop := (q.1.cls ≠ "java/lang/invoke/MethodHandle" ∧ q.1.cls ≠ "java/lang/invoke/VarHandle") ∧ Cond.instantiable q.1.cls q.2 ∈ tables_1 ∧ Cond.privateMethod q.1 ∈ tables_1 ∧ Cond.instanceMethod q.1 ∈ tables_1
set_option maxRecDepth 100000
theorem lw_p0 : lw_okq (⟨"WinogradEngine", "isCell", "(I)Z"⟩, 10) := ⟨⟨by decide +kernel, by decide +kernel⟩, List.mem_of_getElem? (i := 4) rfl, List.mem_of_getElem? (i := 50) rfl, List.mem_of_getElem? (i := 51) rfl⟩
theorem lw_p1 : lw_okq (⟨"WinogradEngine", "isFilter", "(I)Z"⟩, 10) := ⟨⟨by decide +kernel, by decide +kernel⟩, List.mem_of_getElem? (i := 4) rfl, List.mem_of_getElem? (i := 64) rfl, List.mem_of_getElem? (i := 65) rfl⟩
theorem lw_p2 : lw_okq (⟨"WinogradEngine", "forget", "(I)V"⟩, 10) := ⟨⟨by decide +kernel, by decide +kernel⟩, List.mem_of_getElem? (i := 4) rfl, List.mem_of_getElem? (i := 68) rfl, List.mem_of_getElem? (i := 69) rfl⟩
theorem lw_p3 : lw_okq (⟨"WinogradEngine", "respond", "(I)V"⟩, 10) := ⟨⟨by decide +kernel, by decide +kernel⟩, List.mem_of_getElem? (i := 4) rfl, List.mem_of_getElem? (i := 76) rfl, List.mem_of_getElem? (i := 77) rfl⟩
theorem lw_p4 : lw_okq (⟨"WinogradEngine", "convolve", "(I)V"⟩, 10) := ⟨⟨by decide +kernel, by decide +kernel⟩, List.mem_of_getElem? (i := 4) rfl, List.mem_of_getElem? (i := 80) rfl, List.mem_of_getElem? (i := 81) rfl⟩
theorem lw_p5 : lw_okq (⟨"WinogradEngine", "turnFilter", "(I)V"⟩, 10) := ⟨⟨by decide +kernel, by decide +kernel⟩, List.mem_of_getElem? (i := 4) rfl, List.mem_of_getElem? (i := 84) rfl, List.mem_of_getElem? (i := 85) rfl⟩
theorem lw_p6 : lw_okq (⟨"WinogradEngine", "spread", "(IIII)I"⟩, 10) := ⟨⟨by decide +kernel, by decide +kernel⟩, List.mem_of_getElem? (i := 4) rfl, List.mem_of_getElem? (i := 88) rfl, List.mem_of_getElem? (i := 89) rfl⟩
theorem lw_p7 : lw_okq (⟨"WinogradEngine", "loadTile", "(II)V"⟩, 10) := ⟨⟨by decide +kernel, by decide +kernel⟩, List.mem_of_getElem? (i := 4) rfl, List.mem_of_getElem? (i := 92) rfl, List.mem_of_getElem? (i := 93) rfl⟩
theorem lw_p8 : lw_okq (⟨"WinogradEngine", "turnTile", "()V"⟩, 10) := ⟨⟨by decide +kernel, by decide +kernel⟩, List.mem_of_getElem? (i := 4) rfl, List.mem_of_getElem? (i := 96) rfl, List.mem_of_getElem? (i := 97) rfl⟩
theorem lw_p9 : lw_okq (⟨"WinogradEngine", "mixed", "(IIIII)I"⟩, 10) := ⟨⟨by decide +kernel, by decide +kernel⟩, List.mem_of_getElem? (i := 4) rfl, List.mem_of_getElem? (i := 100) rfl, List.mem_of_getElem? (i := 101) rfl⟩
theorem lw_p10 : lw_okq (⟨"WinogradEngine", "gatherTile", "()V"⟩, 10) := ⟨⟨by decide +kernel, by decide +kernel⟩, List.mem_of_getElem? (i := 4) rfl, List.mem_of_getElem? (i := 104) rfl, List.mem_of_getElem? (i := 105) rfl⟩
theorem lw_p11 : lw_okq (⟨"WinogradEngineModel", "isCell", "(I)Z"⟩, 3) := ⟨⟨by decide +kernel, by decide +kernel⟩, List.mem_of_getElem? (i := 137) rfl, List.mem_of_getElem? (i := 157) rfl, List.mem_of_getElem? (i := 158) rfl⟩
theorem lw_p12 : lw_okq (⟨"WinogradEngineModel", "isValue", "(I)Z"⟩, 3) := ⟨⟨by decide +kernel, by decide +kernel⟩, List.mem_of_getElem? (i := 137) rfl, List.mem_of_getElem? (i := 161) rfl, List.mem_of_getElem? (i := 162) rfl⟩
theorem lw_p13 : lw_okq (⟨"WinogradEngineModel", "isPlace", "(I)Z"⟩, 3) := ⟨⟨by decide +kernel, by decide +kernel⟩, List.mem_of_getElem? (i := 137) rfl, List.mem_of_getElem? (i := 169) rfl, List.mem_of_getElem? (i := 170) rfl⟩
theorem lw_p14 : lw_okq (⟨"WinogradEngineModel", "isFilter", "(I)Z"⟩, 3) := ⟨⟨by decide +kernel, by decide +kernel⟩, List.mem_of_getElem? (i := 137) rfl, List.mem_of_getElem? (i := 178) rfl, List.mem_of_getElem? (i := 179) rfl⟩
theorem lw_p15 : lw_okq (⟨"WinogradEngineModel", "at", "(IIIZ)I"⟩, 3) := ⟨⟨by decide +kernel, by decide +kernel⟩, List.mem_of_getElem? (i := 137) rfl, List.mem_of_getElem? (i := 186) rfl, List.mem_of_getElem? (i := 187) rfl⟩
def lw_privs_1 : List (MethodName × Nat) := [(⟨"WinogradEngine", "isCell", "(I)Z"⟩, 10), (⟨"WinogradEngine", "isFilter", "(I)Z"⟩, 10), (⟨"WinogradEngine", "forget", "(I)V"⟩, 10), (⟨"WinogradEngine", "respond", "(I)V"⟩, 10), (⟨"WinogradEngine", "convolve", "(I)V"⟩, 10), (⟨"WinogradEngine", "turnFilter", "(I)V"⟩, 10), (⟨"WinogradEngine", "spread", "(IIII)I"⟩, 10), (⟨"WinogradEngine", "loadTile", "(II)V"⟩, 10), (⟨"WinogradEngine", "turnTile", "()V"⟩, 10), (⟨"WinogradEngine", "mixed", "(IIIII)I"⟩, 10), (⟨"WinogradEngine", "gatherTile", "()V"⟩, 10), (⟨"WinogradEngineModel", "isCell", "(I)Z"⟩, 3), (⟨"WinogradEngineModel", "isValue", "(I)Z"⟩, 3), (⟨"WinogradEngineModel", "isPlace", "(I)Z"⟩, 3), (⟨"WinogradEngineModel", "isFilter", "(I)Z"⟩, 3), (⟨"WinogradEngineModel", "at", "(IIIZ)I"⟩, 3)]
theorem lw_r1 : ∀ q ∈ lw_privs_1, lw_okq q := List.forall_mem_cons.mpr ⟨lw_p0, List.forall_mem_cons.mpr ⟨lw_p1, List.forall_mem_cons.mpr ⟨lw_p2, List.forall_mem_cons.mpr ⟨lw_p3, List.forall_mem_cons.mpr ⟨lw_p4, List.forall_mem_cons.mpr ⟨lw_p5, List.forall_mem_cons.mpr ⟨lw_p6, List.forall_mem_cons.mpr ⟨lw_p7, List.forall_mem_cons.mpr ⟨lw_p8, List.forall_mem_cons.mpr ⟨lw_p9, List.forall_mem_cons.mpr ⟨lw_p10, List.forall_mem_cons.mpr ⟨lw_p11, List.forall_mem_cons.mpr ⟨lw_p12, List.forall_mem_cons.mpr ⟨lw_p13, List.forall_mem_cons.mpr ⟨lw_p14, List.forall_mem_cons.mpr ⟨lw_p15, fun _ h => absurd h List.not_mem_nil⟩⟩⟩⟩⟩⟩⟩⟩⟩⟩⟩⟩⟩⟩⟩⟩
theorem lw_p16 : lw_okq (⟨"WinogradEngineModel", "respond", "(I)V"⟩, 3) := ⟨⟨by decide +kernel, by decide +kernel⟩, List.mem_of_getElem? (i := 137) rfl, List.mem_of_getElem? (i := 194) rfl, List.mem_of_getElem? (i := 195) rfl⟩
theorem lw_p17 : lw_okq (⟨"WinogradEngineModel", "best", "()I"⟩, 3) := ⟨⟨by decide +kernel, by decide +kernel⟩, List.mem_of_getElem? (i := 137) rfl, List.mem_of_getElem? (i := 202) rfl, List.mem_of_getElem? (i := 203) rfl⟩
def lw_privs_2 : List (MethodName × Nat) := [(⟨"WinogradEngineModel", "respond", "(I)V"⟩, 3), (⟨"WinogradEngineModel", "best", "()I"⟩, 3)]
theorem lw_r2 : ∀ q ∈ lw_privs_2, lw_okq q := List.forall_mem_cons.mpr ⟨lw_p16, List.forall_mem_cons.mpr ⟨lw_p17, fun _ h => absurd h List.not_mem_nil⟩⟩
def lw_privs : List (MethodName × Nat) := lw_privs_1 ++ (lw_privs_2)
def lw_tbl : List Cond := k2_sels lw_privs ++ tables_1
theorem lw_privs_ok : ∀ q ∈ lw_privs, lw_okq q := by
  show ∀ q ∈ lw_privs_1 ++ (lw_privs_2), lw_okq q
  exact List.forall_mem_append.mpr ⟨lw_r1, lw_r2⟩
-- ===== ONE list of words for every method: the tables' words that hold all through a run =====
def lw_all : List Cond := lw_tbl.filter goodWord
/-- a word of the tables by its place: claim/WORDS.tsv -/
theorem lw_w {w : Cond} (i : Nat) (h : lw_tbl[i]? = some w) (g : goodWord w = true) : w ∈ lw_all := List.mem_filter.mpr ⟨List.mem_of_getElem? h, g⟩
theorem lw_all_tbl {w : Cond} (h : w ∈ lw_all) : w ∈ lw_tbl := (List.mem_filter.mp h).1
theorem lw_self : GoodIn lw_all lw_all := fun w h => ⟨h, good_of_word (List.mem_filter.mp h).2⟩
/-- a class's field words, by their places -/
theorem lw_in (ws : List Cond) (ps : List Nat) (hp : ws = ps.filterMap (fun i => lw_tbl[i]?)) (hg : ws.all goodWord = true) : ∀ w ∈ ws, w ∈ lw_all := by
  intro w h
  have h1 := List.all_eq_true.mp hg w h
  rw [hp] at h
  obtain ⟨i, -, hi⟩ := List.mem_filterMap.mp h
  exact lw_w i hi h1
/-- the words of a contract for the method y with code b, L locals, answer r -/
abbrev ws_ (y : MethodName) (b : ByteArray) (L : Nat) (r : Option FieldType) : List Cond := Cond.code y b L r :: lw_all
theorem lw_meth {y : MethodName} {b : ByteArray} {L : Nat} {r : Option FieldType} (h : Cond.code y b L r ∈ lw_all) : GoodIn lw_all (ws_ y b L r) := by
  intro w hw
  rcases List.mem_cons.mp hw with e | e
  · rw [e]
    exact lw_self _ h
  · exact lw_self _ e
theorem lw_app {a c : List Cond} (ha : ∀ w ∈ a, w ∈ lw_all) (hc : GoodIn lw_all c) : GoodIn lw_all (a ++ c) := by
  intro w hw
  rcases List.mem_append.mp hw with e | e
  · exact lw_self w (ha w e)
  · exact hc w e
/-- what a call through an object asks: cwV n hts (lw_V ..) -/
theorem lw_V {own : String} {idx : Nat} {C : String} {y : MethodName} {b : ByteArray} {L : Nat} {r : Option FieldType} (h1 : Cond.methodLink own idx y ∈ lw_all) (h2 : Cond.instanceMethod y ∈ lw_all) (h3 : Cond.selects C y y ∈ lw_all) (h4 : Cond.initialized C ∈ lw_all) (h5 : Cond.code y b L r ∈ lw_all) : GoodIn lw_all (wsV own idx C y (ws_ y b L r)) := by
  refine lw_app ?_ (lw_meth h5)
  intro w hw
  simp only [List.mem_cons, List.not_mem_nil, or_false] at hw
  rcases hw with e | e | e | e
  · rw [e]; exact h1
  · rw [e]; exact h2
  · rw [e]; exact h3
  · rw [e]; exact h4
/-- what a static call asks: va_cwS n hts (lw_S ..) -/
theorem lw_S {own : String} {idx : Nat} {y : MethodName} {b : ByteArray} {L : Nat} {r : Option FieldType} (h1 : Cond.methodLink own idx y ∈ lw_all) (h2 : Cond.static y ∈ lw_all) (h3 : Cond.initialized y.cls ∈ lw_all) (h4 : Cond.code y b L r ∈ lw_all) : GoodIn lw_all (va_wsS own idx y (ws_ y b L r)) := by
  refine lw_app ?_ (lw_meth h4)
  intro w hw
  simp only [List.mem_cons, List.not_mem_nil, or_false] at hw
  rcases hw with e | e | e
  · rw [e]; exact h1
  · rw [e]; exact h2
  · rw [e]; exact h3
/-- the words of a contract for a method WITH HANDLERS (hh: its table) -/
abbrev wsW_ (y : MethodName) (b : ByteArray) (L : Nat) (r : Option FieldType) (hh : List (Nat × Nat × Nat × Nat)) : List Cond := Cond.codeWith y b L r hh :: lw_all
theorem lw_methW {y : MethodName} {b : ByteArray} {L : Nat} {r : Option FieldType} {hh : List (Nat × Nat × Nat × Nat)} (h : Cond.codeWith y b L r hh ∈ lw_all) : GoodIn lw_all (wsW_ y b L r hh) := by
  intro w hw
  rcases List.mem_cons.mp hw with e | e
  · rw [e]
    exact lw_self _ h
  · exact lw_self _ e
/-- any list of words by their places (lw_in), good -/
theorem lw_good {ws : List Cond} (h : ∀ w ∈ ws, w ∈ lw_all) : GoodIn lw_all ws := fun w hw => lw_self w (h w hw)
/-- what a call of a method with handlers asks: vx_cwVW n hts (lw_VW ..), vx_cwSW n hts (lw_SW ..) -/
theorem lw_VW {own : String} {idx : Nat} {C : String} {y : MethodName} {b : ByteArray} {L : Nat} {r : Option FieldType} {hh : List (Nat × Nat × Nat × Nat)} (h1 : Cond.methodLink own idx y ∈ lw_all) (h2 : Cond.instanceMethod y ∈ lw_all) (h3 : Cond.selects C y y ∈ lw_all) (h4 : Cond.initialized C ∈ lw_all) (h5 : Cond.codeWith y b L r hh ∈ lw_all) : GoodIn lw_all (wsV own idx C y (wsW_ y b L r hh)) := by
  refine lw_app ?_ (lw_methW h5)
  intro w hw
  simp only [List.mem_cons, List.not_mem_nil, or_false] at hw
  rcases hw with e | e | e | e
  · rw [e]; exact h1
  · rw [e]; exact h2
  · rw [e]; exact h3
  · rw [e]; exact h4
theorem lw_SW {own : String} {idx : Nat} {y : MethodName} {b : ByteArray} {L : Nat} {r : Option FieldType} {hh : List (Nat × Nat × Nat × Nat)} (h1 : Cond.methodLink own idx y ∈ lw_all) (h2 : Cond.static y ∈ lw_all) (h3 : Cond.initialized y.cls ∈ lw_all) (h4 : Cond.codeWith y b L r hh ∈ lw_all) : GoodIn lw_all (va_wsS own idx y (wsW_ y b L r hh)) := by
  refine lw_app ?_ (lw_methW h4)
  intro w hw
  simp only [List.mem_cons, List.not_mem_nil, or_false] at hw
  rcases hw with e | e | e
  · rw [e]; exact h1
  · rw [e]; exact h2
  · rw [e]; exact h3
/-- a word by its place in its run of the tables -/
theorem lw_at {r : List Cond} (hr : ∀ w ∈ r, w ∈ lw_tbl) {w : Cond} (i : Nat) (h : r[i]? = some w) : w ∈ lw_tbl := hr w (List.mem_of_getElem? h)
theorem lw_g {w : Cond} (h : w ∈ lw_tbl) (g : goodWord w = true) : w ∈ lw_all := List.mem_filter.mpr ⟨h, g⟩
theorem lw_ms : ∀ w ∈ k2_sels lw_privs, w ∈ lw_tbl := fun w h => show w ∈ k2_sels lw_privs ++ tables_1 from List.mem_append_left _ h
theorem lw_m0 : ∀ w ∈ tables_1, w ∈ lw_tbl := fun w h => show w ∈ k2_sels lw_privs ++ tables_1 from List.mem_append_right (k2_sels lw_privs) h
theorem qs0 : (Cond.selects "WinogradEngine" ⟨"WinogradEngine", "isCell", "(I)Z"⟩ ⟨"WinogradEngine", "isCell", "(I)Z"⟩) ∈ lw_all := lw_g (lw_at lw_ms 0 rfl) rfl
theorem qs1 : (Cond.selects "WinogradEngine" ⟨"WinogradEngine", "isFilter", "(I)Z"⟩ ⟨"WinogradEngine", "isFilter", "(I)Z"⟩) ∈ lw_all := lw_g (lw_at lw_ms 1 rfl) rfl
theorem qs2 : (Cond.selects "WinogradEngine" ⟨"WinogradEngine", "forget", "(I)V"⟩ ⟨"WinogradEngine", "forget", "(I)V"⟩) ∈ lw_all := lw_g (lw_at lw_ms 2 rfl) rfl
theorem qs3 : (Cond.selects "WinogradEngine" ⟨"WinogradEngine", "respond", "(I)V"⟩ ⟨"WinogradEngine", "respond", "(I)V"⟩) ∈ lw_all := lw_g (lw_at lw_ms 3 rfl) rfl
theorem qs4 : (Cond.selects "WinogradEngine" ⟨"WinogradEngine", "convolve", "(I)V"⟩ ⟨"WinogradEngine", "convolve", "(I)V"⟩) ∈ lw_all := lw_g (lw_at lw_ms 4 rfl) rfl
theorem qs5 : (Cond.selects "WinogradEngine" ⟨"WinogradEngine", "turnFilter", "(I)V"⟩ ⟨"WinogradEngine", "turnFilter", "(I)V"⟩) ∈ lw_all := lw_g (lw_at lw_ms 5 rfl) rfl
theorem qs6 : (Cond.selects "WinogradEngine" ⟨"WinogradEngine", "spread", "(IIII)I"⟩ ⟨"WinogradEngine", "spread", "(IIII)I"⟩) ∈ lw_all := lw_g (lw_at lw_ms 6 rfl) rfl
theorem qs7 : (Cond.selects "WinogradEngine" ⟨"WinogradEngine", "loadTile", "(II)V"⟩ ⟨"WinogradEngine", "loadTile", "(II)V"⟩) ∈ lw_all := lw_g (lw_at lw_ms 7 rfl) rfl
theorem qs8 : (Cond.selects "WinogradEngine" ⟨"WinogradEngine", "turnTile", "()V"⟩ ⟨"WinogradEngine", "turnTile", "()V"⟩) ∈ lw_all := lw_g (lw_at lw_ms 8 rfl) rfl
theorem qs9 : (Cond.selects "WinogradEngine" ⟨"WinogradEngine", "mixed", "(IIIII)I"⟩ ⟨"WinogradEngine", "mixed", "(IIIII)I"⟩) ∈ lw_all := lw_g (lw_at lw_ms 9 rfl) rfl
theorem qs10 : (Cond.selects "WinogradEngine" ⟨"WinogradEngine", "gatherTile", "()V"⟩ ⟨"WinogradEngine", "gatherTile", "()V"⟩) ∈ lw_all := lw_g (lw_at lw_ms 10 rfl) rfl
theorem qs11 : (Cond.selects "WinogradEngineModel" ⟨"WinogradEngineModel", "isCell", "(I)Z"⟩ ⟨"WinogradEngineModel", "isCell", "(I)Z"⟩) ∈ lw_all := lw_g (lw_at lw_ms 11 rfl) rfl
theorem qs12 : (Cond.selects "WinogradEngineModel" ⟨"WinogradEngineModel", "isValue", "(I)Z"⟩ ⟨"WinogradEngineModel", "isValue", "(I)Z"⟩) ∈ lw_all := lw_g (lw_at lw_ms 12 rfl) rfl
theorem qs13 : (Cond.selects "WinogradEngineModel" ⟨"WinogradEngineModel", "isPlace", "(I)Z"⟩ ⟨"WinogradEngineModel", "isPlace", "(I)Z"⟩) ∈ lw_all := lw_g (lw_at lw_ms 13 rfl) rfl
theorem qs14 : (Cond.selects "WinogradEngineModel" ⟨"WinogradEngineModel", "isFilter", "(I)Z"⟩ ⟨"WinogradEngineModel", "isFilter", "(I)Z"⟩) ∈ lw_all := lw_g (lw_at lw_ms 14 rfl) rfl
theorem qs15 : (Cond.selects "WinogradEngineModel" ⟨"WinogradEngineModel", "at", "(IIIZ)I"⟩ ⟨"WinogradEngineModel", "at", "(IIIZ)I"⟩) ∈ lw_all := lw_g (lw_at lw_ms 15 rfl) rfl
theorem qs16 : (Cond.selects "WinogradEngineModel" ⟨"WinogradEngineModel", "respond", "(I)V"⟩ ⟨"WinogradEngineModel", "respond", "(I)V"⟩) ∈ lw_all := lw_g (lw_at lw_ms 16 rfl) rfl
theorem qs17 : (Cond.selects "WinogradEngineModel" ⟨"WinogradEngineModel", "best", "()I"⟩ ⟨"WinogradEngineModel", "best", "()I"⟩) ∈ lw_all := lw_g (lw_at lw_ms 17 rfl) rfl
end
section
set_option maxRecDepth 100000
/-! WinogradEngine -/
def RX0 : String := "WinogradEngine"
def TX0 : u_T := fun k => match k with
  | 0 => ("WinogradEngine", "image", "[B", true)
  | 1 => ("WinogradEngine", "weights", "[B", true)
  | 2 => ("WinogradEngine", "turnedKnown", "[Z", true)
  | 3 => ("WinogradEngine", "turned", "[I", true)
  | 4 => ("WinogradEngine", "input", "[I", true)
  | 5 => ("WinogradEngine", "output", "[I", true)
  | 6 => ("WinogradEngine", "outputOf", "I", false)
  | 7 => ("WinogradEngine", "tile", "[I", true)
  | 8 => ("WinogradEngine", "half", "[I", true)
  | _ => ("WinogradEngine", "quarter", "[I", true)
def tyX0 : Nat → FieldType := fun k => match k with
  | 0 => .array .byte
  | 1 => .array .byte
  | 2 => .array .boolean
  | 3 => .array .int
  | 4 => .array .int
  | 5 => .array .int
  | 6 => .int
  | 7 => .array .int
  | 8 => .array .int
  | _ => .array .int
abbrev wsX00 : List Cond := u_ws RX0 TX0 10
theorem nmX0 : ∀ a, a < 10 → ∀ b, b < 10 → a ≠ b → (TX0 a).2.1 ≠ (TX0 b).2.1 := by decide +kernel
theorem tyX0_ok : ∀ k, k < 10 → parseFieldDescriptor (TX0 k).2.2.1 = some (tyX0 k) := by decide +kernel
abbrev cX0_init : ByteArray := prog_1_method_1_code
def yX0_init : MethodName := ⟨RX0, "<init>", "()V"⟩
abbrev cX0_set : ByteArray := prog_1_method_2_code
def yX0_set : MethodName := ⟨RX0, "set", "(II)Z"⟩
abbrev cX0_isCell : ByteArray := prog_1_method_6_code
def yX0_isCell : MethodName := ⟨RX0, "isCell", "(I)Z"⟩
abbrev cX0_stripe : ByteArray := prog_1_method_3_code
def yX0_stripe : MethodName := ⟨RX0, "stripe", "(IIII)I"⟩
abbrev cX0_weight : ByteArray := prog_1_method_4_code
def yX0_weight : MethodName := ⟨RX0, "weight", "(III)Z"⟩
abbrev cX0_isFilter : ByteArray := prog_1_method_7_code
def yX0_isFilter : MethodName := ⟨RX0, "isFilter", "(I)Z"⟩
abbrev cX0_forget : ByteArray := prog_1_method_5_code
def yX0_forget : MethodName := ⟨RX0, "forget", "(I)V"⟩
abbrev cX0_response : ByteArray := prog_1_method_8_code
def yX0_response : MethodName := ⟨RX0, "response", "(II)I"⟩
abbrev cX0_respond : ByteArray := prog_1_method_16_code
def yX0_respond : MethodName := ⟨RX0, "respond", "(I)V"⟩
abbrev cX0_convolve : ByteArray := prog_1_method_19_code
def yX0_convolve : MethodName := ⟨RX0, "convolve", "(I)V"⟩
abbrev cX0_turnFilter : ByteArray := prog_1_method_18_code
def yX0_turnFilter : MethodName := ⟨RX0, "turnFilter", "(I)V"⟩
abbrev cX0_spread : ByteArray := prog_1_method_17_code
def yX0_spread : MethodName := ⟨RX0, "spread", "(IIII)I"⟩
abbrev cX0_loadTile : ByteArray := prog_1_method_20_code
def yX0_loadTile : MethodName := ⟨RX0, "loadTile", "(II)V"⟩
abbrev cX0_turnTile : ByteArray := prog_1_method_22_code
def yX0_turnTile : MethodName := ⟨RX0, "turnTile", "()V"⟩
abbrev cX0_mixed : ByteArray := prog_1_method_21_code
def yX0_mixed : MethodName := ⟨RX0, "mixed", "(IIIII)I"⟩
abbrev cX0_gatherTile : ByteArray := prog_1_method_23_code
def yX0_gatherTile : MethodName := ⟨RX0, "gatherTile", "()V"⟩
abbrev cX0_second : ByteArray := prog_1_method_9_code
def yX0_second : MethodName := ⟨RX0, "second", "(I)I"⟩
abbrev cX0_greatest : ByteArray := prog_1_method_10_code
def yX0_greatest : MethodName := ⟨RX0, "greatest", "(I)I"⟩
abbrev cX0_where : ByteArray := prog_1_method_11_code
def yX0_where : MethodName := ⟨RX0, "where", "(I)I"⟩
abbrev cX0_total : ByteArray := prog_1_method_12_code
def yX0_total : MethodName := ⟨RX0, "total", "(I)I"⟩
abbrev cX0_pooled : ByteArray := prog_1_method_13_code
def yX0_pooled : MethodName := ⟨RX0, "pooled", "(II)I"⟩
abbrev cX0_apply : ByteArray := prog_1_method_14_code
def yX0_apply : MethodName := ⟨RX0, "apply", "(I)I"⟩
abbrev cX0_turn : ByteArray := prog_1_method_15_code
def yX0_turn : MethodName := ⟨RX0, "turn", "(I)Z"⟩
theorem q19 : (Jvm.Cond.initialized "WinogradEngine") ∈ lw_all := lw_g (lw_at lw_m0 1 rfl) rfl
theorem q22 : (Jvm.Cond.instantiable "WinogradEngine" (10 : Nat)) ∈ lw_all := lw_g (lw_at lw_m0 4 rfl) rfl
theorem q24 : (Jvm.Cond.instanceMethod ({ cls := "WinogradEngine", name := "<init>", desc := "()V" } : Jvm.MethodName)) ∈ lw_all := lw_g (lw_at lw_m0 6 rfl) rfl
theorem q25 : (Jvm.Cond.code ({ cls := "WinogradEngine", name := "<init>", desc := "()V" } : Jvm.MethodName) prog_1_method_1_code (1 : Nat) (Option.none : Option Jvm.ClassFile.FieldType)) ∈ lw_all := lw_g (lw_at lw_m0 7 rfl) rfl
theorem q26 : (Jvm.Cond.methodLink "WinogradEngine" (1 : Nat) ({ cls := "java/lang/Object", name := "<init>", desc := "()V" } : Jvm.MethodName)) ∈ lw_all := lw_g (lw_at lw_m0 8 rfl) rfl
theorem q29 : (Jvm.Cond.fieldLink "WinogradEngine" (7 : Nat) "WinogradEngine" "image" "[B") ∈ lw_all := lw_g (lw_at lw_m0 11 rfl) rfl
theorem q30 : (Jvm.Cond.fieldLink "WinogradEngine" (13 : Nat) "WinogradEngine" "weights" "[B") ∈ lw_all := lw_g (lw_at lw_m0 12 rfl) rfl
theorem q31 : (Jvm.Cond.fieldLink "WinogradEngine" (16 : Nat) "WinogradEngine" "turnedKnown" "[Z") ∈ lw_all := lw_g (lw_at lw_m0 13 rfl) rfl
theorem q32 : (Jvm.Cond.fieldLink "WinogradEngine" (20 : Nat) "WinogradEngine" "turned" "[I") ∈ lw_all := lw_g (lw_at lw_m0 14 rfl) rfl
theorem q33 : (Jvm.Cond.fieldLink "WinogradEngine" (24 : Nat) "WinogradEngine" "input" "[I") ∈ lw_all := lw_g (lw_at lw_m0 15 rfl) rfl
theorem q34 : (Jvm.Cond.fieldLink "WinogradEngine" (27 : Nat) "WinogradEngine" "output" "[I") ∈ lw_all := lw_g (lw_at lw_m0 16 rfl) rfl
theorem q35 : (Jvm.Cond.fieldLink "WinogradEngine" (39 : Nat) "WinogradEngine" "outputOf" "I") ∈ lw_all := lw_g (lw_at lw_m0 17 rfl) rfl
theorem q36 : (Jvm.Cond.fieldLink "WinogradEngine" (30 : Nat) "WinogradEngine" "tile" "[I") ∈ lw_all := lw_g (lw_at lw_m0 18 rfl) rfl
theorem q37 : (Jvm.Cond.fieldLink "WinogradEngine" (33 : Nat) "WinogradEngine" "half" "[I") ∈ lw_all := lw_g (lw_at lw_m0 19 rfl) rfl
theorem q38 : (Jvm.Cond.fieldLink "WinogradEngine" (36 : Nat) "WinogradEngine" "quarter" "[I") ∈ lw_all := lw_g (lw_at lw_m0 20 rfl) rfl
theorem q39 : (Jvm.Cond.laysFinal "WinogradEngine" "WinogradEngine" "image" "[B") ∈ lw_all := lw_g (lw_at lw_m0 21 rfl) rfl
theorem q40 : (Jvm.Cond.soleField "WinogradEngine" "image") ∈ lw_all := lw_g (lw_at lw_m0 22 rfl) rfl
theorem q41 : (Jvm.Cond.laysFinal "WinogradEngine" "WinogradEngine" "weights" "[B") ∈ lw_all := lw_g (lw_at lw_m0 23 rfl) rfl
theorem q42 : (Jvm.Cond.soleField "WinogradEngine" "weights") ∈ lw_all := lw_g (lw_at lw_m0 24 rfl) rfl
theorem q43 : (Jvm.Cond.laysFinal "WinogradEngine" "WinogradEngine" "turnedKnown" "[Z") ∈ lw_all := lw_g (lw_at lw_m0 25 rfl) rfl
theorem q44 : (Jvm.Cond.soleField "WinogradEngine" "turnedKnown") ∈ lw_all := lw_g (lw_at lw_m0 26 rfl) rfl
theorem q45 : (Jvm.Cond.laysFinal "WinogradEngine" "WinogradEngine" "turned" "[I") ∈ lw_all := lw_g (lw_at lw_m0 27 rfl) rfl
theorem q46 : (Jvm.Cond.soleField "WinogradEngine" "turned") ∈ lw_all := lw_g (lw_at lw_m0 28 rfl) rfl
theorem q47 : (Jvm.Cond.laysFinal "WinogradEngine" "WinogradEngine" "input" "[I") ∈ lw_all := lw_g (lw_at lw_m0 29 rfl) rfl
theorem q48 : (Jvm.Cond.soleField "WinogradEngine" "input") ∈ lw_all := lw_g (lw_at lw_m0 30 rfl) rfl
theorem q49 : (Jvm.Cond.laysFinal "WinogradEngine" "WinogradEngine" "output" "[I") ∈ lw_all := lw_g (lw_at lw_m0 31 rfl) rfl
theorem q50 : (Jvm.Cond.soleField "WinogradEngine" "output") ∈ lw_all := lw_g (lw_at lw_m0 32 rfl) rfl
theorem q51 : (Jvm.Cond.lays "WinogradEngine" "WinogradEngine" "outputOf" "I") ∈ lw_all := lw_g (lw_at lw_m0 33 rfl) rfl
theorem q52 : (Jvm.Cond.soleField "WinogradEngine" "outputOf") ∈ lw_all := lw_g (lw_at lw_m0 34 rfl) rfl
theorem q53 : (Jvm.Cond.laysFinal "WinogradEngine" "WinogradEngine" "tile" "[I") ∈ lw_all := lw_g (lw_at lw_m0 35 rfl) rfl
theorem q54 : (Jvm.Cond.soleField "WinogradEngine" "tile") ∈ lw_all := lw_g (lw_at lw_m0 36 rfl) rfl
theorem q55 : (Jvm.Cond.laysFinal "WinogradEngine" "WinogradEngine" "half" "[I") ∈ lw_all := lw_g (lw_at lw_m0 37 rfl) rfl
theorem q56 : (Jvm.Cond.soleField "WinogradEngine" "half") ∈ lw_all := lw_g (lw_at lw_m0 38 rfl) rfl
theorem q57 : (Jvm.Cond.laysFinal "WinogradEngine" "WinogradEngine" "quarter" "[I") ∈ lw_all := lw_g (lw_at lw_m0 39 rfl) rfl
theorem q58 : (Jvm.Cond.soleField "WinogradEngine" "quarter") ∈ lw_all := lw_g (lw_at lw_m0 40 rfl) rfl
theorem q59 : (Jvm.Cond.superclass "WinogradEngine" "java/lang/Object") ∈ lw_all := lw_g (lw_at lw_m0 41 rfl) rfl
theorem q64 : (Jvm.Cond.instanceMethod ({ cls := "WinogradEngine", name := "set", desc := "(II)Z" } : Jvm.MethodName)) ∈ lw_all := lw_g (lw_at lw_m0 46 rfl) rfl
theorem q65 : (Jvm.Cond.selects "WinogradEngine" ({ cls := "WinogradEngine", name := "set", desc := "(II)Z" } : Jvm.MethodName) ({ cls := "WinogradEngine", name := "set", desc := "(II)Z" } : Jvm.MethodName)) ∈ lw_all := lw_g (lw_at lw_m0 47 rfl) rfl
theorem q66 : (Jvm.Cond.code ({ cls := "WinogradEngine", name := "set", desc := "(II)Z" } : Jvm.MethodName) prog_1_method_2_code (3 : Nat) (Option.some Jvm.ClassFile.FieldType.boolean)) ∈ lw_all := lw_g (lw_at lw_m0 48 rfl) rfl
theorem q67 : (Jvm.Cond.methodLink "WinogradEngine" (43 : Nat) ({ cls := "WinogradEngine", name := "isCell", desc := "(I)Z" } : Jvm.MethodName)) ∈ lw_all := lw_g (lw_at lw_m0 49 rfl) rfl
theorem q68 : (Jvm.Cond.privateMethod ({ cls := "WinogradEngine", name := "isCell", desc := "(I)Z" } : Jvm.MethodName)) ∈ lw_tbl := lw_at lw_m0 50 rfl
theorem q69 : (Jvm.Cond.instanceMethod ({ cls := "WinogradEngine", name := "isCell", desc := "(I)Z" } : Jvm.MethodName)) ∈ lw_all := lw_g (lw_at lw_m0 51 rfl) rfl
theorem q70 : (Jvm.Cond.code ({ cls := "WinogradEngine", name := "isCell", desc := "(I)Z" } : Jvm.MethodName) prog_1_method_6_code (2 : Nat) (Option.some Jvm.ClassFile.FieldType.boolean)) ∈ lw_all := lw_g (lw_at lw_m0 52 rfl) rfl
theorem q72 : (Jvm.Cond.instanceMethod ({ cls := "WinogradEngine", name := "stripe", desc := "(IIII)I" } : Jvm.MethodName)) ∈ lw_all := lw_g (lw_at lw_m0 54 rfl) rfl
theorem q73 : (Jvm.Cond.selects "WinogradEngine" ({ cls := "WinogradEngine", name := "stripe", desc := "(IIII)I" } : Jvm.MethodName) ({ cls := "WinogradEngine", name := "stripe", desc := "(IIII)I" } : Jvm.MethodName)) ∈ lw_all := lw_g (lw_at lw_m0 55 rfl) rfl
theorem q74 : (Jvm.Cond.code ({ cls := "WinogradEngine", name := "stripe", desc := "(IIII)I" } : Jvm.MethodName) prog_1_method_3_code (7 : Nat) (Option.some Jvm.ClassFile.FieldType.int)) ∈ lw_all := lw_g (lw_at lw_m0 56 rfl) rfl
theorem q75 : (Jvm.Cond.constant "WinogradEngine" (47 : Nat) (-1000000000 : Int32)) ∈ lw_all := lw_g (lw_at lw_m0 57 rfl) rfl
theorem q76 : (Jvm.Cond.methodLink "WinogradEngine" (48 : Nat) ({ cls := "WinogradEngine", name := "set", desc := "(II)Z" } : Jvm.MethodName)) ∈ lw_all := lw_g (lw_at lw_m0 58 rfl) rfl
theorem q78 : (Jvm.Cond.instanceMethod ({ cls := "WinogradEngine", name := "weight", desc := "(III)Z" } : Jvm.MethodName)) ∈ lw_all := lw_g (lw_at lw_m0 60 rfl) rfl
theorem q79 : (Jvm.Cond.selects "WinogradEngine" ({ cls := "WinogradEngine", name := "weight", desc := "(III)Z" } : Jvm.MethodName) ({ cls := "WinogradEngine", name := "weight", desc := "(III)Z" } : Jvm.MethodName)) ∈ lw_all := lw_g (lw_at lw_m0 61 rfl) rfl
theorem q80 : (Jvm.Cond.code ({ cls := "WinogradEngine", name := "weight", desc := "(III)Z" } : Jvm.MethodName) prog_1_method_4_code (4 : Nat) (Option.some Jvm.ClassFile.FieldType.boolean)) ∈ lw_all := lw_g (lw_at lw_m0 62 rfl) rfl
theorem q81 : (Jvm.Cond.methodLink "WinogradEngine" (52 : Nat) ({ cls := "WinogradEngine", name := "isFilter", desc := "(I)Z" } : Jvm.MethodName)) ∈ lw_all := lw_g (lw_at lw_m0 63 rfl) rfl
theorem q82 : (Jvm.Cond.privateMethod ({ cls := "WinogradEngine", name := "isFilter", desc := "(I)Z" } : Jvm.MethodName)) ∈ lw_tbl := lw_at lw_m0 64 rfl
theorem q83 : (Jvm.Cond.instanceMethod ({ cls := "WinogradEngine", name := "isFilter", desc := "(I)Z" } : Jvm.MethodName)) ∈ lw_all := lw_g (lw_at lw_m0 65 rfl) rfl
theorem q84 : (Jvm.Cond.code ({ cls := "WinogradEngine", name := "isFilter", desc := "(I)Z" } : Jvm.MethodName) prog_1_method_7_code (2 : Nat) (Option.some Jvm.ClassFile.FieldType.boolean)) ∈ lw_all := lw_g (lw_at lw_m0 66 rfl) rfl
theorem q85 : (Jvm.Cond.methodLink "WinogradEngine" (55 : Nat) ({ cls := "WinogradEngine", name := "forget", desc := "(I)V" } : Jvm.MethodName)) ∈ lw_all := lw_g (lw_at lw_m0 67 rfl) rfl
theorem q86 : (Jvm.Cond.privateMethod ({ cls := "WinogradEngine", name := "forget", desc := "(I)V" } : Jvm.MethodName)) ∈ lw_tbl := lw_at lw_m0 68 rfl
theorem q87 : (Jvm.Cond.instanceMethod ({ cls := "WinogradEngine", name := "forget", desc := "(I)V" } : Jvm.MethodName)) ∈ lw_all := lw_g (lw_at lw_m0 69 rfl) rfl
theorem q88 : (Jvm.Cond.code ({ cls := "WinogradEngine", name := "forget", desc := "(I)V" } : Jvm.MethodName) prog_1_method_5_code (2 : Nat) (Option.none : Option Jvm.ClassFile.FieldType)) ∈ lw_all := lw_g (lw_at lw_m0 70 rfl) rfl
theorem q90 : (Jvm.Cond.instanceMethod ({ cls := "WinogradEngine", name := "response", desc := "(II)I" } : Jvm.MethodName)) ∈ lw_all := lw_g (lw_at lw_m0 72 rfl) rfl
theorem q91 : (Jvm.Cond.selects "WinogradEngine" ({ cls := "WinogradEngine", name := "response", desc := "(II)I" } : Jvm.MethodName) ({ cls := "WinogradEngine", name := "response", desc := "(II)I" } : Jvm.MethodName)) ∈ lw_all := lw_g (lw_at lw_m0 73 rfl) rfl
theorem q92 : (Jvm.Cond.code ({ cls := "WinogradEngine", name := "response", desc := "(II)I" } : Jvm.MethodName) prog_1_method_8_code (3 : Nat) (Option.some Jvm.ClassFile.FieldType.int)) ∈ lw_all := lw_g (lw_at lw_m0 74 rfl) rfl
theorem q93 : (Jvm.Cond.methodLink "WinogradEngine" (59 : Nat) ({ cls := "WinogradEngine", name := "respond", desc := "(I)V" } : Jvm.MethodName)) ∈ lw_all := lw_g (lw_at lw_m0 75 rfl) rfl
theorem q94 : (Jvm.Cond.privateMethod ({ cls := "WinogradEngine", name := "respond", desc := "(I)V" } : Jvm.MethodName)) ∈ lw_tbl := lw_at lw_m0 76 rfl
theorem q95 : (Jvm.Cond.instanceMethod ({ cls := "WinogradEngine", name := "respond", desc := "(I)V" } : Jvm.MethodName)) ∈ lw_all := lw_g (lw_at lw_m0 77 rfl) rfl
theorem q96 : (Jvm.Cond.code ({ cls := "WinogradEngine", name := "respond", desc := "(I)V" } : Jvm.MethodName) prog_1_method_16_code (3 : Nat) (Option.none : Option Jvm.ClassFile.FieldType)) ∈ lw_all := lw_g (lw_at lw_m0 78 rfl) rfl
theorem q97 : (Jvm.Cond.methodLink "WinogradEngine" (62 : Nat) ({ cls := "WinogradEngine", name := "convolve", desc := "(I)V" } : Jvm.MethodName)) ∈ lw_all := lw_g (lw_at lw_m0 79 rfl) rfl
theorem q98 : (Jvm.Cond.privateMethod ({ cls := "WinogradEngine", name := "convolve", desc := "(I)V" } : Jvm.MethodName)) ∈ lw_tbl := lw_at lw_m0 80 rfl
theorem q99 : (Jvm.Cond.instanceMethod ({ cls := "WinogradEngine", name := "convolve", desc := "(I)V" } : Jvm.MethodName)) ∈ lw_all := lw_g (lw_at lw_m0 81 rfl) rfl
theorem q100 : (Jvm.Cond.code ({ cls := "WinogradEngine", name := "convolve", desc := "(I)V" } : Jvm.MethodName) prog_1_method_19_code (6 : Nat) (Option.none : Option Jvm.ClassFile.FieldType)) ∈ lw_all := lw_g (lw_at lw_m0 82 rfl) rfl
theorem q101 : (Jvm.Cond.methodLink "WinogradEngine" (73 : Nat) ({ cls := "WinogradEngine", name := "turnFilter", desc := "(I)V" } : Jvm.MethodName)) ∈ lw_all := lw_g (lw_at lw_m0 83 rfl) rfl
theorem q102 : (Jvm.Cond.privateMethod ({ cls := "WinogradEngine", name := "turnFilter", desc := "(I)V" } : Jvm.MethodName)) ∈ lw_tbl := lw_at lw_m0 84 rfl
theorem q103 : (Jvm.Cond.instanceMethod ({ cls := "WinogradEngine", name := "turnFilter", desc := "(I)V" } : Jvm.MethodName)) ∈ lw_all := lw_g (lw_at lw_m0 85 rfl) rfl
theorem q104 : (Jvm.Cond.code ({ cls := "WinogradEngine", name := "turnFilter", desc := "(I)V" } : Jvm.MethodName) prog_1_method_18_code (4 : Nat) (Option.none : Option Jvm.ClassFile.FieldType)) ∈ lw_all := lw_g (lw_at lw_m0 86 rfl) rfl
theorem q105 : (Jvm.Cond.methodLink "WinogradEngine" (69 : Nat) ({ cls := "WinogradEngine", name := "spread", desc := "(IIII)I" } : Jvm.MethodName)) ∈ lw_all := lw_g (lw_at lw_m0 87 rfl) rfl
theorem q106 : (Jvm.Cond.privateMethod ({ cls := "WinogradEngine", name := "spread", desc := "(IIII)I" } : Jvm.MethodName)) ∈ lw_tbl := lw_at lw_m0 88 rfl
theorem q107 : (Jvm.Cond.instanceMethod ({ cls := "WinogradEngine", name := "spread", desc := "(IIII)I" } : Jvm.MethodName)) ∈ lw_all := lw_g (lw_at lw_m0 89 rfl) rfl
theorem q108 : (Jvm.Cond.code ({ cls := "WinogradEngine", name := "spread", desc := "(IIII)I" } : Jvm.MethodName) prog_1_method_17_code (5 : Nat) (Option.some Jvm.ClassFile.FieldType.int)) ∈ lw_all := lw_g (lw_at lw_m0 90 rfl) rfl
theorem q109 : (Jvm.Cond.methodLink "WinogradEngine" (76 : Nat) ({ cls := "WinogradEngine", name := "loadTile", desc := "(II)V" } : Jvm.MethodName)) ∈ lw_all := lw_g (lw_at lw_m0 91 rfl) rfl
theorem q110 : (Jvm.Cond.privateMethod ({ cls := "WinogradEngine", name := "loadTile", desc := "(II)V" } : Jvm.MethodName)) ∈ lw_tbl := lw_at lw_m0 92 rfl
theorem q111 : (Jvm.Cond.instanceMethod ({ cls := "WinogradEngine", name := "loadTile", desc := "(II)V" } : Jvm.MethodName)) ∈ lw_all := lw_g (lw_at lw_m0 93 rfl) rfl
theorem q112 : (Jvm.Cond.code ({ cls := "WinogradEngine", name := "loadTile", desc := "(II)V" } : Jvm.MethodName) prog_1_method_20_code (7 : Nat) (Option.none : Option Jvm.ClassFile.FieldType)) ∈ lw_all := lw_g (lw_at lw_m0 94 rfl) rfl
theorem q113 : (Jvm.Cond.methodLink "WinogradEngine" (80 : Nat) ({ cls := "WinogradEngine", name := "turnTile", desc := "()V" } : Jvm.MethodName)) ∈ lw_all := lw_g (lw_at lw_m0 95 rfl) rfl
theorem q114 : (Jvm.Cond.privateMethod ({ cls := "WinogradEngine", name := "turnTile", desc := "()V" } : Jvm.MethodName)) ∈ lw_tbl := lw_at lw_m0 96 rfl
theorem q115 : (Jvm.Cond.instanceMethod ({ cls := "WinogradEngine", name := "turnTile", desc := "()V" } : Jvm.MethodName)) ∈ lw_all := lw_g (lw_at lw_m0 97 rfl) rfl
theorem q116 : (Jvm.Cond.code ({ cls := "WinogradEngine", name := "turnTile", desc := "()V" } : Jvm.MethodName) prog_1_method_22_code (3 : Nat) (Option.none : Option Jvm.ClassFile.FieldType)) ∈ lw_all := lw_g (lw_at lw_m0 98 rfl) rfl
theorem q117 : (Jvm.Cond.methodLink "WinogradEngine" (86 : Nat) ({ cls := "WinogradEngine", name := "mixed", desc := "(IIIII)I" } : Jvm.MethodName)) ∈ lw_all := lw_g (lw_at lw_m0 99 rfl) rfl
theorem q118 : (Jvm.Cond.privateMethod ({ cls := "WinogradEngine", name := "mixed", desc := "(IIIII)I" } : Jvm.MethodName)) ∈ lw_tbl := lw_at lw_m0 100 rfl
theorem q119 : (Jvm.Cond.instanceMethod ({ cls := "WinogradEngine", name := "mixed", desc := "(IIIII)I" } : Jvm.MethodName)) ∈ lw_all := lw_g (lw_at lw_m0 101 rfl) rfl
theorem q120 : (Jvm.Cond.code ({ cls := "WinogradEngine", name := "mixed", desc := "(IIIII)I" } : Jvm.MethodName) prog_1_method_21_code (6 : Nat) (Option.some Jvm.ClassFile.FieldType.int)) ∈ lw_all := lw_g (lw_at lw_m0 102 rfl) rfl
theorem q121 : (Jvm.Cond.methodLink "WinogradEngine" (83 : Nat) ({ cls := "WinogradEngine", name := "gatherTile", desc := "()V" } : Jvm.MethodName)) ∈ lw_all := lw_g (lw_at lw_m0 103 rfl) rfl
theorem q122 : (Jvm.Cond.privateMethod ({ cls := "WinogradEngine", name := "gatherTile", desc := "()V" } : Jvm.MethodName)) ∈ lw_tbl := lw_at lw_m0 104 rfl
theorem q123 : (Jvm.Cond.instanceMethod ({ cls := "WinogradEngine", name := "gatherTile", desc := "()V" } : Jvm.MethodName)) ∈ lw_all := lw_g (lw_at lw_m0 105 rfl) rfl
theorem q124 : (Jvm.Cond.code ({ cls := "WinogradEngine", name := "gatherTile", desc := "()V" } : Jvm.MethodName) prog_1_method_23_code (3 : Nat) (Option.none : Option Jvm.ClassFile.FieldType)) ∈ lw_all := lw_g (lw_at lw_m0 106 rfl) rfl
theorem q126 : (Jvm.Cond.instanceMethod ({ cls := "WinogradEngine", name := "second", desc := "(I)I" } : Jvm.MethodName)) ∈ lw_all := lw_g (lw_at lw_m0 108 rfl) rfl
theorem q127 : (Jvm.Cond.selects "WinogradEngine" ({ cls := "WinogradEngine", name := "second", desc := "(I)I" } : Jvm.MethodName) ({ cls := "WinogradEngine", name := "second", desc := "(I)I" } : Jvm.MethodName)) ∈ lw_all := lw_g (lw_at lw_m0 109 rfl) rfl
theorem q128 : (Jvm.Cond.code ({ cls := "WinogradEngine", name := "second", desc := "(I)I" } : Jvm.MethodName) prog_1_method_9_code (3 : Nat) (Option.some Jvm.ClassFile.FieldType.int)) ∈ lw_all := lw_g (lw_at lw_m0 110 rfl) rfl
theorem q130 : (Jvm.Cond.instanceMethod ({ cls := "WinogradEngine", name := "greatest", desc := "(I)I" } : Jvm.MethodName)) ∈ lw_all := lw_g (lw_at lw_m0 112 rfl) rfl
theorem q131 : (Jvm.Cond.selects "WinogradEngine" ({ cls := "WinogradEngine", name := "greatest", desc := "(I)I" } : Jvm.MethodName) ({ cls := "WinogradEngine", name := "greatest", desc := "(I)I" } : Jvm.MethodName)) ∈ lw_all := lw_g (lw_at lw_m0 113 rfl) rfl
theorem q132 : (Jvm.Cond.code ({ cls := "WinogradEngine", name := "greatest", desc := "(I)I" } : Jvm.MethodName) prog_1_method_10_code (3 : Nat) (Option.some Jvm.ClassFile.FieldType.int)) ∈ lw_all := lw_g (lw_at lw_m0 114 rfl) rfl
theorem q133 : (Jvm.Cond.methodLink "WinogradEngine" (65 : Nat) ({ cls := "WinogradEngine", name := "where", desc := "(I)I" } : Jvm.MethodName)) ∈ lw_all := lw_g (lw_at lw_m0 115 rfl) rfl
theorem q134 : (Jvm.Cond.instanceMethod ({ cls := "WinogradEngine", name := "where", desc := "(I)I" } : Jvm.MethodName)) ∈ lw_all := lw_g (lw_at lw_m0 116 rfl) rfl
theorem q135 : (Jvm.Cond.selects "WinogradEngine" ({ cls := "WinogradEngine", name := "where", desc := "(I)I" } : Jvm.MethodName) ({ cls := "WinogradEngine", name := "where", desc := "(I)I" } : Jvm.MethodName)) ∈ lw_all := lw_g (lw_at lw_m0 117 rfl) rfl
theorem q136 : (Jvm.Cond.code ({ cls := "WinogradEngine", name := "where", desc := "(I)I" } : Jvm.MethodName) prog_1_method_11_code (4 : Nat) (Option.some Jvm.ClassFile.FieldType.int)) ∈ lw_all := lw_g (lw_at lw_m0 118 rfl) rfl
theorem q139 : (Jvm.Cond.instanceMethod ({ cls := "WinogradEngine", name := "total", desc := "(I)I" } : Jvm.MethodName)) ∈ lw_all := lw_g (lw_at lw_m0 121 rfl) rfl
theorem q140 : (Jvm.Cond.selects "WinogradEngine" ({ cls := "WinogradEngine", name := "total", desc := "(I)I" } : Jvm.MethodName) ({ cls := "WinogradEngine", name := "total", desc := "(I)I" } : Jvm.MethodName)) ∈ lw_all := lw_g (lw_at lw_m0 122 rfl) rfl
theorem q141 : (Jvm.Cond.code ({ cls := "WinogradEngine", name := "total", desc := "(I)I" } : Jvm.MethodName) prog_1_method_12_code (4 : Nat) (Option.some Jvm.ClassFile.FieldType.int)) ∈ lw_all := lw_g (lw_at lw_m0 123 rfl) rfl
theorem q143 : (Jvm.Cond.instanceMethod ({ cls := "WinogradEngine", name := "pooled", desc := "(II)I" } : Jvm.MethodName)) ∈ lw_all := lw_g (lw_at lw_m0 125 rfl) rfl
theorem q144 : (Jvm.Cond.selects "WinogradEngine" ({ cls := "WinogradEngine", name := "pooled", desc := "(II)I" } : Jvm.MethodName) ({ cls := "WinogradEngine", name := "pooled", desc := "(II)I" } : Jvm.MethodName)) ∈ lw_all := lw_g (lw_at lw_m0 126 rfl) rfl
theorem q145 : (Jvm.Cond.code ({ cls := "WinogradEngine", name := "pooled", desc := "(II)I" } : Jvm.MethodName) prog_1_method_13_code (5 : Nat) (Option.some Jvm.ClassFile.FieldType.int)) ∈ lw_all := lw_g (lw_at lw_m0 127 rfl) rfl
theorem q147 : (Jvm.Cond.instanceMethod ({ cls := "WinogradEngine", name := "apply", desc := "(I)I" } : Jvm.MethodName)) ∈ lw_all := lw_g (lw_at lw_m0 129 rfl) rfl
theorem q148 : (Jvm.Cond.selects "WinogradEngine" ({ cls := "WinogradEngine", name := "apply", desc := "(I)I" } : Jvm.MethodName) ({ cls := "WinogradEngine", name := "apply", desc := "(I)I" } : Jvm.MethodName)) ∈ lw_all := lw_g (lw_at lw_m0 130 rfl) rfl
theorem q149 : (Jvm.Cond.code ({ cls := "WinogradEngine", name := "apply", desc := "(I)I" } : Jvm.MethodName) prog_1_method_14_code (5 : Nat) (Option.some Jvm.ClassFile.FieldType.int)) ∈ lw_all := lw_g (lw_at lw_m0 131 rfl) rfl
theorem q151 : (Jvm.Cond.instanceMethod ({ cls := "WinogradEngine", name := "turn", desc := "(I)Z" } : Jvm.MethodName)) ∈ lw_all := lw_g (lw_at lw_m0 133 rfl) rfl
theorem q152 : (Jvm.Cond.selects "WinogradEngine" ({ cls := "WinogradEngine", name := "turn", desc := "(I)Z" } : Jvm.MethodName) ({ cls := "WinogradEngine", name := "turn", desc := "(I)Z" } : Jvm.MethodName)) ∈ lw_all := lw_g (lw_at lw_m0 134 rfl) rfl
theorem q153 : (Jvm.Cond.code ({ cls := "WinogradEngine", name := "turn", desc := "(I)Z" } : Jvm.MethodName) prog_1_method_15_code (4 : Nat) (Option.some Jvm.ClassFile.FieldType.boolean)) ∈ lw_all := lw_g (lw_at lw_m0 135 rfl) rfl
theorem in_X0 : ∀ w ∈ wsX00, w ∈ lw_all := lw_in wsX00 [39, 41, 43, 45, 47, 49, 51, 53, 55, 57] (by decide +kernel) (by decide +kernel)
/-! WinogradEngineModel -/
def RX1 : String := "WinogradEngineModel"
def TX1 : u_T := fun k => match k with
  | 0 => ("WinogradEngineModel", "image", "[I", false)
  | 1 => ("WinogradEngineModel", "first", "[I", false)
  | _ => ("WinogradEngineModel", "weights", "[I", false)
def tyX1 : Nat → FieldType := fun k => match k with
  | 0 => .array .int
  | 1 => .array .int
  | _ => .array .int
abbrev wsX10 : List Cond := u_ws RX1 TX1 3
theorem nmX1 : ∀ a, a < 3 → ∀ b, b < 3 → a ≠ b → (TX1 a).2.1 ≠ (TX1 b).2.1 := by decide +kernel
theorem tyX1_ok : ∀ k, k < 3 → parseFieldDescriptor (TX1 k).2.2.1 = some (tyX1 k) := by decide +kernel
abbrev cX1_init : ByteArray := prog_3_method_1_code
def yX1_init : MethodName := ⟨RX1, "<init>", "()V"⟩
abbrev cX1_set : ByteArray := prog_3_method_6_code
def yX1_set : MethodName := ⟨RX1, "set", "(II)Z"⟩
abbrev cX1_isCell : ByteArray := prog_3_method_3_code
def yX1_isCell : MethodName := ⟨RX1, "isCell", "(I)Z"⟩
abbrev cX1_isValue : ByteArray := prog_3_method_5_code
def yX1_isValue : MethodName := ⟨RX1, "isValue", "(I)Z"⟩
abbrev cX1_stripe : ByteArray := prog_3_method_7_code
def yX1_stripe : MethodName := ⟨RX1, "stripe", "(IIII)I"⟩
abbrev cX1_isPlace : ByteArray := prog_3_method_4_code
def yX1_isPlace : MethodName := ⟨RX1, "isPlace", "(I)Z"⟩
abbrev cX1_weight : ByteArray := prog_3_method_8_code
def yX1_weight : MethodName := ⟨RX1, "weight", "(III)Z"⟩
abbrev cX1_isFilter : ByteArray := prog_3_method_2_code
def yX1_isFilter : MethodName := ⟨RX1, "isFilter", "(I)Z"⟩
abbrev cX1_response : ByteArray := prog_3_method_11_code
def yX1_response : MethodName := ⟨RX1, "response", "(II)I"⟩
abbrev cX1_at : ByteArray := prog_3_method_9_code
def yX1_at : MethodName := ⟨RX1, "at", "(IIIZ)I"⟩
abbrev cX1_second : ByteArray := prog_3_method_12_code
def yX1_second : MethodName := ⟨RX1, "second", "(I)I"⟩
abbrev cX1_respond : ByteArray := prog_3_method_10_code
def yX1_respond : MethodName := ⟨RX1, "respond", "(I)V"⟩
abbrev cX1_greatest : ByteArray := prog_3_method_14_code
def yX1_greatest : MethodName := ⟨RX1, "greatest", "(I)I"⟩
abbrev cX1_best : ByteArray := prog_3_method_13_code
def yX1_best : MethodName := ⟨RX1, "best", "()I"⟩
abbrev cX1_where : ByteArray := prog_3_method_15_code
def yX1_where : MethodName := ⟨RX1, "where", "(I)I"⟩
abbrev cX1_total : ByteArray := prog_3_method_16_code
def yX1_total : MethodName := ⟨RX1, "total", "(I)I"⟩
abbrev cX1_pooled : ByteArray := prog_3_method_17_code
def yX1_pooled : MethodName := ⟨RX1, "pooled", "(II)I"⟩
abbrev cX1_apply : ByteArray := prog_3_method_18_code
def yX1_apply : MethodName := ⟨RX1, "apply", "(I)I"⟩
abbrev cX1_turn : ByteArray := prog_3_method_19_code
def yX1_turn : MethodName := ⟨RX1, "turn", "(I)Z"⟩
theorem q20 : (Jvm.Cond.initialized "WinogradEngineModel") ∈ lw_all := lw_g (lw_at lw_m0 2 rfl) rfl
theorem q155 : (Jvm.Cond.instantiable "WinogradEngineModel" (3 : Nat)) ∈ lw_all := lw_g (lw_at lw_m0 137 rfl) rfl
theorem q157 : (Jvm.Cond.instanceMethod ({ cls := "WinogradEngineModel", name := "<init>", desc := "()V" } : Jvm.MethodName)) ∈ lw_all := lw_g (lw_at lw_m0 139 rfl) rfl
theorem q158 : (Jvm.Cond.code ({ cls := "WinogradEngineModel", name := "<init>", desc := "()V" } : Jvm.MethodName) prog_3_method_1_code (1 : Nat) (Option.none : Option Jvm.ClassFile.FieldType)) ∈ lw_all := lw_g (lw_at lw_m0 140 rfl) rfl
theorem q159 : (Jvm.Cond.methodLink "WinogradEngineModel" (1 : Nat) ({ cls := "java/lang/Object", name := "<init>", desc := "()V" } : Jvm.MethodName)) ∈ lw_all := lw_g (lw_at lw_m0 141 rfl) rfl
theorem q160 : (Jvm.Cond.fieldLink "WinogradEngineModel" (7 : Nat) "WinogradEngineModel" "image" "[I") ∈ lw_all := lw_g (lw_at lw_m0 142 rfl) rfl
theorem q161 : (Jvm.Cond.fieldLink "WinogradEngineModel" (13 : Nat) "WinogradEngineModel" "first" "[I") ∈ lw_all := lw_g (lw_at lw_m0 143 rfl) rfl
theorem q162 : (Jvm.Cond.fieldLink "WinogradEngineModel" (16 : Nat) "WinogradEngineModel" "weights" "[I") ∈ lw_all := lw_g (lw_at lw_m0 144 rfl) rfl
theorem q163 : (Jvm.Cond.lays "WinogradEngineModel" "WinogradEngineModel" "image" "[I") ∈ lw_all := lw_g (lw_at lw_m0 145 rfl) rfl
theorem q164 : (Jvm.Cond.soleField "WinogradEngineModel" "image") ∈ lw_all := lw_g (lw_at lw_m0 146 rfl) rfl
theorem q165 : (Jvm.Cond.lays "WinogradEngineModel" "WinogradEngineModel" "first" "[I") ∈ lw_all := lw_g (lw_at lw_m0 147 rfl) rfl
theorem q166 : (Jvm.Cond.soleField "WinogradEngineModel" "first") ∈ lw_all := lw_g (lw_at lw_m0 148 rfl) rfl
theorem q167 : (Jvm.Cond.lays "WinogradEngineModel" "WinogradEngineModel" "weights" "[I") ∈ lw_all := lw_g (lw_at lw_m0 149 rfl) rfl
theorem q168 : (Jvm.Cond.soleField "WinogradEngineModel" "weights") ∈ lw_all := lw_g (lw_at lw_m0 150 rfl) rfl
theorem q169 : (Jvm.Cond.superclass "WinogradEngineModel" "java/lang/Object") ∈ lw_all := lw_g (lw_at lw_m0 151 rfl) rfl
theorem q171 : (Jvm.Cond.instanceMethod ({ cls := "WinogradEngineModel", name := "set", desc := "(II)Z" } : Jvm.MethodName)) ∈ lw_all := lw_g (lw_at lw_m0 153 rfl) rfl
theorem q172 : (Jvm.Cond.selects "WinogradEngineModel" ({ cls := "WinogradEngineModel", name := "set", desc := "(II)Z" } : Jvm.MethodName) ({ cls := "WinogradEngineModel", name := "set", desc := "(II)Z" } : Jvm.MethodName)) ∈ lw_all := lw_g (lw_at lw_m0 154 rfl) rfl
theorem q173 : (Jvm.Cond.code ({ cls := "WinogradEngineModel", name := "set", desc := "(II)Z" } : Jvm.MethodName) prog_3_method_6_code (3 : Nat) (Option.some Jvm.ClassFile.FieldType.boolean)) ∈ lw_all := lw_g (lw_at lw_m0 155 rfl) rfl
theorem q174 : (Jvm.Cond.methodLink "WinogradEngineModel" (19 : Nat) ({ cls := "WinogradEngineModel", name := "isCell", desc := "(I)Z" } : Jvm.MethodName)) ∈ lw_all := lw_g (lw_at lw_m0 156 rfl) rfl
theorem q175 : (Jvm.Cond.privateMethod ({ cls := "WinogradEngineModel", name := "isCell", desc := "(I)Z" } : Jvm.MethodName)) ∈ lw_tbl := lw_at lw_m0 157 rfl
theorem q176 : (Jvm.Cond.instanceMethod ({ cls := "WinogradEngineModel", name := "isCell", desc := "(I)Z" } : Jvm.MethodName)) ∈ lw_all := lw_g (lw_at lw_m0 158 rfl) rfl
theorem q177 : (Jvm.Cond.code ({ cls := "WinogradEngineModel", name := "isCell", desc := "(I)Z" } : Jvm.MethodName) prog_3_method_3_code (2 : Nat) (Option.some Jvm.ClassFile.FieldType.boolean)) ∈ lw_all := lw_g (lw_at lw_m0 159 rfl) rfl
theorem q178 : (Jvm.Cond.methodLink "WinogradEngineModel" (23 : Nat) ({ cls := "WinogradEngineModel", name := "isValue", desc := "(I)Z" } : Jvm.MethodName)) ∈ lw_all := lw_g (lw_at lw_m0 160 rfl) rfl
theorem q179 : (Jvm.Cond.privateMethod ({ cls := "WinogradEngineModel", name := "isValue", desc := "(I)Z" } : Jvm.MethodName)) ∈ lw_tbl := lw_at lw_m0 161 rfl
theorem q180 : (Jvm.Cond.instanceMethod ({ cls := "WinogradEngineModel", name := "isValue", desc := "(I)Z" } : Jvm.MethodName)) ∈ lw_all := lw_g (lw_at lw_m0 162 rfl) rfl
theorem q181 : (Jvm.Cond.code ({ cls := "WinogradEngineModel", name := "isValue", desc := "(I)Z" } : Jvm.MethodName) prog_3_method_5_code (2 : Nat) (Option.some Jvm.ClassFile.FieldType.boolean)) ∈ lw_all := lw_g (lw_at lw_m0 163 rfl) rfl
theorem q183 : (Jvm.Cond.instanceMethod ({ cls := "WinogradEngineModel", name := "stripe", desc := "(IIII)I" } : Jvm.MethodName)) ∈ lw_all := lw_g (lw_at lw_m0 165 rfl) rfl
theorem q184 : (Jvm.Cond.selects "WinogradEngineModel" ({ cls := "WinogradEngineModel", name := "stripe", desc := "(IIII)I" } : Jvm.MethodName) ({ cls := "WinogradEngineModel", name := "stripe", desc := "(IIII)I" } : Jvm.MethodName)) ∈ lw_all := lw_g (lw_at lw_m0 166 rfl) rfl
theorem q185 : (Jvm.Cond.code ({ cls := "WinogradEngineModel", name := "stripe", desc := "(IIII)I" } : Jvm.MethodName) prog_3_method_7_code (7 : Nat) (Option.some Jvm.ClassFile.FieldType.int)) ∈ lw_all := lw_g (lw_at lw_m0 167 rfl) rfl
theorem q186 : (Jvm.Cond.methodLink "WinogradEngineModel" (26 : Nat) ({ cls := "WinogradEngineModel", name := "isPlace", desc := "(I)Z" } : Jvm.MethodName)) ∈ lw_all := lw_g (lw_at lw_m0 168 rfl) rfl
theorem q187 : (Jvm.Cond.privateMethod ({ cls := "WinogradEngineModel", name := "isPlace", desc := "(I)Z" } : Jvm.MethodName)) ∈ lw_tbl := lw_at lw_m0 169 rfl
theorem q188 : (Jvm.Cond.instanceMethod ({ cls := "WinogradEngineModel", name := "isPlace", desc := "(I)Z" } : Jvm.MethodName)) ∈ lw_all := lw_g (lw_at lw_m0 170 rfl) rfl
theorem q189 : (Jvm.Cond.code ({ cls := "WinogradEngineModel", name := "isPlace", desc := "(I)Z" } : Jvm.MethodName) prog_3_method_4_code (2 : Nat) (Option.some Jvm.ClassFile.FieldType.boolean)) ∈ lw_all := lw_g (lw_at lw_m0 171 rfl) rfl
theorem q190 : (Jvm.Cond.constant "WinogradEngineModel" (29 : Nat) (-1000000000 : Int32)) ∈ lw_all := lw_g (lw_at lw_m0 172 rfl) rfl
theorem q192 : (Jvm.Cond.instanceMethod ({ cls := "WinogradEngineModel", name := "weight", desc := "(III)Z" } : Jvm.MethodName)) ∈ lw_all := lw_g (lw_at lw_m0 174 rfl) rfl
theorem q193 : (Jvm.Cond.selects "WinogradEngineModel" ({ cls := "WinogradEngineModel", name := "weight", desc := "(III)Z" } : Jvm.MethodName) ({ cls := "WinogradEngineModel", name := "weight", desc := "(III)Z" } : Jvm.MethodName)) ∈ lw_all := lw_g (lw_at lw_m0 175 rfl) rfl
theorem q194 : (Jvm.Cond.code ({ cls := "WinogradEngineModel", name := "weight", desc := "(III)Z" } : Jvm.MethodName) prog_3_method_8_code (4 : Nat) (Option.some Jvm.ClassFile.FieldType.boolean)) ∈ lw_all := lw_g (lw_at lw_m0 176 rfl) rfl
theorem q195 : (Jvm.Cond.methodLink "WinogradEngineModel" (30 : Nat) ({ cls := "WinogradEngineModel", name := "isFilter", desc := "(I)Z" } : Jvm.MethodName)) ∈ lw_all := lw_g (lw_at lw_m0 177 rfl) rfl
theorem q196 : (Jvm.Cond.privateMethod ({ cls := "WinogradEngineModel", name := "isFilter", desc := "(I)Z" } : Jvm.MethodName)) ∈ lw_tbl := lw_at lw_m0 178 rfl
theorem q197 : (Jvm.Cond.instanceMethod ({ cls := "WinogradEngineModel", name := "isFilter", desc := "(I)Z" } : Jvm.MethodName)) ∈ lw_all := lw_g (lw_at lw_m0 179 rfl) rfl
theorem q198 : (Jvm.Cond.code ({ cls := "WinogradEngineModel", name := "isFilter", desc := "(I)Z" } : Jvm.MethodName) prog_3_method_2_code (2 : Nat) (Option.some Jvm.ClassFile.FieldType.boolean)) ∈ lw_all := lw_g (lw_at lw_m0 180 rfl) rfl
theorem q200 : (Jvm.Cond.instanceMethod ({ cls := "WinogradEngineModel", name := "response", desc := "(II)I" } : Jvm.MethodName)) ∈ lw_all := lw_g (lw_at lw_m0 182 rfl) rfl
theorem q201 : (Jvm.Cond.selects "WinogradEngineModel" ({ cls := "WinogradEngineModel", name := "response", desc := "(II)I" } : Jvm.MethodName) ({ cls := "WinogradEngineModel", name := "response", desc := "(II)I" } : Jvm.MethodName)) ∈ lw_all := lw_g (lw_at lw_m0 183 rfl) rfl
theorem q202 : (Jvm.Cond.code ({ cls := "WinogradEngineModel", name := "response", desc := "(II)I" } : Jvm.MethodName) prog_3_method_11_code (3 : Nat) (Option.some Jvm.ClassFile.FieldType.int)) ∈ lw_all := lw_g (lw_at lw_m0 184 rfl) rfl
theorem q203 : (Jvm.Cond.methodLink "WinogradEngineModel" (33 : Nat) ({ cls := "WinogradEngineModel", name := "at", desc := "(IIIZ)I" } : Jvm.MethodName)) ∈ lw_all := lw_g (lw_at lw_m0 185 rfl) rfl
theorem q204 : (Jvm.Cond.privateMethod ({ cls := "WinogradEngineModel", name := "at", desc := "(IIIZ)I" } : Jvm.MethodName)) ∈ lw_tbl := lw_at lw_m0 186 rfl
theorem q205 : (Jvm.Cond.instanceMethod ({ cls := "WinogradEngineModel", name := "at", desc := "(IIIZ)I" } : Jvm.MethodName)) ∈ lw_all := lw_g (lw_at lw_m0 187 rfl) rfl
theorem q206 : (Jvm.Cond.code ({ cls := "WinogradEngineModel", name := "at", desc := "(IIIZ)I" } : Jvm.MethodName) prog_3_method_9_code (9 : Nat) (Option.some Jvm.ClassFile.FieldType.int)) ∈ lw_all := lw_g (lw_at lw_m0 188 rfl) rfl
theorem q208 : (Jvm.Cond.instanceMethod ({ cls := "WinogradEngineModel", name := "second", desc := "(I)I" } : Jvm.MethodName)) ∈ lw_all := lw_g (lw_at lw_m0 190 rfl) rfl
theorem q209 : (Jvm.Cond.selects "WinogradEngineModel" ({ cls := "WinogradEngineModel", name := "second", desc := "(I)I" } : Jvm.MethodName) ({ cls := "WinogradEngineModel", name := "second", desc := "(I)I" } : Jvm.MethodName)) ∈ lw_all := lw_g (lw_at lw_m0 191 rfl) rfl
theorem q210 : (Jvm.Cond.code ({ cls := "WinogradEngineModel", name := "second", desc := "(I)I" } : Jvm.MethodName) prog_3_method_12_code (2 : Nat) (Option.some Jvm.ClassFile.FieldType.int)) ∈ lw_all := lw_g (lw_at lw_m0 192 rfl) rfl
theorem q211 : (Jvm.Cond.methodLink "WinogradEngineModel" (37 : Nat) ({ cls := "WinogradEngineModel", name := "respond", desc := "(I)V" } : Jvm.MethodName)) ∈ lw_all := lw_g (lw_at lw_m0 193 rfl) rfl
theorem q212 : (Jvm.Cond.privateMethod ({ cls := "WinogradEngineModel", name := "respond", desc := "(I)V" } : Jvm.MethodName)) ∈ lw_tbl := lw_at lw_m0 194 rfl
theorem q213 : (Jvm.Cond.instanceMethod ({ cls := "WinogradEngineModel", name := "respond", desc := "(I)V" } : Jvm.MethodName)) ∈ lw_all := lw_g (lw_at lw_m0 195 rfl) rfl
theorem q214 : (Jvm.Cond.code ({ cls := "WinogradEngineModel", name := "respond", desc := "(I)V" } : Jvm.MethodName) prog_3_method_10_code (3 : Nat) (Option.none : Option Jvm.ClassFile.FieldType)) ∈ lw_all := lw_g (lw_at lw_m0 196 rfl) rfl
theorem q216 : (Jvm.Cond.instanceMethod ({ cls := "WinogradEngineModel", name := "greatest", desc := "(I)I" } : Jvm.MethodName)) ∈ lw_all := lw_g (lw_at lw_m0 198 rfl) rfl
theorem q217 : (Jvm.Cond.selects "WinogradEngineModel" ({ cls := "WinogradEngineModel", name := "greatest", desc := "(I)I" } : Jvm.MethodName) ({ cls := "WinogradEngineModel", name := "greatest", desc := "(I)I" } : Jvm.MethodName)) ∈ lw_all := lw_g (lw_at lw_m0 199 rfl) rfl
theorem q218 : (Jvm.Cond.code ({ cls := "WinogradEngineModel", name := "greatest", desc := "(I)I" } : Jvm.MethodName) prog_3_method_14_code (3 : Nat) (Option.some Jvm.ClassFile.FieldType.int)) ∈ lw_all := lw_g (lw_at lw_m0 200 rfl) rfl
theorem q219 : (Jvm.Cond.methodLink "WinogradEngineModel" (41 : Nat) ({ cls := "WinogradEngineModel", name := "best", desc := "()I" } : Jvm.MethodName)) ∈ lw_all := lw_g (lw_at lw_m0 201 rfl) rfl
theorem q220 : (Jvm.Cond.privateMethod ({ cls := "WinogradEngineModel", name := "best", desc := "()I" } : Jvm.MethodName)) ∈ lw_tbl := lw_at lw_m0 202 rfl
theorem q221 : (Jvm.Cond.instanceMethod ({ cls := "WinogradEngineModel", name := "best", desc := "()I" } : Jvm.MethodName)) ∈ lw_all := lw_g (lw_at lw_m0 203 rfl) rfl
theorem q222 : (Jvm.Cond.code ({ cls := "WinogradEngineModel", name := "best", desc := "()I" } : Jvm.MethodName) prog_3_method_13_code (3 : Nat) (Option.some Jvm.ClassFile.FieldType.int)) ∈ lw_all := lw_g (lw_at lw_m0 204 rfl) rfl
theorem q224 : (Jvm.Cond.instanceMethod ({ cls := "WinogradEngineModel", name := "where", desc := "(I)I" } : Jvm.MethodName)) ∈ lw_all := lw_g (lw_at lw_m0 206 rfl) rfl
theorem q225 : (Jvm.Cond.selects "WinogradEngineModel" ({ cls := "WinogradEngineModel", name := "where", desc := "(I)I" } : Jvm.MethodName) ({ cls := "WinogradEngineModel", name := "where", desc := "(I)I" } : Jvm.MethodName)) ∈ lw_all := lw_g (lw_at lw_m0 207 rfl) rfl
theorem q226 : (Jvm.Cond.code ({ cls := "WinogradEngineModel", name := "where", desc := "(I)I" } : Jvm.MethodName) prog_3_method_15_code (2 : Nat) (Option.some Jvm.ClassFile.FieldType.int)) ∈ lw_all := lw_g (lw_at lw_m0 208 rfl) rfl
theorem q228 : (Jvm.Cond.instanceMethod ({ cls := "WinogradEngineModel", name := "total", desc := "(I)I" } : Jvm.MethodName)) ∈ lw_all := lw_g (lw_at lw_m0 210 rfl) rfl
theorem q229 : (Jvm.Cond.selects "WinogradEngineModel" ({ cls := "WinogradEngineModel", name := "total", desc := "(I)I" } : Jvm.MethodName) ({ cls := "WinogradEngineModel", name := "total", desc := "(I)I" } : Jvm.MethodName)) ∈ lw_all := lw_g (lw_at lw_m0 211 rfl) rfl
theorem q230 : (Jvm.Cond.code ({ cls := "WinogradEngineModel", name := "total", desc := "(I)I" } : Jvm.MethodName) prog_3_method_16_code (4 : Nat) (Option.some Jvm.ClassFile.FieldType.int)) ∈ lw_all := lw_g (lw_at lw_m0 212 rfl) rfl
theorem q232 : (Jvm.Cond.instanceMethod ({ cls := "WinogradEngineModel", name := "pooled", desc := "(II)I" } : Jvm.MethodName)) ∈ lw_all := lw_g (lw_at lw_m0 214 rfl) rfl
theorem q233 : (Jvm.Cond.selects "WinogradEngineModel" ({ cls := "WinogradEngineModel", name := "pooled", desc := "(II)I" } : Jvm.MethodName) ({ cls := "WinogradEngineModel", name := "pooled", desc := "(II)I" } : Jvm.MethodName)) ∈ lw_all := lw_g (lw_at lw_m0 215 rfl) rfl
theorem q234 : (Jvm.Cond.code ({ cls := "WinogradEngineModel", name := "pooled", desc := "(II)I" } : Jvm.MethodName) prog_3_method_17_code (5 : Nat) (Option.some Jvm.ClassFile.FieldType.int)) ∈ lw_all := lw_g (lw_at lw_m0 216 rfl) rfl
theorem q236 : (Jvm.Cond.instanceMethod ({ cls := "WinogradEngineModel", name := "apply", desc := "(I)I" } : Jvm.MethodName)) ∈ lw_all := lw_g (lw_at lw_m0 218 rfl) rfl
theorem q237 : (Jvm.Cond.selects "WinogradEngineModel" ({ cls := "WinogradEngineModel", name := "apply", desc := "(I)I" } : Jvm.MethodName) ({ cls := "WinogradEngineModel", name := "apply", desc := "(I)I" } : Jvm.MethodName)) ∈ lw_all := lw_g (lw_at lw_m0 219 rfl) rfl
theorem q238 : (Jvm.Cond.code ({ cls := "WinogradEngineModel", name := "apply", desc := "(I)I" } : Jvm.MethodName) prog_3_method_18_code (4 : Nat) (Option.some Jvm.ClassFile.FieldType.int)) ∈ lw_all := lw_g (lw_at lw_m0 220 rfl) rfl
theorem q240 : (Jvm.Cond.instanceMethod ({ cls := "WinogradEngineModel", name := "turn", desc := "(I)Z" } : Jvm.MethodName)) ∈ lw_all := lw_g (lw_at lw_m0 222 rfl) rfl
theorem q241 : (Jvm.Cond.selects "WinogradEngineModel" ({ cls := "WinogradEngineModel", name := "turn", desc := "(I)Z" } : Jvm.MethodName) ({ cls := "WinogradEngineModel", name := "turn", desc := "(I)Z" } : Jvm.MethodName)) ∈ lw_all := lw_g (lw_at lw_m0 223 rfl) rfl
theorem q242 : (Jvm.Cond.code ({ cls := "WinogradEngineModel", name := "turn", desc := "(I)Z" } : Jvm.MethodName) prog_3_method_19_code (4 : Nat) (Option.some Jvm.ClassFile.FieldType.boolean)) ∈ lw_all := lw_g (lw_at lw_m0 224 rfl) rfl
theorem in_X1 : ∀ w ∈ wsX10, w ∈ lw_all := lw_in wsX10 [163, 165, 167] (by decide +kernel) (by decide +kernel)
/-! java/lang/Object -/
def RJ0 : String := "java/lang/Object"
abbrev cJ0_init : ByteArray := object_method_1_code
def yJ0_init : MethodName := ⟨RJ0, "<init>", "()V"⟩
theorem q27 : (Jvm.Cond.instanceMethod ({ cls := "java/lang/Object", name := "<init>", desc := "()V" } : Jvm.MethodName)) ∈ lw_all := lw_g (lw_at lw_m0 9 rfl) rfl
theorem q28 : (Jvm.Cond.code ({ cls := "java/lang/Object", name := "<init>", desc := "()V" } : Jvm.MethodName) object_method_1_code (1 : Nat) (Option.none : Option Jvm.ClassFile.FieldType)) ∈ lw_all := lw_g (lw_at lw_m0 10 rfl) rfl
theorem dJ0_init_0 : decode cJ0_init 0 = .ok (.return_, 1) := by decide +kernel
theorem q18 : (Jvm.Cond.initialized "WinogradEngineLaw") ∈ lw_all := lw_g (lw_at lw_m0 0 rfl) rfl
theorem q21 : (Jvm.Cond.classLink "WinogradEngineLaw" (7 : Nat) "WinogradEngine") ∈ lw_all := lw_g (lw_at lw_m0 3 rfl) rfl
theorem q23 : (Jvm.Cond.methodLink "WinogradEngineLaw" (9 : Nat) ({ cls := "WinogradEngine", name := "<init>", desc := "()V" } : Jvm.MethodName)) ∈ lw_all := lw_g (lw_at lw_m0 5 rfl) rfl
theorem q63 : (Jvm.Cond.methodLink "WinogradEngineLaw" (13 : Nat) ({ cls := "WinogradEngine", name := "set", desc := "(II)Z" } : Jvm.MethodName)) ∈ lw_all := lw_g (lw_at lw_m0 45 rfl) rfl
theorem q71 : (Jvm.Cond.methodLink "WinogradEngineLaw" (18 : Nat) ({ cls := "WinogradEngine", name := "stripe", desc := "(IIII)I" } : Jvm.MethodName)) ∈ lw_all := lw_g (lw_at lw_m0 53 rfl) rfl
theorem q77 : (Jvm.Cond.methodLink "WinogradEngineLaw" (23 : Nat) ({ cls := "WinogradEngine", name := "weight", desc := "(III)Z" } : Jvm.MethodName)) ∈ lw_all := lw_g (lw_at lw_m0 59 rfl) rfl
theorem q89 : (Jvm.Cond.methodLink "WinogradEngineLaw" (28 : Nat) ({ cls := "WinogradEngine", name := "response", desc := "(II)I" } : Jvm.MethodName)) ∈ lw_all := lw_g (lw_at lw_m0 71 rfl) rfl
theorem q125 : (Jvm.Cond.methodLink "WinogradEngineLaw" (33 : Nat) ({ cls := "WinogradEngine", name := "second", desc := "(I)I" } : Jvm.MethodName)) ∈ lw_all := lw_g (lw_at lw_m0 107 rfl) rfl
theorem q129 : (Jvm.Cond.methodLink "WinogradEngineLaw" (38 : Nat) ({ cls := "WinogradEngine", name := "greatest", desc := "(I)I" } : Jvm.MethodName)) ∈ lw_all := lw_g (lw_at lw_m0 111 rfl) rfl
theorem q137 : (Jvm.Cond.methodLink "WinogradEngineLaw" (42 : Nat) ({ cls := "WinogradEngine", name := "where", desc := "(I)I" } : Jvm.MethodName)) ∈ lw_all := lw_g (lw_at lw_m0 119 rfl) rfl
theorem q138 : (Jvm.Cond.methodLink "WinogradEngineLaw" (46 : Nat) ({ cls := "WinogradEngine", name := "total", desc := "(I)I" } : Jvm.MethodName)) ∈ lw_all := lw_g (lw_at lw_m0 120 rfl) rfl
theorem q142 : (Jvm.Cond.methodLink "WinogradEngineLaw" (50 : Nat) ({ cls := "WinogradEngine", name := "pooled", desc := "(II)I" } : Jvm.MethodName)) ∈ lw_all := lw_g (lw_at lw_m0 124 rfl) rfl
theorem q146 : (Jvm.Cond.methodLink "WinogradEngineLaw" (54 : Nat) ({ cls := "WinogradEngine", name := "apply", desc := "(I)I" } : Jvm.MethodName)) ∈ lw_all := lw_g (lw_at lw_m0 128 rfl) rfl
theorem q150 : (Jvm.Cond.methodLink "WinogradEngineLaw" (58 : Nat) ({ cls := "WinogradEngine", name := "turn", desc := "(I)Z" } : Jvm.MethodName)) ∈ lw_all := lw_g (lw_at lw_m0 132 rfl) rfl
theorem q154 : (Jvm.Cond.classLink "WinogradEngineLaw" (10 : Nat) "WinogradEngineModel") ∈ lw_all := lw_g (lw_at lw_m0 136 rfl) rfl
theorem q156 : (Jvm.Cond.methodLink "WinogradEngineLaw" (12 : Nat) ({ cls := "WinogradEngineModel", name := "<init>", desc := "()V" } : Jvm.MethodName)) ∈ lw_all := lw_g (lw_at lw_m0 138 rfl) rfl
theorem q170 : (Jvm.Cond.methodLink "WinogradEngineLaw" (17 : Nat) ({ cls := "WinogradEngineModel", name := "set", desc := "(II)Z" } : Jvm.MethodName)) ∈ lw_all := lw_g (lw_at lw_m0 152 rfl) rfl
theorem q182 : (Jvm.Cond.methodLink "WinogradEngineLaw" (22 : Nat) ({ cls := "WinogradEngineModel", name := "stripe", desc := "(IIII)I" } : Jvm.MethodName)) ∈ lw_all := lw_g (lw_at lw_m0 164 rfl) rfl
theorem q191 : (Jvm.Cond.methodLink "WinogradEngineLaw" (27 : Nat) ({ cls := "WinogradEngineModel", name := "weight", desc := "(III)Z" } : Jvm.MethodName)) ∈ lw_all := lw_g (lw_at lw_m0 173 rfl) rfl
theorem q199 : (Jvm.Cond.methodLink "WinogradEngineLaw" (32 : Nat) ({ cls := "WinogradEngineModel", name := "response", desc := "(II)I" } : Jvm.MethodName)) ∈ lw_all := lw_g (lw_at lw_m0 181 rfl) rfl
theorem q207 : (Jvm.Cond.methodLink "WinogradEngineLaw" (37 : Nat) ({ cls := "WinogradEngineModel", name := "second", desc := "(I)I" } : Jvm.MethodName)) ∈ lw_all := lw_g (lw_at lw_m0 189 rfl) rfl
theorem q215 : (Jvm.Cond.methodLink "WinogradEngineLaw" (41 : Nat) ({ cls := "WinogradEngineModel", name := "greatest", desc := "(I)I" } : Jvm.MethodName)) ∈ lw_all := lw_g (lw_at lw_m0 197 rfl) rfl
theorem q223 : (Jvm.Cond.methodLink "WinogradEngineLaw" (45 : Nat) ({ cls := "WinogradEngineModel", name := "where", desc := "(I)I" } : Jvm.MethodName)) ∈ lw_all := lw_g (lw_at lw_m0 205 rfl) rfl
theorem q227 : (Jvm.Cond.methodLink "WinogradEngineLaw" (49 : Nat) ({ cls := "WinogradEngineModel", name := "total", desc := "(I)I" } : Jvm.MethodName)) ∈ lw_all := lw_g (lw_at lw_m0 209 rfl) rfl
theorem q231 : (Jvm.Cond.methodLink "WinogradEngineLaw" (53 : Nat) ({ cls := "WinogradEngineModel", name := "pooled", desc := "(II)I" } : Jvm.MethodName)) ∈ lw_all := lw_g (lw_at lw_m0 213 rfl) rfl
theorem q235 : (Jvm.Cond.methodLink "WinogradEngineLaw" (57 : Nat) ({ cls := "WinogradEngineModel", name := "apply", desc := "(I)I" } : Jvm.MethodName)) ∈ lw_all := lw_g (lw_at lw_m0 217 rfl) rfl
theorem q239 : (Jvm.Cond.methodLink "WinogradEngineLaw" (62 : Nat) ({ cls := "WinogradEngineModel", name := "turn", desc := "(I)Z" } : Jvm.MethodName)) ∈ lw_all := lw_g (lw_at lw_m0 221 rfl) rfl
theorem q60 : (Jvm.Cond.arrayClass Jvm.ClassFile.FieldType.byte) ∈ lw_all := lw_g (lw_at lw_m0 42 rfl) rfl
theorem q61 : (Jvm.Cond.arrayClass Jvm.ClassFile.FieldType.boolean) ∈ lw_all := lw_g (lw_at lw_m0 43 rfl) rfl
theorem q62 : (Jvm.Cond.arrayClass Jvm.ClassFile.FieldType.int) ∈ lw_all := lw_g (lw_at lw_m0 44 rfl) rfl
/-! the law's own entry -/
abbrev cL_law : ByteArray := code
end
section
set_option maxRecDepth 100000
theorem dX0_init_0 : decode cX0_init 0 = .ok (.aload_n 0, 1) := by decide +kernel
theorem dX0_init_1 : decode cX0_init 1 = .ok (.invokespecial 1, 3) := by decide +kernel
theorem dX0_init_4 : decode cX0_init 4 = .ok (.aload_n 0, 1) := by decide +kernel
theorem dX0_init_5 : decode cX0_init 5 = .ok (.bipush 100, 2) := by decide +kernel
theorem dX0_init_7 : decode cX0_init 7 = .ok (.newarray .byte, 2) := by decide +kernel
theorem dX0_init_9 : decode cX0_init 9 = .ok (.putfield 7, 3) := by decide +kernel
theorem dX0_init_12 : decode cX0_init 12 = .ok (.aload_n 0, 1) := by decide +kernel
theorem dX0_init_13 : decode cX0_init 13 = .ok (.bipush 18, 2) := by decide +kernel
theorem dX0_init_15 : decode cX0_init 15 = .ok (.newarray .byte, 2) := by decide +kernel
theorem dX0_init_17 : decode cX0_init 17 = .ok (.putfield 13, 3) := by decide +kernel
theorem dX0_init_20 : decode cX0_init 20 = .ok (.aload_n 0, 1) := by decide +kernel
theorem dX0_init_21 : decode cX0_init 21 = .ok (.iconst 2, 1) := by decide +kernel
theorem dX0_init_22 : decode cX0_init 22 = .ok (.newarray .boolean, 2) := by decide +kernel
theorem dX0_init_24 : decode cX0_init 24 = .ok (.putfield 16, 3) := by decide +kernel
theorem dX0_init_27 : decode cX0_init 27 = .ok (.aload_n 0, 1) := by decide +kernel
theorem dX0_init_28 : decode cX0_init 28 = .ok (.bipush 32, 2) := by decide +kernel
theorem dX0_init_30 : decode cX0_init 30 = .ok (.newarray .int, 2) := by decide +kernel
theorem dX0_init_32 : decode cX0_init 32 = .ok (.putfield 20, 3) := by decide +kernel
theorem dX0_init_35 : decode cX0_init 35 = .ok (.aload_n 0, 1) := by decide +kernel
theorem dX0_init_36 : decode cX0_init 36 = .ok (.bipush 100, 2) := by decide +kernel
theorem dX0_init_38 : decode cX0_init 38 = .ok (.newarray .int, 2) := by decide +kernel
theorem dX0_init_40 : decode cX0_init 40 = .ok (.putfield 24, 3) := by decide +kernel
theorem dX0_init_43 : decode cX0_init 43 = .ok (.aload_n 0, 1) := by decide +kernel
theorem dX0_init_44 : decode cX0_init 44 = .ok (.bipush 100, 2) := by decide +kernel
theorem dX0_init_46 : decode cX0_init 46 = .ok (.newarray .int, 2) := by decide +kernel
theorem dX0_init_48 : decode cX0_init 48 = .ok (.putfield 27, 3) := by decide +kernel
theorem dX0_init_51 : decode cX0_init 51 = .ok (.aload_n 0, 1) := by decide +kernel
theorem dX0_init_52 : decode cX0_init 52 = .ok (.bipush 16, 2) := by decide +kernel
theorem dX0_init_54 : decode cX0_init 54 = .ok (.newarray .int, 2) := by decide +kernel
theorem dX0_init_56 : decode cX0_init 56 = .ok (.putfield 30, 3) := by decide +kernel
theorem dX0_init_59 : decode cX0_init 59 = .ok (.aload_n 0, 1) := by decide +kernel
theorem dX0_init_60 : decode cX0_init 60 = .ok (.bipush 16, 2) := by decide +kernel
theorem dX0_init_62 : decode cX0_init 62 = .ok (.newarray .int, 2) := by decide +kernel
theorem dX0_init_64 : decode cX0_init 64 = .ok (.putfield 33, 3) := by decide +kernel
theorem dX0_init_67 : decode cX0_init 67 = .ok (.aload_n 0, 1) := by decide +kernel
theorem dX0_init_68 : decode cX0_init 68 = .ok (.iconst 4, 1) := by decide +kernel
theorem dX0_init_69 : decode cX0_init 69 = .ok (.newarray .int, 2) := by decide +kernel
theorem dX0_init_71 : decode cX0_init 71 = .ok (.putfield 36, 3) := by decide +kernel
theorem dX0_init_74 : decode cX0_init 74 = .ok (.aload_n 0, 1) := by decide +kernel
theorem dX0_init_75 : decode cX0_init 75 = .ok (.iconst (-1), 1) := by decide +kernel
theorem dX0_init_76 : decode cX0_init 76 = .ok (.putfield 39, 3) := by decide +kernel
theorem dX0_init_79 : decode cX0_init 79 = .ok (.return_, 1) := by decide +kernel
theorem dX0_set_0 : decode cX0_set 0 = .ok (.aload_n 0, 1) := by decide +kernel
theorem dX0_set_1 : decode cX0_set 1 = .ok (.iload_n 1, 1) := by decide +kernel
theorem dX0_set_2 : decode cX0_set 2 = .ok (.invokevirtual 43, 3) := by decide +kernel
theorem dX0_set_5 : decode cX0_set 5 = .ok (.ifCond .eq 15, 3) := by decide +kernel
theorem dX0_set_8 : decode cX0_set 8 = .ok (.iload_n 2, 1) := by decide +kernel
theorem dX0_set_9 : decode cX0_set 9 = .ok (.bipush (-99), 2) := by decide +kernel
theorem dX0_set_11 : decode cX0_set 11 = .ok (.if_icmp .lt 9, 3) := by decide +kernel
theorem dX0_set_14 : decode cX0_set 14 = .ok (.iload_n 2, 1) := by decide +kernel
theorem dX0_set_15 : decode cX0_set 15 = .ok (.bipush 99, 2) := by decide +kernel
theorem dX0_set_17 : decode cX0_set 17 = .ok (.if_icmp .le 5, 3) := by decide +kernel
theorem dX0_set_20 : decode cX0_set 20 = .ok (.iconst 0, 1) := by decide +kernel
theorem dX0_set_21 : decode cX0_set 21 = .ok (.ireturn, 1) := by decide +kernel
theorem dX0_set_22 : decode cX0_set 22 = .ok (.aload_n 0, 1) := by decide +kernel
theorem dX0_set_23 : decode cX0_set 23 = .ok (.getfield 7, 3) := by decide +kernel
theorem dX0_set_26 : decode cX0_set 26 = .ok (.iload_n 1, 1) := by decide +kernel
theorem dX0_set_27 : decode cX0_set 27 = .ok (.iload_n 2, 1) := by decide +kernel
theorem dX0_set_28 : decode cX0_set 28 = .ok (.i2b, 1) := by decide +kernel
theorem dX0_set_29 : decode cX0_set 29 = .ok (.bastore, 1) := by decide +kernel
theorem dX0_set_30 : decode cX0_set 30 = .ok (.aload_n 0, 1) := by decide +kernel
theorem dX0_set_31 : decode cX0_set 31 = .ok (.iconst (-1), 1) := by decide +kernel
theorem dX0_set_32 : decode cX0_set 32 = .ok (.putfield 39, 3) := by decide +kernel
theorem dX0_set_35 : decode cX0_set 35 = .ok (.iconst 1, 1) := by decide +kernel
theorem dX0_set_36 : decode cX0_set 36 = .ok (.ireturn, 1) := by decide +kernel
theorem dX0_isCell_0 : decode cX0_isCell 0 = .ok (.iload_n 1, 1) := by decide +kernel
theorem dX0_isCell_1 : decode cX0_isCell 1 = .ok (.ifCond .lt 13, 3) := by decide +kernel
theorem dX0_isCell_4 : decode cX0_isCell 4 = .ok (.iload_n 1, 1) := by decide +kernel
theorem dX0_isCell_5 : decode cX0_isCell 5 = .ok (.bipush 100, 2) := by decide +kernel
theorem dX0_isCell_7 : decode cX0_isCell 7 = .ok (.if_icmp .ge 7, 3) := by decide +kernel
theorem dX0_isCell_10 : decode cX0_isCell 10 = .ok (.iconst 1, 1) := by decide +kernel
theorem dX0_isCell_11 : decode cX0_isCell 11 = .ok (.goto 4, 3) := by decide +kernel
theorem dX0_isCell_14 : decode cX0_isCell 14 = .ok (.iconst 0, 1) := by decide +kernel
theorem dX0_isCell_15 : decode cX0_isCell 15 = .ok (.ireturn, 1) := by decide +kernel
theorem dX0_stripe_0 : decode cX0_stripe 0 = .ok (.iload_n 1, 1) := by decide +kernel
theorem dX0_stripe_1 : decode cX0_stripe 1 = .ok (.ifCond .lt 43, 3) := by decide +kernel
theorem dX0_stripe_4 : decode cX0_stripe 4 = .ok (.iload_n 1, 1) := by decide +kernel
theorem dX0_stripe_5 : decode cX0_stripe 5 = .ok (.bipush 19, 2) := by decide +kernel
theorem dX0_stripe_7 : decode cX0_stripe 7 = .ok (.if_icmp .gt 37, 3) := by decide +kernel
theorem dX0_stripe_10 : decode cX0_stripe 10 = .ok (.iload_n 2, 1) := by decide +kernel
theorem dX0_stripe_11 : decode cX0_stripe 11 = .ok (.ifCond .lt 33, 3) := by decide +kernel
theorem dX0_stripe_14 : decode cX0_stripe 14 = .ok (.iload_n 2, 1) := by decide +kernel
theorem dX0_stripe_15 : decode cX0_stripe 15 = .ok (.bipush 9, 2) := by decide +kernel
theorem dX0_stripe_17 : decode cX0_stripe 17 = .ok (.if_icmp .gt 27, 3) := by decide +kernel
theorem dX0_stripe_20 : decode cX0_stripe 20 = .ok (.iload_n 3, 1) := by decide +kernel
theorem dX0_stripe_21 : decode cX0_stripe 21 = .ok (.ifCond .lt 23, 3) := by decide +kernel
theorem dX0_stripe_24 : decode cX0_stripe 24 = .ok (.iload_n 3, 1) := by decide +kernel
theorem dX0_stripe_25 : decode cX0_stripe 25 = .ok (.bipush 9, 2) := by decide +kernel
theorem dX0_stripe_27 : decode cX0_stripe 27 = .ok (.if_icmp .gt 17, 3) := by decide +kernel
theorem dX0_stripe_30 : decode cX0_stripe 30 = .ok (.iload 4, 2) := by decide +kernel
theorem dX0_stripe_32 : decode cX0_stripe 32 = .ok (.bipush (-99), 2) := by decide +kernel
theorem dX0_stripe_34 : decode cX0_stripe 34 = .ok (.if_icmp .lt 10, 3) := by decide +kernel
theorem dX0_stripe_37 : decode cX0_stripe 37 = .ok (.iload 4, 2) := by decide +kernel
theorem dX0_stripe_39 : decode cX0_stripe 39 = .ok (.bipush 99, 2) := by decide +kernel
theorem dX0_stripe_41 : decode cX0_stripe 41 = .ok (.if_icmp .le 6, 3) := by decide +kernel
theorem dX0_stripe_44 : decode cX0_stripe 44 = .ok (.ldc 47, 2) := by decide +kernel
theorem dX0_stripe_46 : decode cX0_stripe 46 = .ok (.ireturn, 1) := by decide +kernel
theorem dX0_stripe_47 : decode cX0_stripe 47 = .ok (.iconst 0, 1) := by decide +kernel
theorem dX0_stripe_48 : decode cX0_stripe 48 = .ok (.istore 5, 2) := by decide +kernel
theorem dX0_stripe_50 : decode cX0_stripe 50 = .ok (.iload_n 2, 1) := by decide +kernel
theorem dX0_stripe_51 : decode cX0_stripe 51 = .ok (.istore 6, 2) := by decide +kernel
theorem dX0_stripe_53 : decode cX0_stripe 53 = .ok (.iload 6, 2) := by decide +kernel
theorem dX0_stripe_55 : decode cX0_stripe 55 = .ok (.iload_n 3, 1) := by decide +kernel
theorem dX0_stripe_56 : decode cX0_stripe 56 = .ok (.if_icmp .gt 45, 3) := by decide +kernel
theorem dX0_stripe_59 : decode cX0_stripe 59 = .ok (.aload_n 0, 1) := by decide +kernel
theorem dX0_stripe_60 : decode cX0_stripe 60 = .ok (.iload_n 1, 1) := by decide +kernel
theorem dX0_stripe_61 : decode cX0_stripe 61 = .ok (.bipush 10, 2) := by decide +kernel
theorem dX0_stripe_63 : decode cX0_stripe 63 = .ok (.if_icmp .ge 13, 3) := by decide +kernel
theorem dX0_stripe_66 : decode cX0_stripe 66 = .ok (.bipush 10, 2) := by decide +kernel
theorem dX0_stripe_68 : decode cX0_stripe 68 = .ok (.iload_n 1, 1) := by decide +kernel
theorem dX0_stripe_69 : decode cX0_stripe 69 = .ok (.imul, 1) := by decide +kernel
theorem dX0_stripe_70 : decode cX0_stripe 70 = .ok (.iload 6, 2) := by decide +kernel
theorem dX0_stripe_72 : decode cX0_stripe 72 = .ok (.iadd, 1) := by decide +kernel
theorem dX0_stripe_73 : decode cX0_stripe 73 = .ok (.goto 13, 3) := by decide +kernel
theorem dX0_stripe_76 : decode cX0_stripe 76 = .ok (.bipush 10, 2) := by decide +kernel
theorem dX0_stripe_78 : decode cX0_stripe 78 = .ok (.iload 6, 2) := by decide +kernel
theorem dX0_stripe_80 : decode cX0_stripe 80 = .ok (.imul, 1) := by decide +kernel
theorem dX0_stripe_81 : decode cX0_stripe 81 = .ok (.iload_n 1, 1) := by decide +kernel
theorem dX0_stripe_82 : decode cX0_stripe 82 = .ok (.iadd, 1) := by decide +kernel
theorem dX0_stripe_83 : decode cX0_stripe 83 = .ok (.bipush 10, 2) := by decide +kernel
theorem dX0_stripe_85 : decode cX0_stripe 85 = .ok (.isub, 1) := by decide +kernel
theorem dX0_stripe_86 : decode cX0_stripe 86 = .ok (.iload 4, 2) := by decide +kernel
theorem dX0_stripe_88 : decode cX0_stripe 88 = .ok (.invokevirtual 48, 3) := by decide +kernel
theorem dX0_stripe_91 : decode cX0_stripe 91 = .ok (.pop, 1) := by decide +kernel
theorem dX0_stripe_92 : decode cX0_stripe 92 = .ok (.iinc 5 1, 3) := by decide +kernel
theorem dX0_stripe_95 : decode cX0_stripe 95 = .ok (.iinc 6 1, 3) := by decide +kernel
theorem dX0_stripe_98 : decode cX0_stripe 98 = .ok (.goto (-45), 3) := by decide +kernel
theorem dX0_stripe_101 : decode cX0_stripe 101 = .ok (.iload 5, 2) := by decide +kernel
theorem dX0_stripe_103 : decode cX0_stripe 103 = .ok (.ireturn, 1) := by decide +kernel
theorem dX0_weight_0 : decode cX0_weight 0 = .ok (.aload_n 0, 1) := by decide +kernel
theorem dX0_weight_1 : decode cX0_weight 1 = .ok (.iload_n 1, 1) := by decide +kernel
theorem dX0_weight_2 : decode cX0_weight 2 = .ok (.invokevirtual 52, 3) := by decide +kernel
theorem dX0_weight_5 : decode cX0_weight 5 = .ok (.ifCond .eq 25, 3) := by decide +kernel
theorem dX0_weight_8 : decode cX0_weight 8 = .ok (.iload_n 2, 1) := by decide +kernel
theorem dX0_weight_9 : decode cX0_weight 9 = .ok (.ifCond .lt 21, 3) := by decide +kernel
theorem dX0_weight_12 : decode cX0_weight 12 = .ok (.iload_n 2, 1) := by decide +kernel
theorem dX0_weight_13 : decode cX0_weight 13 = .ok (.bipush 8, 2) := by decide +kernel
theorem dX0_weight_15 : decode cX0_weight 15 = .ok (.if_icmp .gt 15, 3) := by decide +kernel
theorem dX0_weight_18 : decode cX0_weight 18 = .ok (.iload_n 3, 1) := by decide +kernel
theorem dX0_weight_19 : decode cX0_weight 19 = .ok (.bipush (-9), 2) := by decide +kernel
theorem dX0_weight_21 : decode cX0_weight 21 = .ok (.if_icmp .lt 9, 3) := by decide +kernel
theorem dX0_weight_24 : decode cX0_weight 24 = .ok (.iload_n 3, 1) := by decide +kernel
theorem dX0_weight_25 : decode cX0_weight 25 = .ok (.bipush 9, 2) := by decide +kernel
theorem dX0_weight_27 : decode cX0_weight 27 = .ok (.if_icmp .le 5, 3) := by decide +kernel
theorem dX0_weight_30 : decode cX0_weight 30 = .ok (.iconst 0, 1) := by decide +kernel
theorem dX0_weight_31 : decode cX0_weight 31 = .ok (.ireturn, 1) := by decide +kernel
theorem dX0_weight_32 : decode cX0_weight 32 = .ok (.aload_n 0, 1) := by decide +kernel
theorem dX0_weight_33 : decode cX0_weight 33 = .ok (.getfield 13, 3) := by decide +kernel
theorem dX0_weight_36 : decode cX0_weight 36 = .ok (.bipush 9, 2) := by decide +kernel
theorem dX0_weight_38 : decode cX0_weight 38 = .ok (.iload_n 1, 1) := by decide +kernel
theorem dX0_weight_39 : decode cX0_weight 39 = .ok (.imul, 1) := by decide +kernel
theorem dX0_weight_40 : decode cX0_weight 40 = .ok (.iload_n 2, 1) := by decide +kernel
theorem dX0_weight_41 : decode cX0_weight 41 = .ok (.iadd, 1) := by decide +kernel
theorem dX0_weight_42 : decode cX0_weight 42 = .ok (.iload_n 3, 1) := by decide +kernel
theorem dX0_weight_43 : decode cX0_weight 43 = .ok (.i2b, 1) := by decide +kernel
theorem dX0_weight_44 : decode cX0_weight 44 = .ok (.bastore, 1) := by decide +kernel
theorem dX0_weight_45 : decode cX0_weight 45 = .ok (.aload_n 0, 1) := by decide +kernel
theorem dX0_weight_46 : decode cX0_weight 46 = .ok (.iload_n 1, 1) := by decide +kernel
theorem dX0_weight_47 : decode cX0_weight 47 = .ok (.invokevirtual 55, 3) := by decide +kernel
theorem dX0_weight_50 : decode cX0_weight 50 = .ok (.iconst 1, 1) := by decide +kernel
theorem dX0_weight_51 : decode cX0_weight 51 = .ok (.ireturn, 1) := by decide +kernel
theorem dX0_isFilter_0 : decode cX0_isFilter 0 = .ok (.iload_n 1, 1) := by decide +kernel
theorem dX0_isFilter_1 : decode cX0_isFilter 1 = .ok (.ifCond .eq 8, 3) := by decide +kernel
theorem dX0_isFilter_4 : decode cX0_isFilter 4 = .ok (.iload_n 1, 1) := by decide +kernel
theorem dX0_isFilter_5 : decode cX0_isFilter 5 = .ok (.iconst 1, 1) := by decide +kernel
theorem dX0_isFilter_6 : decode cX0_isFilter 6 = .ok (.if_icmp .ne 7, 3) := by decide +kernel
theorem dX0_isFilter_9 : decode cX0_isFilter 9 = .ok (.iconst 1, 1) := by decide +kernel
theorem dX0_isFilter_10 : decode cX0_isFilter 10 = .ok (.goto 4, 3) := by decide +kernel
theorem dX0_isFilter_13 : decode cX0_isFilter 13 = .ok (.iconst 0, 1) := by decide +kernel
theorem dX0_isFilter_14 : decode cX0_isFilter 14 = .ok (.ireturn, 1) := by decide +kernel
theorem dX0_forget_0 : decode cX0_forget 0 = .ok (.aload_n 0, 1) := by decide +kernel
theorem dX0_forget_1 : decode cX0_forget 1 = .ok (.getfield 16, 3) := by decide +kernel
theorem dX0_forget_4 : decode cX0_forget 4 = .ok (.iload_n 1, 1) := by decide +kernel
theorem dX0_forget_5 : decode cX0_forget 5 = .ok (.iconst 0, 1) := by decide +kernel
theorem dX0_forget_6 : decode cX0_forget 6 = .ok (.bastore, 1) := by decide +kernel
theorem dX0_forget_7 : decode cX0_forget 7 = .ok (.aload_n 0, 1) := by decide +kernel
theorem dX0_forget_8 : decode cX0_forget 8 = .ok (.iconst (-1), 1) := by decide +kernel
theorem dX0_forget_9 : decode cX0_forget 9 = .ok (.putfield 39, 3) := by decide +kernel
theorem dX0_forget_12 : decode cX0_forget 12 = .ok (.return_, 1) := by decide +kernel
theorem dX0_response_0 : decode cX0_response 0 = .ok (.aload_n 0, 1) := by decide +kernel
theorem dX0_response_1 : decode cX0_response 1 = .ok (.iload_n 1, 1) := by decide +kernel
theorem dX0_response_2 : decode cX0_response 2 = .ok (.invokevirtual 52, 3) := by decide +kernel
theorem dX0_response_5 : decode cX0_response 5 = .ok (.ifCond .eq 11, 3) := by decide +kernel
theorem dX0_response_8 : decode cX0_response 8 = .ok (.aload_n 0, 1) := by decide +kernel
theorem dX0_response_9 : decode cX0_response 9 = .ok (.iload_n 2, 1) := by decide +kernel
theorem dX0_response_10 : decode cX0_response 10 = .ok (.invokevirtual 43, 3) := by decide +kernel
theorem dX0_response_13 : decode cX0_response 13 = .ok (.ifCond .ne 6, 3) := by decide +kernel
theorem dX0_response_16 : decode cX0_response 16 = .ok (.ldc 47, 2) := by decide +kernel
theorem dX0_response_18 : decode cX0_response 18 = .ok (.ireturn, 1) := by decide +kernel
theorem dX0_response_19 : decode cX0_response 19 = .ok (.aload_n 0, 1) := by decide +kernel
theorem dX0_response_20 : decode cX0_response 20 = .ok (.iload_n 1, 1) := by decide +kernel
theorem dX0_response_21 : decode cX0_response 21 = .ok (.invokevirtual 59, 3) := by decide +kernel
theorem dX0_response_24 : decode cX0_response 24 = .ok (.aload_n 0, 1) := by decide +kernel
theorem dX0_response_25 : decode cX0_response 25 = .ok (.getfield 27, 3) := by decide +kernel
theorem dX0_response_28 : decode cX0_response 28 = .ok (.iload_n 2, 1) := by decide +kernel
theorem dX0_response_29 : decode cX0_response 29 = .ok (.iaload, 1) := by decide +kernel
theorem dX0_response_30 : decode cX0_response 30 = .ok (.ireturn, 1) := by decide +kernel
theorem dX0_respond_0 : decode cX0_respond 0 = .ok (.aload_n 0, 1) := by decide +kernel
theorem dX0_respond_1 : decode cX0_respond 1 = .ok (.getfield 39, 3) := by decide +kernel
theorem dX0_respond_4 : decode cX0_respond 4 = .ok (.iload_n 1, 1) := by decide +kernel
theorem dX0_respond_5 : decode cX0_respond 5 = .ok (.if_icmp .ne 4, 3) := by decide +kernel
theorem dX0_respond_8 : decode cX0_respond 8 = .ok (.return_, 1) := by decide +kernel
theorem dX0_respond_9 : decode cX0_respond 9 = .ok (.iconst 0, 1) := by decide +kernel
theorem dX0_respond_10 : decode cX0_respond 10 = .ok (.istore_n 2, 1) := by decide +kernel
theorem dX0_respond_11 : decode cX0_respond 11 = .ok (.iload_n 2, 1) := by decide +kernel
theorem dX0_respond_12 : decode cX0_respond 12 = .ok (.bipush 100, 2) := by decide +kernel
theorem dX0_respond_14 : decode cX0_respond 14 = .ok (.if_icmp .ge 21, 3) := by decide +kernel
theorem dX0_respond_17 : decode cX0_respond 17 = .ok (.aload_n 0, 1) := by decide +kernel
theorem dX0_respond_18 : decode cX0_respond 18 = .ok (.getfield 24, 3) := by decide +kernel
theorem dX0_respond_21 : decode cX0_respond 21 = .ok (.iload_n 2, 1) := by decide +kernel
theorem dX0_respond_22 : decode cX0_respond 22 = .ok (.aload_n 0, 1) := by decide +kernel
theorem dX0_respond_23 : decode cX0_respond 23 = .ok (.getfield 7, 3) := by decide +kernel
theorem dX0_respond_26 : decode cX0_respond 26 = .ok (.iload_n 2, 1) := by decide +kernel
theorem dX0_respond_27 : decode cX0_respond 27 = .ok (.baload, 1) := by decide +kernel
theorem dX0_respond_28 : decode cX0_respond 28 = .ok (.iastore, 1) := by decide +kernel
theorem dX0_respond_29 : decode cX0_respond 29 = .ok (.iinc 2 1, 3) := by decide +kernel
theorem dX0_respond_32 : decode cX0_respond 32 = .ok (.goto (-21), 3) := by decide +kernel
theorem dX0_respond_35 : decode cX0_respond 35 = .ok (.aload_n 0, 1) := by decide +kernel
theorem dX0_respond_36 : decode cX0_respond 36 = .ok (.iload_n 1, 1) := by decide +kernel
theorem dX0_respond_37 : decode cX0_respond 37 = .ok (.invokevirtual 62, 3) := by decide +kernel
theorem dX0_respond_40 : decode cX0_respond 40 = .ok (.aload_n 0, 1) := by decide +kernel
theorem dX0_respond_41 : decode cX0_respond 41 = .ok (.iload_n 1, 1) := by decide +kernel
theorem dX0_respond_42 : decode cX0_respond 42 = .ok (.putfield 39, 3) := by decide +kernel
theorem dX0_respond_45 : decode cX0_respond 45 = .ok (.return_, 1) := by decide +kernel
theorem dX0_convolve_0 : decode cX0_convolve 0 = .ok (.aload_n 0, 1) := by decide +kernel
theorem dX0_convolve_1 : decode cX0_convolve 1 = .ok (.iload_n 1, 1) := by decide +kernel
theorem dX0_convolve_2 : decode cX0_convolve 2 = .ok (.invokevirtual 73, 3) := by decide +kernel
theorem dX0_convolve_5 : decode cX0_convolve 5 = .ok (.iconst 0, 1) := by decide +kernel
theorem dX0_convolve_6 : decode cX0_convolve 6 = .ok (.istore_n 2, 1) := by decide +kernel
theorem dX0_convolve_7 : decode cX0_convolve 7 = .ok (.iload_n 2, 1) := by decide +kernel
theorem dX0_convolve_8 : decode cX0_convolve 8 = .ok (.bipush 25, 2) := by decide +kernel
theorem dX0_convolve_10 : decode cX0_convolve 10 = .ok (.if_icmp .ge 169, 3) := by decide +kernel
theorem dX0_convolve_13 : decode cX0_convolve 13 = .ok (.iconst 2, 1) := by decide +kernel
theorem dX0_convolve_14 : decode cX0_convolve 14 = .ok (.iload_n 2, 1) := by decide +kernel
theorem dX0_convolve_15 : decode cX0_convolve 15 = .ok (.iconst 5, 1) := by decide +kernel
theorem dX0_convolve_16 : decode cX0_convolve 16 = .ok (.irem, 1) := by decide +kernel
theorem dX0_convolve_17 : decode cX0_convolve 17 = .ok (.imul, 1) := by decide +kernel
theorem dX0_convolve_18 : decode cX0_convolve 18 = .ok (.istore_n 3, 1) := by decide +kernel
theorem dX0_convolve_19 : decode cX0_convolve 19 = .ok (.iconst 2, 1) := by decide +kernel
theorem dX0_convolve_20 : decode cX0_convolve 20 = .ok (.iload_n 2, 1) := by decide +kernel
theorem dX0_convolve_21 : decode cX0_convolve 21 = .ok (.iconst 5, 1) := by decide +kernel
theorem dX0_convolve_22 : decode cX0_convolve 22 = .ok (.idiv, 1) := by decide +kernel
theorem dX0_convolve_23 : decode cX0_convolve 23 = .ok (.imul, 1) := by decide +kernel
theorem dX0_convolve_24 : decode cX0_convolve 24 = .ok (.istore 4, 2) := by decide +kernel
theorem dX0_convolve_26 : decode cX0_convolve 26 = .ok (.aload_n 0, 1) := by decide +kernel
theorem dX0_convolve_27 : decode cX0_convolve 27 = .ok (.iload_n 3, 1) := by decide +kernel
theorem dX0_convolve_28 : decode cX0_convolve 28 = .ok (.iconst 1, 1) := by decide +kernel
theorem dX0_convolve_29 : decode cX0_convolve 29 = .ok (.isub, 1) := by decide +kernel
theorem dX0_convolve_30 : decode cX0_convolve 30 = .ok (.iload 4, 2) := by decide +kernel
theorem dX0_convolve_32 : decode cX0_convolve 32 = .ok (.iconst 1, 1) := by decide +kernel
theorem dX0_convolve_33 : decode cX0_convolve 33 = .ok (.isub, 1) := by decide +kernel
theorem dX0_convolve_34 : decode cX0_convolve 34 = .ok (.invokevirtual 76, 3) := by decide +kernel
theorem dX0_convolve_37 : decode cX0_convolve 37 = .ok (.aload_n 0, 1) := by decide +kernel
theorem dX0_convolve_38 : decode cX0_convolve 38 = .ok (.invokevirtual 80, 3) := by decide +kernel
theorem dX0_convolve_41 : decode cX0_convolve 41 = .ok (.iconst 0, 1) := by decide +kernel
theorem dX0_convolve_42 : decode cX0_convolve 42 = .ok (.istore 5, 2) := by decide +kernel
theorem dX0_convolve_44 : decode cX0_convolve 44 = .ok (.iload 5, 2) := by decide +kernel
theorem dX0_convolve_46 : decode cX0_convolve 46 = .ok (.bipush 16, 2) := by decide +kernel
theorem dX0_convolve_48 : decode cX0_convolve 48 = .ok (.if_icmp .ge 31, 3) := by decide +kernel
theorem dX0_convolve_51 : decode cX0_convolve 51 = .ok (.aload_n 0, 1) := by decide +kernel
theorem dX0_convolve_52 : decode cX0_convolve 52 = .ok (.getfield 30, 3) := by decide +kernel
theorem dX0_convolve_55 : decode cX0_convolve 55 = .ok (.iload 5, 2) := by decide +kernel
theorem dX0_convolve_57 : decode cX0_convolve 57 = .ok (.dup2, 1) := by decide +kernel
theorem dX0_convolve_58 : decode cX0_convolve 58 = .ok (.iaload, 1) := by decide +kernel
theorem dX0_convolve_59 : decode cX0_convolve 59 = .ok (.aload_n 0, 1) := by decide +kernel
theorem dX0_convolve_60 : decode cX0_convolve 60 = .ok (.getfield 20, 3) := by decide +kernel
theorem dX0_convolve_63 : decode cX0_convolve 63 = .ok (.bipush 16, 2) := by decide +kernel
theorem dX0_convolve_65 : decode cX0_convolve 65 = .ok (.iload_n 1, 1) := by decide +kernel
theorem dX0_convolve_66 : decode cX0_convolve 66 = .ok (.imul, 1) := by decide +kernel
theorem dX0_convolve_67 : decode cX0_convolve 67 = .ok (.iload 5, 2) := by decide +kernel
theorem dX0_convolve_69 : decode cX0_convolve 69 = .ok (.iadd, 1) := by decide +kernel
theorem dX0_convolve_70 : decode cX0_convolve 70 = .ok (.iaload, 1) := by decide +kernel
theorem dX0_convolve_71 : decode cX0_convolve 71 = .ok (.imul, 1) := by decide +kernel
theorem dX0_convolve_72 : decode cX0_convolve 72 = .ok (.iastore, 1) := by decide +kernel
theorem dX0_convolve_73 : decode cX0_convolve 73 = .ok (.iinc 5 1, 3) := by decide +kernel
theorem dX0_convolve_76 : decode cX0_convolve 76 = .ok (.goto (-32), 3) := by decide +kernel
theorem dX0_convolve_79 : decode cX0_convolve 79 = .ok (.aload_n 0, 1) := by decide +kernel
theorem dX0_convolve_80 : decode cX0_convolve 80 = .ok (.invokevirtual 83, 3) := by decide +kernel
theorem dX0_convolve_83 : decode cX0_convolve 83 = .ok (.aload_n 0, 1) := by decide +kernel
theorem dX0_convolve_84 : decode cX0_convolve 84 = .ok (.getfield 27, 3) := by decide +kernel
theorem dX0_convolve_87 : decode cX0_convolve 87 = .ok (.bipush 10, 2) := by decide +kernel
theorem dX0_convolve_89 : decode cX0_convolve 89 = .ok (.iload 4, 2) := by decide +kernel
theorem dX0_convolve_91 : decode cX0_convolve 91 = .ok (.imul, 1) := by decide +kernel
theorem dX0_convolve_92 : decode cX0_convolve 92 = .ok (.iload_n 3, 1) := by decide +kernel
theorem dX0_convolve_93 : decode cX0_convolve 93 = .ok (.iadd, 1) := by decide +kernel
theorem dX0_convolve_94 : decode cX0_convolve 94 = .ok (.aload_n 0, 1) := by decide +kernel
theorem dX0_convolve_95 : decode cX0_convolve 95 = .ok (.getfield 36, 3) := by decide +kernel
theorem dX0_convolve_98 : decode cX0_convolve 98 = .ok (.iconst 0, 1) := by decide +kernel
theorem dX0_convolve_99 : decode cX0_convolve 99 = .ok (.iaload, 1) := by decide +kernel
theorem dX0_convolve_100 : decode cX0_convolve 100 = .ok (.iconst 4, 1) := by decide +kernel
theorem dX0_convolve_101 : decode cX0_convolve 101 = .ok (.idiv, 1) := by decide +kernel
theorem dX0_convolve_102 : decode cX0_convolve 102 = .ok (.iastore, 1) := by decide +kernel
theorem dX0_convolve_103 : decode cX0_convolve 103 = .ok (.aload_n 0, 1) := by decide +kernel
theorem dX0_convolve_104 : decode cX0_convolve 104 = .ok (.getfield 27, 3) := by decide +kernel
theorem dX0_convolve_107 : decode cX0_convolve 107 = .ok (.bipush 10, 2) := by decide +kernel
theorem dX0_convolve_109 : decode cX0_convolve 109 = .ok (.iload 4, 2) := by decide +kernel
theorem dX0_convolve_111 : decode cX0_convolve 111 = .ok (.imul, 1) := by decide +kernel
theorem dX0_convolve_112 : decode cX0_convolve 112 = .ok (.iload_n 3, 1) := by decide +kernel
theorem dX0_convolve_113 : decode cX0_convolve 113 = .ok (.iadd, 1) := by decide +kernel
theorem dX0_convolve_114 : decode cX0_convolve 114 = .ok (.iconst 1, 1) := by decide +kernel
theorem dX0_convolve_115 : decode cX0_convolve 115 = .ok (.iadd, 1) := by decide +kernel
theorem dX0_convolve_116 : decode cX0_convolve 116 = .ok (.aload_n 0, 1) := by decide +kernel
theorem dX0_convolve_117 : decode cX0_convolve 117 = .ok (.getfield 36, 3) := by decide +kernel
theorem dX0_convolve_120 : decode cX0_convolve 120 = .ok (.iconst 1, 1) := by decide +kernel
theorem dX0_convolve_121 : decode cX0_convolve 121 = .ok (.iaload, 1) := by decide +kernel
theorem dX0_convolve_122 : decode cX0_convolve 122 = .ok (.iconst 4, 1) := by decide +kernel
theorem dX0_convolve_123 : decode cX0_convolve 123 = .ok (.idiv, 1) := by decide +kernel
theorem dX0_convolve_124 : decode cX0_convolve 124 = .ok (.iastore, 1) := by decide +kernel
theorem dX0_convolve_125 : decode cX0_convolve 125 = .ok (.aload_n 0, 1) := by decide +kernel
theorem dX0_convolve_126 : decode cX0_convolve 126 = .ok (.getfield 27, 3) := by decide +kernel
theorem dX0_convolve_129 : decode cX0_convolve 129 = .ok (.bipush 10, 2) := by decide +kernel
theorem dX0_convolve_131 : decode cX0_convolve 131 = .ok (.iload 4, 2) := by decide +kernel
theorem dX0_convolve_133 : decode cX0_convolve 133 = .ok (.imul, 1) := by decide +kernel
theorem dX0_convolve_134 : decode cX0_convolve 134 = .ok (.bipush 10, 2) := by decide +kernel
theorem dX0_convolve_136 : decode cX0_convolve 136 = .ok (.iadd, 1) := by decide +kernel
theorem dX0_convolve_137 : decode cX0_convolve 137 = .ok (.iload_n 3, 1) := by decide +kernel
theorem dX0_convolve_138 : decode cX0_convolve 138 = .ok (.iadd, 1) := by decide +kernel
theorem dX0_convolve_139 : decode cX0_convolve 139 = .ok (.aload_n 0, 1) := by decide +kernel
theorem dX0_convolve_140 : decode cX0_convolve 140 = .ok (.getfield 36, 3) := by decide +kernel
theorem dX0_convolve_143 : decode cX0_convolve 143 = .ok (.iconst 2, 1) := by decide +kernel
theorem dX0_convolve_144 : decode cX0_convolve 144 = .ok (.iaload, 1) := by decide +kernel
theorem dX0_convolve_145 : decode cX0_convolve 145 = .ok (.iconst 4, 1) := by decide +kernel
theorem dX0_convolve_146 : decode cX0_convolve 146 = .ok (.idiv, 1) := by decide +kernel
theorem dX0_convolve_147 : decode cX0_convolve 147 = .ok (.iastore, 1) := by decide +kernel
theorem dX0_convolve_148 : decode cX0_convolve 148 = .ok (.aload_n 0, 1) := by decide +kernel
theorem dX0_convolve_149 : decode cX0_convolve 149 = .ok (.getfield 27, 3) := by decide +kernel
theorem dX0_convolve_152 : decode cX0_convolve 152 = .ok (.bipush 10, 2) := by decide +kernel
theorem dX0_convolve_154 : decode cX0_convolve 154 = .ok (.iload 4, 2) := by decide +kernel
theorem dX0_convolve_156 : decode cX0_convolve 156 = .ok (.imul, 1) := by decide +kernel
theorem dX0_convolve_157 : decode cX0_convolve 157 = .ok (.bipush 10, 2) := by decide +kernel
theorem dX0_convolve_159 : decode cX0_convolve 159 = .ok (.iadd, 1) := by decide +kernel
theorem dX0_convolve_160 : decode cX0_convolve 160 = .ok (.iload_n 3, 1) := by decide +kernel
theorem dX0_convolve_161 : decode cX0_convolve 161 = .ok (.iadd, 1) := by decide +kernel
theorem dX0_convolve_162 : decode cX0_convolve 162 = .ok (.iconst 1, 1) := by decide +kernel
theorem dX0_convolve_163 : decode cX0_convolve 163 = .ok (.iadd, 1) := by decide +kernel
theorem dX0_convolve_164 : decode cX0_convolve 164 = .ok (.aload_n 0, 1) := by decide +kernel
theorem dX0_convolve_165 : decode cX0_convolve 165 = .ok (.getfield 36, 3) := by decide +kernel
theorem dX0_convolve_168 : decode cX0_convolve 168 = .ok (.iconst 3, 1) := by decide +kernel
theorem dX0_convolve_169 : decode cX0_convolve 169 = .ok (.iaload, 1) := by decide +kernel
theorem dX0_convolve_170 : decode cX0_convolve 170 = .ok (.iconst 4, 1) := by decide +kernel
theorem dX0_convolve_171 : decode cX0_convolve 171 = .ok (.idiv, 1) := by decide +kernel
theorem dX0_convolve_172 : decode cX0_convolve 172 = .ok (.iastore, 1) := by decide +kernel
theorem dX0_convolve_173 : decode cX0_convolve 173 = .ok (.iinc 2 1, 3) := by decide +kernel
theorem dX0_convolve_176 : decode cX0_convolve 176 = .ok (.goto (-169), 3) := by decide +kernel
theorem dX0_convolve_179 : decode cX0_convolve 179 = .ok (.return_, 1) := by decide +kernel
theorem dX0_turnFilter_0 : decode cX0_turnFilter 0 = .ok (.aload_n 0, 1) := by decide +kernel
theorem dX0_turnFilter_1 : decode cX0_turnFilter 1 = .ok (.getfield 16, 3) := by decide +kernel
theorem dX0_turnFilter_4 : decode cX0_turnFilter 4 = .ok (.iload_n 1, 1) := by decide +kernel
theorem dX0_turnFilter_5 : decode cX0_turnFilter 5 = .ok (.baload, 1) := by decide +kernel
theorem dX0_turnFilter_6 : decode cX0_turnFilter 6 = .ok (.ifCond .eq 4, 3) := by decide +kernel
theorem dX0_turnFilter_9 : decode cX0_turnFilter 9 = .ok (.return_, 1) := by decide +kernel
theorem dX0_turnFilter_10 : decode cX0_turnFilter 10 = .ok (.aload_n 0, 1) := by decide +kernel
theorem dX0_turnFilter_11 : decode cX0_turnFilter 11 = .ok (.getfield 16, 3) := by decide +kernel
theorem dX0_turnFilter_14 : decode cX0_turnFilter 14 = .ok (.iload_n 1, 1) := by decide +kernel
theorem dX0_turnFilter_15 : decode cX0_turnFilter 15 = .ok (.iconst 1, 1) := by decide +kernel
theorem dX0_turnFilter_16 : decode cX0_turnFilter 16 = .ok (.bastore, 1) := by decide +kernel
theorem dX0_turnFilter_17 : decode cX0_turnFilter 17 = .ok (.iconst 0, 1) := by decide +kernel
theorem dX0_turnFilter_18 : decode cX0_turnFilter 18 = .ok (.istore_n 2, 1) := by decide +kernel
theorem dX0_turnFilter_19 : decode cX0_turnFilter 19 = .ok (.iload_n 2, 1) := by decide +kernel
theorem dX0_turnFilter_20 : decode cX0_turnFilter 20 = .ok (.iconst 3, 1) := by decide +kernel
theorem dX0_turnFilter_21 : decode cX0_turnFilter 21 = .ok (.if_icmp .ge 75, 3) := by decide +kernel
theorem dX0_turnFilter_24 : decode cX0_turnFilter 24 = .ok (.iconst 0, 1) := by decide +kernel
end
section
set_option maxRecDepth 100000
theorem dX0_turnFilter_25 : decode cX0_turnFilter 25 = .ok (.istore_n 3, 1) := by decide +kernel
theorem dX0_turnFilter_26 : decode cX0_turnFilter 26 = .ok (.iload_n 3, 1) := by decide +kernel
theorem dX0_turnFilter_27 : decode cX0_turnFilter 27 = .ok (.iconst 4, 1) := by decide +kernel
theorem dX0_turnFilter_28 : decode cX0_turnFilter 28 = .ok (.if_icmp .ge 62, 3) := by decide +kernel
theorem dX0_turnFilter_31 : decode cX0_turnFilter 31 = .ok (.aload_n 0, 1) := by decide +kernel
theorem dX0_turnFilter_32 : decode cX0_turnFilter 32 = .ok (.getfield 33, 3) := by decide +kernel
theorem dX0_turnFilter_35 : decode cX0_turnFilter 35 = .ok (.iconst 4, 1) := by decide +kernel
theorem dX0_turnFilter_36 : decode cX0_turnFilter 36 = .ok (.iload_n 3, 1) := by decide +kernel
theorem dX0_turnFilter_37 : decode cX0_turnFilter 37 = .ok (.imul, 1) := by decide +kernel
theorem dX0_turnFilter_38 : decode cX0_turnFilter 38 = .ok (.iload_n 2, 1) := by decide +kernel
theorem dX0_turnFilter_39 : decode cX0_turnFilter 39 = .ok (.iadd, 1) := by decide +kernel
theorem dX0_turnFilter_40 : decode cX0_turnFilter 40 = .ok (.aload_n 0, 1) := by decide +kernel
theorem dX0_turnFilter_41 : decode cX0_turnFilter 41 = .ok (.aload_n 0, 1) := by decide +kernel
theorem dX0_turnFilter_42 : decode cX0_turnFilter 42 = .ok (.getfield 13, 3) := by decide +kernel
theorem dX0_turnFilter_45 : decode cX0_turnFilter 45 = .ok (.bipush 9, 2) := by decide +kernel
theorem dX0_turnFilter_47 : decode cX0_turnFilter 47 = .ok (.iload_n 1, 1) := by decide +kernel
theorem dX0_turnFilter_48 : decode cX0_turnFilter 48 = .ok (.imul, 1) := by decide +kernel
theorem dX0_turnFilter_49 : decode cX0_turnFilter 49 = .ok (.iload_n 2, 1) := by decide +kernel
theorem dX0_turnFilter_50 : decode cX0_turnFilter 50 = .ok (.iadd, 1) := by decide +kernel
theorem dX0_turnFilter_51 : decode cX0_turnFilter 51 = .ok (.baload, 1) := by decide +kernel
theorem dX0_turnFilter_52 : decode cX0_turnFilter 52 = .ok (.aload_n 0, 1) := by decide +kernel
theorem dX0_turnFilter_53 : decode cX0_turnFilter 53 = .ok (.getfield 13, 3) := by decide +kernel
theorem dX0_turnFilter_56 : decode cX0_turnFilter 56 = .ok (.bipush 9, 2) := by decide +kernel
theorem dX0_turnFilter_58 : decode cX0_turnFilter 58 = .ok (.iload_n 1, 1) := by decide +kernel
theorem dX0_turnFilter_59 : decode cX0_turnFilter 59 = .ok (.imul, 1) := by decide +kernel
theorem dX0_turnFilter_60 : decode cX0_turnFilter 60 = .ok (.iconst 3, 1) := by decide +kernel
theorem dX0_turnFilter_61 : decode cX0_turnFilter 61 = .ok (.iadd, 1) := by decide +kernel
theorem dX0_turnFilter_62 : decode cX0_turnFilter 62 = .ok (.iload_n 2, 1) := by decide +kernel
theorem dX0_turnFilter_63 : decode cX0_turnFilter 63 = .ok (.iadd, 1) := by decide +kernel
theorem dX0_turnFilter_64 : decode cX0_turnFilter 64 = .ok (.baload, 1) := by decide +kernel
theorem dX0_turnFilter_65 : decode cX0_turnFilter 65 = .ok (.aload_n 0, 1) := by decide +kernel
theorem dX0_turnFilter_66 : decode cX0_turnFilter 66 = .ok (.getfield 13, 3) := by decide +kernel
theorem dX0_turnFilter_69 : decode cX0_turnFilter 69 = .ok (.bipush 9, 2) := by decide +kernel
theorem dX0_turnFilter_71 : decode cX0_turnFilter 71 = .ok (.iload_n 1, 1) := by decide +kernel
theorem dX0_turnFilter_72 : decode cX0_turnFilter 72 = .ok (.imul, 1) := by decide +kernel
theorem dX0_turnFilter_73 : decode cX0_turnFilter 73 = .ok (.bipush 6, 2) := by decide +kernel
theorem dX0_turnFilter_75 : decode cX0_turnFilter 75 = .ok (.iadd, 1) := by decide +kernel
theorem dX0_turnFilter_76 : decode cX0_turnFilter 76 = .ok (.iload_n 2, 1) := by decide +kernel
theorem dX0_turnFilter_77 : decode cX0_turnFilter 77 = .ok (.iadd, 1) := by decide +kernel
theorem dX0_turnFilter_78 : decode cX0_turnFilter 78 = .ok (.baload, 1) := by decide +kernel
theorem dX0_turnFilter_79 : decode cX0_turnFilter 79 = .ok (.iload_n 3, 1) := by decide +kernel
theorem dX0_turnFilter_80 : decode cX0_turnFilter 80 = .ok (.invokevirtual 69, 3) := by decide +kernel
theorem dX0_turnFilter_83 : decode cX0_turnFilter 83 = .ok (.iastore, 1) := by decide +kernel
theorem dX0_turnFilter_84 : decode cX0_turnFilter 84 = .ok (.iinc 3 1, 3) := by decide +kernel
theorem dX0_turnFilter_87 : decode cX0_turnFilter 87 = .ok (.goto (-61), 3) := by decide +kernel
theorem dX0_turnFilter_90 : decode cX0_turnFilter 90 = .ok (.iinc 2 1, 3) := by decide +kernel
theorem dX0_turnFilter_93 : decode cX0_turnFilter 93 = .ok (.goto (-74), 3) := by decide +kernel
theorem dX0_turnFilter_96 : decode cX0_turnFilter 96 = .ok (.iconst 0, 1) := by decide +kernel
theorem dX0_turnFilter_97 : decode cX0_turnFilter 97 = .ok (.istore_n 2, 1) := by decide +kernel
theorem dX0_turnFilter_98 : decode cX0_turnFilter 98 = .ok (.iload_n 2, 1) := by decide +kernel
theorem dX0_turnFilter_99 : decode cX0_turnFilter 99 = .ok (.iconst 4, 1) := by decide +kernel
theorem dX0_turnFilter_100 : decode cX0_turnFilter 100 = .ok (.if_icmp .ge 70, 3) := by decide +kernel
theorem dX0_turnFilter_103 : decode cX0_turnFilter 103 = .ok (.iconst 0, 1) := by decide +kernel
theorem dX0_turnFilter_104 : decode cX0_turnFilter 104 = .ok (.istore_n 3, 1) := by decide +kernel
theorem dX0_turnFilter_105 : decode cX0_turnFilter 105 = .ok (.iload_n 3, 1) := by decide +kernel
theorem dX0_turnFilter_106 : decode cX0_turnFilter 106 = .ok (.iconst 4, 1) := by decide +kernel
theorem dX0_turnFilter_107 : decode cX0_turnFilter 107 = .ok (.if_icmp .ge 57, 3) := by decide +kernel
theorem dX0_turnFilter_110 : decode cX0_turnFilter 110 = .ok (.aload_n 0, 1) := by decide +kernel
theorem dX0_turnFilter_111 : decode cX0_turnFilter 111 = .ok (.getfield 20, 3) := by decide +kernel
theorem dX0_turnFilter_114 : decode cX0_turnFilter 114 = .ok (.bipush 16, 2) := by decide +kernel
theorem dX0_turnFilter_116 : decode cX0_turnFilter 116 = .ok (.iload_n 1, 1) := by decide +kernel
theorem dX0_turnFilter_117 : decode cX0_turnFilter 117 = .ok (.imul, 1) := by decide +kernel
theorem dX0_turnFilter_118 : decode cX0_turnFilter 118 = .ok (.iconst 4, 1) := by decide +kernel
theorem dX0_turnFilter_119 : decode cX0_turnFilter 119 = .ok (.iload_n 2, 1) := by decide +kernel
theorem dX0_turnFilter_120 : decode cX0_turnFilter 120 = .ok (.imul, 1) := by decide +kernel
theorem dX0_turnFilter_121 : decode cX0_turnFilter 121 = .ok (.iadd, 1) := by decide +kernel
theorem dX0_turnFilter_122 : decode cX0_turnFilter 122 = .ok (.iload_n 3, 1) := by decide +kernel
theorem dX0_turnFilter_123 : decode cX0_turnFilter 123 = .ok (.iadd, 1) := by decide +kernel
theorem dX0_turnFilter_124 : decode cX0_turnFilter 124 = .ok (.aload_n 0, 1) := by decide +kernel
theorem dX0_turnFilter_125 : decode cX0_turnFilter 125 = .ok (.aload_n 0, 1) := by decide +kernel
theorem dX0_turnFilter_126 : decode cX0_turnFilter 126 = .ok (.getfield 33, 3) := by decide +kernel
theorem dX0_turnFilter_129 : decode cX0_turnFilter 129 = .ok (.iconst 4, 1) := by decide +kernel
theorem dX0_turnFilter_130 : decode cX0_turnFilter 130 = .ok (.iload_n 2, 1) := by decide +kernel
theorem dX0_turnFilter_131 : decode cX0_turnFilter 131 = .ok (.imul, 1) := by decide +kernel
theorem dX0_turnFilter_132 : decode cX0_turnFilter 132 = .ok (.iaload, 1) := by decide +kernel
theorem dX0_turnFilter_133 : decode cX0_turnFilter 133 = .ok (.aload_n 0, 1) := by decide +kernel
theorem dX0_turnFilter_134 : decode cX0_turnFilter 134 = .ok (.getfield 33, 3) := by decide +kernel
theorem dX0_turnFilter_137 : decode cX0_turnFilter 137 = .ok (.iconst 4, 1) := by decide +kernel
theorem dX0_turnFilter_138 : decode cX0_turnFilter 138 = .ok (.iload_n 2, 1) := by decide +kernel
theorem dX0_turnFilter_139 : decode cX0_turnFilter 139 = .ok (.imul, 1) := by decide +kernel
theorem dX0_turnFilter_140 : decode cX0_turnFilter 140 = .ok (.iconst 1, 1) := by decide +kernel
theorem dX0_turnFilter_141 : decode cX0_turnFilter 141 = .ok (.iadd, 1) := by decide +kernel
theorem dX0_turnFilter_142 : decode cX0_turnFilter 142 = .ok (.iaload, 1) := by decide +kernel
theorem dX0_turnFilter_143 : decode cX0_turnFilter 143 = .ok (.aload_n 0, 1) := by decide +kernel
theorem dX0_turnFilter_144 : decode cX0_turnFilter 144 = .ok (.getfield 33, 3) := by decide +kernel
theorem dX0_turnFilter_147 : decode cX0_turnFilter 147 = .ok (.iconst 4, 1) := by decide +kernel
theorem dX0_turnFilter_148 : decode cX0_turnFilter 148 = .ok (.iload_n 2, 1) := by decide +kernel
theorem dX0_turnFilter_149 : decode cX0_turnFilter 149 = .ok (.imul, 1) := by decide +kernel
theorem dX0_turnFilter_150 : decode cX0_turnFilter 150 = .ok (.iconst 2, 1) := by decide +kernel
theorem dX0_turnFilter_151 : decode cX0_turnFilter 151 = .ok (.iadd, 1) := by decide +kernel
theorem dX0_turnFilter_152 : decode cX0_turnFilter 152 = .ok (.iaload, 1) := by decide +kernel
theorem dX0_turnFilter_153 : decode cX0_turnFilter 153 = .ok (.iload_n 3, 1) := by decide +kernel
theorem dX0_turnFilter_154 : decode cX0_turnFilter 154 = .ok (.invokevirtual 69, 3) := by decide +kernel
theorem dX0_turnFilter_157 : decode cX0_turnFilter 157 = .ok (.iastore, 1) := by decide +kernel
theorem dX0_turnFilter_158 : decode cX0_turnFilter 158 = .ok (.iinc 3 1, 3) := by decide +kernel
theorem dX0_turnFilter_161 : decode cX0_turnFilter 161 = .ok (.goto (-56), 3) := by decide +kernel
theorem dX0_turnFilter_164 : decode cX0_turnFilter 164 = .ok (.iinc 2 1, 3) := by decide +kernel
theorem dX0_turnFilter_167 : decode cX0_turnFilter 167 = .ok (.goto (-69), 3) := by decide +kernel
theorem dX0_turnFilter_170 : decode cX0_turnFilter 170 = .ok (.return_, 1) := by decide +kernel
theorem dX0_spread_0 : decode cX0_spread 0 = .ok (.iload 4, 2) := by decide +kernel
theorem dX0_spread_2 : decode cX0_spread 2 = .ok (.ifCond .ne 7, 3) := by decide +kernel
theorem dX0_spread_5 : decode cX0_spread 5 = .ok (.iconst 2, 1) := by decide +kernel
theorem dX0_spread_6 : decode cX0_spread 6 = .ok (.iload_n 1, 1) := by decide +kernel
theorem dX0_spread_7 : decode cX0_spread 7 = .ok (.imul, 1) := by decide +kernel
theorem dX0_spread_8 : decode cX0_spread 8 = .ok (.ireturn, 1) := by decide +kernel
theorem dX0_spread_9 : decode cX0_spread 9 = .ok (.iload 4, 2) := by decide +kernel
theorem dX0_spread_11 : decode cX0_spread 11 = .ok (.iconst 3, 1) := by decide +kernel
theorem dX0_spread_12 : decode cX0_spread 12 = .ok (.if_icmp .ne 7, 3) := by decide +kernel
theorem dX0_spread_15 : decode cX0_spread 15 = .ok (.iconst 2, 1) := by decide +kernel
theorem dX0_spread_16 : decode cX0_spread 16 = .ok (.iload_n 3, 1) := by decide +kernel
theorem dX0_spread_17 : decode cX0_spread 17 = .ok (.imul, 1) := by decide +kernel
theorem dX0_spread_18 : decode cX0_spread 18 = .ok (.ireturn, 1) := by decide +kernel
theorem dX0_spread_19 : decode cX0_spread 19 = .ok (.iload 4, 2) := by decide +kernel
theorem dX0_spread_21 : decode cX0_spread 21 = .ok (.iconst 1, 1) := by decide +kernel
theorem dX0_spread_22 : decode cX0_spread 22 = .ok (.if_icmp .ne 11, 3) := by decide +kernel
theorem dX0_spread_25 : decode cX0_spread 25 = .ok (.iload_n 1, 1) := by decide +kernel
theorem dX0_spread_26 : decode cX0_spread 26 = .ok (.iload_n 2, 1) := by decide +kernel
theorem dX0_spread_27 : decode cX0_spread 27 = .ok (.iadd, 1) := by decide +kernel
theorem dX0_spread_28 : decode cX0_spread 28 = .ok (.iload_n 3, 1) := by decide +kernel
theorem dX0_spread_29 : decode cX0_spread 29 = .ok (.iadd, 1) := by decide +kernel
theorem dX0_spread_30 : decode cX0_spread 30 = .ok (.goto 8, 3) := by decide +kernel
theorem dX0_spread_33 : decode cX0_spread 33 = .ok (.iload_n 1, 1) := by decide +kernel
theorem dX0_spread_34 : decode cX0_spread 34 = .ok (.iload_n 2, 1) := by decide +kernel
theorem dX0_spread_35 : decode cX0_spread 35 = .ok (.isub, 1) := by decide +kernel
theorem dX0_spread_36 : decode cX0_spread 36 = .ok (.iload_n 3, 1) := by decide +kernel
theorem dX0_spread_37 : decode cX0_spread 37 = .ok (.iadd, 1) := by decide +kernel
theorem dX0_spread_38 : decode cX0_spread 38 = .ok (.ireturn, 1) := by decide +kernel
theorem dX0_loadTile_0 : decode cX0_loadTile 0 = .ok (.iconst 0, 1) := by decide +kernel
theorem dX0_loadTile_1 : decode cX0_loadTile 1 = .ok (.istore_n 3, 1) := by decide +kernel
theorem dX0_loadTile_2 : decode cX0_loadTile 2 = .ok (.iload_n 3, 1) := by decide +kernel
theorem dX0_loadTile_3 : decode cX0_loadTile 3 = .ok (.bipush 16, 2) := by decide +kernel
theorem dX0_loadTile_5 : decode cX0_loadTile 5 = .ok (.if_icmp .ge 82, 3) := by decide +kernel
theorem dX0_loadTile_8 : decode cX0_loadTile 8 = .ok (.iload_n 1, 1) := by decide +kernel
theorem dX0_loadTile_9 : decode cX0_loadTile 9 = .ok (.iload_n 3, 1) := by decide +kernel
theorem dX0_loadTile_10 : decode cX0_loadTile 10 = .ok (.iconst 4, 1) := by decide +kernel
theorem dX0_loadTile_11 : decode cX0_loadTile 11 = .ok (.irem, 1) := by decide +kernel
theorem dX0_loadTile_12 : decode cX0_loadTile 12 = .ok (.iadd, 1) := by decide +kernel
theorem dX0_loadTile_13 : decode cX0_loadTile 13 = .ok (.istore 4, 2) := by decide +kernel
theorem dX0_loadTile_15 : decode cX0_loadTile 15 = .ok (.iload_n 2, 1) := by decide +kernel
theorem dX0_loadTile_16 : decode cX0_loadTile 16 = .ok (.iload_n 3, 1) := by decide +kernel
theorem dX0_loadTile_17 : decode cX0_loadTile 17 = .ok (.iconst 4, 1) := by decide +kernel
theorem dX0_loadTile_18 : decode cX0_loadTile 18 = .ok (.idiv, 1) := by decide +kernel
theorem dX0_loadTile_19 : decode cX0_loadTile 19 = .ok (.iadd, 1) := by decide +kernel
theorem dX0_loadTile_20 : decode cX0_loadTile 20 = .ok (.istore 5, 2) := by decide +kernel
theorem dX0_loadTile_22 : decode cX0_loadTile 22 = .ok (.iload 4, 2) := by decide +kernel
theorem dX0_loadTile_24 : decode cX0_loadTile 24 = .ok (.ifCond .lt 26, 3) := by decide +kernel
theorem dX0_loadTile_27 : decode cX0_loadTile 27 = .ok (.iload 4, 2) := by decide +kernel
theorem dX0_loadTile_29 : decode cX0_loadTile 29 = .ok (.bipush 10, 2) := by decide +kernel
theorem dX0_loadTile_31 : decode cX0_loadTile 31 = .ok (.if_icmp .ge 19, 3) := by decide +kernel
theorem dX0_loadTile_34 : decode cX0_loadTile 34 = .ok (.iload 5, 2) := by decide +kernel
theorem dX0_loadTile_36 : decode cX0_loadTile 36 = .ok (.ifCond .lt 14, 3) := by decide +kernel
theorem dX0_loadTile_39 : decode cX0_loadTile 39 = .ok (.iload 5, 2) := by decide +kernel
theorem dX0_loadTile_41 : decode cX0_loadTile 41 = .ok (.bipush 10, 2) := by decide +kernel
theorem dX0_loadTile_43 : decode cX0_loadTile 43 = .ok (.if_icmp .ge 7, 3) := by decide +kernel
theorem dX0_loadTile_46 : decode cX0_loadTile 46 = .ok (.iconst 1, 1) := by decide +kernel
theorem dX0_loadTile_47 : decode cX0_loadTile 47 = .ok (.goto 4, 3) := by decide +kernel
theorem dX0_loadTile_50 : decode cX0_loadTile 50 = .ok (.iconst 0, 1) := by decide +kernel
theorem dX0_loadTile_51 : decode cX0_loadTile 51 = .ok (.istore 6, 2) := by decide +kernel
theorem dX0_loadTile_53 : decode cX0_loadTile 53 = .ok (.aload_n 0, 1) := by decide +kernel
theorem dX0_loadTile_54 : decode cX0_loadTile 54 = .ok (.getfield 30, 3) := by decide +kernel
theorem dX0_loadTile_57 : decode cX0_loadTile 57 = .ok (.iload_n 3, 1) := by decide +kernel
theorem dX0_loadTile_58 : decode cX0_loadTile 58 = .ok (.iload 6, 2) := by decide +kernel
theorem dX0_loadTile_60 : decode cX0_loadTile 60 = .ok (.ifCond .eq 19, 3) := by decide +kernel
theorem dX0_loadTile_63 : decode cX0_loadTile 63 = .ok (.aload_n 0, 1) := by decide +kernel
theorem dX0_loadTile_64 : decode cX0_loadTile 64 = .ok (.getfield 24, 3) := by decide +kernel
theorem dX0_loadTile_67 : decode cX0_loadTile 67 = .ok (.bipush 10, 2) := by decide +kernel
theorem dX0_loadTile_69 : decode cX0_loadTile 69 = .ok (.iload 5, 2) := by decide +kernel
theorem dX0_loadTile_71 : decode cX0_loadTile 71 = .ok (.imul, 1) := by decide +kernel
theorem dX0_loadTile_72 : decode cX0_loadTile 72 = .ok (.iload 4, 2) := by decide +kernel
theorem dX0_loadTile_74 : decode cX0_loadTile 74 = .ok (.iadd, 1) := by decide +kernel
theorem dX0_loadTile_75 : decode cX0_loadTile 75 = .ok (.iaload, 1) := by decide +kernel
theorem dX0_loadTile_76 : decode cX0_loadTile 76 = .ok (.goto 4, 3) := by decide +kernel
theorem dX0_loadTile_79 : decode cX0_loadTile 79 = .ok (.iconst 0, 1) := by decide +kernel
theorem dX0_loadTile_80 : decode cX0_loadTile 80 = .ok (.iastore, 1) := by decide +kernel
theorem dX0_loadTile_81 : decode cX0_loadTile 81 = .ok (.iinc 3 1, 3) := by decide +kernel
theorem dX0_loadTile_84 : decode cX0_loadTile 84 = .ok (.goto (-82), 3) := by decide +kernel
theorem dX0_loadTile_87 : decode cX0_loadTile 87 = .ok (.return_, 1) := by decide +kernel
theorem dX0_turnTile_0 : decode cX0_turnTile 0 = .ok (.iconst 0, 1) := by decide +kernel
theorem dX0_turnTile_1 : decode cX0_turnTile 1 = .ok (.istore_n 1, 1) := by decide +kernel
theorem dX0_turnTile_2 : decode cX0_turnTile 2 = .ok (.iload_n 1, 1) := by decide +kernel
theorem dX0_turnTile_3 : decode cX0_turnTile 3 = .ok (.iconst 4, 1) := by decide +kernel
theorem dX0_turnTile_4 : decode cX0_turnTile 4 = .ok (.if_icmp .ge 69, 3) := by decide +kernel
theorem dX0_turnTile_7 : decode cX0_turnTile 7 = .ok (.iconst 0, 1) := by decide +kernel
theorem dX0_turnTile_8 : decode cX0_turnTile 8 = .ok (.istore_n 2, 1) := by decide +kernel
theorem dX0_turnTile_9 : decode cX0_turnTile 9 = .ok (.iload_n 2, 1) := by decide +kernel
theorem dX0_turnTile_10 : decode cX0_turnTile 10 = .ok (.iconst 4, 1) := by decide +kernel
theorem dX0_turnTile_11 : decode cX0_turnTile 11 = .ok (.if_icmp .ge 56, 3) := by decide +kernel
theorem dX0_turnTile_14 : decode cX0_turnTile 14 = .ok (.aload_n 0, 1) := by decide +kernel
theorem dX0_turnTile_15 : decode cX0_turnTile 15 = .ok (.getfield 33, 3) := by decide +kernel
theorem dX0_turnTile_18 : decode cX0_turnTile 18 = .ok (.iconst 4, 1) := by decide +kernel
theorem dX0_turnTile_19 : decode cX0_turnTile 19 = .ok (.iload_n 2, 1) := by decide +kernel
theorem dX0_turnTile_20 : decode cX0_turnTile 20 = .ok (.imul, 1) := by decide +kernel
theorem dX0_turnTile_21 : decode cX0_turnTile 21 = .ok (.iload_n 1, 1) := by decide +kernel
theorem dX0_turnTile_22 : decode cX0_turnTile 22 = .ok (.iadd, 1) := by decide +kernel
theorem dX0_turnTile_23 : decode cX0_turnTile 23 = .ok (.aload_n 0, 1) := by decide +kernel
theorem dX0_turnTile_24 : decode cX0_turnTile 24 = .ok (.aload_n 0, 1) := by decide +kernel
theorem dX0_turnTile_25 : decode cX0_turnTile 25 = .ok (.getfield 30, 3) := by decide +kernel
theorem dX0_turnTile_28 : decode cX0_turnTile 28 = .ok (.iload_n 1, 1) := by decide +kernel
theorem dX0_turnTile_29 : decode cX0_turnTile 29 = .ok (.iaload, 1) := by decide +kernel
theorem dX0_turnTile_30 : decode cX0_turnTile 30 = .ok (.aload_n 0, 1) := by decide +kernel
theorem dX0_turnTile_31 : decode cX0_turnTile 31 = .ok (.getfield 30, 3) := by decide +kernel
theorem dX0_turnTile_34 : decode cX0_turnTile 34 = .ok (.iconst 4, 1) := by decide +kernel
theorem dX0_turnTile_35 : decode cX0_turnTile 35 = .ok (.iload_n 1, 1) := by decide +kernel
theorem dX0_turnTile_36 : decode cX0_turnTile 36 = .ok (.iadd, 1) := by decide +kernel
theorem dX0_turnTile_37 : decode cX0_turnTile 37 = .ok (.iaload, 1) := by decide +kernel
theorem dX0_turnTile_38 : decode cX0_turnTile 38 = .ok (.aload_n 0, 1) := by decide +kernel
theorem dX0_turnTile_39 : decode cX0_turnTile 39 = .ok (.getfield 30, 3) := by decide +kernel
theorem dX0_turnTile_42 : decode cX0_turnTile 42 = .ok (.bipush 8, 2) := by decide +kernel
theorem dX0_turnTile_44 : decode cX0_turnTile 44 = .ok (.iload_n 1, 1) := by decide +kernel
theorem dX0_turnTile_45 : decode cX0_turnTile 45 = .ok (.iadd, 1) := by decide +kernel
theorem dX0_turnTile_46 : decode cX0_turnTile 46 = .ok (.iaload, 1) := by decide +kernel
theorem dX0_turnTile_47 : decode cX0_turnTile 47 = .ok (.aload_n 0, 1) := by decide +kernel
theorem dX0_turnTile_48 : decode cX0_turnTile 48 = .ok (.getfield 30, 3) := by decide +kernel
theorem dX0_turnTile_51 : decode cX0_turnTile 51 = .ok (.bipush 12, 2) := by decide +kernel
theorem dX0_turnTile_53 : decode cX0_turnTile 53 = .ok (.iload_n 1, 1) := by decide +kernel
theorem dX0_turnTile_54 : decode cX0_turnTile 54 = .ok (.iadd, 1) := by decide +kernel
theorem dX0_turnTile_55 : decode cX0_turnTile 55 = .ok (.iaload, 1) := by decide +kernel
theorem dX0_turnTile_56 : decode cX0_turnTile 56 = .ok (.iload_n 2, 1) := by decide +kernel
theorem dX0_turnTile_57 : decode cX0_turnTile 57 = .ok (.invokevirtual 86, 3) := by decide +kernel
theorem dX0_turnTile_60 : decode cX0_turnTile 60 = .ok (.iastore, 1) := by decide +kernel
theorem dX0_turnTile_61 : decode cX0_turnTile 61 = .ok (.iinc 2 1, 3) := by decide +kernel
theorem dX0_turnTile_64 : decode cX0_turnTile 64 = .ok (.goto (-55), 3) := by decide +kernel
theorem dX0_turnTile_67 : decode cX0_turnTile 67 = .ok (.iinc 1 1, 3) := by decide +kernel
theorem dX0_turnTile_70 : decode cX0_turnTile 70 = .ok (.goto (-68), 3) := by decide +kernel
theorem dX0_turnTile_73 : decode cX0_turnTile 73 = .ok (.iconst 0, 1) := by decide +kernel
theorem dX0_turnTile_74 : decode cX0_turnTile 74 = .ok (.istore_n 1, 1) := by decide +kernel
theorem dX0_turnTile_75 : decode cX0_turnTile 75 = .ok (.iload_n 1, 1) := by decide +kernel
theorem dX0_turnTile_76 : decode cX0_turnTile 76 = .ok (.iconst 4, 1) := by decide +kernel
theorem dX0_turnTile_77 : decode cX0_turnTile 77 = .ok (.if_icmp .ge 75, 3) := by decide +kernel
theorem dX0_turnTile_80 : decode cX0_turnTile 80 = .ok (.iconst 0, 1) := by decide +kernel
theorem dX0_turnTile_81 : decode cX0_turnTile 81 = .ok (.istore_n 2, 1) := by decide +kernel
theorem dX0_turnTile_82 : decode cX0_turnTile 82 = .ok (.iload_n 2, 1) := by decide +kernel
theorem dX0_turnTile_83 : decode cX0_turnTile 83 = .ok (.iconst 4, 1) := by decide +kernel
theorem dX0_turnTile_84 : decode cX0_turnTile 84 = .ok (.if_icmp .ge 62, 3) := by decide +kernel
theorem dX0_turnTile_87 : decode cX0_turnTile 87 = .ok (.aload_n 0, 1) := by decide +kernel
theorem dX0_turnTile_88 : decode cX0_turnTile 88 = .ok (.getfield 30, 3) := by decide +kernel
theorem dX0_turnTile_91 : decode cX0_turnTile 91 = .ok (.iconst 4, 1) := by decide +kernel
theorem dX0_turnTile_92 : decode cX0_turnTile 92 = .ok (.iload_n 1, 1) := by decide +kernel
theorem dX0_turnTile_93 : decode cX0_turnTile 93 = .ok (.imul, 1) := by decide +kernel
theorem dX0_turnTile_94 : decode cX0_turnTile 94 = .ok (.iload_n 2, 1) := by decide +kernel
theorem dX0_turnTile_95 : decode cX0_turnTile 95 = .ok (.iadd, 1) := by decide +kernel
theorem dX0_turnTile_96 : decode cX0_turnTile 96 = .ok (.aload_n 0, 1) := by decide +kernel
theorem dX0_turnTile_97 : decode cX0_turnTile 97 = .ok (.aload_n 0, 1) := by decide +kernel
theorem dX0_turnTile_98 : decode cX0_turnTile 98 = .ok (.getfield 33, 3) := by decide +kernel
theorem dX0_turnTile_101 : decode cX0_turnTile 101 = .ok (.iconst 4, 1) := by decide +kernel
theorem dX0_turnTile_102 : decode cX0_turnTile 102 = .ok (.iload_n 1, 1) := by decide +kernel
theorem dX0_turnTile_103 : decode cX0_turnTile 103 = .ok (.imul, 1) := by decide +kernel
theorem dX0_turnTile_104 : decode cX0_turnTile 104 = .ok (.iaload, 1) := by decide +kernel
theorem dX0_turnTile_105 : decode cX0_turnTile 105 = .ok (.aload_n 0, 1) := by decide +kernel
theorem dX0_turnTile_106 : decode cX0_turnTile 106 = .ok (.getfield 33, 3) := by decide +kernel
theorem dX0_turnTile_109 : decode cX0_turnTile 109 = .ok (.iconst 4, 1) := by decide +kernel
theorem dX0_turnTile_110 : decode cX0_turnTile 110 = .ok (.iload_n 1, 1) := by decide +kernel
theorem dX0_turnTile_111 : decode cX0_turnTile 111 = .ok (.imul, 1) := by decide +kernel
theorem dX0_turnTile_112 : decode cX0_turnTile 112 = .ok (.iconst 1, 1) := by decide +kernel
theorem dX0_turnTile_113 : decode cX0_turnTile 113 = .ok (.iadd, 1) := by decide +kernel
theorem dX0_turnTile_114 : decode cX0_turnTile 114 = .ok (.iaload, 1) := by decide +kernel
theorem dX0_turnTile_115 : decode cX0_turnTile 115 = .ok (.aload_n 0, 1) := by decide +kernel
theorem dX0_turnTile_116 : decode cX0_turnTile 116 = .ok (.getfield 33, 3) := by decide +kernel
theorem dX0_turnTile_119 : decode cX0_turnTile 119 = .ok (.iconst 4, 1) := by decide +kernel
theorem dX0_turnTile_120 : decode cX0_turnTile 120 = .ok (.iload_n 1, 1) := by decide +kernel
theorem dX0_turnTile_121 : decode cX0_turnTile 121 = .ok (.imul, 1) := by decide +kernel
theorem dX0_turnTile_122 : decode cX0_turnTile 122 = .ok (.iconst 2, 1) := by decide +kernel
theorem dX0_turnTile_123 : decode cX0_turnTile 123 = .ok (.iadd, 1) := by decide +kernel
theorem dX0_turnTile_124 : decode cX0_turnTile 124 = .ok (.iaload, 1) := by decide +kernel
theorem dX0_turnTile_125 : decode cX0_turnTile 125 = .ok (.aload_n 0, 1) := by decide +kernel
theorem dX0_turnTile_126 : decode cX0_turnTile 126 = .ok (.getfield 33, 3) := by decide +kernel
theorem dX0_turnTile_129 : decode cX0_turnTile 129 = .ok (.iconst 4, 1) := by decide +kernel
theorem dX0_turnTile_130 : decode cX0_turnTile 130 = .ok (.iload_n 1, 1) := by decide +kernel
theorem dX0_turnTile_131 : decode cX0_turnTile 131 = .ok (.imul, 1) := by decide +kernel
theorem dX0_turnTile_132 : decode cX0_turnTile 132 = .ok (.iconst 3, 1) := by decide +kernel
theorem dX0_turnTile_133 : decode cX0_turnTile 133 = .ok (.iadd, 1) := by decide +kernel
theorem dX0_turnTile_134 : decode cX0_turnTile 134 = .ok (.iaload, 1) := by decide +kernel
theorem dX0_turnTile_135 : decode cX0_turnTile 135 = .ok (.iload_n 2, 1) := by decide +kernel
theorem dX0_turnTile_136 : decode cX0_turnTile 136 = .ok (.invokevirtual 86, 3) := by decide +kernel
theorem dX0_turnTile_139 : decode cX0_turnTile 139 = .ok (.iastore, 1) := by decide +kernel
theorem dX0_turnTile_140 : decode cX0_turnTile 140 = .ok (.iinc 2 1, 3) := by decide +kernel
theorem dX0_turnTile_143 : decode cX0_turnTile 143 = .ok (.goto (-61), 3) := by decide +kernel
theorem dX0_turnTile_146 : decode cX0_turnTile 146 = .ok (.iinc 1 1, 3) := by decide +kernel
theorem dX0_turnTile_149 : decode cX0_turnTile 149 = .ok (.goto (-74), 3) := by decide +kernel
theorem dX0_turnTile_152 : decode cX0_turnTile 152 = .ok (.return_, 1) := by decide +kernel
theorem dX0_mixed_0 : decode cX0_mixed 0 = .ok (.iload 5, 2) := by decide +kernel
theorem dX0_mixed_2 : decode cX0_mixed 2 = .ok (.ifCond .ne 7, 3) := by decide +kernel
theorem dX0_mixed_5 : decode cX0_mixed 5 = .ok (.iload_n 1, 1) := by decide +kernel
theorem dX0_mixed_6 : decode cX0_mixed 6 = .ok (.iload_n 3, 1) := by decide +kernel
theorem dX0_mixed_7 : decode cX0_mixed 7 = .ok (.isub, 1) := by decide +kernel
theorem dX0_mixed_8 : decode cX0_mixed 8 = .ok (.ireturn, 1) := by decide +kernel
theorem dX0_mixed_9 : decode cX0_mixed 9 = .ok (.iload 5, 2) := by decide +kernel
theorem dX0_mixed_11 : decode cX0_mixed 11 = .ok (.iconst 1, 1) := by decide +kernel
theorem dX0_mixed_12 : decode cX0_mixed 12 = .ok (.if_icmp .ne 7, 3) := by decide +kernel
theorem dX0_mixed_15 : decode cX0_mixed 15 = .ok (.iload_n 2, 1) := by decide +kernel
theorem dX0_mixed_16 : decode cX0_mixed 16 = .ok (.iload_n 3, 1) := by decide +kernel
theorem dX0_mixed_17 : decode cX0_mixed 17 = .ok (.iadd, 1) := by decide +kernel
theorem dX0_mixed_18 : decode cX0_mixed 18 = .ok (.ireturn, 1) := by decide +kernel
theorem dX0_mixed_19 : decode cX0_mixed 19 = .ok (.iload 5, 2) := by decide +kernel
theorem dX0_mixed_21 : decode cX0_mixed 21 = .ok (.iconst 2, 1) := by decide +kernel
theorem dX0_mixed_22 : decode cX0_mixed 22 = .ok (.if_icmp .ne 9, 3) := by decide +kernel
theorem dX0_mixed_25 : decode cX0_mixed 25 = .ok (.iload_n 3, 1) := by decide +kernel
theorem dX0_mixed_26 : decode cX0_mixed 26 = .ok (.iload_n 2, 1) := by decide +kernel
theorem dX0_mixed_27 : decode cX0_mixed 27 = .ok (.isub, 1) := by decide +kernel
theorem dX0_mixed_28 : decode cX0_mixed 28 = .ok (.goto 7, 3) := by decide +kernel
theorem dX0_mixed_31 : decode cX0_mixed 31 = .ok (.iload_n 2, 1) := by decide +kernel
theorem dX0_mixed_32 : decode cX0_mixed 32 = .ok (.iload 4, 2) := by decide +kernel
theorem dX0_mixed_34 : decode cX0_mixed 34 = .ok (.isub, 1) := by decide +kernel
theorem dX0_mixed_35 : decode cX0_mixed 35 = .ok (.ireturn, 1) := by decide +kernel
theorem dX0_gatherTile_0 : decode cX0_gatherTile 0 = .ok (.iconst 0, 1) := by decide +kernel
theorem dX0_gatherTile_1 : decode cX0_gatherTile 1 = .ok (.istore_n 1, 1) := by decide +kernel
theorem dX0_gatherTile_2 : decode cX0_gatherTile 2 = .ok (.iload_n 1, 1) := by decide +kernel
theorem dX0_gatherTile_3 : decode cX0_gatherTile 3 = .ok (.iconst 4, 1) := by decide +kernel
theorem dX0_gatherTile_4 : decode cX0_gatherTile 4 = .ok (.if_icmp .ge 76, 3) := by decide +kernel
theorem dX0_gatherTile_7 : decode cX0_gatherTile 7 = .ok (.aload_n 0, 1) := by decide +kernel
theorem dX0_gatherTile_8 : decode cX0_gatherTile 8 = .ok (.getfield 33, 3) := by decide +kernel
theorem dX0_gatherTile_11 : decode cX0_gatherTile 11 = .ok (.iload_n 1, 1) := by decide +kernel
theorem dX0_gatherTile_12 : decode cX0_gatherTile 12 = .ok (.aload_n 0, 1) := by decide +kernel
theorem dX0_gatherTile_13 : decode cX0_gatherTile 13 = .ok (.getfield 30, 3) := by decide +kernel
theorem dX0_gatherTile_16 : decode cX0_gatherTile 16 = .ok (.iload_n 1, 1) := by decide +kernel
theorem dX0_gatherTile_17 : decode cX0_gatherTile 17 = .ok (.iaload, 1) := by decide +kernel
theorem dX0_gatherTile_18 : decode cX0_gatherTile 18 = .ok (.aload_n 0, 1) := by decide +kernel
theorem dX0_gatherTile_19 : decode cX0_gatherTile 19 = .ok (.getfield 30, 3) := by decide +kernel
theorem dX0_gatherTile_22 : decode cX0_gatherTile 22 = .ok (.iconst 4, 1) := by decide +kernel
theorem dX0_gatherTile_23 : decode cX0_gatherTile 23 = .ok (.iload_n 1, 1) := by decide +kernel
theorem dX0_gatherTile_24 : decode cX0_gatherTile 24 = .ok (.iadd, 1) := by decide +kernel
theorem dX0_gatherTile_25 : decode cX0_gatherTile 25 = .ok (.iaload, 1) := by decide +kernel
theorem dX0_gatherTile_26 : decode cX0_gatherTile 26 = .ok (.iadd, 1) := by decide +kernel
theorem dX0_gatherTile_27 : decode cX0_gatherTile 27 = .ok (.aload_n 0, 1) := by decide +kernel
theorem dX0_gatherTile_28 : decode cX0_gatherTile 28 = .ok (.getfield 30, 3) := by decide +kernel
theorem dX0_gatherTile_31 : decode cX0_gatherTile 31 = .ok (.bipush 8, 2) := by decide +kernel
theorem dX0_gatherTile_33 : decode cX0_gatherTile 33 = .ok (.iload_n 1, 1) := by decide +kernel
theorem dX0_gatherTile_34 : decode cX0_gatherTile 34 = .ok (.iadd, 1) := by decide +kernel
theorem dX0_gatherTile_35 : decode cX0_gatherTile 35 = .ok (.iaload, 1) := by decide +kernel
theorem dX0_gatherTile_36 : decode cX0_gatherTile 36 = .ok (.iadd, 1) := by decide +kernel
theorem dX0_gatherTile_37 : decode cX0_gatherTile 37 = .ok (.iastore, 1) := by decide +kernel
theorem dX0_gatherTile_38 : decode cX0_gatherTile 38 = .ok (.aload_n 0, 1) := by decide +kernel
theorem dX0_gatherTile_39 : decode cX0_gatherTile 39 = .ok (.getfield 33, 3) := by decide +kernel
theorem dX0_gatherTile_42 : decode cX0_gatherTile 42 = .ok (.iconst 4, 1) := by decide +kernel
theorem dX0_gatherTile_43 : decode cX0_gatherTile 43 = .ok (.iload_n 1, 1) := by decide +kernel
theorem dX0_gatherTile_44 : decode cX0_gatherTile 44 = .ok (.iadd, 1) := by decide +kernel
theorem dX0_gatherTile_45 : decode cX0_gatherTile 45 = .ok (.aload_n 0, 1) := by decide +kernel
theorem dX0_gatherTile_46 : decode cX0_gatherTile 46 = .ok (.getfield 30, 3) := by decide +kernel
theorem dX0_gatherTile_49 : decode cX0_gatherTile 49 = .ok (.iconst 4, 1) := by decide +kernel
theorem dX0_gatherTile_50 : decode cX0_gatherTile 50 = .ok (.iload_n 1, 1) := by decide +kernel
theorem dX0_gatherTile_51 : decode cX0_gatherTile 51 = .ok (.iadd, 1) := by decide +kernel
theorem dX0_gatherTile_52 : decode cX0_gatherTile 52 = .ok (.iaload, 1) := by decide +kernel
theorem dX0_gatherTile_53 : decode cX0_gatherTile 53 = .ok (.aload_n 0, 1) := by decide +kernel
theorem dX0_gatherTile_54 : decode cX0_gatherTile 54 = .ok (.getfield 30, 3) := by decide +kernel
theorem dX0_gatherTile_57 : decode cX0_gatherTile 57 = .ok (.bipush 8, 2) := by decide +kernel
theorem dX0_gatherTile_59 : decode cX0_gatherTile 59 = .ok (.iload_n 1, 1) := by decide +kernel
theorem dX0_gatherTile_60 : decode cX0_gatherTile 60 = .ok (.iadd, 1) := by decide +kernel
theorem dX0_gatherTile_61 : decode cX0_gatherTile 61 = .ok (.iaload, 1) := by decide +kernel
theorem dX0_gatherTile_62 : decode cX0_gatherTile 62 = .ok (.isub, 1) := by decide +kernel
theorem dX0_gatherTile_63 : decode cX0_gatherTile 63 = .ok (.aload_n 0, 1) := by decide +kernel
theorem dX0_gatherTile_64 : decode cX0_gatherTile 64 = .ok (.getfield 30, 3) := by decide +kernel
theorem dX0_gatherTile_67 : decode cX0_gatherTile 67 = .ok (.bipush 12, 2) := by decide +kernel
theorem dX0_gatherTile_69 : decode cX0_gatherTile 69 = .ok (.iload_n 1, 1) := by decide +kernel
theorem dX0_gatherTile_70 : decode cX0_gatherTile 70 = .ok (.iadd, 1) := by decide +kernel
theorem dX0_gatherTile_71 : decode cX0_gatherTile 71 = .ok (.iaload, 1) := by decide +kernel
theorem dX0_gatherTile_72 : decode cX0_gatherTile 72 = .ok (.isub, 1) := by decide +kernel
theorem dX0_gatherTile_73 : decode cX0_gatherTile 73 = .ok (.iastore, 1) := by decide +kernel
theorem dX0_gatherTile_74 : decode cX0_gatherTile 74 = .ok (.iinc 1 1, 3) := by decide +kernel
theorem dX0_gatherTile_77 : decode cX0_gatherTile 77 = .ok (.goto (-75), 3) := by decide +kernel
theorem dX0_gatherTile_80 : decode cX0_gatherTile 80 = .ok (.iconst 0, 1) := by decide +kernel
theorem dX0_gatherTile_81 : decode cX0_gatherTile 81 = .ok (.istore_n 1, 1) := by decide +kernel
theorem dX0_gatherTile_82 : decode cX0_gatherTile 82 = .ok (.iload_n 1, 1) := by decide +kernel
end
section
set_option maxRecDepth 100000
theorem dX0_gatherTile_83 : decode cX0_gatherTile 83 = .ok (.iconst 2, 1) := by decide +kernel
theorem dX0_gatherTile_84 : decode cX0_gatherTile 84 = .ok (.if_icmp .ge 81, 3) := by decide +kernel
theorem dX0_gatherTile_87 : decode cX0_gatherTile 87 = .ok (.iconst 4, 1) := by decide +kernel
theorem dX0_gatherTile_88 : decode cX0_gatherTile 88 = .ok (.iload_n 1, 1) := by decide +kernel
theorem dX0_gatherTile_89 : decode cX0_gatherTile 89 = .ok (.imul, 1) := by decide +kernel
theorem dX0_gatherTile_90 : decode cX0_gatherTile 90 = .ok (.istore_n 2, 1) := by decide +kernel
theorem dX0_gatherTile_91 : decode cX0_gatherTile 91 = .ok (.aload_n 0, 1) := by decide +kernel
theorem dX0_gatherTile_92 : decode cX0_gatherTile 92 = .ok (.getfield 36, 3) := by decide +kernel
theorem dX0_gatherTile_95 : decode cX0_gatherTile 95 = .ok (.iconst 2, 1) := by decide +kernel
theorem dX0_gatherTile_96 : decode cX0_gatherTile 96 = .ok (.iload_n 1, 1) := by decide +kernel
theorem dX0_gatherTile_97 : decode cX0_gatherTile 97 = .ok (.imul, 1) := by decide +kernel
theorem dX0_gatherTile_98 : decode cX0_gatherTile 98 = .ok (.aload_n 0, 1) := by decide +kernel
theorem dX0_gatherTile_99 : decode cX0_gatherTile 99 = .ok (.getfield 33, 3) := by decide +kernel
theorem dX0_gatherTile_102 : decode cX0_gatherTile 102 = .ok (.iload_n 2, 1) := by decide +kernel
theorem dX0_gatherTile_103 : decode cX0_gatherTile 103 = .ok (.iaload, 1) := by decide +kernel
theorem dX0_gatherTile_104 : decode cX0_gatherTile 104 = .ok (.aload_n 0, 1) := by decide +kernel
theorem dX0_gatherTile_105 : decode cX0_gatherTile 105 = .ok (.getfield 33, 3) := by decide +kernel
theorem dX0_gatherTile_108 : decode cX0_gatherTile 108 = .ok (.iload_n 2, 1) := by decide +kernel
theorem dX0_gatherTile_109 : decode cX0_gatherTile 109 = .ok (.iconst 1, 1) := by decide +kernel
theorem dX0_gatherTile_110 : decode cX0_gatherTile 110 = .ok (.iadd, 1) := by decide +kernel
theorem dX0_gatherTile_111 : decode cX0_gatherTile 111 = .ok (.iaload, 1) := by decide +kernel
theorem dX0_gatherTile_112 : decode cX0_gatherTile 112 = .ok (.iadd, 1) := by decide +kernel
theorem dX0_gatherTile_113 : decode cX0_gatherTile 113 = .ok (.aload_n 0, 1) := by decide +kernel
theorem dX0_gatherTile_114 : decode cX0_gatherTile 114 = .ok (.getfield 33, 3) := by decide +kernel
theorem dX0_gatherTile_117 : decode cX0_gatherTile 117 = .ok (.iload_n 2, 1) := by decide +kernel
theorem dX0_gatherTile_118 : decode cX0_gatherTile 118 = .ok (.iconst 2, 1) := by decide +kernel
theorem dX0_gatherTile_119 : decode cX0_gatherTile 119 = .ok (.iadd, 1) := by decide +kernel
theorem dX0_gatherTile_120 : decode cX0_gatherTile 120 = .ok (.iaload, 1) := by decide +kernel
theorem dX0_gatherTile_121 : decode cX0_gatherTile 121 = .ok (.iadd, 1) := by decide +kernel
theorem dX0_gatherTile_122 : decode cX0_gatherTile 122 = .ok (.iastore, 1) := by decide +kernel
theorem dX0_gatherTile_123 : decode cX0_gatherTile 123 = .ok (.aload_n 0, 1) := by decide +kernel
theorem dX0_gatherTile_124 : decode cX0_gatherTile 124 = .ok (.getfield 36, 3) := by decide +kernel
theorem dX0_gatherTile_127 : decode cX0_gatherTile 127 = .ok (.iconst 2, 1) := by decide +kernel
theorem dX0_gatherTile_128 : decode cX0_gatherTile 128 = .ok (.iload_n 1, 1) := by decide +kernel
theorem dX0_gatherTile_129 : decode cX0_gatherTile 129 = .ok (.imul, 1) := by decide +kernel
theorem dX0_gatherTile_130 : decode cX0_gatherTile 130 = .ok (.iconst 1, 1) := by decide +kernel
theorem dX0_gatherTile_131 : decode cX0_gatherTile 131 = .ok (.iadd, 1) := by decide +kernel
theorem dX0_gatherTile_132 : decode cX0_gatherTile 132 = .ok (.aload_n 0, 1) := by decide +kernel
theorem dX0_gatherTile_133 : decode cX0_gatherTile 133 = .ok (.getfield 33, 3) := by decide +kernel
theorem dX0_gatherTile_136 : decode cX0_gatherTile 136 = .ok (.iload_n 2, 1) := by decide +kernel
theorem dX0_gatherTile_137 : decode cX0_gatherTile 137 = .ok (.iconst 1, 1) := by decide +kernel
theorem dX0_gatherTile_138 : decode cX0_gatherTile 138 = .ok (.iadd, 1) := by decide +kernel
theorem dX0_gatherTile_139 : decode cX0_gatherTile 139 = .ok (.iaload, 1) := by decide +kernel
theorem dX0_gatherTile_140 : decode cX0_gatherTile 140 = .ok (.aload_n 0, 1) := by decide +kernel
theorem dX0_gatherTile_141 : decode cX0_gatherTile 141 = .ok (.getfield 33, 3) := by decide +kernel
theorem dX0_gatherTile_144 : decode cX0_gatherTile 144 = .ok (.iload_n 2, 1) := by decide +kernel
theorem dX0_gatherTile_145 : decode cX0_gatherTile 145 = .ok (.iconst 2, 1) := by decide +kernel
theorem dX0_gatherTile_146 : decode cX0_gatherTile 146 = .ok (.iadd, 1) := by decide +kernel
theorem dX0_gatherTile_147 : decode cX0_gatherTile 147 = .ok (.iaload, 1) := by decide +kernel
theorem dX0_gatherTile_148 : decode cX0_gatherTile 148 = .ok (.isub, 1) := by decide +kernel
theorem dX0_gatherTile_149 : decode cX0_gatherTile 149 = .ok (.aload_n 0, 1) := by decide +kernel
theorem dX0_gatherTile_150 : decode cX0_gatherTile 150 = .ok (.getfield 33, 3) := by decide +kernel
theorem dX0_gatherTile_153 : decode cX0_gatherTile 153 = .ok (.iload_n 2, 1) := by decide +kernel
theorem dX0_gatherTile_154 : decode cX0_gatherTile 154 = .ok (.iconst 3, 1) := by decide +kernel
theorem dX0_gatherTile_155 : decode cX0_gatherTile 155 = .ok (.iadd, 1) := by decide +kernel
theorem dX0_gatherTile_156 : decode cX0_gatherTile 156 = .ok (.iaload, 1) := by decide +kernel
theorem dX0_gatherTile_157 : decode cX0_gatherTile 157 = .ok (.isub, 1) := by decide +kernel
theorem dX0_gatherTile_158 : decode cX0_gatherTile 158 = .ok (.iastore, 1) := by decide +kernel
theorem dX0_gatherTile_159 : decode cX0_gatherTile 159 = .ok (.iinc 1 1, 3) := by decide +kernel
theorem dX0_gatherTile_162 : decode cX0_gatherTile 162 = .ok (.goto (-80), 3) := by decide +kernel
theorem dX0_gatherTile_165 : decode cX0_gatherTile 165 = .ok (.return_, 1) := by decide +kernel
theorem dX0_second_0 : decode cX0_second 0 = .ok (.aload_n 0, 1) := by decide +kernel
theorem dX0_second_1 : decode cX0_second 1 = .ok (.iload_n 1, 1) := by decide +kernel
theorem dX0_second_2 : decode cX0_second 2 = .ok (.invokevirtual 43, 3) := by decide +kernel
theorem dX0_second_5 : decode cX0_second 5 = .ok (.ifCond .ne 6, 3) := by decide +kernel
theorem dX0_second_8 : decode cX0_second 8 = .ok (.ldc 47, 2) := by decide +kernel
theorem dX0_second_10 : decode cX0_second 10 = .ok (.ireturn, 1) := by decide +kernel
theorem dX0_second_11 : decode cX0_second 11 = .ok (.aload_n 0, 1) := by decide +kernel
theorem dX0_second_12 : decode cX0_second 12 = .ok (.getfield 39, 3) := by decide +kernel
theorem dX0_second_15 : decode cX0_second 15 = .ok (.iconst 2, 1) := by decide +kernel
theorem dX0_second_16 : decode cX0_second 16 = .ok (.if_icmp .eq 44, 3) := by decide +kernel
theorem dX0_second_19 : decode cX0_second 19 = .ok (.aload_n 0, 1) := by decide +kernel
theorem dX0_second_20 : decode cX0_second 20 = .ok (.iconst 0, 1) := by decide +kernel
theorem dX0_second_21 : decode cX0_second 21 = .ok (.invokevirtual 59, 3) := by decide +kernel
theorem dX0_second_24 : decode cX0_second 24 = .ok (.iconst 0, 1) := by decide +kernel
theorem dX0_second_25 : decode cX0_second 25 = .ok (.istore_n 2, 1) := by decide +kernel
theorem dX0_second_26 : decode cX0_second 26 = .ok (.iload_n 2, 1) := by decide +kernel
theorem dX0_second_27 : decode cX0_second 27 = .ok (.bipush 100, 2) := by decide +kernel
theorem dX0_second_29 : decode cX0_second 29 = .ok (.if_icmp .ge 21, 3) := by decide +kernel
theorem dX0_second_32 : decode cX0_second 32 = .ok (.aload_n 0, 1) := by decide +kernel
theorem dX0_second_33 : decode cX0_second 33 = .ok (.getfield 24, 3) := by decide +kernel
theorem dX0_second_36 : decode cX0_second 36 = .ok (.iload_n 2, 1) := by decide +kernel
theorem dX0_second_37 : decode cX0_second 37 = .ok (.aload_n 0, 1) := by decide +kernel
theorem dX0_second_38 : decode cX0_second 38 = .ok (.getfield 27, 3) := by decide +kernel
theorem dX0_second_41 : decode cX0_second 41 = .ok (.iload_n 2, 1) := by decide +kernel
theorem dX0_second_42 : decode cX0_second 42 = .ok (.iaload, 1) := by decide +kernel
theorem dX0_second_43 : decode cX0_second 43 = .ok (.iastore, 1) := by decide +kernel
theorem dX0_second_44 : decode cX0_second 44 = .ok (.iinc 2 1, 3) := by decide +kernel
theorem dX0_second_47 : decode cX0_second 47 = .ok (.goto (-21), 3) := by decide +kernel
theorem dX0_second_50 : decode cX0_second 50 = .ok (.aload_n 0, 1) := by decide +kernel
theorem dX0_second_51 : decode cX0_second 51 = .ok (.iconst 1, 1) := by decide +kernel
theorem dX0_second_52 : decode cX0_second 52 = .ok (.invokevirtual 62, 3) := by decide +kernel
theorem dX0_second_55 : decode cX0_second 55 = .ok (.aload_n 0, 1) := by decide +kernel
theorem dX0_second_56 : decode cX0_second 56 = .ok (.iconst 2, 1) := by decide +kernel
theorem dX0_second_57 : decode cX0_second 57 = .ok (.putfield 39, 3) := by decide +kernel
theorem dX0_second_60 : decode cX0_second 60 = .ok (.aload_n 0, 1) := by decide +kernel
theorem dX0_second_61 : decode cX0_second 61 = .ok (.getfield 27, 3) := by decide +kernel
theorem dX0_second_64 : decode cX0_second 64 = .ok (.iload_n 1, 1) := by decide +kernel
theorem dX0_second_65 : decode cX0_second 65 = .ok (.iaload, 1) := by decide +kernel
theorem dX0_second_66 : decode cX0_second 66 = .ok (.ireturn, 1) := by decide +kernel
theorem dX0_greatest_0 : decode cX0_greatest 0 = .ok (.aload_n 0, 1) := by decide +kernel
theorem dX0_greatest_1 : decode cX0_greatest 1 = .ok (.iload_n 1, 1) := by decide +kernel
theorem dX0_greatest_2 : decode cX0_greatest 2 = .ok (.invokevirtual 52, 3) := by decide +kernel
theorem dX0_greatest_5 : decode cX0_greatest 5 = .ok (.ifCond .ne 6, 3) := by decide +kernel
theorem dX0_greatest_8 : decode cX0_greatest 8 = .ok (.ldc 47, 2) := by decide +kernel
theorem dX0_greatest_10 : decode cX0_greatest 10 = .ok (.ireturn, 1) := by decide +kernel
theorem dX0_greatest_11 : decode cX0_greatest 11 = .ok (.aload_n 0, 1) := by decide +kernel
theorem dX0_greatest_12 : decode cX0_greatest 12 = .ok (.iload_n 1, 1) := by decide +kernel
theorem dX0_greatest_13 : decode cX0_greatest 13 = .ok (.invokevirtual 65, 3) := by decide +kernel
theorem dX0_greatest_16 : decode cX0_greatest 16 = .ok (.istore_n 2, 1) := by decide +kernel
theorem dX0_greatest_17 : decode cX0_greatest 17 = .ok (.aload_n 0, 1) := by decide +kernel
theorem dX0_greatest_18 : decode cX0_greatest 18 = .ok (.getfield 27, 3) := by decide +kernel
theorem dX0_greatest_21 : decode cX0_greatest 21 = .ok (.iload_n 2, 1) := by decide +kernel
theorem dX0_greatest_22 : decode cX0_greatest 22 = .ok (.iaload, 1) := by decide +kernel
theorem dX0_greatest_23 : decode cX0_greatest 23 = .ok (.ireturn, 1) := by decide +kernel
theorem dX0_where_0 : decode cX0_where 0 = .ok (.aload_n 0, 1) := by decide +kernel
theorem dX0_where_1 : decode cX0_where 1 = .ok (.iload_n 1, 1) := by decide +kernel
theorem dX0_where_2 : decode cX0_where 2 = .ok (.invokevirtual 52, 3) := by decide +kernel
theorem dX0_where_5 : decode cX0_where 5 = .ok (.ifCond .ne 6, 3) := by decide +kernel
theorem dX0_where_8 : decode cX0_where 8 = .ok (.ldc 47, 2) := by decide +kernel
theorem dX0_where_10 : decode cX0_where 10 = .ok (.ireturn, 1) := by decide +kernel
theorem dX0_where_11 : decode cX0_where 11 = .ok (.aload_n 0, 1) := by decide +kernel
theorem dX0_where_12 : decode cX0_where 12 = .ok (.iload_n 1, 1) := by decide +kernel
theorem dX0_where_13 : decode cX0_where 13 = .ok (.invokevirtual 59, 3) := by decide +kernel
theorem dX0_where_16 : decode cX0_where 16 = .ok (.iconst 0, 1) := by decide +kernel
theorem dX0_where_17 : decode cX0_where 17 = .ok (.istore_n 2, 1) := by decide +kernel
theorem dX0_where_18 : decode cX0_where 18 = .ok (.iconst 1, 1) := by decide +kernel
theorem dX0_where_19 : decode cX0_where 19 = .ok (.istore_n 3, 1) := by decide +kernel
theorem dX0_where_20 : decode cX0_where 20 = .ok (.iload_n 3, 1) := by decide +kernel
theorem dX0_where_21 : decode cX0_where 21 = .ok (.bipush 100, 2) := by decide +kernel
theorem dX0_where_23 : decode cX0_where 23 = .ok (.if_icmp .ge 26, 3) := by decide +kernel
theorem dX0_where_26 : decode cX0_where 26 = .ok (.aload_n 0, 1) := by decide +kernel
theorem dX0_where_27 : decode cX0_where 27 = .ok (.getfield 27, 3) := by decide +kernel
theorem dX0_where_30 : decode cX0_where 30 = .ok (.iload_n 3, 1) := by decide +kernel
theorem dX0_where_31 : decode cX0_where 31 = .ok (.iaload, 1) := by decide +kernel
theorem dX0_where_32 : decode cX0_where 32 = .ok (.aload_n 0, 1) := by decide +kernel
theorem dX0_where_33 : decode cX0_where 33 = .ok (.getfield 27, 3) := by decide +kernel
theorem dX0_where_36 : decode cX0_where 36 = .ok (.iload_n 2, 1) := by decide +kernel
theorem dX0_where_37 : decode cX0_where 37 = .ok (.iaload, 1) := by decide +kernel
theorem dX0_where_38 : decode cX0_where 38 = .ok (.if_icmp .le 5, 3) := by decide +kernel
theorem dX0_where_41 : decode cX0_where 41 = .ok (.iload_n 3, 1) := by decide +kernel
theorem dX0_where_42 : decode cX0_where 42 = .ok (.istore_n 2, 1) := by decide +kernel
theorem dX0_where_43 : decode cX0_where 43 = .ok (.iinc 3 1, 3) := by decide +kernel
theorem dX0_where_46 : decode cX0_where 46 = .ok (.goto (-26), 3) := by decide +kernel
theorem dX0_where_49 : decode cX0_where 49 = .ok (.iload_n 2, 1) := by decide +kernel
theorem dX0_where_50 : decode cX0_where 50 = .ok (.ireturn, 1) := by decide +kernel
theorem dX0_total_0 : decode cX0_total 0 = .ok (.aload_n 0, 1) := by decide +kernel
theorem dX0_total_1 : decode cX0_total 1 = .ok (.iload_n 1, 1) := by decide +kernel
theorem dX0_total_2 : decode cX0_total 2 = .ok (.invokevirtual 52, 3) := by decide +kernel
theorem dX0_total_5 : decode cX0_total 5 = .ok (.ifCond .ne 6, 3) := by decide +kernel
theorem dX0_total_8 : decode cX0_total 8 = .ok (.ldc 47, 2) := by decide +kernel
theorem dX0_total_10 : decode cX0_total 10 = .ok (.ireturn, 1) := by decide +kernel
theorem dX0_total_11 : decode cX0_total 11 = .ok (.aload_n 0, 1) := by decide +kernel
theorem dX0_total_12 : decode cX0_total 12 = .ok (.iload_n 1, 1) := by decide +kernel
theorem dX0_total_13 : decode cX0_total 13 = .ok (.invokevirtual 59, 3) := by decide +kernel
theorem dX0_total_16 : decode cX0_total 16 = .ok (.iconst 0, 1) := by decide +kernel
theorem dX0_total_17 : decode cX0_total 17 = .ok (.istore_n 2, 1) := by decide +kernel
theorem dX0_total_18 : decode cX0_total 18 = .ok (.iconst 0, 1) := by decide +kernel
theorem dX0_total_19 : decode cX0_total 19 = .ok (.istore_n 3, 1) := by decide +kernel
theorem dX0_total_20 : decode cX0_total 20 = .ok (.iload_n 3, 1) := by decide +kernel
theorem dX0_total_21 : decode cX0_total 21 = .ok (.bipush 100, 2) := by decide +kernel
theorem dX0_total_23 : decode cX0_total 23 = .ok (.if_icmp .ge 18, 3) := by decide +kernel
theorem dX0_total_26 : decode cX0_total 26 = .ok (.iload_n 2, 1) := by decide +kernel
theorem dX0_total_27 : decode cX0_total 27 = .ok (.aload_n 0, 1) := by decide +kernel
theorem dX0_total_28 : decode cX0_total 28 = .ok (.getfield 27, 3) := by decide +kernel
theorem dX0_total_31 : decode cX0_total 31 = .ok (.iload_n 3, 1) := by decide +kernel
theorem dX0_total_32 : decode cX0_total 32 = .ok (.iaload, 1) := by decide +kernel
theorem dX0_total_33 : decode cX0_total 33 = .ok (.iadd, 1) := by decide +kernel
theorem dX0_total_34 : decode cX0_total 34 = .ok (.istore_n 2, 1) := by decide +kernel
theorem dX0_total_35 : decode cX0_total 35 = .ok (.iinc 3 1, 3) := by decide +kernel
theorem dX0_total_38 : decode cX0_total 38 = .ok (.goto (-18), 3) := by decide +kernel
theorem dX0_total_41 : decode cX0_total 41 = .ok (.iload_n 2, 1) := by decide +kernel
theorem dX0_total_42 : decode cX0_total 42 = .ok (.ireturn, 1) := by decide +kernel
theorem dX0_pooled_0 : decode cX0_pooled 0 = .ok (.aload_n 0, 1) := by decide +kernel
theorem dX0_pooled_1 : decode cX0_pooled 1 = .ok (.iload_n 1, 1) := by decide +kernel
theorem dX0_pooled_2 : decode cX0_pooled 2 = .ok (.invokevirtual 52, 3) := by decide +kernel
theorem dX0_pooled_5 : decode cX0_pooled 5 = .ok (.ifCond .eq 13, 3) := by decide +kernel
theorem dX0_pooled_8 : decode cX0_pooled 8 = .ok (.iload_n 2, 1) := by decide +kernel
theorem dX0_pooled_9 : decode cX0_pooled 9 = .ok (.ifCond .lt 9, 3) := by decide +kernel
theorem dX0_pooled_12 : decode cX0_pooled 12 = .ok (.iload_n 2, 1) := by decide +kernel
theorem dX0_pooled_13 : decode cX0_pooled 13 = .ok (.bipush 24, 2) := by decide +kernel
theorem dX0_pooled_15 : decode cX0_pooled 15 = .ok (.if_icmp .le 6, 3) := by decide +kernel
theorem dX0_pooled_18 : decode cX0_pooled 18 = .ok (.ldc 47, 2) := by decide +kernel
theorem dX0_pooled_20 : decode cX0_pooled 20 = .ok (.ireturn, 1) := by decide +kernel
theorem dX0_pooled_21 : decode cX0_pooled 21 = .ok (.aload_n 0, 1) := by decide +kernel
theorem dX0_pooled_22 : decode cX0_pooled 22 = .ok (.iload_n 1, 1) := by decide +kernel
theorem dX0_pooled_23 : decode cX0_pooled 23 = .ok (.invokevirtual 59, 3) := by decide +kernel
theorem dX0_pooled_26 : decode cX0_pooled 26 = .ok (.bipush 20, 2) := by decide +kernel
theorem dX0_pooled_28 : decode cX0_pooled 28 = .ok (.iload_n 2, 1) := by decide +kernel
theorem dX0_pooled_29 : decode cX0_pooled 29 = .ok (.iconst 5, 1) := by decide +kernel
theorem dX0_pooled_30 : decode cX0_pooled 30 = .ok (.idiv, 1) := by decide +kernel
theorem dX0_pooled_31 : decode cX0_pooled 31 = .ok (.imul, 1) := by decide +kernel
theorem dX0_pooled_32 : decode cX0_pooled 32 = .ok (.iconst 2, 1) := by decide +kernel
theorem dX0_pooled_33 : decode cX0_pooled 33 = .ok (.iload_n 2, 1) := by decide +kernel
theorem dX0_pooled_34 : decode cX0_pooled 34 = .ok (.iconst 5, 1) := by decide +kernel
theorem dX0_pooled_35 : decode cX0_pooled 35 = .ok (.irem, 1) := by decide +kernel
theorem dX0_pooled_36 : decode cX0_pooled 36 = .ok (.imul, 1) := by decide +kernel
theorem dX0_pooled_37 : decode cX0_pooled 37 = .ok (.iadd, 1) := by decide +kernel
theorem dX0_pooled_38 : decode cX0_pooled 38 = .ok (.istore_n 3, 1) := by decide +kernel
theorem dX0_pooled_39 : decode cX0_pooled 39 = .ok (.aload_n 0, 1) := by decide +kernel
theorem dX0_pooled_40 : decode cX0_pooled 40 = .ok (.getfield 27, 3) := by decide +kernel
theorem dX0_pooled_43 : decode cX0_pooled 43 = .ok (.iload_n 3, 1) := by decide +kernel
theorem dX0_pooled_44 : decode cX0_pooled 44 = .ok (.iaload, 1) := by decide +kernel
theorem dX0_pooled_45 : decode cX0_pooled 45 = .ok (.istore 4, 2) := by decide +kernel
theorem dX0_pooled_47 : decode cX0_pooled 47 = .ok (.aload_n 0, 1) := by decide +kernel
theorem dX0_pooled_48 : decode cX0_pooled 48 = .ok (.getfield 27, 3) := by decide +kernel
theorem dX0_pooled_51 : decode cX0_pooled 51 = .ok (.iload_n 3, 1) := by decide +kernel
theorem dX0_pooled_52 : decode cX0_pooled 52 = .ok (.iconst 1, 1) := by decide +kernel
theorem dX0_pooled_53 : decode cX0_pooled 53 = .ok (.iadd, 1) := by decide +kernel
theorem dX0_pooled_54 : decode cX0_pooled 54 = .ok (.iaload, 1) := by decide +kernel
theorem dX0_pooled_55 : decode cX0_pooled 55 = .ok (.iload 4, 2) := by decide +kernel
theorem dX0_pooled_57 : decode cX0_pooled 57 = .ok (.if_icmp .le 13, 3) := by decide +kernel
theorem dX0_pooled_60 : decode cX0_pooled 60 = .ok (.aload_n 0, 1) := by decide +kernel
theorem dX0_pooled_61 : decode cX0_pooled 61 = .ok (.getfield 27, 3) := by decide +kernel
theorem dX0_pooled_64 : decode cX0_pooled 64 = .ok (.iload_n 3, 1) := by decide +kernel
theorem dX0_pooled_65 : decode cX0_pooled 65 = .ok (.iconst 1, 1) := by decide +kernel
theorem dX0_pooled_66 : decode cX0_pooled 66 = .ok (.iadd, 1) := by decide +kernel
theorem dX0_pooled_67 : decode cX0_pooled 67 = .ok (.iaload, 1) := by decide +kernel
theorem dX0_pooled_68 : decode cX0_pooled 68 = .ok (.istore 4, 2) := by decide +kernel
theorem dX0_pooled_70 : decode cX0_pooled 70 = .ok (.aload_n 0, 1) := by decide +kernel
theorem dX0_pooled_71 : decode cX0_pooled 71 = .ok (.getfield 27, 3) := by decide +kernel
theorem dX0_pooled_74 : decode cX0_pooled 74 = .ok (.iload_n 3, 1) := by decide +kernel
theorem dX0_pooled_75 : decode cX0_pooled 75 = .ok (.bipush 10, 2) := by decide +kernel
theorem dX0_pooled_77 : decode cX0_pooled 77 = .ok (.iadd, 1) := by decide +kernel
theorem dX0_pooled_78 : decode cX0_pooled 78 = .ok (.iaload, 1) := by decide +kernel
theorem dX0_pooled_79 : decode cX0_pooled 79 = .ok (.iload 4, 2) := by decide +kernel
theorem dX0_pooled_81 : decode cX0_pooled 81 = .ok (.if_icmp .le 14, 3) := by decide +kernel
theorem dX0_pooled_84 : decode cX0_pooled 84 = .ok (.aload_n 0, 1) := by decide +kernel
theorem dX0_pooled_85 : decode cX0_pooled 85 = .ok (.getfield 27, 3) := by decide +kernel
theorem dX0_pooled_88 : decode cX0_pooled 88 = .ok (.iload_n 3, 1) := by decide +kernel
theorem dX0_pooled_89 : decode cX0_pooled 89 = .ok (.bipush 10, 2) := by decide +kernel
theorem dX0_pooled_91 : decode cX0_pooled 91 = .ok (.iadd, 1) := by decide +kernel
theorem dX0_pooled_92 : decode cX0_pooled 92 = .ok (.iaload, 1) := by decide +kernel
theorem dX0_pooled_93 : decode cX0_pooled 93 = .ok (.istore 4, 2) := by decide +kernel
theorem dX0_pooled_95 : decode cX0_pooled 95 = .ok (.aload_n 0, 1) := by decide +kernel
theorem dX0_pooled_96 : decode cX0_pooled 96 = .ok (.getfield 27, 3) := by decide +kernel
theorem dX0_pooled_99 : decode cX0_pooled 99 = .ok (.iload_n 3, 1) := by decide +kernel
theorem dX0_pooled_100 : decode cX0_pooled 100 = .ok (.bipush 10, 2) := by decide +kernel
theorem dX0_pooled_102 : decode cX0_pooled 102 = .ok (.iadd, 1) := by decide +kernel
theorem dX0_pooled_103 : decode cX0_pooled 103 = .ok (.iconst 1, 1) := by decide +kernel
theorem dX0_pooled_104 : decode cX0_pooled 104 = .ok (.iadd, 1) := by decide +kernel
theorem dX0_pooled_105 : decode cX0_pooled 105 = .ok (.iaload, 1) := by decide +kernel
theorem dX0_pooled_106 : decode cX0_pooled 106 = .ok (.iload 4, 2) := by decide +kernel
theorem dX0_pooled_108 : decode cX0_pooled 108 = .ok (.if_icmp .le 16, 3) := by decide +kernel
theorem dX0_pooled_111 : decode cX0_pooled 111 = .ok (.aload_n 0, 1) := by decide +kernel
theorem dX0_pooled_112 : decode cX0_pooled 112 = .ok (.getfield 27, 3) := by decide +kernel
theorem dX0_pooled_115 : decode cX0_pooled 115 = .ok (.iload_n 3, 1) := by decide +kernel
theorem dX0_pooled_116 : decode cX0_pooled 116 = .ok (.bipush 10, 2) := by decide +kernel
theorem dX0_pooled_118 : decode cX0_pooled 118 = .ok (.iadd, 1) := by decide +kernel
theorem dX0_pooled_119 : decode cX0_pooled 119 = .ok (.iconst 1, 1) := by decide +kernel
theorem dX0_pooled_120 : decode cX0_pooled 120 = .ok (.iadd, 1) := by decide +kernel
theorem dX0_pooled_121 : decode cX0_pooled 121 = .ok (.iaload, 1) := by decide +kernel
theorem dX0_pooled_122 : decode cX0_pooled 122 = .ok (.istore 4, 2) := by decide +kernel
theorem dX0_pooled_124 : decode cX0_pooled 124 = .ok (.iload 4, 2) := by decide +kernel
theorem dX0_pooled_126 : decode cX0_pooled 126 = .ok (.ireturn, 1) := by decide +kernel
theorem dX0_apply_0 : decode cX0_apply 0 = .ok (.aload_n 0, 1) := by decide +kernel
theorem dX0_apply_1 : decode cX0_apply 1 = .ok (.iload_n 1, 1) := by decide +kernel
theorem dX0_apply_2 : decode cX0_apply 2 = .ok (.invokevirtual 52, 3) := by decide +kernel
theorem dX0_apply_5 : decode cX0_apply 5 = .ok (.ifCond .ne 6, 3) := by decide +kernel
theorem dX0_apply_8 : decode cX0_apply 8 = .ok (.ldc 47, 2) := by decide +kernel
theorem dX0_apply_10 : decode cX0_apply 10 = .ok (.ireturn, 1) := by decide +kernel
theorem dX0_apply_11 : decode cX0_apply 11 = .ok (.aload_n 0, 1) := by decide +kernel
theorem dX0_apply_12 : decode cX0_apply 12 = .ok (.iload_n 1, 1) := by decide +kernel
theorem dX0_apply_13 : decode cX0_apply 13 = .ok (.invokevirtual 59, 3) := by decide +kernel
theorem dX0_apply_16 : decode cX0_apply 16 = .ok (.iconst 0, 1) := by decide +kernel
theorem dX0_apply_17 : decode cX0_apply 17 = .ok (.istore_n 2, 1) := by decide +kernel
theorem dX0_apply_18 : decode cX0_apply 18 = .ok (.iconst 0, 1) := by decide +kernel
theorem dX0_apply_19 : decode cX0_apply 19 = .ok (.istore_n 3, 1) := by decide +kernel
theorem dX0_apply_20 : decode cX0_apply 20 = .ok (.iload_n 3, 1) := by decide +kernel
theorem dX0_apply_21 : decode cX0_apply 21 = .ok (.bipush 100, 2) := by decide +kernel
theorem dX0_apply_23 : decode cX0_apply 23 = .ok (.if_icmp .ge 67, 3) := by decide +kernel
theorem dX0_apply_26 : decode cX0_apply 26 = .ok (.aload_n 0, 1) := by decide +kernel
theorem dX0_apply_27 : decode cX0_apply 27 = .ok (.getfield 27, 3) := by decide +kernel
theorem dX0_apply_30 : decode cX0_apply 30 = .ok (.iload_n 3, 1) := by decide +kernel
theorem dX0_apply_31 : decode cX0_apply 31 = .ok (.iaload, 1) := by decide +kernel
theorem dX0_apply_32 : decode cX0_apply 32 = .ok (.istore 4, 2) := by decide +kernel
theorem dX0_apply_34 : decode cX0_apply 34 = .ok (.iload 4, 2) := by decide +kernel
theorem dX0_apply_36 : decode cX0_apply 36 = .ok (.bipush (-99), 2) := by decide +kernel
theorem dX0_apply_38 : decode cX0_apply 38 = .ok (.if_icmp .lt 10, 3) := by decide +kernel
theorem dX0_apply_41 : decode cX0_apply 41 = .ok (.iload 4, 2) := by decide +kernel
theorem dX0_apply_43 : decode cX0_apply 43 = .ok (.bipush 99, 2) := by decide +kernel
theorem dX0_apply_45 : decode cX0_apply 45 = .ok (.if_icmp .le 6, 3) := by decide +kernel
theorem dX0_apply_48 : decode cX0_apply 48 = .ok (.iinc 2 1, 3) := by decide +kernel
theorem dX0_apply_51 : decode cX0_apply 51 = .ok (.aload_n 0, 1) := by decide +kernel
theorem dX0_apply_52 : decode cX0_apply 52 = .ok (.getfield 7, 3) := by decide +kernel
theorem dX0_apply_55 : decode cX0_apply 55 = .ok (.iload_n 3, 1) := by decide +kernel
theorem dX0_apply_56 : decode cX0_apply 56 = .ok (.iload 4, 2) := by decide +kernel
theorem dX0_apply_58 : decode cX0_apply 58 = .ok (.bipush (-99), 2) := by decide +kernel
theorem dX0_apply_60 : decode cX0_apply 60 = .ok (.if_icmp .ge 8, 3) := by decide +kernel
theorem dX0_apply_63 : decode cX0_apply 63 = .ok (.bipush (-99), 2) := by decide +kernel
theorem dX0_apply_65 : decode cX0_apply 65 = .ok (.goto 17, 3) := by decide +kernel
theorem dX0_apply_68 : decode cX0_apply 68 = .ok (.iload 4, 2) := by decide +kernel
theorem dX0_apply_70 : decode cX0_apply 70 = .ok (.bipush 99, 2) := by decide +kernel
theorem dX0_apply_72 : decode cX0_apply 72 = .ok (.if_icmp .le 8, 3) := by decide +kernel
theorem dX0_apply_75 : decode cX0_apply 75 = .ok (.bipush 99, 2) := by decide +kernel
theorem dX0_apply_77 : decode cX0_apply 77 = .ok (.goto 5, 3) := by decide +kernel
theorem dX0_apply_80 : decode cX0_apply 80 = .ok (.iload 4, 2) := by decide +kernel
theorem dX0_apply_82 : decode cX0_apply 82 = .ok (.i2b, 1) := by decide +kernel
theorem dX0_apply_83 : decode cX0_apply 83 = .ok (.bastore, 1) := by decide +kernel
theorem dX0_apply_84 : decode cX0_apply 84 = .ok (.iinc 3 1, 3) := by decide +kernel
theorem dX0_apply_87 : decode cX0_apply 87 = .ok (.goto (-67), 3) := by decide +kernel
theorem dX0_apply_90 : decode cX0_apply 90 = .ok (.aload_n 0, 1) := by decide +kernel
theorem dX0_apply_91 : decode cX0_apply 91 = .ok (.iconst (-1), 1) := by decide +kernel
theorem dX0_apply_92 : decode cX0_apply 92 = .ok (.putfield 39, 3) := by decide +kernel
theorem dX0_apply_95 : decode cX0_apply 95 = .ok (.iload_n 2, 1) := by decide +kernel
theorem dX0_apply_96 : decode cX0_apply 96 = .ok (.ireturn, 1) := by decide +kernel
theorem dX0_turn_0 : decode cX0_turn 0 = .ok (.aload_n 0, 1) := by decide +kernel
theorem dX0_turn_1 : decode cX0_turn 1 = .ok (.iload_n 1, 1) := by decide +kernel
theorem dX0_turn_2 : decode cX0_turn 2 = .ok (.invokevirtual 52, 3) := by decide +kernel
theorem dX0_turn_5 : decode cX0_turn 5 = .ok (.ifCond .ne 5, 3) := by decide +kernel
theorem dX0_turn_8 : decode cX0_turn 8 = .ok (.iconst 0, 1) := by decide +kernel
theorem dX0_turn_9 : decode cX0_turn 9 = .ok (.ireturn, 1) := by decide +kernel
theorem dX0_turn_10 : decode cX0_turn 10 = .ok (.iconst 0, 1) := by decide +kernel
theorem dX0_turn_11 : decode cX0_turn 11 = .ok (.istore_n 2, 1) := by decide +kernel
theorem dX0_turn_12 : decode cX0_turn 12 = .ok (.iload_n 2, 1) := by decide +kernel
theorem dX0_turn_13 : decode cX0_turn 13 = .ok (.iconst 4, 1) := by decide +kernel
theorem dX0_turn_14 : decode cX0_turn 14 = .ok (.if_icmp .ge 61, 3) := by decide +kernel
theorem dX0_turn_17 : decode cX0_turn 17 = .ok (.aload_n 0, 1) := by decide +kernel
theorem dX0_turn_18 : decode cX0_turn 18 = .ok (.getfield 13, 3) := by decide +kernel
theorem dX0_turn_21 : decode cX0_turn 21 = .ok (.bipush 9, 2) := by decide +kernel
theorem dX0_turn_23 : decode cX0_turn 23 = .ok (.iload_n 1, 1) := by decide +kernel
theorem dX0_turn_24 : decode cX0_turn 24 = .ok (.imul, 1) := by decide +kernel
theorem dX0_turn_25 : decode cX0_turn 25 = .ok (.iload_n 2, 1) := by decide +kernel
theorem dX0_turn_26 : decode cX0_turn 26 = .ok (.iadd, 1) := by decide +kernel
theorem dX0_turn_27 : decode cX0_turn 27 = .ok (.baload, 1) := by decide +kernel
theorem dX0_turn_28 : decode cX0_turn 28 = .ok (.istore_n 3, 1) := by decide +kernel
theorem dX0_turn_29 : decode cX0_turn 29 = .ok (.aload_n 0, 1) := by decide +kernel
theorem dX0_turn_30 : decode cX0_turn 30 = .ok (.getfield 13, 3) := by decide +kernel
theorem dX0_turn_33 : decode cX0_turn 33 = .ok (.bipush 9, 2) := by decide +kernel
theorem dX0_turn_35 : decode cX0_turn 35 = .ok (.iload_n 1, 1) := by decide +kernel
theorem dX0_turn_36 : decode cX0_turn 36 = .ok (.imul, 1) := by decide +kernel
theorem dX0_turn_37 : decode cX0_turn 37 = .ok (.iload_n 2, 1) := by decide +kernel
theorem dX0_turn_38 : decode cX0_turn 38 = .ok (.iadd, 1) := by decide +kernel
theorem dX0_turn_39 : decode cX0_turn 39 = .ok (.aload_n 0, 1) := by decide +kernel
theorem dX0_turn_40 : decode cX0_turn 40 = .ok (.getfield 13, 3) := by decide +kernel
theorem dX0_turn_43 : decode cX0_turn 43 = .ok (.bipush 9, 2) := by decide +kernel
theorem dX0_turn_45 : decode cX0_turn 45 = .ok (.iload_n 1, 1) := by decide +kernel
theorem dX0_turn_46 : decode cX0_turn 46 = .ok (.imul, 1) := by decide +kernel
theorem dX0_turn_47 : decode cX0_turn 47 = .ok (.bipush 8, 2) := by decide +kernel
theorem dX0_turn_49 : decode cX0_turn 49 = .ok (.iadd, 1) := by decide +kernel
theorem dX0_turn_50 : decode cX0_turn 50 = .ok (.iload_n 2, 1) := by decide +kernel
theorem dX0_turn_51 : decode cX0_turn 51 = .ok (.isub, 1) := by decide +kernel
theorem dX0_turn_52 : decode cX0_turn 52 = .ok (.baload, 1) := by decide +kernel
theorem dX0_turn_53 : decode cX0_turn 53 = .ok (.bastore, 1) := by decide +kernel
theorem dX0_turn_54 : decode cX0_turn 54 = .ok (.aload_n 0, 1) := by decide +kernel
theorem dX0_turn_55 : decode cX0_turn 55 = .ok (.getfield 13, 3) := by decide +kernel
theorem dX0_turn_58 : decode cX0_turn 58 = .ok (.bipush 9, 2) := by decide +kernel
theorem dX0_turn_60 : decode cX0_turn 60 = .ok (.iload_n 1, 1) := by decide +kernel
theorem dX0_turn_61 : decode cX0_turn 61 = .ok (.imul, 1) := by decide +kernel
theorem dX0_turn_62 : decode cX0_turn 62 = .ok (.bipush 8, 2) := by decide +kernel
theorem dX0_turn_64 : decode cX0_turn 64 = .ok (.iadd, 1) := by decide +kernel
theorem dX0_turn_65 : decode cX0_turn 65 = .ok (.iload_n 2, 1) := by decide +kernel
theorem dX0_turn_66 : decode cX0_turn 66 = .ok (.isub, 1) := by decide +kernel
theorem dX0_turn_67 : decode cX0_turn 67 = .ok (.iload_n 3, 1) := by decide +kernel
theorem dX0_turn_68 : decode cX0_turn 68 = .ok (.bastore, 1) := by decide +kernel
theorem dX0_turn_69 : decode cX0_turn 69 = .ok (.iinc 2 1, 3) := by decide +kernel
theorem dX0_turn_72 : decode cX0_turn 72 = .ok (.goto (-60), 3) := by decide +kernel
theorem dX0_turn_75 : decode cX0_turn 75 = .ok (.aload_n 0, 1) := by decide +kernel
theorem dX0_turn_76 : decode cX0_turn 76 = .ok (.iload_n 1, 1) := by decide +kernel
theorem dX0_turn_77 : decode cX0_turn 77 = .ok (.invokevirtual 55, 3) := by decide +kernel
theorem dX0_turn_80 : decode cX0_turn 80 = .ok (.iconst 1, 1) := by decide +kernel
theorem dX0_turn_81 : decode cX0_turn 81 = .ok (.ireturn, 1) := by decide +kernel
end
section
set_option maxRecDepth 100000
theorem dX1_init_0 : decode cX1_init 0 = .ok (.aload_n 0, 1) := by decide +kernel
theorem dX1_init_1 : decode cX1_init 1 = .ok (.invokespecial 1, 3) := by decide +kernel
theorem dX1_init_4 : decode cX1_init 4 = .ok (.aload_n 0, 1) := by decide +kernel
theorem dX1_init_5 : decode cX1_init 5 = .ok (.bipush 100, 2) := by decide +kernel
theorem dX1_init_7 : decode cX1_init 7 = .ok (.newarray .int, 2) := by decide +kernel
theorem dX1_init_9 : decode cX1_init 9 = .ok (.putfield 7, 3) := by decide +kernel
theorem dX1_init_12 : decode cX1_init 12 = .ok (.aload_n 0, 1) := by decide +kernel
theorem dX1_init_13 : decode cX1_init 13 = .ok (.bipush 100, 2) := by decide +kernel
theorem dX1_init_15 : decode cX1_init 15 = .ok (.newarray .int, 2) := by decide +kernel
theorem dX1_init_17 : decode cX1_init 17 = .ok (.putfield 13, 3) := by decide +kernel
theorem dX1_init_20 : decode cX1_init 20 = .ok (.aload_n 0, 1) := by decide +kernel
theorem dX1_init_21 : decode cX1_init 21 = .ok (.bipush 18, 2) := by decide +kernel
theorem dX1_init_23 : decode cX1_init 23 = .ok (.newarray .int, 2) := by decide +kernel
theorem dX1_init_25 : decode cX1_init 25 = .ok (.putfield 16, 3) := by decide +kernel
theorem dX1_init_28 : decode cX1_init 28 = .ok (.return_, 1) := by decide +kernel
theorem dX1_set_0 : decode cX1_set 0 = .ok (.aload_n 0, 1) := by decide +kernel
theorem dX1_set_1 : decode cX1_set 1 = .ok (.iload_n 1, 1) := by decide +kernel
theorem dX1_set_2 : decode cX1_set 2 = .ok (.invokevirtual 19, 3) := by decide +kernel
theorem dX1_set_5 : decode cX1_set 5 = .ok (.ifCond .eq 11, 3) := by decide +kernel
theorem dX1_set_8 : decode cX1_set 8 = .ok (.aload_n 0, 1) := by decide +kernel
theorem dX1_set_9 : decode cX1_set 9 = .ok (.iload_n 2, 1) := by decide +kernel
theorem dX1_set_10 : decode cX1_set 10 = .ok (.invokevirtual 23, 3) := by decide +kernel
theorem dX1_set_13 : decode cX1_set 13 = .ok (.ifCond .ne 5, 3) := by decide +kernel
theorem dX1_set_16 : decode cX1_set 16 = .ok (.iconst 0, 1) := by decide +kernel
theorem dX1_set_17 : decode cX1_set 17 = .ok (.ireturn, 1) := by decide +kernel
theorem dX1_set_18 : decode cX1_set 18 = .ok (.aload_n 0, 1) := by decide +kernel
theorem dX1_set_19 : decode cX1_set 19 = .ok (.getfield 7, 3) := by decide +kernel
theorem dX1_set_22 : decode cX1_set 22 = .ok (.iload_n 1, 1) := by decide +kernel
theorem dX1_set_23 : decode cX1_set 23 = .ok (.iload_n 2, 1) := by decide +kernel
theorem dX1_set_24 : decode cX1_set 24 = .ok (.iastore, 1) := by decide +kernel
theorem dX1_set_25 : decode cX1_set 25 = .ok (.iconst 1, 1) := by decide +kernel
theorem dX1_set_26 : decode cX1_set 26 = .ok (.ireturn, 1) := by decide +kernel
theorem dX1_isCell_0 : decode cX1_isCell 0 = .ok (.iload_n 1, 1) := by decide +kernel
theorem dX1_isCell_1 : decode cX1_isCell 1 = .ok (.ifCond .lt 13, 3) := by decide +kernel
theorem dX1_isCell_4 : decode cX1_isCell 4 = .ok (.iload_n 1, 1) := by decide +kernel
theorem dX1_isCell_5 : decode cX1_isCell 5 = .ok (.bipush 99, 2) := by decide +kernel
theorem dX1_isCell_7 : decode cX1_isCell 7 = .ok (.if_icmp .gt 7, 3) := by decide +kernel
theorem dX1_isCell_10 : decode cX1_isCell 10 = .ok (.iconst 1, 1) := by decide +kernel
theorem dX1_isCell_11 : decode cX1_isCell 11 = .ok (.goto 4, 3) := by decide +kernel
theorem dX1_isCell_14 : decode cX1_isCell 14 = .ok (.iconst 0, 1) := by decide +kernel
theorem dX1_isCell_15 : decode cX1_isCell 15 = .ok (.ireturn, 1) := by decide +kernel
theorem dX1_isValue_0 : decode cX1_isValue 0 = .ok (.iload_n 1, 1) := by decide +kernel
theorem dX1_isValue_1 : decode cX1_isValue 1 = .ok (.bipush (-99), 2) := by decide +kernel
theorem dX1_isValue_3 : decode cX1_isValue 3 = .ok (.if_icmp .lt 13, 3) := by decide +kernel
theorem dX1_isValue_6 : decode cX1_isValue 6 = .ok (.iload_n 1, 1) := by decide +kernel
theorem dX1_isValue_7 : decode cX1_isValue 7 = .ok (.bipush 99, 2) := by decide +kernel
theorem dX1_isValue_9 : decode cX1_isValue 9 = .ok (.if_icmp .gt 7, 3) := by decide +kernel
theorem dX1_isValue_12 : decode cX1_isValue 12 = .ok (.iconst 1, 1) := by decide +kernel
theorem dX1_isValue_13 : decode cX1_isValue 13 = .ok (.goto 4, 3) := by decide +kernel
theorem dX1_isValue_16 : decode cX1_isValue 16 = .ok (.iconst 0, 1) := by decide +kernel
theorem dX1_isValue_17 : decode cX1_isValue 17 = .ok (.ireturn, 1) := by decide +kernel
theorem dX1_stripe_0 : decode cX1_stripe 0 = .ok (.iload_n 1, 1) := by decide +kernel
theorem dX1_stripe_1 : decode cX1_stripe 1 = .ok (.ifCond .lt 34, 3) := by decide +kernel
theorem dX1_stripe_4 : decode cX1_stripe 4 = .ok (.iload_n 1, 1) := by decide +kernel
theorem dX1_stripe_5 : decode cX1_stripe 5 = .ok (.bipush 19, 2) := by decide +kernel
theorem dX1_stripe_7 : decode cX1_stripe 7 = .ok (.if_icmp .gt 28, 3) := by decide +kernel
theorem dX1_stripe_10 : decode cX1_stripe 10 = .ok (.aload_n 0, 1) := by decide +kernel
theorem dX1_stripe_11 : decode cX1_stripe 11 = .ok (.iload_n 2, 1) := by decide +kernel
theorem dX1_stripe_12 : decode cX1_stripe 12 = .ok (.invokevirtual 26, 3) := by decide +kernel
theorem dX1_stripe_15 : decode cX1_stripe 15 = .ok (.ifCond .eq 20, 3) := by decide +kernel
theorem dX1_stripe_18 : decode cX1_stripe 18 = .ok (.aload_n 0, 1) := by decide +kernel
theorem dX1_stripe_19 : decode cX1_stripe 19 = .ok (.iload_n 3, 1) := by decide +kernel
theorem dX1_stripe_20 : decode cX1_stripe 20 = .ok (.invokevirtual 26, 3) := by decide +kernel
theorem dX1_stripe_23 : decode cX1_stripe 23 = .ok (.ifCond .eq 12, 3) := by decide +kernel
theorem dX1_stripe_26 : decode cX1_stripe 26 = .ok (.aload_n 0, 1) := by decide +kernel
theorem dX1_stripe_27 : decode cX1_stripe 27 = .ok (.iload 4, 2) := by decide +kernel
theorem dX1_stripe_29 : decode cX1_stripe 29 = .ok (.invokevirtual 23, 3) := by decide +kernel
theorem dX1_stripe_32 : decode cX1_stripe 32 = .ok (.ifCond .ne 6, 3) := by decide +kernel
theorem dX1_stripe_35 : decode cX1_stripe 35 = .ok (.ldc 29, 2) := by decide +kernel
theorem dX1_stripe_37 : decode cX1_stripe 37 = .ok (.ireturn, 1) := by decide +kernel
theorem dX1_stripe_38 : decode cX1_stripe 38 = .ok (.iconst 0, 1) := by decide +kernel
theorem dX1_stripe_39 : decode cX1_stripe 39 = .ok (.istore 5, 2) := by decide +kernel
theorem dX1_stripe_41 : decode cX1_stripe 41 = .ok (.iload_n 2, 1) := by decide +kernel
theorem dX1_stripe_42 : decode cX1_stripe 42 = .ok (.istore 6, 2) := by decide +kernel
theorem dX1_stripe_44 : decode cX1_stripe 44 = .ok (.iload 6, 2) := by decide +kernel
theorem dX1_stripe_46 : decode cX1_stripe 46 = .ok (.iload_n 3, 1) := by decide +kernel
theorem dX1_stripe_47 : decode cX1_stripe 47 = .ok (.if_icmp .gt 45, 3) := by decide +kernel
theorem dX1_stripe_50 : decode cX1_stripe 50 = .ok (.aload_n 0, 1) := by decide +kernel
theorem dX1_stripe_51 : decode cX1_stripe 51 = .ok (.getfield 7, 3) := by decide +kernel
theorem dX1_stripe_54 : decode cX1_stripe 54 = .ok (.iload_n 1, 1) := by decide +kernel
theorem dX1_stripe_55 : decode cX1_stripe 55 = .ok (.bipush 10, 2) := by decide +kernel
theorem dX1_stripe_57 : decode cX1_stripe 57 = .ok (.if_icmp .ge 13, 3) := by decide +kernel
theorem dX1_stripe_60 : decode cX1_stripe 60 = .ok (.bipush 10, 2) := by decide +kernel
theorem dX1_stripe_62 : decode cX1_stripe 62 = .ok (.iload_n 1, 1) := by decide +kernel
theorem dX1_stripe_63 : decode cX1_stripe 63 = .ok (.imul, 1) := by decide +kernel
theorem dX1_stripe_64 : decode cX1_stripe 64 = .ok (.iload 6, 2) := by decide +kernel
theorem dX1_stripe_66 : decode cX1_stripe 66 = .ok (.iadd, 1) := by decide +kernel
theorem dX1_stripe_67 : decode cX1_stripe 67 = .ok (.goto 13, 3) := by decide +kernel
theorem dX1_stripe_70 : decode cX1_stripe 70 = .ok (.bipush 10, 2) := by decide +kernel
theorem dX1_stripe_72 : decode cX1_stripe 72 = .ok (.iload 6, 2) := by decide +kernel
theorem dX1_stripe_74 : decode cX1_stripe 74 = .ok (.imul, 1) := by decide +kernel
theorem dX1_stripe_75 : decode cX1_stripe 75 = .ok (.iload_n 1, 1) := by decide +kernel
theorem dX1_stripe_76 : decode cX1_stripe 76 = .ok (.iadd, 1) := by decide +kernel
theorem dX1_stripe_77 : decode cX1_stripe 77 = .ok (.bipush 10, 2) := by decide +kernel
theorem dX1_stripe_79 : decode cX1_stripe 79 = .ok (.isub, 1) := by decide +kernel
theorem dX1_stripe_80 : decode cX1_stripe 80 = .ok (.iload 4, 2) := by decide +kernel
theorem dX1_stripe_82 : decode cX1_stripe 82 = .ok (.iastore, 1) := by decide +kernel
theorem dX1_stripe_83 : decode cX1_stripe 83 = .ok (.iinc 5 1, 3) := by decide +kernel
theorem dX1_stripe_86 : decode cX1_stripe 86 = .ok (.iinc 6 1, 3) := by decide +kernel
theorem dX1_stripe_89 : decode cX1_stripe 89 = .ok (.goto (-45), 3) := by decide +kernel
theorem dX1_stripe_92 : decode cX1_stripe 92 = .ok (.iload 5, 2) := by decide +kernel
theorem dX1_stripe_94 : decode cX1_stripe 94 = .ok (.ireturn, 1) := by decide +kernel
theorem dX1_isPlace_0 : decode cX1_isPlace 0 = .ok (.iload_n 1, 1) := by decide +kernel
theorem dX1_isPlace_1 : decode cX1_isPlace 1 = .ok (.ifCond .lt 13, 3) := by decide +kernel
theorem dX1_isPlace_4 : decode cX1_isPlace 4 = .ok (.iload_n 1, 1) := by decide +kernel
theorem dX1_isPlace_5 : decode cX1_isPlace 5 = .ok (.bipush 9, 2) := by decide +kernel
theorem dX1_isPlace_7 : decode cX1_isPlace 7 = .ok (.if_icmp .gt 7, 3) := by decide +kernel
theorem dX1_isPlace_10 : decode cX1_isPlace 10 = .ok (.iconst 1, 1) := by decide +kernel
theorem dX1_isPlace_11 : decode cX1_isPlace 11 = .ok (.goto 4, 3) := by decide +kernel
theorem dX1_isPlace_14 : decode cX1_isPlace 14 = .ok (.iconst 0, 1) := by decide +kernel
theorem dX1_isPlace_15 : decode cX1_isPlace 15 = .ok (.ireturn, 1) := by decide +kernel
theorem dX1_weight_0 : decode cX1_weight 0 = .ok (.aload_n 0, 1) := by decide +kernel
theorem dX1_weight_1 : decode cX1_weight 1 = .ok (.iload_n 1, 1) := by decide +kernel
theorem dX1_weight_2 : decode cX1_weight 2 = .ok (.invokevirtual 30, 3) := by decide +kernel
theorem dX1_weight_5 : decode cX1_weight 5 = .ok (.ifCond .eq 25, 3) := by decide +kernel
theorem dX1_weight_8 : decode cX1_weight 8 = .ok (.iload_n 2, 1) := by decide +kernel
theorem dX1_weight_9 : decode cX1_weight 9 = .ok (.ifCond .lt 21, 3) := by decide +kernel
theorem dX1_weight_12 : decode cX1_weight 12 = .ok (.iload_n 2, 1) := by decide +kernel
theorem dX1_weight_13 : decode cX1_weight 13 = .ok (.bipush 8, 2) := by decide +kernel
theorem dX1_weight_15 : decode cX1_weight 15 = .ok (.if_icmp .gt 15, 3) := by decide +kernel
theorem dX1_weight_18 : decode cX1_weight 18 = .ok (.iload_n 3, 1) := by decide +kernel
theorem dX1_weight_19 : decode cX1_weight 19 = .ok (.bipush (-9), 2) := by decide +kernel
theorem dX1_weight_21 : decode cX1_weight 21 = .ok (.if_icmp .lt 9, 3) := by decide +kernel
theorem dX1_weight_24 : decode cX1_weight 24 = .ok (.iload_n 3, 1) := by decide +kernel
theorem dX1_weight_25 : decode cX1_weight 25 = .ok (.bipush 9, 2) := by decide +kernel
theorem dX1_weight_27 : decode cX1_weight 27 = .ok (.if_icmp .le 5, 3) := by decide +kernel
theorem dX1_weight_30 : decode cX1_weight 30 = .ok (.iconst 0, 1) := by decide +kernel
theorem dX1_weight_31 : decode cX1_weight 31 = .ok (.ireturn, 1) := by decide +kernel
theorem dX1_weight_32 : decode cX1_weight 32 = .ok (.aload_n 0, 1) := by decide +kernel
theorem dX1_weight_33 : decode cX1_weight 33 = .ok (.getfield 16, 3) := by decide +kernel
theorem dX1_weight_36 : decode cX1_weight 36 = .ok (.bipush 9, 2) := by decide +kernel
theorem dX1_weight_38 : decode cX1_weight 38 = .ok (.iload_n 1, 1) := by decide +kernel
theorem dX1_weight_39 : decode cX1_weight 39 = .ok (.imul, 1) := by decide +kernel
theorem dX1_weight_40 : decode cX1_weight 40 = .ok (.iload_n 2, 1) := by decide +kernel
theorem dX1_weight_41 : decode cX1_weight 41 = .ok (.iadd, 1) := by decide +kernel
theorem dX1_weight_42 : decode cX1_weight 42 = .ok (.iload_n 3, 1) := by decide +kernel
theorem dX1_weight_43 : decode cX1_weight 43 = .ok (.iastore, 1) := by decide +kernel
theorem dX1_weight_44 : decode cX1_weight 44 = .ok (.iconst 1, 1) := by decide +kernel
theorem dX1_weight_45 : decode cX1_weight 45 = .ok (.ireturn, 1) := by decide +kernel
theorem dX1_isFilter_0 : decode cX1_isFilter 0 = .ok (.iload_n 1, 1) := by decide +kernel
theorem dX1_isFilter_1 : decode cX1_isFilter 1 = .ok (.ifCond .eq 8, 3) := by decide +kernel
theorem dX1_isFilter_4 : decode cX1_isFilter 4 = .ok (.iload_n 1, 1) := by decide +kernel
theorem dX1_isFilter_5 : decode cX1_isFilter 5 = .ok (.iconst 1, 1) := by decide +kernel
theorem dX1_isFilter_6 : decode cX1_isFilter 6 = .ok (.if_icmp .ne 7, 3) := by decide +kernel
theorem dX1_isFilter_9 : decode cX1_isFilter 9 = .ok (.iconst 1, 1) := by decide +kernel
theorem dX1_isFilter_10 : decode cX1_isFilter 10 = .ok (.goto 4, 3) := by decide +kernel
theorem dX1_isFilter_13 : decode cX1_isFilter 13 = .ok (.iconst 0, 1) := by decide +kernel
theorem dX1_isFilter_14 : decode cX1_isFilter 14 = .ok (.ireturn, 1) := by decide +kernel
theorem dX1_response_0 : decode cX1_response 0 = .ok (.aload_n 0, 1) := by decide +kernel
theorem dX1_response_1 : decode cX1_response 1 = .ok (.iload_n 1, 1) := by decide +kernel
theorem dX1_response_2 : decode cX1_response 2 = .ok (.invokevirtual 30, 3) := by decide +kernel
theorem dX1_response_5 : decode cX1_response 5 = .ok (.ifCond .eq 28, 3) := by decide +kernel
theorem dX1_response_8 : decode cX1_response 8 = .ok (.aload_n 0, 1) := by decide +kernel
theorem dX1_response_9 : decode cX1_response 9 = .ok (.iload_n 2, 1) := by decide +kernel
theorem dX1_response_10 : decode cX1_response 10 = .ok (.invokevirtual 19, 3) := by decide +kernel
theorem dX1_response_13 : decode cX1_response 13 = .ok (.ifCond .eq 20, 3) := by decide +kernel
theorem dX1_response_16 : decode cX1_response 16 = .ok (.aload_n 0, 1) := by decide +kernel
theorem dX1_response_17 : decode cX1_response 17 = .ok (.iload_n 1, 1) := by decide +kernel
theorem dX1_response_18 : decode cX1_response 18 = .ok (.iload_n 2, 1) := by decide +kernel
theorem dX1_response_19 : decode cX1_response 19 = .ok (.bipush 10, 2) := by decide +kernel
theorem dX1_response_21 : decode cX1_response 21 = .ok (.irem, 1) := by decide +kernel
theorem dX1_response_22 : decode cX1_response 22 = .ok (.iload_n 2, 1) := by decide +kernel
theorem dX1_response_23 : decode cX1_response 23 = .ok (.bipush 10, 2) := by decide +kernel
theorem dX1_response_25 : decode cX1_response 25 = .ok (.idiv, 1) := by decide +kernel
theorem dX1_response_26 : decode cX1_response 26 = .ok (.iconst 0, 1) := by decide +kernel
theorem dX1_response_27 : decode cX1_response 27 = .ok (.invokevirtual 33, 3) := by decide +kernel
theorem dX1_response_30 : decode cX1_response 30 = .ok (.goto 5, 3) := by decide +kernel
theorem dX1_response_33 : decode cX1_response 33 = .ok (.ldc 29, 2) := by decide +kernel
theorem dX1_response_35 : decode cX1_response 35 = .ok (.ireturn, 1) := by decide +kernel
theorem dX1_at_0 : decode cX1_at 0 = .ok (.iconst 0, 1) := by decide +kernel
theorem dX1_at_1 : decode cX1_at 1 = .ok (.istore 5, 2) := by decide +kernel
theorem dX1_at_3 : decode cX1_at 3 = .ok (.iconst 0, 1) := by decide +kernel
theorem dX1_at_4 : decode cX1_at 4 = .ok (.istore 6, 2) := by decide +kernel
theorem dX1_at_6 : decode cX1_at 6 = .ok (.iload 6, 2) := by decide +kernel
theorem dX1_at_8 : decode cX1_at 8 = .ok (.bipush 9, 2) := by decide +kernel
theorem dX1_at_10 : decode cX1_at 10 = .ok (.if_icmp .ge 99, 3) := by decide +kernel
theorem dX1_at_13 : decode cX1_at 13 = .ok (.iload_n 2, 1) := by decide +kernel
theorem dX1_at_14 : decode cX1_at 14 = .ok (.iload 6, 2) := by decide +kernel
theorem dX1_at_16 : decode cX1_at 16 = .ok (.iconst 3, 1) := by decide +kernel
theorem dX1_at_17 : decode cX1_at 17 = .ok (.irem, 1) := by decide +kernel
theorem dX1_at_18 : decode cX1_at 18 = .ok (.iadd, 1) := by decide +kernel
theorem dX1_at_19 : decode cX1_at 19 = .ok (.iconst 1, 1) := by decide +kernel
theorem dX1_at_20 : decode cX1_at 20 = .ok (.isub, 1) := by decide +kernel
theorem dX1_at_21 : decode cX1_at 21 = .ok (.istore 7, 2) := by decide +kernel
theorem dX1_at_23 : decode cX1_at 23 = .ok (.iload_n 3, 1) := by decide +kernel
theorem dX1_at_24 : decode cX1_at 24 = .ok (.iload 6, 2) := by decide +kernel
theorem dX1_at_26 : decode cX1_at 26 = .ok (.iconst 3, 1) := by decide +kernel
theorem dX1_at_27 : decode cX1_at 27 = .ok (.idiv, 1) := by decide +kernel
theorem dX1_at_28 : decode cX1_at 28 = .ok (.iadd, 1) := by decide +kernel
theorem dX1_at_29 : decode cX1_at 29 = .ok (.iconst 1, 1) := by decide +kernel
theorem dX1_at_30 : decode cX1_at 30 = .ok (.isub, 1) := by decide +kernel
theorem dX1_at_31 : decode cX1_at 31 = .ok (.istore 8, 2) := by decide +kernel
theorem dX1_at_33 : decode cX1_at 33 = .ok (.aload_n 0, 1) := by decide +kernel
theorem dX1_at_34 : decode cX1_at 34 = .ok (.iload 7, 2) := by decide +kernel
theorem dX1_at_36 : decode cX1_at 36 = .ok (.invokevirtual 26, 3) := by decide +kernel
theorem dX1_at_39 : decode cX1_at 39 = .ok (.ifCond .eq 64, 3) := by decide +kernel
theorem dX1_at_42 : decode cX1_at 42 = .ok (.aload_n 0, 1) := by decide +kernel
theorem dX1_at_43 : decode cX1_at 43 = .ok (.iload 8, 2) := by decide +kernel
theorem dX1_at_45 : decode cX1_at 45 = .ok (.invokevirtual 26, 3) := by decide +kernel
theorem dX1_at_48 : decode cX1_at 48 = .ok (.ifCond .eq 55, 3) := by decide +kernel
theorem dX1_at_51 : decode cX1_at 51 = .ok (.iload 5, 2) := by decide +kernel
theorem dX1_at_53 : decode cX1_at 53 = .ok (.aload_n 0, 1) := by decide +kernel
theorem dX1_at_54 : decode cX1_at 54 = .ok (.getfield 16, 3) := by decide +kernel
theorem dX1_at_57 : decode cX1_at 57 = .ok (.bipush 9, 2) := by decide +kernel
theorem dX1_at_59 : decode cX1_at 59 = .ok (.iload_n 1, 1) := by decide +kernel
theorem dX1_at_60 : decode cX1_at 60 = .ok (.imul, 1) := by decide +kernel
theorem dX1_at_61 : decode cX1_at 61 = .ok (.iload 6, 2) := by decide +kernel
theorem dX1_at_63 : decode cX1_at 63 = .ok (.iadd, 1) := by decide +kernel
theorem dX1_at_64 : decode cX1_at 64 = .ok (.iaload, 1) := by decide +kernel
theorem dX1_at_65 : decode cX1_at 65 = .ok (.iload 4, 2) := by decide +kernel
theorem dX1_at_67 : decode cX1_at 67 = .ok (.ifCond .eq 19, 3) := by decide +kernel
theorem dX1_at_70 : decode cX1_at 70 = .ok (.aload_n 0, 1) := by decide +kernel
theorem dX1_at_71 : decode cX1_at 71 = .ok (.getfield 13, 3) := by decide +kernel
theorem dX1_at_74 : decode cX1_at 74 = .ok (.bipush 10, 2) := by decide +kernel
theorem dX1_at_76 : decode cX1_at 76 = .ok (.iload 8, 2) := by decide +kernel
theorem dX1_at_78 : decode cX1_at 78 = .ok (.imul, 1) := by decide +kernel
theorem dX1_at_79 : decode cX1_at 79 = .ok (.iload 7, 2) := by decide +kernel
theorem dX1_at_81 : decode cX1_at 81 = .ok (.iadd, 1) := by decide +kernel
theorem dX1_at_82 : decode cX1_at 82 = .ok (.iaload, 1) := by decide +kernel
theorem dX1_at_83 : decode cX1_at 83 = .ok (.goto 16, 3) := by decide +kernel
theorem dX1_at_86 : decode cX1_at 86 = .ok (.aload_n 0, 1) := by decide +kernel
theorem dX1_at_87 : decode cX1_at 87 = .ok (.getfield 7, 3) := by decide +kernel
theorem dX1_at_90 : decode cX1_at 90 = .ok (.bipush 10, 2) := by decide +kernel
theorem dX1_at_92 : decode cX1_at 92 = .ok (.iload 8, 2) := by decide +kernel
theorem dX1_at_94 : decode cX1_at 94 = .ok (.imul, 1) := by decide +kernel
theorem dX1_at_95 : decode cX1_at 95 = .ok (.iload 7, 2) := by decide +kernel
theorem dX1_at_97 : decode cX1_at 97 = .ok (.iadd, 1) := by decide +kernel
theorem dX1_at_98 : decode cX1_at 98 = .ok (.iaload, 1) := by decide +kernel
theorem dX1_at_99 : decode cX1_at 99 = .ok (.imul, 1) := by decide +kernel
theorem dX1_at_100 : decode cX1_at 100 = .ok (.iadd, 1) := by decide +kernel
theorem dX1_at_101 : decode cX1_at 101 = .ok (.istore 5, 2) := by decide +kernel
theorem dX1_at_103 : decode cX1_at 103 = .ok (.iinc 6 1, 3) := by decide +kernel
theorem dX1_at_106 : decode cX1_at 106 = .ok (.goto (-100), 3) := by decide +kernel
theorem dX1_at_109 : decode cX1_at 109 = .ok (.iload 5, 2) := by decide +kernel
theorem dX1_at_111 : decode cX1_at 111 = .ok (.ireturn, 1) := by decide +kernel
theorem dX1_second_0 : decode cX1_second 0 = .ok (.aload_n 0, 1) := by decide +kernel
theorem dX1_second_1 : decode cX1_second 1 = .ok (.iload_n 1, 1) := by decide +kernel
theorem dX1_second_2 : decode cX1_second 2 = .ok (.invokevirtual 19, 3) := by decide +kernel
theorem dX1_second_5 : decode cX1_second 5 = .ok (.ifCond .ne 6, 3) := by decide +kernel
theorem dX1_second_8 : decode cX1_second 8 = .ok (.ldc 29, 2) := by decide +kernel
theorem dX1_second_10 : decode cX1_second 10 = .ok (.ireturn, 1) := by decide +kernel
theorem dX1_second_11 : decode cX1_second 11 = .ok (.aload_n 0, 1) := by decide +kernel
theorem dX1_second_12 : decode cX1_second 12 = .ok (.iconst 0, 1) := by decide +kernel
theorem dX1_second_13 : decode cX1_second 13 = .ok (.invokevirtual 37, 3) := by decide +kernel
theorem dX1_second_16 : decode cX1_second 16 = .ok (.aload_n 0, 1) := by decide +kernel
theorem dX1_second_17 : decode cX1_second 17 = .ok (.iconst 1, 1) := by decide +kernel
theorem dX1_second_18 : decode cX1_second 18 = .ok (.iload_n 1, 1) := by decide +kernel
theorem dX1_second_19 : decode cX1_second 19 = .ok (.bipush 10, 2) := by decide +kernel
theorem dX1_second_21 : decode cX1_second 21 = .ok (.irem, 1) := by decide +kernel
theorem dX1_second_22 : decode cX1_second 22 = .ok (.iload_n 1, 1) := by decide +kernel
theorem dX1_second_23 : decode cX1_second 23 = .ok (.bipush 10, 2) := by decide +kernel
theorem dX1_second_25 : decode cX1_second 25 = .ok (.idiv, 1) := by decide +kernel
theorem dX1_second_26 : decode cX1_second 26 = .ok (.iconst 1, 1) := by decide +kernel
theorem dX1_second_27 : decode cX1_second 27 = .ok (.invokevirtual 33, 3) := by decide +kernel
theorem dX1_second_30 : decode cX1_second 30 = .ok (.ireturn, 1) := by decide +kernel
theorem dX1_respond_0 : decode cX1_respond 0 = .ok (.iconst 0, 1) := by decide +kernel
theorem dX1_respond_1 : decode cX1_respond 1 = .ok (.istore_n 2, 1) := by decide +kernel
theorem dX1_respond_2 : decode cX1_respond 2 = .ok (.iload_n 2, 1) := by decide +kernel
theorem dX1_respond_3 : decode cX1_respond 3 = .ok (.bipush 100, 2) := by decide +kernel
theorem dX1_respond_5 : decode cX1_respond 5 = .ok (.if_icmp .ge 29, 3) := by decide +kernel
theorem dX1_respond_8 : decode cX1_respond 8 = .ok (.aload_n 0, 1) := by decide +kernel
theorem dX1_respond_9 : decode cX1_respond 9 = .ok (.getfield 13, 3) := by decide +kernel
theorem dX1_respond_12 : decode cX1_respond 12 = .ok (.iload_n 2, 1) := by decide +kernel
theorem dX1_respond_13 : decode cX1_respond 13 = .ok (.aload_n 0, 1) := by decide +kernel
theorem dX1_respond_14 : decode cX1_respond 14 = .ok (.iload_n 1, 1) := by decide +kernel
theorem dX1_respond_15 : decode cX1_respond 15 = .ok (.iload_n 2, 1) := by decide +kernel
theorem dX1_respond_16 : decode cX1_respond 16 = .ok (.bipush 10, 2) := by decide +kernel
theorem dX1_respond_18 : decode cX1_respond 18 = .ok (.irem, 1) := by decide +kernel
theorem dX1_respond_19 : decode cX1_respond 19 = .ok (.iload_n 2, 1) := by decide +kernel
theorem dX1_respond_20 : decode cX1_respond 20 = .ok (.bipush 10, 2) := by decide +kernel
end
section
set_option maxRecDepth 100000
theorem dX1_respond_22 : decode cX1_respond 22 = .ok (.idiv, 1) := by decide +kernel
theorem dX1_respond_23 : decode cX1_respond 23 = .ok (.iconst 0, 1) := by decide +kernel
theorem dX1_respond_24 : decode cX1_respond 24 = .ok (.invokevirtual 33, 3) := by decide +kernel
theorem dX1_respond_27 : decode cX1_respond 27 = .ok (.iastore, 1) := by decide +kernel
theorem dX1_respond_28 : decode cX1_respond 28 = .ok (.iinc 2 1, 3) := by decide +kernel
theorem dX1_respond_31 : decode cX1_respond 31 = .ok (.goto (-29), 3) := by decide +kernel
theorem dX1_respond_34 : decode cX1_respond 34 = .ok (.return_, 1) := by decide +kernel
theorem dX1_greatest_0 : decode cX1_greatest 0 = .ok (.aload_n 0, 1) := by decide +kernel
theorem dX1_greatest_1 : decode cX1_greatest 1 = .ok (.iload_n 1, 1) := by decide +kernel
theorem dX1_greatest_2 : decode cX1_greatest 2 = .ok (.invokevirtual 30, 3) := by decide +kernel
theorem dX1_greatest_5 : decode cX1_greatest 5 = .ok (.ifCond .ne 6, 3) := by decide +kernel
theorem dX1_greatest_8 : decode cX1_greatest 8 = .ok (.ldc 29, 2) := by decide +kernel
theorem dX1_greatest_10 : decode cX1_greatest 10 = .ok (.ireturn, 1) := by decide +kernel
theorem dX1_greatest_11 : decode cX1_greatest 11 = .ok (.aload_n 0, 1) := by decide +kernel
theorem dX1_greatest_12 : decode cX1_greatest 12 = .ok (.iload_n 1, 1) := by decide +kernel
theorem dX1_greatest_13 : decode cX1_greatest 13 = .ok (.invokevirtual 37, 3) := by decide +kernel
theorem dX1_greatest_16 : decode cX1_greatest 16 = .ok (.aload_n 0, 1) := by decide +kernel
theorem dX1_greatest_17 : decode cX1_greatest 17 = .ok (.invokevirtual 41, 3) := by decide +kernel
theorem dX1_greatest_20 : decode cX1_greatest 20 = .ok (.istore_n 2, 1) := by decide +kernel
theorem dX1_greatest_21 : decode cX1_greatest 21 = .ok (.aload_n 0, 1) := by decide +kernel
theorem dX1_greatest_22 : decode cX1_greatest 22 = .ok (.getfield 13, 3) := by decide +kernel
theorem dX1_greatest_25 : decode cX1_greatest 25 = .ok (.iload_n 2, 1) := by decide +kernel
theorem dX1_greatest_26 : decode cX1_greatest 26 = .ok (.iaload, 1) := by decide +kernel
theorem dX1_greatest_27 : decode cX1_greatest 27 = .ok (.ireturn, 1) := by decide +kernel
theorem dX1_best_0 : decode cX1_best 0 = .ok (.iconst 0, 1) := by decide +kernel
theorem dX1_best_1 : decode cX1_best 1 = .ok (.istore_n 1, 1) := by decide +kernel
theorem dX1_best_2 : decode cX1_best 2 = .ok (.iconst 1, 1) := by decide +kernel
theorem dX1_best_3 : decode cX1_best 3 = .ok (.istore_n 2, 1) := by decide +kernel
theorem dX1_best_4 : decode cX1_best 4 = .ok (.iload_n 2, 1) := by decide +kernel
theorem dX1_best_5 : decode cX1_best 5 = .ok (.bipush 100, 2) := by decide +kernel
theorem dX1_best_7 : decode cX1_best 7 = .ok (.if_icmp .ge 26, 3) := by decide +kernel
theorem dX1_best_10 : decode cX1_best 10 = .ok (.aload_n 0, 1) := by decide +kernel
theorem dX1_best_11 : decode cX1_best 11 = .ok (.getfield 13, 3) := by decide +kernel
theorem dX1_best_14 : decode cX1_best 14 = .ok (.iload_n 2, 1) := by decide +kernel
theorem dX1_best_15 : decode cX1_best 15 = .ok (.iaload, 1) := by decide +kernel
theorem dX1_best_16 : decode cX1_best 16 = .ok (.aload_n 0, 1) := by decide +kernel
theorem dX1_best_17 : decode cX1_best 17 = .ok (.getfield 13, 3) := by decide +kernel
theorem dX1_best_20 : decode cX1_best 20 = .ok (.iload_n 1, 1) := by decide +kernel
theorem dX1_best_21 : decode cX1_best 21 = .ok (.iaload, 1) := by decide +kernel
theorem dX1_best_22 : decode cX1_best 22 = .ok (.if_icmp .le 5, 3) := by decide +kernel
theorem dX1_best_25 : decode cX1_best 25 = .ok (.iload_n 2, 1) := by decide +kernel
theorem dX1_best_26 : decode cX1_best 26 = .ok (.istore_n 1, 1) := by decide +kernel
theorem dX1_best_27 : decode cX1_best 27 = .ok (.iinc 2 1, 3) := by decide +kernel
theorem dX1_best_30 : decode cX1_best 30 = .ok (.goto (-26), 3) := by decide +kernel
theorem dX1_best_33 : decode cX1_best 33 = .ok (.iload_n 1, 1) := by decide +kernel
theorem dX1_best_34 : decode cX1_best 34 = .ok (.ireturn, 1) := by decide +kernel
theorem dX1_where_0 : decode cX1_where 0 = .ok (.aload_n 0, 1) := by decide +kernel
theorem dX1_where_1 : decode cX1_where 1 = .ok (.iload_n 1, 1) := by decide +kernel
theorem dX1_where_2 : decode cX1_where 2 = .ok (.invokevirtual 30, 3) := by decide +kernel
theorem dX1_where_5 : decode cX1_where 5 = .ok (.ifCond .ne 6, 3) := by decide +kernel
theorem dX1_where_8 : decode cX1_where 8 = .ok (.ldc 29, 2) := by decide +kernel
theorem dX1_where_10 : decode cX1_where 10 = .ok (.ireturn, 1) := by decide +kernel
theorem dX1_where_11 : decode cX1_where 11 = .ok (.aload_n 0, 1) := by decide +kernel
theorem dX1_where_12 : decode cX1_where 12 = .ok (.iload_n 1, 1) := by decide +kernel
theorem dX1_where_13 : decode cX1_where 13 = .ok (.invokevirtual 37, 3) := by decide +kernel
theorem dX1_where_16 : decode cX1_where 16 = .ok (.aload_n 0, 1) := by decide +kernel
theorem dX1_where_17 : decode cX1_where 17 = .ok (.invokevirtual 41, 3) := by decide +kernel
theorem dX1_where_20 : decode cX1_where 20 = .ok (.ireturn, 1) := by decide +kernel
theorem dX1_total_0 : decode cX1_total 0 = .ok (.aload_n 0, 1) := by decide +kernel
theorem dX1_total_1 : decode cX1_total 1 = .ok (.iload_n 1, 1) := by decide +kernel
theorem dX1_total_2 : decode cX1_total 2 = .ok (.invokevirtual 30, 3) := by decide +kernel
theorem dX1_total_5 : decode cX1_total 5 = .ok (.ifCond .ne 6, 3) := by decide +kernel
theorem dX1_total_8 : decode cX1_total 8 = .ok (.ldc 29, 2) := by decide +kernel
theorem dX1_total_10 : decode cX1_total 10 = .ok (.ireturn, 1) := by decide +kernel
theorem dX1_total_11 : decode cX1_total 11 = .ok (.aload_n 0, 1) := by decide +kernel
theorem dX1_total_12 : decode cX1_total 12 = .ok (.iload_n 1, 1) := by decide +kernel
theorem dX1_total_13 : decode cX1_total 13 = .ok (.invokevirtual 37, 3) := by decide +kernel
theorem dX1_total_16 : decode cX1_total 16 = .ok (.iconst 0, 1) := by decide +kernel
theorem dX1_total_17 : decode cX1_total 17 = .ok (.istore_n 2, 1) := by decide +kernel
theorem dX1_total_18 : decode cX1_total 18 = .ok (.iconst 0, 1) := by decide +kernel
theorem dX1_total_19 : decode cX1_total 19 = .ok (.istore_n 3, 1) := by decide +kernel
theorem dX1_total_20 : decode cX1_total 20 = .ok (.iload_n 3, 1) := by decide +kernel
theorem dX1_total_21 : decode cX1_total 21 = .ok (.bipush 100, 2) := by decide +kernel
theorem dX1_total_23 : decode cX1_total 23 = .ok (.if_icmp .ge 18, 3) := by decide +kernel
theorem dX1_total_26 : decode cX1_total 26 = .ok (.iload_n 2, 1) := by decide +kernel
theorem dX1_total_27 : decode cX1_total 27 = .ok (.aload_n 0, 1) := by decide +kernel
theorem dX1_total_28 : decode cX1_total 28 = .ok (.getfield 13, 3) := by decide +kernel
theorem dX1_total_31 : decode cX1_total 31 = .ok (.iload_n 3, 1) := by decide +kernel
theorem dX1_total_32 : decode cX1_total 32 = .ok (.iaload, 1) := by decide +kernel
theorem dX1_total_33 : decode cX1_total 33 = .ok (.iadd, 1) := by decide +kernel
theorem dX1_total_34 : decode cX1_total 34 = .ok (.istore_n 2, 1) := by decide +kernel
theorem dX1_total_35 : decode cX1_total 35 = .ok (.iinc 3 1, 3) := by decide +kernel
theorem dX1_total_38 : decode cX1_total 38 = .ok (.goto (-18), 3) := by decide +kernel
theorem dX1_total_41 : decode cX1_total 41 = .ok (.iload_n 2, 1) := by decide +kernel
theorem dX1_total_42 : decode cX1_total 42 = .ok (.ireturn, 1) := by decide +kernel
theorem dX1_pooled_0 : decode cX1_pooled 0 = .ok (.aload_n 0, 1) := by decide +kernel
theorem dX1_pooled_1 : decode cX1_pooled 1 = .ok (.iload_n 1, 1) := by decide +kernel
theorem dX1_pooled_2 : decode cX1_pooled 2 = .ok (.invokevirtual 30, 3) := by decide +kernel
theorem dX1_pooled_5 : decode cX1_pooled 5 = .ok (.ifCond .eq 13, 3) := by decide +kernel
theorem dX1_pooled_8 : decode cX1_pooled 8 = .ok (.iload_n 2, 1) := by decide +kernel
theorem dX1_pooled_9 : decode cX1_pooled 9 = .ok (.ifCond .lt 9, 3) := by decide +kernel
theorem dX1_pooled_12 : decode cX1_pooled 12 = .ok (.iload_n 2, 1) := by decide +kernel
theorem dX1_pooled_13 : decode cX1_pooled 13 = .ok (.bipush 24, 2) := by decide +kernel
theorem dX1_pooled_15 : decode cX1_pooled 15 = .ok (.if_icmp .le 6, 3) := by decide +kernel
theorem dX1_pooled_18 : decode cX1_pooled 18 = .ok (.ldc 29, 2) := by decide +kernel
theorem dX1_pooled_20 : decode cX1_pooled 20 = .ok (.ireturn, 1) := by decide +kernel
theorem dX1_pooled_21 : decode cX1_pooled 21 = .ok (.aload_n 0, 1) := by decide +kernel
theorem dX1_pooled_22 : decode cX1_pooled 22 = .ok (.iload_n 1, 1) := by decide +kernel
theorem dX1_pooled_23 : decode cX1_pooled 23 = .ok (.invokevirtual 37, 3) := by decide +kernel
theorem dX1_pooled_26 : decode cX1_pooled 26 = .ok (.bipush 20, 2) := by decide +kernel
theorem dX1_pooled_28 : decode cX1_pooled 28 = .ok (.iload_n 2, 1) := by decide +kernel
theorem dX1_pooled_29 : decode cX1_pooled 29 = .ok (.iconst 5, 1) := by decide +kernel
theorem dX1_pooled_30 : decode cX1_pooled 30 = .ok (.idiv, 1) := by decide +kernel
theorem dX1_pooled_31 : decode cX1_pooled 31 = .ok (.imul, 1) := by decide +kernel
theorem dX1_pooled_32 : decode cX1_pooled 32 = .ok (.iconst 2, 1) := by decide +kernel
theorem dX1_pooled_33 : decode cX1_pooled 33 = .ok (.iload_n 2, 1) := by decide +kernel
theorem dX1_pooled_34 : decode cX1_pooled 34 = .ok (.iconst 5, 1) := by decide +kernel
theorem dX1_pooled_35 : decode cX1_pooled 35 = .ok (.irem, 1) := by decide +kernel
theorem dX1_pooled_36 : decode cX1_pooled 36 = .ok (.imul, 1) := by decide +kernel
theorem dX1_pooled_37 : decode cX1_pooled 37 = .ok (.iadd, 1) := by decide +kernel
theorem dX1_pooled_38 : decode cX1_pooled 38 = .ok (.istore_n 3, 1) := by decide +kernel
theorem dX1_pooled_39 : decode cX1_pooled 39 = .ok (.aload_n 0, 1) := by decide +kernel
theorem dX1_pooled_40 : decode cX1_pooled 40 = .ok (.getfield 13, 3) := by decide +kernel
theorem dX1_pooled_43 : decode cX1_pooled 43 = .ok (.iload_n 3, 1) := by decide +kernel
theorem dX1_pooled_44 : decode cX1_pooled 44 = .ok (.iaload, 1) := by decide +kernel
theorem dX1_pooled_45 : decode cX1_pooled 45 = .ok (.istore 4, 2) := by decide +kernel
theorem dX1_pooled_47 : decode cX1_pooled 47 = .ok (.aload_n 0, 1) := by decide +kernel
theorem dX1_pooled_48 : decode cX1_pooled 48 = .ok (.getfield 13, 3) := by decide +kernel
theorem dX1_pooled_51 : decode cX1_pooled 51 = .ok (.iload_n 3, 1) := by decide +kernel
theorem dX1_pooled_52 : decode cX1_pooled 52 = .ok (.iconst 1, 1) := by decide +kernel
theorem dX1_pooled_53 : decode cX1_pooled 53 = .ok (.iadd, 1) := by decide +kernel
theorem dX1_pooled_54 : decode cX1_pooled 54 = .ok (.iaload, 1) := by decide +kernel
theorem dX1_pooled_55 : decode cX1_pooled 55 = .ok (.iload 4, 2) := by decide +kernel
theorem dX1_pooled_57 : decode cX1_pooled 57 = .ok (.if_icmp .le 13, 3) := by decide +kernel
theorem dX1_pooled_60 : decode cX1_pooled 60 = .ok (.aload_n 0, 1) := by decide +kernel
theorem dX1_pooled_61 : decode cX1_pooled 61 = .ok (.getfield 13, 3) := by decide +kernel
theorem dX1_pooled_64 : decode cX1_pooled 64 = .ok (.iload_n 3, 1) := by decide +kernel
theorem dX1_pooled_65 : decode cX1_pooled 65 = .ok (.iconst 1, 1) := by decide +kernel
theorem dX1_pooled_66 : decode cX1_pooled 66 = .ok (.iadd, 1) := by decide +kernel
theorem dX1_pooled_67 : decode cX1_pooled 67 = .ok (.iaload, 1) := by decide +kernel
theorem dX1_pooled_68 : decode cX1_pooled 68 = .ok (.istore 4, 2) := by decide +kernel
theorem dX1_pooled_70 : decode cX1_pooled 70 = .ok (.aload_n 0, 1) := by decide +kernel
theorem dX1_pooled_71 : decode cX1_pooled 71 = .ok (.getfield 13, 3) := by decide +kernel
theorem dX1_pooled_74 : decode cX1_pooled 74 = .ok (.iload_n 3, 1) := by decide +kernel
theorem dX1_pooled_75 : decode cX1_pooled 75 = .ok (.bipush 10, 2) := by decide +kernel
theorem dX1_pooled_77 : decode cX1_pooled 77 = .ok (.iadd, 1) := by decide +kernel
theorem dX1_pooled_78 : decode cX1_pooled 78 = .ok (.iaload, 1) := by decide +kernel
theorem dX1_pooled_79 : decode cX1_pooled 79 = .ok (.iload 4, 2) := by decide +kernel
theorem dX1_pooled_81 : decode cX1_pooled 81 = .ok (.if_icmp .le 14, 3) := by decide +kernel
theorem dX1_pooled_84 : decode cX1_pooled 84 = .ok (.aload_n 0, 1) := by decide +kernel
theorem dX1_pooled_85 : decode cX1_pooled 85 = .ok (.getfield 13, 3) := by decide +kernel
theorem dX1_pooled_88 : decode cX1_pooled 88 = .ok (.iload_n 3, 1) := by decide +kernel
theorem dX1_pooled_89 : decode cX1_pooled 89 = .ok (.bipush 10, 2) := by decide +kernel
theorem dX1_pooled_91 : decode cX1_pooled 91 = .ok (.iadd, 1) := by decide +kernel
theorem dX1_pooled_92 : decode cX1_pooled 92 = .ok (.iaload, 1) := by decide +kernel
theorem dX1_pooled_93 : decode cX1_pooled 93 = .ok (.istore 4, 2) := by decide +kernel
theorem dX1_pooled_95 : decode cX1_pooled 95 = .ok (.aload_n 0, 1) := by decide +kernel
theorem dX1_pooled_96 : decode cX1_pooled 96 = .ok (.getfield 13, 3) := by decide +kernel
theorem dX1_pooled_99 : decode cX1_pooled 99 = .ok (.iload_n 3, 1) := by decide +kernel
theorem dX1_pooled_100 : decode cX1_pooled 100 = .ok (.bipush 11, 2) := by decide +kernel
theorem dX1_pooled_102 : decode cX1_pooled 102 = .ok (.iadd, 1) := by decide +kernel
theorem dX1_pooled_103 : decode cX1_pooled 103 = .ok (.iaload, 1) := by decide +kernel
theorem dX1_pooled_104 : decode cX1_pooled 104 = .ok (.iload 4, 2) := by decide +kernel
theorem dX1_pooled_106 : decode cX1_pooled 106 = .ok (.if_icmp .le 15, 3) := by decide +kernel
theorem dX1_pooled_109 : decode cX1_pooled 109 = .ok (.aload_n 0, 1) := by decide +kernel
theorem dX1_pooled_110 : decode cX1_pooled 110 = .ok (.getfield 13, 3) := by decide +kernel
theorem dX1_pooled_113 : decode cX1_pooled 113 = .ok (.iload_n 3, 1) := by decide +kernel
theorem dX1_pooled_114 : decode cX1_pooled 114 = .ok (.bipush 11, 2) := by decide +kernel
theorem dX1_pooled_116 : decode cX1_pooled 116 = .ok (.iadd, 1) := by decide +kernel
theorem dX1_pooled_117 : decode cX1_pooled 117 = .ok (.iaload, 1) := by decide +kernel
theorem dX1_pooled_118 : decode cX1_pooled 118 = .ok (.goto 5, 3) := by decide +kernel
theorem dX1_pooled_121 : decode cX1_pooled 121 = .ok (.iload 4, 2) := by decide +kernel
theorem dX1_pooled_123 : decode cX1_pooled 123 = .ok (.ireturn, 1) := by decide +kernel
theorem dX1_apply_0 : decode cX1_apply 0 = .ok (.aload_n 0, 1) := by decide +kernel
theorem dX1_apply_1 : decode cX1_apply 1 = .ok (.iload_n 1, 1) := by decide +kernel
theorem dX1_apply_2 : decode cX1_apply 2 = .ok (.invokevirtual 30, 3) := by decide +kernel
theorem dX1_apply_5 : decode cX1_apply 5 = .ok (.ifCond .ne 6, 3) := by decide +kernel
theorem dX1_apply_8 : decode cX1_apply 8 = .ok (.ldc 29, 2) := by decide +kernel
theorem dX1_apply_10 : decode cX1_apply 10 = .ok (.ireturn, 1) := by decide +kernel
theorem dX1_apply_11 : decode cX1_apply 11 = .ok (.aload_n 0, 1) := by decide +kernel
theorem dX1_apply_12 : decode cX1_apply 12 = .ok (.iload_n 1, 1) := by decide +kernel
theorem dX1_apply_13 : decode cX1_apply 13 = .ok (.invokevirtual 37, 3) := by decide +kernel
theorem dX1_apply_16 : decode cX1_apply 16 = .ok (.iconst 0, 1) := by decide +kernel
theorem dX1_apply_17 : decode cX1_apply 17 = .ok (.istore_n 2, 1) := by decide +kernel
theorem dX1_apply_18 : decode cX1_apply 18 = .ok (.iconst 0, 1) := by decide +kernel
theorem dX1_apply_19 : decode cX1_apply 19 = .ok (.istore_n 3, 1) := by decide +kernel
theorem dX1_apply_20 : decode cX1_apply 20 = .ok (.iload_n 3, 1) := by decide +kernel
theorem dX1_apply_21 : decode cX1_apply 21 = .ok (.bipush 100, 2) := by decide +kernel
theorem dX1_apply_23 : decode cX1_apply 23 = .ok (.if_icmp .ge 71, 3) := by decide +kernel
theorem dX1_apply_26 : decode cX1_apply 26 = .ok (.aload_n 0, 1) := by decide +kernel
theorem dX1_apply_27 : decode cX1_apply 27 = .ok (.getfield 7, 3) := by decide +kernel
theorem dX1_apply_30 : decode cX1_apply 30 = .ok (.iload_n 3, 1) := by decide +kernel
theorem dX1_apply_31 : decode cX1_apply 31 = .ok (.aload_n 0, 1) := by decide +kernel
theorem dX1_apply_32 : decode cX1_apply 32 = .ok (.getfield 13, 3) := by decide +kernel
theorem dX1_apply_35 : decode cX1_apply 35 = .ok (.iload_n 3, 1) := by decide +kernel
theorem dX1_apply_36 : decode cX1_apply 36 = .ok (.iaload, 1) := by decide +kernel
theorem dX1_apply_37 : decode cX1_apply 37 = .ok (.bipush (-99), 2) := by decide +kernel
theorem dX1_apply_39 : decode cX1_apply 39 = .ok (.if_icmp .ge 8, 3) := by decide +kernel
theorem dX1_apply_42 : decode cX1_apply 42 = .ok (.bipush (-99), 2) := by decide +kernel
theorem dX1_apply_44 : decode cX1_apply 44 = .ok (.goto 25, 3) := by decide +kernel
theorem dX1_apply_47 : decode cX1_apply 47 = .ok (.aload_n 0, 1) := by decide +kernel
theorem dX1_apply_48 : decode cX1_apply 48 = .ok (.getfield 13, 3) := by decide +kernel
theorem dX1_apply_51 : decode cX1_apply 51 = .ok (.iload_n 3, 1) := by decide +kernel
theorem dX1_apply_52 : decode cX1_apply 52 = .ok (.iaload, 1) := by decide +kernel
theorem dX1_apply_53 : decode cX1_apply 53 = .ok (.bipush 99, 2) := by decide +kernel
theorem dX1_apply_55 : decode cX1_apply 55 = .ok (.if_icmp .le 8, 3) := by decide +kernel
theorem dX1_apply_58 : decode cX1_apply 58 = .ok (.bipush 99, 2) := by decide +kernel
theorem dX1_apply_60 : decode cX1_apply 60 = .ok (.goto 9, 3) := by decide +kernel
theorem dX1_apply_63 : decode cX1_apply 63 = .ok (.aload_n 0, 1) := by decide +kernel
theorem dX1_apply_64 : decode cX1_apply 64 = .ok (.getfield 13, 3) := by decide +kernel
theorem dX1_apply_67 : decode cX1_apply 67 = .ok (.iload_n 3, 1) := by decide +kernel
theorem dX1_apply_68 : decode cX1_apply 68 = .ok (.iaload, 1) := by decide +kernel
theorem dX1_apply_69 : decode cX1_apply 69 = .ok (.iastore, 1) := by decide +kernel
theorem dX1_apply_70 : decode cX1_apply 70 = .ok (.aload_n 0, 1) := by decide +kernel
theorem dX1_apply_71 : decode cX1_apply 71 = .ok (.getfield 7, 3) := by decide +kernel
theorem dX1_apply_74 : decode cX1_apply 74 = .ok (.iload_n 3, 1) := by decide +kernel
theorem dX1_apply_75 : decode cX1_apply 75 = .ok (.iaload, 1) := by decide +kernel
theorem dX1_apply_76 : decode cX1_apply 76 = .ok (.aload_n 0, 1) := by decide +kernel
theorem dX1_apply_77 : decode cX1_apply 77 = .ok (.getfield 13, 3) := by decide +kernel
theorem dX1_apply_80 : decode cX1_apply 80 = .ok (.iload_n 3, 1) := by decide +kernel
theorem dX1_apply_81 : decode cX1_apply 81 = .ok (.iaload, 1) := by decide +kernel
theorem dX1_apply_82 : decode cX1_apply 82 = .ok (.if_icmp .eq 6, 3) := by decide +kernel
theorem dX1_apply_85 : decode cX1_apply 85 = .ok (.iinc 2 1, 3) := by decide +kernel
theorem dX1_apply_88 : decode cX1_apply 88 = .ok (.iinc 3 1, 3) := by decide +kernel
theorem dX1_apply_91 : decode cX1_apply 91 = .ok (.goto (-71), 3) := by decide +kernel
theorem dX1_apply_94 : decode cX1_apply 94 = .ok (.iload_n 2, 1) := by decide +kernel
theorem dX1_apply_95 : decode cX1_apply 95 = .ok (.ireturn, 1) := by decide +kernel
theorem dX1_turn_0 : decode cX1_turn 0 = .ok (.aload_n 0, 1) := by decide +kernel
theorem dX1_turn_1 : decode cX1_turn 1 = .ok (.iload_n 1, 1) := by decide +kernel
theorem dX1_turn_2 : decode cX1_turn 2 = .ok (.invokevirtual 30, 3) := by decide +kernel
theorem dX1_turn_5 : decode cX1_turn 5 = .ok (.ifCond .ne 5, 3) := by decide +kernel
theorem dX1_turn_8 : decode cX1_turn 8 = .ok (.iconst 0, 1) := by decide +kernel
theorem dX1_turn_9 : decode cX1_turn 9 = .ok (.ireturn, 1) := by decide +kernel
theorem dX1_turn_10 : decode cX1_turn 10 = .ok (.iconst 0, 1) := by decide +kernel
theorem dX1_turn_11 : decode cX1_turn 11 = .ok (.istore_n 2, 1) := by decide +kernel
theorem dX1_turn_12 : decode cX1_turn 12 = .ok (.iload_n 2, 1) := by decide +kernel
theorem dX1_turn_13 : decode cX1_turn 13 = .ok (.iconst 4, 1) := by decide +kernel
theorem dX1_turn_14 : decode cX1_turn 14 = .ok (.if_icmp .ge 61, 3) := by decide +kernel
theorem dX1_turn_17 : decode cX1_turn 17 = .ok (.aload_n 0, 1) := by decide +kernel
theorem dX1_turn_18 : decode cX1_turn 18 = .ok (.getfield 16, 3) := by decide +kernel
theorem dX1_turn_21 : decode cX1_turn 21 = .ok (.bipush 9, 2) := by decide +kernel
theorem dX1_turn_23 : decode cX1_turn 23 = .ok (.iload_n 1, 1) := by decide +kernel
theorem dX1_turn_24 : decode cX1_turn 24 = .ok (.imul, 1) := by decide +kernel
theorem dX1_turn_25 : decode cX1_turn 25 = .ok (.iload_n 2, 1) := by decide +kernel
theorem dX1_turn_26 : decode cX1_turn 26 = .ok (.iadd, 1) := by decide +kernel
theorem dX1_turn_27 : decode cX1_turn 27 = .ok (.iaload, 1) := by decide +kernel
theorem dX1_turn_28 : decode cX1_turn 28 = .ok (.istore_n 3, 1) := by decide +kernel
theorem dX1_turn_29 : decode cX1_turn 29 = .ok (.aload_n 0, 1) := by decide +kernel
theorem dX1_turn_30 : decode cX1_turn 30 = .ok (.getfield 16, 3) := by decide +kernel
theorem dX1_turn_33 : decode cX1_turn 33 = .ok (.bipush 9, 2) := by decide +kernel
theorem dX1_turn_35 : decode cX1_turn 35 = .ok (.iload_n 1, 1) := by decide +kernel
theorem dX1_turn_36 : decode cX1_turn 36 = .ok (.imul, 1) := by decide +kernel
theorem dX1_turn_37 : decode cX1_turn 37 = .ok (.iload_n 2, 1) := by decide +kernel
theorem dX1_turn_38 : decode cX1_turn 38 = .ok (.iadd, 1) := by decide +kernel
theorem dX1_turn_39 : decode cX1_turn 39 = .ok (.aload_n 0, 1) := by decide +kernel
theorem dX1_turn_40 : decode cX1_turn 40 = .ok (.getfield 16, 3) := by decide +kernel
theorem dX1_turn_43 : decode cX1_turn 43 = .ok (.bipush 9, 2) := by decide +kernel
theorem dX1_turn_45 : decode cX1_turn 45 = .ok (.iload_n 1, 1) := by decide +kernel
theorem dX1_turn_46 : decode cX1_turn 46 = .ok (.imul, 1) := by decide +kernel
theorem dX1_turn_47 : decode cX1_turn 47 = .ok (.bipush 8, 2) := by decide +kernel
theorem dX1_turn_49 : decode cX1_turn 49 = .ok (.iadd, 1) := by decide +kernel
theorem dX1_turn_50 : decode cX1_turn 50 = .ok (.iload_n 2, 1) := by decide +kernel
theorem dX1_turn_51 : decode cX1_turn 51 = .ok (.isub, 1) := by decide +kernel
theorem dX1_turn_52 : decode cX1_turn 52 = .ok (.iaload, 1) := by decide +kernel
theorem dX1_turn_53 : decode cX1_turn 53 = .ok (.iastore, 1) := by decide +kernel
theorem dX1_turn_54 : decode cX1_turn 54 = .ok (.aload_n 0, 1) := by decide +kernel
theorem dX1_turn_55 : decode cX1_turn 55 = .ok (.getfield 16, 3) := by decide +kernel
theorem dX1_turn_58 : decode cX1_turn 58 = .ok (.bipush 9, 2) := by decide +kernel
theorem dX1_turn_60 : decode cX1_turn 60 = .ok (.iload_n 1, 1) := by decide +kernel
theorem dX1_turn_61 : decode cX1_turn 61 = .ok (.imul, 1) := by decide +kernel
theorem dX1_turn_62 : decode cX1_turn 62 = .ok (.bipush 8, 2) := by decide +kernel
theorem dX1_turn_64 : decode cX1_turn 64 = .ok (.iadd, 1) := by decide +kernel
theorem dX1_turn_65 : decode cX1_turn 65 = .ok (.iload_n 2, 1) := by decide +kernel
theorem dX1_turn_66 : decode cX1_turn 66 = .ok (.isub, 1) := by decide +kernel
theorem dX1_turn_67 : decode cX1_turn 67 = .ok (.iload_n 3, 1) := by decide +kernel
theorem dX1_turn_68 : decode cX1_turn 68 = .ok (.iastore, 1) := by decide +kernel
theorem dX1_turn_69 : decode cX1_turn 69 = .ok (.iinc 2 1, 3) := by decide +kernel
theorem dX1_turn_72 : decode cX1_turn 72 = .ok (.goto (-60), 3) := by decide +kernel
theorem dX1_turn_75 : decode cX1_turn 75 = .ok (.iconst 1, 1) := by decide +kernel
theorem dX1_turn_76 : decode cX1_turn 76 = .ok (.ireturn, 1) := by decide +kernel
end
section
set_option maxRecDepth 100000
theorem dL_law_0 : decode cL_law 0 = .ok (.new 7, 3) := by decide +kernel
theorem dL_law_3 : decode cL_law 3 = .ok (.dup, 1) := by decide +kernel
theorem dL_law_4 : decode cL_law 4 = .ok (.invokespecial 9, 3) := by decide +kernel
theorem dL_law_7 : decode cL_law 7 = .ok (.astore_n 1, 1) := by decide +kernel
theorem dL_law_8 : decode cL_law 8 = .ok (.new 10, 3) := by decide +kernel
theorem dL_law_11 : decode cL_law 11 = .ok (.dup, 1) := by decide +kernel
theorem dL_law_12 : decode cL_law 12 = .ok (.invokespecial 12, 3) := by decide +kernel
theorem dL_law_15 : decode cL_law 15 = .ok (.astore_n 2, 1) := by decide +kernel
theorem dL_law_16 : decode cL_law 16 = .ok (.iconst 0, 1) := by decide +kernel
theorem dL_law_17 : decode cL_law 17 = .ok (.istore_n 3, 1) := by decide +kernel
theorem dL_law_18 : decode cL_law 18 = .ok (.iload_n 3, 1) := by decide +kernel
theorem dL_law_19 : decode cL_law 19 = .ok (.aload_n 0, 1) := by decide +kernel
theorem dL_law_20 : decode cL_law 20 = .ok (.arraylength, 1) := by decide +kernel
theorem dL_law_21 : decode cL_law 21 = .ok (.iconst 5, 1) := by decide +kernel
theorem dL_law_22 : decode cL_law 22 = .ok (.isub, 1) := by decide +kernel
theorem dL_law_23 : decode cL_law 23 = .ok (.if_icmp .gt 408, 3) := by decide +kernel
theorem dL_law_26 : decode cL_law 26 = .ok (.aload_n 0, 1) := by decide +kernel
theorem dL_law_27 : decode cL_law 27 = .ok (.iload_n 3, 1) := by decide +kernel
theorem dL_law_28 : decode cL_law 28 = .ok (.iaload, 1) := by decide +kernel
theorem dL_law_29 : decode cL_law 29 = .ok (.bipush 15, 2) := by decide +kernel
theorem dL_law_31 : decode cL_law 31 = .ok (.iand, 1) := by decide +kernel
theorem dL_law_32 : decode cL_law 32 = .ok (.tableswitch 393 0 10 #[60, 93, 146, 189, 222, 245, 268, 291, 314, 347, 370], 60) := by decide +kernel
theorem dL_law_92 : decode cL_law 92 = .ok (.aload_n 1, 1) := by decide +kernel
theorem dL_law_93 : decode cL_law 93 = .ok (.aload_n 0, 1) := by decide +kernel
theorem dL_law_94 : decode cL_law 94 = .ok (.iload_n 3, 1) := by decide +kernel
theorem dL_law_95 : decode cL_law 95 = .ok (.iconst 1, 1) := by decide +kernel
theorem dL_law_96 : decode cL_law 96 = .ok (.iadd, 1) := by decide +kernel
theorem dL_law_97 : decode cL_law 97 = .ok (.iaload, 1) := by decide +kernel
theorem dL_law_98 : decode cL_law 98 = .ok (.aload_n 0, 1) := by decide +kernel
theorem dL_law_99 : decode cL_law 99 = .ok (.iload_n 3, 1) := by decide +kernel
theorem dL_law_100 : decode cL_law 100 = .ok (.iconst 2, 1) := by decide +kernel
theorem dL_law_101 : decode cL_law 101 = .ok (.iadd, 1) := by decide +kernel
theorem dL_law_102 : decode cL_law 102 = .ok (.iaload, 1) := by decide +kernel
theorem dL_law_103 : decode cL_law 103 = .ok (.invokevirtual 13, 3) := by decide +kernel
theorem dL_law_106 : decode cL_law 106 = .ok (.aload_n 2, 1) := by decide +kernel
theorem dL_law_107 : decode cL_law 107 = .ok (.aload_n 0, 1) := by decide +kernel
theorem dL_law_108 : decode cL_law 108 = .ok (.iload_n 3, 1) := by decide +kernel
theorem dL_law_109 : decode cL_law 109 = .ok (.iconst 1, 1) := by decide +kernel
theorem dL_law_110 : decode cL_law 110 = .ok (.iadd, 1) := by decide +kernel
theorem dL_law_111 : decode cL_law 111 = .ok (.iaload, 1) := by decide +kernel
theorem dL_law_112 : decode cL_law 112 = .ok (.aload_n 0, 1) := by decide +kernel
theorem dL_law_113 : decode cL_law 113 = .ok (.iload_n 3, 1) := by decide +kernel
theorem dL_law_114 : decode cL_law 114 = .ok (.iconst 2, 1) := by decide +kernel
theorem dL_law_115 : decode cL_law 115 = .ok (.iadd, 1) := by decide +kernel
theorem dL_law_116 : decode cL_law 116 = .ok (.iaload, 1) := by decide +kernel
theorem dL_law_117 : decode cL_law 117 = .ok (.invokevirtual 17, 3) := by decide +kernel
theorem dL_law_120 : decode cL_law 120 = .ok (.if_icmp .eq 305, 3) := by decide +kernel
theorem dL_law_123 : decode cL_law 123 = .ok (.iconst 0, 1) := by decide +kernel
theorem dL_law_124 : decode cL_law 124 = .ok (.ireturn, 1) := by decide +kernel
theorem dL_law_125 : decode cL_law 125 = .ok (.aload_n 1, 1) := by decide +kernel
theorem dL_law_126 : decode cL_law 126 = .ok (.aload_n 0, 1) := by decide +kernel
theorem dL_law_127 : decode cL_law 127 = .ok (.iload_n 3, 1) := by decide +kernel
theorem dL_law_128 : decode cL_law 128 = .ok (.iconst 1, 1) := by decide +kernel
theorem dL_law_129 : decode cL_law 129 = .ok (.iadd, 1) := by decide +kernel
theorem dL_law_130 : decode cL_law 130 = .ok (.iaload, 1) := by decide +kernel
theorem dL_law_131 : decode cL_law 131 = .ok (.aload_n 0, 1) := by decide +kernel
theorem dL_law_132 : decode cL_law 132 = .ok (.iload_n 3, 1) := by decide +kernel
theorem dL_law_133 : decode cL_law 133 = .ok (.iconst 2, 1) := by decide +kernel
theorem dL_law_134 : decode cL_law 134 = .ok (.iadd, 1) := by decide +kernel
theorem dL_law_135 : decode cL_law 135 = .ok (.iaload, 1) := by decide +kernel
theorem dL_law_136 : decode cL_law 136 = .ok (.aload_n 0, 1) := by decide +kernel
theorem dL_law_137 : decode cL_law 137 = .ok (.iload_n 3, 1) := by decide +kernel
theorem dL_law_138 : decode cL_law 138 = .ok (.iconst 3, 1) := by decide +kernel
theorem dL_law_139 : decode cL_law 139 = .ok (.iadd, 1) := by decide +kernel
theorem dL_law_140 : decode cL_law 140 = .ok (.iaload, 1) := by decide +kernel
theorem dL_law_141 : decode cL_law 141 = .ok (.aload_n 0, 1) := by decide +kernel
theorem dL_law_142 : decode cL_law 142 = .ok (.iload_n 3, 1) := by decide +kernel
theorem dL_law_143 : decode cL_law 143 = .ok (.iconst 4, 1) := by decide +kernel
theorem dL_law_144 : decode cL_law 144 = .ok (.iadd, 1) := by decide +kernel
theorem dL_law_145 : decode cL_law 145 = .ok (.iaload, 1) := by decide +kernel
theorem dL_law_146 : decode cL_law 146 = .ok (.invokevirtual 18, 3) := by decide +kernel
theorem dL_law_149 : decode cL_law 149 = .ok (.aload_n 2, 1) := by decide +kernel
theorem dL_law_150 : decode cL_law 150 = .ok (.aload_n 0, 1) := by decide +kernel
theorem dL_law_151 : decode cL_law 151 = .ok (.iload_n 3, 1) := by decide +kernel
theorem dL_law_152 : decode cL_law 152 = .ok (.iconst 1, 1) := by decide +kernel
theorem dL_law_153 : decode cL_law 153 = .ok (.iadd, 1) := by decide +kernel
theorem dL_law_154 : decode cL_law 154 = .ok (.iaload, 1) := by decide +kernel
theorem dL_law_155 : decode cL_law 155 = .ok (.aload_n 0, 1) := by decide +kernel
theorem dL_law_156 : decode cL_law 156 = .ok (.iload_n 3, 1) := by decide +kernel
theorem dL_law_157 : decode cL_law 157 = .ok (.iconst 2, 1) := by decide +kernel
theorem dL_law_158 : decode cL_law 158 = .ok (.iadd, 1) := by decide +kernel
theorem dL_law_159 : decode cL_law 159 = .ok (.iaload, 1) := by decide +kernel
theorem dL_law_160 : decode cL_law 160 = .ok (.aload_n 0, 1) := by decide +kernel
theorem dL_law_161 : decode cL_law 161 = .ok (.iload_n 3, 1) := by decide +kernel
theorem dL_law_162 : decode cL_law 162 = .ok (.iconst 3, 1) := by decide +kernel
theorem dL_law_163 : decode cL_law 163 = .ok (.iadd, 1) := by decide +kernel
theorem dL_law_164 : decode cL_law 164 = .ok (.iaload, 1) := by decide +kernel
theorem dL_law_165 : decode cL_law 165 = .ok (.aload_n 0, 1) := by decide +kernel
theorem dL_law_166 : decode cL_law 166 = .ok (.iload_n 3, 1) := by decide +kernel
theorem dL_law_167 : decode cL_law 167 = .ok (.iconst 4, 1) := by decide +kernel
theorem dL_law_168 : decode cL_law 168 = .ok (.iadd, 1) := by decide +kernel
theorem dL_law_169 : decode cL_law 169 = .ok (.iaload, 1) := by decide +kernel
theorem dL_law_170 : decode cL_law 170 = .ok (.invokevirtual 22, 3) := by decide +kernel
theorem dL_law_173 : decode cL_law 173 = .ok (.if_icmp .eq 252, 3) := by decide +kernel
theorem dL_law_176 : decode cL_law 176 = .ok (.iconst 0, 1) := by decide +kernel
theorem dL_law_177 : decode cL_law 177 = .ok (.ireturn, 1) := by decide +kernel
theorem dL_law_178 : decode cL_law 178 = .ok (.aload_n 1, 1) := by decide +kernel
theorem dL_law_179 : decode cL_law 179 = .ok (.aload_n 0, 1) := by decide +kernel
theorem dL_law_180 : decode cL_law 180 = .ok (.iload_n 3, 1) := by decide +kernel
theorem dL_law_181 : decode cL_law 181 = .ok (.iconst 1, 1) := by decide +kernel
theorem dL_law_182 : decode cL_law 182 = .ok (.iadd, 1) := by decide +kernel
theorem dL_law_183 : decode cL_law 183 = .ok (.iaload, 1) := by decide +kernel
theorem dL_law_184 : decode cL_law 184 = .ok (.aload_n 0, 1) := by decide +kernel
theorem dL_law_185 : decode cL_law 185 = .ok (.iload_n 3, 1) := by decide +kernel
theorem dL_law_186 : decode cL_law 186 = .ok (.iconst 2, 1) := by decide +kernel
theorem dL_law_187 : decode cL_law 187 = .ok (.iadd, 1) := by decide +kernel
theorem dL_law_188 : decode cL_law 188 = .ok (.iaload, 1) := by decide +kernel
theorem dL_law_189 : decode cL_law 189 = .ok (.aload_n 0, 1) := by decide +kernel
theorem dL_law_190 : decode cL_law 190 = .ok (.iload_n 3, 1) := by decide +kernel
theorem dL_law_191 : decode cL_law 191 = .ok (.iconst 3, 1) := by decide +kernel
theorem dL_law_192 : decode cL_law 192 = .ok (.iadd, 1) := by decide +kernel
theorem dL_law_193 : decode cL_law 193 = .ok (.iaload, 1) := by decide +kernel
theorem dL_law_194 : decode cL_law 194 = .ok (.invokevirtual 23, 3) := by decide +kernel
theorem dL_law_197 : decode cL_law 197 = .ok (.aload_n 2, 1) := by decide +kernel
theorem dL_law_198 : decode cL_law 198 = .ok (.aload_n 0, 1) := by decide +kernel
theorem dL_law_199 : decode cL_law 199 = .ok (.iload_n 3, 1) := by decide +kernel
theorem dL_law_200 : decode cL_law 200 = .ok (.iconst 1, 1) := by decide +kernel
theorem dL_law_201 : decode cL_law 201 = .ok (.iadd, 1) := by decide +kernel
theorem dL_law_202 : decode cL_law 202 = .ok (.iaload, 1) := by decide +kernel
theorem dL_law_203 : decode cL_law 203 = .ok (.aload_n 0, 1) := by decide +kernel
theorem dL_law_204 : decode cL_law 204 = .ok (.iload_n 3, 1) := by decide +kernel
theorem dL_law_205 : decode cL_law 205 = .ok (.iconst 2, 1) := by decide +kernel
theorem dL_law_206 : decode cL_law 206 = .ok (.iadd, 1) := by decide +kernel
theorem dL_law_207 : decode cL_law 207 = .ok (.iaload, 1) := by decide +kernel
theorem dL_law_208 : decode cL_law 208 = .ok (.aload_n 0, 1) := by decide +kernel
theorem dL_law_209 : decode cL_law 209 = .ok (.iload_n 3, 1) := by decide +kernel
theorem dL_law_210 : decode cL_law 210 = .ok (.iconst 3, 1) := by decide +kernel
theorem dL_law_211 : decode cL_law 211 = .ok (.iadd, 1) := by decide +kernel
theorem dL_law_212 : decode cL_law 212 = .ok (.iaload, 1) := by decide +kernel
theorem dL_law_213 : decode cL_law 213 = .ok (.invokevirtual 27, 3) := by decide +kernel
theorem dL_law_216 : decode cL_law 216 = .ok (.if_icmp .eq 209, 3) := by decide +kernel
theorem dL_law_219 : decode cL_law 219 = .ok (.iconst 0, 1) := by decide +kernel
theorem dL_law_220 : decode cL_law 220 = .ok (.ireturn, 1) := by decide +kernel
theorem dL_law_221 : decode cL_law 221 = .ok (.aload_n 1, 1) := by decide +kernel
theorem dL_law_222 : decode cL_law 222 = .ok (.aload_n 0, 1) := by decide +kernel
theorem dL_law_223 : decode cL_law 223 = .ok (.iload_n 3, 1) := by decide +kernel
theorem dL_law_224 : decode cL_law 224 = .ok (.iconst 1, 1) := by decide +kernel
theorem dL_law_225 : decode cL_law 225 = .ok (.iadd, 1) := by decide +kernel
theorem dL_law_226 : decode cL_law 226 = .ok (.iaload, 1) := by decide +kernel
theorem dL_law_227 : decode cL_law 227 = .ok (.aload_n 0, 1) := by decide +kernel
theorem dL_law_228 : decode cL_law 228 = .ok (.iload_n 3, 1) := by decide +kernel
theorem dL_law_229 : decode cL_law 229 = .ok (.iconst 2, 1) := by decide +kernel
theorem dL_law_230 : decode cL_law 230 = .ok (.iadd, 1) := by decide +kernel
theorem dL_law_231 : decode cL_law 231 = .ok (.iaload, 1) := by decide +kernel
theorem dL_law_232 : decode cL_law 232 = .ok (.invokevirtual 28, 3) := by decide +kernel
theorem dL_law_235 : decode cL_law 235 = .ok (.aload_n 2, 1) := by decide +kernel
theorem dL_law_236 : decode cL_law 236 = .ok (.aload_n 0, 1) := by decide +kernel
theorem dL_law_237 : decode cL_law 237 = .ok (.iload_n 3, 1) := by decide +kernel
theorem dL_law_238 : decode cL_law 238 = .ok (.iconst 1, 1) := by decide +kernel
theorem dL_law_239 : decode cL_law 239 = .ok (.iadd, 1) := by decide +kernel
theorem dL_law_240 : decode cL_law 240 = .ok (.iaload, 1) := by decide +kernel
theorem dL_law_241 : decode cL_law 241 = .ok (.aload_n 0, 1) := by decide +kernel
theorem dL_law_242 : decode cL_law 242 = .ok (.iload_n 3, 1) := by decide +kernel
theorem dL_law_243 : decode cL_law 243 = .ok (.iconst 2, 1) := by decide +kernel
theorem dL_law_244 : decode cL_law 244 = .ok (.iadd, 1) := by decide +kernel
theorem dL_law_245 : decode cL_law 245 = .ok (.iaload, 1) := by decide +kernel
theorem dL_law_246 : decode cL_law 246 = .ok (.invokevirtual 32, 3) := by decide +kernel
theorem dL_law_249 : decode cL_law 249 = .ok (.if_icmp .eq 176, 3) := by decide +kernel
theorem dL_law_252 : decode cL_law 252 = .ok (.iconst 0, 1) := by decide +kernel
theorem dL_law_253 : decode cL_law 253 = .ok (.ireturn, 1) := by decide +kernel
theorem dL_law_254 : decode cL_law 254 = .ok (.aload_n 1, 1) := by decide +kernel
theorem dL_law_255 : decode cL_law 255 = .ok (.aload_n 0, 1) := by decide +kernel
theorem dL_law_256 : decode cL_law 256 = .ok (.iload_n 3, 1) := by decide +kernel
theorem dL_law_257 : decode cL_law 257 = .ok (.iconst 1, 1) := by decide +kernel
theorem dL_law_258 : decode cL_law 258 = .ok (.iadd, 1) := by decide +kernel
theorem dL_law_259 : decode cL_law 259 = .ok (.iaload, 1) := by decide +kernel
theorem dL_law_260 : decode cL_law 260 = .ok (.invokevirtual 33, 3) := by decide +kernel
theorem dL_law_263 : decode cL_law 263 = .ok (.aload_n 2, 1) := by decide +kernel
theorem dL_law_264 : decode cL_law 264 = .ok (.aload_n 0, 1) := by decide +kernel
theorem dL_law_265 : decode cL_law 265 = .ok (.iload_n 3, 1) := by decide +kernel
theorem dL_law_266 : decode cL_law 266 = .ok (.iconst 1, 1) := by decide +kernel
theorem dL_law_267 : decode cL_law 267 = .ok (.iadd, 1) := by decide +kernel
theorem dL_law_268 : decode cL_law 268 = .ok (.iaload, 1) := by decide +kernel
theorem dL_law_269 : decode cL_law 269 = .ok (.invokevirtual 37, 3) := by decide +kernel
theorem dL_law_272 : decode cL_law 272 = .ok (.if_icmp .eq 153, 3) := by decide +kernel
theorem dL_law_275 : decode cL_law 275 = .ok (.iconst 0, 1) := by decide +kernel
theorem dL_law_276 : decode cL_law 276 = .ok (.ireturn, 1) := by decide +kernel
theorem dL_law_277 : decode cL_law 277 = .ok (.aload_n 1, 1) := by decide +kernel
theorem dL_law_278 : decode cL_law 278 = .ok (.aload_n 0, 1) := by decide +kernel
theorem dL_law_279 : decode cL_law 279 = .ok (.iload_n 3, 1) := by decide +kernel
theorem dL_law_280 : decode cL_law 280 = .ok (.iconst 1, 1) := by decide +kernel
theorem dL_law_281 : decode cL_law 281 = .ok (.iadd, 1) := by decide +kernel
theorem dL_law_282 : decode cL_law 282 = .ok (.iaload, 1) := by decide +kernel
theorem dL_law_283 : decode cL_law 283 = .ok (.invokevirtual 38, 3) := by decide +kernel
theorem dL_law_286 : decode cL_law 286 = .ok (.aload_n 2, 1) := by decide +kernel
theorem dL_law_287 : decode cL_law 287 = .ok (.aload_n 0, 1) := by decide +kernel
theorem dL_law_288 : decode cL_law 288 = .ok (.iload_n 3, 1) := by decide +kernel
theorem dL_law_289 : decode cL_law 289 = .ok (.iconst 1, 1) := by decide +kernel
theorem dL_law_290 : decode cL_law 290 = .ok (.iadd, 1) := by decide +kernel
theorem dL_law_291 : decode cL_law 291 = .ok (.iaload, 1) := by decide +kernel
theorem dL_law_292 : decode cL_law 292 = .ok (.invokevirtual 41, 3) := by decide +kernel
theorem dL_law_295 : decode cL_law 295 = .ok (.if_icmp .eq 130, 3) := by decide +kernel
theorem dL_law_298 : decode cL_law 298 = .ok (.iconst 0, 1) := by decide +kernel
theorem dL_law_299 : decode cL_law 299 = .ok (.ireturn, 1) := by decide +kernel
theorem dL_law_300 : decode cL_law 300 = .ok (.aload_n 1, 1) := by decide +kernel
theorem dL_law_301 : decode cL_law 301 = .ok (.aload_n 0, 1) := by decide +kernel
theorem dL_law_302 : decode cL_law 302 = .ok (.iload_n 3, 1) := by decide +kernel
theorem dL_law_303 : decode cL_law 303 = .ok (.iconst 1, 1) := by decide +kernel
theorem dL_law_304 : decode cL_law 304 = .ok (.iadd, 1) := by decide +kernel
theorem dL_law_305 : decode cL_law 305 = .ok (.iaload, 1) := by decide +kernel
theorem dL_law_306 : decode cL_law 306 = .ok (.invokevirtual 42, 3) := by decide +kernel
theorem dL_law_309 : decode cL_law 309 = .ok (.aload_n 2, 1) := by decide +kernel
theorem dL_law_310 : decode cL_law 310 = .ok (.aload_n 0, 1) := by decide +kernel
theorem dL_law_311 : decode cL_law 311 = .ok (.iload_n 3, 1) := by decide +kernel
theorem dL_law_312 : decode cL_law 312 = .ok (.iconst 1, 1) := by decide +kernel
theorem dL_law_313 : decode cL_law 313 = .ok (.iadd, 1) := by decide +kernel
theorem dL_law_314 : decode cL_law 314 = .ok (.iaload, 1) := by decide +kernel
theorem dL_law_315 : decode cL_law 315 = .ok (.invokevirtual 45, 3) := by decide +kernel
theorem dL_law_318 : decode cL_law 318 = .ok (.if_icmp .eq 107, 3) := by decide +kernel
theorem dL_law_321 : decode cL_law 321 = .ok (.iconst 0, 1) := by decide +kernel
theorem dL_law_322 : decode cL_law 322 = .ok (.ireturn, 1) := by decide +kernel
theorem dL_law_323 : decode cL_law 323 = .ok (.aload_n 1, 1) := by decide +kernel
theorem dL_law_324 : decode cL_law 324 = .ok (.aload_n 0, 1) := by decide +kernel
theorem dL_law_325 : decode cL_law 325 = .ok (.iload_n 3, 1) := by decide +kernel
theorem dL_law_326 : decode cL_law 326 = .ok (.iconst 1, 1) := by decide +kernel
theorem dL_law_327 : decode cL_law 327 = .ok (.iadd, 1) := by decide +kernel
theorem dL_law_328 : decode cL_law 328 = .ok (.iaload, 1) := by decide +kernel
theorem dL_law_329 : decode cL_law 329 = .ok (.invokevirtual 46, 3) := by decide +kernel
theorem dL_law_332 : decode cL_law 332 = .ok (.aload_n 2, 1) := by decide +kernel
theorem dL_law_333 : decode cL_law 333 = .ok (.aload_n 0, 1) := by decide +kernel
theorem dL_law_334 : decode cL_law 334 = .ok (.iload_n 3, 1) := by decide +kernel
theorem dL_law_335 : decode cL_law 335 = .ok (.iconst 1, 1) := by decide +kernel
theorem dL_law_336 : decode cL_law 336 = .ok (.iadd, 1) := by decide +kernel
theorem dL_law_337 : decode cL_law 337 = .ok (.iaload, 1) := by decide +kernel
theorem dL_law_338 : decode cL_law 338 = .ok (.invokevirtual 49, 3) := by decide +kernel
theorem dL_law_341 : decode cL_law 341 = .ok (.if_icmp .eq 84, 3) := by decide +kernel
theorem dL_law_344 : decode cL_law 344 = .ok (.iconst 0, 1) := by decide +kernel
theorem dL_law_345 : decode cL_law 345 = .ok (.ireturn, 1) := by decide +kernel
theorem dL_law_346 : decode cL_law 346 = .ok (.aload_n 1, 1) := by decide +kernel
theorem dL_law_347 : decode cL_law 347 = .ok (.aload_n 0, 1) := by decide +kernel
theorem dL_law_348 : decode cL_law 348 = .ok (.iload_n 3, 1) := by decide +kernel
theorem dL_law_349 : decode cL_law 349 = .ok (.iconst 1, 1) := by decide +kernel
theorem dL_law_350 : decode cL_law 350 = .ok (.iadd, 1) := by decide +kernel
theorem dL_law_351 : decode cL_law 351 = .ok (.iaload, 1) := by decide +kernel
theorem dL_law_352 : decode cL_law 352 = .ok (.aload_n 0, 1) := by decide +kernel
theorem dL_law_353 : decode cL_law 353 = .ok (.iload_n 3, 1) := by decide +kernel
theorem dL_law_354 : decode cL_law 354 = .ok (.iconst 2, 1) := by decide +kernel
theorem dL_law_355 : decode cL_law 355 = .ok (.iadd, 1) := by decide +kernel
theorem dL_law_356 : decode cL_law 356 = .ok (.iaload, 1) := by decide +kernel
theorem dL_law_357 : decode cL_law 357 = .ok (.invokevirtual 50, 3) := by decide +kernel
theorem dL_law_360 : decode cL_law 360 = .ok (.aload_n 2, 1) := by decide +kernel
theorem dL_law_361 : decode cL_law 361 = .ok (.aload_n 0, 1) := by decide +kernel
theorem dL_law_362 : decode cL_law 362 = .ok (.iload_n 3, 1) := by decide +kernel
theorem dL_law_363 : decode cL_law 363 = .ok (.iconst 1, 1) := by decide +kernel
theorem dL_law_364 : decode cL_law 364 = .ok (.iadd, 1) := by decide +kernel
theorem dL_law_365 : decode cL_law 365 = .ok (.iaload, 1) := by decide +kernel
theorem dL_law_366 : decode cL_law 366 = .ok (.aload_n 0, 1) := by decide +kernel
theorem dL_law_367 : decode cL_law 367 = .ok (.iload_n 3, 1) := by decide +kernel
theorem dL_law_368 : decode cL_law 368 = .ok (.iconst 2, 1) := by decide +kernel
theorem dL_law_369 : decode cL_law 369 = .ok (.iadd, 1) := by decide +kernel
theorem dL_law_370 : decode cL_law 370 = .ok (.iaload, 1) := by decide +kernel
theorem dL_law_371 : decode cL_law 371 = .ok (.invokevirtual 53, 3) := by decide +kernel
theorem dL_law_374 : decode cL_law 374 = .ok (.if_icmp .eq 51, 3) := by decide +kernel
theorem dL_law_377 : decode cL_law 377 = .ok (.iconst 0, 1) := by decide +kernel
theorem dL_law_378 : decode cL_law 378 = .ok (.ireturn, 1) := by decide +kernel
theorem dL_law_379 : decode cL_law 379 = .ok (.aload_n 1, 1) := by decide +kernel
theorem dL_law_380 : decode cL_law 380 = .ok (.aload_n 0, 1) := by decide +kernel
theorem dL_law_381 : decode cL_law 381 = .ok (.iload_n 3, 1) := by decide +kernel
theorem dL_law_382 : decode cL_law 382 = .ok (.iconst 1, 1) := by decide +kernel
theorem dL_law_383 : decode cL_law 383 = .ok (.iadd, 1) := by decide +kernel
theorem dL_law_384 : decode cL_law 384 = .ok (.iaload, 1) := by decide +kernel
theorem dL_law_385 : decode cL_law 385 = .ok (.invokevirtual 54, 3) := by decide +kernel
theorem dL_law_388 : decode cL_law 388 = .ok (.aload_n 2, 1) := by decide +kernel
theorem dL_law_389 : decode cL_law 389 = .ok (.aload_n 0, 1) := by decide +kernel
theorem dL_law_390 : decode cL_law 390 = .ok (.iload_n 3, 1) := by decide +kernel
theorem dL_law_391 : decode cL_law 391 = .ok (.iconst 1, 1) := by decide +kernel
theorem dL_law_392 : decode cL_law 392 = .ok (.iadd, 1) := by decide +kernel
theorem dL_law_393 : decode cL_law 393 = .ok (.iaload, 1) := by decide +kernel
theorem dL_law_394 : decode cL_law 394 = .ok (.invokevirtual 57, 3) := by decide +kernel
theorem dL_law_397 : decode cL_law 397 = .ok (.if_icmp .eq 28, 3) := by decide +kernel
theorem dL_law_400 : decode cL_law 400 = .ok (.iconst 0, 1) := by decide +kernel
theorem dL_law_401 : decode cL_law 401 = .ok (.ireturn, 1) := by decide +kernel
theorem dL_law_402 : decode cL_law 402 = .ok (.aload_n 1, 1) := by decide +kernel
theorem dL_law_403 : decode cL_law 403 = .ok (.aload_n 0, 1) := by decide +kernel
theorem dL_law_404 : decode cL_law 404 = .ok (.iload_n 3, 1) := by decide +kernel
theorem dL_law_405 : decode cL_law 405 = .ok (.iconst 1, 1) := by decide +kernel
theorem dL_law_406 : decode cL_law 406 = .ok (.iadd, 1) := by decide +kernel
theorem dL_law_407 : decode cL_law 407 = .ok (.iaload, 1) := by decide +kernel
theorem dL_law_408 : decode cL_law 408 = .ok (.invokevirtual 58, 3) := by decide +kernel
theorem dL_law_411 : decode cL_law 411 = .ok (.aload_n 2, 1) := by decide +kernel
theorem dL_law_412 : decode cL_law 412 = .ok (.aload_n 0, 1) := by decide +kernel
theorem dL_law_413 : decode cL_law 413 = .ok (.iload_n 3, 1) := by decide +kernel
theorem dL_law_414 : decode cL_law 414 = .ok (.iconst 1, 1) := by decide +kernel
theorem dL_law_415 : decode cL_law 415 = .ok (.iadd, 1) := by decide +kernel
theorem dL_law_416 : decode cL_law 416 = .ok (.iaload, 1) := by decide +kernel
theorem dL_law_417 : decode cL_law 417 = .ok (.invokevirtual 62, 3) := by decide +kernel
theorem dL_law_420 : decode cL_law 420 = .ok (.if_icmp .eq 5, 3) := by decide +kernel
theorem dL_law_423 : decode cL_law 423 = .ok (.iconst 0, 1) := by decide +kernel
theorem dL_law_424 : decode cL_law 424 = .ok (.ireturn, 1) := by decide +kernel
theorem dL_law_425 : decode cL_law 425 = .ok (.iinc 3 5, 3) := by decide +kernel
theorem dL_law_428 : decode cL_law 428 = .ok (.goto (-410), 3) := by decide +kernel
theorem dL_law_431 : decode cL_law 431 = .ok (.iconst 1, 1) := by decide +kernel
theorem dL_law_432 : decode cL_law 432 = .ok (.ireturn, 1) := by decide +kernel
end
section
/-! the worlds of the engine and of the model, contracts over them, and a row for each field and array -/
set_option maxRecDepth 100000
abbrev vwCl : List vw_C := [(RX0, TX0, 10), (RX1, TX1, 3)]
def eW (a : Nat → Nat) (d : Nat → ClassId) (im we tk tu ip op ti ha qu : Nat → Int32) (oo : Int32) : va_W := [(a 0, .inr (0, [.ref (a 1), .ref (a 2), .ref (a 3), .ref (a 4), .ref (a 5), .ref (a 6), .int oo, .ref (a 7), .ref (a 8), .ref (a 9)])), (a 1, .inl (d 1, 100, .inl im)), (a 2, .inl (d 2, 18, .inl we)), (a 3, .inl (d 3, 2, .inl tk)), (a 4, .inl (d 4, 32, .inl tu)), (a 5, .inl (d 5, 100, .inl ip)), (a 6, .inl (d 6, 100, .inl op)), (a 7, .inl (d 7, 16, .inl ti)), (a 8, .inl (d 8, 16, .inl ha)), (a 9, .inl (d 9, 4, .inl qu))]
def mW (a : Nat → Nat) (d : Nat → ClassId) (mi mf mw : Nat → Int32) : va_W := [(a 0, .inr (1, [.ref (a 1), .ref (a 2), .ref (a 3)])), (a 1, .inl (d 1, 100, .inl mi)), (a 2, .inl (d 2, 100, .inl mf)), (a 3, .inl (d 3, 18, .inl mw))]
def tyE (d : Nat → ClassId) : List (ClassId × FieldType) := [(d 1, .byte), (d 2, .byte), (d 3, .boolean), (d 4, .int), (d 5, .int), (d 6, .int), (d 7, .int), (d 8, .int), (d 9, .int)]
def tyM (d : Nat → ClassId) : List (ClassId × FieldType) := [(d 1, .int), (d 2, .int), (d 3, .int)]
def aE (a : Nat → Nat) : List Nat := [a 0, a 1, a 2, a 3, a 4, a 5, a 6, a 7, a 8, a 9]
def aM (a : Nat → Nat) : List Nat := [a 0, a 1, a 2, a 3]
/-- a picture with its addresses apart, and nothing else changed -/
def gZ (D : va_G) (A : Nat → Prop) (H0 : Heap) (w : va_W) (H : Heap) (locs : List Loc) : Prop := va_P D vwCl w H ∧ va_D A w ∧ va_S A H0 H locs
/-- the cells that a method may change: those listed, and new ones -/
def gA (adr : List Nat) (sz : Nat) (q : Nat) : Prop := q ∈ adr ∨ sz ≤ q
def gP (D : va_G) (tys : List (ClassId × FieldType)) (w0 : va_W) (sz : Nat) (U : State) : Prop := U.heap.size = sz ∧ va_P D vwCl w0 U.heap ∧ va_K D vwCl tys U ∧ va_D (fun _ => True) w0
def gB (D : va_G) (tys : List (ClassId × FieldType)) (A : Nat → Prop) (u : va_W) (t : State) : Prop := va_P D vwCl u t.heap ∧ va_K D vwCl tys t ∧ va_D A u
abbrev rmL (fr lo : Nat) : Room := { frames := fr, cells := 0, slots := 0, locals := lo }
/-- contract: an int (or boolean) answer, the world u behind it -/
def Mi (l : Launch) (D : va_G) (tys : List (ClassId × FieldType)) (adr : List Nat) (y : MethodName) (bytes : ByteArray) (maxL : Nat) (ret : Option FieldType) (fr lo b : Nat) (As : List Value) (w0 : va_W) (post : Int32 → va_W → Prop) : Prop :=
  ∀ sz, Met l y (ws_ y bytes maxL ret) (rmL fr lo) (va_Pc (.ref b :: As) (gP D tys w0 sz)) (va_Qi post (gB D tys (gA adr sz)) (gA adr sz)) 0 0 (gA adr sz)
/-- contract: no answer -/
def Mv (l : Launch) (D : va_G) (tys : List (ClassId × FieldType)) (adr : List Nat) (y : MethodName) (bytes : ByteArray) (maxL : Nat) (ret : Option FieldType) (fr lo b : Nat) (As : List Value) (w0 : va_W) (post : va_W → Prop) : Prop :=
  ∀ sz, Met l y (ws_ y bytes maxL ret) (rmL fr lo) (va_Pc (.ref b :: As) (gP D tys w0 sz)) (va_Qv post (gB D tys (gA adr sz)) (gA adr sz)) 0 0 (gA adr sz)
/-- contract of a method that only computes: the answer r, the heap as it was -/
def Mp (l : Launch) (y : MethodName) (bytes : ByteArray) (maxL : Nat) (ret : Option FieldType) (fr lo : Nat) (As : List Value) (r : Int32) : Prop :=
  ∀ b : Nat, Met l y (ws_ y bytes maxL ret) (rmL fr lo) (va_Pc (.ref b :: As) (fun _ => True)) (QcRead r) 0 0 (fun _ => False)
theorem gA_iff {w : va_W} {sz q : Nat} : va_A w sz q ↔ gA (w.map (·.1)) sz q := by
  unfold va_A gA
  constructor
  · intro h
    rcases h with ⟨k, e, h⟩ | h
    · exact Or.inl (List.mem_map.mpr ⟨(q, e), List.mem_of_getElem? h, rfl⟩)
    · exact Or.inr h
  · intro h
    rcases h with h | h
    · obtain ⟨x, hx, rfl⟩ := List.mem_map.mp h
      obtain ⟨k, hk⟩ := List.getElem?_of_mem hx
      exact Or.inl ⟨k, x.2, hk⟩
    · exact Or.inr h
theorem gA_mono {adr : List Nat} {sz sz' q : Nat} (h : gA adr sz' q) (hs : sz ≤ sz') : gA adr sz q := by
  rcases h with h | h
  · exact Or.inl h
  · exact Or.inr (Nat.le_trans hs h)
theorem gD_self {adr : List Nat} {sz : Nat} {w : va_W} {A : Nat → Prop} (hw : w.map (·.1) = adr) (h : va_D A w) : va_D (gA adr sz) w :=
  ⟨h.1, fun k q hk => Or.inl (by rw [← hw]; exact List.mem_map.mpr ⟨q, List.mem_of_getElem? hk, rfl⟩)⟩
/-- a method's start -/
theorem g_met {l : Launch} {y : MethodName} {bytes : ByteArray} {maxL : Nat} {ret : Option FieldType} {fr lo b sz : Nat} {As : List Value} {D : va_G} {tys : List (ClassId × FieldType)} {w0 : va_W} {adr : List Nat} {Qc : Nat → Array Value → State → Outcome → State → Prop}
    (hy : plainName y.cls = true) (hL : (lg_sl (.ref b :: As)).length ≤ maxL) (hw : w0.map (·.1) = adr)
    (body : ∀ (p : Program) (e : Env) (s : State) (m : MethodId) (below : List Frame) (meth : Method) (c : Code), CallFix p m c bytes maxL s (Value.ref b :: As).toArray lw_all y.cls → meth.sig.returnType = ret → meth.locks = false → va_K D vwCl tys s → gZ D (gA adr s.heap.size) s.heap w0 s.heap [] → ∀ ls : Array Slot, lv_has ls maxL (lv_args 0 (.ref b :: As)) →
      W p l e (rmL fr lo) s m (Value.ref b :: As).toArray below meth c s.heap [] 0 0 (MQ below (Qc s.heap.size) (Value.ref b :: As).toArray s 0 0 (gA adr s.heap.size)) (F0 m 0 ls [])) :
    Met l y (ws_ y bytes maxL ret) (rmL fr lo) (va_Pc (.ref b :: As) (gP D tys w0 sz)) (Qc sz) 0 0 (gA adr sz) := by
  refine Met.ofW (cc := bytes) (maxL := maxL) (ret := ret) hy rfl ?_
  intro p e s m args below meth c s₁ B hml hv
  obtain ⟨rfl, rfl, hP, hK, hD0⟩ := hv
  have hts := atoms_spec (ws := ws_ y bytes maxL ret) B.pre
  have hts : ∀ w ∈ lw_all, w.before _ s = true := fun w h => hts w (List.mem_cons_of_mem _ h)
  have hown : s.vm.findClass y.cls = some m.cls := findClass_of_methodNamed B.named
  have hl := lv_entry (.ref b :: As) (n := maxL) hL
  rw [lg_entry_eq]
  exact body p e s m below meth c ⟨B.exec, B.bytes, hml, hown, hts⟩ B.returns B.notSynchronized hK ⟨hP, gD_self hw hD0, va_S.rf⟩ _ hl
theorem Mi.of {l : Launch} {y : MethodName} {bytes : ByteArray} {maxL : Nat} {ret : Option FieldType} {fr lo b : Nat} {As : List Value} {D : va_G} {tys : List (ClassId × FieldType)} {w0 : va_W} {adr : List Nat} {post : Int32 → va_W → Prop}
    (hy : plainName y.cls = true) (hL : (lg_sl (.ref b :: As)).length ≤ maxL) (hw : w0.map (·.1) = adr)
    (body : ∀ (p : Program) (e : Env) (s : State) (m : MethodId) (below : List Frame) (meth : Method) (c : Code), CallFix p m c bytes maxL s (Value.ref b :: As).toArray lw_all y.cls → meth.sig.returnType = ret → meth.locks = false → va_K D vwCl tys s → gZ D (gA adr s.heap.size) s.heap w0 s.heap [] → ∀ ls : Array Slot, lv_has ls maxL (lv_args 0 (.ref b :: As)) →
      W p l e (rmL fr lo) s m (Value.ref b :: As).toArray below meth c s.heap [] 0 0 (MQ below (va_Qi post (gB D tys (gA adr s.heap.size)) (gA adr s.heap.size)) (Value.ref b :: As).toArray s 0 0 (gA adr s.heap.size)) (F0 m 0 ls [])) :
    Mi l D tys adr y bytes maxL ret fr lo b As w0 post :=
  fun _ => g_met (Qc := fun sz => va_Qi post (gB D tys (gA adr sz)) (gA adr sz)) hy hL hw body
theorem Mv.of {l : Launch} {y : MethodName} {bytes : ByteArray} {maxL : Nat} {ret : Option FieldType} {fr lo b : Nat} {As : List Value} {D : va_G} {tys : List (ClassId × FieldType)} {w0 : va_W} {adr : List Nat} {post : va_W → Prop}
    (hy : plainName y.cls = true) (hL : (lg_sl (.ref b :: As)).length ≤ maxL) (hw : w0.map (·.1) = adr)
    (body : ∀ (p : Program) (e : Env) (s : State) (m : MethodId) (below : List Frame) (meth : Method) (c : Code), CallFix p m c bytes maxL s (Value.ref b :: As).toArray lw_all y.cls → meth.sig.returnType = ret → meth.locks = false → va_K D vwCl tys s → gZ D (gA adr s.heap.size) s.heap w0 s.heap [] → ∀ ls : Array Slot, lv_has ls maxL (lv_args 0 (.ref b :: As)) →
      W p l e (rmL fr lo) s m (Value.ref b :: As).toArray below meth c s.heap [] 0 0 (MQ below (va_Qv post (gB D tys (gA adr s.heap.size)) (gA adr s.heap.size)) (Value.ref b :: As).toArray s 0 0 (gA adr s.heap.size)) (F0 m 0 ls [])) :
    Mv l D tys adr y bytes maxL ret fr lo b As w0 post :=
  fun _ => g_met (Qc := fun sz => va_Qv post (gB D tys (gA adr sz)) (gA adr sz)) hy hL hw body
theorem Mp.of {l : Launch} {y : MethodName} {bytes : ByteArray} {maxL : Nat} {ret : Option FieldType} {fr lo : Nat} {As : List Value} {r : Int32}
    (hy : plainName y.cls = true) (hL : ∀ b : Nat, (lg_sl (.ref b :: As)).length ≤ maxL)
    (body : ∀ (b : Nat) (p : Program) (e : Env) (s : State) (m : MethodId) (below : List Frame) (meth : Method) (c : Code), CallFix p m c bytes maxL s (Value.ref b :: As).toArray lw_all y.cls → meth.sig.returnType = ret → meth.locks = false → ∀ ls : Array Slot, lv_has ls maxL (lv_args 0 (.ref b :: As)) →
      W p l e (rmL fr lo) s m (Value.ref b :: As).toArray below meth c s.heap [] 0 0 (MQ below (QcRead r) (Value.ref b :: As).toArray s 0 0 (fun _ => False)) (F0 m 0 ls [])) :
    Mp l y bytes maxL ret fr lo As r := by
  intro b
  refine Met.ofW (cc := bytes) (maxL := maxL) (ret := ret) hy rfl ?_
  intro p e s m args below meth c s₁ B hml hv
  obtain ⟨rfl, -⟩ := hv
  have hts := atoms_spec (ws := ws_ y bytes maxL ret) B.pre
  have hts : ∀ w ∈ lw_all, w.before _ s = true := fun w h => hts w (List.mem_cons_of_mem _ h)
  have hown : s.vm.findClass y.cls = some m.cls := findClass_of_methodNamed B.named
  have hl := lv_entry (.ref b :: As) (n := maxL) (hL b)
  rw [lg_entry_eq]
  exact body b p e s m below meth c ⟨B.exec, B.bytes, hml, hown, hts⟩ B.returns B.notSynchronized _ hl
section GR
variable {p : Program} {l : Launch} {e : Env} {R : Room} {s : State} {m : MethodId} {args : Array Value} {below : List Frame} {meth : Method} {c : Code} {H : Heap} {locs : List Loc} {cells slots : Nat} {Q : State → Prop}
variable {cc : ByteArray} {pc nL : Nat} {ls : Array Slot} {rest : List Value} {D : va_G} {tys : List (ClassId × FieldType)} {A : Nat → Prop} {H0 : Heap} {w : va_W}
/-- ends -/
theorem g_iret {post : Int32 → va_W → Prop} {r : Int32} (hx : p.tables.exec = Jvm.exec) (hb : c.code = cc) (hr : meth.sig.returnType = some .int) (hlk : meth.locks = false) (hK : va_K D vwCl tys s) (hZ : gZ D A s.heap w H locs) (hdg : decode cc pc = .ok (.ireturn, 1)) (hp : post r w) :
    W p l e R s m args below meth c H locs cells slots (MQ below (va_Qi post (gB D tys A) A) args s cells slots A) (F0 m pc ls [.int r]) :=
  W.iret (v := r) hx hb hr (fun t ht hW => ⟨⟨r, w, rfl, hp, by rw [ht]; exact hZ.1, va_K.moved hW.alike hK, hZ.2.1⟩, hZ.2.2.F ht⟩) hZ.2.2.2.2 hdg hlk
theorem g_zret {post : Int32 → va_W → Prop} {r : Int32} (hx : p.tables.exec = Jvm.exec) (hb : c.code = cc) (hr : meth.sig.returnType = some .boolean) (hlk : meth.locks = false) (hn : narrow .boolean (.int r) = .int r) (hK : va_K D vwCl tys s) (hZ : gZ D A s.heap w H locs) (hdg : decode cc pc = .ok (.ireturn, 1)) (hp : post r w) :
    W p l e R s m args below meth c H locs cells slots (MQ below (va_Qi post (gB D tys A) A) args s cells slots A) (F0 m pc ls [.int r]) :=
  W.zret (v := r) hx hb hr hn (fun t ht hW => ⟨⟨r, w, rfl, hp, by rw [ht]; exact hZ.1, va_K.moved hW.alike hK, hZ.2.1⟩, hZ.2.2.F ht⟩) hZ.2.2.2.2 hdg hlk
theorem g_vret {post : va_W → Prop} (hx : p.tables.exec = Jvm.exec) (hb : c.code = cc) (hr : meth.sig.returnType = none) (hlk : meth.locks = false) (hK : va_K D vwCl tys s) (hZ : gZ D A s.heap w H locs) (hdg : decode cc pc = .ok (.return_, 1)) (hp : post w) :
    W p l e R s m args below meth c H locs cells slots (MQ below (va_Qv post (gB D tys A) A) args s cells slots A) (F0 m pc ls []) :=
  W.vret hx hb hr (fun t ht hW => ⟨⟨w, rfl, hp, by rw [ht]; exact hZ.1, va_K.moved hW.alike hK, hZ.2.1⟩, hZ.2.2.F ht⟩) hZ.2.2.2.2 hdg hlk
theorem p_iret {r v : Int32} (hx : p.tables.exec = Jvm.exec) (hb : c.code = cc) (hr : meth.sig.returnType = some .int) (hlk : meth.locks = false) (hdg : decode cc pc = .ok (.ireturn, 1)) (hv : v = r) :
    W p l e R s m args below meth c s.heap [] cells slots (MQ below (QcRead r) args s cells slots (fun _ => False)) (F0 m pc ls [.int v]) := by
  subst hv
  exact W.iret (v := v) hx hb hr (fun t ht hW => ⟨rfl, ht⟩) (fun q h => by cases h) hdg hlk
theorem p_zret {r v : Int32} (hx : p.tables.exec = Jvm.exec) (hb : c.code = cc) (hr : meth.sig.returnType = some .boolean) (hlk : meth.locks = false) (hn : narrow .boolean (.int v) = .int v) (hdg : decode cc pc = .ok (.ireturn, 1)) (hv : v = r) :
    W p l e R s m args below meth c s.heap [] cells slots (MQ below (QcRead r) args s cells slots (fun _ => False)) (F0 m pc ls [.int v]) := by
  subst hv
  exact W.zret (v := v) hx hb hr hn (fun t ht hW => ⟨rfl, ht⟩) (fun q h => by cases h) hdg hlk
/-- calls within: the callee has the caller's whole world -/
theorem g_calli {y : MethodName} {bytes : ByteArray} {maxL fr lo n b idx ci : Nat} {ret : Option FieldType} {As rest st0 fs : List Value} {q0 : vw_C} {own CC : String} {adr : List Nat} {post : Int32 → va_W → Prop} (C : CallFix p m c cc nL s args lw_all own) (hM : Mi l D tys adr y bytes maxL ret fr lo b As w post)
    (hw : GoodIn lw_all (wsV own idx CC y (ws_ y bytes maxL ret))) (hd : y.cls = CC ∧ y.cls ≠ "java/lang/invoke/MethodHandle" ∧ y.cls ≠ "java/lang/invoke/VarHandle" ∧ (parseMethodDescriptor y.desc).map (fun d => d.parameters.length) = some n) (hR : fr + 1 ≤ R.frames ∧ 8 + (maxL + 11) + lo ≤ R.locals)
    (hK : va_K D vwCl tys s) (hZ : gZ D (gA adr s.heap.size) s.heap w H locs) (hc : vwCl[ci]? = some q0) (hq : q0.1 = CC) (he : w[0]? = some (b, .inr (ci, fs))) (hn : As.length = n) (hsize : ls.size = nL) (hst : st0 = As.reverse ++ .ref b :: rest) (hroom : (rest.map fun v => v.category).sum ≤ 8) (hdg : decode cc pc = .ok (.invokevirtual idx, 3)) (hf : cells + 0 ≤ R.cells ∧ slots + 0 ≤ R.slots)
    (kk : ∀ (r : Int32) (u : va_W) (H : Heap) (locs : List Loc), post r u → gZ D (gA adr s.heap.size) s.heap u H locs → W p l e R s m args below meth c H locs cells slots Q (F0 m (pc + 3) ls (.int r :: rest))) : W p l e R s m args below meth c H locs cells slots Q (F0 m pc ls st0) := by
  have hA : ∀ q, gA adr H.size q → gA adr s.heap.size q := fun q h => gA_mono h hZ.2.2.1
  refine va_calli (va_runV (As := As) (rest := rest) C (hM H.size) (cwV n C.2.2.2.2 hw rfl rfl rfl hd hR) ⟨fun a U g mk q => ?_, ?_, fun U hU hW => ?_⟩ rfl hn hsize hst (lv_room hroom) hdg hf) hZ.2.2 (fun q _ h => hA q h) (fun q h => hA q h) (fun r u t H1 locs1 ht hvm hpost hB hle hk hS1 => ?_)
  · obtain ⟨q0, q1, qP, qK, qD⟩ := q
    exact ⟨q0, q1, qP, va_K.moved (u := U) (U := U.calling g mk a) (Vm.Alike.refl U.vm) qK, qD⟩
  · rw [← hq]; exact va_recv hK hZ.1 hc he
  · exact ⟨rfl, by rw [hU], by rw [hU]; exact hZ.1, va_K.moved hW.alike hK, hZ.2.1.weaken (fun _ _ _ _ => trivial)⟩
  · obtain ⟨hP1, hK1, hD1⟩ := hB
    rw [ht] at hP1
    exact kk r u H1 locs1 hpost ⟨hP1, hD1.weaken (fun _ q _ h => hA q.1 h), hS1⟩
theorem g_callv {y : MethodName} {bytes : ByteArray} {maxL fr lo n b idx ci : Nat} {ret : Option FieldType} {As rest st0 fs : List Value} {q0 : vw_C} {own CC : String} {adr : List Nat} {post : va_W → Prop} (C : CallFix p m c cc nL s args lw_all own) (hM : Mv l D tys adr y bytes maxL ret fr lo b As w post)
    (hw : GoodIn lw_all (wsV own idx CC y (ws_ y bytes maxL ret))) (hd : y.cls = CC ∧ y.cls ≠ "java/lang/invoke/MethodHandle" ∧ y.cls ≠ "java/lang/invoke/VarHandle" ∧ (parseMethodDescriptor y.desc).map (fun d => d.parameters.length) = some n) (hR : fr + 1 ≤ R.frames ∧ 8 + (maxL + 11) + lo ≤ R.locals)
    (hK : va_K D vwCl tys s) (hZ : gZ D (gA adr s.heap.size) s.heap w H locs) (hc : vwCl[ci]? = some q0) (hq : q0.1 = CC) (he : w[0]? = some (b, .inr (ci, fs))) (hn : As.length = n) (hsize : ls.size = nL) (hst : st0 = As.reverse ++ .ref b :: rest) (hroom : (rest.map fun v => v.category).sum ≤ 8) (hdg : decode cc pc = .ok (.invokevirtual idx, 3)) (hf : cells + 0 ≤ R.cells ∧ slots + 0 ≤ R.slots)
    (kk : ∀ (u : va_W) (H : Heap) (locs : List Loc), post u → gZ D (gA adr s.heap.size) s.heap u H locs → W p l e R s m args below meth c H locs cells slots Q (F0 m (pc + 3) ls rest)) : W p l e R s m args below meth c H locs cells slots Q (F0 m pc ls st0) := by
  have hA : ∀ q, gA adr H.size q → gA adr s.heap.size q := fun q h => gA_mono h hZ.2.2.1
  refine va_callv (va_runV (As := As) (rest := rest) C (hM H.size) (cwV n C.2.2.2.2 hw rfl rfl rfl hd hR) ⟨fun a U g mk q => ?_, ?_, fun U hU hW => ?_⟩ rfl hn hsize hst (lv_room hroom) hdg hf) hZ.2.2 (fun q _ h => hA q h) (fun q h => hA q h) (fun u t H1 locs1 ht hvm hpost hB hle hk hS1 => ?_)
  · obtain ⟨q0, q1, qP, qK, qD⟩ := q
    exact ⟨q0, q1, qP, va_K.moved (u := U) (U := U.calling g mk a) (Vm.Alike.refl U.vm) qK, qD⟩
  · rw [← hq]; exact va_recv hK hZ.1 hc he
  · exact ⟨rfl, by rw [hU], by rw [hU]; exact hZ.1, va_K.moved hW.alike hK, hZ.2.1.weaken (fun _ _ _ _ => trivial)⟩
  · obtain ⟨hP1, hK1, hD1⟩ := hB
    rw [ht] at hP1
    exact kk u H1 locs1 hpost ⟨hP1, hD1.weaken (fun _ q _ h => hA q.1 h), hS1⟩
theorem g_callp {y : MethodName} {bytes : ByteArray} {maxL fr lo n b idx ci : Nat} {ret : Option FieldType} {As rest st0 fs : List Value} {q0 : vw_C} {own CC : String} {r : Int32} (C : CallFix p m c cc nL s args lw_all own) (hM : Mp l y bytes maxL ret fr lo As r)
    (hw : GoodIn lw_all (wsV own idx CC y (ws_ y bytes maxL ret))) (hd : y.cls = CC ∧ y.cls ≠ "java/lang/invoke/MethodHandle" ∧ y.cls ≠ "java/lang/invoke/VarHandle" ∧ (parseMethodDescriptor y.desc).map (fun d => d.parameters.length) = some n) (hR : fr + 1 ≤ R.frames ∧ 8 + (maxL + 11) + lo ≤ R.locals)
    (hK : va_K D vwCl tys s) (hZ : gZ D A H0 w H locs) (hc : vwCl[ci]? = some q0) (hq : q0.1 = CC) (he : w[0]? = some (b, .inr (ci, fs))) (hn : As.length = n) (hsize : ls.size = nL) (hst : st0 = As.reverse ++ .ref b :: rest) (hroom : (rest.map fun v => v.category).sum ≤ 8) (hdg : decode cc pc = .ok (.invokevirtual idx, 3)) (hf : cells + 0 ≤ R.cells ∧ slots + 0 ≤ R.slots)
    (kk : W p l e R s m args below meth c H locs cells slots Q (F0 m (pc + 3) ls (.int r :: rest))) : W p l e R s m args below meth c H locs cells slots Q (F0 m pc ls st0) := by
  refine W.callR (g := F0 m pc ls st0) (rest := rest) (W.runV (As := As) (rest := rest) C (hM b) (cwV n C.2.2.2.2 hw rfl rfl rfl hd hR) ⟨fun a U g mk q => ⟨q.1, trivial⟩, ?_, fun U hU hW => ⟨rfl, trivial⟩⟩ rfl hn hsize hst (lv_room hroom) hdg hf) kk
  rw [← hq]; exact va_recv hK hZ.1 hc he
/-- a counting loop -/
theorem W_loop {N : Nat} (I : Nat → Heap → List Loc → Array Slot → Prop)
    (hexit : ∀ (H : Heap) (locs : List Loc) (ls : Array Slot), I N H locs ls → W p l e R s m args below meth c H locs cells slots Q (F0 m pc ls []))
    (hstep : ∀ k, k < N → (∀ (H : Heap) (locs : List Loc) (ls : Array Slot), I (k + 1) H locs ls → W p l e R s m args below meth c H locs cells slots Q (F0 m pc ls [])) → ∀ (H : Heap) (locs : List Loc) (ls : Array Slot), I k H locs ls → W p l e R s m args below meth c H locs cells slots Q (F0 m pc ls []))
    (k0 : Nat) (hk0 : k0 ≤ N) (h0 : I k0 H locs ls) : W p l e R s m args below meth c H locs cells slots Q (F0 m pc ls []) := by
  have key : ∀ n k, k + n = N → ∀ (H : Heap) (locs : List Loc) (ls : Array Slot), I k H locs ls → W p l e R s m args below meth c H locs cells slots Q (F0 m pc ls []) := by
    intro n
    induction n with
    | zero =>
      intro k hk H locs ls h
      obtain rfl : k = N := by omega
      exact hexit H locs ls h
    | succ n ih =>
      intro k hk H locs ls h
      exact hstep k (by omega) (fun H locs ls h => ih (k + 1) (by omega) H locs ls h) H locs ls h
  exact key (N - k0) k0 (by omega) H locs ls h0
theorem n_add (hx : p.tables.exec = Jvm.exec) (hb : c.code = cc) {a b : Nat} (hdg : decode cc pc = .ok (.iadd, 1)) (k : W p l e R s m args below meth c H locs cells slots Q (F0 m (pc + 1) ls (.int (nI (a + b)) :: rest))) : W p l e R s m args below meth c H locs cells slots Q (F0 m pc ls (.int (nI b) :: .int (nI a) :: rest)) := lv_iadd hx hb hdg (by rw [nI_add]; exact k)
theorem n_sub (hx : p.tables.exec = Jvm.exec) (hb : c.code = cc) {a b : Nat} (h : b ≤ a) (hdg : decode cc pc = .ok (.isub, 1)) (k : W p l e R s m args below meth c H locs cells slots Q (F0 m (pc + 1) ls (.int (nI (a - b)) :: rest))) : W p l e R s m args below meth c H locs cells slots Q (F0 m pc ls (.int (nI b) :: .int (nI a) :: rest)) := lv_isub hx hb hdg (by rw [pk_sub h]; exact k)
theorem n_mul (hx : p.tables.exec = Jvm.exec) (hb : c.code = cc) {a b : Nat} (hdg : decode cc pc = .ok (.imul, 1)) (k : W p l e R s m args below meth c H locs cells slots Q (F0 m (pc + 1) ls (.int (nI (a * b)) :: rest))) : W p l e R s m args below meth c H locs cells slots Q (F0 m pc ls (.int (nI b) :: .int (nI a) :: rest)) := lv_imul hx hb hdg (by rw [pk_mul]; exact k)
theorem n_div (hx : p.tables.exec = Jvm.exec) (hb : c.code = cc) {a b : Nat} (ha : a < 2 ^ 31) (h0 : 0 < b) (hd : b < 2 ^ 31) (hdg : decode cc pc = .ok (.idiv, 1)) (k : W p l e R s m args below meth c H locs cells slots Q (F0 m (pc + 1) ls (.int (nI (a / b)) :: rest))) : W p l e R s m args below meth c H locs cells slots Q (F0 m pc ls (.int (nI b) :: .int (nI a) :: rest)) := lv_idiv hx hb hdg (nI_ne0 h0 hd) (by rw [pk_div ha h0 hd]; exact k)
theorem n_rem (hx : p.tables.exec = Jvm.exec) (hb : c.code = cc) {a b : Nat} (ha : a < 2 ^ 31) (h0 : 0 < b) (hd : b < 2 ^ 31) (hdg : decode cc pc = .ok (.irem, 1)) (k : W p l e R s m args below meth c H locs cells slots Q (F0 m (pc + 1) ls (.int (nI (a % b)) :: rest))) : W p l e R s m args below meth c H locs cells slots Q (F0 m pc ls (.int (nI b) :: .int (nI a) :: rest)) := lv_irem hx hb hdg (nI_ne0 h0 hd) (by rw [pk_rem ha h0 hd]; exact k)
theorem n_inc (hx : p.tables.exec = Jvm.exec) (hb : c.code = cc) {i kx a : Nat} {lv lv' : List (Nat × Value)} (hdg : decode cc pc = .ok (.iinc i 1, 3)) (h : lv_has ls nL lv) (hk : lv[kx]? = some (i, .int (nI a))) (hn : i < nL) (hl : (i, Value.int (nI (a + 1))) :: lv.filter (fun q => !(q.1 == i) && !(q.1 + 1 == i && q.2.category == 2)) = lv') (kk : ∀ ls : Array Slot, lv_has ls nL lv' → W p l e R s m args below meth c H locs cells slots Q (F0 m (pc + 3) ls (rest))) : W p l e R s m args below meth c H locs cells slots Q (F0 m pc ls (rest)) := lv_iinc (v := nI (a + 1)) hx hb hdg h hk (by rw [← nI_1]; rfl) hn hl kk
theorem n_geY (hx : p.tables.exec = Jvm.exec) (hb : c.code = cc) {a b : Nat} {off : Int} (tgt : Nat) (hdg : decode cc pc = .ok (.if_icmp .ge off, 3)) (ht : (pc : Int) + off = (tgt : Int)) (h : b ≤ a) (hm : a < 2 ^ 31) (k : W p l e R s m args below meth c H locs cells slots Q (F0 m tgt ls (rest))) : W p l e R s m args below meth c H locs cells slots Q (F0 m pc ls (.int (nI b) :: .int (nI a) :: rest)) := lv_icmp_ge hx hb hdg ht (fun _ => k) (fun q => absurd (nI_le h hm) q)
theorem n_geN (hx : p.tables.exec = Jvm.exec) (hb : c.code = cc) {a b : Nat} {off : Int} (tgt : Nat) (hdg : decode cc pc = .ok (.if_icmp .ge off, 3)) (ht : (pc : Int) + off = (tgt : Int)) (h : a < b) (hm : b < 2 ^ 31) (k : W p l e R s m args below meth c H locs cells slots Q (F0 m (pc + 3) ls (rest))) : W p l e R s m args below meth c H locs cells slots Q (F0 m pc ls (.int (nI b) :: .int (nI a) :: rest)) := lv_icmp_ge hx hb hdg ht (fun q => absurd q (nI_ge h hm)) (fun _ => k)
theorem n_gtY (hx : p.tables.exec = Jvm.exec) (hb : c.code = cc) {a b : Nat} {off : Int} (tgt : Nat) (hdg : decode cc pc = .ok (.if_icmp .gt off, 3)) (ht : (pc : Int) + off = (tgt : Int)) (h : b < a) (hm : a < 2 ^ 31) (k : W p l e R s m args below meth c H locs cells slots Q (F0 m tgt ls (rest))) : W p l e R s m args below meth c H locs cells slots Q (F0 m pc ls (.int (nI b) :: .int (nI a) :: rest)) := lv_icmp_gt hx hb hdg ht (fun _ => k) (fun q => absurd (nI_lt h hm) q)
theorem n_gtN (hx : p.tables.exec = Jvm.exec) (hb : c.code = cc) {a b : Nat} {off : Int} (tgt : Nat) (hdg : decode cc pc = .ok (.if_icmp .gt off, 3)) (ht : (pc : Int) + off = (tgt : Int)) (h : a ≤ b) (hm : b < 2 ^ 31) (k : W p l e R s m args below meth c H locs cells slots Q (F0 m (pc + 3) ls (rest))) : W p l e R s m args below meth c H locs cells slots Q (F0 m pc ls (.int (nI b) :: .int (nI a) :: rest)) := lv_icmp_gt hx hb hdg ht (fun q => absurd q (nI_nlt h hm)) (fun _ => k)
theorem n_leY (hx : p.tables.exec = Jvm.exec) (hb : c.code = cc) {a b : Nat} {off : Int} (tgt : Nat) (hdg : decode cc pc = .ok (.if_icmp .le off, 3)) (ht : (pc : Int) + off = (tgt : Int)) (h : a ≤ b) (hm : b < 2 ^ 31) (k : W p l e R s m args below meth c H locs cells slots Q (F0 m tgt ls (rest))) : W p l e R s m args below meth c H locs cells slots Q (F0 m pc ls (.int (nI b) :: .int (nI a) :: rest)) := lv_icmp_le hx hb hdg ht (fun _ => k) (fun q => absurd (nI_le h hm) q)
theorem n_leN (hx : p.tables.exec = Jvm.exec) (hb : c.code = cc) {a b : Nat} {off : Int} (tgt : Nat) (hdg : decode cc pc = .ok (.if_icmp .le off, 3)) (ht : (pc : Int) + off = (tgt : Int)) (h : b < a) (hm : a < 2 ^ 31) (k : W p l e R s m args below meth c H locs cells slots Q (F0 m (pc + 3) ls (rest))) : W p l e R s m args below meth c H locs cells slots Q (F0 m pc ls (.int (nI b) :: .int (nI a) :: rest)) := lv_icmp_le hx hb hdg ht (fun q => absurd q (nI_ge h hm)) (fun _ => k)
theorem c_eqY (hx : p.tables.exec = Jvm.exec) (hb : c.code = cc) {x y : Int32} {off : Int} (tgt : Nat) (hdg : decode cc pc = .ok (.if_icmp .eq off, 3)) (ht : (pc : Int) + off = (tgt : Int)) (h : x = y) (k : W p l e R s m args below meth c H locs cells slots Q (F0 m tgt ls (rest))) : W p l e R s m args below meth c H locs cells slots Q (F0 m pc ls (.int y :: .int x :: rest)) := lv_icmp_eq hx hb hdg ht (fun _ => k) (fun q => absurd h q)
theorem c_eqN (hx : p.tables.exec = Jvm.exec) (hb : c.code = cc) {x y : Int32} {off : Int} (tgt : Nat) (hdg : decode cc pc = .ok (.if_icmp .eq off, 3)) (ht : (pc : Int) + off = (tgt : Int)) (h : ¬ (x = y)) (k : W p l e R s m args below meth c H locs cells slots Q (F0 m (pc + 3) ls (rest))) : W p l e R s m args below meth c H locs cells slots Q (F0 m pc ls (.int y :: .int x :: rest)) := lv_icmp_eq hx hb hdg ht (fun q => absurd q h) (fun _ => k)
theorem c_neY (hx : p.tables.exec = Jvm.exec) (hb : c.code = cc) {x y : Int32} {off : Int} (tgt : Nat) (hdg : decode cc pc = .ok (.if_icmp .ne off, 3)) (ht : (pc : Int) + off = (tgt : Int)) (h : ¬ x = y) (k : W p l e R s m args below meth c H locs cells slots Q (F0 m tgt ls (rest))) : W p l e R s m args below meth c H locs cells slots Q (F0 m pc ls (.int y :: .int x :: rest)) := lv_icmp_ne hx hb hdg ht (fun _ => k) (fun q => absurd q h)
theorem c_neN (hx : p.tables.exec = Jvm.exec) (hb : c.code = cc) {x y : Int32} {off : Int} (tgt : Nat) (hdg : decode cc pc = .ok (.if_icmp .ne off, 3)) (ht : (pc : Int) + off = (tgt : Int)) (h : x = y) (k : W p l e R s m args below meth c H locs cells slots Q (F0 m (pc + 3) ls (rest))) : W p l e R s m args below meth c H locs cells slots Q (F0 m pc ls (.int y :: .int x :: rest)) := lv_icmp_ne hx hb hdg ht (fun q => absurd h q) (fun _ => k)
theorem c_ltY (hx : p.tables.exec = Jvm.exec) (hb : c.code = cc) {x y : Int32} {off : Int} (tgt : Nat) (hdg : decode cc pc = .ok (.if_icmp .lt off, 3)) (ht : (pc : Int) + off = (tgt : Int)) (h : x < y) (k : W p l e R s m args below meth c H locs cells slots Q (F0 m tgt ls (rest))) : W p l e R s m args below meth c H locs cells slots Q (F0 m pc ls (.int y :: .int x :: rest)) := lv_icmp_lt hx hb hdg ht (fun _ => k) (fun q => absurd h q)
theorem c_ltN (hx : p.tables.exec = Jvm.exec) (hb : c.code = cc) {x y : Int32} {off : Int} (tgt : Nat) (hdg : decode cc pc = .ok (.if_icmp .lt off, 3)) (ht : (pc : Int) + off = (tgt : Int)) (h : ¬ (x < y)) (k : W p l e R s m args below meth c H locs cells slots Q (F0 m (pc + 3) ls (rest))) : W p l e R s m args below meth c H locs cells slots Q (F0 m pc ls (.int y :: .int x :: rest)) := lv_icmp_lt hx hb hdg ht (fun q => absurd q h) (fun _ => k)
theorem c_geY (hx : p.tables.exec = Jvm.exec) (hb : c.code = cc) {x y : Int32} {off : Int} (tgt : Nat) (hdg : decode cc pc = .ok (.if_icmp .ge off, 3)) (ht : (pc : Int) + off = (tgt : Int)) (h : y ≤ x) (k : W p l e R s m args below meth c H locs cells slots Q (F0 m tgt ls (rest))) : W p l e R s m args below meth c H locs cells slots Q (F0 m pc ls (.int y :: .int x :: rest)) := lv_icmp_ge hx hb hdg ht (fun _ => k) (fun q => absurd h q)
theorem c_geN (hx : p.tables.exec = Jvm.exec) (hb : c.code = cc) {x y : Int32} {off : Int} (tgt : Nat) (hdg : decode cc pc = .ok (.if_icmp .ge off, 3)) (ht : (pc : Int) + off = (tgt : Int)) (h : ¬ (y ≤ x)) (k : W p l e R s m args below meth c H locs cells slots Q (F0 m (pc + 3) ls (rest))) : W p l e R s m args below meth c H locs cells slots Q (F0 m pc ls (.int y :: .int x :: rest)) := lv_icmp_ge hx hb hdg ht (fun q => absurd q h) (fun _ => k)
theorem c_gtY (hx : p.tables.exec = Jvm.exec) (hb : c.code = cc) {x y : Int32} {off : Int} (tgt : Nat) (hdg : decode cc pc = .ok (.if_icmp .gt off, 3)) (ht : (pc : Int) + off = (tgt : Int)) (h : y < x) (k : W p l e R s m args below meth c H locs cells slots Q (F0 m tgt ls (rest))) : W p l e R s m args below meth c H locs cells slots Q (F0 m pc ls (.int y :: .int x :: rest)) := lv_icmp_gt hx hb hdg ht (fun _ => k) (fun q => absurd h q)
theorem c_gtN (hx : p.tables.exec = Jvm.exec) (hb : c.code = cc) {x y : Int32} {off : Int} (tgt : Nat) (hdg : decode cc pc = .ok (.if_icmp .gt off, 3)) (ht : (pc : Int) + off = (tgt : Int)) (h : ¬ (y < x)) (k : W p l e R s m args below meth c H locs cells slots Q (F0 m (pc + 3) ls (rest))) : W p l e R s m args below meth c H locs cells slots Q (F0 m pc ls (.int y :: .int x :: rest)) := lv_icmp_gt hx hb hdg ht (fun q => absurd q h) (fun _ => k)
theorem c_leY (hx : p.tables.exec = Jvm.exec) (hb : c.code = cc) {x y : Int32} {off : Int} (tgt : Nat) (hdg : decode cc pc = .ok (.if_icmp .le off, 3)) (ht : (pc : Int) + off = (tgt : Int)) (h : x ≤ y) (k : W p l e R s m args below meth c H locs cells slots Q (F0 m tgt ls (rest))) : W p l e R s m args below meth c H locs cells slots Q (F0 m pc ls (.int y :: .int x :: rest)) := lv_icmp_le hx hb hdg ht (fun _ => k) (fun q => absurd h q)
theorem c_leN (hx : p.tables.exec = Jvm.exec) (hb : c.code = cc) {x y : Int32} {off : Int} (tgt : Nat) (hdg : decode cc pc = .ok (.if_icmp .le off, 3)) (ht : (pc : Int) + off = (tgt : Int)) (h : ¬ (x ≤ y)) (k : W p l e R s m args below meth c H locs cells slots Q (F0 m (pc + 3) ls (rest))) : W p l e R s m args below meth c H locs cells slots Q (F0 m pc ls (.int y :: .int x :: rest)) := lv_icmp_le hx hb hdg ht (fun q => absurd q h) (fun _ => k)
theorem z_eqY (hx : p.tables.exec = Jvm.exec) (hb : c.code = cc) {x : Int32} {off : Int} (tgt : Nat) (hdg : decode cc pc = .ok (.ifCond .eq off, 3)) (ht : (pc : Int) + off = (tgt : Int)) (h : x = 0) (k : W p l e R s m args below meth c H locs cells slots Q (F0 m tgt ls (rest))) : W p l e R s m args below meth c H locs cells slots Q (F0 m pc ls (.int x :: rest)) := lv_if_eq hx hb hdg ht (fun _ => k) (fun q => absurd h q)
theorem z_eqN (hx : p.tables.exec = Jvm.exec) (hb : c.code = cc) {x : Int32} {off : Int} (tgt : Nat) (hdg : decode cc pc = .ok (.ifCond .eq off, 3)) (ht : (pc : Int) + off = (tgt : Int)) (h : ¬ (x = 0)) (k : W p l e R s m args below meth c H locs cells slots Q (F0 m (pc + 3) ls (rest))) : W p l e R s m args below meth c H locs cells slots Q (F0 m pc ls (.int x :: rest)) := lv_if_eq hx hb hdg ht (fun q => absurd q h) (fun _ => k)
theorem z_neY (hx : p.tables.exec = Jvm.exec) (hb : c.code = cc) {x : Int32} {off : Int} (tgt : Nat) (hdg : decode cc pc = .ok (.ifCond .ne off, 3)) (ht : (pc : Int) + off = (tgt : Int)) (h : ¬ x = 0) (k : W p l e R s m args below meth c H locs cells slots Q (F0 m tgt ls (rest))) : W p l e R s m args below meth c H locs cells slots Q (F0 m pc ls (.int x :: rest)) := lv_if_ne hx hb hdg ht (fun _ => k) (fun q => absurd q h)
theorem z_neN (hx : p.tables.exec = Jvm.exec) (hb : c.code = cc) {x : Int32} {off : Int} (tgt : Nat) (hdg : decode cc pc = .ok (.ifCond .ne off, 3)) (ht : (pc : Int) + off = (tgt : Int)) (h : x = 0) (k : W p l e R s m args below meth c H locs cells slots Q (F0 m (pc + 3) ls (rest))) : W p l e R s m args below meth c H locs cells slots Q (F0 m pc ls (.int x :: rest)) := lv_if_ne hx hb hdg ht (fun q => absurd h q) (fun _ => k)
theorem z_ltY (hx : p.tables.exec = Jvm.exec) (hb : c.code = cc) {x : Int32} {off : Int} (tgt : Nat) (hdg : decode cc pc = .ok (.ifCond .lt off, 3)) (ht : (pc : Int) + off = (tgt : Int)) (h : x < 0) (k : W p l e R s m args below meth c H locs cells slots Q (F0 m tgt ls (rest))) : W p l e R s m args below meth c H locs cells slots Q (F0 m pc ls (.int x :: rest)) := lv_if_lt hx hb hdg ht (fun _ => k) (fun q => absurd h q)
theorem z_ltN (hx : p.tables.exec = Jvm.exec) (hb : c.code = cc) {x : Int32} {off : Int} (tgt : Nat) (hdg : decode cc pc = .ok (.ifCond .lt off, 3)) (ht : (pc : Int) + off = (tgt : Int)) (h : ¬ (x < 0)) (k : W p l e R s m args below meth c H locs cells slots Q (F0 m (pc + 3) ls (rest))) : W p l e R s m args below meth c H locs cells slots Q (F0 m pc ls (.int x :: rest)) := lv_if_lt hx hb hdg ht (fun q => absurd q h) (fun _ => k)
theorem z_geY (hx : p.tables.exec = Jvm.exec) (hb : c.code = cc) {x : Int32} {off : Int} (tgt : Nat) (hdg : decode cc pc = .ok (.ifCond .ge off, 3)) (ht : (pc : Int) + off = (tgt : Int)) (h : 0 ≤ x) (k : W p l e R s m args below meth c H locs cells slots Q (F0 m tgt ls (rest))) : W p l e R s m args below meth c H locs cells slots Q (F0 m pc ls (.int x :: rest)) := lv_if_ge hx hb hdg ht (fun _ => k) (fun q => absurd h q)
theorem z_geN (hx : p.tables.exec = Jvm.exec) (hb : c.code = cc) {x : Int32} {off : Int} (tgt : Nat) (hdg : decode cc pc = .ok (.ifCond .ge off, 3)) (ht : (pc : Int) + off = (tgt : Int)) (h : ¬ (0 ≤ x)) (k : W p l e R s m args below meth c H locs cells slots Q (F0 m (pc + 3) ls (rest))) : W p l e R s m args below meth c H locs cells slots Q (F0 m pc ls (.int x :: rest)) := lv_if_ge hx hb hdg ht (fun q => absurd q h) (fun _ => k)
end GR
section eR
variable {p : Program} {l : Launch} {e : Env} {R : Room} {s : State} {m : MethodId} {args : Array Value} {below : List Frame} {meth : Method} {c : Code} {H : Heap} {locs : List Loc} {cells slots : Nat} {Q : State → Prop}
variable {cc : ByteArray} {pc nL : Nat} {ls : Array Slot} {rest : List Value} {D : va_G} {tys : List (ClassId × FieldType)} {A : Nat → Prop} {H0 : Heap} {a : Nat → Nat} {d : Nat → ClassId} {im we tk tu ip op ti ha qu : Nat → Int32} {oo : Int32}
theorem eg_im (C : CallFix p m c cc nL s args lw_all RX0) (hK : va_K D vwCl tys s) (hZ : gZ D A H0 (eW a d im we tk tu ip op ti ha qu oo) H locs) (hdg : decode cc pc = .ok (.getfield 7, 3)) (kk : W p l e R s m args below meth c H locs cells slots Q (F0 m (pc + 3) ls (.ref (a 1) :: rest))) : W p l e R s m args below meth c H locs cells slots Q (F0 m pc ls (.ref (a 0) :: rest)) := va_get (D := D) (ci := 0) (v := .ref (a 1)) (C := RX0) (T := TX0) (N := 10) C.1 C.2.1 C.2.2.2.2 in_X0 C.2.2.2.1 hK hZ.1 0 rfl rfl 0 (by decide) (C.2.2.2.2 _ q29) (fun _ h9 => h9) rfl hdg kk
theorem el_im {own : String} (C : CallFix p m c cc nL s args lw_all own) (hK : va_K D vwCl (tyE d) s) (hZ : gZ D A H0 (eW a d im we tk tu ip op ti ha qu oo) H locs) {j : Nat} (hj : j < 100) (hdg : decode cc pc = .ok (.baload, 1)) (kk : W p l e R s m args below meth c H locs cells slots Q (F0 m (pc + 1) ls (.int (im j) :: rest))) : W p l e R s m args below meth c H locs cells slots Q (F0 m pc ls (.int (nI j) :: .ref (a 1) :: rest)) := by
  refine va_bald (f := im) C.1 C.2.1 hK hZ.1 1 0 rfl rfl (vp_in_nI hj (by decide)) hdg ?_
  rw [nI_clamp (Nat.lt_trans hj (by decide))]
  exact kk
theorem es_im {own : String} (C : CallFix p m c cc nL s args lw_all own) (hK : va_K D vwCl (tyE d) s) (hZ : gZ D A H0 (eW a d im we tk tu ip op ti ha qu oo) H locs) {j : Nat} {x : Int32} (y : Int32) (hy : vp_nar .byte x = y) (hj : j < 100) (hdg : decode cc pc = .ok (.bastore, 1)) (kk : ∀ (H : Heap) (locs : List Loc), gZ D A H0 (eW a d (upd im j y) we tk tu ip op ti ha qu oo) H locs → W p l e R s m args below meth c H locs cells slots Q (F0 m (pc + 1) ls (rest))) : W p l e R s m args below meth c H locs cells slots Q (F0 m pc ls (.int x :: .int (nI j) :: .ref (a 1) :: rest)) := by
  refine va_bast (f := im) C.1 C.2.1 hK hZ.1 hZ.2.1 hZ.2.2 1 0 rfl rfl (vp_in_nI hj (by decide)) hdg (fun H1 locs1 h1 h2 h3 => ?_)
  rw [nI_clamp (Nat.lt_trans hj (by decide)), hy] at h1 h2
  exact kk H1 locs1 ⟨h1, h2, h3⟩
theorem eg_we (C : CallFix p m c cc nL s args lw_all RX0) (hK : va_K D vwCl tys s) (hZ : gZ D A H0 (eW a d im we tk tu ip op ti ha qu oo) H locs) (hdg : decode cc pc = .ok (.getfield 13, 3)) (kk : W p l e R s m args below meth c H locs cells slots Q (F0 m (pc + 3) ls (.ref (a 2) :: rest))) : W p l e R s m args below meth c H locs cells slots Q (F0 m pc ls (.ref (a 0) :: rest)) := va_get (D := D) (ci := 0) (v := .ref (a 2)) (C := RX0) (T := TX0) (N := 10) C.1 C.2.1 C.2.2.2.2 in_X0 C.2.2.2.1 hK hZ.1 0 rfl rfl 1 (by decide) (C.2.2.2.2 _ q30) (fun _ h9 => h9) rfl hdg kk
theorem el_we {own : String} (C : CallFix p m c cc nL s args lw_all own) (hK : va_K D vwCl (tyE d) s) (hZ : gZ D A H0 (eW a d im we tk tu ip op ti ha qu oo) H locs) {j : Nat} (hj : j < 18) (hdg : decode cc pc = .ok (.baload, 1)) (kk : W p l e R s m args below meth c H locs cells slots Q (F0 m (pc + 1) ls (.int (we j) :: rest))) : W p l e R s m args below meth c H locs cells slots Q (F0 m pc ls (.int (nI j) :: .ref (a 2) :: rest)) := by
  refine va_bald (f := we) C.1 C.2.1 hK hZ.1 2 1 rfl rfl (vp_in_nI hj (by decide)) hdg ?_
  rw [nI_clamp (Nat.lt_trans hj (by decide))]
  exact kk
theorem es_we {own : String} (C : CallFix p m c cc nL s args lw_all own) (hK : va_K D vwCl (tyE d) s) (hZ : gZ D A H0 (eW a d im we tk tu ip op ti ha qu oo) H locs) {j : Nat} {x : Int32} (y : Int32) (hy : vp_nar .byte x = y) (hj : j < 18) (hdg : decode cc pc = .ok (.bastore, 1)) (kk : ∀ (H : Heap) (locs : List Loc), gZ D A H0 (eW a d im (upd we j y) tk tu ip op ti ha qu oo) H locs → W p l e R s m args below meth c H locs cells slots Q (F0 m (pc + 1) ls (rest))) : W p l e R s m args below meth c H locs cells slots Q (F0 m pc ls (.int x :: .int (nI j) :: .ref (a 2) :: rest)) := by
  refine va_bast (f := we) C.1 C.2.1 hK hZ.1 hZ.2.1 hZ.2.2 2 1 rfl rfl (vp_in_nI hj (by decide)) hdg (fun H1 locs1 h1 h2 h3 => ?_)
  rw [nI_clamp (Nat.lt_trans hj (by decide)), hy] at h1 h2
  exact kk H1 locs1 ⟨h1, h2, h3⟩
theorem eg_tk (C : CallFix p m c cc nL s args lw_all RX0) (hK : va_K D vwCl tys s) (hZ : gZ D A H0 (eW a d im we tk tu ip op ti ha qu oo) H locs) (hdg : decode cc pc = .ok (.getfield 16, 3)) (kk : W p l e R s m args below meth c H locs cells slots Q (F0 m (pc + 3) ls (.ref (a 3) :: rest))) : W p l e R s m args below meth c H locs cells slots Q (F0 m pc ls (.ref (a 0) :: rest)) := va_get (D := D) (ci := 0) (v := .ref (a 3)) (C := RX0) (T := TX0) (N := 10) C.1 C.2.1 C.2.2.2.2 in_X0 C.2.2.2.1 hK hZ.1 0 rfl rfl 2 (by decide) (C.2.2.2.2 _ q31) (fun _ h9 => h9) rfl hdg kk
theorem el_tk {own : String} (C : CallFix p m c cc nL s args lw_all own) (hK : va_K D vwCl (tyE d) s) (hZ : gZ D A H0 (eW a d im we tk tu ip op ti ha qu oo) H locs) {j : Nat} (hj : j < 2) (hdg : decode cc pc = .ok (.baload, 1)) (kk : W p l e R s m args below meth c H locs cells slots Q (F0 m (pc + 1) ls (.int (tk j) :: rest))) : W p l e R s m args below meth c H locs cells slots Q (F0 m pc ls (.int (nI j) :: .ref (a 3) :: rest)) := by
  refine va_zald (f := tk) C.1 C.2.1 hK hZ.1 3 2 rfl rfl (vp_in_nI hj (by decide)) hdg ?_
  rw [nI_clamp (Nat.lt_trans hj (by decide))]
  exact kk
theorem es_tk {own : String} (C : CallFix p m c cc nL s args lw_all own) (hK : va_K D vwCl (tyE d) s) (hZ : gZ D A H0 (eW a d im we tk tu ip op ti ha qu oo) H locs) {j : Nat} {x : Int32} (y : Int32) (hy : vp_nar .boolean x = y) (hj : j < 2) (hdg : decode cc pc = .ok (.bastore, 1)) (kk : ∀ (H : Heap) (locs : List Loc), gZ D A H0 (eW a d im we (upd tk j y) tu ip op ti ha qu oo) H locs → W p l e R s m args below meth c H locs cells slots Q (F0 m (pc + 1) ls (rest))) : W p l e R s m args below meth c H locs cells slots Q (F0 m pc ls (.int x :: .int (nI j) :: .ref (a 3) :: rest)) := by
  refine va_zast (f := tk) C.1 C.2.1 hK hZ.1 hZ.2.1 hZ.2.2 3 2 rfl rfl (vp_in_nI hj (by decide)) hdg (fun H1 locs1 h1 h2 h3 => ?_)
  rw [nI_clamp (Nat.lt_trans hj (by decide)), hy] at h1 h2
  exact kk H1 locs1 ⟨h1, h2, h3⟩
theorem eg_tu (C : CallFix p m c cc nL s args lw_all RX0) (hK : va_K D vwCl tys s) (hZ : gZ D A H0 (eW a d im we tk tu ip op ti ha qu oo) H locs) (hdg : decode cc pc = .ok (.getfield 20, 3)) (kk : W p l e R s m args below meth c H locs cells slots Q (F0 m (pc + 3) ls (.ref (a 4) :: rest))) : W p l e R s m args below meth c H locs cells slots Q (F0 m pc ls (.ref (a 0) :: rest)) := va_get (D := D) (ci := 0) (v := .ref (a 4)) (C := RX0) (T := TX0) (N := 10) C.1 C.2.1 C.2.2.2.2 in_X0 C.2.2.2.1 hK hZ.1 0 rfl rfl 3 (by decide) (C.2.2.2.2 _ q32) (fun _ h9 => h9) rfl hdg kk
theorem el_tu {own : String} (C : CallFix p m c cc nL s args lw_all own) (hK : va_K D vwCl (tyE d) s) (hZ : gZ D A H0 (eW a d im we tk tu ip op ti ha qu oo) H locs) {j : Nat} (hj : j < 32) (hdg : decode cc pc = .ok (.iaload, 1)) (kk : W p l e R s m args below meth c H locs cells slots Q (F0 m (pc + 1) ls (.int (tu j) :: rest))) : W p l e R s m args below meth c H locs cells slots Q (F0 m pc ls (.int (nI j) :: .ref (a 4) :: rest)) := by
  refine va_iald (f := tu) C.1 C.2.1 hK hZ.1 4 3 rfl rfl (vp_in_nI hj (by decide)) hdg ?_
  rw [nI_clamp (Nat.lt_trans hj (by decide))]
  exact kk
theorem es_tu {own : String} (C : CallFix p m c cc nL s args lw_all own) (hK : va_K D vwCl (tyE d) s) (hZ : gZ D A H0 (eW a d im we tk tu ip op ti ha qu oo) H locs) {j : Nat} {x : Int32} (hj : j < 32) (hdg : decode cc pc = .ok (.iastore, 1)) (kk : ∀ (H : Heap) (locs : List Loc), gZ D A H0 (eW a d im we tk (upd tu j x) ip op ti ha qu oo) H locs → W p l e R s m args below meth c H locs cells slots Q (F0 m (pc + 1) ls (rest))) : W p l e R s m args below meth c H locs cells slots Q (F0 m pc ls (.int x :: .int (nI j) :: .ref (a 4) :: rest)) := by
  refine va_iast (f := tu) C.1 C.2.1 hK hZ.1 hZ.2.1 hZ.2.2 4 3 rfl rfl (vp_in_nI hj (by decide)) hdg (fun H1 locs1 h1 h2 h3 => ?_)
  rw [nI_clamp (Nat.lt_trans hj (by decide))] at h1 h2
  exact kk H1 locs1 ⟨h1, h2, h3⟩
theorem eg_ip (C : CallFix p m c cc nL s args lw_all RX0) (hK : va_K D vwCl tys s) (hZ : gZ D A H0 (eW a d im we tk tu ip op ti ha qu oo) H locs) (hdg : decode cc pc = .ok (.getfield 24, 3)) (kk : W p l e R s m args below meth c H locs cells slots Q (F0 m (pc + 3) ls (.ref (a 5) :: rest))) : W p l e R s m args below meth c H locs cells slots Q (F0 m pc ls (.ref (a 0) :: rest)) := va_get (D := D) (ci := 0) (v := .ref (a 5)) (C := RX0) (T := TX0) (N := 10) C.1 C.2.1 C.2.2.2.2 in_X0 C.2.2.2.1 hK hZ.1 0 rfl rfl 4 (by decide) (C.2.2.2.2 _ q33) (fun _ h9 => h9) rfl hdg kk
theorem el_ip {own : String} (C : CallFix p m c cc nL s args lw_all own) (hK : va_K D vwCl (tyE d) s) (hZ : gZ D A H0 (eW a d im we tk tu ip op ti ha qu oo) H locs) {j : Nat} (hj : j < 100) (hdg : decode cc pc = .ok (.iaload, 1)) (kk : W p l e R s m args below meth c H locs cells slots Q (F0 m (pc + 1) ls (.int (ip j) :: rest))) : W p l e R s m args below meth c H locs cells slots Q (F0 m pc ls (.int (nI j) :: .ref (a 5) :: rest)) := by
  refine va_iald (f := ip) C.1 C.2.1 hK hZ.1 5 4 rfl rfl (vp_in_nI hj (by decide)) hdg ?_
  rw [nI_clamp (Nat.lt_trans hj (by decide))]
  exact kk
theorem es_ip {own : String} (C : CallFix p m c cc nL s args lw_all own) (hK : va_K D vwCl (tyE d) s) (hZ : gZ D A H0 (eW a d im we tk tu ip op ti ha qu oo) H locs) {j : Nat} {x : Int32} (hj : j < 100) (hdg : decode cc pc = .ok (.iastore, 1)) (kk : ∀ (H : Heap) (locs : List Loc), gZ D A H0 (eW a d im we tk tu (upd ip j x) op ti ha qu oo) H locs → W p l e R s m args below meth c H locs cells slots Q (F0 m (pc + 1) ls (rest))) : W p l e R s m args below meth c H locs cells slots Q (F0 m pc ls (.int x :: .int (nI j) :: .ref (a 5) :: rest)) := by
  refine va_iast (f := ip) C.1 C.2.1 hK hZ.1 hZ.2.1 hZ.2.2 5 4 rfl rfl (vp_in_nI hj (by decide)) hdg (fun H1 locs1 h1 h2 h3 => ?_)
  rw [nI_clamp (Nat.lt_trans hj (by decide))] at h1 h2
  exact kk H1 locs1 ⟨h1, h2, h3⟩
theorem eg_op (C : CallFix p m c cc nL s args lw_all RX0) (hK : va_K D vwCl tys s) (hZ : gZ D A H0 (eW a d im we tk tu ip op ti ha qu oo) H locs) (hdg : decode cc pc = .ok (.getfield 27, 3)) (kk : W p l e R s m args below meth c H locs cells slots Q (F0 m (pc + 3) ls (.ref (a 6) :: rest))) : W p l e R s m args below meth c H locs cells slots Q (F0 m pc ls (.ref (a 0) :: rest)) := va_get (D := D) (ci := 0) (v := .ref (a 6)) (C := RX0) (T := TX0) (N := 10) C.1 C.2.1 C.2.2.2.2 in_X0 C.2.2.2.1 hK hZ.1 0 rfl rfl 5 (by decide) (C.2.2.2.2 _ q34) (fun _ h9 => h9) rfl hdg kk
theorem el_op {own : String} (C : CallFix p m c cc nL s args lw_all own) (hK : va_K D vwCl (tyE d) s) (hZ : gZ D A H0 (eW a d im we tk tu ip op ti ha qu oo) H locs) {j : Nat} (hj : j < 100) (hdg : decode cc pc = .ok (.iaload, 1)) (kk : W p l e R s m args below meth c H locs cells slots Q (F0 m (pc + 1) ls (.int (op j) :: rest))) : W p l e R s m args below meth c H locs cells slots Q (F0 m pc ls (.int (nI j) :: .ref (a 6) :: rest)) := by
  refine va_iald (f := op) C.1 C.2.1 hK hZ.1 6 5 rfl rfl (vp_in_nI hj (by decide)) hdg ?_
  rw [nI_clamp (Nat.lt_trans hj (by decide))]
  exact kk
theorem es_op {own : String} (C : CallFix p m c cc nL s args lw_all own) (hK : va_K D vwCl (tyE d) s) (hZ : gZ D A H0 (eW a d im we tk tu ip op ti ha qu oo) H locs) {j : Nat} {x : Int32} (hj : j < 100) (hdg : decode cc pc = .ok (.iastore, 1)) (kk : ∀ (H : Heap) (locs : List Loc), gZ D A H0 (eW a d im we tk tu ip (upd op j x) ti ha qu oo) H locs → W p l e R s m args below meth c H locs cells slots Q (F0 m (pc + 1) ls (rest))) : W p l e R s m args below meth c H locs cells slots Q (F0 m pc ls (.int x :: .int (nI j) :: .ref (a 6) :: rest)) := by
  refine va_iast (f := op) C.1 C.2.1 hK hZ.1 hZ.2.1 hZ.2.2 6 5 rfl rfl (vp_in_nI hj (by decide)) hdg (fun H1 locs1 h1 h2 h3 => ?_)
  rw [nI_clamp (Nat.lt_trans hj (by decide))] at h1 h2
  exact kk H1 locs1 ⟨h1, h2, h3⟩
theorem eg_ti (C : CallFix p m c cc nL s args lw_all RX0) (hK : va_K D vwCl tys s) (hZ : gZ D A H0 (eW a d im we tk tu ip op ti ha qu oo) H locs) (hdg : decode cc pc = .ok (.getfield 30, 3)) (kk : W p l e R s m args below meth c H locs cells slots Q (F0 m (pc + 3) ls (.ref (a 7) :: rest))) : W p l e R s m args below meth c H locs cells slots Q (F0 m pc ls (.ref (a 0) :: rest)) := va_get (D := D) (ci := 0) (v := .ref (a 7)) (C := RX0) (T := TX0) (N := 10) C.1 C.2.1 C.2.2.2.2 in_X0 C.2.2.2.1 hK hZ.1 0 rfl rfl 7 (by decide) (C.2.2.2.2 _ q36) (fun _ h9 => h9) rfl hdg kk
theorem el_ti {own : String} (C : CallFix p m c cc nL s args lw_all own) (hK : va_K D vwCl (tyE d) s) (hZ : gZ D A H0 (eW a d im we tk tu ip op ti ha qu oo) H locs) {j : Nat} (hj : j < 16) (hdg : decode cc pc = .ok (.iaload, 1)) (kk : W p l e R s m args below meth c H locs cells slots Q (F0 m (pc + 1) ls (.int (ti j) :: rest))) : W p l e R s m args below meth c H locs cells slots Q (F0 m pc ls (.int (nI j) :: .ref (a 7) :: rest)) := by
  refine va_iald (f := ti) C.1 C.2.1 hK hZ.1 7 6 rfl rfl (vp_in_nI hj (by decide)) hdg ?_
  rw [nI_clamp (Nat.lt_trans hj (by decide))]
  exact kk
theorem es_ti {own : String} (C : CallFix p m c cc nL s args lw_all own) (hK : va_K D vwCl (tyE d) s) (hZ : gZ D A H0 (eW a d im we tk tu ip op ti ha qu oo) H locs) {j : Nat} {x : Int32} (hj : j < 16) (hdg : decode cc pc = .ok (.iastore, 1)) (kk : ∀ (H : Heap) (locs : List Loc), gZ D A H0 (eW a d im we tk tu ip op (upd ti j x) ha qu oo) H locs → W p l e R s m args below meth c H locs cells slots Q (F0 m (pc + 1) ls (rest))) : W p l e R s m args below meth c H locs cells slots Q (F0 m pc ls (.int x :: .int (nI j) :: .ref (a 7) :: rest)) := by
  refine va_iast (f := ti) C.1 C.2.1 hK hZ.1 hZ.2.1 hZ.2.2 7 6 rfl rfl (vp_in_nI hj (by decide)) hdg (fun H1 locs1 h1 h2 h3 => ?_)
  rw [nI_clamp (Nat.lt_trans hj (by decide))] at h1 h2
  exact kk H1 locs1 ⟨h1, h2, h3⟩
theorem eg_ha (C : CallFix p m c cc nL s args lw_all RX0) (hK : va_K D vwCl tys s) (hZ : gZ D A H0 (eW a d im we tk tu ip op ti ha qu oo) H locs) (hdg : decode cc pc = .ok (.getfield 33, 3)) (kk : W p l e R s m args below meth c H locs cells slots Q (F0 m (pc + 3) ls (.ref (a 8) :: rest))) : W p l e R s m args below meth c H locs cells slots Q (F0 m pc ls (.ref (a 0) :: rest)) := va_get (D := D) (ci := 0) (v := .ref (a 8)) (C := RX0) (T := TX0) (N := 10) C.1 C.2.1 C.2.2.2.2 in_X0 C.2.2.2.1 hK hZ.1 0 rfl rfl 8 (by decide) (C.2.2.2.2 _ q37) (fun _ h9 => h9) rfl hdg kk
theorem el_ha {own : String} (C : CallFix p m c cc nL s args lw_all own) (hK : va_K D vwCl (tyE d) s) (hZ : gZ D A H0 (eW a d im we tk tu ip op ti ha qu oo) H locs) {j : Nat} (hj : j < 16) (hdg : decode cc pc = .ok (.iaload, 1)) (kk : W p l e R s m args below meth c H locs cells slots Q (F0 m (pc + 1) ls (.int (ha j) :: rest))) : W p l e R s m args below meth c H locs cells slots Q (F0 m pc ls (.int (nI j) :: .ref (a 8) :: rest)) := by
  refine va_iald (f := ha) C.1 C.2.1 hK hZ.1 8 7 rfl rfl (vp_in_nI hj (by decide)) hdg ?_
  rw [nI_clamp (Nat.lt_trans hj (by decide))]
  exact kk
theorem es_ha {own : String} (C : CallFix p m c cc nL s args lw_all own) (hK : va_K D vwCl (tyE d) s) (hZ : gZ D A H0 (eW a d im we tk tu ip op ti ha qu oo) H locs) {j : Nat} {x : Int32} (hj : j < 16) (hdg : decode cc pc = .ok (.iastore, 1)) (kk : ∀ (H : Heap) (locs : List Loc), gZ D A H0 (eW a d im we tk tu ip op ti (upd ha j x) qu oo) H locs → W p l e R s m args below meth c H locs cells slots Q (F0 m (pc + 1) ls (rest))) : W p l e R s m args below meth c H locs cells slots Q (F0 m pc ls (.int x :: .int (nI j) :: .ref (a 8) :: rest)) := by
  refine va_iast (f := ha) C.1 C.2.1 hK hZ.1 hZ.2.1 hZ.2.2 8 7 rfl rfl (vp_in_nI hj (by decide)) hdg (fun H1 locs1 h1 h2 h3 => ?_)
  rw [nI_clamp (Nat.lt_trans hj (by decide))] at h1 h2
  exact kk H1 locs1 ⟨h1, h2, h3⟩
theorem eg_qu (C : CallFix p m c cc nL s args lw_all RX0) (hK : va_K D vwCl tys s) (hZ : gZ D A H0 (eW a d im we tk tu ip op ti ha qu oo) H locs) (hdg : decode cc pc = .ok (.getfield 36, 3)) (kk : W p l e R s m args below meth c H locs cells slots Q (F0 m (pc + 3) ls (.ref (a 9) :: rest))) : W p l e R s m args below meth c H locs cells slots Q (F0 m pc ls (.ref (a 0) :: rest)) := va_get (D := D) (ci := 0) (v := .ref (a 9)) (C := RX0) (T := TX0) (N := 10) C.1 C.2.1 C.2.2.2.2 in_X0 C.2.2.2.1 hK hZ.1 0 rfl rfl 9 (by decide) (C.2.2.2.2 _ q38) (fun _ h9 => h9) rfl hdg kk
theorem el_qu {own : String} (C : CallFix p m c cc nL s args lw_all own) (hK : va_K D vwCl (tyE d) s) (hZ : gZ D A H0 (eW a d im we tk tu ip op ti ha qu oo) H locs) {j : Nat} (hj : j < 4) (hdg : decode cc pc = .ok (.iaload, 1)) (kk : W p l e R s m args below meth c H locs cells slots Q (F0 m (pc + 1) ls (.int (qu j) :: rest))) : W p l e R s m args below meth c H locs cells slots Q (F0 m pc ls (.int (nI j) :: .ref (a 9) :: rest)) := by
  refine va_iald (f := qu) C.1 C.2.1 hK hZ.1 9 8 rfl rfl (vp_in_nI hj (by decide)) hdg ?_
  rw [nI_clamp (Nat.lt_trans hj (by decide))]
  exact kk
theorem es_qu {own : String} (C : CallFix p m c cc nL s args lw_all own) (hK : va_K D vwCl (tyE d) s) (hZ : gZ D A H0 (eW a d im we tk tu ip op ti ha qu oo) H locs) {j : Nat} {x : Int32} (hj : j < 4) (hdg : decode cc pc = .ok (.iastore, 1)) (kk : ∀ (H : Heap) (locs : List Loc), gZ D A H0 (eW a d im we tk tu ip op ti ha (upd qu j x) oo) H locs → W p l e R s m args below meth c H locs cells slots Q (F0 m (pc + 1) ls (rest))) : W p l e R s m args below meth c H locs cells slots Q (F0 m pc ls (.int x :: .int (nI j) :: .ref (a 9) :: rest)) := by
  refine va_iast (f := qu) C.1 C.2.1 hK hZ.1 hZ.2.1 hZ.2.2 9 8 rfl rfl (vp_in_nI hj (by decide)) hdg (fun H1 locs1 h1 h2 h3 => ?_)
  rw [nI_clamp (Nat.lt_trans hj (by decide))] at h1 h2
  exact kk H1 locs1 ⟨h1, h2, h3⟩
theorem eg_oo (C : CallFix p m c cc nL s args lw_all RX0) (hK : va_K D vwCl tys s) (hZ : gZ D A H0 (eW a d im we tk tu ip op ti ha qu oo) H locs) (hdg : decode cc pc = .ok (.getfield 39, 3)) (kk : W p l e R s m args below meth c H locs cells slots Q (F0 m (pc + 3) ls (.int oo :: rest))) : W p l e R s m args below meth c H locs cells slots Q (F0 m pc ls (.ref (a 0) :: rest)) := va_get (D := D) (ci := 0) (v := .int oo) (C := RX0) (T := TX0) (N := 10) C.1 C.2.1 C.2.2.2.2 in_X0 C.2.2.2.1 hK hZ.1 0 rfl rfl 6 (by decide) (C.2.2.2.2 _ q35) (fun _ h9 => h9) rfl hdg kk
theorem es_oo (C : CallFix p m c cc nL s args lw_all RX0) (hK : va_K D vwCl tys s) (hZ : gZ D A H0 (eW a d im we tk tu ip op ti ha qu oo) H locs) {x : Int32} (hdg : decode cc pc = .ok (.putfield 39, 3)) (kk : ∀ (H : Heap) (locs : List Loc), gZ D A H0 (eW a d im we tk tu ip op ti ha qu x) H locs → W p l e R s m args below meth c H locs cells slots Q (F0 m (pc + 3) ls (rest))) : W p l e R s m args below meth c H locs cells slots Q (F0 m pc ls (.int x :: .ref (a 0) :: rest)) := va_put (D := D) (ci := 0) (v := .int x) (ty := .int) (C := RX0) (T := TX0) (N := 10) C.1 C.2.1 C.2.2.2.2 in_X0 tyX0 tyX0_ok nmX0 C.2.2.2.1 hK hZ.1 hZ.2.1 hZ.2.2 0 rfl rfl 6 (by decide) (C.2.2.2.2 _ q35) (fun _ h9 => h9) rfl (by decide +kernel) rfl rfl (Nat.le_of_ble_eq_true rfl) hdg (fun H1 locs1 h1 h2 h3 => kk H1 locs1 ⟨h1, h2, h3⟩)
end eR
section mR
variable {p : Program} {l : Launch} {e : Env} {R : Room} {s : State} {m : MethodId} {args : Array Value} {below : List Frame} {meth : Method} {c : Code} {H : Heap} {locs : List Loc} {cells slots : Nat} {Q : State → Prop}
variable {cc : ByteArray} {pc nL : Nat} {ls : Array Slot} {rest : List Value} {D : va_G} {tys : List (ClassId × FieldType)} {A : Nat → Prop} {H0 : Heap} {a : Nat → Nat} {d : Nat → ClassId} {mi mf mw : Nat → Int32}
theorem mg_mi (C : CallFix p m c cc nL s args lw_all RX1) (hK : va_K D vwCl tys s) (hZ : gZ D A H0 (mW a d mi mf mw) H locs) (hdg : decode cc pc = .ok (.getfield 7, 3)) (kk : W p l e R s m args below meth c H locs cells slots Q (F0 m (pc + 3) ls (.ref (a 1) :: rest))) : W p l e R s m args below meth c H locs cells slots Q (F0 m pc ls (.ref (a 0) :: rest)) := va_get (D := D) (ci := 1) (v := .ref (a 1)) (C := RX1) (T := TX1) (N := 3) C.1 C.2.1 C.2.2.2.2 in_X1 C.2.2.2.1 hK hZ.1 0 rfl rfl 0 (by decide) (C.2.2.2.2 _ q160) (fun _ h9 => h9) rfl hdg kk
theorem ml_mi {own : String} (C : CallFix p m c cc nL s args lw_all own) (hK : va_K D vwCl (tyM d) s) (hZ : gZ D A H0 (mW a d mi mf mw) H locs) {j : Nat} (hj : j < 100) (hdg : decode cc pc = .ok (.iaload, 1)) (kk : W p l e R s m args below meth c H locs cells slots Q (F0 m (pc + 1) ls (.int (mi j) :: rest))) : W p l e R s m args below meth c H locs cells slots Q (F0 m pc ls (.int (nI j) :: .ref (a 1) :: rest)) := by
  refine va_iald (f := mi) C.1 C.2.1 hK hZ.1 1 0 rfl rfl (vp_in_nI hj (by decide)) hdg ?_
  rw [nI_clamp (Nat.lt_trans hj (by decide))]
  exact kk
theorem ms_mi {own : String} (C : CallFix p m c cc nL s args lw_all own) (hK : va_K D vwCl (tyM d) s) (hZ : gZ D A H0 (mW a d mi mf mw) H locs) {j : Nat} {x : Int32} (hj : j < 100) (hdg : decode cc pc = .ok (.iastore, 1)) (kk : ∀ (H : Heap) (locs : List Loc), gZ D A H0 (mW a d (upd mi j x) mf mw) H locs → W p l e R s m args below meth c H locs cells slots Q (F0 m (pc + 1) ls (rest))) : W p l e R s m args below meth c H locs cells slots Q (F0 m pc ls (.int x :: .int (nI j) :: .ref (a 1) :: rest)) := by
  refine va_iast (f := mi) C.1 C.2.1 hK hZ.1 hZ.2.1 hZ.2.2 1 0 rfl rfl (vp_in_nI hj (by decide)) hdg (fun H1 locs1 h1 h2 h3 => ?_)
  rw [nI_clamp (Nat.lt_trans hj (by decide))] at h1 h2
  exact kk H1 locs1 ⟨h1, h2, h3⟩
theorem mg_mf (C : CallFix p m c cc nL s args lw_all RX1) (hK : va_K D vwCl tys s) (hZ : gZ D A H0 (mW a d mi mf mw) H locs) (hdg : decode cc pc = .ok (.getfield 13, 3)) (kk : W p l e R s m args below meth c H locs cells slots Q (F0 m (pc + 3) ls (.ref (a 2) :: rest))) : W p l e R s m args below meth c H locs cells slots Q (F0 m pc ls (.ref (a 0) :: rest)) := va_get (D := D) (ci := 1) (v := .ref (a 2)) (C := RX1) (T := TX1) (N := 3) C.1 C.2.1 C.2.2.2.2 in_X1 C.2.2.2.1 hK hZ.1 0 rfl rfl 1 (by decide) (C.2.2.2.2 _ q161) (fun _ h9 => h9) rfl hdg kk
theorem ml_mf {own : String} (C : CallFix p m c cc nL s args lw_all own) (hK : va_K D vwCl (tyM d) s) (hZ : gZ D A H0 (mW a d mi mf mw) H locs) {j : Nat} (hj : j < 100) (hdg : decode cc pc = .ok (.iaload, 1)) (kk : W p l e R s m args below meth c H locs cells slots Q (F0 m (pc + 1) ls (.int (mf j) :: rest))) : W p l e R s m args below meth c H locs cells slots Q (F0 m pc ls (.int (nI j) :: .ref (a 2) :: rest)) := by
  refine va_iald (f := mf) C.1 C.2.1 hK hZ.1 2 1 rfl rfl (vp_in_nI hj (by decide)) hdg ?_
  rw [nI_clamp (Nat.lt_trans hj (by decide))]
  exact kk
theorem ms_mf {own : String} (C : CallFix p m c cc nL s args lw_all own) (hK : va_K D vwCl (tyM d) s) (hZ : gZ D A H0 (mW a d mi mf mw) H locs) {j : Nat} {x : Int32} (hj : j < 100) (hdg : decode cc pc = .ok (.iastore, 1)) (kk : ∀ (H : Heap) (locs : List Loc), gZ D A H0 (mW a d mi (upd mf j x) mw) H locs → W p l e R s m args below meth c H locs cells slots Q (F0 m (pc + 1) ls (rest))) : W p l e R s m args below meth c H locs cells slots Q (F0 m pc ls (.int x :: .int (nI j) :: .ref (a 2) :: rest)) := by
  refine va_iast (f := mf) C.1 C.2.1 hK hZ.1 hZ.2.1 hZ.2.2 2 1 rfl rfl (vp_in_nI hj (by decide)) hdg (fun H1 locs1 h1 h2 h3 => ?_)
  rw [nI_clamp (Nat.lt_trans hj (by decide))] at h1 h2
  exact kk H1 locs1 ⟨h1, h2, h3⟩
theorem mg_mw (C : CallFix p m c cc nL s args lw_all RX1) (hK : va_K D vwCl tys s) (hZ : gZ D A H0 (mW a d mi mf mw) H locs) (hdg : decode cc pc = .ok (.getfield 16, 3)) (kk : W p l e R s m args below meth c H locs cells slots Q (F0 m (pc + 3) ls (.ref (a 3) :: rest))) : W p l e R s m args below meth c H locs cells slots Q (F0 m pc ls (.ref (a 0) :: rest)) := va_get (D := D) (ci := 1) (v := .ref (a 3)) (C := RX1) (T := TX1) (N := 3) C.1 C.2.1 C.2.2.2.2 in_X1 C.2.2.2.1 hK hZ.1 0 rfl rfl 2 (by decide) (C.2.2.2.2 _ q162) (fun _ h9 => h9) rfl hdg kk
theorem ml_mw {own : String} (C : CallFix p m c cc nL s args lw_all own) (hK : va_K D vwCl (tyM d) s) (hZ : gZ D A H0 (mW a d mi mf mw) H locs) {j : Nat} (hj : j < 18) (hdg : decode cc pc = .ok (.iaload, 1)) (kk : W p l e R s m args below meth c H locs cells slots Q (F0 m (pc + 1) ls (.int (mw j) :: rest))) : W p l e R s m args below meth c H locs cells slots Q (F0 m pc ls (.int (nI j) :: .ref (a 3) :: rest)) := by
  refine va_iald (f := mw) C.1 C.2.1 hK hZ.1 3 2 rfl rfl (vp_in_nI hj (by decide)) hdg ?_
  rw [nI_clamp (Nat.lt_trans hj (by decide))]
  exact kk
theorem ms_mw {own : String} (C : CallFix p m c cc nL s args lw_all own) (hK : va_K D vwCl (tyM d) s) (hZ : gZ D A H0 (mW a d mi mf mw) H locs) {j : Nat} {x : Int32} (hj : j < 18) (hdg : decode cc pc = .ok (.iastore, 1)) (kk : ∀ (H : Heap) (locs : List Loc), gZ D A H0 (mW a d mi mf (upd mw j x)) H locs → W p l e R s m args below meth c H locs cells slots Q (F0 m (pc + 1) ls (rest))) : W p l e R s m args below meth c H locs cells slots Q (F0 m pc ls (.int x :: .int (nI j) :: .ref (a 3) :: rest)) := by
  refine va_iast (f := mw) C.1 C.2.1 hK hZ.1 hZ.2.1 hZ.2.2 3 2 rfl rfl (vp_in_nI hj (by decide)) hdg (fun H1 locs1 h1 h2 h3 => ?_)
  rw [nI_clamp (Nat.lt_trans hj (by decide))] at h1 h2
  exact kk H1 locs1 ⟨h1, h2, h3⟩
end mR
end
section
/-! the plain law: numbers within bounds, fills, tiles, responses; no program in sight -/
set_option maxRecDepth 100000
/-- bounded -/
def bd (x : Int32) (B : Nat) : Prop := x.toInt.natAbs ≤ B
theorem bd_add {x y : Int32} {A B : Nat} (hx : bd x A) (hy : bd y B) (h : A + B < 2147483648) : bd (x + y) (A + B) := by
  unfold bd at *
  have e : (x + y).toInt = x.toInt + y.toInt := by
    rw [Int32.toInt_add, Int.bmod_eq_of_le (by omega) (by omega)]
  rw [e]
  omega
theorem bd_mul {x y : Int32} {A B : Nat} (hx : bd x A) (hy : bd y B) (h : A * B < 2147483648) : bd (x * y) (A * B) := by
  unfold bd at *
  have e1 : (x.toInt * y.toInt).natAbs ≤ A * B := by
    rw [Int.natAbs_mul]
    exact Nat.mul_le_mul hx hy
  generalize hP : A * B = P at *
  have e : (x * y).toInt = x.toInt * y.toInt := by
    rw [Int32.toInt_mul]
    generalize x.toInt * y.toInt = z at *
    rw [Int.bmod_eq_of_le (by omega) (by omega)]
  rw [e]
  exact e1
theorem bd_mono {x : Int32} {A B : Nat} (hx : bd x A) (h : A ≤ B) : bd x B := Nat.le_trans hx h
theorem bd_0 (B : Nat) : bd 0 B := by
  unfold bd
  rw [Int32.toInt_zero]
  exact Nat.zero_le _
theorem div4 {r : Int32} (h : bd r 500000000) : (4 * r) / nI 4 = r := by
  unfold bd at h
  apply Int32.toInt_inj.1
  have e4 : (4 : Int32).toInt = 4 := by decide +kernel
  have e4' : (nI 4).toInt = 4 := by decide +kernel
  have e : (4 * r).toInt = 4 * r.toInt := by
    rw [Int32.toInt_mul, e4, Int.bmod_eq_of_le (by omega) (by omega)]
  rw [Int32.toInt_div, e, e4', Int.mul_tdiv_cancel_left _ (by decide), Int.bmod_eq_of_le (by omega) (by omega)]
theorem byte_id {x : Int32} {B : Nat} (h : bd x B) (hB : B < 128) : x.toInt8.toInt32 = x := by
  unfold bd at h
  apply Int32.toInt_inj.1
  rw [Int8.toInt_toInt32, Int32.toInt_toInt8, Int.bmod_eq_of_le (by omega) (by omega)]
theorem nar_id {x : Int32} {B : Nat} (h : bd x B) (hB : B < 128) : vp_nar .byte x = x := by
  rw [vp_nar_byte]
  exact byte_id h hB
theorem bd_of {x lo hi : Int32} {B : Nat} (h1 : ¬ x < lo) (h2 : x ≤ hi) (e1 : lo.toInt = -(B : Int)) (e2 : hi.toInt = (B : Int)) : bd x B := by
  unfold bd
  rw [Int32.lt_iff_toInt_lt, e1] at h1
  rw [Int32.le_iff_toInt_le, e2] at h2
  omega
/-! fills -/
def fill (c : Nat) (f g : Nat → Int32) : Nat → Int32 := fun j => if j < c then f j else g j
theorem fill_0 (f g : Nat → Int32) : fill 0 f g = g := by
  funext j
  simp [fill]
theorem fill_upd {c : Nat} {f g : Nat → Int32} {v : Int32} (h : v = f c) : upd (fill c f g) c v = fill (c + 1) f g := by
  funext j
  unfold upd fill
  by_cases h1 : j = c
  · subst h1
    rw [if_pos rfl, if_pos (Nat.lt_succ_self _), h]
  · rw [if_neg h1]
    by_cases h2 : j < c
    · rw [if_pos h2, if_pos (by omega)]
    · rw [if_neg h2, if_neg (by omega)]
theorem fill_in {c j : Nat} {f g : Nat → Int32} (h : j < c) : fill c f g j = f j := by
  unfold fill
  rw [if_pos h]
def sel (P : Nat → Bool) (f g : Nat → Int32) : Nat → Int32 := fun j => if P j = true then f j else g j
theorem sel_upd {P P' : Nat → Bool} {f g : Nat → Int32} {i : Nat} {v : Int32} (h : v = f i) (hp : ∀ j, P' j = true ↔ (P j = true ∨ j = i)) : upd (sel P f g) i v = sel P' f g := by
  funext j
  unfold upd sel
  by_cases h1 : j = i
  · subst h1
    rw [if_pos rfl, if_pos ((hp _).mpr (Or.inr rfl)), h]
  · rw [if_neg h1]
    by_cases h2 : P j = true
    · rw [if_pos h2, if_pos ((hp _).mpr (Or.inl h2))]
    · rw [if_neg h2, if_neg (fun q => ((hp _).mp q).elim h2 h1)]
theorem sel_no {P : Nat → Bool} {f g : Nat → Int32} (hp : ∀ j, ¬ P j = true) : sel P f g = g := by
  funext j
  unfold sel
  rw [if_neg (hp j)]
theorem sel_eq {P P' : Nat → Bool} {f g : Nat → Int32} (hp : ∀ j, P j = true ↔ P' j = true) : sel P f g = sel P' f g := by
  have : P = P' := by
    funext j
    have := hp j
    cases h1 : P j <;> cases h2 : P' j <;> simp_all
  rw [this]
theorem sel_in {P : Nat → Bool} {f g : Nat → Int32} {j : Nat} (h : P j = true) : sel P f g j = f j := by
  unfold sel
  rw [if_pos h]
theorem sel_out {P : Nat → Bool} {f g : Nat → Int32} {j : Nat} (h : ¬ P j = true) : sel P f g j = g j := by
  unfold sel
  rw [if_neg h]
/-! turning filters and tiles -/
def sp (a b c : Int32) (k : Nat) : Int32 := if k = 0 then 2 * a else if k = 3 then 2 * c else if k = 1 then a + b + c else a - b + c
def mx (a b c d : Int32) (k : Nat) : Int32 := if k = 0 then a - c else if k = 1 then b + c else if k = 2 then c - b else b - d
def hw (v : Nat → Int32) (j : Nat) : Int32 := sp (v (j % 4)) (v (3 + j % 4)) (v (6 + j % 4)) (j / 4)
def tw (v : Nat → Int32) (j : Nat) : Int32 := sp (hw v (4 * (j / 4))) (hw v (4 * (j / 4) + 1)) (hw v (4 * (j / 4) + 2)) (j % 4)
def hm (t : Nat → Int32) (j : Nat) : Int32 := mx (t (j % 4)) (t (4 + j % 4)) (t (8 + j % 4)) (t (12 + j % 4)) (j / 4)
def tm (t : Nat → Int32) (j : Nat) : Int32 := mx (hm t (4 * (j / 4))) (hm t (4 * (j / 4) + 1)) (hm t (4 * (j / 4) + 2)) (hm t (4 * (j / 4) + 3)) (j % 4)
def hg (t : Nat → Int32) (j : Nat) : Int32 := if j < 4 then t j + t (4 + j) + t (8 + j) else t (4 + (j - 4)) - t (8 + (j - 4)) - t (12 + (j - 4))
def qg (h : Nat → Int32) (j : Nat) : Int32 := if j % 2 = 0 then h (4 * (j / 2)) + h (4 * (j / 2) + 1) + h (4 * (j / 2) + 2) else h (4 * (j / 2) + 1) - h (4 * (j / 2) + 2) - h (4 * (j / 2) + 3)
/-! responses -/
def pad (g : Nat → Int32) (u v : Nat) : Int32 := if 1 ≤ u ∧ u ≤ 10 ∧ 1 ≤ v ∧ v ≤ 10 then g (10 * (v - 1) + (u - 1)) else 0
def rs (w g : Nat → Int32) (x y : Nat) : Nat → Int32
  | 0 => 0
  | k + 1 => rs w g x y k + w k * pad g (x + k % 3) (y + k / 3)
/-- the response of filter f to g, at the cell c -/
def resp (w g : Nat → Int32) (f c : Nat) : Int32 := rs (fun k => w (9 * f + k)) g (c % 10) (c / 10) 9
theorem pad_bd {g : Nat → Int32} {B : Nat} (h : ∀ j, j < 100 → bd (g j) B) (u v : Nat) : bd (pad g u v) B := by
  unfold pad
  split
  · exact h _ (by omega)
  · exact bd_0 B
theorem rs_bd {w g : Nat → Int32} {B x y : Nat} (hw : ∀ k, k < 9 → bd (w k) 9) (hg : ∀ j, j < 100 → bd (g j) B) (hB : B ≤ 8019) : ∀ n, n ≤ 9 → bd (rs w g x y n) (n * (9 * B)) := by
  intro n
  induction n with
  | zero => intro _; exact bd_0 _
  | succ n ih =>
    intro hn
    have h1 := ih (by omega)
    have h2 : bd (w n * pad g (x + n % 3) (y + n / 3)) (9 * B) := bd_mul (hw n (by omega)) (pad_bd hg _ _) (by omega)
    have h3 : n * (9 * B) ≤ 8 * (9 * B) := Nat.mul_le_mul_right _ (by omega)
    have h4 : (n + 1) * (9 * B) = n * (9 * B) + 9 * B := Nat.succ_mul n (9 * B)
    rw [h4]
    exact bd_add h1 h2 (by omega)
theorem resp_bd {w g : Nat → Int32} {B f c : Nat} (hf : f < 2) (hw : ∀ k, k < 18 → bd (w k) 9) (hg : ∀ j, j < 100 → bd (g j) B) (hB : B ≤ 8019) : bd (resp w g f c) (81 * B) := by
  have := rs_bd (w := fun k => w (9 * f + k)) (x := c % 10) (y := c / 10) (fun k hk => hw _ (by omega)) hg hB 9 (Nat.le_refl 9)
  unfold resp
  exact bd_mono this (by omega)
/-- the Winograd identity: what is gathered is four times the nine products -/
theorem wino (v t M g : Nat → Int32) (X Y : Nat) (ht : ∀ j, j < 16 → t j = pad g (X + j % 4) (Y + j / 4)) (hM : ∀ j, j < 16 → M j = tm t j * tw v j) (i : Nat) (hi : i < 4) :
    qg (hg M) i = 4 * rs v g (X + i % 2) (Y + i / 2) 9 := by
  have e0 := ht 0 (by decide)
  have e1 := ht 1 (by decide)
  have e2 := ht 2 (by decide)
  have e3 := ht 3 (by decide)
  have e4 := ht 4 (by decide)
  have e5 := ht 5 (by decide)
  have e6 := ht 6 (by decide)
  have e7 := ht 7 (by decide)
  have e8 := ht 8 (by decide)
  have e9 := ht 9 (by decide)
  have e10 := ht 10 (by decide)
  have e11 := ht 11 (by decide)
  have e12 := ht 12 (by decide)
  have e13 := ht 13 (by decide)
  have e14 := ht 14 (by decide)
  have e15 := ht 15 (by decide)
  have m0 := hM 0 (by decide)
  have m1 := hM 1 (by decide)
  have m2 := hM 2 (by decide)
  have m3 := hM 3 (by decide)
  have m4 := hM 4 (by decide)
  have m5 := hM 5 (by decide)
  have m6 := hM 6 (by decide)
  have m7 := hM 7 (by decide)
  have m8 := hM 8 (by decide)
  have m9 := hM 9 (by decide)
  have m10 := hM 10 (by decide)
  have m11 := hM 11 (by decide)
  have m12 := hM 12 (by decide)
  have m13 := hM 13 (by decide)
  have m14 := hM 14 (by decide)
  have m15 := hM 15 (by decide)
  simp only [Nat.reduceMod, Nat.reduceDiv, Nat.add_zero] at e0 e1 e2 e3 e4 e5 e6 e7 e8 e9 e10 e11 e12 e13 e14 e15
  simp only [tm, tw, hm, hw, sp, mx, Nat.reduceMod, Nat.reduceDiv, Nat.reduceMul, Nat.reduceAdd, Nat.reduceSub, Nat.reduceLT, Nat.reduceEqDiff, Nat.zero_add, Nat.add_zero, Nat.mul_zero, reduceIte, Nat.zero_mod, Nat.zero_div, Nat.one_ne_zero] at m0 m1 m2 m3 m4 m5 m6 m7 m8 m9 m10 m11 m12 m13 m14 m15
  match i, hi with
  | 0, _ =>
    have e : rs v g (X + 0 % 2) (Y + 0 / 2) 9 = v 0 * t 0 + v 1 * t 1 + v 2 * t 2 + v 3 * t 4 + v 4 * t 5 + v 5 * t 6 + v 6 * t 8 + v 7 * t 9 + v 8 * t 10 := by
      simp only [rs, Nat.reduceMod, Nat.reduceDiv, Nat.add_zero, Nat.add_assoc, Nat.reduceAdd, Int32.zero_add, e0, e1, e2, e4, e5, e6, e8, e9, e10]
    rw [e]
    simp only [qg, hg, Nat.reduceMod, Nat.reduceDiv, Nat.reduceMul, Nat.reduceAdd, Nat.reduceSub, Nat.reduceLT, Nat.reduceEqDiff, Nat.zero_add, Nat.add_zero, Nat.mul_zero, reduceIte, Nat.zero_mod, Nat.zero_div, Nat.one_ne_zero, m0, m1, m2, m3, m4, m5, m6, m7, m8, m9, m10, m11, m12, m13, m14, m15]
    clear e ht hM e0 m0 e1 m1 e2 m2 e3 m3 e4 m4 e5 m5 e6 m6 e7 m7 e8 m8 e9 m9 e10 m10 e11 m11 e12 m12 e13 m13 e14 m14 e15 m15
    grind
  | 1, _ =>
    have e : rs v g (X + 1 % 2) (Y + 1 / 2) 9 = v 0 * t 1 + v 1 * t 2 + v 2 * t 3 + v 3 * t 5 + v 4 * t 6 + v 5 * t 7 + v 6 * t 9 + v 7 * t 10 + v 8 * t 11 := by
      simp only [rs, Nat.reduceMod, Nat.reduceDiv, Nat.add_zero, Nat.add_assoc, Nat.reduceAdd, Int32.zero_add, e1, e2, e3, e5, e6, e7, e9, e10, e11]
    rw [e]
    simp only [qg, hg, Nat.reduceMod, Nat.reduceDiv, Nat.reduceMul, Nat.reduceAdd, Nat.reduceSub, Nat.reduceLT, Nat.reduceEqDiff, Nat.zero_add, Nat.add_zero, Nat.mul_zero, reduceIte, Nat.zero_mod, Nat.zero_div, Nat.one_ne_zero, m0, m1, m2, m3, m4, m5, m6, m7, m8, m9, m10, m11, m12, m13, m14, m15]
    clear e ht hM e0 m0 e1 m1 e2 m2 e3 m3 e4 m4 e5 m5 e6 m6 e7 m7 e8 m8 e9 m9 e10 m10 e11 m11 e12 m12 e13 m13 e14 m14 e15 m15
    grind
  | 2, _ =>
    have e : rs v g (X + 2 % 2) (Y + 2 / 2) 9 = v 0 * t 4 + v 1 * t 5 + v 2 * t 6 + v 3 * t 8 + v 4 * t 9 + v 5 * t 10 + v 6 * t 12 + v 7 * t 13 + v 8 * t 14 := by
      simp only [rs, Nat.reduceMod, Nat.reduceDiv, Nat.add_zero, Nat.add_assoc, Nat.reduceAdd, Int32.zero_add, e4, e5, e6, e8, e9, e10, e12, e13, e14]
    rw [e]
    simp only [qg, hg, Nat.reduceMod, Nat.reduceDiv, Nat.reduceMul, Nat.reduceAdd, Nat.reduceSub, Nat.reduceLT, Nat.reduceEqDiff, Nat.zero_add, Nat.add_zero, Nat.mul_zero, reduceIte, Nat.zero_mod, Nat.zero_div, Nat.one_ne_zero, m0, m1, m2, m3, m4, m5, m6, m7, m8, m9, m10, m11, m12, m13, m14, m15]
    clear e ht hM e0 m0 e1 m1 e2 m2 e3 m3 e4 m4 e5 m5 e6 m6 e7 m7 e8 m8 e9 m9 e10 m10 e11 m11 e12 m12 e13 m13 e14 m14 e15 m15
    grind
  | 3, _ =>
    have e : rs v g (X + 3 % 2) (Y + 3 / 2) 9 = v 0 * t 5 + v 1 * t 6 + v 2 * t 7 + v 3 * t 9 + v 4 * t 10 + v 5 * t 11 + v 6 * t 13 + v 7 * t 14 + v 8 * t 15 := by
      simp only [rs, Nat.reduceMod, Nat.reduceDiv, Nat.add_zero, Nat.add_assoc, Nat.reduceAdd, Int32.zero_add, e5, e6, e7, e9, e10, e11, e13, e14, e15]
    rw [e]
    simp only [qg, hg, Nat.reduceMod, Nat.reduceDiv, Nat.reduceMul, Nat.reduceAdd, Nat.reduceSub, Nat.reduceLT, Nat.reduceEqDiff, Nat.zero_add, Nat.add_zero, Nat.mul_zero, reduceIte, Nat.zero_mod, Nat.zero_div, Nat.one_ne_zero, m0, m1, m2, m3, m4, m5, m6, m7, m8, m9, m10, m11, m12, m13, m14, m15]
    clear e ht hM e0 m0 e1 m1 e2 m2 e3 m3 e4 m4 e5 m5 e6 m6 e7 m7 e8 m8 e9 m9 e10 m10 e11 m11 e12 m12 e13 m13 e14 m14 e15 m15
    grind
  | n + 4, h => exact absurd h (by omega)
/-! what the calls do to image and weights -/
def stc (n k : Nat) : Nat := if n < 10 then 10 * n + k else 10 * k + n - 10
def strp (im : Nat → Int32) (n fm : Nat) (v : Int32) : Nat → (Nat → Int32)
  | 0 => im
  | k + 1 => upd (strp im n fm v k) (stc n (fm + k)) v
def oon (oo : Int32) : Nat → Int32
  | 0 => oo
  | _ + 1 => -1
def swp (we : Nat → Int32) (f : Nat) : Nat → (Nat → Int32)
  | 0 => we
  | k + 1 => upd (upd (swp we f k) (9 * f + k) (swp we f k ((9 * f + 8) - k))) ((9 * f + 8) - k) (swp we f k (9 * f + k))
theorem upd_bd {g : Nat → Int32} {N B i : Nat} {v : Int32} (hg : ∀ j, j < N → bd (g j) B) (hv : bd v B) : ∀ j, j < N → bd (upd g i v j) B := by
  intro j hj
  unfold upd
  split
  · exact hv
  · exact hg j hj
theorem strp_bd {im : Nat → Int32} {n fm B : Nat} {v : Int32} (hg : ∀ j, j < 100 → bd (im j) B) (hv : bd v B) : ∀ k, ∀ j, j < 100 → bd (strp im n fm v k j) B := by
  intro k
  induction k with
  | zero => exact hg
  | succ k ih => exact upd_bd ih hv
theorem swp_bd {we : Nat → Int32} {f : Nat} (hf : f < 2) (hw : ∀ j, j < 18 → bd (we j) 9) : ∀ k, k < 9 → ∀ j, j < 18 → bd (swp we f k j) 9 := by
  intro k
  induction k with
  | zero => intro _; exact hw
  | succ k ih =>
    intro hk
    have ih := ih (by omega)
    exact upd_bd (upd_bd ih (ih _ (by omega))) (ih _ (by omega))
/-! the engine's state against the plain one -/
def TT (we tk tu : Nat → Int32) : Prop := ∀ f, f < 2 → ¬ tk f = 0 → ∀ j, j < 16 → tu (16 * f + j) = tw (fun k => we (9 * f + k)) j
def EI (im we tk tu op : Nat → Int32) (oo : Int32) : Prop := (∀ j, j < 100 → bd (im j) 99) ∧ (∀ j, j < 18 → bd (we j) 9) ∧ TT we tk tu ∧ (∀ f, f < 2 → oo = nI f → op = resp we im f) ∧ (oo = nI 2 → op = resp we (resp we im 0) 1)
def eI (a : Nat → Nat) (d : Nat → ClassId) (im we : Nat → Int32) (u : va_W) : Prop := ∃ tk tu ip op ti ha qu oo, u = eW a d im we tk tu ip op ti ha qu oo ∧ EI im we tk tu op oo
def mI (a : Nat → Nat) (d : Nat → ClassId) (im we : Nat → Int32) (u : va_W) : Prop := ∃ mf, u = mW a d im mf we
/-- a picture's array by another function that agrees on its places -/
theorem gZ_set {D : va_G} {A : Nat → Prop} {H0 H : Heap} {locs : List Loc} {w : va_W} {k n b : Nat} {cA : ClassId} {f f' : Nat → Int32} (hk : w[k]? = some (b, .inl (cA, n, .inl f))) (h : ∀ j, j < n → f j = f' j) (hZ : gZ D A H0 w H locs) : gZ D A H0 (w.set k (b, .inl (cA, n, .inl f'))) H locs := by
  refine ⟨?_, hZ.2.1.set hk, hZ.2.2⟩
  intro i q hq
  by_cases hi : i = k
  · subst hi
    have hlt : i < w.length := (List.getElem?_eq_some_iff.mp hk).1
    rw [List.getElem?_set_self hlt] at hq
    cases hq
    have h2 : H[b]? = some (vp_cell cA (n, .inl f)) := hZ.1 i _ hk
    have h3 : (fun j : Fin n => Value.int (f j.val)) = (fun j : Fin n => Value.int (f' j.val)) := funext fun j => by rw [h j.val j.isLt]
    show H[b]? = some (vp_cell cA (n, .inl f'))
    rw [h2]
    exact congrArg (fun z : Fin n → Value => (some ({ cls := cA, slots := Array.ofFn z, vm := .none } : Cell))) h3
  · rw [List.getElem?_set_ne (Ne.symm hi)] at hq
    exact hZ.1 i q hq
section EX
variable {D : va_G} {A : Nat → Prop} {H0 H : Heap} {locs : List Loc} {a : Nat → Nat} {d : Nat → ClassId} {im we tk tu ip op ti ha qu mi mf mw : Nat → Int32} {oo : Int32}
theorem eW_op {op' : Nat → Int32} (h : ∀ j, j < 100 → op j = op' j) (hZ : gZ D A H0 (eW a d im we tk tu ip op ti ha qu oo) H locs) : gZ D A H0 (eW a d im we tk tu ip op' ti ha qu oo) H locs := gZ_set (w := eW a d im we tk tu ip op ti ha qu oo) (k := 6) (f := op) rfl h hZ
theorem eW_ip {ip' : Nat → Int32} (h : ∀ j, j < 100 → ip j = ip' j) (hZ : gZ D A H0 (eW a d im we tk tu ip op ti ha qu oo) H locs) : gZ D A H0 (eW a d im we tk tu ip' op ti ha qu oo) H locs := gZ_set (w := eW a d im we tk tu ip op ti ha qu oo) (k := 5) (f := ip) rfl h hZ
theorem mW_mf {mf' : Nat → Int32} (h : ∀ j, j < 100 → mf j = mf' j) (hZ : gZ D A H0 (mW a d mi mf mw) H locs) : gZ D A H0 (mW a d mi mf' mw) H locs := gZ_set (w := mW a d mi mf mw) (k := 2) (f := mf) rfl h hZ
end EX
section TOP
variable {p : Program} {l : Launch} {e : Env} {R : Room} {s : State} {m : MethodId} {args : Array Value} {below : List Frame} {meth : Method} {c : Code} {H : Heap} {locs : List Loc} {cells slots : Nat} {Q : State → Prop} {pc : Nat} {ls : Array Slot} {rest : List Value}
theorem i_top {x y : Int32} (h : x = y) (k : W p l e R s m args below meth c H locs cells slots Q (F0 m pc ls (.int y :: rest))) : W p l e R s m args below meth c H locs cells slots Q (F0 m pc ls (.int x :: rest)) := by
  rw [h]
  exact k
theorem W_join {st : List Value} (pc' : Nat) (I : Array Slot → Prop) (k : ∀ ls : Array Slot, I ls → W p l e R s m args below meth c H locs cells slots Q (F0 m pc' ls [])) (h : (∀ ls : Array Slot, I ls → W p l e R s m args below meth c H locs cells slots Q (F0 m pc' ls [])) → W p l e R s m args below meth c H locs cells slots Q (F0 m pc ls st)) : W p l e R s m args below meth c H locs cells slots Q (F0 m pc ls st) := h k
end TOP
/-! numbers one less than a natural one -/
theorem pI_add (X b : Nat) : nI X - nI 1 + nI b = nI (X + b) - nI 1 := by
  rw [← nI_add]
  grind
theorem pI_lt {U : Nat} (h : U = 0) : nI U - nI 1 < 0 := by
  subst h
  decide +kernel
theorem pI_nlt {U : Nat} (h : 1 ≤ U) (hm : U < 2 ^ 31) : ¬ nI U - nI 1 < 0 := by
  rw [pk_sub h]
  exact nI_pos (by omega)
theorem pI_ge {U : Nat} (h : 11 ≤ U) (hm : U < 2 ^ 31) : nI 10 ≤ nI U - nI 1 := by
  rw [pk_sub (by omega)]
  exact nI_le (by omega) (by omega)
theorem pI_nge {U : Nat} (h : 1 ≤ U) (hm : U ≤ 10) : ¬ nI 10 ≤ nI U - nI 1 := by
  rw [pk_sub h]
  exact nI_ge (by omega) (by omega)
theorem pad_out {g : Nat → Int32} {u v : Nat} (h : ¬ (1 ≤ u ∧ u ≤ 10 ∧ 1 ≤ v ∧ v ≤ 10)) : nI 0 = pad g u v := by
  unfold pad
  rw [if_neg h]
  rfl
theorem pad_in {g : Nat → Int32} {u v : Nat} (h : 1 ≤ u ∧ u ≤ 10 ∧ 1 ≤ v ∧ v ≤ 10) : g (10 * (v - 1) + (u - 1)) = pad g u v := by
  unfold pad
  rw [if_pos h]
theorem TT_new {we tk tu : Nat → Int32} {f : Nat} (hf : f < 2) (hT : TT we tk tu) : TT we (upd tk f 1) (sel (fun j => decide (16 * f ≤ j ∧ j < 16 * f + 4 * 4)) (fun j => tw (fun k => we (9 * f + k)) (j - 16 * f)) tu) := by
  intro g hg hk j hj
  by_cases e : g = f
  · subst e
    rw [sel_in (by simp only [decide_eq_true_eq]; omega), show 16 * g + j - 16 * g = j by omega]
  · rw [sel_out (by simp only [decide_eq_true_eq]; omega)]
    refine hT g hg ?_ j hj
    intro q
    apply hk
    unfold upd
    rw [if_neg e]
    exact q
theorem sp_c {a b c a' b' c' : Int32} {k : Nat} (h1 : a = a') (h2 : b = b') (h3 : c = c') : sp a b c k = sp a' b' c' k := by rw [h1, h2, h3]
theorem hw_c {v v' : Nat → Int32} (h : ∀ k, k < 9 → v k = v' k) {j : Nat} (hj : j % 4 < 3) : hw v j = hw v' j := by
  unfold hw
  rw [h _ (by omega), h _ (by omega), h _ (by omega)]
theorem tw_c {v v' : Nat → Int32} (h : ∀ k, k < 9 → v k = v' k) (j : Nat) : tw v j = tw v' j := by
  unfold tw
  rw [hw_c h (by omega), hw_c h (by omega), hw_c h (by omega)]
theorem TT_upd0 {we we' tk tu : Nat → Int32} {f : Nat} (hT : TT we tk tu) (hw : ∀ g, g < 2 → g ≠ f → ∀ k, k < 9 → we' (9 * g + k) = we (9 * g + k)) : TT we' (upd tk f 0) tu := by
  intro g hg hk j hj
  by_cases e : g = f
  · subst e
    exact absurd (by unfold upd; rw [if_pos rfl]) hk
  · have h1 : ¬ tk g = 0 := by
      intro q
      apply hk
      unfold upd
      rw [if_neg e]
      exact q
    rw [hT g hg h1 j hj]
    exact tw_c (fun k hk => (hw g hg e k hk).symm) j
theorem fill_out {c j : Nat} {f g : Nat → Int32} (h : c ≤ j) : fill c f g j = g j := by
  unfold fill
  rw [if_neg (by omega)]
theorem sel_upd4 {P P' : Nat → Bool} {f g : Nat → Int32} {c0 c1 c2 c3 : Nat} {v0 v1 v2 v3 : Int32} (h0 : v0 = f c0) (h1 : v1 = f c1) (h2 : v2 = f c2) (h3 : v3 = f c3) (hp : ∀ j, P' j = true ↔ (P j = true ∨ j = c0 ∨ j = c1 ∨ j = c2 ∨ j = c3)) : upd (upd (upd (upd (sel P f g) c0 v0) c1 v1) c2 v2) c3 v3 = sel P' f g := by
  have a1 : upd (sel P f g) c0 v0 = sel (fun j => P j || decide (j = c0)) f g := sel_upd h0 (by intro j; simp)
  have a2 : upd (sel (fun j => P j || decide (j = c0)) f g) c1 v1 = sel (fun j => (P j || decide (j = c0)) || decide (j = c1)) f g := sel_upd h1 (by intro j; simp)
  have a3 : upd (sel (fun j => (P j || decide (j = c0)) || decide (j = c1)) f g) c2 v2 = sel (fun j => ((P j || decide (j = c0)) || decide (j = c1)) || decide (j = c2)) f g := sel_upd h2 (by intro j; simp)
  rw [a1, a2, a3]
  refine sel_upd h3 (fun j => (hp j).trans ?_)
  simp [or_assoc]
/-! answers -/
def bst (g : Nat → Int32) : Nat → Nat
  | 0 => 0
  | k + 1 => if g (k + 1) ≤ g (bst g k) then bst g k else k + 1
theorem bst_le (g : Nat → Int32) : ∀ k, bst g k ≤ k := by
  intro k
  induction k with
  | zero => exact Nat.le_refl 0
  | succ k ih =>
    unfold bst
    split
    · omega
    · omega
def sm (g : Nat → Int32) : Nat → Int32
  | 0 => 0
  | k + 1 => sm g k + g k
def pl1 (g : Nat → Int32) (n : Nat) : Int32 := if g (n + 1) ≤ g n then g n else g (n + 1)
def pl2 (g : Nat → Int32) (n : Nat) : Int32 := if g (n + 10) ≤ pl1 g n then pl1 g n else g (n + 10)
def pl3 (g : Nat → Int32) (n : Nat) : Int32 := if g (n + 11) ≤ pl2 g n then pl2 g n else g (n + 11)
def cl (x : Int32) : Int32 := if x < -99 then -99 else if 99 < x then 99 else x
def ct (g : Nat → Int32) : Nat → Nat
  | 0 => 0
  | k + 1 => if g k < -99 ∨ 99 < g k then ct g k + 1 else ct g k
theorem cl_lo {x : Int32} (h : x < -99) : -99 = cl x := by
  unfold cl
  rw [if_pos h]
theorem cl_hi {x : Int32} (h1 : ¬ x < -99) (h : 99 < x) : 99 = cl x := by
  unfold cl
  rw [if_neg h1, if_pos h]
theorem cl_id {x : Int32} (h1 : ¬ x < -99) (h : ¬ 99 < x) : x = cl x := by
  unfold cl
  rw [if_neg h1, if_neg h]
theorem cl_bd (x : Int32) : bd (cl x) 99 := by
  unfold cl
  split
  · unfold bd; decide +kernel
  · split
    · unfold bd; decide +kernel
    · rename_i h1 h2
      exact bd_of h1 (Int32.not_lt.mp h2) (by decide +kernel) (by decide +kernel)
theorem ct_le (g : Nat → Int32) : ∀ k, ct g k ≤ k := by
  intro k
  induction k with
  | zero => exact Nat.le_refl 0
  | succ k ih =>
    unfold ct
    split
    · omega
    · omega
theorem m1_ne {n : Nat} (h : n < 3) : ¬ ((-1 : Int32) = nI n) := by
  rcases (show n = 0 ∨ n = 1 ∨ n = 2 by omega) with h | h | h <;> subst h <;> decide +kernel
theorem EI_m1 {im we tk tu op : Nat → Int32} (h1 : ∀ j, j < 100 → bd (im j) 99) (h2 : ∀ j, j < 18 → bd (we j) 9) (hT : TT we tk tu) : EI im we tk tu op (-1) :=
  ⟨h1, h2, hT, fun _ hg e => absurd e (m1_ne (by omega)), fun e => absurd e (m1_ne (by decide))⟩
theorem eI_resp {a : Nat → Nat} {d : Nat → ClassId} {im we tk0 tu0 op0 tk tu ip ti ha qu : Nat → Int32} {oo0 : Int32} {f : Nat} (hf : f < 2) (hI : EI im we tk0 tu0 op0 oo0) (hT : TT we tk tu) : eI a d im we (eW a d im we tk tu ip (resp we im f) ti ha qu (nI f)) := by
  refine ⟨tk, tu, ip, _, ti, ha, qu, _, rfl, hI.1, hI.2.1, hT, fun g hg e => ?_, fun e => ?_⟩
  · rw [(nI_eq (by omega) (by omega)).mp e]
  · exact absurd ((nI_eq (by omega) (by omega)).mp e) (by omega)
theorem eI_resp2 {a : Nat → Nat} {d : Nat → ClassId} {im we tk0 tu0 op0 tk tu ip ti ha qu : Nat → Int32} {oo0 : Int32} (hI : EI im we tk0 tu0 op0 oo0) (hT : TT we tk tu) : eI a d im we (eW a d im we tk tu ip (resp we (resp we im 0) 1) ti ha qu (nI 2)) := by
  refine ⟨tk, tu, ip, _, ti, ha, qu, _, rfl, hI.1, hI.2.1, hT, fun g hg e => ?_, fun e => rfl⟩
  exact absurd ((nI_eq (by omega) (by omega)).mp e) (by omega)
end
section
/-! the words of the calls; the methods that only compute -/
set_option maxRecDepth 100000
def R_law : String := "WinogradEngineLaw"
theorem hwX0_isCell : GoodIn lw_all (wsV RX0 43 RX0 yX0_isCell (ws_ yX0_isCell cX0_isCell 2 (some .boolean))) := lw_V q67 q69 qs0 q19 q70
theorem hdX0_isCell : yX0_isCell.cls = RX0 ∧ yX0_isCell.cls ≠ "java/lang/invoke/MethodHandle" ∧ yX0_isCell.cls ≠ "java/lang/invoke/VarHandle" ∧ (parseMethodDescriptor yX0_isCell.desc).map (fun d => d.parameters.length) = some 1 := by decide +kernel
theorem hwX0_set : GoodIn lw_all (wsV RX0 48 RX0 yX0_set (ws_ yX0_set cX0_set 3 (some .boolean))) := lw_V q76 q64 q65 q19 q66
theorem hdX0_set : yX0_set.cls = RX0 ∧ yX0_set.cls ≠ "java/lang/invoke/MethodHandle" ∧ yX0_set.cls ≠ "java/lang/invoke/VarHandle" ∧ (parseMethodDescriptor yX0_set.desc).map (fun d => d.parameters.length) = some 2 := by decide +kernel
theorem hwX0_isFilter : GoodIn lw_all (wsV RX0 52 RX0 yX0_isFilter (ws_ yX0_isFilter cX0_isFilter 2 (some .boolean))) := lw_V q81 q83 qs1 q19 q84
theorem hdX0_isFilter : yX0_isFilter.cls = RX0 ∧ yX0_isFilter.cls ≠ "java/lang/invoke/MethodHandle" ∧ yX0_isFilter.cls ≠ "java/lang/invoke/VarHandle" ∧ (parseMethodDescriptor yX0_isFilter.desc).map (fun d => d.parameters.length) = some 1 := by decide +kernel
theorem hwX0_forget : GoodIn lw_all (wsV RX0 55 RX0 yX0_forget (ws_ yX0_forget cX0_forget 2 none)) := lw_V q85 q87 qs2 q19 q88
theorem hdX0_forget : yX0_forget.cls = RX0 ∧ yX0_forget.cls ≠ "java/lang/invoke/MethodHandle" ∧ yX0_forget.cls ≠ "java/lang/invoke/VarHandle" ∧ (parseMethodDescriptor yX0_forget.desc).map (fun d => d.parameters.length) = some 1 := by decide +kernel
theorem hwX0_respond : GoodIn lw_all (wsV RX0 59 RX0 yX0_respond (ws_ yX0_respond cX0_respond 3 none)) := lw_V q93 q95 qs3 q19 q96
theorem hdX0_respond : yX0_respond.cls = RX0 ∧ yX0_respond.cls ≠ "java/lang/invoke/MethodHandle" ∧ yX0_respond.cls ≠ "java/lang/invoke/VarHandle" ∧ (parseMethodDescriptor yX0_respond.desc).map (fun d => d.parameters.length) = some 1 := by decide +kernel
theorem hwX0_convolve : GoodIn lw_all (wsV RX0 62 RX0 yX0_convolve (ws_ yX0_convolve cX0_convolve 6 none)) := lw_V q97 q99 qs4 q19 q100
theorem hdX0_convolve : yX0_convolve.cls = RX0 ∧ yX0_convolve.cls ≠ "java/lang/invoke/MethodHandle" ∧ yX0_convolve.cls ≠ "java/lang/invoke/VarHandle" ∧ (parseMethodDescriptor yX0_convolve.desc).map (fun d => d.parameters.length) = some 1 := by decide +kernel
theorem hwX0_turnFilter : GoodIn lw_all (wsV RX0 73 RX0 yX0_turnFilter (ws_ yX0_turnFilter cX0_turnFilter 4 none)) := lw_V q101 q103 qs5 q19 q104
theorem hdX0_turnFilter : yX0_turnFilter.cls = RX0 ∧ yX0_turnFilter.cls ≠ "java/lang/invoke/MethodHandle" ∧ yX0_turnFilter.cls ≠ "java/lang/invoke/VarHandle" ∧ (parseMethodDescriptor yX0_turnFilter.desc).map (fun d => d.parameters.length) = some 1 := by decide +kernel
theorem hwX0_spread : GoodIn lw_all (wsV RX0 69 RX0 yX0_spread (ws_ yX0_spread cX0_spread 5 (some .int))) := lw_V q105 q107 qs6 q19 q108
theorem hdX0_spread : yX0_spread.cls = RX0 ∧ yX0_spread.cls ≠ "java/lang/invoke/MethodHandle" ∧ yX0_spread.cls ≠ "java/lang/invoke/VarHandle" ∧ (parseMethodDescriptor yX0_spread.desc).map (fun d => d.parameters.length) = some 4 := by decide +kernel
theorem hwX0_loadTile : GoodIn lw_all (wsV RX0 76 RX0 yX0_loadTile (ws_ yX0_loadTile cX0_loadTile 7 none)) := lw_V q109 q111 qs7 q19 q112
theorem hdX0_loadTile : yX0_loadTile.cls = RX0 ∧ yX0_loadTile.cls ≠ "java/lang/invoke/MethodHandle" ∧ yX0_loadTile.cls ≠ "java/lang/invoke/VarHandle" ∧ (parseMethodDescriptor yX0_loadTile.desc).map (fun d => d.parameters.length) = some 2 := by decide +kernel
theorem hwX0_turnTile : GoodIn lw_all (wsV RX0 80 RX0 yX0_turnTile (ws_ yX0_turnTile cX0_turnTile 3 none)) := lw_V q113 q115 qs8 q19 q116
theorem hdX0_turnTile : yX0_turnTile.cls = RX0 ∧ yX0_turnTile.cls ≠ "java/lang/invoke/MethodHandle" ∧ yX0_turnTile.cls ≠ "java/lang/invoke/VarHandle" ∧ (parseMethodDescriptor yX0_turnTile.desc).map (fun d => d.parameters.length) = some 0 := by decide +kernel
theorem hwX0_mixed : GoodIn lw_all (wsV RX0 86 RX0 yX0_mixed (ws_ yX0_mixed cX0_mixed 6 (some .int))) := lw_V q117 q119 qs9 q19 q120
theorem hdX0_mixed : yX0_mixed.cls = RX0 ∧ yX0_mixed.cls ≠ "java/lang/invoke/MethodHandle" ∧ yX0_mixed.cls ≠ "java/lang/invoke/VarHandle" ∧ (parseMethodDescriptor yX0_mixed.desc).map (fun d => d.parameters.length) = some 5 := by decide +kernel
theorem hwX0_gatherTile : GoodIn lw_all (wsV RX0 83 RX0 yX0_gatherTile (ws_ yX0_gatherTile cX0_gatherTile 3 none)) := lw_V q121 q123 qs10 q19 q124
theorem hdX0_gatherTile : yX0_gatherTile.cls = RX0 ∧ yX0_gatherTile.cls ≠ "java/lang/invoke/MethodHandle" ∧ yX0_gatherTile.cls ≠ "java/lang/invoke/VarHandle" ∧ (parseMethodDescriptor yX0_gatherTile.desc).map (fun d => d.parameters.length) = some 0 := by decide +kernel
theorem hwX0_where : GoodIn lw_all (wsV RX0 65 RX0 yX0_where (ws_ yX0_where cX0_where 4 (some .int))) := lw_V q133 q134 q135 q19 q136
theorem hdX0_where : yX0_where.cls = RX0 ∧ yX0_where.cls ≠ "java/lang/invoke/MethodHandle" ∧ yX0_where.cls ≠ "java/lang/invoke/VarHandle" ∧ (parseMethodDescriptor yX0_where.desc).map (fun d => d.parameters.length) = some 1 := by decide +kernel
theorem hwX1_isCell : GoodIn lw_all (wsV RX1 19 RX1 yX1_isCell (ws_ yX1_isCell cX1_isCell 2 (some .boolean))) := lw_V q174 q176 qs11 q20 q177
theorem hdX1_isCell : yX1_isCell.cls = RX1 ∧ yX1_isCell.cls ≠ "java/lang/invoke/MethodHandle" ∧ yX1_isCell.cls ≠ "java/lang/invoke/VarHandle" ∧ (parseMethodDescriptor yX1_isCell.desc).map (fun d => d.parameters.length) = some 1 := by decide +kernel
theorem hwX1_isValue : GoodIn lw_all (wsV RX1 23 RX1 yX1_isValue (ws_ yX1_isValue cX1_isValue 2 (some .boolean))) := lw_V q178 q180 qs12 q20 q181
theorem hdX1_isValue : yX1_isValue.cls = RX1 ∧ yX1_isValue.cls ≠ "java/lang/invoke/MethodHandle" ∧ yX1_isValue.cls ≠ "java/lang/invoke/VarHandle" ∧ (parseMethodDescriptor yX1_isValue.desc).map (fun d => d.parameters.length) = some 1 := by decide +kernel
theorem hwX1_isPlace : GoodIn lw_all (wsV RX1 26 RX1 yX1_isPlace (ws_ yX1_isPlace cX1_isPlace 2 (some .boolean))) := lw_V q186 q188 qs13 q20 q189
theorem hdX1_isPlace : yX1_isPlace.cls = RX1 ∧ yX1_isPlace.cls ≠ "java/lang/invoke/MethodHandle" ∧ yX1_isPlace.cls ≠ "java/lang/invoke/VarHandle" ∧ (parseMethodDescriptor yX1_isPlace.desc).map (fun d => d.parameters.length) = some 1 := by decide +kernel
theorem hwX1_isFilter : GoodIn lw_all (wsV RX1 30 RX1 yX1_isFilter (ws_ yX1_isFilter cX1_isFilter 2 (some .boolean))) := lw_V q195 q197 qs14 q20 q198
theorem hdX1_isFilter : yX1_isFilter.cls = RX1 ∧ yX1_isFilter.cls ≠ "java/lang/invoke/MethodHandle" ∧ yX1_isFilter.cls ≠ "java/lang/invoke/VarHandle" ∧ (parseMethodDescriptor yX1_isFilter.desc).map (fun d => d.parameters.length) = some 1 := by decide +kernel
theorem hwX1_at : GoodIn lw_all (wsV RX1 33 RX1 yX1_at (ws_ yX1_at cX1_at 9 (some .int))) := lw_V q203 q205 qs15 q20 q206
theorem hdX1_at : yX1_at.cls = RX1 ∧ yX1_at.cls ≠ "java/lang/invoke/MethodHandle" ∧ yX1_at.cls ≠ "java/lang/invoke/VarHandle" ∧ (parseMethodDescriptor yX1_at.desc).map (fun d => d.parameters.length) = some 4 := by decide +kernel
theorem hwX1_respond : GoodIn lw_all (wsV RX1 37 RX1 yX1_respond (ws_ yX1_respond cX1_respond 3 none)) := lw_V q211 q213 qs16 q20 q214
theorem hdX1_respond : yX1_respond.cls = RX1 ∧ yX1_respond.cls ≠ "java/lang/invoke/MethodHandle" ∧ yX1_respond.cls ≠ "java/lang/invoke/VarHandle" ∧ (parseMethodDescriptor yX1_respond.desc).map (fun d => d.parameters.length) = some 1 := by decide +kernel
theorem hwX1_best : GoodIn lw_all (wsV RX1 41 RX1 yX1_best (ws_ yX1_best cX1_best 3 (some .int))) := lw_V q219 q221 qs17 q20 q222
theorem hdX1_best : yX1_best.cls = RX1 ∧ yX1_best.cls ≠ "java/lang/invoke/MethodHandle" ∧ yX1_best.cls ≠ "java/lang/invoke/VarHandle" ∧ (parseMethodDescriptor yX1_best.desc).map (fun d => d.parameters.length) = some 0 := by decide +kernel
theorem hwLX0_set : GoodIn lw_all (wsV R_law 13 RX0 yX0_set (ws_ yX0_set cX0_set 3 (some .boolean))) := lw_V q63 q64 q65 q19 q66
theorem hwLX0_stripe : GoodIn lw_all (wsV R_law 18 RX0 yX0_stripe (ws_ yX0_stripe cX0_stripe 7 (some .int))) := lw_V q71 q72 q73 q19 q74
theorem hdX0_stripe : yX0_stripe.cls = RX0 ∧ yX0_stripe.cls ≠ "java/lang/invoke/MethodHandle" ∧ yX0_stripe.cls ≠ "java/lang/invoke/VarHandle" ∧ (parseMethodDescriptor yX0_stripe.desc).map (fun d => d.parameters.length) = some 4 := by decide +kernel
theorem hwLX0_weight : GoodIn lw_all (wsV R_law 23 RX0 yX0_weight (ws_ yX0_weight cX0_weight 4 (some .boolean))) := lw_V q77 q78 q79 q19 q80
theorem hdX0_weight : yX0_weight.cls = RX0 ∧ yX0_weight.cls ≠ "java/lang/invoke/MethodHandle" ∧ yX0_weight.cls ≠ "java/lang/invoke/VarHandle" ∧ (parseMethodDescriptor yX0_weight.desc).map (fun d => d.parameters.length) = some 3 := by decide +kernel
theorem hwLX0_response : GoodIn lw_all (wsV R_law 28 RX0 yX0_response (ws_ yX0_response cX0_response 3 (some .int))) := lw_V q89 q90 q91 q19 q92
theorem hdX0_response : yX0_response.cls = RX0 ∧ yX0_response.cls ≠ "java/lang/invoke/MethodHandle" ∧ yX0_response.cls ≠ "java/lang/invoke/VarHandle" ∧ (parseMethodDescriptor yX0_response.desc).map (fun d => d.parameters.length) = some 2 := by decide +kernel
theorem hwLX0_second : GoodIn lw_all (wsV R_law 33 RX0 yX0_second (ws_ yX0_second cX0_second 3 (some .int))) := lw_V q125 q126 q127 q19 q128
theorem hdX0_second : yX0_second.cls = RX0 ∧ yX0_second.cls ≠ "java/lang/invoke/MethodHandle" ∧ yX0_second.cls ≠ "java/lang/invoke/VarHandle" ∧ (parseMethodDescriptor yX0_second.desc).map (fun d => d.parameters.length) = some 1 := by decide +kernel
theorem hwLX0_greatest : GoodIn lw_all (wsV R_law 38 RX0 yX0_greatest (ws_ yX0_greatest cX0_greatest 3 (some .int))) := lw_V q129 q130 q131 q19 q132
theorem hdX0_greatest : yX0_greatest.cls = RX0 ∧ yX0_greatest.cls ≠ "java/lang/invoke/MethodHandle" ∧ yX0_greatest.cls ≠ "java/lang/invoke/VarHandle" ∧ (parseMethodDescriptor yX0_greatest.desc).map (fun d => d.parameters.length) = some 1 := by decide +kernel
theorem hwLX0_where : GoodIn lw_all (wsV R_law 42 RX0 yX0_where (ws_ yX0_where cX0_where 4 (some .int))) := lw_V q137 q134 q135 q19 q136
theorem hwLX0_total : GoodIn lw_all (wsV R_law 46 RX0 yX0_total (ws_ yX0_total cX0_total 4 (some .int))) := lw_V q138 q139 q140 q19 q141
theorem hdX0_total : yX0_total.cls = RX0 ∧ yX0_total.cls ≠ "java/lang/invoke/MethodHandle" ∧ yX0_total.cls ≠ "java/lang/invoke/VarHandle" ∧ (parseMethodDescriptor yX0_total.desc).map (fun d => d.parameters.length) = some 1 := by decide +kernel
theorem hwLX0_pooled : GoodIn lw_all (wsV R_law 50 RX0 yX0_pooled (ws_ yX0_pooled cX0_pooled 5 (some .int))) := lw_V q142 q143 q144 q19 q145
theorem hdX0_pooled : yX0_pooled.cls = RX0 ∧ yX0_pooled.cls ≠ "java/lang/invoke/MethodHandle" ∧ yX0_pooled.cls ≠ "java/lang/invoke/VarHandle" ∧ (parseMethodDescriptor yX0_pooled.desc).map (fun d => d.parameters.length) = some 2 := by decide +kernel
theorem hwLX0_apply : GoodIn lw_all (wsV R_law 54 RX0 yX0_apply (ws_ yX0_apply cX0_apply 5 (some .int))) := lw_V q146 q147 q148 q19 q149
theorem hdX0_apply : yX0_apply.cls = RX0 ∧ yX0_apply.cls ≠ "java/lang/invoke/MethodHandle" ∧ yX0_apply.cls ≠ "java/lang/invoke/VarHandle" ∧ (parseMethodDescriptor yX0_apply.desc).map (fun d => d.parameters.length) = some 1 := by decide +kernel
theorem hwLX0_turn : GoodIn lw_all (wsV R_law 58 RX0 yX0_turn (ws_ yX0_turn cX0_turn 4 (some .boolean))) := lw_V q150 q151 q152 q19 q153
theorem hdX0_turn : yX0_turn.cls = RX0 ∧ yX0_turn.cls ≠ "java/lang/invoke/MethodHandle" ∧ yX0_turn.cls ≠ "java/lang/invoke/VarHandle" ∧ (parseMethodDescriptor yX0_turn.desc).map (fun d => d.parameters.length) = some 1 := by decide +kernel
theorem hwLX1_set : GoodIn lw_all (wsV R_law 17 RX1 yX1_set (ws_ yX1_set cX1_set 3 (some .boolean))) := lw_V q170 q171 q172 q20 q173
theorem hdX1_set : yX1_set.cls = RX1 ∧ yX1_set.cls ≠ "java/lang/invoke/MethodHandle" ∧ yX1_set.cls ≠ "java/lang/invoke/VarHandle" ∧ (parseMethodDescriptor yX1_set.desc).map (fun d => d.parameters.length) = some 2 := by decide +kernel
theorem hwLX1_stripe : GoodIn lw_all (wsV R_law 22 RX1 yX1_stripe (ws_ yX1_stripe cX1_stripe 7 (some .int))) := lw_V q182 q183 q184 q20 q185
theorem hdX1_stripe : yX1_stripe.cls = RX1 ∧ yX1_stripe.cls ≠ "java/lang/invoke/MethodHandle" ∧ yX1_stripe.cls ≠ "java/lang/invoke/VarHandle" ∧ (parseMethodDescriptor yX1_stripe.desc).map (fun d => d.parameters.length) = some 4 := by decide +kernel
theorem hwLX1_weight : GoodIn lw_all (wsV R_law 27 RX1 yX1_weight (ws_ yX1_weight cX1_weight 4 (some .boolean))) := lw_V q191 q192 q193 q20 q194
theorem hdX1_weight : yX1_weight.cls = RX1 ∧ yX1_weight.cls ≠ "java/lang/invoke/MethodHandle" ∧ yX1_weight.cls ≠ "java/lang/invoke/VarHandle" ∧ (parseMethodDescriptor yX1_weight.desc).map (fun d => d.parameters.length) = some 3 := by decide +kernel
theorem hwLX1_response : GoodIn lw_all (wsV R_law 32 RX1 yX1_response (ws_ yX1_response cX1_response 3 (some .int))) := lw_V q199 q200 q201 q20 q202
theorem hdX1_response : yX1_response.cls = RX1 ∧ yX1_response.cls ≠ "java/lang/invoke/MethodHandle" ∧ yX1_response.cls ≠ "java/lang/invoke/VarHandle" ∧ (parseMethodDescriptor yX1_response.desc).map (fun d => d.parameters.length) = some 2 := by decide +kernel
theorem hwLX1_second : GoodIn lw_all (wsV R_law 37 RX1 yX1_second (ws_ yX1_second cX1_second 2 (some .int))) := lw_V q207 q208 q209 q20 q210
theorem hdX1_second : yX1_second.cls = RX1 ∧ yX1_second.cls ≠ "java/lang/invoke/MethodHandle" ∧ yX1_second.cls ≠ "java/lang/invoke/VarHandle" ∧ (parseMethodDescriptor yX1_second.desc).map (fun d => d.parameters.length) = some 1 := by decide +kernel
theorem hwLX1_greatest : GoodIn lw_all (wsV R_law 41 RX1 yX1_greatest (ws_ yX1_greatest cX1_greatest 3 (some .int))) := lw_V q215 q216 q217 q20 q218
theorem hdX1_greatest : yX1_greatest.cls = RX1 ∧ yX1_greatest.cls ≠ "java/lang/invoke/MethodHandle" ∧ yX1_greatest.cls ≠ "java/lang/invoke/VarHandle" ∧ (parseMethodDescriptor yX1_greatest.desc).map (fun d => d.parameters.length) = some 1 := by decide +kernel
theorem hwLX1_where : GoodIn lw_all (wsV R_law 45 RX1 yX1_where (ws_ yX1_where cX1_where 2 (some .int))) := lw_V q223 q224 q225 q20 q226
theorem hdX1_where : yX1_where.cls = RX1 ∧ yX1_where.cls ≠ "java/lang/invoke/MethodHandle" ∧ yX1_where.cls ≠ "java/lang/invoke/VarHandle" ∧ (parseMethodDescriptor yX1_where.desc).map (fun d => d.parameters.length) = some 1 := by decide +kernel
theorem hwLX1_total : GoodIn lw_all (wsV R_law 49 RX1 yX1_total (ws_ yX1_total cX1_total 4 (some .int))) := lw_V q227 q228 q229 q20 q230
theorem hdX1_total : yX1_total.cls = RX1 ∧ yX1_total.cls ≠ "java/lang/invoke/MethodHandle" ∧ yX1_total.cls ≠ "java/lang/invoke/VarHandle" ∧ (parseMethodDescriptor yX1_total.desc).map (fun d => d.parameters.length) = some 1 := by decide +kernel
theorem hwLX1_pooled : GoodIn lw_all (wsV R_law 53 RX1 yX1_pooled (ws_ yX1_pooled cX1_pooled 5 (some .int))) := lw_V q231 q232 q233 q20 q234
theorem hdX1_pooled : yX1_pooled.cls = RX1 ∧ yX1_pooled.cls ≠ "java/lang/invoke/MethodHandle" ∧ yX1_pooled.cls ≠ "java/lang/invoke/VarHandle" ∧ (parseMethodDescriptor yX1_pooled.desc).map (fun d => d.parameters.length) = some 2 := by decide +kernel
theorem hwLX1_apply : GoodIn lw_all (wsV R_law 57 RX1 yX1_apply (ws_ yX1_apply cX1_apply 4 (some .int))) := lw_V q235 q236 q237 q20 q238
theorem hdX1_apply : yX1_apply.cls = RX1 ∧ yX1_apply.cls ≠ "java/lang/invoke/MethodHandle" ∧ yX1_apply.cls ≠ "java/lang/invoke/VarHandle" ∧ (parseMethodDescriptor yX1_apply.desc).map (fun d => d.parameters.length) = some 1 := by decide +kernel
theorem hwLX1_turn : GoodIn lw_all (wsV R_law 62 RX1 yX1_turn (ws_ yX1_turn cX1_turn 4 (some .boolean))) := lw_V q239 q240 q241 q20 q242
theorem hdX1_turn : yX1_turn.cls = RX1 ∧ yX1_turn.cls ≠ "java/lang/invoke/MethodHandle" ∧ yX1_turn.cls ≠ "java/lang/invoke/VarHandle" ∧ (parseMethodDescriptor yX1_turn.desc).map (fun d => d.parameters.length) = some 1 := by decide +kernel
abbrev vF (x : Int32) : Prop := x = 0 ∨ x = 1
abbrev vC (x : Int32) : Prop := ¬ x < 0 ∧ ¬ 99 < x
abbrev vP (x : Int32) : Prop := ¬ x < 0 ∧ ¬ 9 < x
abbrev vV (x : Int32) : Prop := ¬ x < -99 ∧ ¬ 99 < x
theorem c_100 {x : Int32} : 100 ≤ x ↔ 99 < x := by
  rw [Int32.le_iff_toInt_le, Int32.lt_iff_toInt_lt, show (100 : Int32).toInt = 100 by decide +kernel, show (99 : Int32).toInt = 99 by decide +kernel]
  omega
theorem vF_nat {x : Int32} (h : vF x) : ∃ n, n < 2 ∧ x = nI n := by
  rcases h with h | h
  · exact ⟨0, by decide, h⟩
  · exact ⟨1, by decide, h⟩
theorem vF_of {n : Nat} (h : n < 2) : vF (nI n) := by
  rcases (show n = 0 ∨ n = 1 by omega) with h | h
  · subst h; exact Or.inl (by decide +kernel)
  · subst h; exact Or.inr (by decide +kernel)
theorem vC_nat {x : Int32} (h : vC x) : ∃ n, n < 100 ∧ x = nI n := by
  obtain ⟨j, hj, e⟩ := nI_of2 (M := 99) (n := 99) (by decide +kernel) h.1 (Int32.not_lt.mp h.2)
  exact ⟨j, by omega, e⟩
theorem vC_of {n : Nat} (h : n < 100) : vC (nI n) := by
  refine ⟨nI_pos (by omega), ?_⟩
  rw [Int32.lt_iff_toInt_lt, nI_toInt (by omega), show (99 : Int32).toInt = 99 by decide +kernel]
  omega
theorem vP_nat {x : Int32} (h : vP x) : ∃ n, n < 10 ∧ x = nI n := by
  obtain ⟨j, hj, e⟩ := nI_of2 (M := 9) (n := 9) (by decide +kernel) h.1 (Int32.not_lt.mp h.2)
  exact ⟨j, by omega, e⟩
theorem vP_of {n : Nat} (h : n < 10) : vP (nI n) := by
  refine ⟨nI_pos (by omega), ?_⟩
  rw [Int32.lt_iff_toInt_lt, nI_toInt (by omega), show (9 : Int32).toInt = 9 by decide +kernel]
  omega
theorem vV_bd {x : Int32} (h : vV x) : bd x 99 := bd_of h.1 (Int32.not_lt.mp h.2) (by decide +kernel) (by decide +kernel)

set_option maxHeartbeats 4000000 in
set_option maxRecDepth 100000 in
theorem e_isCell (l : Launch) (x r : Int32) (hr0 : r = if vC x then 1 else 0) : Mp l yX0_isCell cX0_isCell 2 (some .boolean) 0 0 [.int x] r := by
  refine Mp.of (by decide) (fun b0 => Nat.le_of_ble_eq_true rfl) (fun b0 p e s m below meth c C hr hlk ls hl => ?_)
  have hx := C.1
  have hb := C.2.1
  have hl : lv_has ls 2 [(0, .ref b0), (1, .int x)] := hl
  refine lv_iload_n hx hb dX0_isCell_0 rfl (lv_at hl 1 rfl) ?_
  refine lv_if_lt (tgt := 14) hx hb dX0_isCell_1 (by decide) (fun h1 => ?_) (fun h1 => ?_)
  · refine lv_iconst (v := 0) hx hb dX0_isCell_14 (by decide +kernel) ?_
    exact p_zret hx hb hr hlk rfl dX0_isCell_15 ((hr0.trans (if_neg (fun q => q.1 h1))).symm)
  · refine lv_iload_n hx hb dX0_isCell_4 rfl (lv_at hl 1 rfl) ?_
    refine lv_bipush (v := 100) hx hb dX0_isCell_5 (by decide +kernel) ?_
    refine lv_icmp_ge (tgt := 14) hx hb dX0_isCell_7 (by decide) (fun h2 => ?_) (fun h2 => ?_)
    · refine lv_iconst (v := 0) hx hb dX0_isCell_14 (by decide +kernel) ?_
      exact p_zret hx hb hr hlk rfl dX0_isCell_15 ((hr0.trans (if_neg (fun q => q.2 (c_100.mp h2)))).symm)
    · refine lv_iconst (v := 1) hx hb dX0_isCell_10 (by decide +kernel) ?_
      refine lv_goto (tgt := 15) hx hb dX0_isCell_11 (by decide) ?_
      exact p_zret hx hb hr hlk rfl dX0_isCell_15 ((hr0.trans (if_pos ⟨h1, (fun q => h2 (c_100.mpr q))⟩)).symm)

set_option maxHeartbeats 4000000 in
set_option maxRecDepth 100000 in
theorem m_isCell (l : Launch) (x r : Int32) (hr0 : r = if vC x then 1 else 0) : Mp l yX1_isCell cX1_isCell 2 (some .boolean) 0 0 [.int x] r := by
  refine Mp.of (by decide) (fun b0 => Nat.le_of_ble_eq_true rfl) (fun b0 p e s m below meth c C hr hlk ls hl => ?_)
  have hx := C.1
  have hb := C.2.1
  have hl : lv_has ls 2 [(0, .ref b0), (1, .int x)] := hl
  refine lv_iload_n hx hb dX1_isCell_0 rfl (lv_at hl 1 rfl) ?_
  refine lv_if_lt (tgt := 14) hx hb dX1_isCell_1 (by decide) (fun h1 => ?_) (fun h1 => ?_)
  · refine lv_iconst (v := 0) hx hb dX1_isCell_14 (by decide +kernel) ?_
    exact p_zret hx hb hr hlk rfl dX1_isCell_15 ((hr0.trans (if_neg (fun q => q.1 h1))).symm)
  · refine lv_iload_n hx hb dX1_isCell_4 rfl (lv_at hl 1 rfl) ?_
    refine lv_bipush (v := 99) hx hb dX1_isCell_5 (by decide +kernel) ?_
    refine lv_icmp_gt (tgt := 14) hx hb dX1_isCell_7 (by decide) (fun h2 => ?_) (fun h2 => ?_)
    · refine lv_iconst (v := 0) hx hb dX1_isCell_14 (by decide +kernel) ?_
      exact p_zret hx hb hr hlk rfl dX1_isCell_15 ((hr0.trans (if_neg (fun q => q.2 h2))).symm)
    · refine lv_iconst (v := 1) hx hb dX1_isCell_10 (by decide +kernel) ?_
      refine lv_goto (tgt := 15) hx hb dX1_isCell_11 (by decide) ?_
      exact p_zret hx hb hr hlk rfl dX1_isCell_15 ((hr0.trans (if_pos ⟨h1, h2⟩)).symm)

set_option maxHeartbeats 4000000 in
set_option maxRecDepth 100000 in
theorem m_isPlace (l : Launch) (x r : Int32) (hr0 : r = if vP x then 1 else 0) : Mp l yX1_isPlace cX1_isPlace 2 (some .boolean) 0 0 [.int x] r := by
  refine Mp.of (by decide) (fun b0 => Nat.le_of_ble_eq_true rfl) (fun b0 p e s m below meth c C hr hlk ls hl => ?_)
  have hx := C.1
  have hb := C.2.1
  have hl : lv_has ls 2 [(0, .ref b0), (1, .int x)] := hl
  refine lv_iload_n hx hb dX1_isPlace_0 rfl (lv_at hl 1 rfl) ?_
  refine lv_if_lt (tgt := 14) hx hb dX1_isPlace_1 (by decide) (fun h1 => ?_) (fun h1 => ?_)
  · refine lv_iconst (v := 0) hx hb dX1_isPlace_14 (by decide +kernel) ?_
    exact p_zret hx hb hr hlk rfl dX1_isPlace_15 ((hr0.trans (if_neg (fun q => q.1 h1))).symm)
  · refine lv_iload_n hx hb dX1_isPlace_4 rfl (lv_at hl 1 rfl) ?_
    refine lv_bipush (v := 9) hx hb dX1_isPlace_5 (by decide +kernel) ?_
    refine lv_icmp_gt (tgt := 14) hx hb dX1_isPlace_7 (by decide) (fun h2 => ?_) (fun h2 => ?_)
    · refine lv_iconst (v := 0) hx hb dX1_isPlace_14 (by decide +kernel) ?_
      exact p_zret hx hb hr hlk rfl dX1_isPlace_15 ((hr0.trans (if_neg (fun q => q.2 h2))).symm)
    · refine lv_iconst (v := 1) hx hb dX1_isPlace_10 (by decide +kernel) ?_
      refine lv_goto (tgt := 15) hx hb dX1_isPlace_11 (by decide) ?_
      exact p_zret hx hb hr hlk rfl dX1_isPlace_15 ((hr0.trans (if_pos ⟨h1, h2⟩)).symm)

set_option maxHeartbeats 4000000 in
set_option maxRecDepth 100000 in
theorem m_isValue (l : Launch) (x r : Int32) (hr0 : r = if vV x then 1 else 0) : Mp l yX1_isValue cX1_isValue 2 (some .boolean) 0 0 [.int x] r := by
  refine Mp.of (by decide) (fun b0 => Nat.le_of_ble_eq_true rfl) (fun b0 p e s m below meth c C hr hlk ls hl => ?_)
  have hx := C.1
  have hb := C.2.1
  have hl : lv_has ls 2 [(0, .ref b0), (1, .int x)] := hl
  refine lv_iload_n hx hb dX1_isValue_0 rfl (lv_at hl 1 rfl) ?_
  refine lv_bipush (v := (-99)) hx hb dX1_isValue_1 (by decide +kernel) ?_
  refine lv_icmp_lt (tgt := 16) hx hb dX1_isValue_3 (by decide) (fun h1 => ?_) (fun h1 => ?_)
  · refine lv_iconst (v := 0) hx hb dX1_isValue_16 (by decide +kernel) ?_
    exact p_zret hx hb hr hlk rfl dX1_isValue_17 ((hr0.trans (if_neg (fun q => q.1 h1))).symm)
  · refine lv_iload_n hx hb dX1_isValue_6 rfl (lv_at hl 1 rfl) ?_
    refine lv_bipush (v := 99) hx hb dX1_isValue_7 (by decide +kernel) ?_
    refine lv_icmp_gt (tgt := 16) hx hb dX1_isValue_9 (by decide) (fun h2 => ?_) (fun h2 => ?_)
    · refine lv_iconst (v := 0) hx hb dX1_isValue_16 (by decide +kernel) ?_
      exact p_zret hx hb hr hlk rfl dX1_isValue_17 ((hr0.trans (if_neg (fun q => q.2 h2))).symm)
    · refine lv_iconst (v := 1) hx hb dX1_isValue_12 (by decide +kernel) ?_
      refine lv_goto (tgt := 17) hx hb dX1_isValue_13 (by decide) ?_
      exact p_zret hx hb hr hlk rfl dX1_isValue_17 ((hr0.trans (if_pos ⟨h1, h2⟩)).symm)

set_option maxHeartbeats 4000000 in
set_option maxRecDepth 100000 in
theorem e_isFilter (l : Launch) (x r : Int32) (hr0 : r = if vF x then 1 else 0) : Mp l yX0_isFilter cX0_isFilter 2 (some .boolean) 0 0 [.int x] r := by
  refine Mp.of (by decide) (fun b0 => Nat.le_of_ble_eq_true rfl) (fun b0 p e s m below meth c C hr hlk ls hl => ?_)
  have hx := C.1
  have hb := C.2.1
  have hl : lv_has ls 2 [(0, .ref b0), (1, .int x)] := hl
  refine lv_iload_n hx hb dX0_isFilter_0 rfl (lv_at hl 1 rfl) ?_
  refine lv_if_eq (tgt := 9) hx hb dX0_isFilter_1 (by decide) (fun h1 => ?_) (fun h1 => ?_)
  · refine lv_iconst (v := 1) hx hb dX0_isFilter_9 (by decide +kernel) ?_
    refine lv_goto (tgt := 14) hx hb dX0_isFilter_10 (by decide) ?_
    exact p_zret hx hb hr hlk rfl dX0_isFilter_14 ((hr0.trans (if_pos (Or.inl h1))).symm)
  · refine lv_iload_n hx hb dX0_isFilter_4 rfl (lv_at hl 1 rfl) ?_
    refine lv_iconst (v := 1) hx hb dX0_isFilter_5 (by decide +kernel) ?_
    refine lv_icmp_ne (tgt := 13) hx hb dX0_isFilter_6 (by decide) (fun h2 => ?_) (fun h2 => ?_)
    · refine lv_iconst (v := 0) hx hb dX0_isFilter_13 (by decide +kernel) ?_
      exact p_zret hx hb hr hlk rfl dX0_isFilter_14 ((hr0.trans (if_neg (fun q => q.elim h1 h2))).symm)
    · refine lv_iconst (v := 1) hx hb dX0_isFilter_9 (by decide +kernel) ?_
      refine lv_goto (tgt := 14) hx hb dX0_isFilter_10 (by decide) ?_
      exact p_zret hx hb hr hlk rfl dX0_isFilter_14 ((hr0.trans (if_pos (Or.inr h2))).symm)

set_option maxHeartbeats 4000000 in
set_option maxRecDepth 100000 in
theorem m_isFilter (l : Launch) (x r : Int32) (hr0 : r = if vF x then 1 else 0) : Mp l yX1_isFilter cX1_isFilter 2 (some .boolean) 0 0 [.int x] r := by
  refine Mp.of (by decide) (fun b0 => Nat.le_of_ble_eq_true rfl) (fun b0 p e s m below meth c C hr hlk ls hl => ?_)
  have hx := C.1
  have hb := C.2.1
  have hl : lv_has ls 2 [(0, .ref b0), (1, .int x)] := hl
  refine lv_iload_n hx hb dX1_isFilter_0 rfl (lv_at hl 1 rfl) ?_
  refine lv_if_eq (tgt := 9) hx hb dX1_isFilter_1 (by decide) (fun h1 => ?_) (fun h1 => ?_)
  · refine lv_iconst (v := 1) hx hb dX1_isFilter_9 (by decide +kernel) ?_
    refine lv_goto (tgt := 14) hx hb dX1_isFilter_10 (by decide) ?_
    exact p_zret hx hb hr hlk rfl dX1_isFilter_14 ((hr0.trans (if_pos (Or.inl h1))).symm)
  · refine lv_iload_n hx hb dX1_isFilter_4 rfl (lv_at hl 1 rfl) ?_
    refine lv_iconst (v := 1) hx hb dX1_isFilter_5 (by decide +kernel) ?_
    refine lv_icmp_ne (tgt := 13) hx hb dX1_isFilter_6 (by decide) (fun h2 => ?_) (fun h2 => ?_)
    · refine lv_iconst (v := 0) hx hb dX1_isFilter_13 (by decide +kernel) ?_
      exact p_zret hx hb hr hlk rfl dX1_isFilter_14 ((hr0.trans (if_neg (fun q => q.elim h1 h2))).symm)
    · refine lv_iconst (v := 1) hx hb dX1_isFilter_9 (by decide +kernel) ?_
      refine lv_goto (tgt := 14) hx hb dX1_isFilter_10 (by decide) ?_
      exact p_zret hx hb hr hlk rfl dX1_isFilter_14 ((hr0.trans (if_pos (Or.inr h2))).symm)

set_option maxHeartbeats 4000000 in
set_option maxRecDepth 100000 in
theorem e_spread0 (l : Launch) (x y z : Int32) : Mp l yX0_spread cX0_spread 5 (some .int) 0 0 [.int x, .int y, .int z, .int (nI 0)] (sp x y z 0) := by
  refine Mp.of (by decide) (fun b0 => Nat.le_of_ble_eq_true rfl) (fun b0 p e s m below meth c C hr hlk ls hl => ?_)
  have hx := C.1
  have hb := C.2.1
  have hl : lv_has ls 5 [(0, .ref b0), (1, .int x), (2, .int y), (3, .int z), (4, .int (nI 0))] := hl
  refine lv_iload hx hb dX0_spread_0 (lv_at hl 4 rfl) ?_
  refine z_neN hx hb 9 dX0_spread_2 (by decide) (by decide +kernel) ?_
  refine lv_iconst (v := 2) hx hb dX0_spread_5 (by decide +kernel) ?_
  refine lv_iload_n hx hb dX0_spread_6 rfl (lv_at hl 1 rfl) ?_
  refine lv_imul hx hb dX0_spread_7 ?_
  exact p_iret hx hb hr hlk dX0_spread_8 (by simp [sp])

set_option maxHeartbeats 4000000 in
set_option maxRecDepth 100000 in
theorem e_spread1 (l : Launch) (x y z : Int32) : Mp l yX0_spread cX0_spread 5 (some .int) 0 0 [.int x, .int y, .int z, .int (nI 1)] (sp x y z 1) := by
  refine Mp.of (by decide) (fun b0 => Nat.le_of_ble_eq_true rfl) (fun b0 p e s m below meth c C hr hlk ls hl => ?_)
  have hx := C.1
  have hb := C.2.1
  have hl : lv_has ls 5 [(0, .ref b0), (1, .int x), (2, .int y), (3, .int z), (4, .int (nI 1))] := hl
  refine lv_iload hx hb dX0_spread_0 (lv_at hl 4 rfl) ?_
  refine z_neY hx hb 9 dX0_spread_2 (by decide) (by decide +kernel) ?_
  refine lv_iload hx hb dX0_spread_9 (lv_at hl 4 rfl) ?_
  refine lv_iconst (v := 3) hx hb dX0_spread_11 (by decide +kernel) ?_
  refine c_neY hx hb 19 dX0_spread_12 (by decide) (by decide +kernel) ?_
  refine lv_iload hx hb dX0_spread_19 (lv_at hl 4 rfl) ?_
  refine lv_iconst (v := 1) hx hb dX0_spread_21 (by decide +kernel) ?_
  refine c_neN hx hb 33 dX0_spread_22 (by decide) (by decide +kernel) ?_
  refine lv_iload_n hx hb dX0_spread_25 rfl (lv_at hl 1 rfl) ?_
  refine lv_iload_n hx hb dX0_spread_26 rfl (lv_at hl 2 rfl) ?_
  refine lv_iadd hx hb dX0_spread_27 ?_
  refine lv_iload_n hx hb dX0_spread_28 rfl (lv_at hl 3 rfl) ?_
  refine lv_iadd hx hb dX0_spread_29 ?_
  refine lv_goto (tgt := 38) hx hb dX0_spread_30 (by decide) ?_
  exact p_iret hx hb hr hlk dX0_spread_38 (by simp [sp])

set_option maxHeartbeats 4000000 in
set_option maxRecDepth 100000 in
theorem e_spread2 (l : Launch) (x y z : Int32) : Mp l yX0_spread cX0_spread 5 (some .int) 0 0 [.int x, .int y, .int z, .int (nI 2)] (sp x y z 2) := by
  refine Mp.of (by decide) (fun b0 => Nat.le_of_ble_eq_true rfl) (fun b0 p e s m below meth c C hr hlk ls hl => ?_)
  have hx := C.1
  have hb := C.2.1
  have hl : lv_has ls 5 [(0, .ref b0), (1, .int x), (2, .int y), (3, .int z), (4, .int (nI 2))] := hl
  refine lv_iload hx hb dX0_spread_0 (lv_at hl 4 rfl) ?_
  refine z_neY hx hb 9 dX0_spread_2 (by decide) (by decide +kernel) ?_
  refine lv_iload hx hb dX0_spread_9 (lv_at hl 4 rfl) ?_
  refine lv_iconst (v := 3) hx hb dX0_spread_11 (by decide +kernel) ?_
  refine c_neY hx hb 19 dX0_spread_12 (by decide) (by decide +kernel) ?_
  refine lv_iload hx hb dX0_spread_19 (lv_at hl 4 rfl) ?_
  refine lv_iconst (v := 1) hx hb dX0_spread_21 (by decide +kernel) ?_
  refine c_neY hx hb 33 dX0_spread_22 (by decide) (by decide +kernel) ?_
  refine lv_iload_n hx hb dX0_spread_33 rfl (lv_at hl 1 rfl) ?_
  refine lv_iload_n hx hb dX0_spread_34 rfl (lv_at hl 2 rfl) ?_
  refine lv_isub hx hb dX0_spread_35 ?_
  refine lv_iload_n hx hb dX0_spread_36 rfl (lv_at hl 3 rfl) ?_
  refine lv_iadd hx hb dX0_spread_37 ?_
  exact p_iret hx hb hr hlk dX0_spread_38 (by simp [sp])

set_option maxHeartbeats 4000000 in
set_option maxRecDepth 100000 in
theorem e_spread3 (l : Launch) (x y z : Int32) : Mp l yX0_spread cX0_spread 5 (some .int) 0 0 [.int x, .int y, .int z, .int (nI 3)] (sp x y z 3) := by
  refine Mp.of (by decide) (fun b0 => Nat.le_of_ble_eq_true rfl) (fun b0 p e s m below meth c C hr hlk ls hl => ?_)
  have hx := C.1
  have hb := C.2.1
  have hl : lv_has ls 5 [(0, .ref b0), (1, .int x), (2, .int y), (3, .int z), (4, .int (nI 3))] := hl
  refine lv_iload hx hb dX0_spread_0 (lv_at hl 4 rfl) ?_
  refine z_neY hx hb 9 dX0_spread_2 (by decide) (by decide +kernel) ?_
  refine lv_iload hx hb dX0_spread_9 (lv_at hl 4 rfl) ?_
  refine lv_iconst (v := 3) hx hb dX0_spread_11 (by decide +kernel) ?_
  refine c_neN hx hb 19 dX0_spread_12 (by decide) (by decide +kernel) ?_
  refine lv_iconst (v := 2) hx hb dX0_spread_15 (by decide +kernel) ?_
  refine lv_iload_n hx hb dX0_spread_16 rfl (lv_at hl 3 rfl) ?_
  refine lv_imul hx hb dX0_spread_17 ?_
  exact p_iret hx hb hr hlk dX0_spread_18 (by simp [sp])

theorem e_spread (l : Launch) (x y z : Int32) (k : Nat) (hk : k < 4) : Mp l yX0_spread cX0_spread 5 (some .int) 0 0 [.int x, .int y, .int z, .int (nI k)] (sp x y z k) := by
  match k, hk with
  | 0, _ => exact e_spread0 l x y z
  | 1, _ => exact e_spread1 l x y z
  | 2, _ => exact e_spread2 l x y z
  | 3, _ => exact e_spread3 l x y z
  | n + 4, h => exact absurd h (by omega)

set_option maxHeartbeats 4000000 in
set_option maxRecDepth 100000 in
theorem e_mixed0 (l : Launch) (x y z t : Int32) : Mp l yX0_mixed cX0_mixed 6 (some .int) 0 0 [.int x, .int y, .int z, .int t, .int (nI 0)] (mx x y z t 0) := by
  refine Mp.of (by decide) (fun b0 => Nat.le_of_ble_eq_true rfl) (fun b0 p e s m below meth c C hr hlk ls hl => ?_)
  have hx := C.1
  have hb := C.2.1
  have hl : lv_has ls 6 [(0, .ref b0), (1, .int x), (2, .int y), (3, .int z), (4, .int t), (5, .int (nI 0))] := hl
  refine lv_iload hx hb dX0_mixed_0 (lv_at hl 5 rfl) ?_
  refine z_neN hx hb 9 dX0_mixed_2 (by decide) (by decide +kernel) ?_
  refine lv_iload_n hx hb dX0_mixed_5 rfl (lv_at hl 1 rfl) ?_
  refine lv_iload_n hx hb dX0_mixed_6 rfl (lv_at hl 3 rfl) ?_
  refine lv_isub hx hb dX0_mixed_7 ?_
  exact p_iret hx hb hr hlk dX0_mixed_8 (by simp [mx])

set_option maxHeartbeats 4000000 in
set_option maxRecDepth 100000 in
theorem e_mixed1 (l : Launch) (x y z t : Int32) : Mp l yX0_mixed cX0_mixed 6 (some .int) 0 0 [.int x, .int y, .int z, .int t, .int (nI 1)] (mx x y z t 1) := by
  refine Mp.of (by decide) (fun b0 => Nat.le_of_ble_eq_true rfl) (fun b0 p e s m below meth c C hr hlk ls hl => ?_)
  have hx := C.1
  have hb := C.2.1
  have hl : lv_has ls 6 [(0, .ref b0), (1, .int x), (2, .int y), (3, .int z), (4, .int t), (5, .int (nI 1))] := hl
  refine lv_iload hx hb dX0_mixed_0 (lv_at hl 5 rfl) ?_
  refine z_neY hx hb 9 dX0_mixed_2 (by decide) (by decide +kernel) ?_
  refine lv_iload hx hb dX0_mixed_9 (lv_at hl 5 rfl) ?_
  refine lv_iconst (v := 1) hx hb dX0_mixed_11 (by decide +kernel) ?_
  refine c_neN hx hb 19 dX0_mixed_12 (by decide) (by decide +kernel) ?_
  refine lv_iload_n hx hb dX0_mixed_15 rfl (lv_at hl 2 rfl) ?_
  refine lv_iload_n hx hb dX0_mixed_16 rfl (lv_at hl 3 rfl) ?_
  refine lv_iadd hx hb dX0_mixed_17 ?_
  exact p_iret hx hb hr hlk dX0_mixed_18 (by simp [mx])

set_option maxHeartbeats 4000000 in
set_option maxRecDepth 100000 in
theorem e_mixed2 (l : Launch) (x y z t : Int32) : Mp l yX0_mixed cX0_mixed 6 (some .int) 0 0 [.int x, .int y, .int z, .int t, .int (nI 2)] (mx x y z t 2) := by
  refine Mp.of (by decide) (fun b0 => Nat.le_of_ble_eq_true rfl) (fun b0 p e s m below meth c C hr hlk ls hl => ?_)
  have hx := C.1
  have hb := C.2.1
  have hl : lv_has ls 6 [(0, .ref b0), (1, .int x), (2, .int y), (3, .int z), (4, .int t), (5, .int (nI 2))] := hl
  refine lv_iload hx hb dX0_mixed_0 (lv_at hl 5 rfl) ?_
  refine z_neY hx hb 9 dX0_mixed_2 (by decide) (by decide +kernel) ?_
  refine lv_iload hx hb dX0_mixed_9 (lv_at hl 5 rfl) ?_
  refine lv_iconst (v := 1) hx hb dX0_mixed_11 (by decide +kernel) ?_
  refine c_neY hx hb 19 dX0_mixed_12 (by decide) (by decide +kernel) ?_
  refine lv_iload hx hb dX0_mixed_19 (lv_at hl 5 rfl) ?_
  refine lv_iconst (v := 2) hx hb dX0_mixed_21 (by decide +kernel) ?_
  refine c_neN hx hb 31 dX0_mixed_22 (by decide) (by decide +kernel) ?_
  refine lv_iload_n hx hb dX0_mixed_25 rfl (lv_at hl 3 rfl) ?_
  refine lv_iload_n hx hb dX0_mixed_26 rfl (lv_at hl 2 rfl) ?_
  refine lv_isub hx hb dX0_mixed_27 ?_
  refine lv_goto (tgt := 35) hx hb dX0_mixed_28 (by decide) ?_
  exact p_iret hx hb hr hlk dX0_mixed_35 (by simp [mx])

set_option maxHeartbeats 4000000 in
set_option maxRecDepth 100000 in
theorem e_mixed3 (l : Launch) (x y z t : Int32) : Mp l yX0_mixed cX0_mixed 6 (some .int) 0 0 [.int x, .int y, .int z, .int t, .int (nI 3)] (mx x y z t 3) := by
  refine Mp.of (by decide) (fun b0 => Nat.le_of_ble_eq_true rfl) (fun b0 p e s m below meth c C hr hlk ls hl => ?_)
  have hx := C.1
  have hb := C.2.1
  have hl : lv_has ls 6 [(0, .ref b0), (1, .int x), (2, .int y), (3, .int z), (4, .int t), (5, .int (nI 3))] := hl
  refine lv_iload hx hb dX0_mixed_0 (lv_at hl 5 rfl) ?_
  refine z_neY hx hb 9 dX0_mixed_2 (by decide) (by decide +kernel) ?_
  refine lv_iload hx hb dX0_mixed_9 (lv_at hl 5 rfl) ?_
  refine lv_iconst (v := 1) hx hb dX0_mixed_11 (by decide +kernel) ?_
  refine c_neY hx hb 19 dX0_mixed_12 (by decide) (by decide +kernel) ?_
  refine lv_iload hx hb dX0_mixed_19 (lv_at hl 5 rfl) ?_
  refine lv_iconst (v := 2) hx hb dX0_mixed_21 (by decide +kernel) ?_
  refine c_neY hx hb 31 dX0_mixed_22 (by decide) (by decide +kernel) ?_
  refine lv_iload_n hx hb dX0_mixed_31 rfl (lv_at hl 2 rfl) ?_
  refine lv_iload hx hb dX0_mixed_32 (lv_at hl 4 rfl) ?_
  refine lv_isub hx hb dX0_mixed_34 ?_
  exact p_iret hx hb hr hlk dX0_mixed_35 (by simp [mx])

theorem e_mixed (l : Launch) (x y z t : Int32) (k : Nat) (hk : k < 4) : Mp l yX0_mixed cX0_mixed 6 (some .int) 0 0 [.int x, .int y, .int z, .int t, .int (nI k)] (mx x y z t k) := by
  match k, hk with
  | 0, _ => exact e_mixed0 l x y z t
  | 1, _ => exact e_mixed1 l x y z t
  | 2, _ => exact e_mixed2 l x y z t
  | 3, _ => exact e_mixed3 l x y z t
  | n + 4, h => exact absurd h (by omega)
end
section
/-! the engine: image and filters -/
abbrev vN (x : Int32) : Prop := ¬ x < 0 ∧ ¬ 8 < x
abbrev vU (x : Int32) : Prop := ¬ x < -9 ∧ ¬ 9 < x
abbrev vL (x : Int32) : Prop := ¬ x < 0 ∧ ¬ 19 < x
abbrev vB (x : Int32) : Prop := ¬ x < 0 ∧ ¬ 24 < x
theorem vU_bd {x : Int32} (h : vU x) : bd x 9 := bd_of h.1 (Int32.not_lt.mp h.2) (by decide +kernel) (by decide +kernel)
theorem vN_nat {x : Int32} (h : vN x) : ∃ n, n < 9 ∧ x = nI n := by
  obtain ⟨j, hj, e⟩ := nI_of2 (M := 8) (n := 8) (by decide +kernel) h.1 (Int32.not_lt.mp h.2)
  exact ⟨j, by omega, e⟩
theorem vL_nat {x : Int32} (h : vL x) : ∃ n, n < 20 ∧ x = nI n := by
  obtain ⟨j, hj, e⟩ := nI_of2 (M := 19) (n := 19) (by decide +kernel) h.1 (Int32.not_lt.mp h.2)
  exact ⟨j, by omega, e⟩
theorem vB_nat {x : Int32} (h : vB x) : ∃ n, n < 25 ∧ x = nI n := by
  obtain ⟨j, hj, e⟩ := nI_of2 (M := 24) (n := 24) (by decide +kernel) h.1 (Int32.not_lt.mp h.2)
  exact ⟨j, by omega, e⟩

set_option maxHeartbeats 4000000 in
set_option maxRecDepth 100000 in
theorem e_forget (l : Launch) (D : va_G) (a : Nat → Nat) (d : Nat → ClassId) (im we tk tu ip op ti ha qu : Nat → Int32) (oo : Int32) (f : Nat) (hf : f < 2) : Mv l D (tyE d) (aE a) yX0_forget cX0_forget 2 none 0 0 (a 0) [.int (nI f)] (eW a d im we tk tu ip op ti ha qu oo) (fun u => u = eW a d im we (upd tk f 0) tu ip op ti ha qu (-1)) := by
  refine Mv.of (by decide) (Nat.le_of_ble_eq_true rfl) rfl (fun p e s m below meth c C hr hlk hK hZ ls hl => ?_)
  have C : CallFix p m c cX0_forget 2 s _ lw_all RX0 := C
  have hx := C.1
  have hb := C.2.1
  have hl : lv_has ls 2 [(0, .ref (a 0)), (1, .int (nI f))] := hl
  refine lv_aload_n hx hb dX0_forget_0 rfl (lv_at hl 0 rfl) ?_
  refine eg_tk C hK hZ dX0_forget_1 ?_
  refine lv_iload_n hx hb dX0_forget_4 rfl (lv_at hl 1 rfl) ?_
  refine lv_iconst (v := nI 0) hx hb dX0_forget_5 (by decide +kernel) ?_
  refine es_tk C hK hZ 0 (by decide +kernel) (by omega) dX0_forget_6 (fun H locs hZ => ?_)
  refine lv_aload_n hx hb dX0_forget_7 rfl (lv_at hl 0 rfl) ?_
  refine lv_iconst (v := (-1)) hx hb dX0_forget_8 (by decide +kernel) ?_
  refine es_oo C hK hZ dX0_forget_9 (fun H locs hZ => ?_)
  exact g_vret hx hb hr hlk hK hZ dX0_forget_12 rfl

set_option maxHeartbeats 4000000 in
set_option maxRecDepth 100000 in
theorem e_set_ok (l : Launch) (D : va_G) (a : Nat → Nat) (d : Nat → ClassId) (im we tk tu ip op ti ha qu : Nat → Int32) (oo : Int32) (n : Nat) (hn : n < 100) (v : Int32) (hv : vV v) : Mi l D (tyE d) (aE a) yX0_set cX0_set 3 (some .boolean) 1 21 (a 0) [.int (nI n), .int v] (eW a d im we tk tu ip op ti ha qu oo) (fun r u => r = 1 ∧ u = eW a d (upd im n v) we tk tu ip op ti ha qu (-1)) := by
  refine Mi.of (by decide) (Nat.le_of_ble_eq_true rfl) rfl (fun p e s m below meth c C hr hlk hK hZ ls hl => ?_)
  have C : CallFix p m c cX0_set 3 s _ lw_all RX0 := C
  have hx := C.1
  have hb := C.2.1
  have hl : lv_has ls 3 [(0, .ref (a 0)), (1, .int (nI n)), (2, .int v)] := hl
  refine lv_aload_n hx hb dX0_set_0 rfl (lv_at hl 0 rfl) ?_
  refine lv_iload_n hx hb dX0_set_1 rfl (lv_at hl 1 rfl) ?_
  refine g_callp (ci := 0) (rest := []) C (e_isCell l _ 1 (if_pos (vC_of hn)).symm) hwX0_isCell hdX0_isCell ⟨Nat.le_of_ble_eq_true rfl, Nat.le_of_ble_eq_true rfl⟩ hK hZ rfl rfl rfl rfl hl.1 rfl (Nat.le_of_ble_eq_true rfl) dX0_set_2 ⟨Nat.le_of_ble_eq_true rfl, Nat.le_of_ble_eq_true rfl⟩ ?_
  refine z_eqN hx hb 20 dX0_set_5 (by decide) (by decide +kernel) ?_
  refine lv_iload_n hx hb dX0_set_8 rfl (lv_at hl 2 rfl) ?_
  refine lv_bipush (v := (-99)) hx hb dX0_set_9 (by decide +kernel) ?_
  refine c_ltN hx hb 20 dX0_set_11 (by decide) hv.1 ?_
  refine lv_iload_n hx hb dX0_set_14 rfl (lv_at hl 2 rfl) ?_
  refine lv_bipush (v := nI 99) hx hb dX0_set_15 (by decide +kernel) ?_
  refine c_leY hx hb 22 dX0_set_17 (by decide) (Int32.not_lt.mp hv.2) ?_
  refine lv_aload_n hx hb dX0_set_22 rfl (lv_at hl 0 rfl) ?_
  refine eg_im C hK hZ dX0_set_23 ?_
  refine lv_iload_n hx hb dX0_set_26 rfl (lv_at hl 1 rfl) ?_
  refine lv_iload_n hx hb dX0_set_27 rfl (lv_at hl 2 rfl) ?_
  refine lv_i2b (v := v) hx hb dX0_set_28 (byte_id (vV_bd hv) (by decide)) ?_
  refine es_im C hK hZ v (nar_id (vV_bd hv) (by decide)) (by omega) dX0_set_29 (fun H locs hZ => ?_)
  refine lv_aload_n hx hb dX0_set_30 rfl (lv_at hl 0 rfl) ?_
  refine lv_iconst (v := (-1)) hx hb dX0_set_31 (by decide +kernel) ?_
  refine es_oo C hK hZ dX0_set_32 (fun H locs hZ => ?_)
  refine lv_iconst (v := 1) hx hb dX0_set_35 (by decide +kernel) ?_
  exact g_zret hx hb hr hlk rfl hK hZ dX0_set_36 (⟨rfl, rfl⟩)

set_option maxHeartbeats 4000000 in
set_option maxRecDepth 100000 in
theorem e_set_no (l : Launch) (D : va_G) (a : Nat → Nat) (d : Nat → ClassId) (im we tk tu ip op ti ha qu : Nat → Int32) (oo : Int32) (x v : Int32) (hno : ¬ (vC x ∧ vV v)) : Mi l D (tyE d) (aE a) yX0_set cX0_set 3 (some .boolean) 1 21 (a 0) [.int x, .int v] (eW a d im we tk tu ip op ti ha qu oo) (fun r u => r = 0 ∧ u = eW a d im we tk tu ip op ti ha qu oo) := by
  refine Mi.of (by decide) (Nat.le_of_ble_eq_true rfl) rfl (fun p e s m below meth c C hr hlk hK hZ ls hl => ?_)
  have C : CallFix p m c cX0_set 3 s _ lw_all RX0 := C
  have hx := C.1
  have hb := C.2.1
  have hl : lv_has ls 3 [(0, .ref (a 0)), (1, .int x), (2, .int v)] := hl
  refine lv_aload_n hx hb dX0_set_0 rfl (lv_at hl 0 rfl) ?_
  refine lv_iload_n hx hb dX0_set_1 rfl (lv_at hl 1 rfl) ?_
  by_cases hc : vC x
  · refine g_callp (ci := 0) (rest := []) C (e_isCell l _ 1 (if_pos hc).symm) hwX0_isCell hdX0_isCell ⟨Nat.le_of_ble_eq_true rfl, Nat.le_of_ble_eq_true rfl⟩ hK hZ rfl rfl rfl rfl hl.1 rfl (Nat.le_of_ble_eq_true rfl) dX0_set_2 ⟨Nat.le_of_ble_eq_true rfl, Nat.le_of_ble_eq_true rfl⟩ ?_
    refine z_eqN hx hb 20 dX0_set_5 (by decide) (by decide +kernel) ?_
    refine lv_iload_n hx hb dX0_set_8 rfl (lv_at hl 2 rfl) ?_
    refine lv_bipush (v := (-99)) hx hb dX0_set_9 (by decide +kernel) ?_
    refine lv_icmp_lt (tgt := 20) hx hb dX0_set_11 (by decide) (fun h1 => ?_) (fun h1 => ?_)
    · refine lv_iconst (v := 0) hx hb dX0_set_20 (by decide +kernel) ?_
      exact g_zret hx hb hr hlk rfl hK hZ dX0_set_21 (⟨rfl, rfl⟩)
    · refine lv_iload_n hx hb dX0_set_14 rfl (lv_at hl 2 rfl) ?_
      refine lv_bipush (v := 99) hx hb dX0_set_15 (by decide +kernel) ?_
      refine lv_icmp_le (tgt := 22) hx hb dX0_set_17 (by decide) (fun h2 => ?_) (fun h2 => ?_)
      · exact absurd ⟨hc, h1, Int32.not_lt.mpr h2⟩ hno
      · refine lv_iconst (v := 0) hx hb dX0_set_20 (by decide +kernel) ?_
        exact g_zret hx hb hr hlk rfl hK hZ dX0_set_21 (⟨rfl, rfl⟩)
  · refine g_callp (ci := 0) (rest := []) C (e_isCell l _ 0 (if_neg hc).symm) hwX0_isCell hdX0_isCell ⟨Nat.le_of_ble_eq_true rfl, Nat.le_of_ble_eq_true rfl⟩ hK hZ rfl rfl rfl rfl hl.1 rfl (Nat.le_of_ble_eq_true rfl) dX0_set_2 ⟨Nat.le_of_ble_eq_true rfl, Nat.le_of_ble_eq_true rfl⟩ ?_
    refine z_eqY hx hb 20 dX0_set_5 (by decide) rfl ?_
    refine lv_iconst (v := 0) hx hb dX0_set_20 (by decide +kernel) ?_
    exact g_zret hx hb hr hlk rfl hK hZ dX0_set_21 (⟨rfl, rfl⟩)

set_option maxHeartbeats 4000000 in
set_option maxRecDepth 100000 in
theorem e_weight_ok (l : Launch) (D : va_G) (a : Nat → Nat) (d : Nat → ClassId) (im we tk tu ip op ti ha qu : Nat → Int32) (oo : Int32) (f n : Nat) (hf : f < 2) (hn : n < 9) (v : Int32) (hv : vU v) : Mi l D (tyE d) (aE a) yX0_weight cX0_weight 4 (some .boolean) 1 21 (a 0) [.int (nI f), .int (nI n), .int v] (eW a d im we tk tu ip op ti ha qu oo) (fun r u => r = 1 ∧ u = eW a d im (upd we (9 * f + n) v) (upd tk f 0) tu ip op ti ha qu (-1)) := by
  refine Mi.of (by decide) (Nat.le_of_ble_eq_true rfl) rfl (fun p e s m below meth c C hr hlk hK hZ ls hl => ?_)
  have C : CallFix p m c cX0_weight 4 s _ lw_all RX0 := C
  have hx := C.1
  have hb := C.2.1
  have hl : lv_has ls 4 [(0, .ref (a 0)), (1, .int (nI f)), (2, .int (nI n)), (3, .int v)] := hl
  refine lv_aload_n hx hb dX0_weight_0 rfl (lv_at hl 0 rfl) ?_
  refine lv_iload_n hx hb dX0_weight_1 rfl (lv_at hl 1 rfl) ?_
  refine g_callp (ci := 0) (rest := []) C (e_isFilter l _ 1 (if_pos (vF_of hf)).symm) hwX0_isFilter hdX0_isFilter ⟨Nat.le_of_ble_eq_true rfl, Nat.le_of_ble_eq_true rfl⟩ hK hZ rfl rfl rfl rfl hl.1 rfl (Nat.le_of_ble_eq_true rfl) dX0_weight_2 ⟨Nat.le_of_ble_eq_true rfl, Nat.le_of_ble_eq_true rfl⟩ ?_
  refine z_eqN hx hb 30 dX0_weight_5 (by decide) (by decide +kernel) ?_
  refine lv_iload_n hx hb dX0_weight_8 rfl (lv_at hl 2 rfl) ?_
  refine z_ltN hx hb 30 dX0_weight_9 (by decide) (nI_pos (by omega)) ?_
  refine lv_iload_n hx hb dX0_weight_12 rfl (lv_at hl 2 rfl) ?_
  refine lv_bipush (v := nI 8) hx hb dX0_weight_13 (by decide +kernel) ?_
  refine n_gtN hx hb 30 dX0_weight_15 (by decide) (by omega) (by omega) ?_
  refine lv_iload_n hx hb dX0_weight_18 rfl (lv_at hl 3 rfl) ?_
  refine lv_bipush (v := (-9)) hx hb dX0_weight_19 (by decide +kernel) ?_
  refine c_ltN hx hb 30 dX0_weight_21 (by decide) hv.1 ?_
  refine lv_iload_n hx hb dX0_weight_24 rfl (lv_at hl 3 rfl) ?_
  refine lv_bipush (v := nI 9) hx hb dX0_weight_25 (by decide +kernel) ?_
  refine c_leY hx hb 32 dX0_weight_27 (by decide) (Int32.not_lt.mp hv.2) ?_
  refine lv_aload_n hx hb dX0_weight_32 rfl (lv_at hl 0 rfl) ?_
  refine eg_we C hK hZ dX0_weight_33 ?_
  refine lv_bipush (v := nI 9) hx hb dX0_weight_36 (by decide +kernel) ?_
  refine lv_iload_n hx hb dX0_weight_38 rfl (lv_at hl 1 rfl) ?_
  refine n_mul hx hb dX0_weight_39 ?_
  refine lv_iload_n hx hb dX0_weight_40 rfl (lv_at hl 2 rfl) ?_
  refine n_add hx hb dX0_weight_41 ?_
  refine lv_iload_n hx hb dX0_weight_42 rfl (lv_at hl 3 rfl) ?_
  refine lv_i2b (v := v) hx hb dX0_weight_43 (byte_id (vU_bd hv) (by decide)) ?_
  refine es_we C hK hZ v (nar_id (vU_bd hv) (by decide)) (by omega) dX0_weight_44 (fun H locs hZ => ?_)
  refine lv_aload_n hx hb dX0_weight_45 rfl (lv_at hl 0 rfl) ?_
  refine lv_iload_n hx hb dX0_weight_46 rfl (lv_at hl 1 rfl) ?_
  refine g_callv (ci := 0) (rest := []) C (e_forget l D a d im _ tk tu ip op ti ha qu oo f hf) hwX0_forget hdX0_forget ⟨Nat.le_of_ble_eq_true rfl, Nat.le_of_ble_eq_true rfl⟩ hK hZ rfl rfl rfl rfl hl.1 rfl (Nat.le_of_ble_eq_true rfl) dX0_weight_47 ⟨Nat.le_of_ble_eq_true rfl, Nat.le_of_ble_eq_true rfl⟩ (fun u H locs hu hZ => ?_)
  subst hu
  refine lv_iconst (v := 1) hx hb dX0_weight_50 (by decide +kernel) ?_
  exact g_zret hx hb hr hlk rfl hK hZ dX0_weight_51 (⟨rfl, rfl⟩)

set_option maxHeartbeats 4000000 in
set_option maxRecDepth 100000 in
theorem e_weight_no (l : Launch) (D : va_G) (a : Nat → Nat) (d : Nat → ClassId) (im we tk tu ip op ti ha qu : Nat → Int32) (oo : Int32) (x y v : Int32) (hno : ¬ (vF x ∧ vN y ∧ vU v)) : Mi l D (tyE d) (aE a) yX0_weight cX0_weight 4 (some .boolean) 1 21 (a 0) [.int x, .int y, .int v] (eW a d im we tk tu ip op ti ha qu oo) (fun r u => r = 0 ∧ u = eW a d im we tk tu ip op ti ha qu oo) := by
  refine Mi.of (by decide) (Nat.le_of_ble_eq_true rfl) rfl (fun p e s m below meth c C hr hlk hK hZ ls hl => ?_)
  have C : CallFix p m c cX0_weight 4 s _ lw_all RX0 := C
  have hx := C.1
  have hb := C.2.1
  have hl : lv_has ls 4 [(0, .ref (a 0)), (1, .int x), (2, .int y), (3, .int v)] := hl
  refine lv_aload_n hx hb dX0_weight_0 rfl (lv_at hl 0 rfl) ?_
  refine lv_iload_n hx hb dX0_weight_1 rfl (lv_at hl 1 rfl) ?_
  by_cases hc : vF x
  · refine g_callp (ci := 0) (rest := []) C (e_isFilter l _ 1 (if_pos hc).symm) hwX0_isFilter hdX0_isFilter ⟨Nat.le_of_ble_eq_true rfl, Nat.le_of_ble_eq_true rfl⟩ hK hZ rfl rfl rfl rfl hl.1 rfl (Nat.le_of_ble_eq_true rfl) dX0_weight_2 ⟨Nat.le_of_ble_eq_true rfl, Nat.le_of_ble_eq_true rfl⟩ ?_
    refine z_eqN hx hb 30 dX0_weight_5 (by decide) (by decide +kernel) ?_
    refine lv_iload_n hx hb dX0_weight_8 rfl (lv_at hl 2 rfl) ?_
    refine lv_if_lt (tgt := 30) hx hb dX0_weight_9 (by decide) (fun h1 => ?_) (fun h1 => ?_)
    · refine lv_iconst (v := 0) hx hb dX0_weight_30 (by decide +kernel) ?_
      exact g_zret hx hb hr hlk rfl hK hZ dX0_weight_31 (⟨rfl, rfl⟩)
    · refine lv_iload_n hx hb dX0_weight_12 rfl (lv_at hl 2 rfl) ?_
      refine lv_bipush (v := 8) hx hb dX0_weight_13 (by decide +kernel) ?_
      refine lv_icmp_gt (tgt := 30) hx hb dX0_weight_15 (by decide) (fun h2 => ?_) (fun h2 => ?_)
      · refine lv_iconst (v := 0) hx hb dX0_weight_30 (by decide +kernel) ?_
        exact g_zret hx hb hr hlk rfl hK hZ dX0_weight_31 (⟨rfl, rfl⟩)
      · refine lv_iload_n hx hb dX0_weight_18 rfl (lv_at hl 3 rfl) ?_
        refine lv_bipush (v := (-9)) hx hb dX0_weight_19 (by decide +kernel) ?_
        refine lv_icmp_lt (tgt := 30) hx hb dX0_weight_21 (by decide) (fun h3 => ?_) (fun h3 => ?_)
        · refine lv_iconst (v := 0) hx hb dX0_weight_30 (by decide +kernel) ?_
          exact g_zret hx hb hr hlk rfl hK hZ dX0_weight_31 (⟨rfl, rfl⟩)
        · refine lv_iload_n hx hb dX0_weight_24 rfl (lv_at hl 3 rfl) ?_
          refine lv_bipush (v := 9) hx hb dX0_weight_25 (by decide +kernel) ?_
          refine lv_icmp_le (tgt := 32) hx hb dX0_weight_27 (by decide) (fun h4 => ?_) (fun h4 => ?_)
          · exact absurd ⟨hc, ⟨h1, h2⟩, h3, Int32.not_lt.mpr h4⟩ hno
          · refine lv_iconst (v := 0) hx hb dX0_weight_30 (by decide +kernel) ?_
            exact g_zret hx hb hr hlk rfl hK hZ dX0_weight_31 (⟨rfl, rfl⟩)
  · refine g_callp (ci := 0) (rest := []) C (e_isFilter l _ 0 (if_neg hc).symm) hwX0_isFilter hdX0_isFilter ⟨Nat.le_of_ble_eq_true rfl, Nat.le_of_ble_eq_true rfl⟩ hK hZ rfl rfl rfl rfl hl.1 rfl (Nat.le_of_ble_eq_true rfl) dX0_weight_2 ⟨Nat.le_of_ble_eq_true rfl, Nat.le_of_ble_eq_true rfl⟩ ?_
    refine z_eqY hx hb 30 dX0_weight_5 (by decide) rfl ?_
    refine lv_iconst (v := 0) hx hb dX0_weight_30 (by decide +kernel) ?_
    exact g_zret hx hb hr hlk rfl hK hZ dX0_weight_31 (⟨rfl, rfl⟩)

set_option maxHeartbeats 4000000 in
set_option maxRecDepth 100000 in
theorem e_turn_ok (l : Launch) (D : va_G) (a : Nat → Nat) (d : Nat → ClassId) (im we tk tu ip op ti ha qu : Nat → Int32) (oo : Int32) (f : Nat) (hf : f < 2) (hw : ∀ j, j < 18 → bd (we j) 9) : Mi l D (tyE d) (aE a) yX0_turn cX0_turn 4 (some .boolean) 1 21 (a 0) [.int (nI f)] (eW a d im we tk tu ip op ti ha qu oo) (fun r u => r = 1 ∧ u = eW a d im (swp we f 4) (upd tk f 0) tu ip op ti ha qu (-1)) := by
  refine Mi.of (by decide) (Nat.le_of_ble_eq_true rfl) rfl (fun p e s m below meth c C hr hlk hK hZ ls hl => ?_)
  have C : CallFix p m c cX0_turn 4 s _ lw_all RX0 := C
  have hx := C.1
  have hb := C.2.1
  have hl : lv_has ls 4 [(0, .ref (a 0)), (1, .int (nI f))] := hl
  refine lv_aload_n hx hb dX0_turn_0 rfl (lv_at hl 0 rfl) ?_
  refine lv_iload_n hx hb dX0_turn_1 rfl (lv_at hl 1 rfl) ?_
  refine g_callp (ci := 0) (rest := []) C (e_isFilter l _ 1 (if_pos (vF_of hf)).symm) hwX0_isFilter hdX0_isFilter ⟨Nat.le_of_ble_eq_true rfl, Nat.le_of_ble_eq_true rfl⟩ hK hZ rfl rfl rfl rfl hl.1 rfl (Nat.le_of_ble_eq_true rfl) dX0_turn_2 ⟨Nat.le_of_ble_eq_true rfl, Nat.le_of_ble_eq_true rfl⟩ ?_
  refine z_neY hx hb 10 dX0_turn_5 (by decide) (by decide +kernel) ?_
  refine lv_iconst (v := nI 0) hx hb dX0_turn_10 (by decide +kernel) ?_
  refine lv_istore_n (lv' := [(2, .int (nI 0)), (0, .ref (a 0)), (1, .int (nI f))]) hx hb dX0_turn_11 rfl hl (by decide) rfl (fun ls hl => ?_)
  refine W_loop (N := 4) (fun k H locs ls => gZ D (gA (aE a) s.heap.size) s.heap (eW a d im (swp we f k) tk tu ip op ti ha qu oo) H locs ∧ lv_has ls 4 [(2, .int (nI k)), (0, .ref (a 0)), (1, .int (nI f))]) ?_ ?_ 0 (by omega) ⟨hZ, hl⟩
  · intro H locs ls hI
    obtain ⟨hZ, hl⟩ := hI
    refine lv_iload_n hx hb dX0_turn_12 rfl (lv_at hl 0 rfl) ?_
    refine lv_iconst (v := nI 4) hx hb dX0_turn_13 (by decide +kernel) ?_
    refine n_geY hx hb 75 dX0_turn_14 (by decide) (by omega) (by omega) ?_
    refine lv_aload_n hx hb dX0_turn_75 rfl (lv_at hl 1 rfl) ?_
    refine lv_iload_n hx hb dX0_turn_76 rfl (lv_at hl 2 rfl) ?_
    refine g_callv (ci := 0) (rest := []) C (e_forget l D a d im _ tk tu ip op ti ha qu oo f hf) hwX0_forget hdX0_forget ⟨Nat.le_of_ble_eq_true rfl, Nat.le_of_ble_eq_true rfl⟩ hK hZ rfl rfl rfl rfl hl.1 rfl (Nat.le_of_ble_eq_true rfl) dX0_turn_77 ⟨Nat.le_of_ble_eq_true rfl, Nat.le_of_ble_eq_true rfl⟩ (fun u H locs hu hZ => ?_)
    subst hu
    refine lv_iconst (v := 1) hx hb dX0_turn_80 (by decide +kernel) ?_
    exact g_zret hx hb hr hlk rfl hK hZ dX0_turn_81 (⟨rfl, rfl⟩)
  · intro k hk ih H locs ls hI
    obtain ⟨hZ, hl⟩ := hI
    refine lv_iload_n hx hb dX0_turn_12 rfl (lv_at hl 0 rfl) ?_
    refine lv_iconst (v := nI 4) hx hb dX0_turn_13 (by decide +kernel) ?_
    refine n_geN hx hb 75 dX0_turn_14 (by decide) (by omega) (by omega) ?_
    refine lv_aload_n hx hb dX0_turn_17 rfl (lv_at hl 1 rfl) ?_
    refine eg_we C hK hZ dX0_turn_18 ?_
    refine lv_bipush (v := nI 9) hx hb dX0_turn_21 (by decide +kernel) ?_
    refine lv_iload_n hx hb dX0_turn_23 rfl (lv_at hl 2 rfl) ?_
    refine n_mul hx hb dX0_turn_24 ?_
    refine lv_iload_n hx hb dX0_turn_25 rfl (lv_at hl 0 rfl) ?_
    refine n_add hx hb dX0_turn_26 ?_
    refine el_we C hK hZ (by omega) dX0_turn_27 ?_
    refine lv_istore_n (lv' := [(3, .int ((swp we f k) ((9 * f) + k))), (2, .int (nI k)), (0, .ref (a 0)), (1, .int (nI f))]) hx hb dX0_turn_28 rfl hl (by decide) rfl (fun ls hl => ?_)
    refine lv_aload_n hx hb dX0_turn_29 rfl (lv_at hl 2 rfl) ?_
    refine eg_we C hK hZ dX0_turn_30 ?_
    refine lv_bipush (v := nI 9) hx hb dX0_turn_33 (by decide +kernel) ?_
    refine lv_iload_n hx hb dX0_turn_35 rfl (lv_at hl 3 rfl) ?_
    refine n_mul hx hb dX0_turn_36 ?_
    refine lv_iload_n hx hb dX0_turn_37 rfl (lv_at hl 1 rfl) ?_
    refine n_add hx hb dX0_turn_38 ?_
    refine lv_aload_n hx hb dX0_turn_39 rfl (lv_at hl 2 rfl) ?_
    refine eg_we C hK hZ dX0_turn_40 ?_
    refine lv_bipush (v := nI 9) hx hb dX0_turn_43 (by decide +kernel) ?_
    refine lv_iload_n hx hb dX0_turn_45 rfl (lv_at hl 3 rfl) ?_
    refine n_mul hx hb dX0_turn_46 ?_
    refine lv_bipush (v := nI 8) hx hb dX0_turn_47 (by decide +kernel) ?_
    refine n_add hx hb dX0_turn_49 ?_
    refine lv_iload_n hx hb dX0_turn_50 rfl (lv_at hl 1 rfl) ?_
    refine n_sub hx hb (by omega) dX0_turn_51 ?_
    refine el_we C hK hZ (by omega) dX0_turn_52 ?_
    refine es_we C hK hZ (swp we f k ((9 * f + 8) - k)) (nar_id (swp_bd hf hw k (by omega) _ (by omega)) (by decide)) (by omega) dX0_turn_53 (fun H locs hZ => ?_)
    refine lv_aload_n hx hb dX0_turn_54 rfl (lv_at hl 2 rfl) ?_
    refine eg_we C hK hZ dX0_turn_55 ?_
    refine lv_bipush (v := nI 9) hx hb dX0_turn_58 (by decide +kernel) ?_
    refine lv_iload_n hx hb dX0_turn_60 rfl (lv_at hl 3 rfl) ?_
    refine n_mul hx hb dX0_turn_61 ?_
    refine lv_bipush (v := nI 8) hx hb dX0_turn_62 (by decide +kernel) ?_
    refine n_add hx hb dX0_turn_64 ?_
    refine lv_iload_n hx hb dX0_turn_65 rfl (lv_at hl 1 rfl) ?_
    refine n_sub hx hb (by omega) dX0_turn_66 ?_
    refine lv_iload_n hx hb dX0_turn_67 rfl (lv_at hl 0 rfl) ?_
    refine es_we C hK hZ (swp we f k (9 * f + k)) (nar_id (swp_bd hf hw k (by omega) _ (by omega)) (by decide)) (by omega) dX0_turn_68 (fun H locs hZ => ?_)
    refine n_inc (lv' := [(2, .int (nI (k + 1))), (3, .int ((swp we f k) ((9 * f) + k))), (0, .ref (a 0)), (1, .int (nI f))]) hx hb dX0_turn_69 hl (kx := 1) rfl (by decide) rfl (fun ls hl => ?_)
    refine lv_goto (tgt := 12) hx hb dX0_turn_72 (by decide) ?_
    exact ih _ _ _ ⟨hZ, lv_sub hl [0, 2, 3] rfl⟩

set_option maxHeartbeats 4000000 in
set_option maxRecDepth 100000 in
theorem e_turn_no (l : Launch) (D : va_G) (a : Nat → Nat) (d : Nat → ClassId) (im we tk tu ip op ti ha qu : Nat → Int32) (oo : Int32) (x : Int32) (hno : ¬ vF x) : Mi l D (tyE d) (aE a) yX0_turn cX0_turn 4 (some .boolean) 1 21 (a 0) [.int x] (eW a d im we tk tu ip op ti ha qu oo) (fun r u => r = 0 ∧ u = eW a d im we tk tu ip op ti ha qu oo) := by
  refine Mi.of (by decide) (Nat.le_of_ble_eq_true rfl) rfl (fun p e s m below meth c C hr hlk hK hZ ls hl => ?_)
  have C : CallFix p m c cX0_turn 4 s _ lw_all RX0 := C
  have hx := C.1
  have hb := C.2.1
  have hl : lv_has ls 4 [(0, .ref (a 0)), (1, .int x)] := hl
  refine lv_aload_n hx hb dX0_turn_0 rfl (lv_at hl 0 rfl) ?_
  refine lv_iload_n hx hb dX0_turn_1 rfl (lv_at hl 1 rfl) ?_
  refine g_callp (ci := 0) (rest := []) C (e_isFilter l _ 0 (if_neg hno).symm) hwX0_isFilter hdX0_isFilter ⟨Nat.le_of_ble_eq_true rfl, Nat.le_of_ble_eq_true rfl⟩ hK hZ rfl rfl rfl rfl hl.1 rfl (Nat.le_of_ble_eq_true rfl) dX0_turn_2 ⟨Nat.le_of_ble_eq_true rfl, Nat.le_of_ble_eq_true rfl⟩ ?_
  refine z_neN hx hb 10 dX0_turn_5 (by decide) rfl ?_
  refine lv_iconst (v := 0) hx hb dX0_turn_8 (by decide +kernel) ?_
  exact g_zret hx hb hr hlk rfl hK hZ dX0_turn_9 (⟨rfl, rfl⟩)

set_option maxHeartbeats 4000000 in
set_option maxRecDepth 100000 in
theorem e_stripe_ok (l : Launch) (D : va_G) (a : Nat → Nat) (d : Nat → ClassId) (im we tk tu ip op ti ha qu : Nat → Int32) (oo : Int32) (n fm tn : Nat) (hn : n < 20) (hf : fm < 10) (ht : tn < 10) (v : Int32) (hv : vV v) : Mi l D (tyE d) (aE a) yX0_stripe cX0_stripe 7 (some .int) 2 43 (a 0) [.int (nI n), .int (nI fm), .int (nI tn), .int v] (eW a d im we tk tu ip op ti ha qu oo) (fun r u => r = nI (tn + 1 - fm) ∧ u = eW a d (strp im n fm v (tn + 1 - fm)) we tk tu ip op ti ha qu (oon oo (tn + 1 - fm))) := by
  refine Mi.of (by decide) (Nat.le_of_ble_eq_true rfl) rfl (fun p e s m below meth c C hr hlk hK hZ ls hl => ?_)
  have C : CallFix p m c cX0_stripe 7 s _ lw_all RX0 := C
  have hx := C.1
  have hb := C.2.1
  have hl : lv_has ls 7 [(0, .ref (a 0)), (1, .int (nI n)), (2, .int (nI fm)), (3, .int (nI tn)), (4, .int v)] := hl
  refine lv_iload_n hx hb dX0_stripe_0 rfl (lv_at hl 1 rfl) ?_
  refine z_ltN hx hb 44 dX0_stripe_1 (by decide) (nI_pos (by omega)) ?_
  refine lv_iload_n hx hb dX0_stripe_4 rfl (lv_at hl 1 rfl) ?_
  refine lv_bipush (v := nI 19) hx hb dX0_stripe_5 (by decide +kernel) ?_
  refine n_gtN hx hb 44 dX0_stripe_7 (by decide) (by omega) (by omega) ?_
  refine lv_iload_n hx hb dX0_stripe_10 rfl (lv_at hl 2 rfl) ?_
  refine z_ltN hx hb 44 dX0_stripe_11 (by decide) (nI_pos (by omega)) ?_
  refine lv_iload_n hx hb dX0_stripe_14 rfl (lv_at hl 2 rfl) ?_
  refine lv_bipush (v := nI 9) hx hb dX0_stripe_15 (by decide +kernel) ?_
  refine n_gtN hx hb 44 dX0_stripe_17 (by decide) (by omega) (by omega) ?_
  refine lv_iload_n hx hb dX0_stripe_20 rfl (lv_at hl 3 rfl) ?_
  refine z_ltN hx hb 44 dX0_stripe_21 (by decide) (nI_pos (by omega)) ?_
  refine lv_iload_n hx hb dX0_stripe_24 rfl (lv_at hl 3 rfl) ?_
  refine lv_bipush (v := nI 9) hx hb dX0_stripe_25 (by decide +kernel) ?_
  refine n_gtN hx hb 44 dX0_stripe_27 (by decide) (by omega) (by omega) ?_
  refine lv_iload hx hb dX0_stripe_30 (lv_at hl 4 rfl) ?_
  refine lv_bipush (v := (-99)) hx hb dX0_stripe_32 (by decide +kernel) ?_
  refine c_ltN hx hb 44 dX0_stripe_34 (by decide) hv.1 ?_
  refine lv_iload hx hb dX0_stripe_37 (lv_at hl 4 rfl) ?_
  refine lv_bipush (v := nI 99) hx hb dX0_stripe_39 (by decide +kernel) ?_
  refine c_leY hx hb 47 dX0_stripe_41 (by decide) (Int32.not_lt.mp hv.2) ?_
  refine lv_iconst (v := nI 0) hx hb dX0_stripe_47 (by decide +kernel) ?_
  refine lv_istore (lv' := [(5, .int (nI 0)), (0, .ref (a 0)), (1, .int (nI n)), (2, .int (nI fm)), (3, .int (nI tn)), (4, .int v)]) hx hb dX0_stripe_48 hl (by decide) rfl (fun ls hl => ?_)
  refine lv_iload_n hx hb dX0_stripe_50 rfl (lv_at hl 3 rfl) ?_
  refine lv_istore (lv' := [(6, .int (nI fm)), (5, .int (nI 0)), (0, .ref (a 0)), (1, .int (nI n)), (2, .int (nI fm)), (3, .int (nI tn)), (4, .int v)]) hx hb dX0_stripe_51 hl (by decide) rfl (fun ls hl => ?_)
  refine W_loop (N := tn + 1 - fm) (fun k H locs ls => gZ D (gA (aE a) s.heap.size) s.heap (eW a d (strp im n fm v k) we tk tu ip op ti ha qu (oon oo k)) H locs ∧ lv_has ls 7 [(5, .int (nI k)), (6, .int (nI (fm + k))), (0, .ref (a 0)), (1, .int (nI n)), (2, .int (nI fm)), (3, .int (nI tn)), (4, .int v)]) ?_ ?_ 0 (by omega) ⟨hZ, lv_sub hl [1, 0, 2, 3, 4, 5, 6] rfl⟩
  · intro H locs ls hI
    obtain ⟨hZ, hl⟩ := hI
    refine lv_iload hx hb dX0_stripe_53 (lv_at hl 1 rfl) ?_
    refine lv_iload_n hx hb dX0_stripe_55 rfl (lv_at hl 5 rfl) ?_
    refine n_gtY hx hb 101 dX0_stripe_56 (by decide) (by omega) (by omega) ?_
    refine lv_iload hx hb dX0_stripe_101 (lv_at hl 0 rfl) ?_
    exact g_iret hx hb hr hlk hK hZ dX0_stripe_103 (⟨rfl, rfl⟩)
  · intro k hk ih H locs ls hI
    obtain ⟨hZ, hl⟩ := hI
    refine lv_iload hx hb dX0_stripe_53 (lv_at hl 1 rfl) ?_
    refine lv_iload_n hx hb dX0_stripe_55 rfl (lv_at hl 5 rfl) ?_
    refine n_gtN hx hb 101 dX0_stripe_56 (by decide) (by omega) (by omega) ?_
    refine lv_aload_n hx hb dX0_stripe_59 rfl (lv_at hl 2 rfl) ?_
    refine lv_iload_n hx hb dX0_stripe_60 rfl (lv_at hl 3 rfl) ?_
    refine lv_bipush (v := nI 10) hx hb dX0_stripe_61 (by decide +kernel) ?_
    by_cases h10 : n < 10
    · refine n_geN hx hb 76 dX0_stripe_63 (by decide) (by omega) (by omega) ?_
      refine lv_bipush (v := nI 10) hx hb dX0_stripe_66 (by decide +kernel) ?_
      refine lv_iload_n hx hb dX0_stripe_68 rfl (lv_at hl 3 rfl) ?_
      refine n_mul hx hb dX0_stripe_69 ?_
      refine lv_iload hx hb dX0_stripe_70 (lv_at hl 1 rfl) ?_
      refine n_add hx hb dX0_stripe_72 ?_
      refine lv_goto (tgt := 86) hx hb dX0_stripe_73 (by decide) ?_
      refine lv_iload hx hb dX0_stripe_86 (lv_at hl 6 rfl) ?_
      refine g_calli (ci := 0) (rest := []) C (e_set_ok l D a d _ we tk tu ip op ti ha qu _ (10 * n + (fm + k)) (by omega) v hv) hwX0_set hdX0_set ⟨Nat.le_of_ble_eq_true rfl, Nat.le_of_ble_eq_true rfl⟩ hK hZ rfl rfl rfl rfl hl.1 rfl (Nat.le_of_ble_eq_true rfl) dX0_stripe_88 ⟨Nat.le_of_ble_eq_true rfl, Nat.le_of_ble_eq_true rfl⟩ (fun r u H locs hu hZ => ?_)
      obtain ⟨rfl, rfl⟩ := hu
      refine lv_pop hx hb dX0_stripe_91 rfl ?_
      refine n_inc (lv' := [(5, .int (nI (k + 1))), (6, .int (nI (fm + k))), (0, .ref (a 0)), (1, .int (nI n)), (2, .int (nI fm)), (3, .int (nI tn)), (4, .int v)]) hx hb dX0_stripe_92 hl (kx := 0) rfl (by decide) rfl (fun ls hl => ?_)
      refine n_inc (lv' := [(6, .int (nI ((fm + k) + 1))), (5, .int (nI (k + 1))), (0, .ref (a 0)), (1, .int (nI n)), (2, .int (nI fm)), (3, .int (nI tn)), (4, .int v)]) hx hb dX0_stripe_95 hl (kx := 1) rfl (by decide) rfl (fun ls hl => ?_)
      refine lv_goto (tgt := 53) hx hb dX0_stripe_98 (by decide) ?_
      have hs : strp im n fm v (k + 1) = upd (strp im n fm v k) (10 * n + (fm + k)) v := by
        show upd _ (stc n (fm + k)) v = _
        rw [show stc n (fm + k) = 10 * n + (fm + k) from if_pos h10]
      exact ih _ _ _ ⟨by rw [hs]; exact hZ, lv_sub hl [1, 0, 2, 3, 4, 5, 6] rfl⟩
    · refine n_geY hx hb 76 dX0_stripe_63 (by decide) (by omega) (by omega) ?_
      refine lv_bipush (v := nI 10) hx hb dX0_stripe_76 (by decide +kernel) ?_
      refine lv_iload hx hb dX0_stripe_78 (lv_at hl 1 rfl) ?_
      refine n_mul hx hb dX0_stripe_80 ?_
      refine lv_iload_n hx hb dX0_stripe_81 rfl (lv_at hl 3 rfl) ?_
      refine n_add hx hb dX0_stripe_82 ?_
      refine lv_bipush (v := nI 10) hx hb dX0_stripe_83 (by decide +kernel) ?_
      refine n_sub hx hb (by omega) dX0_stripe_85 ?_
      refine lv_iload hx hb dX0_stripe_86 (lv_at hl 6 rfl) ?_
      refine g_calli (ci := 0) (rest := []) C (e_set_ok l D a d _ we tk tu ip op ti ha qu _ (((10 * (fm + k)) + n) - 10) (by omega) v hv) hwX0_set hdX0_set ⟨Nat.le_of_ble_eq_true rfl, Nat.le_of_ble_eq_true rfl⟩ hK hZ rfl rfl rfl rfl hl.1 rfl (Nat.le_of_ble_eq_true rfl) dX0_stripe_88 ⟨Nat.le_of_ble_eq_true rfl, Nat.le_of_ble_eq_true rfl⟩ (fun r u H locs hu hZ => ?_)
      obtain ⟨rfl, rfl⟩ := hu
      refine lv_pop hx hb dX0_stripe_91 rfl ?_
      refine n_inc (lv' := [(5, .int (nI (k + 1))), (6, .int (nI (fm + k))), (0, .ref (a 0)), (1, .int (nI n)), (2, .int (nI fm)), (3, .int (nI tn)), (4, .int v)]) hx hb dX0_stripe_92 hl (kx := 0) rfl (by decide) rfl (fun ls hl => ?_)
      refine n_inc (lv' := [(6, .int (nI ((fm + k) + 1))), (5, .int (nI (k + 1))), (0, .ref (a 0)), (1, .int (nI n)), (2, .int (nI fm)), (3, .int (nI tn)), (4, .int v)]) hx hb dX0_stripe_95 hl (kx := 1) rfl (by decide) rfl (fun ls hl => ?_)
      refine lv_goto (tgt := 53) hx hb dX0_stripe_98 (by decide) ?_
      have hs : strp im n fm v (k + 1) = upd (strp im n fm v k) (((10 * (fm + k)) + n) - 10) v := by
        show upd _ (stc n (fm + k)) v = _
        rw [show stc n (fm + k) = ((10 * (fm + k)) + n) - 10 from if_neg h10]
      exact ih _ _ _ ⟨by rw [hs]; exact hZ, lv_sub hl [1, 0, 2, 3, 4, 5, 6] rfl⟩

set_option maxHeartbeats 4000000 in
set_option maxRecDepth 100000 in
theorem e_stripe_no (l : Launch) (D : va_G) (a : Nat → Nat) (d : Nat → ClassId) (im we tk tu ip op ti ha qu : Nat → Int32) (oo : Int32) (x y z v : Int32) (hno : ¬ (vL x ∧ vP y ∧ vP z ∧ vV v)) : Mi l D (tyE d) (aE a) yX0_stripe cX0_stripe 7 (some .int) 2 43 (a 0) [.int x, .int y, .int z, .int v] (eW a d im we tk tu ip op ti ha qu oo) (fun r u => r = (-1000000000) ∧ u = eW a d im we tk tu ip op ti ha qu oo) := by
  refine Mi.of (by decide) (Nat.le_of_ble_eq_true rfl) rfl (fun p e s m below meth c C hr hlk hK hZ ls hl => ?_)
  have C : CallFix p m c cX0_stripe 7 s _ lw_all RX0 := C
  have hx := C.1
  have hb := C.2.1
  have hl : lv_has ls 7 [(0, .ref (a 0)), (1, .int x), (2, .int y), (3, .int z), (4, .int v)] := hl
  refine lv_iload_n hx hb dX0_stripe_0 rfl (lv_at hl 1 rfl) ?_
  refine lv_if_lt (tgt := 44) hx hb dX0_stripe_1 (by decide) (fun h1 => ?_) (fun h1 => ?_)
  · refine lv_ldc hx hb C.2.2.2.1 (C.2.2.2.2 _ q75) dX0_stripe_44 ?_
    exact g_iret hx hb hr hlk hK hZ dX0_stripe_46 (⟨rfl, rfl⟩)
  · refine lv_iload_n hx hb dX0_stripe_4 rfl (lv_at hl 1 rfl) ?_
    refine lv_bipush (v := 19) hx hb dX0_stripe_5 (by decide +kernel) ?_
    refine lv_icmp_gt (tgt := 44) hx hb dX0_stripe_7 (by decide) (fun h2 => ?_) (fun h2 => ?_)
    · refine lv_ldc hx hb C.2.2.2.1 (C.2.2.2.2 _ q75) dX0_stripe_44 ?_
      exact g_iret hx hb hr hlk hK hZ dX0_stripe_46 (⟨rfl, rfl⟩)
    · refine lv_iload_n hx hb dX0_stripe_10 rfl (lv_at hl 2 rfl) ?_
      refine lv_if_lt (tgt := 44) hx hb dX0_stripe_11 (by decide) (fun h3 => ?_) (fun h3 => ?_)
      · refine lv_ldc hx hb C.2.2.2.1 (C.2.2.2.2 _ q75) dX0_stripe_44 ?_
        exact g_iret hx hb hr hlk hK hZ dX0_stripe_46 (⟨rfl, rfl⟩)
      · refine lv_iload_n hx hb dX0_stripe_14 rfl (lv_at hl 2 rfl) ?_
        refine lv_bipush (v := 9) hx hb dX0_stripe_15 (by decide +kernel) ?_
        refine lv_icmp_gt (tgt := 44) hx hb dX0_stripe_17 (by decide) (fun h4 => ?_) (fun h4 => ?_)
        · refine lv_ldc hx hb C.2.2.2.1 (C.2.2.2.2 _ q75) dX0_stripe_44 ?_
          exact g_iret hx hb hr hlk hK hZ dX0_stripe_46 (⟨rfl, rfl⟩)
        · refine lv_iload_n hx hb dX0_stripe_20 rfl (lv_at hl 3 rfl) ?_
          refine lv_if_lt (tgt := 44) hx hb dX0_stripe_21 (by decide) (fun h5 => ?_) (fun h5 => ?_)
          · refine lv_ldc hx hb C.2.2.2.1 (C.2.2.2.2 _ q75) dX0_stripe_44 ?_
            exact g_iret hx hb hr hlk hK hZ dX0_stripe_46 (⟨rfl, rfl⟩)
          · refine lv_iload_n hx hb dX0_stripe_24 rfl (lv_at hl 3 rfl) ?_
            refine lv_bipush (v := 9) hx hb dX0_stripe_25 (by decide +kernel) ?_
            refine lv_icmp_gt (tgt := 44) hx hb dX0_stripe_27 (by decide) (fun h6 => ?_) (fun h6 => ?_)
            · refine lv_ldc hx hb C.2.2.2.1 (C.2.2.2.2 _ q75) dX0_stripe_44 ?_
              exact g_iret hx hb hr hlk hK hZ dX0_stripe_46 (⟨rfl, rfl⟩)
            · refine lv_iload hx hb dX0_stripe_30 (lv_at hl 4 rfl) ?_
              refine lv_bipush (v := (-99)) hx hb dX0_stripe_32 (by decide +kernel) ?_
              refine lv_icmp_lt (tgt := 44) hx hb dX0_stripe_34 (by decide) (fun h7 => ?_) (fun h7 => ?_)
              · refine lv_ldc hx hb C.2.2.2.1 (C.2.2.2.2 _ q75) dX0_stripe_44 ?_
                exact g_iret hx hb hr hlk hK hZ dX0_stripe_46 (⟨rfl, rfl⟩)
              · refine lv_iload hx hb dX0_stripe_37 (lv_at hl 4 rfl) ?_
                refine lv_bipush (v := 99) hx hb dX0_stripe_39 (by decide +kernel) ?_
                refine lv_icmp_le (tgt := 47) hx hb dX0_stripe_41 (by decide) (fun h8 => ?_) (fun h8 => ?_)
                · exact absurd ⟨⟨h1, h2⟩, ⟨h3, h4⟩, ⟨h5, h6⟩, h7, Int32.not_lt.mpr h8⟩ hno
                · refine lv_ldc hx hb C.2.2.2.1 (C.2.2.2.2 _ q75) dX0_stripe_44 ?_
                  exact g_iret hx hb hr hlk hK hZ dX0_stripe_46 (⟨rfl, rfl⟩)
end
section
/-! the engine: filters and tiles -/
set_option maxHeartbeats 4000000 in
set_option maxRecDepth 100000 in
theorem e_turnFilter (l : Launch) (D : va_G) (a : Nat → Nat) (d : Nat → ClassId) (im we tk tu ip op ti ha qu : Nat → Int32) (oo : Int32) (f : Nat) (hf : f < 2) (hT : TT we tk tu) : Mv l D (tyE d) (aE a) yX0_turnFilter cX0_turnFilter 4 none 1 24 (a 0) [.int (nI f)] (eW a d im we tk tu ip op ti ha qu oo) (fun u => ∃ tk' tu' ha', u = eW a d im we tk' tu' ip op ti ha' qu oo ∧ TT we tk' tu' ∧ ¬ tk' f = 0) := by
  refine Mv.of (by decide) (Nat.le_of_ble_eq_true rfl) rfl (fun p e s m below meth c C hr hlk hK hZ ls hl => ?_)
  have C : CallFix p m c cX0_turnFilter 4 s _ lw_all RX0 := C
  have hx := C.1
  have hb := C.2.1
  have hl : lv_has ls 4 [(0, .ref (a 0)), (1, .int (nI f))] := hl
  refine lv_aload_n hx hb dX0_turnFilter_0 rfl (lv_at hl 0 rfl) ?_
  refine eg_tk C hK hZ dX0_turnFilter_1 ?_
  refine lv_iload_n hx hb dX0_turnFilter_4 rfl (lv_at hl 1 rfl) ?_
  refine el_tk C hK hZ (by omega) dX0_turnFilter_5 ?_
  refine lv_if_eq (tgt := 10) hx hb dX0_turnFilter_6 (by decide) (fun h0 => ?_) (fun h0 => ?_)
  · refine lv_aload_n hx hb dX0_turnFilter_10 rfl (lv_at hl 0 rfl) ?_
    refine eg_tk C hK hZ dX0_turnFilter_11 ?_
    refine lv_iload_n hx hb dX0_turnFilter_14 rfl (lv_at hl 1 rfl) ?_
    refine lv_iconst (v := nI 1) hx hb dX0_turnFilter_15 (by decide +kernel) ?_
    refine es_tk C hK hZ 1 (by decide +kernel) (by omega) dX0_turnFilter_16 (fun H locs hZ => ?_)
    refine lv_iconst (v := nI 0) hx hb dX0_turnFilter_17 (by decide +kernel) ?_
    refine lv_istore_n (lv' := [(2, .int (nI 0)), (0, .ref (a 0)), (1, .int (nI f))]) hx hb dX0_turnFilter_18 rfl hl (by decide) rfl (fun ls hl => ?_)
    have hZ : gZ D (gA (aE a) s.heap.size) s.heap (eW a d im we (upd tk f 1) tu ip op ti (sel (fun j => decide (j % 4 < 0 ∧ j / 4 < 4)) (hw (fun z => we (9 * f + z))) ha) qu oo) H locs := by
      rw [show sel (fun j => decide (j % 4 < 0 ∧ j / 4 < 4)) (hw (fun z => we (9 * f + z))) ha = ha from sel_no (by intro j; simp only [decide_eq_true_eq] <;> omega)]
      exact hZ
    refine W_loop (N := 3) (fun i H locs ls => gZ D (gA (aE a) s.heap.size) s.heap (eW a d im we (upd tk f 1) tu ip op ti (sel (fun j => decide (j % 4 < i ∧ j / 4 < 4)) (hw (fun z => we (9 * f + z))) ha) qu oo) H locs ∧ lv_has ls 4 [(2, .int (nI i)), (0, .ref (a 0)), (1, .int (nI f))]) ?_ ?_ 0 (by omega) ⟨hZ, hl⟩
    · intro H locs ls hI
      obtain ⟨hZ, hl⟩ := hI
      refine lv_iload_n hx hb dX0_turnFilter_19 rfl (lv_at hl 0 rfl) ?_
      refine lv_iconst (v := nI 3) hx hb dX0_turnFilter_20 (by decide +kernel) ?_
      refine n_geY hx hb 96 dX0_turnFilter_21 (by decide) (by omega) (by omega) ?_
      refine lv_iconst (v := nI 0) hx hb dX0_turnFilter_96 (by decide +kernel) ?_
      refine lv_istore_n (lv' := [(2, .int (nI 0)), (0, .ref (a 0)), (1, .int (nI f))]) hx hb dX0_turnFilter_97 rfl hl (by decide) rfl (fun ls hl => ?_)
      have hZ : gZ D (gA (aE a) s.heap.size) s.heap (eW a d im we (upd tk f 1) (sel (fun j => decide (16 * f ≤ j ∧ j < 16 * f + 4 * 0)) (fun j => tw (fun z => we (9 * f + z)) (j - 16 * f)) tu) ip op ti (sel (fun j => decide (j % 4 < 3 ∧ j / 4 < 4)) (hw (fun z => we (9 * f + z))) ha) qu oo) H locs := by
        rw [show sel (fun j => decide (16 * f ≤ j ∧ j < 16 * f + 4 * 0)) (fun j => tw (fun z => we (9 * f + z)) (j - 16 * f)) tu = tu from sel_no (by intro j; simp only [decide_eq_true_eq] <;> omega)]
        exact hZ
      refine W_loop (N := 4) (fun i H locs ls => gZ D (gA (aE a) s.heap.size) s.heap (eW a d im we (upd tk f 1) (sel (fun j => decide (16 * f ≤ j ∧ j < 16 * f + 4 * i)) (fun j => tw (fun z => we (9 * f + z)) (j - 16 * f)) tu) ip op ti (sel (fun j => decide (j % 4 < 3 ∧ j / 4 < 4)) (hw (fun z => we (9 * f + z))) ha) qu oo) H locs ∧ lv_has ls 4 [(2, .int (nI i)), (0, .ref (a 0)), (1, .int (nI f))]) ?_ ?_ 0 (by omega) ⟨hZ, hl⟩
      · intro H locs ls hI
        obtain ⟨hZ, hl⟩ := hI
        refine lv_iload_n hx hb dX0_turnFilter_98 rfl (lv_at hl 0 rfl) ?_
        refine lv_iconst (v := nI 4) hx hb dX0_turnFilter_99 (by decide +kernel) ?_
        refine n_geY hx hb 170 dX0_turnFilter_100 (by decide) (by omega) (by omega) ?_
        exact g_vret hx hb hr hlk hK hZ dX0_turnFilter_170 (⟨_, _, _, rfl, TT_new hf hT, by simp [upd]⟩)
      · intro i hi ih H locs ls hI
        obtain ⟨hZ, hl⟩ := hI
        refine lv_iload_n hx hb dX0_turnFilter_98 rfl (lv_at hl 0 rfl) ?_
        refine lv_iconst (v := nI 4) hx hb dX0_turnFilter_99 (by decide +kernel) ?_
        refine n_geN hx hb 170 dX0_turnFilter_100 (by decide) (by omega) (by omega) ?_
        refine lv_iconst (v := nI 0) hx hb dX0_turnFilter_103 (by decide +kernel) ?_
        refine lv_istore_n (lv' := [(3, .int (nI 0)), (2, .int (nI i)), (0, .ref (a 0)), (1, .int (nI f))]) hx hb dX0_turnFilter_104 rfl hl (by decide) rfl (fun ls hl => ?_)
        have hZ : gZ D (gA (aE a) s.heap.size) s.heap (eW a d im we (upd tk f 1) (sel (fun j => decide (16 * f ≤ j ∧ j < 16 * f + (4 * i + 0))) (fun j => tw (fun z => we (9 * f + z)) (j - 16 * f)) tu) ip op ti (sel (fun j => decide (j % 4 < 3 ∧ j / 4 < 4)) (hw (fun z => we (9 * f + z))) ha) qu oo) H locs := by
          rw [show sel (fun j => decide (16 * f ≤ j ∧ j < 16 * f + (4 * i + 0))) (fun j => tw (fun z => we (9 * f + z)) (j - 16 * f)) tu = sel (fun j => decide (16 * f ≤ j ∧ j < 16 * f + 4 * i)) (fun j => tw (fun z => we (9 * f + z)) (j - 16 * f)) tu from sel_eq (by intro j; simp only [decide_eq_true_eq] <;> omega)]
          exact hZ
        refine W_loop (N := 4) (fun k H locs ls => gZ D (gA (aE a) s.heap.size) s.heap (eW a d im we (upd tk f 1) (sel (fun j => decide (16 * f ≤ j ∧ j < 16 * f + (4 * i + k))) (fun j => tw (fun z => we (9 * f + z)) (j - 16 * f)) tu) ip op ti (sel (fun j => decide (j % 4 < 3 ∧ j / 4 < 4)) (hw (fun z => we (9 * f + z))) ha) qu oo) H locs ∧ lv_has ls 4 [(3, .int (nI k)), (2, .int (nI i)), (0, .ref (a 0)), (1, .int (nI f))]) ?_ ?_ 0 (by omega) ⟨hZ, hl⟩
        · intro H locs ls hI
          obtain ⟨hZ, hl⟩ := hI
          refine lv_iload_n hx hb dX0_turnFilter_105 rfl (lv_at hl 0 rfl) ?_
          refine lv_iconst (v := nI 4) hx hb dX0_turnFilter_106 (by decide +kernel) ?_
          refine n_geY hx hb 164 dX0_turnFilter_107 (by decide) (by omega) (by omega) ?_
          refine n_inc (lv' := [(2, .int (nI (i + 1))), (3, .int (nI 4)), (0, .ref (a 0)), (1, .int (nI f))]) hx hb dX0_turnFilter_164 hl (kx := 1) rfl (by decide) rfl (fun ls hl => ?_)
          refine lv_goto (tgt := 98) hx hb dX0_turnFilter_167 (by decide) ?_
          have hZ : gZ D (gA (aE a) s.heap.size) s.heap (eW a d im we (upd tk f 1) (sel (fun j => decide (16 * f ≤ j ∧ j < 16 * f + 4 * (i + 1))) (fun j => tw (fun z => we (9 * f + z)) (j - 16 * f)) tu) ip op ti (sel (fun j => decide (j % 4 < 3 ∧ j / 4 < 4)) (hw (fun z => we (9 * f + z))) ha) qu oo) H locs := by
            rw [show sel (fun j => decide (16 * f ≤ j ∧ j < 16 * f + 4 * (i + 1))) (fun j => tw (fun z => we (9 * f + z)) (j - 16 * f)) tu = sel (fun j => decide (16 * f ≤ j ∧ j < 16 * f + (4 * i + 4))) (fun j => tw (fun z => we (9 * f + z)) (j - 16 * f)) tu from sel_eq (by intro j; simp only [decide_eq_true_eq] <;> omega)]
            exact hZ
          exact ih _ _ _ ⟨hZ, lv_sub hl [0, 2, 3] rfl⟩
        · intro k hk ih H locs ls hI
          obtain ⟨hZ, hl⟩ := hI
          refine lv_iload_n hx hb dX0_turnFilter_105 rfl (lv_at hl 0 rfl) ?_
          refine lv_iconst (v := nI 4) hx hb dX0_turnFilter_106 (by decide +kernel) ?_
          refine n_geN hx hb 164 dX0_turnFilter_107 (by decide) (by omega) (by omega) ?_
          refine lv_aload_n hx hb dX0_turnFilter_110 rfl (lv_at hl 2 rfl) ?_
          refine eg_tu C hK hZ dX0_turnFilter_111 ?_
          refine lv_bipush (v := nI 16) hx hb dX0_turnFilter_114 (by decide +kernel) ?_
          refine lv_iload_n hx hb dX0_turnFilter_116 rfl (lv_at hl 3 rfl) ?_
          refine n_mul hx hb dX0_turnFilter_117 ?_
          refine lv_iconst (v := nI 4) hx hb dX0_turnFilter_118 (by decide +kernel) ?_
          refine lv_iload_n hx hb dX0_turnFilter_119 rfl (lv_at hl 1 rfl) ?_
          refine n_mul hx hb dX0_turnFilter_120 ?_
          refine n_add hx hb dX0_turnFilter_121 ?_
          refine lv_iload_n hx hb dX0_turnFilter_122 rfl (lv_at hl 0 rfl) ?_
          refine n_add hx hb dX0_turnFilter_123 ?_
          refine lv_aload_n hx hb dX0_turnFilter_124 rfl (lv_at hl 2 rfl) ?_
          refine lv_aload_n hx hb dX0_turnFilter_125 rfl (lv_at hl 2 rfl) ?_
          refine eg_ha C hK hZ dX0_turnFilter_126 ?_
          refine lv_iconst (v := nI 4) hx hb dX0_turnFilter_129 (by decide +kernel) ?_
          refine lv_iload_n hx hb dX0_turnFilter_130 rfl (lv_at hl 1 rfl) ?_
          refine n_mul hx hb dX0_turnFilter_131 ?_
          refine el_ha C hK hZ (by omega) dX0_turnFilter_132 ?_
          refine lv_aload_n hx hb dX0_turnFilter_133 rfl (lv_at hl 2 rfl) ?_
          refine eg_ha C hK hZ dX0_turnFilter_134 ?_
          refine lv_iconst (v := nI 4) hx hb dX0_turnFilter_137 (by decide +kernel) ?_
          refine lv_iload_n hx hb dX0_turnFilter_138 rfl (lv_at hl 1 rfl) ?_
          refine n_mul hx hb dX0_turnFilter_139 ?_
          refine lv_iconst (v := nI 1) hx hb dX0_turnFilter_140 (by decide +kernel) ?_
          refine n_add hx hb dX0_turnFilter_141 ?_
          refine el_ha C hK hZ (by omega) dX0_turnFilter_142 ?_
          refine lv_aload_n hx hb dX0_turnFilter_143 rfl (lv_at hl 2 rfl) ?_
          refine eg_ha C hK hZ dX0_turnFilter_144 ?_
          refine lv_iconst (v := nI 4) hx hb dX0_turnFilter_147 (by decide +kernel) ?_
          refine lv_iload_n hx hb dX0_turnFilter_148 rfl (lv_at hl 1 rfl) ?_
          refine n_mul hx hb dX0_turnFilter_149 ?_
          refine lv_iconst (v := nI 2) hx hb dX0_turnFilter_150 (by decide +kernel) ?_
          refine n_add hx hb dX0_turnFilter_151 ?_
          refine el_ha C hK hZ (by omega) dX0_turnFilter_152 ?_
          refine lv_iload_n hx hb dX0_turnFilter_153 rfl (lv_at hl 0 rfl) ?_
          refine g_callp (ci := 0) (rest := [.int (nI (((16 * f) + (4 * i)) + k)), .ref (a 4)]) C (e_spread l _ _ _ k (by omega)) hwX0_spread hdX0_spread ⟨Nat.le_of_ble_eq_true rfl, Nat.le_of_ble_eq_true rfl⟩ hK hZ rfl rfl rfl rfl hl.1 rfl (Nat.le_of_ble_eq_true rfl) dX0_turnFilter_154 ⟨Nat.le_of_ble_eq_true rfl, Nat.le_of_ble_eq_true rfl⟩ ?_
          refine es_tu C hK hZ (by omega) dX0_turnFilter_157 (fun H locs hZ => ?_)
          have ei : (sel (fun j => decide (j % 4 < 3 ∧ j / 4 < 4)) (hw (fun z => we (9 * f + z))) ha) (4 * i) = hw (fun z => we (9 * f + z)) (4 * i) := sel_in (by simp only [decide_eq_true_eq]; omega)
          have e1 : (sel (fun j => decide (j % 4 < 3 ∧ j / 4 < 4)) (hw (fun z => we (9 * f + z))) ha) (4 * i + 1) = hw (fun z => we (9 * f + z)) (4 * i + 1) := sel_in (by simp only [decide_eq_true_eq]; omega)
          have e2 : (sel (fun j => decide (j % 4 < 3 ∧ j / 4 < 4)) (hw (fun z => we (9 * f + z))) ha) (4 * i + 2) = hw (fun z => we (9 * f + z)) (4 * i + 2) := sel_in (by simp only [decide_eq_true_eq]; omega)
          have ev : sp ((sel (fun j => decide (j % 4 < 3 ∧ j / 4 < 4)) (hw (fun z => we (9 * f + z))) ha) (4 * i)) ((sel (fun j => decide (j % 4 < 3 ∧ j / 4 < 4)) (hw (fun z => we (9 * f + z))) ha) ((4 * i) + 1)) ((sel (fun j => decide (j % 4 < 3 ∧ j / 4 < 4)) (hw (fun z => we (9 * f + z))) ha) ((4 * i) + 2)) k = tw (fun z => we (9 * f + z)) ((((16 * f) + (4 * i)) + k) - 16 * f) := by
            rw [ei, e1, e2]
            simp only [tw, show 16 * f + 4 * i + k - 16 * f = 4 * i + k by omega, show (4 * i + k) / 4 = i by omega, show (4 * i + k) % 4 = k by omega]
          have hZ : gZ D (gA (aE a) s.heap.size) s.heap (eW a d im we (upd tk f 1) (sel (fun j => decide (16 * f ≤ j ∧ j < 16 * f + (4 * i + (k + 1)))) (fun j => tw (fun z => we (9 * f + z)) (j - 16 * f)) tu) ip op ti (sel (fun j => decide (j % 4 < 3 ∧ j / 4 < 4)) (hw (fun z => we (9 * f + z))) ha) qu oo) H locs := by
            rw [show sel (fun j => decide (16 * f ≤ j ∧ j < 16 * f + (4 * i + (k + 1)))) (fun j => tw (fun z => we (9 * f + z)) (j - 16 * f)) tu = upd (sel (fun j => decide (16 * f ≤ j ∧ j < 16 * f + (4 * i + k))) (fun j => tw (fun z => we (9 * f + z)) (j - 16 * f)) tu) (((16 * f) + (4 * i)) + k) (sp ((sel (fun j => decide (j % 4 < 3 ∧ j / 4 < 4)) (hw (fun z => we (9 * f + z))) ha) (4 * i)) ((sel (fun j => decide (j % 4 < 3 ∧ j / 4 < 4)) (hw (fun z => we (9 * f + z))) ha) ((4 * i) + 1)) ((sel (fun j => decide (j % 4 < 3 ∧ j / 4 < 4)) (hw (fun z => we (9 * f + z))) ha) ((4 * i) + 2)) k) from (Eq.symm (sel_upd ev (by intro j; simp only [decide_eq_true_eq] <;> omega)))]
            exact hZ
          refine n_inc (lv' := [(3, .int (nI (k + 1))), (2, .int (nI i)), (0, .ref (a 0)), (1, .int (nI f))]) hx hb dX0_turnFilter_158 hl (kx := 0) rfl (by decide) rfl (fun ls hl => ?_)
          refine lv_goto (tgt := 105) hx hb dX0_turnFilter_161 (by decide) ?_
          exact ih _ _ _ ⟨hZ, hl⟩
    · intro i hi ih H locs ls hI
      obtain ⟨hZ, hl⟩ := hI
      refine lv_iload_n hx hb dX0_turnFilter_19 rfl (lv_at hl 0 rfl) ?_
      refine lv_iconst (v := nI 3) hx hb dX0_turnFilter_20 (by decide +kernel) ?_
      refine n_geN hx hb 96 dX0_turnFilter_21 (by decide) (by omega) (by omega) ?_
      refine lv_iconst (v := nI 0) hx hb dX0_turnFilter_24 (by decide +kernel) ?_
      refine lv_istore_n (lv' := [(3, .int (nI 0)), (2, .int (nI i)), (0, .ref (a 0)), (1, .int (nI f))]) hx hb dX0_turnFilter_25 rfl hl (by decide) rfl (fun ls hl => ?_)
      have hZ : gZ D (gA (aE a) s.heap.size) s.heap (eW a d im we (upd tk f 1) tu ip op ti (sel (fun j => decide ((j % 4 < i ∧ j / 4 < 4) ∨ (j % 4 = i ∧ j / 4 < 0))) (hw (fun z => we (9 * f + z))) ha) qu oo) H locs := by
        rw [show sel (fun j => decide ((j % 4 < i ∧ j / 4 < 4) ∨ (j % 4 = i ∧ j / 4 < 0))) (hw (fun z => we (9 * f + z))) ha = sel (fun j => decide (j % 4 < i ∧ j / 4 < 4)) (hw (fun z => we (9 * f + z))) ha from sel_eq (by intro j; simp only [decide_eq_true_eq] <;> omega)]
        exact hZ
      refine W_loop (N := 4) (fun k H locs ls => gZ D (gA (aE a) s.heap.size) s.heap (eW a d im we (upd tk f 1) tu ip op ti (sel (fun j => decide ((j % 4 < i ∧ j / 4 < 4) ∨ (j % 4 = i ∧ j / 4 < k))) (hw (fun z => we (9 * f + z))) ha) qu oo) H locs ∧ lv_has ls 4 [(3, .int (nI k)), (2, .int (nI i)), (0, .ref (a 0)), (1, .int (nI f))]) ?_ ?_ 0 (by omega) ⟨hZ, hl⟩
      · intro H locs ls hI
        obtain ⟨hZ, hl⟩ := hI
        refine lv_iload_n hx hb dX0_turnFilter_26 rfl (lv_at hl 0 rfl) ?_
        refine lv_iconst (v := nI 4) hx hb dX0_turnFilter_27 (by decide +kernel) ?_
        refine n_geY hx hb 90 dX0_turnFilter_28 (by decide) (by omega) (by omega) ?_
        refine n_inc (lv' := [(2, .int (nI (i + 1))), (3, .int (nI 4)), (0, .ref (a 0)), (1, .int (nI f))]) hx hb dX0_turnFilter_90 hl (kx := 1) rfl (by decide) rfl (fun ls hl => ?_)
        refine lv_goto (tgt := 19) hx hb dX0_turnFilter_93 (by decide) ?_
        have hZ : gZ D (gA (aE a) s.heap.size) s.heap (eW a d im we (upd tk f 1) tu ip op ti (sel (fun j => decide (j % 4 < (i + 1) ∧ j / 4 < 4)) (hw (fun z => we (9 * f + z))) ha) qu oo) H locs := by
          rw [show sel (fun j => decide (j % 4 < (i + 1) ∧ j / 4 < 4)) (hw (fun z => we (9 * f + z))) ha = sel (fun j => decide ((j % 4 < i ∧ j / 4 < 4) ∨ (j % 4 = i ∧ j / 4 < 4))) (hw (fun z => we (9 * f + z))) ha from sel_eq (by intro j; simp only [decide_eq_true_eq] <;> omega)]
          exact hZ
        exact ih _ _ _ ⟨hZ, lv_sub hl [0, 2, 3] rfl⟩
      · intro k hk ih H locs ls hI
        obtain ⟨hZ, hl⟩ := hI
        refine lv_iload_n hx hb dX0_turnFilter_26 rfl (lv_at hl 0 rfl) ?_
        refine lv_iconst (v := nI 4) hx hb dX0_turnFilter_27 (by decide +kernel) ?_
        refine n_geN hx hb 90 dX0_turnFilter_28 (by decide) (by omega) (by omega) ?_
        refine lv_aload_n hx hb dX0_turnFilter_31 rfl (lv_at hl 2 rfl) ?_
        refine eg_ha C hK hZ dX0_turnFilter_32 ?_
        refine lv_iconst (v := nI 4) hx hb dX0_turnFilter_35 (by decide +kernel) ?_
        refine lv_iload_n hx hb dX0_turnFilter_36 rfl (lv_at hl 0 rfl) ?_
        refine n_mul hx hb dX0_turnFilter_37 ?_
        refine lv_iload_n hx hb dX0_turnFilter_38 rfl (lv_at hl 1 rfl) ?_
        refine n_add hx hb dX0_turnFilter_39 ?_
        refine lv_aload_n hx hb dX0_turnFilter_40 rfl (lv_at hl 2 rfl) ?_
        refine lv_aload_n hx hb dX0_turnFilter_41 rfl (lv_at hl 2 rfl) ?_
        refine eg_we C hK hZ dX0_turnFilter_42 ?_
        refine lv_bipush (v := nI 9) hx hb dX0_turnFilter_45 (by decide +kernel) ?_
        refine lv_iload_n hx hb dX0_turnFilter_47 rfl (lv_at hl 3 rfl) ?_
        refine n_mul hx hb dX0_turnFilter_48 ?_
        refine lv_iload_n hx hb dX0_turnFilter_49 rfl (lv_at hl 1 rfl) ?_
        refine n_add hx hb dX0_turnFilter_50 ?_
        refine el_we C hK hZ (by omega) dX0_turnFilter_51 ?_
        refine lv_aload_n hx hb dX0_turnFilter_52 rfl (lv_at hl 2 rfl) ?_
        refine eg_we C hK hZ dX0_turnFilter_53 ?_
        refine lv_bipush (v := nI 9) hx hb dX0_turnFilter_56 (by decide +kernel) ?_
        refine lv_iload_n hx hb dX0_turnFilter_58 rfl (lv_at hl 3 rfl) ?_
        refine n_mul hx hb dX0_turnFilter_59 ?_
        refine lv_iconst (v := nI 3) hx hb dX0_turnFilter_60 (by decide +kernel) ?_
        refine n_add hx hb dX0_turnFilter_61 ?_
        refine lv_iload_n hx hb dX0_turnFilter_62 rfl (lv_at hl 1 rfl) ?_
        refine n_add hx hb dX0_turnFilter_63 ?_
        refine el_we C hK hZ (by omega) dX0_turnFilter_64 ?_
        refine lv_aload_n hx hb dX0_turnFilter_65 rfl (lv_at hl 2 rfl) ?_
        refine eg_we C hK hZ dX0_turnFilter_66 ?_
        refine lv_bipush (v := nI 9) hx hb dX0_turnFilter_69 (by decide +kernel) ?_
        refine lv_iload_n hx hb dX0_turnFilter_71 rfl (lv_at hl 3 rfl) ?_
        refine n_mul hx hb dX0_turnFilter_72 ?_
        refine lv_bipush (v := nI 6) hx hb dX0_turnFilter_73 (by decide +kernel) ?_
        refine n_add hx hb dX0_turnFilter_75 ?_
        refine lv_iload_n hx hb dX0_turnFilter_76 rfl (lv_at hl 1 rfl) ?_
        refine n_add hx hb dX0_turnFilter_77 ?_
        refine el_we C hK hZ (by omega) dX0_turnFilter_78 ?_
        refine lv_iload_n hx hb dX0_turnFilter_79 rfl (lv_at hl 0 rfl) ?_
        refine g_callp (ci := 0) (rest := [.int (nI ((4 * k) + i)), .ref (a 8)]) C (e_spread l _ _ _ k (by omega)) hwX0_spread hdX0_spread ⟨Nat.le_of_ble_eq_true rfl, Nat.le_of_ble_eq_true rfl⟩ hK hZ rfl rfl rfl rfl hl.1 rfl (Nat.le_of_ble_eq_true rfl) dX0_turnFilter_80 ⟨Nat.le_of_ble_eq_true rfl, Nat.le_of_ble_eq_true rfl⟩ ?_
        refine es_ha C hK hZ (by omega) dX0_turnFilter_83 (fun H locs hZ => ?_)
        have ev : sp (we (9 * f + i)) (we (9 * f + 3 + i)) (we (9 * f + 6 + i)) k = hw (fun z => we (9 * f + z)) (4 * k + i) := by
          simp only [hw, show (4 * k + i) % 4 = i by omega, show (4 * k + i) / 4 = k by omega, Nat.add_assoc]
        have hZ : gZ D (gA (aE a) s.heap.size) s.heap (eW a d im we (upd tk f 1) tu ip op ti (sel (fun j => decide ((j % 4 < i ∧ j / 4 < 4) ∨ (j % 4 = i ∧ j / 4 < (k + 1)))) (hw (fun z => we (9 * f + z))) ha) qu oo) H locs := by
          rw [show sel (fun j => decide ((j % 4 < i ∧ j / 4 < 4) ∨ (j % 4 = i ∧ j / 4 < (k + 1)))) (hw (fun z => we (9 * f + z))) ha = upd (sel (fun j => decide ((j % 4 < i ∧ j / 4 < 4) ∨ (j % 4 = i ∧ j / 4 < k))) (hw (fun z => we (9 * f + z))) ha) ((4 * k) + i) (sp (we (9 * f + i)) (we (9 * f + 3 + i)) (we (9 * f + 6 + i)) k) from (Eq.symm (sel_upd ev (by intro j; simp only [decide_eq_true_eq] <;> omega)))]
          exact hZ
        refine n_inc (lv' := [(3, .int (nI (k + 1))), (2, .int (nI i)), (0, .ref (a 0)), (1, .int (nI f))]) hx hb dX0_turnFilter_84 hl (kx := 0) rfl (by decide) rfl (fun ls hl => ?_)
        refine lv_goto (tgt := 26) hx hb dX0_turnFilter_87 (by decide) ?_
        exact ih _ _ _ ⟨hZ, hl⟩
  · exact g_vret hx hb hr hlk hK hZ dX0_turnFilter_9 (⟨tk, tu, ha, rfl, hT, h0⟩)

set_option maxHeartbeats 4000000 in
set_option maxRecDepth 100000 in
theorem e_loadTile (l : Launch) (D : va_G) (a : Nat → Nat) (d : Nat → ClassId) (im we tk tu ip op ti ha qu : Nat → Int32) (oo : Int32) (X Y : Nat) (hX : X ≤ 8) (hY : Y ≤ 8) : Mv l D (tyE d) (aE a) yX0_loadTile cX0_loadTile 7 none 0 0 (a 0) [.int (nI X - nI 1), .int (nI Y - nI 1)] (eW a d im we tk tu ip op ti ha qu oo) (fun u => u = eW a d im we tk tu ip op (fill 16 (fun j => pad ip (X + j % 4) (Y + j / 4)) ti) ha qu oo) := by
  refine Mv.of (by decide) (Nat.le_of_ble_eq_true rfl) rfl (fun p e s m below meth c C hr hlk hK hZ ls hl => ?_)
  have C : CallFix p m c cX0_loadTile 7 s _ lw_all RX0 := C
  have hx := C.1
  have hb := C.2.1
  have hl : lv_has ls 7 [(0, .ref (a 0)), (1, .int (nI X - nI 1)), (2, .int (nI Y - nI 1))] := hl
  refine lv_iconst (v := nI 0) hx hb dX0_loadTile_0 (by decide +kernel) ?_
  refine lv_istore_n (lv' := [(3, .int (nI 0)), (0, .ref (a 0)), (1, .int (nI X - nI 1)), (2, .int (nI Y - nI 1))]) hx hb dX0_loadTile_1 rfl hl (by decide) rfl (fun ls hl => ?_)
  have hZ : gZ D (gA (aE a) s.heap.size) s.heap (eW a d im we tk tu ip op (fill 0 (fun j => pad ip (X + j % 4) (Y + j / 4)) ti) ha qu oo) s.heap [] := by
    rw [show fill 0 (fun j => pad ip (X + j % 4) (Y + j / 4)) ti = ti from fill_0 _ _]
    exact hZ
  refine W_loop (N := 16) (fun k H locs ls => gZ D (gA (aE a) s.heap.size) s.heap (eW a d im we tk tu ip op (fill k (fun j => pad ip (X + j % 4) (Y + j / 4)) ti) ha qu oo) H locs ∧ lv_has ls 7 [(3, .int (nI k)), (0, .ref (a 0)), (1, .int (nI X - nI 1)), (2, .int (nI Y - nI 1))]) ?_ ?_ 0 (by omega) ⟨hZ, hl⟩
  · intro H locs ls hI
    obtain ⟨hZ, hl⟩ := hI
    refine lv_iload_n hx hb dX0_loadTile_2 rfl (lv_at hl 0 rfl) ?_
    refine lv_bipush (v := nI 16) hx hb dX0_loadTile_3 (by decide +kernel) ?_
    refine n_geY hx hb 87 dX0_loadTile_5 (by decide) (by omega) (by omega) ?_
    exact g_vret hx hb hr hlk hK hZ dX0_loadTile_87 rfl
  · intro k hk ih H locs ls hI
    obtain ⟨hZ, hl⟩ := hI
    refine lv_iload_n hx hb dX0_loadTile_2 rfl (lv_at hl 0 rfl) ?_
    refine lv_bipush (v := nI 16) hx hb dX0_loadTile_3 (by decide +kernel) ?_
    refine n_geN hx hb 87 dX0_loadTile_5 (by decide) (by omega) (by omega) ?_
    refine lv_iload_n hx hb dX0_loadTile_8 rfl (lv_at hl 2 rfl) ?_
    refine lv_iload_n hx hb dX0_loadTile_9 rfl (lv_at hl 0 rfl) ?_
    refine lv_iconst (v := nI 4) hx hb dX0_loadTile_10 (by decide +kernel) ?_
    refine n_rem hx hb (by omega) (by omega) (by omega) dX0_loadTile_11 ?_
    refine lv_iadd hx hb dX0_loadTile_12 ?_
    refine i_top (y := nI (X + k % 4) - nI 1) (pI_add X (k % 4)) ?_
    refine lv_istore (lv' := [(4, .int (nI (X + k % 4) - nI 1)), (3, .int (nI k)), (0, .ref (a 0)), (1, .int (nI X - nI 1)), (2, .int (nI Y - nI 1))]) hx hb dX0_loadTile_13 hl (by decide) rfl (fun ls hl => ?_)
    refine lv_iload_n hx hb dX0_loadTile_15 rfl (lv_at hl 4 rfl) ?_
    refine lv_iload_n hx hb dX0_loadTile_16 rfl (lv_at hl 1 rfl) ?_
    refine lv_iconst (v := nI 4) hx hb dX0_loadTile_17 (by decide +kernel) ?_
    refine n_div hx hb (by omega) (by omega) (by omega) dX0_loadTile_18 ?_
    refine lv_iadd hx hb dX0_loadTile_19 ?_
    refine i_top (y := nI (Y + k / 4) - nI 1) (pI_add Y (k / 4)) ?_
    refine lv_istore (lv' := [(5, .int (nI (Y + k / 4) - nI 1)), (4, .int (nI (X + k % 4) - nI 1)), (3, .int (nI k)), (0, .ref (a 0)), (1, .int (nI X - nI 1)), (2, .int (nI Y - nI 1))]) hx hb dX0_loadTile_20 hl (by decide) rfl (fun ls hl => ?_)
    refine lv_iload hx hb dX0_loadTile_22 (lv_at hl 1 rfl) ?_
    by_cases h1 : X + k % 4 = 0
    · refine z_ltY hx hb 50 dX0_loadTile_24 (by decide) (pI_lt h1) ?_
      refine lv_iconst (v := nI 0) hx hb dX0_loadTile_50 (by decide +kernel) ?_
      refine lv_istore (lv' := [(6, .int (nI 0)), (5, .int (nI (Y + k / 4) - nI 1)), (4, .int (nI (X + k % 4) - nI 1)), (3, .int (nI k)), (0, .ref (a 0)), (1, .int (nI X - nI 1)), (2, .int (nI Y - nI 1))]) hx hb dX0_loadTile_51 hl (by decide) rfl (fun ls hl => ?_)
      refine lv_aload_n hx hb dX0_loadTile_53 rfl (lv_at hl 4 rfl) ?_
      refine eg_ti C hK hZ dX0_loadTile_54 ?_
      refine lv_iload_n hx hb dX0_loadTile_57 rfl (lv_at hl 3 rfl) ?_
      refine lv_iload hx hb dX0_loadTile_58 (lv_at hl 0 rfl) ?_
      refine z_eqY hx hb 79 dX0_loadTile_60 (by decide) (by decide +kernel) ?_
      refine lv_iconst (v := nI 0) hx hb dX0_loadTile_79 (by decide +kernel) ?_
      refine es_ti C hK hZ (by omega) dX0_loadTile_80 (fun H locs hZ => ?_)
      have hZ : gZ D (gA (aE a) s.heap.size) s.heap (eW a d im we tk tu ip op (fill (k + 1) (fun j => pad ip (X + j % 4) (Y + j / 4)) ti) ha qu oo) H locs := by
        rw [show fill (k + 1) (fun j => pad ip (X + j % 4) (Y + j / 4)) ti = upd (fill k (fun j => pad ip (X + j % 4) (Y + j / 4)) ti) k (nI 0) from (Eq.symm (fill_upd (pad_out (u := X + k % 4) (v := Y + k / 4) (by omega))))]
        exact hZ
      refine n_inc (lv' := [(3, .int (nI (k + 1))), (6, .int (nI 0)), (5, .int (nI (Y + k / 4) - nI 1)), (4, .int (nI (X + k % 4) - nI 1)), (0, .ref (a 0)), (1, .int (nI X - nI 1)), (2, .int (nI Y - nI 1))]) hx hb dX0_loadTile_81 hl (kx := 3) rfl (by decide) rfl (fun ls hl => ?_)
      refine lv_goto (tgt := 2) hx hb dX0_loadTile_84 (by decide) ?_
      exact ih _ _ _ ⟨hZ, lv_sub hl [0, 4, 5, 6] rfl⟩
    · refine z_ltN hx hb 50 dX0_loadTile_24 (by decide) (pI_nlt (by omega) (by omega)) ?_
      refine lv_iload hx hb dX0_loadTile_27 (lv_at hl 1 rfl) ?_
      refine lv_bipush (v := nI 10) hx hb dX0_loadTile_29 (by decide +kernel) ?_
      by_cases h2 : 11 ≤ X + k % 4
      · refine c_geY hx hb 50 dX0_loadTile_31 (by decide) (pI_ge h2 (by omega)) ?_
        refine lv_iconst (v := nI 0) hx hb dX0_loadTile_50 (by decide +kernel) ?_
        refine lv_istore (lv' := [(6, .int (nI 0)), (5, .int (nI (Y + k / 4) - nI 1)), (4, .int (nI (X + k % 4) - nI 1)), (3, .int (nI k)), (0, .ref (a 0)), (1, .int (nI X - nI 1)), (2, .int (nI Y - nI 1))]) hx hb dX0_loadTile_51 hl (by decide) rfl (fun ls hl => ?_)
        refine lv_aload_n hx hb dX0_loadTile_53 rfl (lv_at hl 4 rfl) ?_
        refine eg_ti C hK hZ dX0_loadTile_54 ?_
        refine lv_iload_n hx hb dX0_loadTile_57 rfl (lv_at hl 3 rfl) ?_
        refine lv_iload hx hb dX0_loadTile_58 (lv_at hl 0 rfl) ?_
        refine z_eqY hx hb 79 dX0_loadTile_60 (by decide) (by decide +kernel) ?_
        refine lv_iconst (v := nI 0) hx hb dX0_loadTile_79 (by decide +kernel) ?_
        refine es_ti C hK hZ (by omega) dX0_loadTile_80 (fun H locs hZ => ?_)
        have hZ : gZ D (gA (aE a) s.heap.size) s.heap (eW a d im we tk tu ip op (fill (k + 1) (fun j => pad ip (X + j % 4) (Y + j / 4)) ti) ha qu oo) H locs := by
          rw [show fill (k + 1) (fun j => pad ip (X + j % 4) (Y + j / 4)) ti = upd (fill k (fun j => pad ip (X + j % 4) (Y + j / 4)) ti) k (nI 0) from (Eq.symm (fill_upd (pad_out (u := X + k % 4) (v := Y + k / 4) (by omega))))]
          exact hZ
        refine n_inc (lv' := [(3, .int (nI (k + 1))), (6, .int (nI 0)), (5, .int (nI (Y + k / 4) - nI 1)), (4, .int (nI (X + k % 4) - nI 1)), (0, .ref (a 0)), (1, .int (nI X - nI 1)), (2, .int (nI Y - nI 1))]) hx hb dX0_loadTile_81 hl (kx := 3) rfl (by decide) rfl (fun ls hl => ?_)
        refine lv_goto (tgt := 2) hx hb dX0_loadTile_84 (by decide) ?_
        exact ih _ _ _ ⟨hZ, lv_sub hl [0, 4, 5, 6] rfl⟩
      · refine c_geN hx hb 50 dX0_loadTile_31 (by decide) (pI_nge (by omega) (by omega)) ?_
        refine lv_iload hx hb dX0_loadTile_34 (lv_at hl 0 rfl) ?_
        by_cases h3 : Y + k / 4 = 0
        · refine z_ltY hx hb 50 dX0_loadTile_36 (by decide) (pI_lt h3) ?_
          refine lv_iconst (v := nI 0) hx hb dX0_loadTile_50 (by decide +kernel) ?_
          refine lv_istore (lv' := [(6, .int (nI 0)), (5, .int (nI (Y + k / 4) - nI 1)), (4, .int (nI (X + k % 4) - nI 1)), (3, .int (nI k)), (0, .ref (a 0)), (1, .int (nI X - nI 1)), (2, .int (nI Y - nI 1))]) hx hb dX0_loadTile_51 hl (by decide) rfl (fun ls hl => ?_)
          refine lv_aload_n hx hb dX0_loadTile_53 rfl (lv_at hl 4 rfl) ?_
          refine eg_ti C hK hZ dX0_loadTile_54 ?_
          refine lv_iload_n hx hb dX0_loadTile_57 rfl (lv_at hl 3 rfl) ?_
          refine lv_iload hx hb dX0_loadTile_58 (lv_at hl 0 rfl) ?_
          refine z_eqY hx hb 79 dX0_loadTile_60 (by decide) (by decide +kernel) ?_
          refine lv_iconst (v := nI 0) hx hb dX0_loadTile_79 (by decide +kernel) ?_
          refine es_ti C hK hZ (by omega) dX0_loadTile_80 (fun H locs hZ => ?_)
          have hZ : gZ D (gA (aE a) s.heap.size) s.heap (eW a d im we tk tu ip op (fill (k + 1) (fun j => pad ip (X + j % 4) (Y + j / 4)) ti) ha qu oo) H locs := by
            rw [show fill (k + 1) (fun j => pad ip (X + j % 4) (Y + j / 4)) ti = upd (fill k (fun j => pad ip (X + j % 4) (Y + j / 4)) ti) k (nI 0) from (Eq.symm (fill_upd (pad_out (u := X + k % 4) (v := Y + k / 4) (by omega))))]
            exact hZ
          refine n_inc (lv' := [(3, .int (nI (k + 1))), (6, .int (nI 0)), (5, .int (nI (Y + k / 4) - nI 1)), (4, .int (nI (X + k % 4) - nI 1)), (0, .ref (a 0)), (1, .int (nI X - nI 1)), (2, .int (nI Y - nI 1))]) hx hb dX0_loadTile_81 hl (kx := 3) rfl (by decide) rfl (fun ls hl => ?_)
          refine lv_goto (tgt := 2) hx hb dX0_loadTile_84 (by decide) ?_
          exact ih _ _ _ ⟨hZ, lv_sub hl [0, 4, 5, 6] rfl⟩
        · refine z_ltN hx hb 50 dX0_loadTile_36 (by decide) (pI_nlt (by omega) (by omega)) ?_
          refine lv_iload hx hb dX0_loadTile_39 (lv_at hl 0 rfl) ?_
          refine lv_bipush (v := nI 10) hx hb dX0_loadTile_41 (by decide +kernel) ?_
          by_cases h4 : 11 ≤ Y + k / 4
          · refine c_geY hx hb 50 dX0_loadTile_43 (by decide) (pI_ge h4 (by omega)) ?_
            refine lv_iconst (v := nI 0) hx hb dX0_loadTile_50 (by decide +kernel) ?_
            refine lv_istore (lv' := [(6, .int (nI 0)), (5, .int (nI (Y + k / 4) - nI 1)), (4, .int (nI (X + k % 4) - nI 1)), (3, .int (nI k)), (0, .ref (a 0)), (1, .int (nI X - nI 1)), (2, .int (nI Y - nI 1))]) hx hb dX0_loadTile_51 hl (by decide) rfl (fun ls hl => ?_)
            refine lv_aload_n hx hb dX0_loadTile_53 rfl (lv_at hl 4 rfl) ?_
            refine eg_ti C hK hZ dX0_loadTile_54 ?_
            refine lv_iload_n hx hb dX0_loadTile_57 rfl (lv_at hl 3 rfl) ?_
            refine lv_iload hx hb dX0_loadTile_58 (lv_at hl 0 rfl) ?_
            refine z_eqY hx hb 79 dX0_loadTile_60 (by decide) (by decide +kernel) ?_
            refine lv_iconst (v := nI 0) hx hb dX0_loadTile_79 (by decide +kernel) ?_
            refine es_ti C hK hZ (by omega) dX0_loadTile_80 (fun H locs hZ => ?_)
            have hZ : gZ D (gA (aE a) s.heap.size) s.heap (eW a d im we tk tu ip op (fill (k + 1) (fun j => pad ip (X + j % 4) (Y + j / 4)) ti) ha qu oo) H locs := by
              rw [show fill (k + 1) (fun j => pad ip (X + j % 4) (Y + j / 4)) ti = upd (fill k (fun j => pad ip (X + j % 4) (Y + j / 4)) ti) k (nI 0) from (Eq.symm (fill_upd (pad_out (u := X + k % 4) (v := Y + k / 4) (by omega))))]
              exact hZ
            refine n_inc (lv' := [(3, .int (nI (k + 1))), (6, .int (nI 0)), (5, .int (nI (Y + k / 4) - nI 1)), (4, .int (nI (X + k % 4) - nI 1)), (0, .ref (a 0)), (1, .int (nI X - nI 1)), (2, .int (nI Y - nI 1))]) hx hb dX0_loadTile_81 hl (kx := 3) rfl (by decide) rfl (fun ls hl => ?_)
            refine lv_goto (tgt := 2) hx hb dX0_loadTile_84 (by decide) ?_
            exact ih _ _ _ ⟨hZ, lv_sub hl [0, 4, 5, 6] rfl⟩
          · refine c_geN hx hb 50 dX0_loadTile_43 (by decide) (pI_nge (by omega) (by omega)) ?_
            refine lv_iconst (v := nI 1) hx hb dX0_loadTile_46 (by decide +kernel) ?_
            refine lv_goto (tgt := 51) hx hb dX0_loadTile_47 (by decide) ?_
            refine lv_istore (lv' := [(6, .int (nI 1)), (5, .int (nI (Y + k / 4) - nI 1)), (4, .int (nI (X + k % 4) - nI 1)), (3, .int (nI k)), (0, .ref (a 0)), (1, .int (nI X - nI 1)), (2, .int (nI Y - nI 1))]) hx hb dX0_loadTile_51 hl (by decide) rfl (fun ls hl => ?_)
            refine lv_aload_n hx hb dX0_loadTile_53 rfl (lv_at hl 4 rfl) ?_
            refine eg_ti C hK hZ dX0_loadTile_54 ?_
            refine lv_iload_n hx hb dX0_loadTile_57 rfl (lv_at hl 3 rfl) ?_
            refine lv_iload hx hb dX0_loadTile_58 (lv_at hl 0 rfl) ?_
            refine z_eqN hx hb 79 dX0_loadTile_60 (by decide) (by decide +kernel) ?_
            refine lv_aload_n hx hb dX0_loadTile_63 rfl (lv_at hl 4 rfl) ?_
            refine eg_ip C hK hZ dX0_loadTile_64 ?_
            refine lv_bipush (v := nI 10) hx hb dX0_loadTile_67 (by decide +kernel) ?_
            refine lv_iload hx hb dX0_loadTile_69 (lv_at hl 1 rfl) ?_
            refine i_top (y := nI (Y + k / 4 - 1)) (pk_sub (by omega)) ?_
            refine n_mul hx hb dX0_loadTile_71 ?_
            refine lv_iload hx hb dX0_loadTile_72 (lv_at hl 2 rfl) ?_
            refine i_top (y := nI (X + k % 4 - 1)) (pk_sub (by omega)) ?_
            refine n_add hx hb dX0_loadTile_74 ?_
            refine el_ip C hK hZ (by omega) dX0_loadTile_75 ?_
            refine lv_goto (tgt := 80) hx hb dX0_loadTile_76 (by decide) ?_
            refine es_ti C hK hZ (by omega) dX0_loadTile_80 (fun H locs hZ => ?_)
            have hZ : gZ D (gA (aE a) s.heap.size) s.heap (eW a d im we tk tu ip op (fill (k + 1) (fun j => pad ip (X + j % 4) (Y + j / 4)) ti) ha qu oo) H locs := by
              rw [show fill (k + 1) (fun j => pad ip (X + j % 4) (Y + j / 4)) ti = upd (fill k (fun j => pad ip (X + j % 4) (Y + j / 4)) ti) k (ip ((10 * (Y + k / 4 - 1)) + (X + k % 4 - 1))) from (Eq.symm (fill_upd (pad_in (u := X + k % 4) (v := Y + k / 4) (by omega))))]
              exact hZ
            refine n_inc (lv' := [(3, .int (nI (k + 1))), (6, .int (nI 1)), (5, .int (nI (Y + k / 4) - nI 1)), (4, .int (nI (X + k % 4) - nI 1)), (0, .ref (a 0)), (1, .int (nI X - nI 1)), (2, .int (nI Y - nI 1))]) hx hb dX0_loadTile_81 hl (kx := 3) rfl (by decide) rfl (fun ls hl => ?_)
            refine lv_goto (tgt := 2) hx hb dX0_loadTile_84 (by decide) ?_
            exact ih _ _ _ ⟨hZ, lv_sub hl [0, 4, 5, 6] rfl⟩

set_option maxHeartbeats 4000000 in
set_option maxRecDepth 100000 in
theorem e_turnTile (l : Launch) (D : va_G) (a : Nat → Nat) (d : Nat → ClassId) (im we tk tu ip op ti ha qu : Nat → Int32) (oo : Int32)  : Mv l D (tyE d) (aE a) yX0_turnTile cX0_turnTile 3 none 1 25 (a 0) [] (eW a d im we tk tu ip op ti ha qu oo) (fun u => ∃ ha', u = eW a d im we tk tu ip op (fill 16 (tm ti) ti) ha' qu oo) := by
  refine Mv.of (by decide) (Nat.le_of_ble_eq_true rfl) rfl (fun p e s m below meth c C hr hlk hK hZ ls hl => ?_)
  have C : CallFix p m c cX0_turnTile 3 s _ lw_all RX0 := C
  have hx := C.1
  have hb := C.2.1
  have hl : lv_has ls 3 [(0, .ref (a 0))] := hl
  refine lv_iconst (v := nI 0) hx hb dX0_turnTile_0 (by decide +kernel) ?_
  refine lv_istore_n (lv' := [(1, .int (nI 0)), (0, .ref (a 0))]) hx hb dX0_turnTile_1 rfl hl (by decide) rfl (fun ls hl => ?_)
  have hZ : gZ D (gA (aE a) s.heap.size) s.heap (eW a d im we tk tu ip op ti (sel (fun j => decide (j % 4 < 0 ∧ j / 4 < 4)) (hm ti) ha) qu oo) s.heap [] := by
    rw [show sel (fun j => decide (j % 4 < 0 ∧ j / 4 < 4)) (hm ti) ha = ha from sel_no (by intro j; simp only [decide_eq_true_eq] <;> omega)]
    exact hZ
  refine W_loop (N := 4) (fun i H locs ls => gZ D (gA (aE a) s.heap.size) s.heap (eW a d im we tk tu ip op ti (sel (fun j => decide (j % 4 < i ∧ j / 4 < 4)) (hm ti) ha) qu oo) H locs ∧ lv_has ls 3 [(1, .int (nI i)), (0, .ref (a 0))]) ?_ ?_ 0 (by omega) ⟨hZ, hl⟩
  · intro H locs ls hI
    obtain ⟨hZ, hl⟩ := hI
    refine lv_iload_n hx hb dX0_turnTile_2 rfl (lv_at hl 0 rfl) ?_
    refine lv_iconst (v := nI 4) hx hb dX0_turnTile_3 (by decide +kernel) ?_
    refine n_geY hx hb 73 dX0_turnTile_4 (by decide) (by omega) (by omega) ?_
    refine lv_iconst (v := nI 0) hx hb dX0_turnTile_73 (by decide +kernel) ?_
    refine lv_istore_n (lv' := [(1, .int (nI 0)), (0, .ref (a 0))]) hx hb dX0_turnTile_74 rfl hl (by decide) rfl (fun ls hl => ?_)
    have hZ : gZ D (gA (aE a) s.heap.size) s.heap (eW a d im we tk tu ip op (fill (4 * 0) (tm ti) ti) (sel (fun j => decide (j % 4 < 4 ∧ j / 4 < 4)) (hm ti) ha) qu oo) H locs := by
      rw [show fill (4 * 0) (tm ti) ti = ti from fill_0 _ _]
      exact hZ
    refine W_loop (N := 4) (fun i H locs ls => gZ D (gA (aE a) s.heap.size) s.heap (eW a d im we tk tu ip op (fill (4 * i) (tm ti) ti) (sel (fun j => decide (j % 4 < 4 ∧ j / 4 < 4)) (hm ti) ha) qu oo) H locs ∧ lv_has ls 3 [(1, .int (nI i)), (0, .ref (a 0))]) ?_ ?_ 0 (by omega) ⟨hZ, hl⟩
    · intro H locs ls hI
      obtain ⟨hZ, hl⟩ := hI
      refine lv_iload_n hx hb dX0_turnTile_75 rfl (lv_at hl 0 rfl) ?_
      refine lv_iconst (v := nI 4) hx hb dX0_turnTile_76 (by decide +kernel) ?_
      refine n_geY hx hb 152 dX0_turnTile_77 (by decide) (by omega) (by omega) ?_
      exact g_vret hx hb hr hlk hK hZ dX0_turnTile_152 (⟨_, rfl⟩)
    · intro i hi ih H locs ls hI
      obtain ⟨hZ, hl⟩ := hI
      refine lv_iload_n hx hb dX0_turnTile_75 rfl (lv_at hl 0 rfl) ?_
      refine lv_iconst (v := nI 4) hx hb dX0_turnTile_76 (by decide +kernel) ?_
      refine n_geN hx hb 152 dX0_turnTile_77 (by decide) (by omega) (by omega) ?_
      refine lv_iconst (v := nI 0) hx hb dX0_turnTile_80 (by decide +kernel) ?_
      refine lv_istore_n (lv' := [(2, .int (nI 0)), (1, .int (nI i)), (0, .ref (a 0))]) hx hb dX0_turnTile_81 rfl hl (by decide) rfl (fun ls hl => ?_)
      refine W_loop (N := 4) (fun k H locs ls => gZ D (gA (aE a) s.heap.size) s.heap (eW a d im we tk tu ip op (fill (4 * i + k) (tm ti) ti) (sel (fun j => decide (j % 4 < 4 ∧ j / 4 < 4)) (hm ti) ha) qu oo) H locs ∧ lv_has ls 3 [(2, .int (nI k)), (1, .int (nI i)), (0, .ref (a 0))]) ?_ ?_ 0 (by omega) ⟨hZ, hl⟩
      · intro H locs ls hI
        obtain ⟨hZ, hl⟩ := hI
        refine lv_iload_n hx hb dX0_turnTile_82 rfl (lv_at hl 0 rfl) ?_
        refine lv_iconst (v := nI 4) hx hb dX0_turnTile_83 (by decide +kernel) ?_
        refine n_geY hx hb 146 dX0_turnTile_84 (by decide) (by omega) (by omega) ?_
        refine n_inc (lv' := [(1, .int (nI (i + 1))), (2, .int (nI 4)), (0, .ref (a 0))]) hx hb dX0_turnTile_146 hl (kx := 1) rfl (by decide) rfl (fun ls hl => ?_)
        refine lv_goto (tgt := 75) hx hb dX0_turnTile_149 (by decide) ?_
        have hZ : gZ D (gA (aE a) s.heap.size) s.heap (eW a d im we tk tu ip op (fill (4 * (i + 1)) (tm ti) ti) (sel (fun j => decide (j % 4 < 4 ∧ j / 4 < 4)) (hm ti) ha) qu oo) H locs := by
          rw [show fill (4 * (i + 1)) (tm ti) ti = fill (4 * i + 4) (tm ti) ti from (by rw [show 4 * (i + 1) = 4 * i + 4 by omega])]
          exact hZ
        exact ih _ _ _ ⟨hZ, lv_sub hl [0, 2] rfl⟩
      · intro k hk ih H locs ls hI
        obtain ⟨hZ, hl⟩ := hI
        refine lv_iload_n hx hb dX0_turnTile_82 rfl (lv_at hl 0 rfl) ?_
        refine lv_iconst (v := nI 4) hx hb dX0_turnTile_83 (by decide +kernel) ?_
        refine n_geN hx hb 146 dX0_turnTile_84 (by decide) (by omega) (by omega) ?_
        refine lv_aload_n hx hb dX0_turnTile_87 rfl (lv_at hl 2 rfl) ?_
        refine eg_ti C hK hZ dX0_turnTile_88 ?_
        refine lv_iconst (v := nI 4) hx hb dX0_turnTile_91 (by decide +kernel) ?_
        refine lv_iload_n hx hb dX0_turnTile_92 rfl (lv_at hl 1 rfl) ?_
        refine n_mul hx hb dX0_turnTile_93 ?_
        refine lv_iload_n hx hb dX0_turnTile_94 rfl (lv_at hl 0 rfl) ?_
        refine n_add hx hb dX0_turnTile_95 ?_
        refine lv_aload_n hx hb dX0_turnTile_96 rfl (lv_at hl 2 rfl) ?_
        refine lv_aload_n hx hb dX0_turnTile_97 rfl (lv_at hl 2 rfl) ?_
        refine eg_ha C hK hZ dX0_turnTile_98 ?_
        refine lv_iconst (v := nI 4) hx hb dX0_turnTile_101 (by decide +kernel) ?_
        refine lv_iload_n hx hb dX0_turnTile_102 rfl (lv_at hl 1 rfl) ?_
        refine n_mul hx hb dX0_turnTile_103 ?_
        refine el_ha C hK hZ (by omega) dX0_turnTile_104 ?_
        refine lv_aload_n hx hb dX0_turnTile_105 rfl (lv_at hl 2 rfl) ?_
        refine eg_ha C hK hZ dX0_turnTile_106 ?_
        refine lv_iconst (v := nI 4) hx hb dX0_turnTile_109 (by decide +kernel) ?_
        refine lv_iload_n hx hb dX0_turnTile_110 rfl (lv_at hl 1 rfl) ?_
        refine n_mul hx hb dX0_turnTile_111 ?_
        refine lv_iconst (v := nI 1) hx hb dX0_turnTile_112 (by decide +kernel) ?_
        refine n_add hx hb dX0_turnTile_113 ?_
        refine el_ha C hK hZ (by omega) dX0_turnTile_114 ?_
        refine lv_aload_n hx hb dX0_turnTile_115 rfl (lv_at hl 2 rfl) ?_
        refine eg_ha C hK hZ dX0_turnTile_116 ?_
        refine lv_iconst (v := nI 4) hx hb dX0_turnTile_119 (by decide +kernel) ?_
        refine lv_iload_n hx hb dX0_turnTile_120 rfl (lv_at hl 1 rfl) ?_
        refine n_mul hx hb dX0_turnTile_121 ?_
        refine lv_iconst (v := nI 2) hx hb dX0_turnTile_122 (by decide +kernel) ?_
        refine n_add hx hb dX0_turnTile_123 ?_
        refine el_ha C hK hZ (by omega) dX0_turnTile_124 ?_
        refine lv_aload_n hx hb dX0_turnTile_125 rfl (lv_at hl 2 rfl) ?_
        refine eg_ha C hK hZ dX0_turnTile_126 ?_
        refine lv_iconst (v := nI 4) hx hb dX0_turnTile_129 (by decide +kernel) ?_
        refine lv_iload_n hx hb dX0_turnTile_130 rfl (lv_at hl 1 rfl) ?_
        refine n_mul hx hb dX0_turnTile_131 ?_
        refine lv_iconst (v := nI 3) hx hb dX0_turnTile_132 (by decide +kernel) ?_
        refine n_add hx hb dX0_turnTile_133 ?_
        refine el_ha C hK hZ (by omega) dX0_turnTile_134 ?_
        refine lv_iload_n hx hb dX0_turnTile_135 rfl (lv_at hl 0 rfl) ?_
        refine g_callp (ci := 0) (rest := [.int (nI ((4 * i) + k)), .ref (a 7)]) C (e_mixed l _ _ _ _ k (by omega)) hwX0_mixed hdX0_mixed ⟨Nat.le_of_ble_eq_true rfl, Nat.le_of_ble_eq_true rfl⟩ hK hZ rfl rfl rfl rfl hl.1 rfl (Nat.le_of_ble_eq_true rfl) dX0_turnTile_136 ⟨Nat.le_of_ble_eq_true rfl, Nat.le_of_ble_eq_true rfl⟩ ?_
        refine es_ti C hK hZ (by omega) dX0_turnTile_139 (fun H locs hZ => ?_)
        have ei : (sel (fun j => decide (j % 4 < 4 ∧ j / 4 < 4)) (hm ti) ha) (4 * i) = hm ti (4 * i) := sel_in (by simp only [decide_eq_true_eq]; omega)
        have e1 : (sel (fun j => decide (j % 4 < 4 ∧ j / 4 < 4)) (hm ti) ha) (4 * i + 1) = hm ti (4 * i + 1) := sel_in (by simp only [decide_eq_true_eq]; omega)
        have e2 : (sel (fun j => decide (j % 4 < 4 ∧ j / 4 < 4)) (hm ti) ha) (4 * i + 2) = hm ti (4 * i + 2) := sel_in (by simp only [decide_eq_true_eq]; omega)
        have e3 : (sel (fun j => decide (j % 4 < 4 ∧ j / 4 < 4)) (hm ti) ha) (4 * i + 3) = hm ti (4 * i + 3) := sel_in (by simp only [decide_eq_true_eq]; omega)
        have ev : mx ((sel (fun j => decide (j % 4 < 4 ∧ j / 4 < 4)) (hm ti) ha) (4 * i)) ((sel (fun j => decide (j % 4 < 4 ∧ j / 4 < 4)) (hm ti) ha) ((4 * i) + 1)) ((sel (fun j => decide (j % 4 < 4 ∧ j / 4 < 4)) (hm ti) ha) ((4 * i) + 2)) ((sel (fun j => decide (j % 4 < 4 ∧ j / 4 < 4)) (hm ti) ha) ((4 * i) + 3)) k = tm ti (4 * i + k) := by
          rw [ei, e1, e2, e3]
          simp only [tm, show (4 * i + k) / 4 = i by omega, show (4 * i + k) % 4 = k by omega]
        have hZ : gZ D (gA (aE a) s.heap.size) s.heap (eW a d im we tk tu ip op (fill (4 * i + (k + 1)) (tm ti) ti) (sel (fun j => decide (j % 4 < 4 ∧ j / 4 < 4)) (hm ti) ha) qu oo) H locs := by
          rw [show fill (4 * i + (k + 1)) (tm ti) ti = upd (fill (4 * i + k) (tm ti) ti) ((4 * i) + k) (mx ((sel (fun j => decide (j % 4 < 4 ∧ j / 4 < 4)) (hm ti) ha) (4 * i)) ((sel (fun j => decide (j % 4 < 4 ∧ j / 4 < 4)) (hm ti) ha) ((4 * i) + 1)) ((sel (fun j => decide (j % 4 < 4 ∧ j / 4 < 4)) (hm ti) ha) ((4 * i) + 2)) ((sel (fun j => decide (j % 4 < 4 ∧ j / 4 < 4)) (hm ti) ha) ((4 * i) + 3)) k) from (Eq.symm (fill_upd ev))]
          exact hZ
        refine n_inc (lv' := [(2, .int (nI (k + 1))), (1, .int (nI i)), (0, .ref (a 0))]) hx hb dX0_turnTile_140 hl (kx := 0) rfl (by decide) rfl (fun ls hl => ?_)
        refine lv_goto (tgt := 82) hx hb dX0_turnTile_143 (by decide) ?_
        exact ih _ _ _ ⟨hZ, hl⟩
  · intro i hi ih H locs ls hI
    obtain ⟨hZ, hl⟩ := hI
    refine lv_iload_n hx hb dX0_turnTile_2 rfl (lv_at hl 0 rfl) ?_
    refine lv_iconst (v := nI 4) hx hb dX0_turnTile_3 (by decide +kernel) ?_
    refine n_geN hx hb 73 dX0_turnTile_4 (by decide) (by omega) (by omega) ?_
    refine lv_iconst (v := nI 0) hx hb dX0_turnTile_7 (by decide +kernel) ?_
    refine lv_istore_n (lv' := [(2, .int (nI 0)), (1, .int (nI i)), (0, .ref (a 0))]) hx hb dX0_turnTile_8 rfl hl (by decide) rfl (fun ls hl => ?_)
    have hZ : gZ D (gA (aE a) s.heap.size) s.heap (eW a d im we tk tu ip op ti (sel (fun j => decide ((j % 4 < i ∧ j / 4 < 4) ∨ (j % 4 = i ∧ j / 4 < 0))) (hm ti) ha) qu oo) H locs := by
      rw [show sel (fun j => decide ((j % 4 < i ∧ j / 4 < 4) ∨ (j % 4 = i ∧ j / 4 < 0))) (hm ti) ha = sel (fun j => decide (j % 4 < i ∧ j / 4 < 4)) (hm ti) ha from sel_eq (by intro j; simp only [decide_eq_true_eq] <;> omega)]
      exact hZ
    refine W_loop (N := 4) (fun k H locs ls => gZ D (gA (aE a) s.heap.size) s.heap (eW a d im we tk tu ip op ti (sel (fun j => decide ((j % 4 < i ∧ j / 4 < 4) ∨ (j % 4 = i ∧ j / 4 < k))) (hm ti) ha) qu oo) H locs ∧ lv_has ls 3 [(2, .int (nI k)), (1, .int (nI i)), (0, .ref (a 0))]) ?_ ?_ 0 (by omega) ⟨hZ, hl⟩
    · intro H locs ls hI
      obtain ⟨hZ, hl⟩ := hI
      refine lv_iload_n hx hb dX0_turnTile_9 rfl (lv_at hl 0 rfl) ?_
      refine lv_iconst (v := nI 4) hx hb dX0_turnTile_10 (by decide +kernel) ?_
      refine n_geY hx hb 67 dX0_turnTile_11 (by decide) (by omega) (by omega) ?_
      refine n_inc (lv' := [(1, .int (nI (i + 1))), (2, .int (nI 4)), (0, .ref (a 0))]) hx hb dX0_turnTile_67 hl (kx := 1) rfl (by decide) rfl (fun ls hl => ?_)
      refine lv_goto (tgt := 2) hx hb dX0_turnTile_70 (by decide) ?_
      have hZ : gZ D (gA (aE a) s.heap.size) s.heap (eW a d im we tk tu ip op ti (sel (fun j => decide (j % 4 < (i + 1) ∧ j / 4 < 4)) (hm ti) ha) qu oo) H locs := by
        rw [show sel (fun j => decide (j % 4 < (i + 1) ∧ j / 4 < 4)) (hm ti) ha = sel (fun j => decide ((j % 4 < i ∧ j / 4 < 4) ∨ (j % 4 = i ∧ j / 4 < 4))) (hm ti) ha from sel_eq (by intro j; simp only [decide_eq_true_eq] <;> omega)]
        exact hZ
      exact ih _ _ _ ⟨hZ, lv_sub hl [0, 2] rfl⟩
    · intro k hk ih H locs ls hI
      obtain ⟨hZ, hl⟩ := hI
      refine lv_iload_n hx hb dX0_turnTile_9 rfl (lv_at hl 0 rfl) ?_
      refine lv_iconst (v := nI 4) hx hb dX0_turnTile_10 (by decide +kernel) ?_
      refine n_geN hx hb 67 dX0_turnTile_11 (by decide) (by omega) (by omega) ?_
      refine lv_aload_n hx hb dX0_turnTile_14 rfl (lv_at hl 2 rfl) ?_
      refine eg_ha C hK hZ dX0_turnTile_15 ?_
      refine lv_iconst (v := nI 4) hx hb dX0_turnTile_18 (by decide +kernel) ?_
      refine lv_iload_n hx hb dX0_turnTile_19 rfl (lv_at hl 0 rfl) ?_
      refine n_mul hx hb dX0_turnTile_20 ?_
      refine lv_iload_n hx hb dX0_turnTile_21 rfl (lv_at hl 1 rfl) ?_
      refine n_add hx hb dX0_turnTile_22 ?_
      refine lv_aload_n hx hb dX0_turnTile_23 rfl (lv_at hl 2 rfl) ?_
      refine lv_aload_n hx hb dX0_turnTile_24 rfl (lv_at hl 2 rfl) ?_
      refine eg_ti C hK hZ dX0_turnTile_25 ?_
      refine lv_iload_n hx hb dX0_turnTile_28 rfl (lv_at hl 1 rfl) ?_
      refine el_ti C hK hZ (by omega) dX0_turnTile_29 ?_
      refine lv_aload_n hx hb dX0_turnTile_30 rfl (lv_at hl 2 rfl) ?_
      refine eg_ti C hK hZ dX0_turnTile_31 ?_
      refine lv_iconst (v := nI 4) hx hb dX0_turnTile_34 (by decide +kernel) ?_
      refine lv_iload_n hx hb dX0_turnTile_35 rfl (lv_at hl 1 rfl) ?_
      refine n_add hx hb dX0_turnTile_36 ?_
      refine el_ti C hK hZ (by omega) dX0_turnTile_37 ?_
      refine lv_aload_n hx hb dX0_turnTile_38 rfl (lv_at hl 2 rfl) ?_
      refine eg_ti C hK hZ dX0_turnTile_39 ?_
      refine lv_bipush (v := nI 8) hx hb dX0_turnTile_42 (by decide +kernel) ?_
      refine lv_iload_n hx hb dX0_turnTile_44 rfl (lv_at hl 1 rfl) ?_
      refine n_add hx hb dX0_turnTile_45 ?_
      refine el_ti C hK hZ (by omega) dX0_turnTile_46 ?_
      refine lv_aload_n hx hb dX0_turnTile_47 rfl (lv_at hl 2 rfl) ?_
      refine eg_ti C hK hZ dX0_turnTile_48 ?_
      refine lv_bipush (v := nI 12) hx hb dX0_turnTile_51 (by decide +kernel) ?_
      refine lv_iload_n hx hb dX0_turnTile_53 rfl (lv_at hl 1 rfl) ?_
      refine n_add hx hb dX0_turnTile_54 ?_
      refine el_ti C hK hZ (by omega) dX0_turnTile_55 ?_
      refine lv_iload_n hx hb dX0_turnTile_56 rfl (lv_at hl 0 rfl) ?_
      refine g_callp (ci := 0) (rest := [.int (nI ((4 * k) + i)), .ref (a 8)]) C (e_mixed l _ _ _ _ k (by omega)) hwX0_mixed hdX0_mixed ⟨Nat.le_of_ble_eq_true rfl, Nat.le_of_ble_eq_true rfl⟩ hK hZ rfl rfl rfl rfl hl.1 rfl (Nat.le_of_ble_eq_true rfl) dX0_turnTile_57 ⟨Nat.le_of_ble_eq_true rfl, Nat.le_of_ble_eq_true rfl⟩ ?_
      refine es_ha C hK hZ (by omega) dX0_turnTile_60 (fun H locs hZ => ?_)
      have ev : mx (ti i) (ti (4 + i)) (ti (8 + i)) (ti (12 + i)) k = hm ti (4 * k + i) := by
        simp only [hm, show (4 * k + i) % 4 = i by omega, show (4 * k + i) / 4 = k by omega]
      have hZ : gZ D (gA (aE a) s.heap.size) s.heap (eW a d im we tk tu ip op ti (sel (fun j => decide ((j % 4 < i ∧ j / 4 < 4) ∨ (j % 4 = i ∧ j / 4 < (k + 1)))) (hm ti) ha) qu oo) H locs := by
        rw [show sel (fun j => decide ((j % 4 < i ∧ j / 4 < 4) ∨ (j % 4 = i ∧ j / 4 < (k + 1)))) (hm ti) ha = upd (sel (fun j => decide ((j % 4 < i ∧ j / 4 < 4) ∨ (j % 4 = i ∧ j / 4 < k))) (hm ti) ha) ((4 * k) + i) (mx (ti i) (ti (4 + i)) (ti (8 + i)) (ti (12 + i)) k) from (Eq.symm (sel_upd ev (by intro j; simp only [decide_eq_true_eq] <;> omega)))]
        exact hZ
      refine n_inc (lv' := [(2, .int (nI (k + 1))), (1, .int (nI i)), (0, .ref (a 0))]) hx hb dX0_turnTile_61 hl (kx := 0) rfl (by decide) rfl (fun ls hl => ?_)
      refine lv_goto (tgt := 9) hx hb dX0_turnTile_64 (by decide) ?_
      exact ih _ _ _ ⟨hZ, hl⟩

set_option maxHeartbeats 4000000 in
set_option maxRecDepth 100000 in
theorem e_gatherTile (l : Launch) (D : va_G) (a : Nat → Nat) (d : Nat → ClassId) (im we tk tu ip op ti ha qu : Nat → Int32) (oo : Int32)  : Mv l D (tyE d) (aE a) yX0_gatherTile cX0_gatherTile 3 none 0 0 (a 0) [] (eW a d im we tk tu ip op ti ha qu oo) (fun u => ∃ ha', u = eW a d im we tk tu ip op ti ha' (fill 4 (qg (hg ti)) qu) oo) := by
  refine Mv.of (by decide) (Nat.le_of_ble_eq_true rfl) rfl (fun p e s m below meth c C hr hlk hK hZ ls hl => ?_)
  have C : CallFix p m c cX0_gatherTile 3 s _ lw_all RX0 := C
  have hx := C.1
  have hb := C.2.1
  have hl : lv_has ls 3 [(0, .ref (a 0))] := hl
  refine lv_iconst (v := nI 0) hx hb dX0_gatherTile_0 (by decide +kernel) ?_
  refine lv_istore_n (lv' := [(1, .int (nI 0)), (0, .ref (a 0))]) hx hb dX0_gatherTile_1 rfl hl (by decide) rfl (fun ls hl => ?_)
  have hZ : gZ D (gA (aE a) s.heap.size) s.heap (eW a d im we tk tu ip op ti (sel (fun j => decide (j < 0 ∨ (4 ≤ j ∧ j < 4 + 0))) (hg ti) ha) qu oo) s.heap [] := by
    rw [show sel (fun j => decide (j < 0 ∨ (4 ≤ j ∧ j < 4 + 0))) (hg ti) ha = ha from sel_no (by intro j; simp only [decide_eq_true_eq] <;> omega)]
    exact hZ
  refine W_loop (N := 4) (fun i H locs ls => gZ D (gA (aE a) s.heap.size) s.heap (eW a d im we tk tu ip op ti (sel (fun j => decide (j < i ∨ (4 ≤ j ∧ j < 4 + i))) (hg ti) ha) qu oo) H locs ∧ lv_has ls 3 [(1, .int (nI i)), (0, .ref (a 0))]) ?_ ?_ 0 (by omega) ⟨hZ, hl⟩
  · intro H locs ls hI
    obtain ⟨hZ, hl⟩ := hI
    refine lv_iload_n hx hb dX0_gatherTile_2 rfl (lv_at hl 0 rfl) ?_
    refine lv_iconst (v := nI 4) hx hb dX0_gatherTile_3 (by decide +kernel) ?_
    refine n_geY hx hb 80 dX0_gatherTile_4 (by decide) (by omega) (by omega) ?_
    refine lv_iconst (v := nI 0) hx hb dX0_gatherTile_80 (by decide +kernel) ?_
    refine lv_istore_n (lv' := [(1, .int (nI 0)), (0, .ref (a 0))]) hx hb dX0_gatherTile_81 rfl hl (by decide) rfl (fun ls hl => ?_)
    have hZ : gZ D (gA (aE a) s.heap.size) s.heap (eW a d im we tk tu ip op ti (sel (fun j => decide (j < 4 ∨ (4 ≤ j ∧ j < 4 + 4))) (hg ti) ha) (fill (2 * 0) (qg (hg ti)) qu) oo) H locs := by
      rw [show fill (2 * 0) (qg (hg ti)) qu = qu from fill_0 _ _]
      exact hZ
    refine W_loop (N := 2) (fun i H locs ls => gZ D (gA (aE a) s.heap.size) s.heap (eW a d im we tk tu ip op ti (sel (fun j => decide (j < 4 ∨ (4 ≤ j ∧ j < 4 + 4))) (hg ti) ha) (fill (2 * i) (qg (hg ti)) qu) oo) H locs ∧ lv_has ls 3 [(1, .int (nI i)), (0, .ref (a 0))]) ?_ ?_ 0 (by omega) ⟨hZ, hl⟩
    · intro H locs ls hI
      obtain ⟨hZ, hl⟩ := hI
      refine lv_iload_n hx hb dX0_gatherTile_82 rfl (lv_at hl 0 rfl) ?_
      refine lv_iconst (v := nI 2) hx hb dX0_gatherTile_83 (by decide +kernel) ?_
      refine n_geY hx hb 165 dX0_gatherTile_84 (by decide) (by omega) (by omega) ?_
      exact g_vret hx hb hr hlk hK hZ dX0_gatherTile_165 (⟨_, rfl⟩)
    · intro i hi ih H locs ls hI
      obtain ⟨hZ, hl⟩ := hI
      refine lv_iload_n hx hb dX0_gatherTile_82 rfl (lv_at hl 0 rfl) ?_
      refine lv_iconst (v := nI 2) hx hb dX0_gatherTile_83 (by decide +kernel) ?_
      refine n_geN hx hb 165 dX0_gatherTile_84 (by decide) (by omega) (by omega) ?_
      have ei : (sel (fun j => decide (j < 4 ∨ (4 ≤ j ∧ j < 4 + 4))) (hg ti) ha) (4 * i) = hg ti (4 * i) := sel_in (by simp only [decide_eq_true_eq]; omega)
      have e1 : (sel (fun j => decide (j < 4 ∨ (4 ≤ j ∧ j < 4 + 4))) (hg ti) ha) (4 * i + 1) = hg ti (4 * i + 1) := sel_in (by simp only [decide_eq_true_eq]; omega)
      have e2 : (sel (fun j => decide (j < 4 ∨ (4 ≤ j ∧ j < 4 + 4))) (hg ti) ha) (4 * i + 2) = hg ti (4 * i + 2) := sel_in (by simp only [decide_eq_true_eq]; omega)
      have e3 : (sel (fun j => decide (j < 4 ∨ (4 ≤ j ∧ j < 4 + 4))) (hg ti) ha) (4 * i + 3) = hg ti (4 * i + 3) := sel_in (by simp only [decide_eq_true_eq]; omega)
      refine lv_iconst (v := nI 4) hx hb dX0_gatherTile_87 (by decide +kernel) ?_
      refine lv_iload_n hx hb dX0_gatherTile_88 rfl (lv_at hl 0 rfl) ?_
      refine n_mul hx hb dX0_gatherTile_89 ?_
      refine lv_istore_n (lv' := [(2, .int (nI (4 * i))), (1, .int (nI i)), (0, .ref (a 0))]) hx hb dX0_gatherTile_90 rfl hl (by decide) rfl (fun ls hl => ?_)
      refine lv_aload_n hx hb dX0_gatherTile_91 rfl (lv_at hl 2 rfl) ?_
      refine eg_qu C hK hZ dX0_gatherTile_92 ?_
      refine lv_iconst (v := nI 2) hx hb dX0_gatherTile_95 (by decide +kernel) ?_
      refine lv_iload_n hx hb dX0_gatherTile_96 rfl (lv_at hl 1 rfl) ?_
      refine n_mul hx hb dX0_gatherTile_97 ?_
      refine lv_aload_n hx hb dX0_gatherTile_98 rfl (lv_at hl 2 rfl) ?_
      refine eg_ha C hK hZ dX0_gatherTile_99 ?_
      refine lv_iload_n hx hb dX0_gatherTile_102 rfl (lv_at hl 0 rfl) ?_
      refine el_ha C hK hZ (by omega) dX0_gatherTile_103 ?_
      refine lv_aload_n hx hb dX0_gatherTile_104 rfl (lv_at hl 2 rfl) ?_
      refine eg_ha C hK hZ dX0_gatherTile_105 ?_
      refine lv_iload_n hx hb dX0_gatherTile_108 rfl (lv_at hl 0 rfl) ?_
      refine lv_iconst (v := nI 1) hx hb dX0_gatherTile_109 (by decide +kernel) ?_
      refine n_add hx hb dX0_gatherTile_110 ?_
      refine el_ha C hK hZ (by omega) dX0_gatherTile_111 ?_
      refine lv_iadd hx hb dX0_gatherTile_112 ?_
      refine lv_aload_n hx hb dX0_gatherTile_113 rfl (lv_at hl 2 rfl) ?_
      refine eg_ha C hK hZ dX0_gatherTile_114 ?_
      refine lv_iload_n hx hb dX0_gatherTile_117 rfl (lv_at hl 0 rfl) ?_
      refine lv_iconst (v := nI 2) hx hb dX0_gatherTile_118 (by decide +kernel) ?_
      refine n_add hx hb dX0_gatherTile_119 ?_
      refine el_ha C hK hZ (by omega) dX0_gatherTile_120 ?_
      refine lv_iadd hx hb dX0_gatherTile_121 ?_
      refine es_qu C hK hZ (by omega) dX0_gatherTile_122 (fun H locs hZ => ?_)
      have ev : (((sel (fun j => decide (j < 4 ∨ (4 ≤ j ∧ j < 4 + 4))) (hg ti) ha) (4 * i)) + ((sel (fun j => decide (j < 4 ∨ (4 ≤ j ∧ j < 4 + 4))) (hg ti) ha) ((4 * i) + 1))) + ((sel (fun j => decide (j < 4 ∨ (4 ≤ j ∧ j < 4 + 4))) (hg ti) ha) ((4 * i) + 2)) = qg (hg ti) (2 * i) := by
        rw [ei, e1, e2]
        simp only [qg, show (2 * i) % 2 = 0 by omega, show (2 * i) / 2 = i by omega, if_true]
      have hZ : gZ D (gA (aE a) s.heap.size) s.heap (eW a d im we tk tu ip op ti (sel (fun j => decide (j < 4 ∨ (4 ≤ j ∧ j < 4 + 4))) (hg ti) ha) (fill (2 * i + 1) (qg (hg ti)) qu) oo) H locs := by
        rw [show fill (2 * i + 1) (qg (hg ti)) qu = upd (fill (2 * i) (qg (hg ti)) qu) (2 * i) ((((sel (fun j => decide (j < 4 ∨ (4 ≤ j ∧ j < 4 + 4))) (hg ti) ha) (4 * i)) + ((sel (fun j => decide (j < 4 ∨ (4 ≤ j ∧ j < 4 + 4))) (hg ti) ha) ((4 * i) + 1))) + ((sel (fun j => decide (j < 4 ∨ (4 ≤ j ∧ j < 4 + 4))) (hg ti) ha) ((4 * i) + 2))) from (Eq.symm (fill_upd ev))]
        exact hZ
      refine lv_aload_n hx hb dX0_gatherTile_123 rfl (lv_at hl 2 rfl) ?_
      refine eg_qu C hK hZ dX0_gatherTile_124 ?_
      refine lv_iconst (v := nI 2) hx hb dX0_gatherTile_127 (by decide +kernel) ?_
      refine lv_iload_n hx hb dX0_gatherTile_128 rfl (lv_at hl 1 rfl) ?_
      refine n_mul hx hb dX0_gatherTile_129 ?_
      refine lv_iconst (v := nI 1) hx hb dX0_gatherTile_130 (by decide +kernel) ?_
      refine n_add hx hb dX0_gatherTile_131 ?_
      refine lv_aload_n hx hb dX0_gatherTile_132 rfl (lv_at hl 2 rfl) ?_
      refine eg_ha C hK hZ dX0_gatherTile_133 ?_
      refine lv_iload_n hx hb dX0_gatherTile_136 rfl (lv_at hl 0 rfl) ?_
      refine lv_iconst (v := nI 1) hx hb dX0_gatherTile_137 (by decide +kernel) ?_
      refine n_add hx hb dX0_gatherTile_138 ?_
      refine el_ha C hK hZ (by omega) dX0_gatherTile_139 ?_
      refine lv_aload_n hx hb dX0_gatherTile_140 rfl (lv_at hl 2 rfl) ?_
      refine eg_ha C hK hZ dX0_gatherTile_141 ?_
      refine lv_iload_n hx hb dX0_gatherTile_144 rfl (lv_at hl 0 rfl) ?_
      refine lv_iconst (v := nI 2) hx hb dX0_gatherTile_145 (by decide +kernel) ?_
      refine n_add hx hb dX0_gatherTile_146 ?_
      refine el_ha C hK hZ (by omega) dX0_gatherTile_147 ?_
      refine lv_isub hx hb dX0_gatherTile_148 ?_
      refine lv_aload_n hx hb dX0_gatherTile_149 rfl (lv_at hl 2 rfl) ?_
      refine eg_ha C hK hZ dX0_gatherTile_150 ?_
      refine lv_iload_n hx hb dX0_gatherTile_153 rfl (lv_at hl 0 rfl) ?_
      refine lv_iconst (v := nI 3) hx hb dX0_gatherTile_154 (by decide +kernel) ?_
      refine n_add hx hb dX0_gatherTile_155 ?_
      refine el_ha C hK hZ (by omega) dX0_gatherTile_156 ?_
      refine lv_isub hx hb dX0_gatherTile_157 ?_
      refine es_qu C hK hZ (by omega) dX0_gatherTile_158 (fun H locs hZ => ?_)
      have ev2 : (((sel (fun j => decide (j < 4 ∨ (4 ≤ j ∧ j < 4 + 4))) (hg ti) ha) ((4 * i) + 1)) - ((sel (fun j => decide (j < 4 ∨ (4 ≤ j ∧ j < 4 + 4))) (hg ti) ha) ((4 * i) + 2))) - ((sel (fun j => decide (j < 4 ∨ (4 ≤ j ∧ j < 4 + 4))) (hg ti) ha) ((4 * i) + 3)) = qg (hg ti) (2 * i + 1) := by
        rw [e1, e2, e3]
        simp only [qg, show (2 * i + 1) % 2 = 1 by omega, show (2 * i + 1) / 2 = i by omega, Nat.one_ne_zero, if_false]
      have hZ : gZ D (gA (aE a) s.heap.size) s.heap (eW a d im we tk tu ip op ti (sel (fun j => decide (j < 4 ∨ (4 ≤ j ∧ j < 4 + 4))) (hg ti) ha) (fill (2 * (i + 1)) (qg (hg ti)) qu) oo) H locs := by
        rw [show fill (2 * (i + 1)) (qg (hg ti)) qu = upd (fill (2 * i + 1) (qg (hg ti)) qu) ((2 * i) + 1) ((((sel (fun j => decide (j < 4 ∨ (4 ≤ j ∧ j < 4 + 4))) (hg ti) ha) ((4 * i) + 1)) - ((sel (fun j => decide (j < 4 ∨ (4 ≤ j ∧ j < 4 + 4))) (hg ti) ha) ((4 * i) + 2))) - ((sel (fun j => decide (j < 4 ∨ (4 ≤ j ∧ j < 4 + 4))) (hg ti) ha) ((4 * i) + 3))) from (by rw [show 2 * (i + 1) = 2 * i + 1 + 1 by omega]; exact (Eq.symm (fill_upd ev2)))]
        exact hZ
      refine n_inc (lv' := [(1, .int (nI (i + 1))), (2, .int (nI (4 * i))), (0, .ref (a 0))]) hx hb dX0_gatherTile_159 hl (kx := 1) rfl (by decide) rfl (fun ls hl => ?_)
      refine lv_goto (tgt := 82) hx hb dX0_gatherTile_162 (by decide) ?_
      exact ih _ _ _ ⟨hZ, lv_sub hl [0, 2] rfl⟩
  · intro i hi ih H locs ls hI
    obtain ⟨hZ, hl⟩ := hI
    refine lv_iload_n hx hb dX0_gatherTile_2 rfl (lv_at hl 0 rfl) ?_
    refine lv_iconst (v := nI 4) hx hb dX0_gatherTile_3 (by decide +kernel) ?_
    refine n_geN hx hb 80 dX0_gatherTile_4 (by decide) (by omega) (by omega) ?_
    refine lv_aload_n hx hb dX0_gatherTile_7 rfl (lv_at hl 1 rfl) ?_
    refine eg_ha C hK hZ dX0_gatherTile_8 ?_
    refine lv_iload_n hx hb dX0_gatherTile_11 rfl (lv_at hl 0 rfl) ?_
    refine lv_aload_n hx hb dX0_gatherTile_12 rfl (lv_at hl 1 rfl) ?_
    refine eg_ti C hK hZ dX0_gatherTile_13 ?_
    refine lv_iload_n hx hb dX0_gatherTile_16 rfl (lv_at hl 0 rfl) ?_
    refine el_ti C hK hZ (by omega) dX0_gatherTile_17 ?_
    refine lv_aload_n hx hb dX0_gatherTile_18 rfl (lv_at hl 1 rfl) ?_
    refine eg_ti C hK hZ dX0_gatherTile_19 ?_
    refine lv_iconst (v := nI 4) hx hb dX0_gatherTile_22 (by decide +kernel) ?_
    refine lv_iload_n hx hb dX0_gatherTile_23 rfl (lv_at hl 0 rfl) ?_
    refine n_add hx hb dX0_gatherTile_24 ?_
    refine el_ti C hK hZ (by omega) dX0_gatherTile_25 ?_
    refine lv_iadd hx hb dX0_gatherTile_26 ?_
    refine lv_aload_n hx hb dX0_gatherTile_27 rfl (lv_at hl 1 rfl) ?_
    refine eg_ti C hK hZ dX0_gatherTile_28 ?_
    refine lv_bipush (v := nI 8) hx hb dX0_gatherTile_31 (by decide +kernel) ?_
    refine lv_iload_n hx hb dX0_gatherTile_33 rfl (lv_at hl 0 rfl) ?_
    refine n_add hx hb dX0_gatherTile_34 ?_
    refine el_ti C hK hZ (by omega) dX0_gatherTile_35 ?_
    refine lv_iadd hx hb dX0_gatherTile_36 ?_
    refine es_ha C hK hZ (by omega) dX0_gatherTile_37 (fun H locs hZ => ?_)
    have ev : (ti i + ti (4 + i)) + ti (8 + i) = hg ti i := by
      simp only [hg, hi, if_true]
    have hZ : gZ D (gA (aE a) s.heap.size) s.heap (eW a d im we tk tu ip op ti (sel (fun j => decide ((j < i ∨ (4 ≤ j ∧ j < 4 + i)) ∨ j = i)) (hg ti) ha) qu oo) H locs := by
      rw [show sel (fun j => decide ((j < i ∨ (4 ≤ j ∧ j < 4 + i)) ∨ j = i)) (hg ti) ha = upd (sel (fun j => decide (j < i ∨ (4 ≤ j ∧ j < 4 + i))) (hg ti) ha) i (((ti i) + (ti (4 + i))) + (ti (8 + i))) from (Eq.symm (sel_upd ev (by intro j; simp only [decide_eq_true_eq] <;> omega)))]
      exact hZ
    refine lv_aload_n hx hb dX0_gatherTile_38 rfl (lv_at hl 1 rfl) ?_
    refine eg_ha C hK hZ dX0_gatherTile_39 ?_
    refine lv_iconst (v := nI 4) hx hb dX0_gatherTile_42 (by decide +kernel) ?_
    refine lv_iload_n hx hb dX0_gatherTile_43 rfl (lv_at hl 0 rfl) ?_
    refine n_add hx hb dX0_gatherTile_44 ?_
    refine lv_aload_n hx hb dX0_gatherTile_45 rfl (lv_at hl 1 rfl) ?_
    refine eg_ti C hK hZ dX0_gatherTile_46 ?_
    refine lv_iconst (v := nI 4) hx hb dX0_gatherTile_49 (by decide +kernel) ?_
    refine lv_iload_n hx hb dX0_gatherTile_50 rfl (lv_at hl 0 rfl) ?_
    refine n_add hx hb dX0_gatherTile_51 ?_
    refine el_ti C hK hZ (by omega) dX0_gatherTile_52 ?_
    refine lv_aload_n hx hb dX0_gatherTile_53 rfl (lv_at hl 1 rfl) ?_
    refine eg_ti C hK hZ dX0_gatherTile_54 ?_
    refine lv_bipush (v := nI 8) hx hb dX0_gatherTile_57 (by decide +kernel) ?_
    refine lv_iload_n hx hb dX0_gatherTile_59 rfl (lv_at hl 0 rfl) ?_
    refine n_add hx hb dX0_gatherTile_60 ?_
    refine el_ti C hK hZ (by omega) dX0_gatherTile_61 ?_
    refine lv_isub hx hb dX0_gatherTile_62 ?_
    refine lv_aload_n hx hb dX0_gatherTile_63 rfl (lv_at hl 1 rfl) ?_
    refine eg_ti C hK hZ dX0_gatherTile_64 ?_
    refine lv_bipush (v := nI 12) hx hb dX0_gatherTile_67 (by decide +kernel) ?_
    refine lv_iload_n hx hb dX0_gatherTile_69 rfl (lv_at hl 0 rfl) ?_
    refine n_add hx hb dX0_gatherTile_70 ?_
    refine el_ti C hK hZ (by omega) dX0_gatherTile_71 ?_
    refine lv_isub hx hb dX0_gatherTile_72 ?_
    refine es_ha C hK hZ (by omega) dX0_gatherTile_73 (fun H locs hZ => ?_)
    have ev2 : (ti (4 + i) - ti (8 + i)) - ti (12 + i) = hg ti (4 + i) := by
      unfold hg
      rw [if_neg (by omega), show 4 + i - 4 = i by omega]
    have hZ : gZ D (gA (aE a) s.heap.size) s.heap (eW a d im we tk tu ip op ti (sel (fun j => decide (j < (i + 1) ∨ (4 ≤ j ∧ j < 4 + (i + 1)))) (hg ti) ha) qu oo) H locs := by
      rw [show sel (fun j => decide (j < (i + 1) ∨ (4 ≤ j ∧ j < 4 + (i + 1)))) (hg ti) ha = upd (sel (fun j => decide ((j < i ∨ (4 ≤ j ∧ j < 4 + i)) ∨ j = i)) (hg ti) ha) (4 + i) (((ti (4 + i)) - (ti (8 + i))) - (ti (12 + i))) from (Eq.symm (sel_upd ev2 (by intro j; simp only [decide_eq_true_eq] <;> omega)))]
      exact hZ
    refine n_inc (lv' := [(1, .int (nI (i + 1))), (0, .ref (a 0))]) hx hb dX0_gatherTile_74 hl (kx := 0) rfl (by decide) rfl (fun ls hl => ?_)
    refine lv_goto (tgt := 2) hx hb dX0_gatherTile_77 (by decide) ?_
    exact ih _ _ _ ⟨hZ, hl⟩
end
section
/-! the engine: convolve, respond -/
theorem conv_cells {b j : Nat} (hb : b < 25) : (5 * (j / 20) + (j % 10) / 2 < b + 1 ∧ j < 100) ↔ ((5 * (j / 20) + (j % 10) / 2 < b ∧ j < 100) ∨ j = 10 * (2 * (b / 5)) + 2 * (b % 5) ∨ j = 10 * (2 * (b / 5)) + 2 * (b % 5) + 1 ∨ j = 10 * (2 * (b / 5)) + 10 + 2 * (b % 5) ∨ j = 10 * (2 * (b / 5)) + 10 + 2 * (b % 5) + 1) := by
  omega
/-- what a block's tile gives, divided by four, is its four responses -/
theorem conv_val {we ip tu t0 t1 M qu : Nat → Int32} {f X Y : Nat} (hf : f < 2) (hw : ∀ j, j < 18 → bd (we j) 9) (hp : ∀ j, j < 100 → bd (ip j) 8019) (hX : X ≤ 8) (hT : ∀ j, j < 16 → tu (16 * f + j) = tw (fun z => we (9 * f + z)) j)
    (h0 : ∀ j, j < 16 → t0 j = pad ip (X + j % 4) (Y + j / 4)) (h1 : ∀ j, j < 16 → t1 j = tm t0 j) (hM : ∀ j, j < 16 → M j = t1 j * tu (16 * f + j)) (i n : Nat) (hi : i < 4) (hn1 : n % 10 = X + i % 2) (hn2 : n / 10 = Y + i / 2) :
    fill 4 (qg (hg M)) qu i / nI 4 = resp we ip f n := by
  rw [fill_in hi, wino (fun z => we (9 * f + z)) t0 M ip X Y h0 (fun j hj => by rw [hM j hj, h1 j hj, hT j hj]) i hi]
  rw [div4 (bd_mono (rs_bd (fun k hk => hw _ (by omega)) hp (Nat.le_refl 8019) 9 (Nat.le_refl 9)) (by decide))]
  unfold resp
  rw [hn1, hn2]

set_option maxHeartbeats 4000000 in
set_option maxRecDepth 100000 in
theorem e_convolve (l : Launch) (D : va_G) (a : Nat → Nat) (d : Nat → ClassId) (im we tk tu ip op ti ha qu : Nat → Int32) (oo : Int32) (f : Nat) (hf : f < 2) (hw : ∀ j, j < 18 → bd (we j) 9) (hp : ∀ j, j < 100 → bd (ip j) 8019) (hT : TT we tk tu) : Mv l D (tyE d) (aE a) yX0_convolve cX0_convolve 6 none 2 50 (a 0) [.int (nI f)] (eW a d im we tk tu ip op ti ha qu oo) (fun u => ∃ tk' tu' ti' ha' qu', u = eW a d im we tk' tu' ip (resp we ip f) ti' ha' qu' oo ∧ TT we tk' tu') := by
  refine Mv.of (by decide) (Nat.le_of_ble_eq_true rfl) rfl (fun p e s m below meth c C hr hlk hK hZ ls hl => ?_)
  have C : CallFix p m c cX0_convolve 6 s _ lw_all RX0 := C
  have hx := C.1
  have hb := C.2.1
  have hl : lv_has ls 6 [(0, .ref (a 0)), (1, .int (nI f))] := hl
  refine lv_aload_n hx hb dX0_convolve_0 rfl (lv_at hl 0 rfl) ?_
  refine lv_iload_n hx hb dX0_convolve_1 rfl (lv_at hl 1 rfl) ?_
  refine g_callv (ci := 0) (rest := []) C (e_turnFilter l D a d im we tk tu ip op ti ha qu oo f hf hT) hwX0_turnFilter hdX0_turnFilter ⟨Nat.le_of_ble_eq_true rfl, Nat.le_of_ble_eq_true rfl⟩ hK hZ rfl rfl rfl rfl hl.1 rfl (Nat.le_of_ble_eq_true rfl) dX0_convolve_2 ⟨Nat.le_of_ble_eq_true rfl, Nat.le_of_ble_eq_true rfl⟩ (fun u H locs hu hZ => ?_)
  obtain ⟨tk, tu, ha, rfl, hT, hk⟩ := hu
  refine lv_iconst (v := nI 0) hx hb dX0_convolve_5 (by decide +kernel) ?_
  refine lv_istore_n (lv' := [(2, .int (nI 0)), (0, .ref (a 0)), (1, .int (nI f))]) hx hb dX0_convolve_6 rfl hl (by decide) rfl (fun ls hl => ?_)
  have hZ : gZ D (gA (aE a) s.heap.size) s.heap (eW a d im we tk tu ip (sel (fun j => decide (5 * (j / 20) + (j % 10) / 2 < 0 ∧ j < 100)) (resp we ip f) op) ti ha qu oo) H locs := by
    rw [show sel (fun j => decide (5 * (j / 20) + (j % 10) / 2 < 0 ∧ j < 100)) (resp we ip f) op = op from sel_no (by intro j; simp only [decide_eq_true_eq] <;> omega)]
    exact hZ
  refine W_loop (N := 25) (fun b H locs ls => ∃ (ti ha qu : Nat → Int32), gZ D (gA (aE a) s.heap.size) s.heap (eW a d im we tk tu ip (sel (fun j => decide (5 * (j / 20) + (j % 10) / 2 < b ∧ j < 100)) (resp we ip f) op) ti ha qu oo) H locs ∧ lv_has ls 6 [(2, .int (nI b)), (0, .ref (a 0)), (1, .int (nI f))]) ?_ ?_ 0 (by omega) ⟨_, _, _, hZ, hl⟩
  · intro H locs ls hI
    obtain ⟨ti, ha, qu, hZ, hl⟩ := hI
    refine lv_iload_n hx hb dX0_convolve_7 rfl (lv_at hl 0 rfl) ?_
    refine lv_bipush (v := nI 25) hx hb dX0_convolve_8 (by decide +kernel) ?_
    refine n_geY hx hb 179 dX0_convolve_10 (by decide) (by omega) (by omega) ?_
    have hZ := eW_op (op' := resp we ip f) (fun j hj => sel_in (by simp only [decide_eq_true_eq]; omega)) hZ
    exact g_vret hx hb hr hlk hK hZ dX0_convolve_179 (⟨_, _, _, _, _, rfl, hT⟩)
  · intro b hb25 ih H locs ls hI
    obtain ⟨ti, ha, qu, hZ, hl⟩ := hI
    refine lv_iload_n hx hb dX0_convolve_7 rfl (lv_at hl 0 rfl) ?_
    refine lv_bipush (v := nI 25) hx hb dX0_convolve_8 (by decide +kernel) ?_
    refine n_geN hx hb 179 dX0_convolve_10 (by decide) (by omega) (by omega) ?_
    refine lv_iconst (v := nI 2) hx hb dX0_convolve_13 (by decide +kernel) ?_
    refine lv_iload_n hx hb dX0_convolve_14 rfl (lv_at hl 0 rfl) ?_
    refine lv_iconst (v := nI 5) hx hb dX0_convolve_15 (by decide +kernel) ?_
    refine n_rem hx hb (by omega) (by omega) (by omega) dX0_convolve_16 ?_
    refine n_mul hx hb dX0_convolve_17 ?_
    refine lv_istore_n (lv' := [(3, .int (nI (2 * (b % 5)))), (2, .int (nI b)), (0, .ref (a 0)), (1, .int (nI f))]) hx hb dX0_convolve_18 rfl hl (by decide) rfl (fun ls hl => ?_)
    refine lv_iconst (v := nI 2) hx hb dX0_convolve_19 (by decide +kernel) ?_
    refine lv_iload_n hx hb dX0_convolve_20 rfl (lv_at hl 1 rfl) ?_
    refine lv_iconst (v := nI 5) hx hb dX0_convolve_21 (by decide +kernel) ?_
    refine n_div hx hb (by omega) (by omega) (by omega) dX0_convolve_22 ?_
    refine n_mul hx hb dX0_convolve_23 ?_
    refine lv_istore (lv' := [(4, .int (nI (2 * (b / 5)))), (3, .int (nI (2 * (b % 5)))), (2, .int (nI b)), (0, .ref (a 0)), (1, .int (nI f))]) hx hb dX0_convolve_24 hl (by decide) rfl (fun ls hl => ?_)
    refine lv_aload_n hx hb dX0_convolve_26 rfl (lv_at hl 3 rfl) ?_
    refine lv_iload_n hx hb dX0_convolve_27 rfl (lv_at hl 1 rfl) ?_
    refine lv_iconst (v := nI 1) hx hb dX0_convolve_28 (by decide +kernel) ?_
    refine lv_isub hx hb dX0_convolve_29 ?_
    refine lv_iload hx hb dX0_convolve_30 (lv_at hl 0 rfl) ?_
    refine lv_iconst (v := nI 1) hx hb dX0_convolve_32 (by decide +kernel) ?_
    refine lv_isub hx hb dX0_convolve_33 ?_
    refine g_callv (ci := 0) (rest := []) C (e_loadTile l D a d im we tk tu ip _ ti ha qu oo (2 * (b % 5)) (2 * (b / 5)) (by omega) (by omega)) hwX0_loadTile hdX0_loadTile ⟨Nat.le_of_ble_eq_true rfl, Nat.le_of_ble_eq_true rfl⟩ hK hZ rfl rfl rfl rfl hl.1 rfl (Nat.le_of_ble_eq_true rfl) dX0_convolve_34 ⟨Nat.le_of_ble_eq_true rfl, Nat.le_of_ble_eq_true rfl⟩ (fun u H locs hu hZ => ?_)
    subst hu
    generalize ht0 : fill 16 (fun j => pad ip (2 * (b % 5) + j % 4) (2 * (b / 5) + j / 4)) ti = t0 at hZ
    have h0 : ∀ j, j < 16 → t0 j = pad ip (2 * (b % 5) + j % 4) (2 * (b / 5) + j / 4) := fun j hj => by rw [← ht0, fill_in hj]
    refine lv_aload_n hx hb dX0_convolve_37 rfl (lv_at hl 3 rfl) ?_
    refine g_callv (ci := 0) (rest := []) C (e_turnTile l D a d im we tk tu ip _ t0 ha qu oo) hwX0_turnTile hdX0_turnTile ⟨Nat.le_of_ble_eq_true rfl, Nat.le_of_ble_eq_true rfl⟩ hK hZ rfl rfl rfl rfl hl.1 rfl (Nat.le_of_ble_eq_true rfl) dX0_convolve_38 ⟨Nat.le_of_ble_eq_true rfl, Nat.le_of_ble_eq_true rfl⟩ (fun u H locs hu hZ => ?_)
    obtain ⟨ha, rfl⟩ := hu
    generalize ht1 : fill 16 (tm t0) t0 = t1 at hZ
    have h1 : ∀ j, j < 16 → t1 j = tm t0 j := fun j hj => by rw [← ht1, fill_in hj]
    refine lv_iconst (v := nI 0) hx hb dX0_convolve_41 (by decide +kernel) ?_
    refine lv_istore (lv' := [(5, .int (nI 0)), (4, .int (nI (2 * (b / 5)))), (3, .int (nI (2 * (b % 5)))), (2, .int (nI b)), (0, .ref (a 0)), (1, .int (nI f))]) hx hb dX0_convolve_42 hl (by decide) rfl (fun ls hl => ?_)
    have hZ : gZ D (gA (aE a) s.heap.size) s.heap (eW a d im we tk tu ip (sel (fun j => decide (5 * (j / 20) + (j % 10) / 2 < b ∧ j < 100)) (resp we ip f) op) (fill 0 (fun j => t1 j * tu (16 * f + j)) t1) ha qu oo) H locs := by
      rw [show fill 0 (fun j => t1 j * tu (16 * f + j)) t1 = t1 from fill_0 _ _]
      exact hZ
    refine W_loop (N := 16) (fun k H locs ls => gZ D (gA (aE a) s.heap.size) s.heap (eW a d im we tk tu ip (sel (fun j => decide (5 * (j / 20) + (j % 10) / 2 < b ∧ j < 100)) (resp we ip f) op) (fill k (fun j => t1 j * tu (16 * f + j)) t1) ha qu oo) H locs ∧ lv_has ls 6 [(5, .int (nI k)), (4, .int (nI (2 * (b / 5)))), (3, .int (nI (2 * (b % 5)))), (2, .int (nI b)), (0, .ref (a 0)), (1, .int (nI f))]) ?_ ?_ 0 (by omega) ⟨hZ, hl⟩
    · intro H locs ls hI
      obtain ⟨hZ, hl⟩ := hI
      refine lv_iload hx hb dX0_convolve_44 (lv_at hl 0 rfl) ?_
      refine lv_bipush (v := nI 16) hx hb dX0_convolve_46 (by decide +kernel) ?_
      refine n_geY hx hb 79 dX0_convolve_48 (by decide) (by omega) (by omega) ?_
      refine lv_aload_n hx hb dX0_convolve_79 rfl (lv_at hl 4 rfl) ?_
      generalize hM0 : fill 16 (fun j => t1 j * tu (16 * f + j)) t1 = M at hZ
      have hM : ∀ j, j < 16 → M j = t1 j * tu (16 * f + j) := fun j hj => by rw [← hM0, fill_in hj]
      refine g_callv (ci := 0) (rest := []) C (e_gatherTile l D a d im we tk tu ip _ M ha qu oo) hwX0_gatherTile hdX0_gatherTile ⟨Nat.le_of_ble_eq_true rfl, Nat.le_of_ble_eq_true rfl⟩ hK hZ rfl rfl rfl rfl hl.1 rfl (Nat.le_of_ble_eq_true rfl) dX0_convolve_80 ⟨Nat.le_of_ble_eq_true rfl, Nat.le_of_ble_eq_true rfl⟩ (fun u H locs hu hZ => ?_)
      obtain ⟨ha, rfl⟩ := hu
      have v0 : (fill 4 (qg (hg M)) qu) 0 / nI 4 = resp we ip f (10 * (2 * (b / 5)) + 2 * (b % 5)) := conv_val hf hw hp (by omega) (hT f hf hk) h0 h1 hM 0 _ (by decide) (by omega) (by omega)
      have v1 : (fill 4 (qg (hg M)) qu) 1 / nI 4 = resp we ip f (10 * (2 * (b / 5)) + 2 * (b % 5) + 1) := conv_val hf hw hp (by omega) (hT f hf hk) h0 h1 hM 1 _ (by decide) (by omega) (by omega)
      have v2 : (fill 4 (qg (hg M)) qu) 2 / nI 4 = resp we ip f (10 * (2 * (b / 5)) + 10 + 2 * (b % 5)) := conv_val hf hw hp (by omega) (hT f hf hk) h0 h1 hM 2 _ (by decide) (by omega) (by omega)
      have v3 : (fill 4 (qg (hg M)) qu) 3 / nI 4 = resp we ip f (10 * (2 * (b / 5)) + 10 + 2 * (b % 5) + 1) := conv_val hf hw hp (by omega) (hT f hf hk) h0 h1 hM 3 _ (by decide) (by omega) (by omega)
      refine lv_aload_n hx hb dX0_convolve_83 rfl (lv_at hl 4 rfl) ?_
      refine eg_op C hK hZ dX0_convolve_84 ?_
      refine lv_bipush (v := nI 10) hx hb dX0_convolve_87 (by decide +kernel) ?_
      refine lv_iload hx hb dX0_convolve_89 (lv_at hl 1 rfl) ?_
      refine n_mul hx hb dX0_convolve_91 ?_
      refine lv_iload_n hx hb dX0_convolve_92 rfl (lv_at hl 2 rfl) ?_
      refine n_add hx hb dX0_convolve_93 ?_
      refine lv_aload_n hx hb dX0_convolve_94 rfl (lv_at hl 4 rfl) ?_
      refine eg_qu C hK hZ dX0_convolve_95 ?_
      refine lv_iconst (v := nI 0) hx hb dX0_convolve_98 (by decide +kernel) ?_
      refine el_qu C hK hZ (by omega) dX0_convolve_99 ?_
      refine lv_iconst (v := nI 4) hx hb dX0_convolve_100 (by decide +kernel) ?_
      refine lv_idiv hx hb dX0_convolve_101 (by decide +kernel) ?_
      refine es_op C hK hZ (by omega) dX0_convolve_102 (fun H locs hZ => ?_)
      refine lv_aload_n hx hb dX0_convolve_103 rfl (lv_at hl 4 rfl) ?_
      refine eg_op C hK hZ dX0_convolve_104 ?_
      refine lv_bipush (v := nI 10) hx hb dX0_convolve_107 (by decide +kernel) ?_
      refine lv_iload hx hb dX0_convolve_109 (lv_at hl 1 rfl) ?_
      refine n_mul hx hb dX0_convolve_111 ?_
      refine lv_iload_n hx hb dX0_convolve_112 rfl (lv_at hl 2 rfl) ?_
      refine n_add hx hb dX0_convolve_113 ?_
      refine lv_iconst (v := nI 1) hx hb dX0_convolve_114 (by decide +kernel) ?_
      refine n_add hx hb dX0_convolve_115 ?_
      refine lv_aload_n hx hb dX0_convolve_116 rfl (lv_at hl 4 rfl) ?_
      refine eg_qu C hK hZ dX0_convolve_117 ?_
      refine lv_iconst (v := nI 1) hx hb dX0_convolve_120 (by decide +kernel) ?_
      refine el_qu C hK hZ (by omega) dX0_convolve_121 ?_
      refine lv_iconst (v := nI 4) hx hb dX0_convolve_122 (by decide +kernel) ?_
      refine lv_idiv hx hb dX0_convolve_123 (by decide +kernel) ?_
      refine es_op C hK hZ (by omega) dX0_convolve_124 (fun H locs hZ => ?_)
      refine lv_aload_n hx hb dX0_convolve_125 rfl (lv_at hl 4 rfl) ?_
      refine eg_op C hK hZ dX0_convolve_126 ?_
      refine lv_bipush (v := nI 10) hx hb dX0_convolve_129 (by decide +kernel) ?_
      refine lv_iload hx hb dX0_convolve_131 (lv_at hl 1 rfl) ?_
      refine n_mul hx hb dX0_convolve_133 ?_
      refine lv_bipush (v := nI 10) hx hb dX0_convolve_134 (by decide +kernel) ?_
      refine n_add hx hb dX0_convolve_136 ?_
      refine lv_iload_n hx hb dX0_convolve_137 rfl (lv_at hl 2 rfl) ?_
      refine n_add hx hb dX0_convolve_138 ?_
      refine lv_aload_n hx hb dX0_convolve_139 rfl (lv_at hl 4 rfl) ?_
      refine eg_qu C hK hZ dX0_convolve_140 ?_
      refine lv_iconst (v := nI 2) hx hb dX0_convolve_143 (by decide +kernel) ?_
      refine el_qu C hK hZ (by omega) dX0_convolve_144 ?_
      refine lv_iconst (v := nI 4) hx hb dX0_convolve_145 (by decide +kernel) ?_
      refine lv_idiv hx hb dX0_convolve_146 (by decide +kernel) ?_
      refine es_op C hK hZ (by omega) dX0_convolve_147 (fun H locs hZ => ?_)
      refine lv_aload_n hx hb dX0_convolve_148 rfl (lv_at hl 4 rfl) ?_
      refine eg_op C hK hZ dX0_convolve_149 ?_
      refine lv_bipush (v := nI 10) hx hb dX0_convolve_152 (by decide +kernel) ?_
      refine lv_iload hx hb dX0_convolve_154 (lv_at hl 1 rfl) ?_
      refine n_mul hx hb dX0_convolve_156 ?_
      refine lv_bipush (v := nI 10) hx hb dX0_convolve_157 (by decide +kernel) ?_
      refine n_add hx hb dX0_convolve_159 ?_
      refine lv_iload_n hx hb dX0_convolve_160 rfl (lv_at hl 2 rfl) ?_
      refine n_add hx hb dX0_convolve_161 ?_
      refine lv_iconst (v := nI 1) hx hb dX0_convolve_162 (by decide +kernel) ?_
      refine n_add hx hb dX0_convolve_163 ?_
      refine lv_aload_n hx hb dX0_convolve_164 rfl (lv_at hl 4 rfl) ?_
      refine eg_qu C hK hZ dX0_convolve_165 ?_
      refine lv_iconst (v := nI 3) hx hb dX0_convolve_168 (by decide +kernel) ?_
      refine el_qu C hK hZ (by omega) dX0_convolve_169 ?_
      refine lv_iconst (v := nI 4) hx hb dX0_convolve_170 (by decide +kernel) ?_
      refine lv_idiv hx hb dX0_convolve_171 (by decide +kernel) ?_
      refine es_op C hK hZ (by omega) dX0_convolve_172 (fun H locs hZ => ?_)
      have hZ : gZ D (gA (aE a) s.heap.size) s.heap (eW a d im we tk tu ip (sel (fun j => decide (5 * (j / 20) + (j % 10) / 2 < (b + 1) ∧ j < 100)) (resp we ip f) op) M ha (fill 4 (qg (hg M)) qu) oo) H locs := by
        rw [show sel (fun j => decide (5 * (j / 20) + (j % 10) / 2 < (b + 1) ∧ j < 100)) (resp we ip f) op = upd (upd (upd (upd (sel (fun j => decide (5 * (j / 20) + (j % 10) / 2 < b ∧ j < 100)) (resp we ip f) op) ((10 * (2 * (b / 5))) + (2 * (b % 5))) (((fill 4 (qg (hg M)) qu) 0) / (nI 4))) (((10 * (2 * (b / 5))) + (2 * (b % 5))) + 1) (((fill 4 (qg (hg M)) qu) 1) / (nI 4))) (((10 * (2 * (b / 5))) + 10) + (2 * (b % 5))) (((fill 4 (qg (hg M)) qu) 2) / (nI 4))) ((((10 * (2 * (b / 5))) + 10) + (2 * (b % 5))) + 1) (((fill 4 (qg (hg M)) qu) 3) / (nI 4)) from (Eq.symm (sel_upd4 v0 v1 v2 v3 (by intro j; simp only [decide_eq_true_eq]; exact conv_cells hb25)))]
        exact hZ
      refine n_inc (lv' := [(2, .int (nI (b + 1))), (5, .int (nI 16)), (4, .int (nI (2 * (b / 5)))), (3, .int (nI (2 * (b % 5)))), (0, .ref (a 0)), (1, .int (nI f))]) hx hb dX0_convolve_173 hl (kx := 3) rfl (by decide) rfl (fun ls hl => ?_)
      refine lv_goto (tgt := 7) hx hb dX0_convolve_176 (by decide) ?_
      exact ih _ _ _ ⟨_, _, _, hZ, lv_sub hl [0, 4, 5] rfl⟩
    · intro k hk ih H locs ls hI
      obtain ⟨hZ, hl⟩ := hI
      refine lv_iload hx hb dX0_convolve_44 (lv_at hl 0 rfl) ?_
      refine lv_bipush (v := nI 16) hx hb dX0_convolve_46 (by decide +kernel) ?_
      refine n_geN hx hb 79 dX0_convolve_48 (by decide) (by omega) (by omega) ?_
      refine lv_aload_n hx hb dX0_convolve_51 rfl (lv_at hl 4 rfl) ?_
      refine eg_ti C hK hZ dX0_convolve_52 ?_
      refine lv_iload hx hb dX0_convolve_55 (lv_at hl 0 rfl) ?_
      refine lv_dup2_11 hx hb dX0_convolve_57 rfl rfl ?_
      refine el_ti C hK hZ (by omega) dX0_convolve_58 ?_
      refine lv_aload_n hx hb dX0_convolve_59 rfl (lv_at hl 4 rfl) ?_
      refine eg_tu C hK hZ dX0_convolve_60 ?_
      refine lv_bipush (v := nI 16) hx hb dX0_convolve_63 (by decide +kernel) ?_
      refine lv_iload_n hx hb dX0_convolve_65 rfl (lv_at hl 5 rfl) ?_
      refine n_mul hx hb dX0_convolve_66 ?_
      refine lv_iload hx hb dX0_convolve_67 (lv_at hl 0 rfl) ?_
      refine n_add hx hb dX0_convolve_69 ?_
      refine el_tu C hK hZ (by omega) dX0_convolve_70 ?_
      refine lv_imul hx hb dX0_convolve_71 ?_
      refine es_ti C hK hZ (by omega) dX0_convolve_72 (fun H locs hZ => ?_)
      have ev : (fill k (fun j => t1 j * tu (16 * f + j)) t1) k * tu (16 * f + k) = (fun j => t1 j * tu (16 * f + j)) k := by rw [fill_out (Nat.le_refl k)]
      have hZ : gZ D (gA (aE a) s.heap.size) s.heap (eW a d im we tk tu ip (sel (fun j => decide (5 * (j / 20) + (j % 10) / 2 < b ∧ j < 100)) (resp we ip f) op) (fill (k + 1) (fun j => t1 j * tu (16 * f + j)) t1) ha qu oo) H locs := by
        rw [show fill (k + 1) (fun j => t1 j * tu (16 * f + j)) t1 = upd (fill k (fun j => t1 j * tu (16 * f + j)) t1) k (((fill k (fun j => t1 j * tu (16 * f + j)) t1) k) * (tu ((16 * f) + k))) from (Eq.symm (fill_upd ev))]
        exact hZ
      refine n_inc (lv' := [(5, .int (nI (k + 1))), (4, .int (nI (2 * (b / 5)))), (3, .int (nI (2 * (b % 5)))), (2, .int (nI b)), (0, .ref (a 0)), (1, .int (nI f))]) hx hb dX0_convolve_73 hl (kx := 0) rfl (by decide) rfl (fun ls hl => ?_)
      refine lv_goto (tgt := 44) hx hb dX0_convolve_76 (by decide) ?_
      exact ih _ _ _ ⟨hZ, hl⟩

set_option maxHeartbeats 4000000 in
set_option maxRecDepth 100000 in
theorem e_respond (l : Launch) (D : va_G) (a : Nat → Nat) (d : Nat → ClassId) (im we tk tu ip op ti ha qu : Nat → Int32) (oo : Int32) (f : Nat) (hf : f < 2) (hI : EI im we tk tu op oo) : Mv l D (tyE d) (aE a) yX0_respond cX0_respond 3 none 3 75 (a 0) [.int (nI f)] (eW a d im we tk tu ip op ti ha qu oo) (fun u => ∃ tk' tu' ip' ti' ha' qu', u = eW a d im we tk' tu' ip' (resp we im f) ti' ha' qu' (nI f) ∧ TT we tk' tu') := by
  refine Mv.of (by decide) (Nat.le_of_ble_eq_true rfl) rfl (fun p e s m below meth c C hr hlk hK hZ ls hl => ?_)
  have C : CallFix p m c cX0_respond 3 s _ lw_all RX0 := C
  have hx := C.1
  have hb := C.2.1
  have hl : lv_has ls 3 [(0, .ref (a 0)), (1, .int (nI f))] := hl
  refine lv_aload_n hx hb dX0_respond_0 rfl (lv_at hl 0 rfl) ?_
  refine eg_oo C hK hZ dX0_respond_1 ?_
  refine lv_iload_n hx hb dX0_respond_4 rfl (lv_at hl 1 rfl) ?_
  refine lv_icmp_ne (tgt := 9) hx hb dX0_respond_5 (by decide) (fun h0 => ?_) (fun h0 => ?_)
  · refine lv_iconst (v := nI 0) hx hb dX0_respond_9 (by decide +kernel) ?_
    refine lv_istore_n (lv' := [(2, .int (nI 0)), (0, .ref (a 0)), (1, .int (nI f))]) hx hb dX0_respond_10 rfl hl (by decide) rfl (fun ls hl => ?_)
    have hZ : gZ D (gA (aE a) s.heap.size) s.heap (eW a d im we tk tu (fill 0 im ip) op ti ha qu oo) s.heap [] := by
      rw [show fill 0 im ip = ip from fill_0 _ _]
      exact hZ
    refine W_loop (N := 100) (fun k H locs ls => gZ D (gA (aE a) s.heap.size) s.heap (eW a d im we tk tu (fill k im ip) op ti ha qu oo) H locs ∧ lv_has ls 3 [(2, .int (nI k)), (0, .ref (a 0)), (1, .int (nI f))]) ?_ ?_ 0 (by omega) ⟨hZ, hl⟩
    · intro H locs ls hI
      obtain ⟨hZ, hl⟩ := hI
      refine lv_iload_n hx hb dX0_respond_11 rfl (lv_at hl 0 rfl) ?_
      refine lv_bipush (v := nI 100) hx hb dX0_respond_12 (by decide +kernel) ?_
      refine n_geY hx hb 35 dX0_respond_14 (by decide) (by omega) (by omega) ?_
      have hZ := eW_ip (ip' := im) (fun j hj => fill_in hj) hZ
      refine lv_aload_n hx hb dX0_respond_35 rfl (lv_at hl 1 rfl) ?_
      refine lv_iload_n hx hb dX0_respond_36 rfl (lv_at hl 2 rfl) ?_
      refine g_callv (ci := 0) (rest := []) C (e_convolve l D a d im we tk tu im op ti ha qu oo f hf hI.2.1 (fun j hj => bd_mono (hI.1 j hj) (by decide)) hI.2.2.1) hwX0_convolve hdX0_convolve ⟨Nat.le_of_ble_eq_true rfl, Nat.le_of_ble_eq_true rfl⟩ hK hZ rfl rfl rfl rfl hl.1 rfl (Nat.le_of_ble_eq_true rfl) dX0_respond_37 ⟨Nat.le_of_ble_eq_true rfl, Nat.le_of_ble_eq_true rfl⟩ (fun u H locs hu hZ => ?_)
      obtain ⟨tk, tu, ti, ha, qu, rfl, hT⟩ := hu
      refine lv_aload_n hx hb dX0_respond_40 rfl (lv_at hl 1 rfl) ?_
      refine lv_iload_n hx hb dX0_respond_41 rfl (lv_at hl 2 rfl) ?_
      refine es_oo C hK hZ dX0_respond_42 (fun H locs hZ => ?_)
      exact g_vret hx hb hr hlk hK hZ dX0_respond_45 (⟨tk, tu, im, ti, ha, qu, rfl, hT⟩)
    · intro k hk ih H locs ls hI
      obtain ⟨hZ, hl⟩ := hI
      refine lv_iload_n hx hb dX0_respond_11 rfl (lv_at hl 0 rfl) ?_
      refine lv_bipush (v := nI 100) hx hb dX0_respond_12 (by decide +kernel) ?_
      refine n_geN hx hb 35 dX0_respond_14 (by decide) (by omega) (by omega) ?_
      refine lv_aload_n hx hb dX0_respond_17 rfl (lv_at hl 1 rfl) ?_
      refine eg_ip C hK hZ dX0_respond_18 ?_
      refine lv_iload_n hx hb dX0_respond_21 rfl (lv_at hl 0 rfl) ?_
      refine lv_aload_n hx hb dX0_respond_22 rfl (lv_at hl 1 rfl) ?_
      refine eg_im C hK hZ dX0_respond_23 ?_
      refine lv_iload_n hx hb dX0_respond_26 rfl (lv_at hl 0 rfl) ?_
      refine el_im C hK hZ (by omega) dX0_respond_27 ?_
      refine es_ip C hK hZ (by omega) dX0_respond_28 (fun H locs hZ => ?_)
      have hZ : gZ D (gA (aE a) s.heap.size) s.heap (eW a d im we tk tu (fill (k + 1) im ip) op ti ha qu oo) H locs := by
        rw [show fill (k + 1) im ip = upd (fill k im ip) k (im k) from (Eq.symm (fill_upd rfl))]
        exact hZ
      refine n_inc (lv' := [(2, .int (nI (k + 1))), (0, .ref (a 0)), (1, .int (nI f))]) hx hb dX0_respond_29 hl (kx := 0) rfl (by decide) rfl (fun ls hl => ?_)
      refine lv_goto (tgt := 11) hx hb dX0_respond_32 (by decide) ?_
      exact ih _ _ _ ⟨hZ, hl⟩
  · have e0 : oo = nI f := h0
    have eo := hI.2.2.2.1 f hf e0
    subst e0
    subst eo
    exact g_vret hx hb hr hlk hK hZ dX0_respond_8 (⟨tk, tu, ip, ti, ha, qu, rfl, hI.2.2.1⟩)
end
section
/-! the engine: answers -/
set_option maxHeartbeats 4000000 in
set_option maxRecDepth 100000 in
theorem e_response_ok (l : Launch) (D : va_G) (a : Nat → Nat) (d : Nat → ClassId) (im we tk tu ip op ti ha qu : Nat → Int32) (oo : Int32) (f n : Nat) (hf : f < 2) (hn : n < 100) (hI : EI im we tk tu op oo) : Mi l D (tyE d) (aE a) yX0_response cX0_response 3 (some .int) 4 100 (a 0) [.int (nI f), .int (nI n)] (eW a d im we tk tu ip op ti ha qu oo) (fun r u => r = resp we im f n ∧ eI a d im we u) := by
  refine Mi.of (by decide) (Nat.le_of_ble_eq_true rfl) rfl (fun p e s m below meth c C hr hlk hK hZ ls hl => ?_)
  have C : CallFix p m c cX0_response 3 s _ lw_all RX0 := C
  have hx := C.1
  have hb := C.2.1
  have hl : lv_has ls 3 [(0, .ref (a 0)), (1, .int (nI f)), (2, .int (nI n))] := hl
  refine lv_aload_n hx hb dX0_response_0 rfl (lv_at hl 0 rfl) ?_
  refine lv_iload_n hx hb dX0_response_1 rfl (lv_at hl 1 rfl) ?_
  refine g_callp (ci := 0) (rest := []) C (e_isFilter l _ 1 (if_pos (vF_of hf)).symm) hwX0_isFilter hdX0_isFilter ⟨Nat.le_of_ble_eq_true rfl, Nat.le_of_ble_eq_true rfl⟩ hK hZ rfl rfl rfl rfl hl.1 rfl (Nat.le_of_ble_eq_true rfl) dX0_response_2 ⟨Nat.le_of_ble_eq_true rfl, Nat.le_of_ble_eq_true rfl⟩ ?_
  refine z_eqN hx hb 16 dX0_response_5 (by decide) (by decide +kernel) ?_
  refine lv_aload_n hx hb dX0_response_8 rfl (lv_at hl 0 rfl) ?_
  refine lv_iload_n hx hb dX0_response_9 rfl (lv_at hl 2 rfl) ?_
  refine g_callp (ci := 0) (rest := []) C (e_isCell l _ 1 (if_pos (vC_of hn)).symm) hwX0_isCell hdX0_isCell ⟨Nat.le_of_ble_eq_true rfl, Nat.le_of_ble_eq_true rfl⟩ hK hZ rfl rfl rfl rfl hl.1 rfl (Nat.le_of_ble_eq_true rfl) dX0_response_10 ⟨Nat.le_of_ble_eq_true rfl, Nat.le_of_ble_eq_true rfl⟩ ?_
  refine z_neY hx hb 19 dX0_response_13 (by decide) (by decide +kernel) ?_
  refine lv_aload_n hx hb dX0_response_19 rfl (lv_at hl 0 rfl) ?_
  refine lv_iload_n hx hb dX0_response_20 rfl (lv_at hl 1 rfl) ?_
  refine g_callv (ci := 0) (rest := []) C (e_respond l D a d im we tk tu ip op ti ha qu oo f hf hI) hwX0_respond hdX0_respond ⟨Nat.le_of_ble_eq_true rfl, Nat.le_of_ble_eq_true rfl⟩ hK hZ rfl rfl rfl rfl hl.1 rfl (Nat.le_of_ble_eq_true rfl) dX0_response_21 ⟨Nat.le_of_ble_eq_true rfl, Nat.le_of_ble_eq_true rfl⟩ (fun u H locs hu hZ => ?_)
  obtain ⟨tk, tu, ip, ti, ha, qu, rfl, hT⟩ := hu
  refine lv_aload_n hx hb dX0_response_24 rfl (lv_at hl 0 rfl) ?_
  refine eg_op C hK hZ dX0_response_25 ?_
  refine lv_iload_n hx hb dX0_response_28 rfl (lv_at hl 2 rfl) ?_
  refine el_op C hK hZ (by omega) dX0_response_29 ?_
  exact g_iret hx hb hr hlk hK hZ dX0_response_30 (⟨rfl, eI_resp hf hI hT⟩)

set_option maxHeartbeats 4000000 in
set_option maxRecDepth 100000 in
theorem e_response_no (l : Launch) (D : va_G) (a : Nat → Nat) (d : Nat → ClassId) (im we tk tu ip op ti ha qu : Nat → Int32) (oo : Int32) (x y : Int32) (hno : ¬ (vF x ∧ vC y)) : Mi l D (tyE d) (aE a) yX0_response cX0_response 3 (some .int) 4 100 (a 0) [.int x, .int y] (eW a d im we tk tu ip op ti ha qu oo) (fun r u => r = (-1000000000) ∧ u = eW a d im we tk tu ip op ti ha qu oo) := by
  refine Mi.of (by decide) (Nat.le_of_ble_eq_true rfl) rfl (fun p e s m below meth c C hr hlk hK hZ ls hl => ?_)
  have C : CallFix p m c cX0_response 3 s _ lw_all RX0 := C
  have hx := C.1
  have hb := C.2.1
  have hl : lv_has ls 3 [(0, .ref (a 0)), (1, .int x), (2, .int y)] := hl
  refine lv_aload_n hx hb dX0_response_0 rfl (lv_at hl 0 rfl) ?_
  refine lv_iload_n hx hb dX0_response_1 rfl (lv_at hl 1 rfl) ?_
  by_cases hc : vF x
  · refine g_callp (ci := 0) (rest := []) C (e_isFilter l _ 1 (if_pos hc).symm) hwX0_isFilter hdX0_isFilter ⟨Nat.le_of_ble_eq_true rfl, Nat.le_of_ble_eq_true rfl⟩ hK hZ rfl rfl rfl rfl hl.1 rfl (Nat.le_of_ble_eq_true rfl) dX0_response_2 ⟨Nat.le_of_ble_eq_true rfl, Nat.le_of_ble_eq_true rfl⟩ ?_
    refine z_eqN hx hb 16 dX0_response_5 (by decide) (by decide +kernel) ?_
    refine lv_aload_n hx hb dX0_response_8 rfl (lv_at hl 0 rfl) ?_
    refine lv_iload_n hx hb dX0_response_9 rfl (lv_at hl 2 rfl) ?_
    refine g_callp (ci := 0) (rest := []) C (e_isCell l _ 0 (if_neg (fun q => hno ⟨hc, q⟩)).symm) hwX0_isCell hdX0_isCell ⟨Nat.le_of_ble_eq_true rfl, Nat.le_of_ble_eq_true rfl⟩ hK hZ rfl rfl rfl rfl hl.1 rfl (Nat.le_of_ble_eq_true rfl) dX0_response_10 ⟨Nat.le_of_ble_eq_true rfl, Nat.le_of_ble_eq_true rfl⟩ ?_
    refine z_neN hx hb 19 dX0_response_13 (by decide) rfl ?_
    refine lv_ldc hx hb C.2.2.2.1 (C.2.2.2.2 _ q75) dX0_response_16 ?_
    exact g_iret hx hb hr hlk hK hZ dX0_response_18 (⟨rfl, rfl⟩)
  · refine g_callp (ci := 0) (rest := []) C (e_isFilter l _ 0 (if_neg hc).symm) hwX0_isFilter hdX0_isFilter ⟨Nat.le_of_ble_eq_true rfl, Nat.le_of_ble_eq_true rfl⟩ hK hZ rfl rfl rfl rfl hl.1 rfl (Nat.le_of_ble_eq_true rfl) dX0_response_2 ⟨Nat.le_of_ble_eq_true rfl, Nat.le_of_ble_eq_true rfl⟩ ?_
    refine z_eqY hx hb 16 dX0_response_5 (by decide) rfl ?_
    refine lv_ldc hx hb C.2.2.2.1 (C.2.2.2.2 _ q75) dX0_response_16 ?_
    exact g_iret hx hb hr hlk hK hZ dX0_response_18 (⟨rfl, rfl⟩)

set_option maxHeartbeats 4000000 in
set_option maxRecDepth 100000 in
theorem e_second_ok (l : Launch) (D : va_G) (a : Nat → Nat) (d : Nat → ClassId) (im we tk tu ip op ti ha qu : Nat → Int32) (oo : Int32) (n : Nat) (hn : n < 100) (hI : EI im we tk tu op oo) : Mi l D (tyE d) (aE a) yX0_second cX0_second 3 (some .int) 4 100 (a 0) [.int (nI n)] (eW a d im we tk tu ip op ti ha qu oo) (fun r u => r = resp we (resp we im 0) 1 n ∧ eI a d im we u) := by
  refine Mi.of (by decide) (Nat.le_of_ble_eq_true rfl) rfl (fun p e s m below meth c C hr hlk hK hZ ls hl => ?_)
  have C : CallFix p m c cX0_second 3 s _ lw_all RX0 := C
  have hx := C.1
  have hb := C.2.1
  have hl : lv_has ls 3 [(0, .ref (a 0)), (1, .int (nI n))] := hl
  refine lv_aload_n hx hb dX0_second_0 rfl (lv_at hl 0 rfl) ?_
  refine lv_iload_n hx hb dX0_second_1 rfl (lv_at hl 1 rfl) ?_
  refine g_callp (ci := 0) (rest := []) C (e_isCell l _ 1 (if_pos (vC_of hn)).symm) hwX0_isCell hdX0_isCell ⟨Nat.le_of_ble_eq_true rfl, Nat.le_of_ble_eq_true rfl⟩ hK hZ rfl rfl rfl rfl hl.1 rfl (Nat.le_of_ble_eq_true rfl) dX0_second_2 ⟨Nat.le_of_ble_eq_true rfl, Nat.le_of_ble_eq_true rfl⟩ ?_
  refine z_neY hx hb 11 dX0_second_5 (by decide) (by decide +kernel) ?_
  refine lv_aload_n hx hb dX0_second_11 rfl (lv_at hl 0 rfl) ?_
  refine eg_oo C hK hZ dX0_second_12 ?_
  refine lv_iconst (v := nI 2) hx hb dX0_second_15 (by decide +kernel) ?_
  refine lv_icmp_eq (tgt := 60) hx hb dX0_second_16 (by decide) (fun h0 => ?_) (fun h0 => ?_)
  · refine lv_aload_n hx hb dX0_second_60 rfl (lv_at hl 0 rfl) ?_
    refine eg_op C hK hZ dX0_second_61 ?_
    refine lv_iload_n hx hb dX0_second_64 rfl (lv_at hl 1 rfl) ?_
    refine el_op C hK hZ (by omega) dX0_second_65 ?_
    exact g_iret hx hb hr hlk hK hZ dX0_second_66 (⟨by rw [hI.2.2.2.2 h0], ⟨tk, tu, ip, op, ti, ha, qu, oo, rfl, hI⟩⟩)
  · refine lv_aload_n hx hb dX0_second_19 rfl (lv_at hl 0 rfl) ?_
    refine lv_iconst (v := nI 0) hx hb dX0_second_20 (by decide +kernel) ?_
    refine g_callv (ci := 0) (rest := []) C (e_respond l D a d im we tk tu ip op ti ha qu oo 0 (by decide) hI) hwX0_respond hdX0_respond ⟨Nat.le_of_ble_eq_true rfl, Nat.le_of_ble_eq_true rfl⟩ hK hZ rfl rfl rfl rfl hl.1 rfl (Nat.le_of_ble_eq_true rfl) dX0_second_21 ⟨Nat.le_of_ble_eq_true rfl, Nat.le_of_ble_eq_true rfl⟩ (fun u H locs hu hZ => ?_)
    obtain ⟨tk, tu, ip, ti, ha, qu, rfl, hT⟩ := hu
    refine lv_iconst (v := nI 0) hx hb dX0_second_24 (by decide +kernel) ?_
    refine lv_istore_n (lv' := [(2, .int (nI 0)), (0, .ref (a 0)), (1, .int (nI n))]) hx hb dX0_second_25 rfl hl (by decide) rfl (fun ls hl => ?_)
    have hZ : gZ D (gA (aE a) s.heap.size) s.heap (eW a d im we tk tu (fill 0 (resp we im 0) ip) (resp we im 0) ti ha qu (nI 0)) H locs := by
      rw [show fill 0 (resp we im 0) ip = ip from fill_0 _ _]
      exact hZ
    refine W_loop (N := 100) (fun k H locs ls => gZ D (gA (aE a) s.heap.size) s.heap (eW a d im we tk tu (fill k (resp we im 0) ip) (resp we im 0) ti ha qu (nI 0)) H locs ∧ lv_has ls 3 [(2, .int (nI k)), (0, .ref (a 0)), (1, .int (nI n))]) ?_ ?_ 0 (by omega) ⟨hZ, hl⟩
    · intro H locs ls hI
      obtain ⟨hZ, hl⟩ := hI
      refine lv_iload_n hx hb dX0_second_26 rfl (lv_at hl 0 rfl) ?_
      refine lv_bipush (v := nI 100) hx hb dX0_second_27 (by decide +kernel) ?_
      refine n_geY hx hb 50 dX0_second_29 (by decide) (by omega) (by omega) ?_
      have hZ := eW_ip (ip' := resp we im 0) (fun j hj => fill_in hj) hZ
      refine lv_aload_n hx hb dX0_second_50 rfl (lv_at hl 1 rfl) ?_
      refine lv_iconst (v := nI 1) hx hb dX0_second_51 (by decide +kernel) ?_
      refine g_callv (ci := 0) (rest := []) C (e_convolve l D a d im we tk tu (resp we im 0) (resp we im 0) ti ha qu (nI 0) 1 (by decide) hI.2.1 (fun j hj => bd_mono (resp_bd (by decide) hI.2.1 hI.1 (by decide)) (by decide)) hT) hwX0_convolve hdX0_convolve ⟨Nat.le_of_ble_eq_true rfl, Nat.le_of_ble_eq_true rfl⟩ hK hZ rfl rfl rfl rfl hl.1 rfl (Nat.le_of_ble_eq_true rfl) dX0_second_52 ⟨Nat.le_of_ble_eq_true rfl, Nat.le_of_ble_eq_true rfl⟩ (fun u H locs hu hZ => ?_)
      obtain ⟨tk, tu, ti, ha, qu, rfl, hT⟩ := hu
      refine lv_aload_n hx hb dX0_second_55 rfl (lv_at hl 1 rfl) ?_
      refine lv_iconst (v := nI 2) hx hb dX0_second_56 (by decide +kernel) ?_
      refine es_oo C hK hZ dX0_second_57 (fun H locs hZ => ?_)
      refine lv_aload_n hx hb dX0_second_60 rfl (lv_at hl 1 rfl) ?_
      refine eg_op C hK hZ dX0_second_61 ?_
      refine lv_iload_n hx hb dX0_second_64 rfl (lv_at hl 2 rfl) ?_
      refine el_op C hK hZ (by omega) dX0_second_65 ?_
      exact g_iret hx hb hr hlk hK hZ dX0_second_66 (⟨rfl, eI_resp2 hI hT⟩)
    · intro k hk ih H locs ls hI
      obtain ⟨hZ, hl⟩ := hI
      refine lv_iload_n hx hb dX0_second_26 rfl (lv_at hl 0 rfl) ?_
      refine lv_bipush (v := nI 100) hx hb dX0_second_27 (by decide +kernel) ?_
      refine n_geN hx hb 50 dX0_second_29 (by decide) (by omega) (by omega) ?_
      refine lv_aload_n hx hb dX0_second_32 rfl (lv_at hl 1 rfl) ?_
      refine eg_ip C hK hZ dX0_second_33 ?_
      refine lv_iload_n hx hb dX0_second_36 rfl (lv_at hl 0 rfl) ?_
      refine lv_aload_n hx hb dX0_second_37 rfl (lv_at hl 1 rfl) ?_
      refine eg_op C hK hZ dX0_second_38 ?_
      refine lv_iload_n hx hb dX0_second_41 rfl (lv_at hl 0 rfl) ?_
      refine el_op C hK hZ (by omega) dX0_second_42 ?_
      refine es_ip C hK hZ (by omega) dX0_second_43 (fun H locs hZ => ?_)
      have hZ : gZ D (gA (aE a) s.heap.size) s.heap (eW a d im we tk tu (fill (k + 1) (resp we im 0) ip) (resp we im 0) ti ha qu (nI 0)) H locs := by
        rw [show fill (k + 1) (resp we im 0) ip = upd (fill k (resp we im 0) ip) k ((resp we im 0) k) from (Eq.symm (fill_upd rfl))]
        exact hZ
      refine n_inc (lv' := [(2, .int (nI (k + 1))), (0, .ref (a 0)), (1, .int (nI n))]) hx hb dX0_second_44 hl (kx := 0) rfl (by decide) rfl (fun ls hl => ?_)
      refine lv_goto (tgt := 26) hx hb dX0_second_47 (by decide) ?_
      exact ih _ _ _ ⟨hZ, hl⟩

set_option maxHeartbeats 4000000 in
set_option maxRecDepth 100000 in
theorem e_second_no (l : Launch) (D : va_G) (a : Nat → Nat) (d : Nat → ClassId) (im we tk tu ip op ti ha qu : Nat → Int32) (oo : Int32) (x : Int32) (hno : ¬ vC x) : Mi l D (tyE d) (aE a) yX0_second cX0_second 3 (some .int) 4 100 (a 0) [.int x] (eW a d im we tk tu ip op ti ha qu oo) (fun r u => r = (-1000000000) ∧ u = eW a d im we tk tu ip op ti ha qu oo) := by
  refine Mi.of (by decide) (Nat.le_of_ble_eq_true rfl) rfl (fun p e s m below meth c C hr hlk hK hZ ls hl => ?_)
  have C : CallFix p m c cX0_second 3 s _ lw_all RX0 := C
  have hx := C.1
  have hb := C.2.1
  have hl : lv_has ls 3 [(0, .ref (a 0)), (1, .int x)] := hl
  refine lv_aload_n hx hb dX0_second_0 rfl (lv_at hl 0 rfl) ?_
  refine lv_iload_n hx hb dX0_second_1 rfl (lv_at hl 1 rfl) ?_
  refine g_callp (ci := 0) (rest := []) C (e_isCell l _ 0 (if_neg hno).symm) hwX0_isCell hdX0_isCell ⟨Nat.le_of_ble_eq_true rfl, Nat.le_of_ble_eq_true rfl⟩ hK hZ rfl rfl rfl rfl hl.1 rfl (Nat.le_of_ble_eq_true rfl) dX0_second_2 ⟨Nat.le_of_ble_eq_true rfl, Nat.le_of_ble_eq_true rfl⟩ ?_
  refine z_neN hx hb 11 dX0_second_5 (by decide) rfl ?_
  refine lv_ldc hx hb C.2.2.2.1 (C.2.2.2.2 _ q75) dX0_second_8 ?_
  exact g_iret hx hb hr hlk hK hZ dX0_second_10 (⟨rfl, rfl⟩)

set_option maxHeartbeats 4000000 in
set_option maxRecDepth 100000 in
theorem e_where_ok (l : Launch) (D : va_G) (a : Nat → Nat) (d : Nat → ClassId) (im we tk tu ip op ti ha qu : Nat → Int32) (oo : Int32) (f : Nat) (hf : f < 2) (hI : EI im we tk tu op oo) : Mi l D (tyE d) (aE a) yX0_where cX0_where 4 (some .int) 4 100 (a 0) [.int (nI f)] (eW a d im we tk tu ip op ti ha qu oo) (fun r u => r = nI (bst (resp we im f) 99) ∧ ∃ tk' tu' ip' ti' ha' qu', u = eW a d im we tk' tu' ip' (resp we im f) ti' ha' qu' (nI f) ∧ TT we tk' tu') := by
  refine Mi.of (by decide) (Nat.le_of_ble_eq_true rfl) rfl (fun p e s m below meth c C hr hlk hK hZ ls hl => ?_)
  have C : CallFix p m c cX0_where 4 s _ lw_all RX0 := C
  have hx := C.1
  have hb := C.2.1
  have hl : lv_has ls 4 [(0, .ref (a 0)), (1, .int (nI f))] := hl
  refine lv_aload_n hx hb dX0_where_0 rfl (lv_at hl 0 rfl) ?_
  refine lv_iload_n hx hb dX0_where_1 rfl (lv_at hl 1 rfl) ?_
  refine g_callp (ci := 0) (rest := []) C (e_isFilter l _ 1 (if_pos (vF_of hf)).symm) hwX0_isFilter hdX0_isFilter ⟨Nat.le_of_ble_eq_true rfl, Nat.le_of_ble_eq_true rfl⟩ hK hZ rfl rfl rfl rfl hl.1 rfl (Nat.le_of_ble_eq_true rfl) dX0_where_2 ⟨Nat.le_of_ble_eq_true rfl, Nat.le_of_ble_eq_true rfl⟩ ?_
  refine z_neY hx hb 11 dX0_where_5 (by decide) (by decide +kernel) ?_
  refine lv_aload_n hx hb dX0_where_11 rfl (lv_at hl 0 rfl) ?_
  refine lv_iload_n hx hb dX0_where_12 rfl (lv_at hl 1 rfl) ?_
  refine g_callv (ci := 0) (rest := []) C (e_respond l D a d im we tk tu ip op ti ha qu oo f hf hI) hwX0_respond hdX0_respond ⟨Nat.le_of_ble_eq_true rfl, Nat.le_of_ble_eq_true rfl⟩ hK hZ rfl rfl rfl rfl hl.1 rfl (Nat.le_of_ble_eq_true rfl) dX0_where_13 ⟨Nat.le_of_ble_eq_true rfl, Nat.le_of_ble_eq_true rfl⟩ (fun u H locs hu hZ => ?_)
  obtain ⟨tk, tu, ip, ti, ha, qu, rfl, hT⟩ := hu
  refine lv_iconst (v := nI 0) hx hb dX0_where_16 (by decide +kernel) ?_
  refine lv_istore_n (lv' := [(2, .int (nI 0)), (0, .ref (a 0)), (1, .int (nI f))]) hx hb dX0_where_17 rfl hl (by decide) rfl (fun ls hl => ?_)
  refine lv_iconst (v := nI 1) hx hb dX0_where_18 (by decide +kernel) ?_
  refine lv_istore_n (lv' := [(3, .int (nI 1)), (2, .int (nI 0)), (0, .ref (a 0)), (1, .int (nI f))]) hx hb dX0_where_19 rfl hl (by decide) rfl (fun ls hl => ?_)
  refine W_loop (N := 99) (fun k H locs ls => gZ D (gA (aE a) s.heap.size) s.heap (eW a d im we tk tu ip (resp we im f) ti ha qu (nI f)) H locs ∧ lv_has ls 4 [(3, .int (nI (k + 1))), (2, .int (nI (bst (resp we im f) k))), (0, .ref (a 0)), (1, .int (nI f))]) ?_ ?_ 0 (by omega) ⟨hZ, hl⟩
  · intro H locs ls hI
    obtain ⟨hZ, hl⟩ := hI
    refine lv_iload_n hx hb dX0_where_20 rfl (lv_at hl 0 rfl) ?_
    refine lv_bipush (v := nI 100) hx hb dX0_where_21 (by decide +kernel) ?_
    refine n_geY hx hb 49 dX0_where_23 (by decide) (by omega) (by omega) ?_
    refine lv_iload_n hx hb dX0_where_49 rfl (lv_at hl 1 rfl) ?_
    exact g_iret hx hb hr hlk hK hZ dX0_where_50 (⟨rfl, tk, tu, ip, ti, ha, qu, rfl, hT⟩)
  · intro k hk ih H locs ls hI
    obtain ⟨hZ, hl⟩ := hI
    have hb0 := bst_le (resp we im f) k
    refine lv_iload_n hx hb dX0_where_20 rfl (lv_at hl 0 rfl) ?_
    refine lv_bipush (v := nI 100) hx hb dX0_where_21 (by decide +kernel) ?_
    refine n_geN hx hb 49 dX0_where_23 (by decide) (by omega) (by omega) ?_
    refine lv_aload_n hx hb dX0_where_26 rfl (lv_at hl 2 rfl) ?_
    refine eg_op C hK hZ dX0_where_27 ?_
    refine lv_iload_n hx hb dX0_where_30 rfl (lv_at hl 0 rfl) ?_
    refine el_op C hK hZ (by omega) dX0_where_31 ?_
    refine lv_aload_n hx hb dX0_where_32 rfl (lv_at hl 2 rfl) ?_
    refine eg_op C hK hZ dX0_where_33 ?_
    refine lv_iload_n hx hb dX0_where_36 rfl (lv_at hl 1 rfl) ?_
    refine el_op C hK hZ (by omega) dX0_where_37 ?_
    refine lv_icmp_le (tgt := 43) hx hb dX0_where_38 (by decide) (fun h2 => ?_) (fun h2 => ?_)
    · refine n_inc (lv' := [(3, .int (nI ((k + 1) + 1))), (2, .int (nI (bst (resp we im f) k))), (0, .ref (a 0)), (1, .int (nI f))]) hx hb dX0_where_43 hl (kx := 0) rfl (by decide) rfl (fun ls hl => ?_)
      refine lv_goto (tgt := 20) hx hb dX0_where_46 (by decide) ?_
      exact ih _ _ _ ⟨hZ, by rw [show bst (resp we im f) (k + 1) = bst (resp we im f) k from if_pos h2]; exact hl⟩
    · refine lv_iload_n hx hb dX0_where_41 rfl (lv_at hl 0 rfl) ?_
      refine lv_istore_n (lv' := [(2, .int (nI (k + 1))), (3, .int (nI (k + 1))), (0, .ref (a 0)), (1, .int (nI f))]) hx hb dX0_where_42 rfl hl (by decide) rfl (fun ls hl => ?_)
      refine n_inc (lv' := [(3, .int (nI ((k + 1) + 1))), (2, .int (nI (k + 1))), (0, .ref (a 0)), (1, .int (nI f))]) hx hb dX0_where_43 hl (kx := 1) rfl (by decide) rfl (fun ls hl => ?_)
      refine lv_goto (tgt := 20) hx hb dX0_where_46 (by decide) ?_
      exact ih _ _ _ ⟨hZ, by rw [show bst (resp we im f) (k + 1) = k + 1 from if_neg h2]; exact hl⟩

set_option maxHeartbeats 4000000 in
set_option maxRecDepth 100000 in
theorem e_where_no (l : Launch) (D : va_G) (a : Nat → Nat) (d : Nat → ClassId) (im we tk tu ip op ti ha qu : Nat → Int32) (oo : Int32) (x : Int32) (hno : ¬ vF x) : Mi l D (tyE d) (aE a) yX0_where cX0_where 4 (some .int) 4 100 (a 0) [.int x] (eW a d im we tk tu ip op ti ha qu oo) (fun r u => r = (-1000000000) ∧ u = eW a d im we tk tu ip op ti ha qu oo) := by
  refine Mi.of (by decide) (Nat.le_of_ble_eq_true rfl) rfl (fun p e s m below meth c C hr hlk hK hZ ls hl => ?_)
  have C : CallFix p m c cX0_where 4 s _ lw_all RX0 := C
  have hx := C.1
  have hb := C.2.1
  have hl : lv_has ls 4 [(0, .ref (a 0)), (1, .int x)] := hl
  refine lv_aload_n hx hb dX0_where_0 rfl (lv_at hl 0 rfl) ?_
  refine lv_iload_n hx hb dX0_where_1 rfl (lv_at hl 1 rfl) ?_
  refine g_callp (ci := 0) (rest := []) C (e_isFilter l _ 0 (if_neg hno).symm) hwX0_isFilter hdX0_isFilter ⟨Nat.le_of_ble_eq_true rfl, Nat.le_of_ble_eq_true rfl⟩ hK hZ rfl rfl rfl rfl hl.1 rfl (Nat.le_of_ble_eq_true rfl) dX0_where_2 ⟨Nat.le_of_ble_eq_true rfl, Nat.le_of_ble_eq_true rfl⟩ ?_
  refine z_neN hx hb 11 dX0_where_5 (by decide) rfl ?_
  refine lv_ldc hx hb C.2.2.2.1 (C.2.2.2.2 _ q75) dX0_where_8 ?_
  exact g_iret hx hb hr hlk hK hZ dX0_where_10 (⟨rfl, rfl⟩)

set_option maxHeartbeats 4000000 in
set_option maxRecDepth 100000 in
theorem e_greatest_ok (l : Launch) (D : va_G) (a : Nat → Nat) (d : Nat → ClassId) (im we tk tu ip op ti ha qu : Nat → Int32) (oo : Int32) (f : Nat) (hf : f < 2) (hI : EI im we tk tu op oo) : Mi l D (tyE d) (aE a) yX0_greatest cX0_greatest 3 (some .int) 5 125 (a 0) [.int (nI f)] (eW a d im we tk tu ip op ti ha qu oo) (fun r u => r = resp we im f (bst (resp we im f) 99) ∧ eI a d im we u) := by
  refine Mi.of (by decide) (Nat.le_of_ble_eq_true rfl) rfl (fun p e s m below meth c C hr hlk hK hZ ls hl => ?_)
  have C : CallFix p m c cX0_greatest 3 s _ lw_all RX0 := C
  have hx := C.1
  have hb := C.2.1
  have hl : lv_has ls 3 [(0, .ref (a 0)), (1, .int (nI f))] := hl
  refine lv_aload_n hx hb dX0_greatest_0 rfl (lv_at hl 0 rfl) ?_
  refine lv_iload_n hx hb dX0_greatest_1 rfl (lv_at hl 1 rfl) ?_
  refine g_callp (ci := 0) (rest := []) C (e_isFilter l _ 1 (if_pos (vF_of hf)).symm) hwX0_isFilter hdX0_isFilter ⟨Nat.le_of_ble_eq_true rfl, Nat.le_of_ble_eq_true rfl⟩ hK hZ rfl rfl rfl rfl hl.1 rfl (Nat.le_of_ble_eq_true rfl) dX0_greatest_2 ⟨Nat.le_of_ble_eq_true rfl, Nat.le_of_ble_eq_true rfl⟩ ?_
  refine z_neY hx hb 11 dX0_greatest_5 (by decide) (by decide +kernel) ?_
  refine lv_aload_n hx hb dX0_greatest_11 rfl (lv_at hl 0 rfl) ?_
  refine lv_iload_n hx hb dX0_greatest_12 rfl (lv_at hl 1 rfl) ?_
  refine g_calli (ci := 0) (rest := []) C (e_where_ok l D a d im we tk tu ip op ti ha qu oo f hf hI) hwX0_where hdX0_where ⟨Nat.le_of_ble_eq_true rfl, Nat.le_of_ble_eq_true rfl⟩ hK hZ rfl rfl rfl rfl hl.1 rfl (Nat.le_of_ble_eq_true rfl) dX0_greatest_13 ⟨Nat.le_of_ble_eq_true rfl, Nat.le_of_ble_eq_true rfl⟩ (fun r u H locs hu hZ => ?_)
  obtain ⟨rfl, tk, tu, ip, ti, ha, qu, rfl, hT⟩ := hu
  have hb0 := bst_le (resp we im f) 99
  refine lv_istore_n (lv' := [(2, .int (nI (bst (resp we im f) 99))), (0, .ref (a 0)), (1, .int (nI f))]) hx hb dX0_greatest_16 rfl hl (by decide) rfl (fun ls hl => ?_)
  refine lv_aload_n hx hb dX0_greatest_17 rfl (lv_at hl 1 rfl) ?_
  refine eg_op C hK hZ dX0_greatest_18 ?_
  refine lv_iload_n hx hb dX0_greatest_21 rfl (lv_at hl 0 rfl) ?_
  refine el_op C hK hZ (by omega) dX0_greatest_22 ?_
  exact g_iret hx hb hr hlk hK hZ dX0_greatest_23 (⟨rfl, eI_resp hf hI hT⟩)

set_option maxHeartbeats 4000000 in
set_option maxRecDepth 100000 in
theorem e_greatest_no (l : Launch) (D : va_G) (a : Nat → Nat) (d : Nat → ClassId) (im we tk tu ip op ti ha qu : Nat → Int32) (oo : Int32) (x : Int32) (hno : ¬ vF x) : Mi l D (tyE d) (aE a) yX0_greatest cX0_greatest 3 (some .int) 5 125 (a 0) [.int x] (eW a d im we tk tu ip op ti ha qu oo) (fun r u => r = (-1000000000) ∧ u = eW a d im we tk tu ip op ti ha qu oo) := by
  refine Mi.of (by decide) (Nat.le_of_ble_eq_true rfl) rfl (fun p e s m below meth c C hr hlk hK hZ ls hl => ?_)
  have C : CallFix p m c cX0_greatest 3 s _ lw_all RX0 := C
  have hx := C.1
  have hb := C.2.1
  have hl : lv_has ls 3 [(0, .ref (a 0)), (1, .int x)] := hl
  refine lv_aload_n hx hb dX0_greatest_0 rfl (lv_at hl 0 rfl) ?_
  refine lv_iload_n hx hb dX0_greatest_1 rfl (lv_at hl 1 rfl) ?_
  refine g_callp (ci := 0) (rest := []) C (e_isFilter l _ 0 (if_neg hno).symm) hwX0_isFilter hdX0_isFilter ⟨Nat.le_of_ble_eq_true rfl, Nat.le_of_ble_eq_true rfl⟩ hK hZ rfl rfl rfl rfl hl.1 rfl (Nat.le_of_ble_eq_true rfl) dX0_greatest_2 ⟨Nat.le_of_ble_eq_true rfl, Nat.le_of_ble_eq_true rfl⟩ ?_
  refine z_neN hx hb 11 dX0_greatest_5 (by decide) rfl ?_
  refine lv_ldc hx hb C.2.2.2.1 (C.2.2.2.2 _ q75) dX0_greatest_8 ?_
  exact g_iret hx hb hr hlk hK hZ dX0_greatest_10 (⟨rfl, rfl⟩)

set_option maxHeartbeats 4000000 in
set_option maxRecDepth 100000 in
theorem e_total_ok (l : Launch) (D : va_G) (a : Nat → Nat) (d : Nat → ClassId) (im we tk tu ip op ti ha qu : Nat → Int32) (oo : Int32) (f : Nat) (hf : f < 2) (hI : EI im we tk tu op oo) : Mi l D (tyE d) (aE a) yX0_total cX0_total 4 (some .int) 4 100 (a 0) [.int (nI f)] (eW a d im we tk tu ip op ti ha qu oo) (fun r u => r = sm (resp we im f) 100 ∧ eI a d im we u) := by
  refine Mi.of (by decide) (Nat.le_of_ble_eq_true rfl) rfl (fun p e s m below meth c C hr hlk hK hZ ls hl => ?_)
  have C : CallFix p m c cX0_total 4 s _ lw_all RX0 := C
  have hx := C.1
  have hb := C.2.1
  have hl : lv_has ls 4 [(0, .ref (a 0)), (1, .int (nI f))] := hl
  refine lv_aload_n hx hb dX0_total_0 rfl (lv_at hl 0 rfl) ?_
  refine lv_iload_n hx hb dX0_total_1 rfl (lv_at hl 1 rfl) ?_
  refine g_callp (ci := 0) (rest := []) C (e_isFilter l _ 1 (if_pos (vF_of hf)).symm) hwX0_isFilter hdX0_isFilter ⟨Nat.le_of_ble_eq_true rfl, Nat.le_of_ble_eq_true rfl⟩ hK hZ rfl rfl rfl rfl hl.1 rfl (Nat.le_of_ble_eq_true rfl) dX0_total_2 ⟨Nat.le_of_ble_eq_true rfl, Nat.le_of_ble_eq_true rfl⟩ ?_
  refine z_neY hx hb 11 dX0_total_5 (by decide) (by decide +kernel) ?_
  refine lv_aload_n hx hb dX0_total_11 rfl (lv_at hl 0 rfl) ?_
  refine lv_iload_n hx hb dX0_total_12 rfl (lv_at hl 1 rfl) ?_
  refine g_callv (ci := 0) (rest := []) C (e_respond l D a d im we tk tu ip op ti ha qu oo f hf hI) hwX0_respond hdX0_respond ⟨Nat.le_of_ble_eq_true rfl, Nat.le_of_ble_eq_true rfl⟩ hK hZ rfl rfl rfl rfl hl.1 rfl (Nat.le_of_ble_eq_true rfl) dX0_total_13 ⟨Nat.le_of_ble_eq_true rfl, Nat.le_of_ble_eq_true rfl⟩ (fun u H locs hu hZ => ?_)
  obtain ⟨tk, tu, ip, ti, ha, qu, rfl, hT⟩ := hu
  refine lv_iconst (v := 0) hx hb dX0_total_16 (by decide +kernel) ?_
  refine lv_istore_n (lv' := [(2, .int 0), (0, .ref (a 0)), (1, .int (nI f))]) hx hb dX0_total_17 rfl hl (by decide) rfl (fun ls hl => ?_)
  refine lv_iconst (v := nI 0) hx hb dX0_total_18 (by decide +kernel) ?_
  refine lv_istore_n (lv' := [(3, .int (nI 0)), (2, .int 0), (0, .ref (a 0)), (1, .int (nI f))]) hx hb dX0_total_19 rfl hl (by decide) rfl (fun ls hl => ?_)
  refine W_loop (N := 100) (fun k H locs ls => gZ D (gA (aE a) s.heap.size) s.heap (eW a d im we tk tu ip (resp we im f) ti ha qu (nI f)) H locs ∧ lv_has ls 4 [(3, .int (nI k)), (2, .int (sm (resp we im f) k)), (0, .ref (a 0)), (1, .int (nI f))]) ?_ ?_ 0 (by omega) ⟨hZ, hl⟩
  · intro H locs ls hI
    obtain ⟨hZ, hl⟩ := hI
    refine lv_iload_n hx hb dX0_total_20 rfl (lv_at hl 0 rfl) ?_
    refine lv_bipush (v := nI 100) hx hb dX0_total_21 (by decide +kernel) ?_
    refine n_geY hx hb 41 dX0_total_23 (by decide) (by omega) (by omega) ?_
    refine lv_iload_n hx hb dX0_total_41 rfl (lv_at hl 1 rfl) ?_
    exact g_iret hx hb hr hlk hK hZ dX0_total_42 (⟨rfl, eI_resp hf hI hT⟩)
  · intro k hk ih H locs ls hI
    obtain ⟨hZ, hl⟩ := hI
    refine lv_iload_n hx hb dX0_total_20 rfl (lv_at hl 0 rfl) ?_
    refine lv_bipush (v := nI 100) hx hb dX0_total_21 (by decide +kernel) ?_
    refine n_geN hx hb 41 dX0_total_23 (by decide) (by omega) (by omega) ?_
    refine lv_iload_n hx hb dX0_total_26 rfl (lv_at hl 1 rfl) ?_
    refine lv_aload_n hx hb dX0_total_27 rfl (lv_at hl 2 rfl) ?_
    refine eg_op C hK hZ dX0_total_28 ?_
    refine lv_iload_n hx hb dX0_total_31 rfl (lv_at hl 0 rfl) ?_
    refine el_op C hK hZ (by omega) dX0_total_32 ?_
    refine lv_iadd hx hb dX0_total_33 ?_
    refine lv_istore_n (lv' := [(2, .int ((sm (resp we im f) k) + ((resp we im f) k))), (3, .int (nI k)), (0, .ref (a 0)), (1, .int (nI f))]) hx hb dX0_total_34 rfl hl (by decide) rfl (fun ls hl => ?_)
    refine n_inc (lv' := [(3, .int (nI (k + 1))), (2, .int ((sm (resp we im f) k) + ((resp we im f) k))), (0, .ref (a 0)), (1, .int (nI f))]) hx hb dX0_total_35 hl (kx := 1) rfl (by decide) rfl (fun ls hl => ?_)
    refine lv_goto (tgt := 20) hx hb dX0_total_38 (by decide) ?_
    exact ih _ _ _ ⟨hZ, hl⟩

set_option maxHeartbeats 4000000 in
set_option maxRecDepth 100000 in
theorem e_total_no (l : Launch) (D : va_G) (a : Nat → Nat) (d : Nat → ClassId) (im we tk tu ip op ti ha qu : Nat → Int32) (oo : Int32) (x : Int32) (hno : ¬ vF x) : Mi l D (tyE d) (aE a) yX0_total cX0_total 4 (some .int) 4 100 (a 0) [.int x] (eW a d im we tk tu ip op ti ha qu oo) (fun r u => r = (-1000000000) ∧ u = eW a d im we tk tu ip op ti ha qu oo) := by
  refine Mi.of (by decide) (Nat.le_of_ble_eq_true rfl) rfl (fun p e s m below meth c C hr hlk hK hZ ls hl => ?_)
  have C : CallFix p m c cX0_total 4 s _ lw_all RX0 := C
  have hx := C.1
  have hb := C.2.1
  have hl : lv_has ls 4 [(0, .ref (a 0)), (1, .int x)] := hl
  refine lv_aload_n hx hb dX0_total_0 rfl (lv_at hl 0 rfl) ?_
  refine lv_iload_n hx hb dX0_total_1 rfl (lv_at hl 1 rfl) ?_
  refine g_callp (ci := 0) (rest := []) C (e_isFilter l _ 0 (if_neg hno).symm) hwX0_isFilter hdX0_isFilter ⟨Nat.le_of_ble_eq_true rfl, Nat.le_of_ble_eq_true rfl⟩ hK hZ rfl rfl rfl rfl hl.1 rfl (Nat.le_of_ble_eq_true rfl) dX0_total_2 ⟨Nat.le_of_ble_eq_true rfl, Nat.le_of_ble_eq_true rfl⟩ ?_
  refine z_neN hx hb 11 dX0_total_5 (by decide) rfl ?_
  refine lv_ldc hx hb C.2.2.2.1 (C.2.2.2.2 _ q75) dX0_total_8 ?_
  exact g_iret hx hb hr hlk hK hZ dX0_total_10 (⟨rfl, rfl⟩)

set_option maxHeartbeats 4000000 in
set_option maxRecDepth 100000 in
theorem e_pooled_ok (l : Launch) (D : va_G) (a : Nat → Nat) (d : Nat → ClassId) (im we tk tu ip op ti ha qu : Nat → Int32) (oo : Int32) (f n : Nat) (hf : f < 2) (hn : n < 25) (hI : EI im we tk tu op oo) : Mi l D (tyE d) (aE a) yX0_pooled cX0_pooled 5 (some .int) 4 100 (a 0) [.int (nI f), .int (nI n)] (eW a d im we tk tu ip op ti ha qu oo) (fun r u => r = pl3 (resp we im f) ((20 * (n / 5)) + (2 * (n % 5))) ∧ eI a d im we u) := by
  refine Mi.of (by decide) (Nat.le_of_ble_eq_true rfl) rfl (fun p e s m below meth c C hr hlk hK hZ ls hl => ?_)
  have C : CallFix p m c cX0_pooled 5 s _ lw_all RX0 := C
  have hx := C.1
  have hb := C.2.1
  have hl : lv_has ls 5 [(0, .ref (a 0)), (1, .int (nI f)), (2, .int (nI n))] := hl
  refine lv_aload_n hx hb dX0_pooled_0 rfl (lv_at hl 0 rfl) ?_
  refine lv_iload_n hx hb dX0_pooled_1 rfl (lv_at hl 1 rfl) ?_
  refine g_callp (ci := 0) (rest := []) C (e_isFilter l _ 1 (if_pos (vF_of hf)).symm) hwX0_isFilter hdX0_isFilter ⟨Nat.le_of_ble_eq_true rfl, Nat.le_of_ble_eq_true rfl⟩ hK hZ rfl rfl rfl rfl hl.1 rfl (Nat.le_of_ble_eq_true rfl) dX0_pooled_2 ⟨Nat.le_of_ble_eq_true rfl, Nat.le_of_ble_eq_true rfl⟩ ?_
  refine z_eqN hx hb 18 dX0_pooled_5 (by decide) (by decide +kernel) ?_
  refine lv_iload_n hx hb dX0_pooled_8 rfl (lv_at hl 2 rfl) ?_
  refine z_ltN hx hb 18 dX0_pooled_9 (by decide) (nI_pos (by omega)) ?_
  refine lv_iload_n hx hb dX0_pooled_12 rfl (lv_at hl 2 rfl) ?_
  refine lv_bipush (v := nI 24) hx hb dX0_pooled_13 (by decide +kernel) ?_
  refine n_leY hx hb 21 dX0_pooled_15 (by decide) (by omega) (by omega) ?_
  refine lv_aload_n hx hb dX0_pooled_21 rfl (lv_at hl 0 rfl) ?_
  refine lv_iload_n hx hb dX0_pooled_22 rfl (lv_at hl 1 rfl) ?_
  refine g_callv (ci := 0) (rest := []) C (e_respond l D a d im we tk tu ip op ti ha qu oo f hf hI) hwX0_respond hdX0_respond ⟨Nat.le_of_ble_eq_true rfl, Nat.le_of_ble_eq_true rfl⟩ hK hZ rfl rfl rfl rfl hl.1 rfl (Nat.le_of_ble_eq_true rfl) dX0_pooled_23 ⟨Nat.le_of_ble_eq_true rfl, Nat.le_of_ble_eq_true rfl⟩ (fun u H locs hu hZ => ?_)
  obtain ⟨tk, tu, ip, ti, ha, qu, rfl, hT⟩ := hu
  refine lv_bipush (v := nI 20) hx hb dX0_pooled_26 (by decide +kernel) ?_
  refine lv_iload_n hx hb dX0_pooled_28 rfl (lv_at hl 2 rfl) ?_
  refine lv_iconst (v := nI 5) hx hb dX0_pooled_29 (by decide +kernel) ?_
  refine n_div hx hb (by omega) (by omega) (by omega) dX0_pooled_30 ?_
  refine n_mul hx hb dX0_pooled_31 ?_
  refine lv_iconst (v := nI 2) hx hb dX0_pooled_32 (by decide +kernel) ?_
  refine lv_iload_n hx hb dX0_pooled_33 rfl (lv_at hl 2 rfl) ?_
  refine lv_iconst (v := nI 5) hx hb dX0_pooled_34 (by decide +kernel) ?_
  refine n_rem hx hb (by omega) (by omega) (by omega) dX0_pooled_35 ?_
  refine n_mul hx hb dX0_pooled_36 ?_
  refine n_add hx hb dX0_pooled_37 ?_
  refine lv_istore_n (lv' := [(3, .int (nI ((20 * (n / 5)) + (2 * (n % 5))))), (0, .ref (a 0)), (1, .int (nI f)), (2, .int (nI n))]) hx hb dX0_pooled_38 rfl hl (by decide) rfl (fun ls hl => ?_)
  refine lv_aload_n hx hb dX0_pooled_39 rfl (lv_at hl 1 rfl) ?_
  refine eg_op C hK hZ dX0_pooled_40 ?_
  refine lv_iload_n hx hb dX0_pooled_43 rfl (lv_at hl 0 rfl) ?_
  refine el_op C hK hZ (by omega) dX0_pooled_44 ?_
  refine lv_istore (lv' := [(4, .int ((resp we im f) ((20 * (n / 5)) + (2 * (n % 5))))), (3, .int (nI ((20 * (n / 5)) + (2 * (n % 5))))), (0, .ref (a 0)), (1, .int (nI f)), (2, .int (nI n))]) hx hb dX0_pooled_45 hl (by decide) rfl (fun ls hl => ?_)
  refine W_join 70 (fun ls => lv_has ls 5 [(4, .int (pl1 (resp we im f) ((20 * (n / 5)) + (2 * (n % 5))))), (3, .int (nI ((20 * (n / 5)) + (2 * (n % 5))))), (0, .ref (a 0)), (1, .int (nI f)), (2, .int (nI n))]) (fun ls hl => ?_) (fun kj => ?_)
  · refine W_join 95 (fun ls => lv_has ls 5 [(4, .int (pl2 (resp we im f) ((20 * (n / 5)) + (2 * (n % 5))))), (3, .int (nI ((20 * (n / 5)) + (2 * (n % 5))))), (0, .ref (a 0)), (1, .int (nI f)), (2, .int (nI n))]) (fun ls hl => ?_) (fun kj => ?_)
    · refine W_join 124 (fun ls => lv_has ls 5 [(4, .int (pl3 (resp we im f) ((20 * (n / 5)) + (2 * (n % 5))))), (3, .int (nI ((20 * (n / 5)) + (2 * (n % 5))))), (0, .ref (a 0)), (1, .int (nI f)), (2, .int (nI n))]) (fun ls hl => ?_) (fun kj => ?_)
      · refine lv_iload hx hb dX0_pooled_124 (lv_at hl 0 rfl) ?_
        exact g_iret hx hb hr hlk hK hZ dX0_pooled_126 (⟨rfl, eI_resp hf hI hT⟩)
      · refine lv_aload_n hx hb dX0_pooled_95 rfl (lv_at hl 2 rfl) ?_
        refine eg_op C hK hZ dX0_pooled_96 ?_
        refine lv_iload_n hx hb dX0_pooled_99 rfl (lv_at hl 1 rfl) ?_
        refine lv_bipush (v := nI 10) hx hb dX0_pooled_100 (by decide +kernel) ?_
        refine n_add hx hb dX0_pooled_102 ?_
        refine lv_iconst (v := nI 1) hx hb dX0_pooled_103 (by decide +kernel) ?_
        refine n_add hx hb dX0_pooled_104 ?_
        refine el_op C hK hZ (by omega) dX0_pooled_105 ?_
        refine lv_iload hx hb dX0_pooled_106 (lv_at hl 0 rfl) ?_
        refine lv_icmp_le (tgt := 124) hx hb dX0_pooled_108 (by decide) (fun h2 => ?_) (fun h2 => ?_)
        · exact kj _ (by rw [show pl3 (resp we im f) ((20 * (n / 5)) + (2 * (n % 5))) = pl2 (resp we im f) ((20 * (n / 5)) + (2 * (n % 5))) from if_pos h2]; exact hl)
        · refine lv_aload_n hx hb dX0_pooled_111 rfl (lv_at hl 2 rfl) ?_
          refine eg_op C hK hZ dX0_pooled_112 ?_
          refine lv_iload_n hx hb dX0_pooled_115 rfl (lv_at hl 1 rfl) ?_
          refine lv_bipush (v := nI 10) hx hb dX0_pooled_116 (by decide +kernel) ?_
          refine n_add hx hb dX0_pooled_118 ?_
          refine lv_iconst (v := nI 1) hx hb dX0_pooled_119 (by decide +kernel) ?_
          refine n_add hx hb dX0_pooled_120 ?_
          refine el_op C hK hZ (by omega) dX0_pooled_121 ?_
          refine lv_istore (lv' := [(4, .int ((resp we im f) ((((20 * (n / 5)) + (2 * (n % 5))) + 10) + 1))), (3, .int (nI ((20 * (n / 5)) + (2 * (n % 5))))), (0, .ref (a 0)), (1, .int (nI f)), (2, .int (nI n))]) hx hb dX0_pooled_122 hl (by decide) rfl (fun ls hl => ?_)
          exact kj _ (by rw [show pl3 (resp we im f) ((20 * (n / 5)) + (2 * (n % 5))) = (resp we im f) ((((20 * (n / 5)) + (2 * (n % 5))) + 10) + 1) from if_neg h2]; exact hl)
    · refine lv_aload_n hx hb dX0_pooled_70 rfl (lv_at hl 2 rfl) ?_
      refine eg_op C hK hZ dX0_pooled_71 ?_
      refine lv_iload_n hx hb dX0_pooled_74 rfl (lv_at hl 1 rfl) ?_
      refine lv_bipush (v := nI 10) hx hb dX0_pooled_75 (by decide +kernel) ?_
      refine n_add hx hb dX0_pooled_77 ?_
      refine el_op C hK hZ (by omega) dX0_pooled_78 ?_
      refine lv_iload hx hb dX0_pooled_79 (lv_at hl 0 rfl) ?_
      refine lv_icmp_le (tgt := 95) hx hb dX0_pooled_81 (by decide) (fun h2 => ?_) (fun h2 => ?_)
      · exact kj _ (by rw [show pl2 (resp we im f) ((20 * (n / 5)) + (2 * (n % 5))) = pl1 (resp we im f) ((20 * (n / 5)) + (2 * (n % 5))) from if_pos h2]; exact hl)
      · refine lv_aload_n hx hb dX0_pooled_84 rfl (lv_at hl 2 rfl) ?_
        refine eg_op C hK hZ dX0_pooled_85 ?_
        refine lv_iload_n hx hb dX0_pooled_88 rfl (lv_at hl 1 rfl) ?_
        refine lv_bipush (v := nI 10) hx hb dX0_pooled_89 (by decide +kernel) ?_
        refine n_add hx hb dX0_pooled_91 ?_
        refine el_op C hK hZ (by omega) dX0_pooled_92 ?_
        refine lv_istore (lv' := [(4, .int ((resp we im f) (((20 * (n / 5)) + (2 * (n % 5))) + 10))), (3, .int (nI ((20 * (n / 5)) + (2 * (n % 5))))), (0, .ref (a 0)), (1, .int (nI f)), (2, .int (nI n))]) hx hb dX0_pooled_93 hl (by decide) rfl (fun ls hl => ?_)
        exact kj _ (by rw [show pl2 (resp we im f) ((20 * (n / 5)) + (2 * (n % 5))) = (resp we im f) (((20 * (n / 5)) + (2 * (n % 5))) + 10) from if_neg h2]; exact hl)
  · refine lv_aload_n hx hb dX0_pooled_47 rfl (lv_at hl 2 rfl) ?_
    refine eg_op C hK hZ dX0_pooled_48 ?_
    refine lv_iload_n hx hb dX0_pooled_51 rfl (lv_at hl 1 rfl) ?_
    refine lv_iconst (v := nI 1) hx hb dX0_pooled_52 (by decide +kernel) ?_
    refine n_add hx hb dX0_pooled_53 ?_
    refine el_op C hK hZ (by omega) dX0_pooled_54 ?_
    refine lv_iload hx hb dX0_pooled_55 (lv_at hl 0 rfl) ?_
    refine lv_icmp_le (tgt := 70) hx hb dX0_pooled_57 (by decide) (fun h2 => ?_) (fun h2 => ?_)
    · exact kj _ (by rw [show pl1 (resp we im f) ((20 * (n / 5)) + (2 * (n % 5))) = (resp we im f) ((20 * (n / 5)) + (2 * (n % 5))) from if_pos h2]; exact hl)
    · refine lv_aload_n hx hb dX0_pooled_60 rfl (lv_at hl 2 rfl) ?_
      refine eg_op C hK hZ dX0_pooled_61 ?_
      refine lv_iload_n hx hb dX0_pooled_64 rfl (lv_at hl 1 rfl) ?_
      refine lv_iconst (v := nI 1) hx hb dX0_pooled_65 (by decide +kernel) ?_
      refine n_add hx hb dX0_pooled_66 ?_
      refine el_op C hK hZ (by omega) dX0_pooled_67 ?_
      refine lv_istore (lv' := [(4, .int ((resp we im f) (((20 * (n / 5)) + (2 * (n % 5))) + 1))), (3, .int (nI ((20 * (n / 5)) + (2 * (n % 5))))), (0, .ref (a 0)), (1, .int (nI f)), (2, .int (nI n))]) hx hb dX0_pooled_68 hl (by decide) rfl (fun ls hl => ?_)
      exact kj _ (by rw [show pl1 (resp we im f) ((20 * (n / 5)) + (2 * (n % 5))) = (resp we im f) (((20 * (n / 5)) + (2 * (n % 5))) + 1) from if_neg h2]; exact hl)

set_option maxHeartbeats 4000000 in
set_option maxRecDepth 100000 in
theorem e_pooled_no (l : Launch) (D : va_G) (a : Nat → Nat) (d : Nat → ClassId) (im we tk tu ip op ti ha qu : Nat → Int32) (oo : Int32) (x y : Int32) (hno : ¬ (vF x ∧ vB y)) : Mi l D (tyE d) (aE a) yX0_pooled cX0_pooled 5 (some .int) 4 100 (a 0) [.int x, .int y] (eW a d im we tk tu ip op ti ha qu oo) (fun r u => r = (-1000000000) ∧ u = eW a d im we tk tu ip op ti ha qu oo) := by
  refine Mi.of (by decide) (Nat.le_of_ble_eq_true rfl) rfl (fun p e s m below meth c C hr hlk hK hZ ls hl => ?_)
  have C : CallFix p m c cX0_pooled 5 s _ lw_all RX0 := C
  have hx := C.1
  have hb := C.2.1
  have hl : lv_has ls 5 [(0, .ref (a 0)), (1, .int x), (2, .int y)] := hl
  refine lv_aload_n hx hb dX0_pooled_0 rfl (lv_at hl 0 rfl) ?_
  refine lv_iload_n hx hb dX0_pooled_1 rfl (lv_at hl 1 rfl) ?_
  by_cases hc : vF x
  · refine g_callp (ci := 0) (rest := []) C (e_isFilter l _ 1 (if_pos hc).symm) hwX0_isFilter hdX0_isFilter ⟨Nat.le_of_ble_eq_true rfl, Nat.le_of_ble_eq_true rfl⟩ hK hZ rfl rfl rfl rfl hl.1 rfl (Nat.le_of_ble_eq_true rfl) dX0_pooled_2 ⟨Nat.le_of_ble_eq_true rfl, Nat.le_of_ble_eq_true rfl⟩ ?_
    refine z_eqN hx hb 18 dX0_pooled_5 (by decide) (by decide +kernel) ?_
    refine lv_iload_n hx hb dX0_pooled_8 rfl (lv_at hl 2 rfl) ?_
    refine lv_if_lt (tgt := 18) hx hb dX0_pooled_9 (by decide) (fun h1 => ?_) (fun h1 => ?_)
    · refine lv_ldc hx hb C.2.2.2.1 (C.2.2.2.2 _ q75) dX0_pooled_18 ?_
      exact g_iret hx hb hr hlk hK hZ dX0_pooled_20 (⟨rfl, rfl⟩)
    · refine lv_iload_n hx hb dX0_pooled_12 rfl (lv_at hl 2 rfl) ?_
      refine lv_bipush (v := 24) hx hb dX0_pooled_13 (by decide +kernel) ?_
      refine lv_icmp_le (tgt := 21) hx hb dX0_pooled_15 (by decide) (fun h2 => ?_) (fun h2 => ?_)
      · exact absurd ⟨hc, h1, Int32.not_lt.mpr h2⟩ hno
      · refine lv_ldc hx hb C.2.2.2.1 (C.2.2.2.2 _ q75) dX0_pooled_18 ?_
        exact g_iret hx hb hr hlk hK hZ dX0_pooled_20 (⟨rfl, rfl⟩)
  · refine g_callp (ci := 0) (rest := []) C (e_isFilter l _ 0 (if_neg hc).symm) hwX0_isFilter hdX0_isFilter ⟨Nat.le_of_ble_eq_true rfl, Nat.le_of_ble_eq_true rfl⟩ hK hZ rfl rfl rfl rfl hl.1 rfl (Nat.le_of_ble_eq_true rfl) dX0_pooled_2 ⟨Nat.le_of_ble_eq_true rfl, Nat.le_of_ble_eq_true rfl⟩ ?_
    refine z_eqY hx hb 18 dX0_pooled_5 (by decide) rfl ?_
    refine lv_ldc hx hb C.2.2.2.1 (C.2.2.2.2 _ q75) dX0_pooled_18 ?_
    exact g_iret hx hb hr hlk hK hZ dX0_pooled_20 (⟨rfl, rfl⟩)

set_option maxHeartbeats 4000000 in
set_option maxRecDepth 100000 in
theorem e_apply_ok (l : Launch) (D : va_G) (a : Nat → Nat) (d : Nat → ClassId) (im we tk tu ip op ti ha qu : Nat → Int32) (oo : Int32) (f : Nat) (hf : f < 2) (hI : EI im we tk tu op oo) : Mi l D (tyE d) (aE a) yX0_apply cX0_apply 5 (some .int) 4 100 (a 0) [.int (nI f)] (eW a d im we tk tu ip op ti ha qu oo) (fun r u => r = nI (ct (resp we im f) 100) ∧ eI a d (fill 100 (fun j => cl (resp we im f j)) im) we u) := by
  refine Mi.of (by decide) (Nat.le_of_ble_eq_true rfl) rfl (fun p e s m below meth c C hr hlk hK hZ ls hl => ?_)
  have C : CallFix p m c cX0_apply 5 s _ lw_all RX0 := C
  have hx := C.1
  have hb := C.2.1
  have hl : lv_has ls 5 [(0, .ref (a 0)), (1, .int (nI f))] := hl
  refine lv_aload_n hx hb dX0_apply_0 rfl (lv_at hl 0 rfl) ?_
  refine lv_iload_n hx hb dX0_apply_1 rfl (lv_at hl 1 rfl) ?_
  refine g_callp (ci := 0) (rest := []) C (e_isFilter l _ 1 (if_pos (vF_of hf)).symm) hwX0_isFilter hdX0_isFilter ⟨Nat.le_of_ble_eq_true rfl, Nat.le_of_ble_eq_true rfl⟩ hK hZ rfl rfl rfl rfl hl.1 rfl (Nat.le_of_ble_eq_true rfl) dX0_apply_2 ⟨Nat.le_of_ble_eq_true rfl, Nat.le_of_ble_eq_true rfl⟩ ?_
  refine z_neY hx hb 11 dX0_apply_5 (by decide) (by decide +kernel) ?_
  refine lv_aload_n hx hb dX0_apply_11 rfl (lv_at hl 0 rfl) ?_
  refine lv_iload_n hx hb dX0_apply_12 rfl (lv_at hl 1 rfl) ?_
  refine g_callv (ci := 0) (rest := []) C (e_respond l D a d im we tk tu ip op ti ha qu oo f hf hI) hwX0_respond hdX0_respond ⟨Nat.le_of_ble_eq_true rfl, Nat.le_of_ble_eq_true rfl⟩ hK hZ rfl rfl rfl rfl hl.1 rfl (Nat.le_of_ble_eq_true rfl) dX0_apply_13 ⟨Nat.le_of_ble_eq_true rfl, Nat.le_of_ble_eq_true rfl⟩ (fun u H locs hu hZ => ?_)
  obtain ⟨tk, tu, ip, ti, ha, qu, rfl, hT⟩ := hu
  refine lv_iconst (v := nI 0) hx hb dX0_apply_16 (by decide +kernel) ?_
  refine lv_istore_n (lv' := [(2, .int (nI 0)), (0, .ref (a 0)), (1, .int (nI f))]) hx hb dX0_apply_17 rfl hl (by decide) rfl (fun ls hl => ?_)
  refine lv_iconst (v := nI 0) hx hb dX0_apply_18 (by decide +kernel) ?_
  refine lv_istore_n (lv' := [(3, .int (nI 0)), (2, .int (nI 0)), (0, .ref (a 0)), (1, .int (nI f))]) hx hb dX0_apply_19 rfl hl (by decide) rfl (fun ls hl => ?_)
  have hZ : gZ D (gA (aE a) s.heap.size) s.heap (eW a d (fill 0 (fun j => cl (resp we im f j)) im) we tk tu ip (resp we im f) ti ha qu (nI f)) H locs := by
    rw [show fill 0 (fun j => cl (resp we im f j)) im = im from fill_0 _ _]
    exact hZ
  refine W_loop (N := 100) (fun k H locs ls => gZ D (gA (aE a) s.heap.size) s.heap (eW a d (fill k (fun j => cl (resp we im f j)) im) we tk tu ip (resp we im f) ti ha qu (nI f)) H locs ∧ lv_has ls 5 [(3, .int (nI k)), (2, .int (nI (ct (resp we im f) k))), (0, .ref (a 0)), (1, .int (nI f))]) ?_ ?_ 0 (by omega) ⟨hZ, hl⟩
  · intro H locs ls hI
    obtain ⟨hZ, hl⟩ := hI
    refine lv_iload_n hx hb dX0_apply_20 rfl (lv_at hl 0 rfl) ?_
    refine lv_bipush (v := nI 100) hx hb dX0_apply_21 (by decide +kernel) ?_
    refine n_geY hx hb 90 dX0_apply_23 (by decide) (by omega) (by omega) ?_
    refine lv_aload_n hx hb dX0_apply_90 rfl (lv_at hl 2 rfl) ?_
    refine lv_iconst (v := (-1)) hx hb dX0_apply_91 (by decide +kernel) ?_
    refine es_oo C hK hZ dX0_apply_92 (fun H locs hZ => ?_)
    refine lv_iload_n hx hb dX0_apply_95 rfl (lv_at hl 1 rfl) ?_
    exact g_iret hx hb hr hlk hK hZ dX0_apply_96 (⟨rfl, tk, tu, ip, _, ti, ha, qu, _, rfl, EI_m1 (fun j hj => by rw [fill_in hj]; exact cl_bd _) hI.2.1 hT⟩)
  · intro k hk ih H locs ls hI
    obtain ⟨hZ, hl⟩ := hI
    refine lv_iload_n hx hb dX0_apply_20 rfl (lv_at hl 0 rfl) ?_
    refine lv_bipush (v := nI 100) hx hb dX0_apply_21 (by decide +kernel) ?_
    refine n_geN hx hb 90 dX0_apply_23 (by decide) (by omega) (by omega) ?_
    refine lv_aload_n hx hb dX0_apply_26 rfl (lv_at hl 2 rfl) ?_
    refine eg_op C hK hZ dX0_apply_27 ?_
    refine lv_iload_n hx hb dX0_apply_30 rfl (lv_at hl 0 rfl) ?_
    refine el_op C hK hZ (by omega) dX0_apply_31 ?_
    refine lv_istore (lv' := [(4, .int ((resp we im f) k)), (3, .int (nI k)), (2, .int (nI (ct (resp we im f) k))), (0, .ref (a 0)), (1, .int (nI f))]) hx hb dX0_apply_32 hl (by decide) rfl (fun ls hl => ?_)
    by_cases h1 : resp we im f k < -99
    · refine lv_iload hx hb dX0_apply_34 (lv_at hl 0 rfl) ?_
      refine lv_bipush (v := (-99)) hx hb dX0_apply_36 (by decide +kernel) ?_
      refine c_ltY hx hb 48 dX0_apply_38 (by decide) h1 ?_
      refine n_inc (lv' := [(2, .int (nI ((ct (resp we im f) k) + 1))), (4, .int ((resp we im f) k)), (3, .int (nI k)), (0, .ref (a 0)), (1, .int (nI f))]) hx hb dX0_apply_48 hl (kx := 2) rfl (by decide) rfl (fun ls hl => ?_)
      refine lv_aload_n hx hb dX0_apply_51 rfl (lv_at hl 3 rfl) ?_
      refine eg_im C hK hZ dX0_apply_52 ?_
      refine lv_iload_n hx hb dX0_apply_55 rfl (lv_at hl 2 rfl) ?_
      refine lv_iload hx hb dX0_apply_56 (lv_at hl 1 rfl) ?_
      refine lv_bipush (v := (-99)) hx hb dX0_apply_58 (by decide +kernel) ?_
      refine c_geN hx hb 68 dX0_apply_60 (by decide) (Int32.not_le.mpr h1) ?_
      refine lv_bipush (v := (-99)) hx hb dX0_apply_63 (by decide +kernel) ?_
      refine lv_goto (tgt := 82) hx hb dX0_apply_65 (by decide) ?_
      refine lv_i2b (v := (-99)) hx hb dX0_apply_82 (by decide +kernel) ?_
      refine es_im C hK hZ (-99) (by decide +kernel) (by omega) dX0_apply_83 (fun H locs hZ => ?_)
      have hZ : gZ D (gA (aE a) s.heap.size) s.heap (eW a d (fill (k + 1) (fun j => cl (resp we im f j)) im) we tk tu ip (resp we im f) ti ha qu (nI f)) H locs := by
        rw [show fill (k + 1) (fun j => cl (resp we im f j)) im = upd (fill k (fun j => cl (resp we im f j)) im) k (-99) from (Eq.symm (fill_upd (cl_lo h1)))]
        exact hZ
      refine n_inc (lv' := [(3, .int (nI (k + 1))), (2, .int (nI ((ct (resp we im f) k) + 1))), (4, .int ((resp we im f) k)), (0, .ref (a 0)), (1, .int (nI f))]) hx hb dX0_apply_84 hl (kx := 2) rfl (by decide) rfl (fun ls hl => ?_)
      refine lv_goto (tgt := 20) hx hb dX0_apply_87 (by decide) ?_
      exact ih _ _ _ ⟨hZ, by rw [show ct (resp we im f) (k + 1) = ct (resp we im f) k + 1 from if_pos (Or.inl h1)]; exact lv_sub hl [0, 1, 3, 4] rfl⟩
    · refine lv_iload hx hb dX0_apply_34 (lv_at hl 0 rfl) ?_
      refine lv_bipush (v := (-99)) hx hb dX0_apply_36 (by decide +kernel) ?_
      refine c_ltN hx hb 48 dX0_apply_38 (by decide) h1 ?_
      refine lv_iload hx hb dX0_apply_41 (lv_at hl 0 rfl) ?_
      refine lv_bipush (v := nI 99) hx hb dX0_apply_43 (by decide +kernel) ?_
      by_cases h2 : resp we im f k ≤ 99
      · refine c_leY hx hb 51 dX0_apply_45 (by decide) h2 ?_
        refine lv_aload_n hx hb dX0_apply_51 rfl (lv_at hl 3 rfl) ?_
        refine eg_im C hK hZ dX0_apply_52 ?_
        refine lv_iload_n hx hb dX0_apply_55 rfl (lv_at hl 1 rfl) ?_
        refine lv_iload hx hb dX0_apply_56 (lv_at hl 0 rfl) ?_
        refine lv_bipush (v := (-99)) hx hb dX0_apply_58 (by decide +kernel) ?_
        refine c_geY hx hb 68 dX0_apply_60 (by decide) (Int32.not_lt.mp h1) ?_
        refine lv_iload hx hb dX0_apply_68 (lv_at hl 0 rfl) ?_
        refine lv_bipush (v := nI 99) hx hb dX0_apply_70 (by decide +kernel) ?_
        refine c_leY hx hb 80 dX0_apply_72 (by decide) h2 ?_
        refine lv_iload hx hb dX0_apply_80 (lv_at hl 0 rfl) ?_
        refine lv_i2b (v := resp we im f k) hx hb dX0_apply_82 (byte_id (bd_of h1 h2 (by decide +kernel) (by decide +kernel) : bd _ 99) (by decide)) ?_
        refine es_im C hK hZ (resp we im f k) (nar_id (bd_of h1 h2 (by decide +kernel) (by decide +kernel) : bd _ 99) (by decide)) (by omega) dX0_apply_83 (fun H locs hZ => ?_)
        have hZ : gZ D (gA (aE a) s.heap.size) s.heap (eW a d (fill (k + 1) (fun j => cl (resp we im f j)) im) we tk tu ip (resp we im f) ti ha qu (nI f)) H locs := by
          rw [show fill (k + 1) (fun j => cl (resp we im f j)) im = upd (fill k (fun j => cl (resp we im f j)) im) k (resp we im f k) from (Eq.symm (fill_upd (cl_id h1 (Int32.not_lt.mpr h2))))]
          exact hZ
        refine n_inc (lv' := [(3, .int (nI (k + 1))), (4, .int ((resp we im f) k)), (2, .int (nI (ct (resp we im f) k))), (0, .ref (a 0)), (1, .int (nI f))]) hx hb dX0_apply_84 hl (kx := 1) rfl (by decide) rfl (fun ls hl => ?_)
        refine lv_goto (tgt := 20) hx hb dX0_apply_87 (by decide) ?_
        exact ih _ _ _ ⟨hZ, by rw [show ct (resp we im f) (k + 1) = ct (resp we im f) k from if_neg (fun q => q.elim h1 (Int32.not_lt.mpr h2))]; exact lv_sub hl [0, 2, 3, 4] rfl⟩
      · refine c_leN hx hb 51 dX0_apply_45 (by decide) h2 ?_
        refine n_inc (lv' := [(2, .int (nI ((ct (resp we im f) k) + 1))), (4, .int ((resp we im f) k)), (3, .int (nI k)), (0, .ref (a 0)), (1, .int (nI f))]) hx hb dX0_apply_48 hl (kx := 2) rfl (by decide) rfl (fun ls hl => ?_)
        refine lv_aload_n hx hb dX0_apply_51 rfl (lv_at hl 3 rfl) ?_
        refine eg_im C hK hZ dX0_apply_52 ?_
        refine lv_iload_n hx hb dX0_apply_55 rfl (lv_at hl 2 rfl) ?_
        refine lv_iload hx hb dX0_apply_56 (lv_at hl 1 rfl) ?_
        refine lv_bipush (v := (-99)) hx hb dX0_apply_58 (by decide +kernel) ?_
        refine c_geY hx hb 68 dX0_apply_60 (by decide) (Int32.not_lt.mp h1) ?_
        refine lv_iload hx hb dX0_apply_68 (lv_at hl 1 rfl) ?_
        refine lv_bipush (v := nI 99) hx hb dX0_apply_70 (by decide +kernel) ?_
        refine c_leN hx hb 80 dX0_apply_72 (by decide) h2 ?_
        refine lv_bipush (v := nI 99) hx hb dX0_apply_75 (by decide +kernel) ?_
        refine lv_goto (tgt := 82) hx hb dX0_apply_77 (by decide) ?_
        refine lv_i2b (v := 99) hx hb dX0_apply_82 (by decide +kernel) ?_
        refine es_im C hK hZ 99 (by decide +kernel) (by omega) dX0_apply_83 (fun H locs hZ => ?_)
        have hZ : gZ D (gA (aE a) s.heap.size) s.heap (eW a d (fill (k + 1) (fun j => cl (resp we im f j)) im) we tk tu ip (resp we im f) ti ha qu (nI f)) H locs := by
          rw [show fill (k + 1) (fun j => cl (resp we im f j)) im = upd (fill k (fun j => cl (resp we im f j)) im) k 99 from (Eq.symm (fill_upd (cl_hi h1 (Int32.not_le.mp h2))))]
          exact hZ
        refine n_inc (lv' := [(3, .int (nI (k + 1))), (2, .int (nI ((ct (resp we im f) k) + 1))), (4, .int ((resp we im f) k)), (0, .ref (a 0)), (1, .int (nI f))]) hx hb dX0_apply_84 hl (kx := 2) rfl (by decide) rfl (fun ls hl => ?_)
        refine lv_goto (tgt := 20) hx hb dX0_apply_87 (by decide) ?_
        exact ih _ _ _ ⟨hZ, by rw [show ct (resp we im f) (k + 1) = ct (resp we im f) k + 1 from if_pos (Or.inr (Int32.not_le.mp h2))]; exact lv_sub hl [0, 1, 3, 4] rfl⟩

set_option maxHeartbeats 4000000 in
set_option maxRecDepth 100000 in
theorem e_apply_no (l : Launch) (D : va_G) (a : Nat → Nat) (d : Nat → ClassId) (im we tk tu ip op ti ha qu : Nat → Int32) (oo : Int32) (x : Int32) (hno : ¬ vF x) : Mi l D (tyE d) (aE a) yX0_apply cX0_apply 5 (some .int) 4 100 (a 0) [.int x] (eW a d im we tk tu ip op ti ha qu oo) (fun r u => r = (-1000000000) ∧ u = eW a d im we tk tu ip op ti ha qu oo) := by
  refine Mi.of (by decide) (Nat.le_of_ble_eq_true rfl) rfl (fun p e s m below meth c C hr hlk hK hZ ls hl => ?_)
  have C : CallFix p m c cX0_apply 5 s _ lw_all RX0 := C
  have hx := C.1
  have hb := C.2.1
  have hl : lv_has ls 5 [(0, .ref (a 0)), (1, .int x)] := hl
  refine lv_aload_n hx hb dX0_apply_0 rfl (lv_at hl 0 rfl) ?_
  refine lv_iload_n hx hb dX0_apply_1 rfl (lv_at hl 1 rfl) ?_
  refine g_callp (ci := 0) (rest := []) C (e_isFilter l _ 0 (if_neg hno).symm) hwX0_isFilter hdX0_isFilter ⟨Nat.le_of_ble_eq_true rfl, Nat.le_of_ble_eq_true rfl⟩ hK hZ rfl rfl rfl rfl hl.1 rfl (Nat.le_of_ble_eq_true rfl) dX0_apply_2 ⟨Nat.le_of_ble_eq_true rfl, Nat.le_of_ble_eq_true rfl⟩ ?_
  refine z_neN hx hb 11 dX0_apply_5 (by decide) rfl ?_
  refine lv_ldc hx hb C.2.2.2.1 (C.2.2.2.2 _ q75) dX0_apply_8 ?_
  exact g_iret hx hb hr hlk hK hZ dX0_apply_10 (⟨rfl, rfl⟩)
end
section
/-! the model -/
theorem pI_vP {U : Nat} (hm : U < 2 ^ 30) : vP (nI U - nI 1) ↔ (1 ≤ U ∧ U ≤ 10) := by
  constructor
  · intro h
    have h1 : 1 ≤ U := by
      rcases Nat.eq_zero_or_pos U with e | e
      · exact absurd (pI_lt e) h.1
      · exact e
    refine ⟨h1, ?_⟩
    have h2 := h.2
    rw [pk_sub h1] at h2
    rcases Nat.lt_or_ge 10 U with e | e
    · exact absurd (nI_lt (a := 9) (b := U - 1) (by omega) (by omega)) h2
    · exact e
  · intro h
    rw [pk_sub h.1]
    exact vP_of (by omega)
theorem rs_in {w g : Nat → Int32} {x y k : Nat} (h : 1 ≤ x + k % 3 ∧ x + k % 3 ≤ 10 ∧ 1 ≤ y + k / 3 ∧ y + k / 3 ≤ 10) : rs w g x y (k + 1) = rs w g x y k + w k * g (10 * (y + k / 3 - 1) + (x + k % 3 - 1)) := by
  show rs w g x y k + w k * pad g (x + k % 3) (y + k / 3) = _
  rw [← pad_in h]
theorem rs_out {w g : Nat → Int32} {x y k : Nat} (h : ¬ (1 ≤ x + k % 3 ∧ x + k % 3 ≤ 10 ∧ 1 ≤ y + k / 3 ∧ y + k / 3 ≤ 10)) : rs w g x y (k + 1) = rs w g x y k := by
  show rs w g x y k + w k * pad g (x + k % 3) (y + k / 3) = _
  rw [← pad_out h, nI_0, Int32.mul_zero, Int32.add_zero]

set_option maxHeartbeats 4000000 in
set_option maxRecDepth 100000 in
theorem m_set_ok (l : Launch) (D : va_G) (a : Nat → Nat) (d : Nat → ClassId) (mi mf mw : Nat → Int32) (n : Nat) (hn : n < 100) (v : Int32) (hv : vV v) : Mi l D (tyM d) (aM a) yX1_set cX1_set 3 (some .boolean) 1 21 (a 0) [.int (nI n), .int v] (mW a d mi mf mw) (fun r u => r = 1 ∧ u = mW a d (upd mi n v) mf mw) := by
  refine Mi.of (by decide) (Nat.le_of_ble_eq_true rfl) rfl (fun p e s m below meth c C hr hlk hK hZ ls hl => ?_)
  have C : CallFix p m c cX1_set 3 s _ lw_all RX1 := C
  have hx := C.1
  have hb := C.2.1
  have hl : lv_has ls 3 [(0, .ref (a 0)), (1, .int (nI n)), (2, .int v)] := hl
  refine lv_aload_n hx hb dX1_set_0 rfl (lv_at hl 0 rfl) ?_
  refine lv_iload_n hx hb dX1_set_1 rfl (lv_at hl 1 rfl) ?_
  refine g_callp (ci := 1) (rest := []) C (m_isCell l _ 1 (if_pos (vC_of hn)).symm) hwX1_isCell hdX1_isCell ⟨Nat.le_of_ble_eq_true rfl, Nat.le_of_ble_eq_true rfl⟩ hK hZ rfl rfl rfl rfl hl.1 rfl (Nat.le_of_ble_eq_true rfl) dX1_set_2 ⟨Nat.le_of_ble_eq_true rfl, Nat.le_of_ble_eq_true rfl⟩ ?_
  refine z_eqN hx hb 16 dX1_set_5 (by decide) (by decide +kernel) ?_
  refine lv_aload_n hx hb dX1_set_8 rfl (lv_at hl 0 rfl) ?_
  refine lv_iload_n hx hb dX1_set_9 rfl (lv_at hl 2 rfl) ?_
  refine g_callp (ci := 1) (rest := []) C (m_isValue l _ 1 (if_pos hv).symm) hwX1_isValue hdX1_isValue ⟨Nat.le_of_ble_eq_true rfl, Nat.le_of_ble_eq_true rfl⟩ hK hZ rfl rfl rfl rfl hl.1 rfl (Nat.le_of_ble_eq_true rfl) dX1_set_10 ⟨Nat.le_of_ble_eq_true rfl, Nat.le_of_ble_eq_true rfl⟩ ?_
  refine z_neY hx hb 18 dX1_set_13 (by decide) (by decide +kernel) ?_
  refine lv_aload_n hx hb dX1_set_18 rfl (lv_at hl 0 rfl) ?_
  refine mg_mi C hK hZ dX1_set_19 ?_
  refine lv_iload_n hx hb dX1_set_22 rfl (lv_at hl 1 rfl) ?_
  refine lv_iload_n hx hb dX1_set_23 rfl (lv_at hl 2 rfl) ?_
  refine ms_mi C hK hZ (by omega) dX1_set_24 (fun H locs hZ => ?_)
  refine lv_iconst (v := 1) hx hb dX1_set_25 (by decide +kernel) ?_
  exact g_zret hx hb hr hlk rfl hK hZ dX1_set_26 (⟨rfl, rfl⟩)

set_option maxHeartbeats 4000000 in
set_option maxRecDepth 100000 in
theorem m_set_no (l : Launch) (D : va_G) (a : Nat → Nat) (d : Nat → ClassId) (mi mf mw : Nat → Int32) (x v : Int32) (hno : ¬ (vC x ∧ vV v)) : Mi l D (tyM d) (aM a) yX1_set cX1_set 3 (some .boolean) 1 21 (a 0) [.int x, .int v] (mW a d mi mf mw) (fun r u => r = 0 ∧ u = mW a d mi mf mw) := by
  refine Mi.of (by decide) (Nat.le_of_ble_eq_true rfl) rfl (fun p e s m below meth c C hr hlk hK hZ ls hl => ?_)
  have C : CallFix p m c cX1_set 3 s _ lw_all RX1 := C
  have hx := C.1
  have hb := C.2.1
  have hl : lv_has ls 3 [(0, .ref (a 0)), (1, .int x), (2, .int v)] := hl
  refine lv_aload_n hx hb dX1_set_0 rfl (lv_at hl 0 rfl) ?_
  refine lv_iload_n hx hb dX1_set_1 rfl (lv_at hl 1 rfl) ?_
  by_cases hc : vC x
  · refine g_callp (ci := 1) (rest := []) C (m_isCell l _ 1 (if_pos hc).symm) hwX1_isCell hdX1_isCell ⟨Nat.le_of_ble_eq_true rfl, Nat.le_of_ble_eq_true rfl⟩ hK hZ rfl rfl rfl rfl hl.1 rfl (Nat.le_of_ble_eq_true rfl) dX1_set_2 ⟨Nat.le_of_ble_eq_true rfl, Nat.le_of_ble_eq_true rfl⟩ ?_
    refine z_eqN hx hb 16 dX1_set_5 (by decide) (by decide +kernel) ?_
    refine lv_aload_n hx hb dX1_set_8 rfl (lv_at hl 0 rfl) ?_
    refine lv_iload_n hx hb dX1_set_9 rfl (lv_at hl 2 rfl) ?_
    refine g_callp (ci := 1) (rest := []) C (m_isValue l _ 0 (if_neg (fun q => hno ⟨hc, q⟩)).symm) hwX1_isValue hdX1_isValue ⟨Nat.le_of_ble_eq_true rfl, Nat.le_of_ble_eq_true rfl⟩ hK hZ rfl rfl rfl rfl hl.1 rfl (Nat.le_of_ble_eq_true rfl) dX1_set_10 ⟨Nat.le_of_ble_eq_true rfl, Nat.le_of_ble_eq_true rfl⟩ ?_
    refine z_neN hx hb 18 dX1_set_13 (by decide) rfl ?_
    refine lv_iconst (v := 0) hx hb dX1_set_16 (by decide +kernel) ?_
    exact g_zret hx hb hr hlk rfl hK hZ dX1_set_17 (⟨rfl, rfl⟩)
  · refine g_callp (ci := 1) (rest := []) C (m_isCell l _ 0 (if_neg hc).symm) hwX1_isCell hdX1_isCell ⟨Nat.le_of_ble_eq_true rfl, Nat.le_of_ble_eq_true rfl⟩ hK hZ rfl rfl rfl rfl hl.1 rfl (Nat.le_of_ble_eq_true rfl) dX1_set_2 ⟨Nat.le_of_ble_eq_true rfl, Nat.le_of_ble_eq_true rfl⟩ ?_
    refine z_eqY hx hb 16 dX1_set_5 (by decide) rfl ?_
    refine lv_iconst (v := 0) hx hb dX1_set_16 (by decide +kernel) ?_
    exact g_zret hx hb hr hlk rfl hK hZ dX1_set_17 (⟨rfl, rfl⟩)

set_option maxHeartbeats 4000000 in
set_option maxRecDepth 100000 in
theorem m_weight_ok (l : Launch) (D : va_G) (a : Nat → Nat) (d : Nat → ClassId) (mi mf mw : Nat → Int32) (f n : Nat) (hf : f < 2) (hn : n < 9) (v : Int32) (hv : vU v) : Mi l D (tyM d) (aM a) yX1_weight cX1_weight 4 (some .boolean) 1 21 (a 0) [.int (nI f), .int (nI n), .int v] (mW a d mi mf mw) (fun r u => r = 1 ∧ u = mW a d mi mf (upd mw (9 * f + n) v)) := by
  refine Mi.of (by decide) (Nat.le_of_ble_eq_true rfl) rfl (fun p e s m below meth c C hr hlk hK hZ ls hl => ?_)
  have C : CallFix p m c cX1_weight 4 s _ lw_all RX1 := C
  have hx := C.1
  have hb := C.2.1
  have hl : lv_has ls 4 [(0, .ref (a 0)), (1, .int (nI f)), (2, .int (nI n)), (3, .int v)] := hl
  refine lv_aload_n hx hb dX1_weight_0 rfl (lv_at hl 0 rfl) ?_
  refine lv_iload_n hx hb dX1_weight_1 rfl (lv_at hl 1 rfl) ?_
  refine g_callp (ci := 1) (rest := []) C (m_isFilter l _ 1 (if_pos (vF_of hf)).symm) hwX1_isFilter hdX1_isFilter ⟨Nat.le_of_ble_eq_true rfl, Nat.le_of_ble_eq_true rfl⟩ hK hZ rfl rfl rfl rfl hl.1 rfl (Nat.le_of_ble_eq_true rfl) dX1_weight_2 ⟨Nat.le_of_ble_eq_true rfl, Nat.le_of_ble_eq_true rfl⟩ ?_
  refine z_eqN hx hb 30 dX1_weight_5 (by decide) (by decide +kernel) ?_
  refine lv_iload_n hx hb dX1_weight_8 rfl (lv_at hl 2 rfl) ?_
  refine z_ltN hx hb 30 dX1_weight_9 (by decide) (nI_pos (by omega)) ?_
  refine lv_iload_n hx hb dX1_weight_12 rfl (lv_at hl 2 rfl) ?_
  refine lv_bipush (v := nI 8) hx hb dX1_weight_13 (by decide +kernel) ?_
  refine n_gtN hx hb 30 dX1_weight_15 (by decide) (by omega) (by omega) ?_
  refine lv_iload_n hx hb dX1_weight_18 rfl (lv_at hl 3 rfl) ?_
  refine lv_bipush (v := (-9)) hx hb dX1_weight_19 (by decide +kernel) ?_
  refine c_ltN hx hb 30 dX1_weight_21 (by decide) hv.1 ?_
  refine lv_iload_n hx hb dX1_weight_24 rfl (lv_at hl 3 rfl) ?_
  refine lv_bipush (v := nI 9) hx hb dX1_weight_25 (by decide +kernel) ?_
  refine c_leY hx hb 32 dX1_weight_27 (by decide) (Int32.not_lt.mp hv.2) ?_
  refine lv_aload_n hx hb dX1_weight_32 rfl (lv_at hl 0 rfl) ?_
  refine mg_mw C hK hZ dX1_weight_33 ?_
  refine lv_bipush (v := nI 9) hx hb dX1_weight_36 (by decide +kernel) ?_
  refine lv_iload_n hx hb dX1_weight_38 rfl (lv_at hl 1 rfl) ?_
  refine n_mul hx hb dX1_weight_39 ?_
  refine lv_iload_n hx hb dX1_weight_40 rfl (lv_at hl 2 rfl) ?_
  refine n_add hx hb dX1_weight_41 ?_
  refine lv_iload_n hx hb dX1_weight_42 rfl (lv_at hl 3 rfl) ?_
  refine ms_mw C hK hZ (by omega) dX1_weight_43 (fun H locs hZ => ?_)
  refine lv_iconst (v := 1) hx hb dX1_weight_44 (by decide +kernel) ?_
  exact g_zret hx hb hr hlk rfl hK hZ dX1_weight_45 (⟨rfl, rfl⟩)

set_option maxHeartbeats 4000000 in
set_option maxRecDepth 100000 in
theorem m_weight_no (l : Launch) (D : va_G) (a : Nat → Nat) (d : Nat → ClassId) (mi mf mw : Nat → Int32) (x y v : Int32) (hno : ¬ (vF x ∧ vN y ∧ vU v)) : Mi l D (tyM d) (aM a) yX1_weight cX1_weight 4 (some .boolean) 1 21 (a 0) [.int x, .int y, .int v] (mW a d mi mf mw) (fun r u => r = 0 ∧ u = mW a d mi mf mw) := by
  refine Mi.of (by decide) (Nat.le_of_ble_eq_true rfl) rfl (fun p e s m below meth c C hr hlk hK hZ ls hl => ?_)
  have C : CallFix p m c cX1_weight 4 s _ lw_all RX1 := C
  have hx := C.1
  have hb := C.2.1
  have hl : lv_has ls 4 [(0, .ref (a 0)), (1, .int x), (2, .int y), (3, .int v)] := hl
  refine lv_aload_n hx hb dX1_weight_0 rfl (lv_at hl 0 rfl) ?_
  refine lv_iload_n hx hb dX1_weight_1 rfl (lv_at hl 1 rfl) ?_
  by_cases hc : vF x
  · refine g_callp (ci := 1) (rest := []) C (m_isFilter l _ 1 (if_pos hc).symm) hwX1_isFilter hdX1_isFilter ⟨Nat.le_of_ble_eq_true rfl, Nat.le_of_ble_eq_true rfl⟩ hK hZ rfl rfl rfl rfl hl.1 rfl (Nat.le_of_ble_eq_true rfl) dX1_weight_2 ⟨Nat.le_of_ble_eq_true rfl, Nat.le_of_ble_eq_true rfl⟩ ?_
    refine z_eqN hx hb 30 dX1_weight_5 (by decide) (by decide +kernel) ?_
    refine lv_iload_n hx hb dX1_weight_8 rfl (lv_at hl 2 rfl) ?_
    refine lv_if_lt (tgt := 30) hx hb dX1_weight_9 (by decide) (fun h1 => ?_) (fun h1 => ?_)
    · refine lv_iconst (v := 0) hx hb dX1_weight_30 (by decide +kernel) ?_
      exact g_zret hx hb hr hlk rfl hK hZ dX1_weight_31 (⟨rfl, rfl⟩)
    · refine lv_iload_n hx hb dX1_weight_12 rfl (lv_at hl 2 rfl) ?_
      refine lv_bipush (v := 8) hx hb dX1_weight_13 (by decide +kernel) ?_
      refine lv_icmp_gt (tgt := 30) hx hb dX1_weight_15 (by decide) (fun h2 => ?_) (fun h2 => ?_)
      · refine lv_iconst (v := 0) hx hb dX1_weight_30 (by decide +kernel) ?_
        exact g_zret hx hb hr hlk rfl hK hZ dX1_weight_31 (⟨rfl, rfl⟩)
      · refine lv_iload_n hx hb dX1_weight_18 rfl (lv_at hl 3 rfl) ?_
        refine lv_bipush (v := (-9)) hx hb dX1_weight_19 (by decide +kernel) ?_
        refine lv_icmp_lt (tgt := 30) hx hb dX1_weight_21 (by decide) (fun h3 => ?_) (fun h3 => ?_)
        · refine lv_iconst (v := 0) hx hb dX1_weight_30 (by decide +kernel) ?_
          exact g_zret hx hb hr hlk rfl hK hZ dX1_weight_31 (⟨rfl, rfl⟩)
        · refine lv_iload_n hx hb dX1_weight_24 rfl (lv_at hl 3 rfl) ?_
          refine lv_bipush (v := 9) hx hb dX1_weight_25 (by decide +kernel) ?_
          refine lv_icmp_le (tgt := 32) hx hb dX1_weight_27 (by decide) (fun h4 => ?_) (fun h4 => ?_)
          · exact absurd ⟨hc, ⟨h1, h2⟩, h3, Int32.not_lt.mpr h4⟩ hno
          · refine lv_iconst (v := 0) hx hb dX1_weight_30 (by decide +kernel) ?_
            exact g_zret hx hb hr hlk rfl hK hZ dX1_weight_31 (⟨rfl, rfl⟩)
  · refine g_callp (ci := 1) (rest := []) C (m_isFilter l _ 0 (if_neg hc).symm) hwX1_isFilter hdX1_isFilter ⟨Nat.le_of_ble_eq_true rfl, Nat.le_of_ble_eq_true rfl⟩ hK hZ rfl rfl rfl rfl hl.1 rfl (Nat.le_of_ble_eq_true rfl) dX1_weight_2 ⟨Nat.le_of_ble_eq_true rfl, Nat.le_of_ble_eq_true rfl⟩ ?_
    refine z_eqY hx hb 30 dX1_weight_5 (by decide) rfl ?_
    refine lv_iconst (v := 0) hx hb dX1_weight_30 (by decide +kernel) ?_
    exact g_zret hx hb hr hlk rfl hK hZ dX1_weight_31 (⟨rfl, rfl⟩)

set_option maxHeartbeats 4000000 in
set_option maxRecDepth 100000 in
theorem m_turn_ok (l : Launch) (D : va_G) (a : Nat → Nat) (d : Nat → ClassId) (mi mf mw : Nat → Int32) (f : Nat) (hf : f < 2) : Mi l D (tyM d) (aM a) yX1_turn cX1_turn 4 (some .boolean) 1 21 (a 0) [.int (nI f)] (mW a d mi mf mw) (fun r u => r = 1 ∧ u = mW a d mi mf (swp mw f 4)) := by
  refine Mi.of (by decide) (Nat.le_of_ble_eq_true rfl) rfl (fun p e s m below meth c C hr hlk hK hZ ls hl => ?_)
  have C : CallFix p m c cX1_turn 4 s _ lw_all RX1 := C
  have hx := C.1
  have hb := C.2.1
  have hl : lv_has ls 4 [(0, .ref (a 0)), (1, .int (nI f))] := hl
  refine lv_aload_n hx hb dX1_turn_0 rfl (lv_at hl 0 rfl) ?_
  refine lv_iload_n hx hb dX1_turn_1 rfl (lv_at hl 1 rfl) ?_
  refine g_callp (ci := 1) (rest := []) C (m_isFilter l _ 1 (if_pos (vF_of hf)).symm) hwX1_isFilter hdX1_isFilter ⟨Nat.le_of_ble_eq_true rfl, Nat.le_of_ble_eq_true rfl⟩ hK hZ rfl rfl rfl rfl hl.1 rfl (Nat.le_of_ble_eq_true rfl) dX1_turn_2 ⟨Nat.le_of_ble_eq_true rfl, Nat.le_of_ble_eq_true rfl⟩ ?_
  refine z_neY hx hb 10 dX1_turn_5 (by decide) (by decide +kernel) ?_
  refine lv_iconst (v := nI 0) hx hb dX1_turn_10 (by decide +kernel) ?_
  refine lv_istore_n (lv' := [(2, .int (nI 0)), (0, .ref (a 0)), (1, .int (nI f))]) hx hb dX1_turn_11 rfl hl (by decide) rfl (fun ls hl => ?_)
  refine W_loop (N := 4) (fun k H locs ls => gZ D (gA (aM a) s.heap.size) s.heap (mW a d mi mf (swp mw f k)) H locs ∧ lv_has ls 4 [(2, .int (nI k)), (0, .ref (a 0)), (1, .int (nI f))]) ?_ ?_ 0 (by omega) ⟨hZ, hl⟩
  · intro H locs ls hI
    obtain ⟨hZ, hl⟩ := hI
    refine lv_iload_n hx hb dX1_turn_12 rfl (lv_at hl 0 rfl) ?_
    refine lv_iconst (v := nI 4) hx hb dX1_turn_13 (by decide +kernel) ?_
    refine n_geY hx hb 75 dX1_turn_14 (by decide) (by omega) (by omega) ?_
    refine lv_iconst (v := 1) hx hb dX1_turn_75 (by decide +kernel) ?_
    exact g_zret hx hb hr hlk rfl hK hZ dX1_turn_76 (⟨rfl, rfl⟩)
  · intro k hk ih H locs ls hI
    obtain ⟨hZ, hl⟩ := hI
    refine lv_iload_n hx hb dX1_turn_12 rfl (lv_at hl 0 rfl) ?_
    refine lv_iconst (v := nI 4) hx hb dX1_turn_13 (by decide +kernel) ?_
    refine n_geN hx hb 75 dX1_turn_14 (by decide) (by omega) (by omega) ?_
    refine lv_aload_n hx hb dX1_turn_17 rfl (lv_at hl 1 rfl) ?_
    refine mg_mw C hK hZ dX1_turn_18 ?_
    refine lv_bipush (v := nI 9) hx hb dX1_turn_21 (by decide +kernel) ?_
    refine lv_iload_n hx hb dX1_turn_23 rfl (lv_at hl 2 rfl) ?_
    refine n_mul hx hb dX1_turn_24 ?_
    refine lv_iload_n hx hb dX1_turn_25 rfl (lv_at hl 0 rfl) ?_
    refine n_add hx hb dX1_turn_26 ?_
    refine ml_mw C hK hZ (by omega) dX1_turn_27 ?_
    refine lv_istore_n (lv' := [(3, .int ((swp mw f k) ((9 * f) + k))), (2, .int (nI k)), (0, .ref (a 0)), (1, .int (nI f))]) hx hb dX1_turn_28 rfl hl (by decide) rfl (fun ls hl => ?_)
    refine lv_aload_n hx hb dX1_turn_29 rfl (lv_at hl 2 rfl) ?_
    refine mg_mw C hK hZ dX1_turn_30 ?_
    refine lv_bipush (v := nI 9) hx hb dX1_turn_33 (by decide +kernel) ?_
    refine lv_iload_n hx hb dX1_turn_35 rfl (lv_at hl 3 rfl) ?_
    refine n_mul hx hb dX1_turn_36 ?_
    refine lv_iload_n hx hb dX1_turn_37 rfl (lv_at hl 1 rfl) ?_
    refine n_add hx hb dX1_turn_38 ?_
    refine lv_aload_n hx hb dX1_turn_39 rfl (lv_at hl 2 rfl) ?_
    refine mg_mw C hK hZ dX1_turn_40 ?_
    refine lv_bipush (v := nI 9) hx hb dX1_turn_43 (by decide +kernel) ?_
    refine lv_iload_n hx hb dX1_turn_45 rfl (lv_at hl 3 rfl) ?_
    refine n_mul hx hb dX1_turn_46 ?_
    refine lv_bipush (v := nI 8) hx hb dX1_turn_47 (by decide +kernel) ?_
    refine n_add hx hb dX1_turn_49 ?_
    refine lv_iload_n hx hb dX1_turn_50 rfl (lv_at hl 1 rfl) ?_
    refine n_sub hx hb (by omega) dX1_turn_51 ?_
    refine ml_mw C hK hZ (by omega) dX1_turn_52 ?_
    refine ms_mw C hK hZ (by omega) dX1_turn_53 (fun H locs hZ => ?_)
    refine lv_aload_n hx hb dX1_turn_54 rfl (lv_at hl 2 rfl) ?_
    refine mg_mw C hK hZ dX1_turn_55 ?_
    refine lv_bipush (v := nI 9) hx hb dX1_turn_58 (by decide +kernel) ?_
    refine lv_iload_n hx hb dX1_turn_60 rfl (lv_at hl 3 rfl) ?_
    refine n_mul hx hb dX1_turn_61 ?_
    refine lv_bipush (v := nI 8) hx hb dX1_turn_62 (by decide +kernel) ?_
    refine n_add hx hb dX1_turn_64 ?_
    refine lv_iload_n hx hb dX1_turn_65 rfl (lv_at hl 1 rfl) ?_
    refine n_sub hx hb (by omega) dX1_turn_66 ?_
    refine lv_iload_n hx hb dX1_turn_67 rfl (lv_at hl 0 rfl) ?_
    refine ms_mw C hK hZ (by omega) dX1_turn_68 (fun H locs hZ => ?_)
    refine n_inc (lv' := [(2, .int (nI (k + 1))), (3, .int ((swp mw f k) ((9 * f) + k))), (0, .ref (a 0)), (1, .int (nI f))]) hx hb dX1_turn_69 hl (kx := 1) rfl (by decide) rfl (fun ls hl => ?_)
    refine lv_goto (tgt := 12) hx hb dX1_turn_72 (by decide) ?_
    exact ih _ _ _ ⟨hZ, lv_sub hl [0, 2, 3] rfl⟩

set_option maxHeartbeats 4000000 in
set_option maxRecDepth 100000 in
theorem m_turn_no (l : Launch) (D : va_G) (a : Nat → Nat) (d : Nat → ClassId) (mi mf mw : Nat → Int32) (x : Int32) (hno : ¬ vF x) : Mi l D (tyM d) (aM a) yX1_turn cX1_turn 4 (some .boolean) 1 21 (a 0) [.int x] (mW a d mi mf mw) (fun r u => r = 0 ∧ u = mW a d mi mf mw) := by
  refine Mi.of (by decide) (Nat.le_of_ble_eq_true rfl) rfl (fun p e s m below meth c C hr hlk hK hZ ls hl => ?_)
  have C : CallFix p m c cX1_turn 4 s _ lw_all RX1 := C
  have hx := C.1
  have hb := C.2.1
  have hl : lv_has ls 4 [(0, .ref (a 0)), (1, .int x)] := hl
  refine lv_aload_n hx hb dX1_turn_0 rfl (lv_at hl 0 rfl) ?_
  refine lv_iload_n hx hb dX1_turn_1 rfl (lv_at hl 1 rfl) ?_
  refine g_callp (ci := 1) (rest := []) C (m_isFilter l _ 0 (if_neg hno).symm) hwX1_isFilter hdX1_isFilter ⟨Nat.le_of_ble_eq_true rfl, Nat.le_of_ble_eq_true rfl⟩ hK hZ rfl rfl rfl rfl hl.1 rfl (Nat.le_of_ble_eq_true rfl) dX1_turn_2 ⟨Nat.le_of_ble_eq_true rfl, Nat.le_of_ble_eq_true rfl⟩ ?_
  refine z_neN hx hb 10 dX1_turn_5 (by decide) rfl ?_
  refine lv_iconst (v := 0) hx hb dX1_turn_8 (by decide +kernel) ?_
  exact g_zret hx hb hr hlk rfl hK hZ dX1_turn_9 (⟨rfl, rfl⟩)

set_option maxHeartbeats 4000000 in
set_option maxRecDepth 100000 in
theorem m_stripe_ok (l : Launch) (D : va_G) (a : Nat → Nat) (d : Nat → ClassId) (mi mf mw : Nat → Int32) (n fm tn : Nat) (hn : n < 20) (hf : fm < 10) (ht : tn < 10) (v : Int32) (hv : vV v) : Mi l D (tyM d) (aM a) yX1_stripe cX1_stripe 7 (some .int) 1 21 (a 0) [.int (nI n), .int (nI fm), .int (nI tn), .int v] (mW a d mi mf mw) (fun r u => r = nI (tn + 1 - fm) ∧ u = mW a d (strp mi n fm v (tn + 1 - fm)) mf mw) := by
  refine Mi.of (by decide) (Nat.le_of_ble_eq_true rfl) rfl (fun p e s m below meth c C hr hlk hK hZ ls hl => ?_)
  have C : CallFix p m c cX1_stripe 7 s _ lw_all RX1 := C
  have hx := C.1
  have hb := C.2.1
  have hl : lv_has ls 7 [(0, .ref (a 0)), (1, .int (nI n)), (2, .int (nI fm)), (3, .int (nI tn)), (4, .int v)] := hl
  refine lv_iload_n hx hb dX1_stripe_0 rfl (lv_at hl 1 rfl) ?_
  refine z_ltN hx hb 35 dX1_stripe_1 (by decide) (nI_pos (by omega)) ?_
  refine lv_iload_n hx hb dX1_stripe_4 rfl (lv_at hl 1 rfl) ?_
  refine lv_bipush (v := nI 19) hx hb dX1_stripe_5 (by decide +kernel) ?_
  refine n_gtN hx hb 35 dX1_stripe_7 (by decide) (by omega) (by omega) ?_
  refine lv_aload_n hx hb dX1_stripe_10 rfl (lv_at hl 0 rfl) ?_
  refine lv_iload_n hx hb dX1_stripe_11 rfl (lv_at hl 2 rfl) ?_
  refine g_callp (ci := 1) (rest := []) C (m_isPlace l _ 1 (if_pos (vP_of hf)).symm) hwX1_isPlace hdX1_isPlace ⟨Nat.le_of_ble_eq_true rfl, Nat.le_of_ble_eq_true rfl⟩ hK hZ rfl rfl rfl rfl hl.1 rfl (Nat.le_of_ble_eq_true rfl) dX1_stripe_12 ⟨Nat.le_of_ble_eq_true rfl, Nat.le_of_ble_eq_true rfl⟩ ?_
  refine z_eqN hx hb 35 dX1_stripe_15 (by decide) (by decide +kernel) ?_
  refine lv_aload_n hx hb dX1_stripe_18 rfl (lv_at hl 0 rfl) ?_
  refine lv_iload_n hx hb dX1_stripe_19 rfl (lv_at hl 3 rfl) ?_
  refine g_callp (ci := 1) (rest := []) C (m_isPlace l _ 1 (if_pos (vP_of ht)).symm) hwX1_isPlace hdX1_isPlace ⟨Nat.le_of_ble_eq_true rfl, Nat.le_of_ble_eq_true rfl⟩ hK hZ rfl rfl rfl rfl hl.1 rfl (Nat.le_of_ble_eq_true rfl) dX1_stripe_20 ⟨Nat.le_of_ble_eq_true rfl, Nat.le_of_ble_eq_true rfl⟩ ?_
  refine z_eqN hx hb 35 dX1_stripe_23 (by decide) (by decide +kernel) ?_
  refine lv_aload_n hx hb dX1_stripe_26 rfl (lv_at hl 0 rfl) ?_
  refine lv_iload hx hb dX1_stripe_27 (lv_at hl 4 rfl) ?_
  refine g_callp (ci := 1) (rest := []) C (m_isValue l _ 1 (if_pos hv).symm) hwX1_isValue hdX1_isValue ⟨Nat.le_of_ble_eq_true rfl, Nat.le_of_ble_eq_true rfl⟩ hK hZ rfl rfl rfl rfl hl.1 rfl (Nat.le_of_ble_eq_true rfl) dX1_stripe_29 ⟨Nat.le_of_ble_eq_true rfl, Nat.le_of_ble_eq_true rfl⟩ ?_
  refine z_neY hx hb 38 dX1_stripe_32 (by decide) (by decide +kernel) ?_
  refine lv_iconst (v := nI 0) hx hb dX1_stripe_38 (by decide +kernel) ?_
  refine lv_istore (lv' := [(5, .int (nI 0)), (0, .ref (a 0)), (1, .int (nI n)), (2, .int (nI fm)), (3, .int (nI tn)), (4, .int v)]) hx hb dX1_stripe_39 hl (by decide) rfl (fun ls hl => ?_)
  refine lv_iload_n hx hb dX1_stripe_41 rfl (lv_at hl 3 rfl) ?_
  refine lv_istore (lv' := [(6, .int (nI fm)), (5, .int (nI 0)), (0, .ref (a 0)), (1, .int (nI n)), (2, .int (nI fm)), (3, .int (nI tn)), (4, .int v)]) hx hb dX1_stripe_42 hl (by decide) rfl (fun ls hl => ?_)
  refine W_loop (N := tn + 1 - fm) (fun k H locs ls => gZ D (gA (aM a) s.heap.size) s.heap (mW a d (strp mi n fm v k) mf mw) H locs ∧ lv_has ls 7 [(5, .int (nI k)), (6, .int (nI (fm + k))), (0, .ref (a 0)), (1, .int (nI n)), (2, .int (nI fm)), (3, .int (nI tn)), (4, .int v)]) ?_ ?_ 0 (by omega) ⟨hZ, lv_sub hl [1, 0, 2, 3, 4, 5, 6] rfl⟩
  · intro H locs ls hI
    obtain ⟨hZ, hl⟩ := hI
    refine lv_iload hx hb dX1_stripe_44 (lv_at hl 1 rfl) ?_
    refine lv_iload_n hx hb dX1_stripe_46 rfl (lv_at hl 5 rfl) ?_
    refine n_gtY hx hb 92 dX1_stripe_47 (by decide) (by omega) (by omega) ?_
    refine lv_iload hx hb dX1_stripe_92 (lv_at hl 0 rfl) ?_
    exact g_iret hx hb hr hlk hK hZ dX1_stripe_94 (⟨rfl, rfl⟩)
  · intro k hk ih H locs ls hI
    obtain ⟨hZ, hl⟩ := hI
    refine lv_iload hx hb dX1_stripe_44 (lv_at hl 1 rfl) ?_
    refine lv_iload_n hx hb dX1_stripe_46 rfl (lv_at hl 5 rfl) ?_
    refine n_gtN hx hb 92 dX1_stripe_47 (by decide) (by omega) (by omega) ?_
    refine lv_aload_n hx hb dX1_stripe_50 rfl (lv_at hl 2 rfl) ?_
    refine mg_mi C hK hZ dX1_stripe_51 ?_
    refine lv_iload_n hx hb dX1_stripe_54 rfl (lv_at hl 3 rfl) ?_
    refine lv_bipush (v := nI 10) hx hb dX1_stripe_55 (by decide +kernel) ?_
    by_cases h10 : n < 10
    · refine n_geN hx hb 70 dX1_stripe_57 (by decide) (by omega) (by omega) ?_
      refine lv_bipush (v := nI 10) hx hb dX1_stripe_60 (by decide +kernel) ?_
      refine lv_iload_n hx hb dX1_stripe_62 rfl (lv_at hl 3 rfl) ?_
      refine n_mul hx hb dX1_stripe_63 ?_
      refine lv_iload hx hb dX1_stripe_64 (lv_at hl 1 rfl) ?_
      refine n_add hx hb dX1_stripe_66 ?_
      refine lv_goto (tgt := 80) hx hb dX1_stripe_67 (by decide) ?_
      refine lv_iload hx hb dX1_stripe_80 (lv_at hl 6 rfl) ?_
      refine ms_mi C hK hZ (by omega) dX1_stripe_82 (fun H locs hZ => ?_)
      refine n_inc (lv' := [(5, .int (nI (k + 1))), (6, .int (nI (fm + k))), (0, .ref (a 0)), (1, .int (nI n)), (2, .int (nI fm)), (3, .int (nI tn)), (4, .int v)]) hx hb dX1_stripe_83 hl (kx := 0) rfl (by decide) rfl (fun ls hl => ?_)
      refine n_inc (lv' := [(6, .int (nI ((fm + k) + 1))), (5, .int (nI (k + 1))), (0, .ref (a 0)), (1, .int (nI n)), (2, .int (nI fm)), (3, .int (nI tn)), (4, .int v)]) hx hb dX1_stripe_86 hl (kx := 1) rfl (by decide) rfl (fun ls hl => ?_)
      refine lv_goto (tgt := 44) hx hb dX1_stripe_89 (by decide) ?_
      have hs : strp mi n fm v (k + 1) = upd (strp mi n fm v k) (10 * n + (fm + k)) v := by
        show upd _ (stc n (fm + k)) v = _
        rw [show stc n (fm + k) = 10 * n + (fm + k) from if_pos h10]
      exact ih _ _ _ ⟨by rw [hs]; exact hZ, lv_sub hl [1, 0, 2, 3, 4, 5, 6] rfl⟩
    · refine n_geY hx hb 70 dX1_stripe_57 (by decide) (by omega) (by omega) ?_
      refine lv_bipush (v := nI 10) hx hb dX1_stripe_70 (by decide +kernel) ?_
      refine lv_iload hx hb dX1_stripe_72 (lv_at hl 1 rfl) ?_
      refine n_mul hx hb dX1_stripe_74 ?_
      refine lv_iload_n hx hb dX1_stripe_75 rfl (lv_at hl 3 rfl) ?_
      refine n_add hx hb dX1_stripe_76 ?_
      refine lv_bipush (v := nI 10) hx hb dX1_stripe_77 (by decide +kernel) ?_
      refine n_sub hx hb (by omega) dX1_stripe_79 ?_
      refine lv_iload hx hb dX1_stripe_80 (lv_at hl 6 rfl) ?_
      refine ms_mi C hK hZ (by omega) dX1_stripe_82 (fun H locs hZ => ?_)
      refine n_inc (lv' := [(5, .int (nI (k + 1))), (6, .int (nI (fm + k))), (0, .ref (a 0)), (1, .int (nI n)), (2, .int (nI fm)), (3, .int (nI tn)), (4, .int v)]) hx hb dX1_stripe_83 hl (kx := 0) rfl (by decide) rfl (fun ls hl => ?_)
      refine n_inc (lv' := [(6, .int (nI ((fm + k) + 1))), (5, .int (nI (k + 1))), (0, .ref (a 0)), (1, .int (nI n)), (2, .int (nI fm)), (3, .int (nI tn)), (4, .int v)]) hx hb dX1_stripe_86 hl (kx := 1) rfl (by decide) rfl (fun ls hl => ?_)
      refine lv_goto (tgt := 44) hx hb dX1_stripe_89 (by decide) ?_
      have hs : strp mi n fm v (k + 1) = upd (strp mi n fm v k) (((10 * (fm + k)) + n) - 10) v := by
        show upd _ (stc n (fm + k)) v = _
        rw [show stc n (fm + k) = ((10 * (fm + k)) + n) - 10 from if_neg h10]
      exact ih _ _ _ ⟨by rw [hs]; exact hZ, lv_sub hl [1, 0, 2, 3, 4, 5, 6] rfl⟩

set_option maxHeartbeats 4000000 in
set_option maxRecDepth 100000 in
theorem m_stripe_no (l : Launch) (D : va_G) (a : Nat → Nat) (d : Nat → ClassId) (mi mf mw : Nat → Int32) (x y z v : Int32) (hno : ¬ (vL x ∧ vP y ∧ vP z ∧ vV v)) : Mi l D (tyM d) (aM a) yX1_stripe cX1_stripe 7 (some .int) 1 21 (a 0) [.int x, .int y, .int z, .int v] (mW a d mi mf mw) (fun r u => r = (-1000000000) ∧ u = mW a d mi mf mw) := by
  refine Mi.of (by decide) (Nat.le_of_ble_eq_true rfl) rfl (fun p e s m below meth c C hr hlk hK hZ ls hl => ?_)
  have C : CallFix p m c cX1_stripe 7 s _ lw_all RX1 := C
  have hx := C.1
  have hb := C.2.1
  have hl : lv_has ls 7 [(0, .ref (a 0)), (1, .int x), (2, .int y), (3, .int z), (4, .int v)] := hl
  refine lv_iload_n hx hb dX1_stripe_0 rfl (lv_at hl 1 rfl) ?_
  refine lv_if_lt (tgt := 35) hx hb dX1_stripe_1 (by decide) (fun h1 => ?_) (fun h1 => ?_)
  · refine lv_ldc hx hb C.2.2.2.1 (C.2.2.2.2 _ q190) dX1_stripe_35 ?_
    exact g_iret hx hb hr hlk hK hZ dX1_stripe_37 (⟨rfl, rfl⟩)
  · refine lv_iload_n hx hb dX1_stripe_4 rfl (lv_at hl 1 rfl) ?_
    refine lv_bipush (v := 19) hx hb dX1_stripe_5 (by decide +kernel) ?_
    refine lv_icmp_gt (tgt := 35) hx hb dX1_stripe_7 (by decide) (fun h2 => ?_) (fun h2 => ?_)
    · refine lv_ldc hx hb C.2.2.2.1 (C.2.2.2.2 _ q190) dX1_stripe_35 ?_
      exact g_iret hx hb hr hlk hK hZ dX1_stripe_37 (⟨rfl, rfl⟩)
    · refine lv_aload_n hx hb dX1_stripe_10 rfl (lv_at hl 0 rfl) ?_
      refine lv_iload_n hx hb dX1_stripe_11 rfl (lv_at hl 2 rfl) ?_
      by_cases h3 : vP y
      · refine g_callp (ci := 1) (rest := []) C (m_isPlace l _ 1 (if_pos h3).symm) hwX1_isPlace hdX1_isPlace ⟨Nat.le_of_ble_eq_true rfl, Nat.le_of_ble_eq_true rfl⟩ hK hZ rfl rfl rfl rfl hl.1 rfl (Nat.le_of_ble_eq_true rfl) dX1_stripe_12 ⟨Nat.le_of_ble_eq_true rfl, Nat.le_of_ble_eq_true rfl⟩ ?_
        refine z_eqN hx hb 35 dX1_stripe_15 (by decide) (by decide +kernel) ?_
        refine lv_aload_n hx hb dX1_stripe_18 rfl (lv_at hl 0 rfl) ?_
        refine lv_iload_n hx hb dX1_stripe_19 rfl (lv_at hl 3 rfl) ?_
        by_cases h4 : vP z
        · refine g_callp (ci := 1) (rest := []) C (m_isPlace l _ 1 (if_pos h4).symm) hwX1_isPlace hdX1_isPlace ⟨Nat.le_of_ble_eq_true rfl, Nat.le_of_ble_eq_true rfl⟩ hK hZ rfl rfl rfl rfl hl.1 rfl (Nat.le_of_ble_eq_true rfl) dX1_stripe_20 ⟨Nat.le_of_ble_eq_true rfl, Nat.le_of_ble_eq_true rfl⟩ ?_
          refine z_eqN hx hb 35 dX1_stripe_23 (by decide) (by decide +kernel) ?_
          refine lv_aload_n hx hb dX1_stripe_26 rfl (lv_at hl 0 rfl) ?_
          refine lv_iload hx hb dX1_stripe_27 (lv_at hl 4 rfl) ?_
          refine g_callp (ci := 1) (rest := []) C (m_isValue l _ 0 (if_neg (fun q => hno ⟨⟨h1, h2⟩, h3, h4, q⟩)).symm) hwX1_isValue hdX1_isValue ⟨Nat.le_of_ble_eq_true rfl, Nat.le_of_ble_eq_true rfl⟩ hK hZ rfl rfl rfl rfl hl.1 rfl (Nat.le_of_ble_eq_true rfl) dX1_stripe_29 ⟨Nat.le_of_ble_eq_true rfl, Nat.le_of_ble_eq_true rfl⟩ ?_
          refine z_neN hx hb 38 dX1_stripe_32 (by decide) rfl ?_
          refine lv_ldc hx hb C.2.2.2.1 (C.2.2.2.2 _ q190) dX1_stripe_35 ?_
          exact g_iret hx hb hr hlk hK hZ dX1_stripe_37 (⟨rfl, rfl⟩)
        · refine g_callp (ci := 1) (rest := []) C (m_isPlace l _ 0 (if_neg h4).symm) hwX1_isPlace hdX1_isPlace ⟨Nat.le_of_ble_eq_true rfl, Nat.le_of_ble_eq_true rfl⟩ hK hZ rfl rfl rfl rfl hl.1 rfl (Nat.le_of_ble_eq_true rfl) dX1_stripe_20 ⟨Nat.le_of_ble_eq_true rfl, Nat.le_of_ble_eq_true rfl⟩ ?_
          refine z_eqY hx hb 35 dX1_stripe_23 (by decide) rfl ?_
          refine lv_ldc hx hb C.2.2.2.1 (C.2.2.2.2 _ q190) dX1_stripe_35 ?_
          exact g_iret hx hb hr hlk hK hZ dX1_stripe_37 (⟨rfl, rfl⟩)
      · refine g_callp (ci := 1) (rest := []) C (m_isPlace l _ 0 (if_neg h3).symm) hwX1_isPlace hdX1_isPlace ⟨Nat.le_of_ble_eq_true rfl, Nat.le_of_ble_eq_true rfl⟩ hK hZ rfl rfl rfl rfl hl.1 rfl (Nat.le_of_ble_eq_true rfl) dX1_stripe_12 ⟨Nat.le_of_ble_eq_true rfl, Nat.le_of_ble_eq_true rfl⟩ ?_
        refine z_eqY hx hb 35 dX1_stripe_15 (by decide) rfl ?_
        refine lv_ldc hx hb C.2.2.2.1 (C.2.2.2.2 _ q190) dX1_stripe_35 ?_
        exact g_iret hx hb hr hlk hK hZ dX1_stripe_37 (⟨rfl, rfl⟩)

set_option maxHeartbeats 4000000 in
set_option maxRecDepth 100000 in
theorem m_at0 (l : Launch) (D : va_G) (a : Nat → Nat) (d : Nat → ClassId) (mi mf mw : Nat → Int32) (f x y : Nat) (hf : f < 2) (hx0 : x < 10) (hy0 : y < 10) : Mi l D (tyM d) (aM a) yX1_at cX1_at 9 (some .int) 1 21 (a 0) [.int (nI f), .int (nI x), .int (nI y), .int 0] (mW a d mi mf mw) (fun r u => r = rs (fun z => mw (9 * f + z)) mi x y 9 ∧ u = mW a d mi mf mw) := by
  refine Mi.of (by decide) (Nat.le_of_ble_eq_true rfl) rfl (fun p e s m below meth c C hr hlk hK hZ ls hl => ?_)
  have C : CallFix p m c cX1_at 9 s _ lw_all RX1 := C
  have hx := C.1
  have hb := C.2.1
  have hl : lv_has ls 9 [(0, .ref (a 0)), (1, .int (nI f)), (2, .int (nI x)), (3, .int (nI y)), (4, .int 0)] := hl
  refine lv_iconst (v := 0) hx hb dX1_at_0 (by decide +kernel) ?_
  refine lv_istore (lv' := [(5, .int 0), (0, .ref (a 0)), (1, .int (nI f)), (2, .int (nI x)), (3, .int (nI y)), (4, .int 0)]) hx hb dX1_at_1 hl (by decide) rfl (fun ls hl => ?_)
  refine lv_iconst (v := nI 0) hx hb dX1_at_3 (by decide +kernel) ?_
  refine lv_istore (lv' := [(6, .int (nI 0)), (5, .int 0), (0, .ref (a 0)), (1, .int (nI f)), (2, .int (nI x)), (3, .int (nI y)), (4, .int 0)]) hx hb dX1_at_4 hl (by decide) rfl (fun ls hl => ?_)
  refine W_loop (N := 9) (fun k H locs ls => gZ D (gA (aM a) s.heap.size) s.heap (mW a d mi mf mw) H locs ∧ lv_has ls 9 [(6, .int (nI k)), (5, .int (rs (fun z => mw (9 * f + z)) mi x y k)), (0, .ref (a 0)), (1, .int (nI f)), (2, .int (nI x)), (3, .int (nI y)), (4, .int 0)]) ?_ ?_ 0 (by omega) ⟨hZ, hl⟩
  · intro H locs ls hI
    obtain ⟨hZ, hl⟩ := hI
    refine lv_iload hx hb dX1_at_6 (lv_at hl 0 rfl) ?_
    refine lv_bipush (v := nI 9) hx hb dX1_at_8 (by decide +kernel) ?_
    refine n_geY hx hb 109 dX1_at_10 (by decide) (by omega) (by omega) ?_
    refine lv_iload hx hb dX1_at_109 (lv_at hl 1 rfl) ?_
    exact g_iret hx hb hr hlk hK hZ dX1_at_111 (⟨rfl, rfl⟩)
  · intro k hk ih H locs ls hI
    obtain ⟨hZ, hl⟩ := hI
    refine lv_iload hx hb dX1_at_6 (lv_at hl 0 rfl) ?_
    refine lv_bipush (v := nI 9) hx hb dX1_at_8 (by decide +kernel) ?_
    refine n_geN hx hb 109 dX1_at_10 (by decide) (by omega) (by omega) ?_
    refine lv_iload_n hx hb dX1_at_13 rfl (lv_at hl 4 rfl) ?_
    refine lv_iload hx hb dX1_at_14 (lv_at hl 0 rfl) ?_
    refine lv_iconst (v := nI 3) hx hb dX1_at_16 (by decide +kernel) ?_
    refine n_rem hx hb (by omega) (by omega) (by omega) dX1_at_17 ?_
    refine n_add hx hb dX1_at_18 ?_
    refine lv_iconst (v := nI 1) hx hb dX1_at_19 (by decide +kernel) ?_
    refine lv_isub hx hb dX1_at_20 ?_
    refine lv_istore (lv' := [(7, .int ((nI (x + (k % 3))) - (nI 1))), (6, .int (nI k)), (5, .int (rs (fun z => mw (9 * f + z)) mi x y k)), (0, .ref (a 0)), (1, .int (nI f)), (2, .int (nI x)), (3, .int (nI y)), (4, .int 0)]) hx hb dX1_at_21 hl (by decide) rfl (fun ls hl => ?_)
    refine lv_iload_n hx hb dX1_at_23 rfl (lv_at hl 6 rfl) ?_
    refine lv_iload hx hb dX1_at_24 (lv_at hl 1 rfl) ?_
    refine lv_iconst (v := nI 3) hx hb dX1_at_26 (by decide +kernel) ?_
    refine n_div hx hb (by omega) (by omega) (by omega) dX1_at_27 ?_
    refine n_add hx hb dX1_at_28 ?_
    refine lv_iconst (v := nI 1) hx hb dX1_at_29 (by decide +kernel) ?_
    refine lv_isub hx hb dX1_at_30 ?_
    refine lv_istore (lv' := [(8, .int ((nI (y + (k / 3))) - (nI 1))), (7, .int ((nI (x + (k % 3))) - (nI 1))), (6, .int (nI k)), (5, .int (rs (fun z => mw (9 * f + z)) mi x y k)), (0, .ref (a 0)), (1, .int (nI f)), (2, .int (nI x)), (3, .int (nI y)), (4, .int 0)]) hx hb dX1_at_31 hl (by decide) rfl (fun ls hl => ?_)
    refine lv_aload_n hx hb dX1_at_33 rfl (lv_at hl 4 rfl) ?_
    refine lv_iload hx hb dX1_at_34 (lv_at hl 1 rfl) ?_
    by_cases hU : 1 ≤ x + k % 3 ∧ x + k % 3 ≤ 10
    · refine g_callp (ci := 1) (rest := []) C (m_isPlace l _ 1 (if_pos ((pI_vP (by omega)).mpr hU)).symm) hwX1_isPlace hdX1_isPlace ⟨Nat.le_of_ble_eq_true rfl, Nat.le_of_ble_eq_true rfl⟩ hK hZ rfl rfl rfl rfl hl.1 rfl (Nat.le_of_ble_eq_true rfl) dX1_at_36 ⟨Nat.le_of_ble_eq_true rfl, Nat.le_of_ble_eq_true rfl⟩ ?_
      refine z_eqN hx hb 103 dX1_at_39 (by decide) (by decide +kernel) ?_
      refine lv_aload_n hx hb dX1_at_42 rfl (lv_at hl 4 rfl) ?_
      refine lv_iload hx hb dX1_at_43 (lv_at hl 0 rfl) ?_
      by_cases hV : 1 ≤ y + k / 3 ∧ y + k / 3 ≤ 10
      · refine g_callp (ci := 1) (rest := []) C (m_isPlace l _ 1 (if_pos ((pI_vP (by omega)).mpr hV)).symm) hwX1_isPlace hdX1_isPlace ⟨Nat.le_of_ble_eq_true rfl, Nat.le_of_ble_eq_true rfl⟩ hK hZ rfl rfl rfl rfl hl.1 rfl (Nat.le_of_ble_eq_true rfl) dX1_at_45 ⟨Nat.le_of_ble_eq_true rfl, Nat.le_of_ble_eq_true rfl⟩ ?_
        refine z_eqN hx hb 103 dX1_at_48 (by decide) (by decide +kernel) ?_
        refine lv_iload hx hb dX1_at_51 (lv_at hl 3 rfl) ?_
        refine lv_aload_n hx hb dX1_at_53 rfl (lv_at hl 4 rfl) ?_
        refine mg_mw C hK hZ dX1_at_54 ?_
        refine lv_bipush (v := nI 9) hx hb dX1_at_57 (by decide +kernel) ?_
        refine lv_iload_n hx hb dX1_at_59 rfl (lv_at hl 5 rfl) ?_
        refine n_mul hx hb dX1_at_60 ?_
        refine lv_iload hx hb dX1_at_61 (lv_at hl 2 rfl) ?_
        refine n_add hx hb dX1_at_63 ?_
        refine ml_mw C hK hZ (by omega) dX1_at_64 ?_
        refine lv_iload hx hb dX1_at_65 (lv_at hl 8 rfl) ?_
        refine z_eqY hx hb 86 dX1_at_67 (by decide) rfl ?_
        refine lv_aload_n hx hb dX1_at_86 rfl (lv_at hl 4 rfl) ?_
        refine mg_mi C hK hZ dX1_at_87 ?_
        refine lv_bipush (v := nI 10) hx hb dX1_at_90 (by decide +kernel) ?_
        refine lv_iload hx hb dX1_at_92 (lv_at hl 0 rfl) ?_
        refine i_top (y := nI (y + k / 3 - 1)) (pk_sub (by omega)) ?_
        refine n_mul hx hb dX1_at_94 ?_
        refine lv_iload hx hb dX1_at_95 (lv_at hl 1 rfl) ?_
        refine i_top (y := nI (x + k % 3 - 1)) (pk_sub (by omega)) ?_
        refine n_add hx hb dX1_at_97 ?_
        refine ml_mi C hK hZ (by omega) dX1_at_98 ?_
        refine lv_imul hx hb dX1_at_99 ?_
        refine lv_iadd hx hb dX1_at_100 ?_
        refine lv_istore (lv' := [(5, .int ((rs (fun z => mw (9 * f + z)) mi x y k) + ((mw ((9 * f) + k)) * (mi ((10 * (y + k / 3 - 1)) + (x + k % 3 - 1)))))), (8, .int ((nI (y + (k / 3))) - (nI 1))), (7, .int ((nI (x + (k % 3))) - (nI 1))), (6, .int (nI k)), (0, .ref (a 0)), (1, .int (nI f)), (2, .int (nI x)), (3, .int (nI y)), (4, .int 0)]) hx hb dX1_at_101 hl (by decide) rfl (fun ls hl => ?_)
        refine n_inc (lv' := [(6, .int (nI (k + 1))), (5, .int ((rs (fun z => mw (9 * f + z)) mi x y k) + ((mw ((9 * f) + k)) * (mi ((10 * (y + k / 3 - 1)) + (x + k % 3 - 1)))))), (8, .int ((nI (y + (k / 3))) - (nI 1))), (7, .int ((nI (x + (k % 3))) - (nI 1))), (0, .ref (a 0)), (1, .int (nI f)), (2, .int (nI x)), (3, .int (nI y)), (4, .int 0)]) hx hb dX1_at_103 hl (kx := 3) rfl (by decide) rfl (fun ls hl => ?_)
        refine lv_goto (tgt := 6) hx hb dX1_at_106 (by decide) ?_
        exact ih _ _ _ ⟨hZ, by rw [rs_in (by omega)]; exact lv_sub hl [0, 1, 4, 5, 6, 7, 8] rfl⟩
      · refine g_callp (ci := 1) (rest := []) C (m_isPlace l _ 0 (if_neg (fun q => hV ((pI_vP (by omega)).mp q))).symm) hwX1_isPlace hdX1_isPlace ⟨Nat.le_of_ble_eq_true rfl, Nat.le_of_ble_eq_true rfl⟩ hK hZ rfl rfl rfl rfl hl.1 rfl (Nat.le_of_ble_eq_true rfl) dX1_at_45 ⟨Nat.le_of_ble_eq_true rfl, Nat.le_of_ble_eq_true rfl⟩ ?_
        refine z_eqY hx hb 103 dX1_at_48 (by decide) rfl ?_
        refine n_inc (lv' := [(6, .int (nI (k + 1))), (8, .int ((nI (y + (k / 3))) - (nI 1))), (7, .int ((nI (x + (k % 3))) - (nI 1))), (5, .int (rs (fun z => mw (9 * f + z)) mi x y k)), (0, .ref (a 0)), (1, .int (nI f)), (2, .int (nI x)), (3, .int (nI y)), (4, .int 0)]) hx hb dX1_at_103 hl (kx := 2) rfl (by decide) rfl (fun ls hl => ?_)
        refine lv_goto (tgt := 6) hx hb dX1_at_106 (by decide) ?_
        exact ih _ _ _ ⟨hZ, by rw [rs_out (by omega)]; exact lv_sub hl [0, 3, 4, 5, 6, 7, 8] rfl⟩
    · refine g_callp (ci := 1) (rest := []) C (m_isPlace l _ 0 (if_neg (fun q => hU ((pI_vP (by omega)).mp q))).symm) hwX1_isPlace hdX1_isPlace ⟨Nat.le_of_ble_eq_true rfl, Nat.le_of_ble_eq_true rfl⟩ hK hZ rfl rfl rfl rfl hl.1 rfl (Nat.le_of_ble_eq_true rfl) dX1_at_36 ⟨Nat.le_of_ble_eq_true rfl, Nat.le_of_ble_eq_true rfl⟩ ?_
      refine z_eqY hx hb 103 dX1_at_39 (by decide) rfl ?_
      refine n_inc (lv' := [(6, .int (nI (k + 1))), (8, .int ((nI (y + (k / 3))) - (nI 1))), (7, .int ((nI (x + (k % 3))) - (nI 1))), (5, .int (rs (fun z => mw (9 * f + z)) mi x y k)), (0, .ref (a 0)), (1, .int (nI f)), (2, .int (nI x)), (3, .int (nI y)), (4, .int 0)]) hx hb dX1_at_103 hl (kx := 2) rfl (by decide) rfl (fun ls hl => ?_)
      refine lv_goto (tgt := 6) hx hb dX1_at_106 (by decide) ?_
      exact ih _ _ _ ⟨hZ, by rw [rs_out (by omega)]; exact lv_sub hl [0, 3, 4, 5, 6, 7, 8] rfl⟩

set_option maxHeartbeats 4000000 in
set_option maxRecDepth 100000 in
theorem m_at1 (l : Launch) (D : va_G) (a : Nat → Nat) (d : Nat → ClassId) (mi mf mw : Nat → Int32) (f x y : Nat) (hf : f < 2) (hx0 : x < 10) (hy0 : y < 10) : Mi l D (tyM d) (aM a) yX1_at cX1_at 9 (some .int) 1 21 (a 0) [.int (nI f), .int (nI x), .int (nI y), .int 1] (mW a d mi mf mw) (fun r u => r = rs (fun z => mw (9 * f + z)) mf x y 9 ∧ u = mW a d mi mf mw) := by
  refine Mi.of (by decide) (Nat.le_of_ble_eq_true rfl) rfl (fun p e s m below meth c C hr hlk hK hZ ls hl => ?_)
  have C : CallFix p m c cX1_at 9 s _ lw_all RX1 := C
  have hx := C.1
  have hb := C.2.1
  have hl : lv_has ls 9 [(0, .ref (a 0)), (1, .int (nI f)), (2, .int (nI x)), (3, .int (nI y)), (4, .int 1)] := hl
  refine lv_iconst (v := 0) hx hb dX1_at_0 (by decide +kernel) ?_
  refine lv_istore (lv' := [(5, .int 0), (0, .ref (a 0)), (1, .int (nI f)), (2, .int (nI x)), (3, .int (nI y)), (4, .int 1)]) hx hb dX1_at_1 hl (by decide) rfl (fun ls hl => ?_)
  refine lv_iconst (v := nI 0) hx hb dX1_at_3 (by decide +kernel) ?_
  refine lv_istore (lv' := [(6, .int (nI 0)), (5, .int 0), (0, .ref (a 0)), (1, .int (nI f)), (2, .int (nI x)), (3, .int (nI y)), (4, .int 1)]) hx hb dX1_at_4 hl (by decide) rfl (fun ls hl => ?_)
  refine W_loop (N := 9) (fun k H locs ls => gZ D (gA (aM a) s.heap.size) s.heap (mW a d mi mf mw) H locs ∧ lv_has ls 9 [(6, .int (nI k)), (5, .int (rs (fun z => mw (9 * f + z)) mf x y k)), (0, .ref (a 0)), (1, .int (nI f)), (2, .int (nI x)), (3, .int (nI y)), (4, .int 1)]) ?_ ?_ 0 (by omega) ⟨hZ, hl⟩
  · intro H locs ls hI
    obtain ⟨hZ, hl⟩ := hI
    refine lv_iload hx hb dX1_at_6 (lv_at hl 0 rfl) ?_
    refine lv_bipush (v := nI 9) hx hb dX1_at_8 (by decide +kernel) ?_
    refine n_geY hx hb 109 dX1_at_10 (by decide) (by omega) (by omega) ?_
    refine lv_iload hx hb dX1_at_109 (lv_at hl 1 rfl) ?_
    exact g_iret hx hb hr hlk hK hZ dX1_at_111 (⟨rfl, rfl⟩)
  · intro k hk ih H locs ls hI
    obtain ⟨hZ, hl⟩ := hI
    refine lv_iload hx hb dX1_at_6 (lv_at hl 0 rfl) ?_
    refine lv_bipush (v := nI 9) hx hb dX1_at_8 (by decide +kernel) ?_
    refine n_geN hx hb 109 dX1_at_10 (by decide) (by omega) (by omega) ?_
    refine lv_iload_n hx hb dX1_at_13 rfl (lv_at hl 4 rfl) ?_
    refine lv_iload hx hb dX1_at_14 (lv_at hl 0 rfl) ?_
    refine lv_iconst (v := nI 3) hx hb dX1_at_16 (by decide +kernel) ?_
    refine n_rem hx hb (by omega) (by omega) (by omega) dX1_at_17 ?_
    refine n_add hx hb dX1_at_18 ?_
    refine lv_iconst (v := nI 1) hx hb dX1_at_19 (by decide +kernel) ?_
    refine lv_isub hx hb dX1_at_20 ?_
    refine lv_istore (lv' := [(7, .int ((nI (x + (k % 3))) - (nI 1))), (6, .int (nI k)), (5, .int (rs (fun z => mw (9 * f + z)) mf x y k)), (0, .ref (a 0)), (1, .int (nI f)), (2, .int (nI x)), (3, .int (nI y)), (4, .int 1)]) hx hb dX1_at_21 hl (by decide) rfl (fun ls hl => ?_)
    refine lv_iload_n hx hb dX1_at_23 rfl (lv_at hl 6 rfl) ?_
    refine lv_iload hx hb dX1_at_24 (lv_at hl 1 rfl) ?_
    refine lv_iconst (v := nI 3) hx hb dX1_at_26 (by decide +kernel) ?_
    refine n_div hx hb (by omega) (by omega) (by omega) dX1_at_27 ?_
    refine n_add hx hb dX1_at_28 ?_
    refine lv_iconst (v := nI 1) hx hb dX1_at_29 (by decide +kernel) ?_
    refine lv_isub hx hb dX1_at_30 ?_
    refine lv_istore (lv' := [(8, .int ((nI (y + (k / 3))) - (nI 1))), (7, .int ((nI (x + (k % 3))) - (nI 1))), (6, .int (nI k)), (5, .int (rs (fun z => mw (9 * f + z)) mf x y k)), (0, .ref (a 0)), (1, .int (nI f)), (2, .int (nI x)), (3, .int (nI y)), (4, .int 1)]) hx hb dX1_at_31 hl (by decide) rfl (fun ls hl => ?_)
    refine lv_aload_n hx hb dX1_at_33 rfl (lv_at hl 4 rfl) ?_
    refine lv_iload hx hb dX1_at_34 (lv_at hl 1 rfl) ?_
    by_cases hU : 1 ≤ x + k % 3 ∧ x + k % 3 ≤ 10
    · refine g_callp (ci := 1) (rest := []) C (m_isPlace l _ 1 (if_pos ((pI_vP (by omega)).mpr hU)).symm) hwX1_isPlace hdX1_isPlace ⟨Nat.le_of_ble_eq_true rfl, Nat.le_of_ble_eq_true rfl⟩ hK hZ rfl rfl rfl rfl hl.1 rfl (Nat.le_of_ble_eq_true rfl) dX1_at_36 ⟨Nat.le_of_ble_eq_true rfl, Nat.le_of_ble_eq_true rfl⟩ ?_
      refine z_eqN hx hb 103 dX1_at_39 (by decide) (by decide +kernel) ?_
      refine lv_aload_n hx hb dX1_at_42 rfl (lv_at hl 4 rfl) ?_
      refine lv_iload hx hb dX1_at_43 (lv_at hl 0 rfl) ?_
      by_cases hV : 1 ≤ y + k / 3 ∧ y + k / 3 ≤ 10
      · refine g_callp (ci := 1) (rest := []) C (m_isPlace l _ 1 (if_pos ((pI_vP (by omega)).mpr hV)).symm) hwX1_isPlace hdX1_isPlace ⟨Nat.le_of_ble_eq_true rfl, Nat.le_of_ble_eq_true rfl⟩ hK hZ rfl rfl rfl rfl hl.1 rfl (Nat.le_of_ble_eq_true rfl) dX1_at_45 ⟨Nat.le_of_ble_eq_true rfl, Nat.le_of_ble_eq_true rfl⟩ ?_
        refine z_eqN hx hb 103 dX1_at_48 (by decide) (by decide +kernel) ?_
        refine lv_iload hx hb dX1_at_51 (lv_at hl 3 rfl) ?_
        refine lv_aload_n hx hb dX1_at_53 rfl (lv_at hl 4 rfl) ?_
        refine mg_mw C hK hZ dX1_at_54 ?_
        refine lv_bipush (v := nI 9) hx hb dX1_at_57 (by decide +kernel) ?_
        refine lv_iload_n hx hb dX1_at_59 rfl (lv_at hl 5 rfl) ?_
        refine n_mul hx hb dX1_at_60 ?_
        refine lv_iload hx hb dX1_at_61 (lv_at hl 2 rfl) ?_
        refine n_add hx hb dX1_at_63 ?_
        refine ml_mw C hK hZ (by omega) dX1_at_64 ?_
        refine lv_iload hx hb dX1_at_65 (lv_at hl 8 rfl) ?_
        refine z_eqN hx hb 86 dX1_at_67 (by decide) (by decide +kernel) ?_
        refine lv_aload_n hx hb dX1_at_70 rfl (lv_at hl 4 rfl) ?_
        refine mg_mf C hK hZ dX1_at_71 ?_
        refine lv_bipush (v := nI 10) hx hb dX1_at_74 (by decide +kernel) ?_
        refine lv_iload hx hb dX1_at_76 (lv_at hl 0 rfl) ?_
        refine i_top (y := nI (y + k / 3 - 1)) (pk_sub (by omega)) ?_
        refine n_mul hx hb dX1_at_78 ?_
        refine lv_iload hx hb dX1_at_79 (lv_at hl 1 rfl) ?_
        refine i_top (y := nI (x + k % 3 - 1)) (pk_sub (by omega)) ?_
        refine n_add hx hb dX1_at_81 ?_
        refine ml_mf C hK hZ (by omega) dX1_at_82 ?_
        refine lv_goto (tgt := 99) hx hb dX1_at_83 (by decide) ?_
        refine lv_imul hx hb dX1_at_99 ?_
        refine lv_iadd hx hb dX1_at_100 ?_
        refine lv_istore (lv' := [(5, .int ((rs (fun z => mw (9 * f + z)) mf x y k) + ((mw ((9 * f) + k)) * (mf ((10 * (y + k / 3 - 1)) + (x + k % 3 - 1)))))), (8, .int ((nI (y + (k / 3))) - (nI 1))), (7, .int ((nI (x + (k % 3))) - (nI 1))), (6, .int (nI k)), (0, .ref (a 0)), (1, .int (nI f)), (2, .int (nI x)), (3, .int (nI y)), (4, .int 1)]) hx hb dX1_at_101 hl (by decide) rfl (fun ls hl => ?_)
        refine n_inc (lv' := [(6, .int (nI (k + 1))), (5, .int ((rs (fun z => mw (9 * f + z)) mf x y k) + ((mw ((9 * f) + k)) * (mf ((10 * (y + k / 3 - 1)) + (x + k % 3 - 1)))))), (8, .int ((nI (y + (k / 3))) - (nI 1))), (7, .int ((nI (x + (k % 3))) - (nI 1))), (0, .ref (a 0)), (1, .int (nI f)), (2, .int (nI x)), (3, .int (nI y)), (4, .int 1)]) hx hb dX1_at_103 hl (kx := 3) rfl (by decide) rfl (fun ls hl => ?_)
        refine lv_goto (tgt := 6) hx hb dX1_at_106 (by decide) ?_
        exact ih _ _ _ ⟨hZ, by rw [rs_in (by omega)]; exact lv_sub hl [0, 1, 4, 5, 6, 7, 8] rfl⟩
      · refine g_callp (ci := 1) (rest := []) C (m_isPlace l _ 0 (if_neg (fun q => hV ((pI_vP (by omega)).mp q))).symm) hwX1_isPlace hdX1_isPlace ⟨Nat.le_of_ble_eq_true rfl, Nat.le_of_ble_eq_true rfl⟩ hK hZ rfl rfl rfl rfl hl.1 rfl (Nat.le_of_ble_eq_true rfl) dX1_at_45 ⟨Nat.le_of_ble_eq_true rfl, Nat.le_of_ble_eq_true rfl⟩ ?_
        refine z_eqY hx hb 103 dX1_at_48 (by decide) rfl ?_
        refine n_inc (lv' := [(6, .int (nI (k + 1))), (8, .int ((nI (y + (k / 3))) - (nI 1))), (7, .int ((nI (x + (k % 3))) - (nI 1))), (5, .int (rs (fun z => mw (9 * f + z)) mf x y k)), (0, .ref (a 0)), (1, .int (nI f)), (2, .int (nI x)), (3, .int (nI y)), (4, .int 1)]) hx hb dX1_at_103 hl (kx := 2) rfl (by decide) rfl (fun ls hl => ?_)
        refine lv_goto (tgt := 6) hx hb dX1_at_106 (by decide) ?_
        exact ih _ _ _ ⟨hZ, by rw [rs_out (by omega)]; exact lv_sub hl [0, 3, 4, 5, 6, 7, 8] rfl⟩
    · refine g_callp (ci := 1) (rest := []) C (m_isPlace l _ 0 (if_neg (fun q => hU ((pI_vP (by omega)).mp q))).symm) hwX1_isPlace hdX1_isPlace ⟨Nat.le_of_ble_eq_true rfl, Nat.le_of_ble_eq_true rfl⟩ hK hZ rfl rfl rfl rfl hl.1 rfl (Nat.le_of_ble_eq_true rfl) dX1_at_36 ⟨Nat.le_of_ble_eq_true rfl, Nat.le_of_ble_eq_true rfl⟩ ?_
      refine z_eqY hx hb 103 dX1_at_39 (by decide) rfl ?_
      refine n_inc (lv' := [(6, .int (nI (k + 1))), (8, .int ((nI (y + (k / 3))) - (nI 1))), (7, .int ((nI (x + (k % 3))) - (nI 1))), (5, .int (rs (fun z => mw (9 * f + z)) mf x y k)), (0, .ref (a 0)), (1, .int (nI f)), (2, .int (nI x)), (3, .int (nI y)), (4, .int 1)]) hx hb dX1_at_103 hl (kx := 2) rfl (by decide) rfl (fun ls hl => ?_)
      refine lv_goto (tgt := 6) hx hb dX1_at_106 (by decide) ?_
      exact ih _ _ _ ⟨hZ, by rw [rs_out (by omega)]; exact lv_sub hl [0, 3, 4, 5, 6, 7, 8] rfl⟩

set_option maxHeartbeats 4000000 in
set_option maxRecDepth 100000 in
theorem m_respond (l : Launch) (D : va_G) (a : Nat → Nat) (d : Nat → ClassId) (mi mf mw : Nat → Int32) (f : Nat) (hf : f < 2) : Mv l D (tyM d) (aM a) yX1_respond cX1_respond 3 none 2 50 (a 0) [.int (nI f)] (mW a d mi mf mw) (fun u => u = mW a d mi (resp mw mi f) mw) := by
  refine Mv.of (by decide) (Nat.le_of_ble_eq_true rfl) rfl (fun p e s m below meth c C hr hlk hK hZ ls hl => ?_)
  have C : CallFix p m c cX1_respond 3 s _ lw_all RX1 := C
  have hx := C.1
  have hb := C.2.1
  have hl : lv_has ls 3 [(0, .ref (a 0)), (1, .int (nI f))] := hl
  refine lv_iconst (v := nI 0) hx hb dX1_respond_0 (by decide +kernel) ?_
  refine lv_istore_n (lv' := [(2, .int (nI 0)), (0, .ref (a 0)), (1, .int (nI f))]) hx hb dX1_respond_1 rfl hl (by decide) rfl (fun ls hl => ?_)
  have hZ : gZ D (gA (aM a) s.heap.size) s.heap (mW a d mi (fill 0 (resp mw mi f) mf) mw) s.heap [] := by
    rw [show fill 0 (resp mw mi f) mf = mf from fill_0 _ _]
    exact hZ
  refine W_loop (N := 100) (fun k H locs ls => gZ D (gA (aM a) s.heap.size) s.heap (mW a d mi (fill k (resp mw mi f) mf) mw) H locs ∧ lv_has ls 3 [(2, .int (nI k)), (0, .ref (a 0)), (1, .int (nI f))]) ?_ ?_ 0 (by omega) ⟨hZ, hl⟩
  · intro H locs ls hI
    obtain ⟨hZ, hl⟩ := hI
    refine lv_iload_n hx hb dX1_respond_2 rfl (lv_at hl 0 rfl) ?_
    refine lv_bipush (v := nI 100) hx hb dX1_respond_3 (by decide +kernel) ?_
    refine n_geY hx hb 34 dX1_respond_5 (by decide) (by omega) (by omega) ?_
    have hZ := mW_mf (mf' := resp mw mi f) (fun j hj => fill_in hj) hZ
    exact g_vret hx hb hr hlk hK hZ dX1_respond_34 rfl
  · intro k hk ih H locs ls hI
    obtain ⟨hZ, hl⟩ := hI
    refine lv_iload_n hx hb dX1_respond_2 rfl (lv_at hl 0 rfl) ?_
    refine lv_bipush (v := nI 100) hx hb dX1_respond_3 (by decide +kernel) ?_
    refine n_geN hx hb 34 dX1_respond_5 (by decide) (by omega) (by omega) ?_
    refine lv_aload_n hx hb dX1_respond_8 rfl (lv_at hl 1 rfl) ?_
    refine mg_mf C hK hZ dX1_respond_9 ?_
    refine lv_iload_n hx hb dX1_respond_12 rfl (lv_at hl 0 rfl) ?_
    refine lv_aload_n hx hb dX1_respond_13 rfl (lv_at hl 1 rfl) ?_
    refine lv_iload_n hx hb dX1_respond_14 rfl (lv_at hl 2 rfl) ?_
    refine lv_iload_n hx hb dX1_respond_15 rfl (lv_at hl 0 rfl) ?_
    refine lv_bipush (v := nI 10) hx hb dX1_respond_16 (by decide +kernel) ?_
    refine n_rem hx hb (by omega) (by omega) (by omega) dX1_respond_18 ?_
    refine lv_iload_n hx hb dX1_respond_19 rfl (lv_at hl 0 rfl) ?_
    refine lv_bipush (v := nI 10) hx hb dX1_respond_20 (by decide +kernel) ?_
    refine n_div hx hb (by omega) (by omega) (by omega) dX1_respond_22 ?_
    refine lv_iconst (v := 0) hx hb dX1_respond_23 (by decide +kernel) ?_
    refine g_calli (ci := 1) (rest := [.int (nI k), .ref (a 2)]) C (m_at0 l D a d mi _ mw f (k % 10) (k / 10) hf (by omega) (by omega)) hwX1_at hdX1_at ⟨Nat.le_of_ble_eq_true rfl, Nat.le_of_ble_eq_true rfl⟩ hK hZ rfl rfl rfl rfl hl.1 rfl (Nat.le_of_ble_eq_true rfl) dX1_respond_24 ⟨Nat.le_of_ble_eq_true rfl, Nat.le_of_ble_eq_true rfl⟩ (fun r u H locs hu hZ => ?_)
    obtain ⟨rfl, rfl⟩ := hu
    refine ms_mf C hK hZ (by omega) dX1_respond_27 (fun H locs hZ => ?_)
    have hZ : gZ D (gA (aM a) s.heap.size) s.heap (mW a d mi (fill (k + 1) (resp mw mi f) mf) mw) H locs := by
      rw [show fill (k + 1) (resp mw mi f) mf = upd (fill k (resp mw mi f) mf) k (resp mw mi f k) from (Eq.symm (fill_upd rfl))]
      exact hZ
    refine n_inc (lv' := [(2, .int (nI (k + 1))), (0, .ref (a 0)), (1, .int (nI f))]) hx hb dX1_respond_28 hl (kx := 0) rfl (by decide) rfl (fun ls hl => ?_)
    refine lv_goto (tgt := 2) hx hb dX1_respond_31 (by decide) ?_
    exact ih _ _ _ ⟨hZ, hl⟩

set_option maxHeartbeats 4000000 in
set_option maxRecDepth 100000 in
theorem m_response_ok (l : Launch) (D : va_G) (a : Nat → Nat) (d : Nat → ClassId) (mi mf mw : Nat → Int32) (f n : Nat) (hf : f < 2) (hn : n < 100) : Mi l D (tyM d) (aM a) yX1_response cX1_response 3 (some .int) 2 50 (a 0) [.int (nI f), .int (nI n)] (mW a d mi mf mw) (fun r u => r = resp mw mi f n ∧ mI a d mi mw u) := by
  refine Mi.of (by decide) (Nat.le_of_ble_eq_true rfl) rfl (fun p e s m below meth c C hr hlk hK hZ ls hl => ?_)
  have C : CallFix p m c cX1_response 3 s _ lw_all RX1 := C
  have hx := C.1
  have hb := C.2.1
  have hl : lv_has ls 3 [(0, .ref (a 0)), (1, .int (nI f)), (2, .int (nI n))] := hl
  refine lv_aload_n hx hb dX1_response_0 rfl (lv_at hl 0 rfl) ?_
  refine lv_iload_n hx hb dX1_response_1 rfl (lv_at hl 1 rfl) ?_
  refine g_callp (ci := 1) (rest := []) C (m_isFilter l _ 1 (if_pos (vF_of hf)).symm) hwX1_isFilter hdX1_isFilter ⟨Nat.le_of_ble_eq_true rfl, Nat.le_of_ble_eq_true rfl⟩ hK hZ rfl rfl rfl rfl hl.1 rfl (Nat.le_of_ble_eq_true rfl) dX1_response_2 ⟨Nat.le_of_ble_eq_true rfl, Nat.le_of_ble_eq_true rfl⟩ ?_
  refine z_eqN hx hb 33 dX1_response_5 (by decide) (by decide +kernel) ?_
  refine lv_aload_n hx hb dX1_response_8 rfl (lv_at hl 0 rfl) ?_
  refine lv_iload_n hx hb dX1_response_9 rfl (lv_at hl 2 rfl) ?_
  refine g_callp (ci := 1) (rest := []) C (m_isCell l _ 1 (if_pos (vC_of hn)).symm) hwX1_isCell hdX1_isCell ⟨Nat.le_of_ble_eq_true rfl, Nat.le_of_ble_eq_true rfl⟩ hK hZ rfl rfl rfl rfl hl.1 rfl (Nat.le_of_ble_eq_true rfl) dX1_response_10 ⟨Nat.le_of_ble_eq_true rfl, Nat.le_of_ble_eq_true rfl⟩ ?_
  refine z_eqN hx hb 33 dX1_response_13 (by decide) (by decide +kernel) ?_
  refine lv_aload_n hx hb dX1_response_16 rfl (lv_at hl 0 rfl) ?_
  refine lv_iload_n hx hb dX1_response_17 rfl (lv_at hl 1 rfl) ?_
  refine lv_iload_n hx hb dX1_response_18 rfl (lv_at hl 2 rfl) ?_
  refine lv_bipush (v := nI 10) hx hb dX1_response_19 (by decide +kernel) ?_
  refine n_rem hx hb (by omega) (by omega) (by omega) dX1_response_21 ?_
  refine lv_iload_n hx hb dX1_response_22 rfl (lv_at hl 2 rfl) ?_
  refine lv_bipush (v := nI 10) hx hb dX1_response_23 (by decide +kernel) ?_
  refine n_div hx hb (by omega) (by omega) (by omega) dX1_response_25 ?_
  refine lv_iconst (v := 0) hx hb dX1_response_26 (by decide +kernel) ?_
  refine g_calli (ci := 1) (rest := []) C (m_at0 l D a d mi mf mw f (n % 10) (n / 10) hf (by omega) (by omega)) hwX1_at hdX1_at ⟨Nat.le_of_ble_eq_true rfl, Nat.le_of_ble_eq_true rfl⟩ hK hZ rfl rfl rfl rfl hl.1 rfl (Nat.le_of_ble_eq_true rfl) dX1_response_27 ⟨Nat.le_of_ble_eq_true rfl, Nat.le_of_ble_eq_true rfl⟩ (fun r u H locs hu hZ => ?_)
  obtain ⟨rfl, rfl⟩ := hu
  refine lv_goto (tgt := 35) hx hb dX1_response_30 (by decide) ?_
  exact g_iret hx hb hr hlk hK hZ dX1_response_35 (⟨rfl, mf, rfl⟩)

set_option maxHeartbeats 4000000 in
set_option maxRecDepth 100000 in
theorem m_response_no (l : Launch) (D : va_G) (a : Nat → Nat) (d : Nat → ClassId) (mi mf mw : Nat → Int32) (x y : Int32) (hno : ¬ (vF x ∧ vC y)) : Mi l D (tyM d) (aM a) yX1_response cX1_response 3 (some .int) 2 50 (a 0) [.int x, .int y] (mW a d mi mf mw) (fun r u => r = (-1000000000) ∧ u = mW a d mi mf mw) := by
  refine Mi.of (by decide) (Nat.le_of_ble_eq_true rfl) rfl (fun p e s m below meth c C hr hlk hK hZ ls hl => ?_)
  have C : CallFix p m c cX1_response 3 s _ lw_all RX1 := C
  have hx := C.1
  have hb := C.2.1
  have hl : lv_has ls 3 [(0, .ref (a 0)), (1, .int x), (2, .int y)] := hl
  refine lv_aload_n hx hb dX1_response_0 rfl (lv_at hl 0 rfl) ?_
  refine lv_iload_n hx hb dX1_response_1 rfl (lv_at hl 1 rfl) ?_
  by_cases hc : vF x
  · refine g_callp (ci := 1) (rest := []) C (m_isFilter l _ 1 (if_pos hc).symm) hwX1_isFilter hdX1_isFilter ⟨Nat.le_of_ble_eq_true rfl, Nat.le_of_ble_eq_true rfl⟩ hK hZ rfl rfl rfl rfl hl.1 rfl (Nat.le_of_ble_eq_true rfl) dX1_response_2 ⟨Nat.le_of_ble_eq_true rfl, Nat.le_of_ble_eq_true rfl⟩ ?_
    refine z_eqN hx hb 33 dX1_response_5 (by decide) (by decide +kernel) ?_
    refine lv_aload_n hx hb dX1_response_8 rfl (lv_at hl 0 rfl) ?_
    refine lv_iload_n hx hb dX1_response_9 rfl (lv_at hl 2 rfl) ?_
    refine g_callp (ci := 1) (rest := []) C (m_isCell l _ 0 (if_neg (fun q => hno ⟨hc, q⟩)).symm) hwX1_isCell hdX1_isCell ⟨Nat.le_of_ble_eq_true rfl, Nat.le_of_ble_eq_true rfl⟩ hK hZ rfl rfl rfl rfl hl.1 rfl (Nat.le_of_ble_eq_true rfl) dX1_response_10 ⟨Nat.le_of_ble_eq_true rfl, Nat.le_of_ble_eq_true rfl⟩ ?_
    refine z_eqY hx hb 33 dX1_response_13 (by decide) rfl ?_
    refine lv_ldc hx hb C.2.2.2.1 (C.2.2.2.2 _ q190) dX1_response_33 ?_
    exact g_iret hx hb hr hlk hK hZ dX1_response_35 (⟨rfl, rfl⟩)
  · refine g_callp (ci := 1) (rest := []) C (m_isFilter l _ 0 (if_neg hc).symm) hwX1_isFilter hdX1_isFilter ⟨Nat.le_of_ble_eq_true rfl, Nat.le_of_ble_eq_true rfl⟩ hK hZ rfl rfl rfl rfl hl.1 rfl (Nat.le_of_ble_eq_true rfl) dX1_response_2 ⟨Nat.le_of_ble_eq_true rfl, Nat.le_of_ble_eq_true rfl⟩ ?_
    refine z_eqY hx hb 33 dX1_response_5 (by decide) rfl ?_
    refine lv_ldc hx hb C.2.2.2.1 (C.2.2.2.2 _ q190) dX1_response_33 ?_
    exact g_iret hx hb hr hlk hK hZ dX1_response_35 (⟨rfl, rfl⟩)

set_option maxHeartbeats 4000000 in
set_option maxRecDepth 100000 in
theorem m_second_ok (l : Launch) (D : va_G) (a : Nat → Nat) (d : Nat → ClassId) (mi mf mw : Nat → Int32) (n : Nat) (hn : n < 100) : Mi l D (tyM d) (aM a) yX1_second cX1_second 2 (some .int) 3 75 (a 0) [.int (nI n)] (mW a d mi mf mw) (fun r u => r = resp mw (resp mw mi 0) 1 n ∧ mI a d mi mw u) := by
  refine Mi.of (by decide) (Nat.le_of_ble_eq_true rfl) rfl (fun p e s m below meth c C hr hlk hK hZ ls hl => ?_)
  have C : CallFix p m c cX1_second 2 s _ lw_all RX1 := C
  have hx := C.1
  have hb := C.2.1
  have hl : lv_has ls 2 [(0, .ref (a 0)), (1, .int (nI n))] := hl
  refine lv_aload_n hx hb dX1_second_0 rfl (lv_at hl 0 rfl) ?_
  refine lv_iload_n hx hb dX1_second_1 rfl (lv_at hl 1 rfl) ?_
  refine g_callp (ci := 1) (rest := []) C (m_isCell l _ 1 (if_pos (vC_of hn)).symm) hwX1_isCell hdX1_isCell ⟨Nat.le_of_ble_eq_true rfl, Nat.le_of_ble_eq_true rfl⟩ hK hZ rfl rfl rfl rfl hl.1 rfl (Nat.le_of_ble_eq_true rfl) dX1_second_2 ⟨Nat.le_of_ble_eq_true rfl, Nat.le_of_ble_eq_true rfl⟩ ?_
  refine z_neY hx hb 11 dX1_second_5 (by decide) (by decide +kernel) ?_
  refine lv_aload_n hx hb dX1_second_11 rfl (lv_at hl 0 rfl) ?_
  refine lv_iconst (v := nI 0) hx hb dX1_second_12 (by decide +kernel) ?_
  refine g_callv (ci := 1) (rest := []) C (m_respond l D a d mi mf mw 0 (by decide)) hwX1_respond hdX1_respond ⟨Nat.le_of_ble_eq_true rfl, Nat.le_of_ble_eq_true rfl⟩ hK hZ rfl rfl rfl rfl hl.1 rfl (Nat.le_of_ble_eq_true rfl) dX1_second_13 ⟨Nat.le_of_ble_eq_true rfl, Nat.le_of_ble_eq_true rfl⟩ (fun u H locs hu hZ => ?_)
  subst hu
  refine lv_aload_n hx hb dX1_second_16 rfl (lv_at hl 0 rfl) ?_
  refine lv_iconst (v := nI 1) hx hb dX1_second_17 (by decide +kernel) ?_
  refine lv_iload_n hx hb dX1_second_18 rfl (lv_at hl 1 rfl) ?_
  refine lv_bipush (v := nI 10) hx hb dX1_second_19 (by decide +kernel) ?_
  refine n_rem hx hb (by omega) (by omega) (by omega) dX1_second_21 ?_
  refine lv_iload_n hx hb dX1_second_22 rfl (lv_at hl 1 rfl) ?_
  refine lv_bipush (v := nI 10) hx hb dX1_second_23 (by decide +kernel) ?_
  refine n_div hx hb (by omega) (by omega) (by omega) dX1_second_25 ?_
  refine lv_iconst (v := 1) hx hb dX1_second_26 (by decide +kernel) ?_
  refine g_calli (ci := 1) (rest := []) C (m_at1 l D a d mi (resp mw mi 0) mw 1 (n % 10) (n / 10) (by decide) (by omega) (by omega)) hwX1_at hdX1_at ⟨Nat.le_of_ble_eq_true rfl, Nat.le_of_ble_eq_true rfl⟩ hK hZ rfl rfl rfl rfl hl.1 rfl (Nat.le_of_ble_eq_true rfl) dX1_second_27 ⟨Nat.le_of_ble_eq_true rfl, Nat.le_of_ble_eq_true rfl⟩ (fun r u H locs hu hZ => ?_)
  obtain ⟨rfl, rfl⟩ := hu
  exact g_iret hx hb hr hlk hK hZ dX1_second_30 (⟨rfl, _, rfl⟩)

set_option maxHeartbeats 4000000 in
set_option maxRecDepth 100000 in
theorem m_second_no (l : Launch) (D : va_G) (a : Nat → Nat) (d : Nat → ClassId) (mi mf mw : Nat → Int32) (x : Int32) (hno : ¬ vC x) : Mi l D (tyM d) (aM a) yX1_second cX1_second 2 (some .int) 3 75 (a 0) [.int x] (mW a d mi mf mw) (fun r u => r = (-1000000000) ∧ u = mW a d mi mf mw) := by
  refine Mi.of (by decide) (Nat.le_of_ble_eq_true rfl) rfl (fun p e s m below meth c C hr hlk hK hZ ls hl => ?_)
  have C : CallFix p m c cX1_second 2 s _ lw_all RX1 := C
  have hx := C.1
  have hb := C.2.1
  have hl : lv_has ls 2 [(0, .ref (a 0)), (1, .int x)] := hl
  refine lv_aload_n hx hb dX1_second_0 rfl (lv_at hl 0 rfl) ?_
  refine lv_iload_n hx hb dX1_second_1 rfl (lv_at hl 1 rfl) ?_
  refine g_callp (ci := 1) (rest := []) C (m_isCell l _ 0 (if_neg hno).symm) hwX1_isCell hdX1_isCell ⟨Nat.le_of_ble_eq_true rfl, Nat.le_of_ble_eq_true rfl⟩ hK hZ rfl rfl rfl rfl hl.1 rfl (Nat.le_of_ble_eq_true rfl) dX1_second_2 ⟨Nat.le_of_ble_eq_true rfl, Nat.le_of_ble_eq_true rfl⟩ ?_
  refine z_neN hx hb 11 dX1_second_5 (by decide) rfl ?_
  refine lv_ldc hx hb C.2.2.2.1 (C.2.2.2.2 _ q190) dX1_second_8 ?_
  exact g_iret hx hb hr hlk hK hZ dX1_second_10 (⟨rfl, rfl⟩)

set_option maxHeartbeats 4000000 in
set_option maxRecDepth 100000 in
theorem m_best (l : Launch) (D : va_G) (a : Nat → Nat) (d : Nat → ClassId) (mi mf mw : Nat → Int32)  : Mi l D (tyM d) (aM a) yX1_best cX1_best 3 (some .int) 0 0 (a 0) [] (mW a d mi mf mw) (fun r u => r = nI (bst mf 99) ∧ u = mW a d mi mf mw) := by
  refine Mi.of (by decide) (Nat.le_of_ble_eq_true rfl) rfl (fun p e s m below meth c C hr hlk hK hZ ls hl => ?_)
  have C : CallFix p m c cX1_best 3 s _ lw_all RX1 := C
  have hx := C.1
  have hb := C.2.1
  have hl : lv_has ls 3 [(0, .ref (a 0))] := hl
  refine lv_iconst (v := nI 0) hx hb dX1_best_0 (by decide +kernel) ?_
  refine lv_istore_n (lv' := [(1, .int (nI 0)), (0, .ref (a 0))]) hx hb dX1_best_1 rfl hl (by decide) rfl (fun ls hl => ?_)
  refine lv_iconst (v := nI 1) hx hb dX1_best_2 (by decide +kernel) ?_
  refine lv_istore_n (lv' := [(2, .int (nI 1)), (1, .int (nI 0)), (0, .ref (a 0))]) hx hb dX1_best_3 rfl hl (by decide) rfl (fun ls hl => ?_)
  refine W_loop (N := 99) (fun k H locs ls => gZ D (gA (aM a) s.heap.size) s.heap (mW a d mi mf mw) H locs ∧ lv_has ls 3 [(2, .int (nI (k + 1))), (1, .int (nI (bst mf k))), (0, .ref (a 0))]) ?_ ?_ 0 (by omega) ⟨hZ, hl⟩
  · intro H locs ls hI
    obtain ⟨hZ, hl⟩ := hI
    refine lv_iload_n hx hb dX1_best_4 rfl (lv_at hl 0 rfl) ?_
    refine lv_bipush (v := nI 100) hx hb dX1_best_5 (by decide +kernel) ?_
    refine n_geY hx hb 33 dX1_best_7 (by decide) (by omega) (by omega) ?_
    refine lv_iload_n hx hb dX1_best_33 rfl (lv_at hl 1 rfl) ?_
    exact g_iret hx hb hr hlk hK hZ dX1_best_34 (⟨rfl, rfl⟩)
  · intro k hk ih H locs ls hI
    obtain ⟨hZ, hl⟩ := hI
    have hb0 := bst_le mf k
    refine lv_iload_n hx hb dX1_best_4 rfl (lv_at hl 0 rfl) ?_
    refine lv_bipush (v := nI 100) hx hb dX1_best_5 (by decide +kernel) ?_
    refine n_geN hx hb 33 dX1_best_7 (by decide) (by omega) (by omega) ?_
    refine lv_aload_n hx hb dX1_best_10 rfl (lv_at hl 2 rfl) ?_
    refine mg_mf C hK hZ dX1_best_11 ?_
    refine lv_iload_n hx hb dX1_best_14 rfl (lv_at hl 0 rfl) ?_
    refine ml_mf C hK hZ (by omega) dX1_best_15 ?_
    refine lv_aload_n hx hb dX1_best_16 rfl (lv_at hl 2 rfl) ?_
    refine mg_mf C hK hZ dX1_best_17 ?_
    refine lv_iload_n hx hb dX1_best_20 rfl (lv_at hl 1 rfl) ?_
    refine ml_mf C hK hZ (by omega) dX1_best_21 ?_
    refine lv_icmp_le (tgt := 27) hx hb dX1_best_22 (by decide) (fun h2 => ?_) (fun h2 => ?_)
    · refine n_inc (lv' := [(2, .int (nI ((k + 1) + 1))), (1, .int (nI (bst mf k))), (0, .ref (a 0))]) hx hb dX1_best_27 hl (kx := 0) rfl (by decide) rfl (fun ls hl => ?_)
      refine lv_goto (tgt := 4) hx hb dX1_best_30 (by decide) ?_
      exact ih _ _ _ ⟨hZ, by rw [show bst mf (k + 1) = bst mf k from if_pos h2]; exact hl⟩
    · refine lv_iload_n hx hb dX1_best_25 rfl (lv_at hl 0 rfl) ?_
      refine lv_istore_n (lv' := [(1, .int (nI (k + 1))), (2, .int (nI (k + 1))), (0, .ref (a 0))]) hx hb dX1_best_26 rfl hl (by decide) rfl (fun ls hl => ?_)
      refine n_inc (lv' := [(2, .int (nI ((k + 1) + 1))), (1, .int (nI (k + 1))), (0, .ref (a 0))]) hx hb dX1_best_27 hl (kx := 1) rfl (by decide) rfl (fun ls hl => ?_)
      refine lv_goto (tgt := 4) hx hb dX1_best_30 (by decide) ?_
      exact ih _ _ _ ⟨hZ, by rw [show bst mf (k + 1) = k + 1 from if_neg h2]; exact hl⟩

set_option maxHeartbeats 4000000 in
set_option maxRecDepth 100000 in
theorem m_where_ok (l : Launch) (D : va_G) (a : Nat → Nat) (d : Nat → ClassId) (mi mf mw : Nat → Int32) (f : Nat) (hf : f < 2) : Mi l D (tyM d) (aM a) yX1_where cX1_where 2 (some .int) 3 75 (a 0) [.int (nI f)] (mW a d mi mf mw) (fun r u => r = nI (bst (resp mw mi f) 99) ∧ mI a d mi mw u) := by
  refine Mi.of (by decide) (Nat.le_of_ble_eq_true rfl) rfl (fun p e s m below meth c C hr hlk hK hZ ls hl => ?_)
  have C : CallFix p m c cX1_where 2 s _ lw_all RX1 := C
  have hx := C.1
  have hb := C.2.1
  have hl : lv_has ls 2 [(0, .ref (a 0)), (1, .int (nI f))] := hl
  refine lv_aload_n hx hb dX1_where_0 rfl (lv_at hl 0 rfl) ?_
  refine lv_iload_n hx hb dX1_where_1 rfl (lv_at hl 1 rfl) ?_
  refine g_callp (ci := 1) (rest := []) C (m_isFilter l _ 1 (if_pos (vF_of hf)).symm) hwX1_isFilter hdX1_isFilter ⟨Nat.le_of_ble_eq_true rfl, Nat.le_of_ble_eq_true rfl⟩ hK hZ rfl rfl rfl rfl hl.1 rfl (Nat.le_of_ble_eq_true rfl) dX1_where_2 ⟨Nat.le_of_ble_eq_true rfl, Nat.le_of_ble_eq_true rfl⟩ ?_
  refine z_neY hx hb 11 dX1_where_5 (by decide) (by decide +kernel) ?_
  refine lv_aload_n hx hb dX1_where_11 rfl (lv_at hl 0 rfl) ?_
  refine lv_iload_n hx hb dX1_where_12 rfl (lv_at hl 1 rfl) ?_
  refine g_callv (ci := 1) (rest := []) C (m_respond l D a d mi mf mw f hf) hwX1_respond hdX1_respond ⟨Nat.le_of_ble_eq_true rfl, Nat.le_of_ble_eq_true rfl⟩ hK hZ rfl rfl rfl rfl hl.1 rfl (Nat.le_of_ble_eq_true rfl) dX1_where_13 ⟨Nat.le_of_ble_eq_true rfl, Nat.le_of_ble_eq_true rfl⟩ (fun u H locs hu hZ => ?_)
  subst hu
  refine lv_aload_n hx hb dX1_where_16 rfl (lv_at hl 0 rfl) ?_
  refine g_calli (ci := 1) (rest := []) C (m_best l D a d mi (resp mw mi f) mw) hwX1_best hdX1_best ⟨Nat.le_of_ble_eq_true rfl, Nat.le_of_ble_eq_true rfl⟩ hK hZ rfl rfl rfl rfl hl.1 rfl (Nat.le_of_ble_eq_true rfl) dX1_where_17 ⟨Nat.le_of_ble_eq_true rfl, Nat.le_of_ble_eq_true rfl⟩ (fun r u H locs hu hZ => ?_)
  obtain ⟨rfl, rfl⟩ := hu
  exact g_iret hx hb hr hlk hK hZ dX1_where_20 (⟨rfl, _, rfl⟩)

set_option maxHeartbeats 4000000 in
set_option maxRecDepth 100000 in
theorem m_where_no (l : Launch) (D : va_G) (a : Nat → Nat) (d : Nat → ClassId) (mi mf mw : Nat → Int32) (x : Int32) (hno : ¬ vF x) : Mi l D (tyM d) (aM a) yX1_where cX1_where 2 (some .int) 3 75 (a 0) [.int x] (mW a d mi mf mw) (fun r u => r = (-1000000000) ∧ u = mW a d mi mf mw) := by
  refine Mi.of (by decide) (Nat.le_of_ble_eq_true rfl) rfl (fun p e s m below meth c C hr hlk hK hZ ls hl => ?_)
  have C : CallFix p m c cX1_where 2 s _ lw_all RX1 := C
  have hx := C.1
  have hb := C.2.1
  have hl : lv_has ls 2 [(0, .ref (a 0)), (1, .int x)] := hl
  refine lv_aload_n hx hb dX1_where_0 rfl (lv_at hl 0 rfl) ?_
  refine lv_iload_n hx hb dX1_where_1 rfl (lv_at hl 1 rfl) ?_
  refine g_callp (ci := 1) (rest := []) C (m_isFilter l _ 0 (if_neg hno).symm) hwX1_isFilter hdX1_isFilter ⟨Nat.le_of_ble_eq_true rfl, Nat.le_of_ble_eq_true rfl⟩ hK hZ rfl rfl rfl rfl hl.1 rfl (Nat.le_of_ble_eq_true rfl) dX1_where_2 ⟨Nat.le_of_ble_eq_true rfl, Nat.le_of_ble_eq_true rfl⟩ ?_
  refine z_neN hx hb 11 dX1_where_5 (by decide) rfl ?_
  refine lv_ldc hx hb C.2.2.2.1 (C.2.2.2.2 _ q190) dX1_where_8 ?_
  exact g_iret hx hb hr hlk hK hZ dX1_where_10 (⟨rfl, rfl⟩)

set_option maxHeartbeats 4000000 in
set_option maxRecDepth 100000 in
theorem m_greatest_ok (l : Launch) (D : va_G) (a : Nat → Nat) (d : Nat → ClassId) (mi mf mw : Nat → Int32) (f : Nat) (hf : f < 2) : Mi l D (tyM d) (aM a) yX1_greatest cX1_greatest 3 (some .int) 3 75 (a 0) [.int (nI f)] (mW a d mi mf mw) (fun r u => r = resp mw mi f (bst (resp mw mi f) 99) ∧ mI a d mi mw u) := by
  refine Mi.of (by decide) (Nat.le_of_ble_eq_true rfl) rfl (fun p e s m below meth c C hr hlk hK hZ ls hl => ?_)
  have C : CallFix p m c cX1_greatest 3 s _ lw_all RX1 := C
  have hx := C.1
  have hb := C.2.1
  have hl : lv_has ls 3 [(0, .ref (a 0)), (1, .int (nI f))] := hl
  refine lv_aload_n hx hb dX1_greatest_0 rfl (lv_at hl 0 rfl) ?_
  refine lv_iload_n hx hb dX1_greatest_1 rfl (lv_at hl 1 rfl) ?_
  refine g_callp (ci := 1) (rest := []) C (m_isFilter l _ 1 (if_pos (vF_of hf)).symm) hwX1_isFilter hdX1_isFilter ⟨Nat.le_of_ble_eq_true rfl, Nat.le_of_ble_eq_true rfl⟩ hK hZ rfl rfl rfl rfl hl.1 rfl (Nat.le_of_ble_eq_true rfl) dX1_greatest_2 ⟨Nat.le_of_ble_eq_true rfl, Nat.le_of_ble_eq_true rfl⟩ ?_
  refine z_neY hx hb 11 dX1_greatest_5 (by decide) (by decide +kernel) ?_
  refine lv_aload_n hx hb dX1_greatest_11 rfl (lv_at hl 0 rfl) ?_
  refine lv_iload_n hx hb dX1_greatest_12 rfl (lv_at hl 1 rfl) ?_
  refine g_callv (ci := 1) (rest := []) C (m_respond l D a d mi mf mw f hf) hwX1_respond hdX1_respond ⟨Nat.le_of_ble_eq_true rfl, Nat.le_of_ble_eq_true rfl⟩ hK hZ rfl rfl rfl rfl hl.1 rfl (Nat.le_of_ble_eq_true rfl) dX1_greatest_13 ⟨Nat.le_of_ble_eq_true rfl, Nat.le_of_ble_eq_true rfl⟩ (fun u H locs hu hZ => ?_)
  subst hu
  refine lv_aload_n hx hb dX1_greatest_16 rfl (lv_at hl 0 rfl) ?_
  refine g_calli (ci := 1) (rest := []) C (m_best l D a d mi (resp mw mi f) mw) hwX1_best hdX1_best ⟨Nat.le_of_ble_eq_true rfl, Nat.le_of_ble_eq_true rfl⟩ hK hZ rfl rfl rfl rfl hl.1 rfl (Nat.le_of_ble_eq_true rfl) dX1_greatest_17 ⟨Nat.le_of_ble_eq_true rfl, Nat.le_of_ble_eq_true rfl⟩ (fun r u H locs hu hZ => ?_)
  obtain ⟨rfl, rfl⟩ := hu
  have hb0 := bst_le (resp mw mi f) 99
  refine lv_istore_n (lv' := [(2, .int (nI (bst (resp mw mi f) 99))), (0, .ref (a 0)), (1, .int (nI f))]) hx hb dX1_greatest_20 rfl hl (by decide) rfl (fun ls hl => ?_)
  refine lv_aload_n hx hb dX1_greatest_21 rfl (lv_at hl 1 rfl) ?_
  refine mg_mf C hK hZ dX1_greatest_22 ?_
  refine lv_iload_n hx hb dX1_greatest_25 rfl (lv_at hl 0 rfl) ?_
  refine ml_mf C hK hZ (by omega) dX1_greatest_26 ?_
  exact g_iret hx hb hr hlk hK hZ dX1_greatest_27 (⟨rfl, _, rfl⟩)

set_option maxHeartbeats 4000000 in
set_option maxRecDepth 100000 in
theorem m_greatest_no (l : Launch) (D : va_G) (a : Nat → Nat) (d : Nat → ClassId) (mi mf mw : Nat → Int32) (x : Int32) (hno : ¬ vF x) : Mi l D (tyM d) (aM a) yX1_greatest cX1_greatest 3 (some .int) 3 75 (a 0) [.int x] (mW a d mi mf mw) (fun r u => r = (-1000000000) ∧ u = mW a d mi mf mw) := by
  refine Mi.of (by decide) (Nat.le_of_ble_eq_true rfl) rfl (fun p e s m below meth c C hr hlk hK hZ ls hl => ?_)
  have C : CallFix p m c cX1_greatest 3 s _ lw_all RX1 := C
  have hx := C.1
  have hb := C.2.1
  have hl : lv_has ls 3 [(0, .ref (a 0)), (1, .int x)] := hl
  refine lv_aload_n hx hb dX1_greatest_0 rfl (lv_at hl 0 rfl) ?_
  refine lv_iload_n hx hb dX1_greatest_1 rfl (lv_at hl 1 rfl) ?_
  refine g_callp (ci := 1) (rest := []) C (m_isFilter l _ 0 (if_neg hno).symm) hwX1_isFilter hdX1_isFilter ⟨Nat.le_of_ble_eq_true rfl, Nat.le_of_ble_eq_true rfl⟩ hK hZ rfl rfl rfl rfl hl.1 rfl (Nat.le_of_ble_eq_true rfl) dX1_greatest_2 ⟨Nat.le_of_ble_eq_true rfl, Nat.le_of_ble_eq_true rfl⟩ ?_
  refine z_neN hx hb 11 dX1_greatest_5 (by decide) rfl ?_
  refine lv_ldc hx hb C.2.2.2.1 (C.2.2.2.2 _ q190) dX1_greatest_8 ?_
  exact g_iret hx hb hr hlk hK hZ dX1_greatest_10 (⟨rfl, rfl⟩)

set_option maxHeartbeats 4000000 in
set_option maxRecDepth 100000 in
theorem m_total_ok (l : Launch) (D : va_G) (a : Nat → Nat) (d : Nat → ClassId) (mi mf mw : Nat → Int32) (f : Nat) (hf : f < 2) : Mi l D (tyM d) (aM a) yX1_total cX1_total 4 (some .int) 3 75 (a 0) [.int (nI f)] (mW a d mi mf mw) (fun r u => r = sm (resp mw mi f) 100 ∧ mI a d mi mw u) := by
  refine Mi.of (by decide) (Nat.le_of_ble_eq_true rfl) rfl (fun p e s m below meth c C hr hlk hK hZ ls hl => ?_)
  have C : CallFix p m c cX1_total 4 s _ lw_all RX1 := C
  have hx := C.1
  have hb := C.2.1
  have hl : lv_has ls 4 [(0, .ref (a 0)), (1, .int (nI f))] := hl
  refine lv_aload_n hx hb dX1_total_0 rfl (lv_at hl 0 rfl) ?_
  refine lv_iload_n hx hb dX1_total_1 rfl (lv_at hl 1 rfl) ?_
  refine g_callp (ci := 1) (rest := []) C (m_isFilter l _ 1 (if_pos (vF_of hf)).symm) hwX1_isFilter hdX1_isFilter ⟨Nat.le_of_ble_eq_true rfl, Nat.le_of_ble_eq_true rfl⟩ hK hZ rfl rfl rfl rfl hl.1 rfl (Nat.le_of_ble_eq_true rfl) dX1_total_2 ⟨Nat.le_of_ble_eq_true rfl, Nat.le_of_ble_eq_true rfl⟩ ?_
  refine z_neY hx hb 11 dX1_total_5 (by decide) (by decide +kernel) ?_
  refine lv_aload_n hx hb dX1_total_11 rfl (lv_at hl 0 rfl) ?_
  refine lv_iload_n hx hb dX1_total_12 rfl (lv_at hl 1 rfl) ?_
  refine g_callv (ci := 1) (rest := []) C (m_respond l D a d mi mf mw f hf) hwX1_respond hdX1_respond ⟨Nat.le_of_ble_eq_true rfl, Nat.le_of_ble_eq_true rfl⟩ hK hZ rfl rfl rfl rfl hl.1 rfl (Nat.le_of_ble_eq_true rfl) dX1_total_13 ⟨Nat.le_of_ble_eq_true rfl, Nat.le_of_ble_eq_true rfl⟩ (fun u H locs hu hZ => ?_)
  subst hu
  refine lv_iconst (v := 0) hx hb dX1_total_16 (by decide +kernel) ?_
  refine lv_istore_n (lv' := [(2, .int 0), (0, .ref (a 0)), (1, .int (nI f))]) hx hb dX1_total_17 rfl hl (by decide) rfl (fun ls hl => ?_)
  refine lv_iconst (v := nI 0) hx hb dX1_total_18 (by decide +kernel) ?_
  refine lv_istore_n (lv' := [(3, .int (nI 0)), (2, .int 0), (0, .ref (a 0)), (1, .int (nI f))]) hx hb dX1_total_19 rfl hl (by decide) rfl (fun ls hl => ?_)
  refine W_loop (N := 100) (fun k H locs ls => gZ D (gA (aM a) s.heap.size) s.heap (mW a d mi (resp mw mi f) mw) H locs ∧ lv_has ls 4 [(3, .int (nI k)), (2, .int (sm (resp mw mi f) k)), (0, .ref (a 0)), (1, .int (nI f))]) ?_ ?_ 0 (by omega) ⟨hZ, hl⟩
  · intro H locs ls hI
    obtain ⟨hZ, hl⟩ := hI
    refine lv_iload_n hx hb dX1_total_20 rfl (lv_at hl 0 rfl) ?_
    refine lv_bipush (v := nI 100) hx hb dX1_total_21 (by decide +kernel) ?_
    refine n_geY hx hb 41 dX1_total_23 (by decide) (by omega) (by omega) ?_
    refine lv_iload_n hx hb dX1_total_41 rfl (lv_at hl 1 rfl) ?_
    exact g_iret hx hb hr hlk hK hZ dX1_total_42 (⟨rfl, _, rfl⟩)
  · intro k hk ih H locs ls hI
    obtain ⟨hZ, hl⟩ := hI
    refine lv_iload_n hx hb dX1_total_20 rfl (lv_at hl 0 rfl) ?_
    refine lv_bipush (v := nI 100) hx hb dX1_total_21 (by decide +kernel) ?_
    refine n_geN hx hb 41 dX1_total_23 (by decide) (by omega) (by omega) ?_
    refine lv_iload_n hx hb dX1_total_26 rfl (lv_at hl 1 rfl) ?_
    refine lv_aload_n hx hb dX1_total_27 rfl (lv_at hl 2 rfl) ?_
    refine mg_mf C hK hZ dX1_total_28 ?_
    refine lv_iload_n hx hb dX1_total_31 rfl (lv_at hl 0 rfl) ?_
    refine ml_mf C hK hZ (by omega) dX1_total_32 ?_
    refine lv_iadd hx hb dX1_total_33 ?_
    refine lv_istore_n (lv' := [(2, .int ((sm (resp mw mi f) k) + ((resp mw mi f) k))), (3, .int (nI k)), (0, .ref (a 0)), (1, .int (nI f))]) hx hb dX1_total_34 rfl hl (by decide) rfl (fun ls hl => ?_)
    refine n_inc (lv' := [(3, .int (nI (k + 1))), (2, .int ((sm (resp mw mi f) k) + ((resp mw mi f) k))), (0, .ref (a 0)), (1, .int (nI f))]) hx hb dX1_total_35 hl (kx := 1) rfl (by decide) rfl (fun ls hl => ?_)
    refine lv_goto (tgt := 20) hx hb dX1_total_38 (by decide) ?_
    exact ih _ _ _ ⟨hZ, hl⟩

set_option maxHeartbeats 4000000 in
set_option maxRecDepth 100000 in
theorem m_total_no (l : Launch) (D : va_G) (a : Nat → Nat) (d : Nat → ClassId) (mi mf mw : Nat → Int32) (x : Int32) (hno : ¬ vF x) : Mi l D (tyM d) (aM a) yX1_total cX1_total 4 (some .int) 3 75 (a 0) [.int x] (mW a d mi mf mw) (fun r u => r = (-1000000000) ∧ u = mW a d mi mf mw) := by
  refine Mi.of (by decide) (Nat.le_of_ble_eq_true rfl) rfl (fun p e s m below meth c C hr hlk hK hZ ls hl => ?_)
  have C : CallFix p m c cX1_total 4 s _ lw_all RX1 := C
  have hx := C.1
  have hb := C.2.1
  have hl : lv_has ls 4 [(0, .ref (a 0)), (1, .int x)] := hl
  refine lv_aload_n hx hb dX1_total_0 rfl (lv_at hl 0 rfl) ?_
  refine lv_iload_n hx hb dX1_total_1 rfl (lv_at hl 1 rfl) ?_
  refine g_callp (ci := 1) (rest := []) C (m_isFilter l _ 0 (if_neg hno).symm) hwX1_isFilter hdX1_isFilter ⟨Nat.le_of_ble_eq_true rfl, Nat.le_of_ble_eq_true rfl⟩ hK hZ rfl rfl rfl rfl hl.1 rfl (Nat.le_of_ble_eq_true rfl) dX1_total_2 ⟨Nat.le_of_ble_eq_true rfl, Nat.le_of_ble_eq_true rfl⟩ ?_
  refine z_neN hx hb 11 dX1_total_5 (by decide) rfl ?_
  refine lv_ldc hx hb C.2.2.2.1 (C.2.2.2.2 _ q190) dX1_total_8 ?_
  exact g_iret hx hb hr hlk hK hZ dX1_total_10 (⟨rfl, rfl⟩)

set_option maxHeartbeats 4000000 in
set_option maxRecDepth 100000 in
theorem m_pooled_ok (l : Launch) (D : va_G) (a : Nat → Nat) (d : Nat → ClassId) (mi mf mw : Nat → Int32) (f n : Nat) (hf : f < 2) (hn : n < 25) : Mi l D (tyM d) (aM a) yX1_pooled cX1_pooled 5 (some .int) 3 75 (a 0) [.int (nI f), .int (nI n)] (mW a d mi mf mw) (fun r u => r = pl3 (resp mw mi f) ((20 * (n / 5)) + (2 * (n % 5))) ∧ mI a d mi mw u) := by
  refine Mi.of (by decide) (Nat.le_of_ble_eq_true rfl) rfl (fun p e s m below meth c C hr hlk hK hZ ls hl => ?_)
  have C : CallFix p m c cX1_pooled 5 s _ lw_all RX1 := C
  have hx := C.1
  have hb := C.2.1
  have hl : lv_has ls 5 [(0, .ref (a 0)), (1, .int (nI f)), (2, .int (nI n))] := hl
  refine lv_aload_n hx hb dX1_pooled_0 rfl (lv_at hl 0 rfl) ?_
  refine lv_iload_n hx hb dX1_pooled_1 rfl (lv_at hl 1 rfl) ?_
  refine g_callp (ci := 1) (rest := []) C (m_isFilter l _ 1 (if_pos (vF_of hf)).symm) hwX1_isFilter hdX1_isFilter ⟨Nat.le_of_ble_eq_true rfl, Nat.le_of_ble_eq_true rfl⟩ hK hZ rfl rfl rfl rfl hl.1 rfl (Nat.le_of_ble_eq_true rfl) dX1_pooled_2 ⟨Nat.le_of_ble_eq_true rfl, Nat.le_of_ble_eq_true rfl⟩ ?_
  refine z_eqN hx hb 18 dX1_pooled_5 (by decide) (by decide +kernel) ?_
  refine lv_iload_n hx hb dX1_pooled_8 rfl (lv_at hl 2 rfl) ?_
  refine z_ltN hx hb 18 dX1_pooled_9 (by decide) (nI_pos (by omega)) ?_
  refine lv_iload_n hx hb dX1_pooled_12 rfl (lv_at hl 2 rfl) ?_
  refine lv_bipush (v := nI 24) hx hb dX1_pooled_13 (by decide +kernel) ?_
  refine n_leY hx hb 21 dX1_pooled_15 (by decide) (by omega) (by omega) ?_
  refine lv_aload_n hx hb dX1_pooled_21 rfl (lv_at hl 0 rfl) ?_
  refine lv_iload_n hx hb dX1_pooled_22 rfl (lv_at hl 1 rfl) ?_
  refine g_callv (ci := 1) (rest := []) C (m_respond l D a d mi mf mw f hf) hwX1_respond hdX1_respond ⟨Nat.le_of_ble_eq_true rfl, Nat.le_of_ble_eq_true rfl⟩ hK hZ rfl rfl rfl rfl hl.1 rfl (Nat.le_of_ble_eq_true rfl) dX1_pooled_23 ⟨Nat.le_of_ble_eq_true rfl, Nat.le_of_ble_eq_true rfl⟩ (fun u H locs hu hZ => ?_)
  subst hu
  refine lv_bipush (v := nI 20) hx hb dX1_pooled_26 (by decide +kernel) ?_
  refine lv_iload_n hx hb dX1_pooled_28 rfl (lv_at hl 2 rfl) ?_
  refine lv_iconst (v := nI 5) hx hb dX1_pooled_29 (by decide +kernel) ?_
  refine n_div hx hb (by omega) (by omega) (by omega) dX1_pooled_30 ?_
  refine n_mul hx hb dX1_pooled_31 ?_
  refine lv_iconst (v := nI 2) hx hb dX1_pooled_32 (by decide +kernel) ?_
  refine lv_iload_n hx hb dX1_pooled_33 rfl (lv_at hl 2 rfl) ?_
  refine lv_iconst (v := nI 5) hx hb dX1_pooled_34 (by decide +kernel) ?_
  refine n_rem hx hb (by omega) (by omega) (by omega) dX1_pooled_35 ?_
  refine n_mul hx hb dX1_pooled_36 ?_
  refine n_add hx hb dX1_pooled_37 ?_
  refine lv_istore_n (lv' := [(3, .int (nI ((20 * (n / 5)) + (2 * (n % 5))))), (0, .ref (a 0)), (1, .int (nI f)), (2, .int (nI n))]) hx hb dX1_pooled_38 rfl hl (by decide) rfl (fun ls hl => ?_)
  refine lv_aload_n hx hb dX1_pooled_39 rfl (lv_at hl 1 rfl) ?_
  refine mg_mf C hK hZ dX1_pooled_40 ?_
  refine lv_iload_n hx hb dX1_pooled_43 rfl (lv_at hl 0 rfl) ?_
  refine ml_mf C hK hZ (by omega) dX1_pooled_44 ?_
  refine lv_istore (lv' := [(4, .int ((resp mw mi f) ((20 * (n / 5)) + (2 * (n % 5))))), (3, .int (nI ((20 * (n / 5)) + (2 * (n % 5))))), (0, .ref (a 0)), (1, .int (nI f)), (2, .int (nI n))]) hx hb dX1_pooled_45 hl (by decide) rfl (fun ls hl => ?_)
  refine W_join 70 (fun ls => lv_has ls 5 [(4, .int (pl1 (resp mw mi f) ((20 * (n / 5)) + (2 * (n % 5))))), (3, .int (nI ((20 * (n / 5)) + (2 * (n % 5))))), (0, .ref (a 0)), (1, .int (nI f)), (2, .int (nI n))]) (fun ls hl => ?_) (fun kj => ?_)
  · refine W_join 95 (fun ls => lv_has ls 5 [(4, .int (pl2 (resp mw mi f) ((20 * (n / 5)) + (2 * (n % 5))))), (3, .int (nI ((20 * (n / 5)) + (2 * (n % 5))))), (0, .ref (a 0)), (1, .int (nI f)), (2, .int (nI n))]) (fun ls hl => ?_) (fun kj => ?_)
    · refine lv_aload_n hx hb dX1_pooled_95 rfl (lv_at hl 2 rfl) ?_
      refine mg_mf C hK hZ dX1_pooled_96 ?_
      refine lv_iload_n hx hb dX1_pooled_99 rfl (lv_at hl 1 rfl) ?_
      refine lv_bipush (v := nI 11) hx hb dX1_pooled_100 (by decide +kernel) ?_
      refine n_add hx hb dX1_pooled_102 ?_
      refine ml_mf C hK hZ (by omega) dX1_pooled_103 ?_
      refine lv_iload hx hb dX1_pooled_104 (lv_at hl 0 rfl) ?_
      refine lv_icmp_le (tgt := 121) hx hb dX1_pooled_106 (by decide) (fun h2 => ?_) (fun h2 => ?_)
      · refine lv_iload hx hb dX1_pooled_121 (lv_at hl 0 rfl) ?_
        exact g_iret hx hb hr hlk hK hZ dX1_pooled_123 (⟨(if_pos h2).symm, _, rfl⟩)
      · refine lv_aload_n hx hb dX1_pooled_109 rfl (lv_at hl 2 rfl) ?_
        refine mg_mf C hK hZ dX1_pooled_110 ?_
        refine lv_iload_n hx hb dX1_pooled_113 rfl (lv_at hl 1 rfl) ?_
        refine lv_bipush (v := nI 11) hx hb dX1_pooled_114 (by decide +kernel) ?_
        refine n_add hx hb dX1_pooled_116 ?_
        refine ml_mf C hK hZ (by omega) dX1_pooled_117 ?_
        refine lv_goto (tgt := 123) hx hb dX1_pooled_118 (by decide) ?_
        exact g_iret hx hb hr hlk hK hZ dX1_pooled_123 (⟨(if_neg h2).symm, _, rfl⟩)
    · refine lv_aload_n hx hb dX1_pooled_70 rfl (lv_at hl 2 rfl) ?_
      refine mg_mf C hK hZ dX1_pooled_71 ?_
      refine lv_iload_n hx hb dX1_pooled_74 rfl (lv_at hl 1 rfl) ?_
      refine lv_bipush (v := nI 10) hx hb dX1_pooled_75 (by decide +kernel) ?_
      refine n_add hx hb dX1_pooled_77 ?_
      refine ml_mf C hK hZ (by omega) dX1_pooled_78 ?_
      refine lv_iload hx hb dX1_pooled_79 (lv_at hl 0 rfl) ?_
      refine lv_icmp_le (tgt := 95) hx hb dX1_pooled_81 (by decide) (fun h2 => ?_) (fun h2 => ?_)
      · exact kj _ (by rw [show pl2 (resp mw mi f) ((20 * (n / 5)) + (2 * (n % 5))) = pl1 (resp mw mi f) ((20 * (n / 5)) + (2 * (n % 5))) from if_pos h2]; exact hl)
      · refine lv_aload_n hx hb dX1_pooled_84 rfl (lv_at hl 2 rfl) ?_
        refine mg_mf C hK hZ dX1_pooled_85 ?_
        refine lv_iload_n hx hb dX1_pooled_88 rfl (lv_at hl 1 rfl) ?_
        refine lv_bipush (v := nI 10) hx hb dX1_pooled_89 (by decide +kernel) ?_
        refine n_add hx hb dX1_pooled_91 ?_
        refine ml_mf C hK hZ (by omega) dX1_pooled_92 ?_
        refine lv_istore (lv' := [(4, .int ((resp mw mi f) (((20 * (n / 5)) + (2 * (n % 5))) + 10))), (3, .int (nI ((20 * (n / 5)) + (2 * (n % 5))))), (0, .ref (a 0)), (1, .int (nI f)), (2, .int (nI n))]) hx hb dX1_pooled_93 hl (by decide) rfl (fun ls hl => ?_)
        exact kj _ (by rw [show pl2 (resp mw mi f) ((20 * (n / 5)) + (2 * (n % 5))) = (resp mw mi f) (((20 * (n / 5)) + (2 * (n % 5))) + 10) from if_neg h2]; exact hl)
  · refine lv_aload_n hx hb dX1_pooled_47 rfl (lv_at hl 2 rfl) ?_
    refine mg_mf C hK hZ dX1_pooled_48 ?_
    refine lv_iload_n hx hb dX1_pooled_51 rfl (lv_at hl 1 rfl) ?_
    refine lv_iconst (v := nI 1) hx hb dX1_pooled_52 (by decide +kernel) ?_
    refine n_add hx hb dX1_pooled_53 ?_
    refine ml_mf C hK hZ (by omega) dX1_pooled_54 ?_
    refine lv_iload hx hb dX1_pooled_55 (lv_at hl 0 rfl) ?_
    refine lv_icmp_le (tgt := 70) hx hb dX1_pooled_57 (by decide) (fun h2 => ?_) (fun h2 => ?_)
    · exact kj _ (by rw [show pl1 (resp mw mi f) ((20 * (n / 5)) + (2 * (n % 5))) = (resp mw mi f) ((20 * (n / 5)) + (2 * (n % 5))) from if_pos h2]; exact hl)
    · refine lv_aload_n hx hb dX1_pooled_60 rfl (lv_at hl 2 rfl) ?_
      refine mg_mf C hK hZ dX1_pooled_61 ?_
      refine lv_iload_n hx hb dX1_pooled_64 rfl (lv_at hl 1 rfl) ?_
      refine lv_iconst (v := nI 1) hx hb dX1_pooled_65 (by decide +kernel) ?_
      refine n_add hx hb dX1_pooled_66 ?_
      refine ml_mf C hK hZ (by omega) dX1_pooled_67 ?_
      refine lv_istore (lv' := [(4, .int ((resp mw mi f) (((20 * (n / 5)) + (2 * (n % 5))) + 1))), (3, .int (nI ((20 * (n / 5)) + (2 * (n % 5))))), (0, .ref (a 0)), (1, .int (nI f)), (2, .int (nI n))]) hx hb dX1_pooled_68 hl (by decide) rfl (fun ls hl => ?_)
      exact kj _ (by rw [show pl1 (resp mw mi f) ((20 * (n / 5)) + (2 * (n % 5))) = (resp mw mi f) (((20 * (n / 5)) + (2 * (n % 5))) + 1) from if_neg h2]; exact hl)

set_option maxHeartbeats 4000000 in
set_option maxRecDepth 100000 in
theorem m_pooled_no (l : Launch) (D : va_G) (a : Nat → Nat) (d : Nat → ClassId) (mi mf mw : Nat → Int32) (x y : Int32) (hno : ¬ (vF x ∧ vB y)) : Mi l D (tyM d) (aM a) yX1_pooled cX1_pooled 5 (some .int) 3 75 (a 0) [.int x, .int y] (mW a d mi mf mw) (fun r u => r = (-1000000000) ∧ u = mW a d mi mf mw) := by
  refine Mi.of (by decide) (Nat.le_of_ble_eq_true rfl) rfl (fun p e s m below meth c C hr hlk hK hZ ls hl => ?_)
  have C : CallFix p m c cX1_pooled 5 s _ lw_all RX1 := C
  have hx := C.1
  have hb := C.2.1
  have hl : lv_has ls 5 [(0, .ref (a 0)), (1, .int x), (2, .int y)] := hl
  refine lv_aload_n hx hb dX1_pooled_0 rfl (lv_at hl 0 rfl) ?_
  refine lv_iload_n hx hb dX1_pooled_1 rfl (lv_at hl 1 rfl) ?_
  by_cases hc : vF x
  · refine g_callp (ci := 1) (rest := []) C (m_isFilter l _ 1 (if_pos hc).symm) hwX1_isFilter hdX1_isFilter ⟨Nat.le_of_ble_eq_true rfl, Nat.le_of_ble_eq_true rfl⟩ hK hZ rfl rfl rfl rfl hl.1 rfl (Nat.le_of_ble_eq_true rfl) dX1_pooled_2 ⟨Nat.le_of_ble_eq_true rfl, Nat.le_of_ble_eq_true rfl⟩ ?_
    refine z_eqN hx hb 18 dX1_pooled_5 (by decide) (by decide +kernel) ?_
    refine lv_iload_n hx hb dX1_pooled_8 rfl (lv_at hl 2 rfl) ?_
    refine lv_if_lt (tgt := 18) hx hb dX1_pooled_9 (by decide) (fun h1 => ?_) (fun h1 => ?_)
    · refine lv_ldc hx hb C.2.2.2.1 (C.2.2.2.2 _ q190) dX1_pooled_18 ?_
      exact g_iret hx hb hr hlk hK hZ dX1_pooled_20 (⟨rfl, rfl⟩)
    · refine lv_iload_n hx hb dX1_pooled_12 rfl (lv_at hl 2 rfl) ?_
      refine lv_bipush (v := 24) hx hb dX1_pooled_13 (by decide +kernel) ?_
      refine lv_icmp_le (tgt := 21) hx hb dX1_pooled_15 (by decide) (fun h2 => ?_) (fun h2 => ?_)
      · exact absurd ⟨hc, h1, Int32.not_lt.mpr h2⟩ hno
      · refine lv_ldc hx hb C.2.2.2.1 (C.2.2.2.2 _ q190) dX1_pooled_18 ?_
        exact g_iret hx hb hr hlk hK hZ dX1_pooled_20 (⟨rfl, rfl⟩)
  · refine g_callp (ci := 1) (rest := []) C (m_isFilter l _ 0 (if_neg hc).symm) hwX1_isFilter hdX1_isFilter ⟨Nat.le_of_ble_eq_true rfl, Nat.le_of_ble_eq_true rfl⟩ hK hZ rfl rfl rfl rfl hl.1 rfl (Nat.le_of_ble_eq_true rfl) dX1_pooled_2 ⟨Nat.le_of_ble_eq_true rfl, Nat.le_of_ble_eq_true rfl⟩ ?_
    refine z_eqY hx hb 18 dX1_pooled_5 (by decide) rfl ?_
    refine lv_ldc hx hb C.2.2.2.1 (C.2.2.2.2 _ q190) dX1_pooled_18 ?_
    exact g_iret hx hb hr hlk hK hZ dX1_pooled_20 (⟨rfl, rfl⟩)

theorem cl_ne {x : Int32} (h : x < -99 ∨ 99 < x) : ¬ cl x = x := by
  intro e
  have hb := cl_bd x
  rw [e] at hb
  unfold bd at hb
  rw [Int32.lt_iff_toInt_lt, Int32.lt_iff_toInt_lt, show (-99 : Int32).toInt = -99 by decide +kernel, show (99 : Int32).toInt = 99 by decide +kernel] at h
  omega

set_option maxHeartbeats 4000000 in
set_option maxRecDepth 100000 in
theorem m_apply_ok (l : Launch) (D : va_G) (a : Nat → Nat) (d : Nat → ClassId) (mi mf mw : Nat → Int32) (f : Nat) (hf : f < 2) : Mi l D (tyM d) (aM a) yX1_apply cX1_apply 4 (some .int) 3 75 (a 0) [.int (nI f)] (mW a d mi mf mw) (fun r u => r = nI (ct (resp mw mi f) 100) ∧ mI a d (fill 100 (fun j => cl (resp mw mi f j)) mi) mw u) := by
  refine Mi.of (by decide) (Nat.le_of_ble_eq_true rfl) rfl (fun p e s m below meth c C hr hlk hK hZ ls hl => ?_)
  have C : CallFix p m c cX1_apply 4 s _ lw_all RX1 := C
  have hx := C.1
  have hb := C.2.1
  have hl : lv_has ls 4 [(0, .ref (a 0)), (1, .int (nI f))] := hl
  refine lv_aload_n hx hb dX1_apply_0 rfl (lv_at hl 0 rfl) ?_
  refine lv_iload_n hx hb dX1_apply_1 rfl (lv_at hl 1 rfl) ?_
  refine g_callp (ci := 1) (rest := []) C (m_isFilter l _ 1 (if_pos (vF_of hf)).symm) hwX1_isFilter hdX1_isFilter ⟨Nat.le_of_ble_eq_true rfl, Nat.le_of_ble_eq_true rfl⟩ hK hZ rfl rfl rfl rfl hl.1 rfl (Nat.le_of_ble_eq_true rfl) dX1_apply_2 ⟨Nat.le_of_ble_eq_true rfl, Nat.le_of_ble_eq_true rfl⟩ ?_
  refine z_neY hx hb 11 dX1_apply_5 (by decide) (by decide +kernel) ?_
  refine lv_aload_n hx hb dX1_apply_11 rfl (lv_at hl 0 rfl) ?_
  refine lv_iload_n hx hb dX1_apply_12 rfl (lv_at hl 1 rfl) ?_
  refine g_callv (ci := 1) (rest := []) C (m_respond l D a d mi mf mw f hf) hwX1_respond hdX1_respond ⟨Nat.le_of_ble_eq_true rfl, Nat.le_of_ble_eq_true rfl⟩ hK hZ rfl rfl rfl rfl hl.1 rfl (Nat.le_of_ble_eq_true rfl) dX1_apply_13 ⟨Nat.le_of_ble_eq_true rfl, Nat.le_of_ble_eq_true rfl⟩ (fun u H locs hu hZ => ?_)
  subst hu
  refine lv_iconst (v := nI 0) hx hb dX1_apply_16 (by decide +kernel) ?_
  refine lv_istore_n (lv' := [(2, .int (nI 0)), (0, .ref (a 0)), (1, .int (nI f))]) hx hb dX1_apply_17 rfl hl (by decide) rfl (fun ls hl => ?_)
  refine lv_iconst (v := nI 0) hx hb dX1_apply_18 (by decide +kernel) ?_
  refine lv_istore_n (lv' := [(3, .int (nI 0)), (2, .int (nI 0)), (0, .ref (a 0)), (1, .int (nI f))]) hx hb dX1_apply_19 rfl hl (by decide) rfl (fun ls hl => ?_)
  have hZ : gZ D (gA (aM a) s.heap.size) s.heap (mW a d (fill 0 (fun j => cl (resp mw mi f j)) mi) (resp mw mi f) mw) H locs := by
    rw [show fill 0 (fun j => cl (resp mw mi f j)) mi = mi from fill_0 _ _]
    exact hZ
  refine W_loop (N := 100) (fun k H locs ls => gZ D (gA (aM a) s.heap.size) s.heap (mW a d (fill k (fun j => cl (resp mw mi f j)) mi) (resp mw mi f) mw) H locs ∧ lv_has ls 4 [(3, .int (nI k)), (2, .int (nI (ct (resp mw mi f) k))), (0, .ref (a 0)), (1, .int (nI f))]) ?_ ?_ 0 (by omega) ⟨hZ, hl⟩
  · intro H locs ls hI
    obtain ⟨hZ, hl⟩ := hI
    refine lv_iload_n hx hb dX1_apply_20 rfl (lv_at hl 0 rfl) ?_
    refine lv_bipush (v := nI 100) hx hb dX1_apply_21 (by decide +kernel) ?_
    refine n_geY hx hb 94 dX1_apply_23 (by decide) (by omega) (by omega) ?_
    refine lv_iload_n hx hb dX1_apply_94 rfl (lv_at hl 1 rfl) ?_
    exact g_iret hx hb hr hlk hK hZ dX1_apply_95 (⟨rfl, _, rfl⟩)
  · intro k hk ih H locs ls hI
    obtain ⟨hZ, hl⟩ := hI
    refine lv_iload_n hx hb dX1_apply_20 rfl (lv_at hl 0 rfl) ?_
    refine lv_bipush (v := nI 100) hx hb dX1_apply_21 (by decide +kernel) ?_
    refine n_geN hx hb 94 dX1_apply_23 (by decide) (by omega) (by omega) ?_
    refine lv_aload_n hx hb dX1_apply_26 rfl (lv_at hl 2 rfl) ?_
    refine mg_mi C hK hZ dX1_apply_27 ?_
    refine lv_iload_n hx hb dX1_apply_30 rfl (lv_at hl 0 rfl) ?_
    refine lv_aload_n hx hb dX1_apply_31 rfl (lv_at hl 2 rfl) ?_
    refine mg_mf C hK hZ dX1_apply_32 ?_
    refine lv_iload_n hx hb dX1_apply_35 rfl (lv_at hl 0 rfl) ?_
    refine ml_mf C hK hZ (by omega) dX1_apply_36 ?_
    refine lv_bipush (v := (-99)) hx hb dX1_apply_37 (by decide +kernel) ?_
    by_cases h1 : resp mw mi f k < -99
    · refine c_geN hx hb 47 dX1_apply_39 (by decide) (Int32.not_le.mpr h1) ?_
      refine lv_bipush (v := (-99)) hx hb dX1_apply_42 (by decide +kernel) ?_
      refine lv_goto (tgt := 69) hx hb dX1_apply_44 (by decide) ?_
      refine ms_mi C hK hZ (by omega) dX1_apply_69 (fun H locs hZ => ?_)
      have hZ : gZ D (gA (aM a) s.heap.size) s.heap (mW a d (fill (k + 1) (fun j => cl (resp mw mi f j)) mi) (resp mw mi f) mw) H locs := by
        rw [show fill (k + 1) (fun j => cl (resp mw mi f j)) mi = upd (fill k (fun j => cl (resp mw mi f j)) mi) k (-99) from (Eq.symm (fill_upd (cl_lo h1)))]
        exact hZ
      refine lv_aload_n hx hb dX1_apply_70 rfl (lv_at hl 2 rfl) ?_
      refine mg_mi C hK hZ dX1_apply_71 ?_
      refine lv_iload_n hx hb dX1_apply_74 rfl (lv_at hl 0 rfl) ?_
      refine ml_mi C hK hZ (by omega) dX1_apply_75 ?_
      refine lv_aload_n hx hb dX1_apply_76 rfl (lv_at hl 2 rfl) ?_
      refine mg_mf C hK hZ dX1_apply_77 ?_
      refine lv_iload_n hx hb dX1_apply_80 rfl (lv_at hl 0 rfl) ?_
      refine ml_mf C hK hZ (by omega) dX1_apply_81 ?_
      have ec : (fill (k + 1) (fun j => cl (resp mw mi f j)) mi) k = cl (resp mw mi f k) := fill_in (Nat.lt_succ_self k)
      refine c_eqN hx hb 88 dX1_apply_82 (by decide) (fun q => cl_ne (Or.inl h1) (ec.symm.trans q)) ?_
      refine n_inc (lv' := [(2, .int (nI ((ct (resp mw mi f) k) + 1))), (3, .int (nI k)), (0, .ref (a 0)), (1, .int (nI f))]) hx hb dX1_apply_85 hl (kx := 1) rfl (by decide) rfl (fun ls hl => ?_)
      refine n_inc (lv' := [(3, .int (nI (k + 1))), (2, .int (nI ((ct (resp mw mi f) k) + 1))), (0, .ref (a 0)), (1, .int (nI f))]) hx hb dX1_apply_88 hl (kx := 1) rfl (by decide) rfl (fun ls hl => ?_)
      refine lv_goto (tgt := 20) hx hb dX1_apply_91 (by decide) ?_
      exact ih _ _ _ ⟨hZ, by rw [show ct (resp mw mi f) (k + 1) = ct (resp mw mi f) k + 1 from if_pos (Or.inl h1)]; exact hl⟩
    · refine c_geY hx hb 47 dX1_apply_39 (by decide) (Int32.not_lt.mp h1) ?_
      refine lv_aload_n hx hb dX1_apply_47 rfl (lv_at hl 2 rfl) ?_
      refine mg_mf C hK hZ dX1_apply_48 ?_
      refine lv_iload_n hx hb dX1_apply_51 rfl (lv_at hl 0 rfl) ?_
      refine ml_mf C hK hZ (by omega) dX1_apply_52 ?_
      refine lv_bipush (v := nI 99) hx hb dX1_apply_53 (by decide +kernel) ?_
      by_cases h2 : resp mw mi f k ≤ 99
      · refine c_leY hx hb 63 dX1_apply_55 (by decide) h2 ?_
        refine lv_aload_n hx hb dX1_apply_63 rfl (lv_at hl 2 rfl) ?_
        refine mg_mf C hK hZ dX1_apply_64 ?_
        refine lv_iload_n hx hb dX1_apply_67 rfl (lv_at hl 0 rfl) ?_
        refine ml_mf C hK hZ (by omega) dX1_apply_68 ?_
        refine ms_mi C hK hZ (by omega) dX1_apply_69 (fun H locs hZ => ?_)
        have hZ : gZ D (gA (aM a) s.heap.size) s.heap (mW a d (fill (k + 1) (fun j => cl (resp mw mi f j)) mi) (resp mw mi f) mw) H locs := by
          rw [show fill (k + 1) (fun j => cl (resp mw mi f j)) mi = upd (fill k (fun j => cl (resp mw mi f j)) mi) k ((resp mw mi f) k) from (Eq.symm (fill_upd (cl_id h1 (Int32.not_lt.mpr h2))))]
          exact hZ
        refine lv_aload_n hx hb dX1_apply_70 rfl (lv_at hl 2 rfl) ?_
        refine mg_mi C hK hZ dX1_apply_71 ?_
        refine lv_iload_n hx hb dX1_apply_74 rfl (lv_at hl 0 rfl) ?_
        refine ml_mi C hK hZ (by omega) dX1_apply_75 ?_
        refine lv_aload_n hx hb dX1_apply_76 rfl (lv_at hl 2 rfl) ?_
        refine mg_mf C hK hZ dX1_apply_77 ?_
        refine lv_iload_n hx hb dX1_apply_80 rfl (lv_at hl 0 rfl) ?_
        refine ml_mf C hK hZ (by omega) dX1_apply_81 ?_
        have ec : (fill (k + 1) (fun j => cl (resp mw mi f j)) mi) k = cl (resp mw mi f k) := fill_in (Nat.lt_succ_self k)
        refine c_eqY hx hb 88 dX1_apply_82 (by decide) (ec.trans (cl_id h1 (Int32.not_lt.mpr h2)).symm) ?_
        refine n_inc (lv' := [(3, .int (nI (k + 1))), (2, .int (nI (ct (resp mw mi f) k))), (0, .ref (a 0)), (1, .int (nI f))]) hx hb dX1_apply_88 hl (kx := 0) rfl (by decide) rfl (fun ls hl => ?_)
        refine lv_goto (tgt := 20) hx hb dX1_apply_91 (by decide) ?_
        exact ih _ _ _ ⟨hZ, by rw [show ct (resp mw mi f) (k + 1) = ct (resp mw mi f) k from if_neg (fun q => q.elim h1 (Int32.not_lt.mpr h2))]; exact hl⟩
      · refine c_leN hx hb 63 dX1_apply_55 (by decide) h2 ?_
        refine lv_bipush (v := nI 99) hx hb dX1_apply_58 (by decide +kernel) ?_
        refine lv_goto (tgt := 69) hx hb dX1_apply_60 (by decide) ?_
        refine ms_mi C hK hZ (by omega) dX1_apply_69 (fun H locs hZ => ?_)
        have hZ : gZ D (gA (aM a) s.heap.size) s.heap (mW a d (fill (k + 1) (fun j => cl (resp mw mi f j)) mi) (resp mw mi f) mw) H locs := by
          rw [show fill (k + 1) (fun j => cl (resp mw mi f j)) mi = upd (fill k (fun j => cl (resp mw mi f j)) mi) k (nI 99) from (Eq.symm (fill_upd (cl_hi h1 (Int32.not_le.mp h2))))]
          exact hZ
        refine lv_aload_n hx hb dX1_apply_70 rfl (lv_at hl 2 rfl) ?_
        refine mg_mi C hK hZ dX1_apply_71 ?_
        refine lv_iload_n hx hb dX1_apply_74 rfl (lv_at hl 0 rfl) ?_
        refine ml_mi C hK hZ (by omega) dX1_apply_75 ?_
        refine lv_aload_n hx hb dX1_apply_76 rfl (lv_at hl 2 rfl) ?_
        refine mg_mf C hK hZ dX1_apply_77 ?_
        refine lv_iload_n hx hb dX1_apply_80 rfl (lv_at hl 0 rfl) ?_
        refine ml_mf C hK hZ (by omega) dX1_apply_81 ?_
        have ec : (fill (k + 1) (fun j => cl (resp mw mi f j)) mi) k = cl (resp mw mi f k) := fill_in (Nat.lt_succ_self k)
        refine c_eqN hx hb 88 dX1_apply_82 (by decide) (fun q => cl_ne (Or.inr (Int32.not_le.mp h2)) (ec.symm.trans q)) ?_
        refine n_inc (lv' := [(2, .int (nI ((ct (resp mw mi f) k) + 1))), (3, .int (nI k)), (0, .ref (a 0)), (1, .int (nI f))]) hx hb dX1_apply_85 hl (kx := 1) rfl (by decide) rfl (fun ls hl => ?_)
        refine n_inc (lv' := [(3, .int (nI (k + 1))), (2, .int (nI ((ct (resp mw mi f) k) + 1))), (0, .ref (a 0)), (1, .int (nI f))]) hx hb dX1_apply_88 hl (kx := 1) rfl (by decide) rfl (fun ls hl => ?_)
        refine lv_goto (tgt := 20) hx hb dX1_apply_91 (by decide) ?_
        exact ih _ _ _ ⟨hZ, by rw [show ct (resp mw mi f) (k + 1) = ct (resp mw mi f) k + 1 from if_pos (Or.inr (Int32.not_le.mp h2))]; exact hl⟩

set_option maxHeartbeats 4000000 in
set_option maxRecDepth 100000 in
theorem m_apply_no (l : Launch) (D : va_G) (a : Nat → Nat) (d : Nat → ClassId) (mi mf mw : Nat → Int32) (x : Int32) (hno : ¬ vF x) : Mi l D (tyM d) (aM a) yX1_apply cX1_apply 4 (some .int) 3 75 (a 0) [.int x] (mW a d mi mf mw) (fun r u => r = (-1000000000) ∧ u = mW a d mi mf mw) := by
  refine Mi.of (by decide) (Nat.le_of_ble_eq_true rfl) rfl (fun p e s m below meth c C hr hlk hK hZ ls hl => ?_)
  have C : CallFix p m c cX1_apply 4 s _ lw_all RX1 := C
  have hx := C.1
  have hb := C.2.1
  have hl : lv_has ls 4 [(0, .ref (a 0)), (1, .int x)] := hl
  refine lv_aload_n hx hb dX1_apply_0 rfl (lv_at hl 0 rfl) ?_
  refine lv_iload_n hx hb dX1_apply_1 rfl (lv_at hl 1 rfl) ?_
  refine g_callp (ci := 1) (rest := []) C (m_isFilter l _ 0 (if_neg hno).symm) hwX1_isFilter hdX1_isFilter ⟨Nat.le_of_ble_eq_true rfl, Nat.le_of_ble_eq_true rfl⟩ hK hZ rfl rfl rfl rfl hl.1 rfl (Nat.le_of_ble_eq_true rfl) dX1_apply_2 ⟨Nat.le_of_ble_eq_true rfl, Nat.le_of_ble_eq_true rfl⟩ ?_
  refine z_neN hx hb 11 dX1_apply_5 (by decide) rfl ?_
  refine lv_ldc hx hb C.2.2.2.1 (C.2.2.2.2 _ q190) dX1_apply_8 ?_
  exact g_iret hx hb hr hlk hK hZ dX1_apply_10 (⟨rfl, rfl⟩)
end
section
/-! each call of the law: engine and model answer alike -/
def OpE (l : Launch) (D : va_G) (a : Nat → Nat) (d : Nat → ClassId) (im we im' we' : Nat → Int32) (r : Int32) (y : MethodName) (bytes : ByteArray) (maxL : Nat) (ret : Option FieldType) (fr lo : Nat) (As : List Value) : Prop :=
  ∀ wE, eI a d im we wE → ∃ post, Mi l D (tyE d) (aE a) y bytes maxL ret fr lo (a 0) As wE post ∧ ∀ r0 u, post r0 u → r0 = r ∧ eI a d im' we' u
def OpM (l : Launch) (D : va_G) (a : Nat → Nat) (d : Nat → ClassId) (im we im' we' : Nat → Int32) (r : Int32) (y : MethodName) (bytes : ByteArray) (maxL : Nat) (ret : Option FieldType) (fr lo : Nat) (As : List Value) : Prop :=
  ∀ wM, mI a d im we wM → ∃ post, Mi l D (tyM d) (aM a) y bytes maxL ret fr lo (a 0) As wM post ∧ ∀ r0 u, post r0 u → r0 = r ∧ mI a d im' we' u
theorem swp_other {we : Nat → Int32} {f g k : Nat} (hg : g ≠ f) (hk : k < 9) : ∀ n, n < 9 → swp we f n (9 * g + k) = we (9 * g + k) := by
  intro n
  induction n with
  | zero => intro _; rfl
  | succ n ih =>
    intro hn
    show upd (upd (swp we f n) (9 * f + n) (swp we f n ((9 * f + 8) - n))) ((9 * f + 8) - n) (swp we f n (9 * f + n)) (9 * g + k) = _
    rw [pk_un (by omega), pk_un (by omega)]
    exact ih (by omega)
theorem EI_stripe {im we tk tu op : Nat → Int32} {oo v : Int32} {n fm : Nat} (hv : bd v 99) (hI : EI im we tk tu op oo) : ∀ N, EI (strp im n fm v N) we tk tu op (oon oo N)
  | 0 => hI
  | N + 1 => EI_m1 (strp_bd hI.1 hv (N + 1)) hI.2.1 hI.2.2.1

theorem op_set (l : Launch) (D : va_G) (a a' : Nat → Nat) (d d' : Nat → ClassId) (im we : Nat → Int32) (x v : Int32) : ∃ (r : Int32) (im' we' : Nat → Int32), OpE l D a d im we im' we' r yX0_set cX0_set 3 (some .boolean) 1 21 [.int x, .int v] ∧ OpM l D a' d' im we im' we' r yX1_set cX1_set 3 (some .boolean) 1 21 [.int x, .int v] := by
  by_cases hv : vC x ∧ vV v
  · obtain ⟨n, hn, rfl⟩ := vC_nat hv.1
    refine ⟨1, upd im n v, we, fun wE hE => ?_, fun wM hM => ?_⟩
    · obtain ⟨tk, tu, ip, op, ti, ha, qu, oo, rfl, hI⟩ := hE
      exact ⟨_, e_set_ok l D a d im we tk tu ip op ti ha qu oo n hn v hv.2, fun r0 u h => ⟨h.1, tk, tu, ip, op, ti, ha, qu, _, h.2, EI_m1 (upd_bd hI.1 (vV_bd hv.2)) hI.2.1 hI.2.2.1⟩⟩
    · obtain ⟨mf, rfl⟩ := hM
      exact ⟨_, m_set_ok l D a' d' im mf we n hn v hv.2, fun r0 u h => ⟨h.1, mf, h.2⟩⟩
  · refine ⟨0, im, we, fun wE hE => ?_, fun wM hM => ?_⟩
    · obtain ⟨tk, tu, ip, op, ti, ha, qu, oo, rfl, hI⟩ := hE
      exact ⟨_, e_set_no l D a d im we tk tu ip op ti ha qu oo x v hv, fun r0 u h => ⟨h.1, tk, tu, ip, op, ti, ha, qu, oo, h.2, hI⟩⟩
    · obtain ⟨mf, rfl⟩ := hM
      exact ⟨_, m_set_no l D a' d' im mf we x v hv, fun r0 u h => ⟨h.1, mf, h.2⟩⟩

theorem op_stripe (l : Launch) (D : va_G) (a a' : Nat → Nat) (d d' : Nat → ClassId) (im we : Nat → Int32) (x y z v : Int32) : ∃ (r : Int32) (im' we' : Nat → Int32), OpE l D a d im we im' we' r yX0_stripe cX0_stripe 7 (some .int) 2 43 [.int x, .int y, .int z, .int v] ∧ OpM l D a' d' im we im' we' r yX1_stripe cX1_stripe 7 (some .int) 1 21 [.int x, .int y, .int z, .int v] := by
  by_cases hv : vL x ∧ vP y ∧ vP z ∧ vV v
  · obtain ⟨n, hn, rfl⟩ := vL_nat hv.1
    obtain ⟨fm, hf, rfl⟩ := vP_nat hv.2.1
    obtain ⟨tn, ht, rfl⟩ := vP_nat hv.2.2.1
    refine ⟨nI (tn + 1 - fm), strp im n fm v (tn + 1 - fm), we, fun wE hE => ?_, fun wM hM => ?_⟩
    · obtain ⟨tk, tu, ip, op, ti, ha, qu, oo, rfl, hI⟩ := hE
      exact ⟨_, e_stripe_ok l D a d im we tk tu ip op ti ha qu oo n fm tn hn hf ht v hv.2.2.2, fun r0 u h => ⟨h.1, tk, tu, ip, op, ti, ha, qu, _, h.2, EI_stripe (vV_bd hv.2.2.2) hI _⟩⟩
    · obtain ⟨mf, rfl⟩ := hM
      exact ⟨_, m_stripe_ok l D a' d' im mf we n fm tn hn hf ht v hv.2.2.2, fun r0 u h => ⟨h.1, mf, h.2⟩⟩
  · refine ⟨(-1000000000), im, we, fun wE hE => ?_, fun wM hM => ?_⟩
    · obtain ⟨tk, tu, ip, op, ti, ha, qu, oo, rfl, hI⟩ := hE
      exact ⟨_, e_stripe_no l D a d im we tk tu ip op ti ha qu oo x y z v hv, fun r0 u h => ⟨h.1, tk, tu, ip, op, ti, ha, qu, oo, h.2, hI⟩⟩
    · obtain ⟨mf, rfl⟩ := hM
      exact ⟨_, m_stripe_no l D a' d' im mf we x y z v hv, fun r0 u h => ⟨h.1, mf, h.2⟩⟩

theorem op_weight (l : Launch) (D : va_G) (a a' : Nat → Nat) (d d' : Nat → ClassId) (im we : Nat → Int32) (x y v : Int32) : ∃ (r : Int32) (im' we' : Nat → Int32), OpE l D a d im we im' we' r yX0_weight cX0_weight 4 (some .boolean) 1 21 [.int x, .int y, .int v] ∧ OpM l D a' d' im we im' we' r yX1_weight cX1_weight 4 (some .boolean) 1 21 [.int x, .int y, .int v] := by
  by_cases hv : vF x ∧ vN y ∧ vU v
  · obtain ⟨f, hf, rfl⟩ := vF_nat hv.1
    obtain ⟨n, hn, rfl⟩ := vN_nat hv.2.1
    refine ⟨1, im, upd we (9 * f + n) v, fun wE hE => ?_, fun wM hM => ?_⟩
    · obtain ⟨tk, tu, ip, op, ti, ha, qu, oo, rfl, hI⟩ := hE
      exact ⟨_, e_weight_ok l D a d im we tk tu ip op ti ha qu oo f n hf hn v hv.2.2, fun r0 u h => ⟨h.1, _, tu, ip, op, ti, ha, qu, _, h.2, EI_m1 hI.1 (upd_bd hI.2.1 (vU_bd hv.2.2)) (TT_upd0 hI.2.2.1 (fun g hg hne k hk => pk_un (by omega)))⟩⟩
    · obtain ⟨mf, rfl⟩ := hM
      exact ⟨_, m_weight_ok l D a' d' im mf we f n hf hn v hv.2.2, fun r0 u h => ⟨h.1, mf, h.2⟩⟩
  · refine ⟨0, im, we, fun wE hE => ?_, fun wM hM => ?_⟩
    · obtain ⟨tk, tu, ip, op, ti, ha, qu, oo, rfl, hI⟩ := hE
      exact ⟨_, e_weight_no l D a d im we tk tu ip op ti ha qu oo x y v hv, fun r0 u h => ⟨h.1, tk, tu, ip, op, ti, ha, qu, oo, h.2, hI⟩⟩
    · obtain ⟨mf, rfl⟩ := hM
      exact ⟨_, m_weight_no l D a' d' im mf we x y v hv, fun r0 u h => ⟨h.1, mf, h.2⟩⟩

theorem op_response (l : Launch) (D : va_G) (a a' : Nat → Nat) (d d' : Nat → ClassId) (im we : Nat → Int32) (x y : Int32) : ∃ (r : Int32) (im' we' : Nat → Int32), OpE l D a d im we im' we' r yX0_response cX0_response 3 (some .int) 4 100 [.int x, .int y] ∧ OpM l D a' d' im we im' we' r yX1_response cX1_response 3 (some .int) 2 50 [.int x, .int y] := by
  by_cases hv : vF x ∧ vC y
  · obtain ⟨f, hf, rfl⟩ := vF_nat hv.1
    obtain ⟨n, hn, rfl⟩ := vC_nat hv.2
    refine ⟨resp we im f n, im, we, fun wE hE => ?_, fun wM hM => ?_⟩
    · obtain ⟨tk, tu, ip, op, ti, ha, qu, oo, rfl, hI⟩ := hE
      exact ⟨_, e_response_ok l D a d im we tk tu ip op ti ha qu oo f n hf hn hI, fun r0 u h => h⟩
    · obtain ⟨mf, rfl⟩ := hM
      exact ⟨_, m_response_ok l D a' d' im mf we f n hf hn, fun r0 u h => h⟩
  · refine ⟨(-1000000000), im, we, fun wE hE => ?_, fun wM hM => ?_⟩
    · obtain ⟨tk, tu, ip, op, ti, ha, qu, oo, rfl, hI⟩ := hE
      exact ⟨_, e_response_no l D a d im we tk tu ip op ti ha qu oo x y hv, fun r0 u h => ⟨h.1, tk, tu, ip, op, ti, ha, qu, oo, h.2, hI⟩⟩
    · obtain ⟨mf, rfl⟩ := hM
      exact ⟨_, m_response_no l D a' d' im mf we x y hv, fun r0 u h => ⟨h.1, mf, h.2⟩⟩

theorem op_second (l : Launch) (D : va_G) (a a' : Nat → Nat) (d d' : Nat → ClassId) (im we : Nat → Int32) (x : Int32) : ∃ (r : Int32) (im' we' : Nat → Int32), OpE l D a d im we im' we' r yX0_second cX0_second 3 (some .int) 4 100 [.int x] ∧ OpM l D a' d' im we im' we' r yX1_second cX1_second 2 (some .int) 3 75 [.int x] := by
  by_cases hv : vC x
  · obtain ⟨n, hn, rfl⟩ := vC_nat hv
    refine ⟨resp we (resp we im 0) 1 n, im, we, fun wE hE => ?_, fun wM hM => ?_⟩
    · obtain ⟨tk, tu, ip, op, ti, ha, qu, oo, rfl, hI⟩ := hE
      exact ⟨_, e_second_ok l D a d im we tk tu ip op ti ha qu oo n hn hI, fun r0 u h => h⟩
    · obtain ⟨mf, rfl⟩ := hM
      exact ⟨_, m_second_ok l D a' d' im mf we n hn, fun r0 u h => h⟩
  · refine ⟨(-1000000000), im, we, fun wE hE => ?_, fun wM hM => ?_⟩
    · obtain ⟨tk, tu, ip, op, ti, ha, qu, oo, rfl, hI⟩ := hE
      exact ⟨_, e_second_no l D a d im we tk tu ip op ti ha qu oo x hv, fun r0 u h => ⟨h.1, tk, tu, ip, op, ti, ha, qu, oo, h.2, hI⟩⟩
    · obtain ⟨mf, rfl⟩ := hM
      exact ⟨_, m_second_no l D a' d' im mf we x hv, fun r0 u h => ⟨h.1, mf, h.2⟩⟩

theorem op_greatest (l : Launch) (D : va_G) (a a' : Nat → Nat) (d d' : Nat → ClassId) (im we : Nat → Int32) (x : Int32) : ∃ (r : Int32) (im' we' : Nat → Int32), OpE l D a d im we im' we' r yX0_greatest cX0_greatest 3 (some .int) 5 125 [.int x] ∧ OpM l D a' d' im we im' we' r yX1_greatest cX1_greatest 3 (some .int) 3 75 [.int x] := by
  by_cases hv : vF x
  · obtain ⟨f, hf, rfl⟩ := vF_nat hv
    refine ⟨resp we im f (bst (resp we im f) 99), im, we, fun wE hE => ?_, fun wM hM => ?_⟩
    · obtain ⟨tk, tu, ip, op, ti, ha, qu, oo, rfl, hI⟩ := hE
      exact ⟨_, e_greatest_ok l D a d im we tk tu ip op ti ha qu oo f hf hI, fun r0 u h => h⟩
    · obtain ⟨mf, rfl⟩ := hM
      exact ⟨_, m_greatest_ok l D a' d' im mf we f hf, fun r0 u h => h⟩
  · refine ⟨(-1000000000), im, we, fun wE hE => ?_, fun wM hM => ?_⟩
    · obtain ⟨tk, tu, ip, op, ti, ha, qu, oo, rfl, hI⟩ := hE
      exact ⟨_, e_greatest_no l D a d im we tk tu ip op ti ha qu oo x hv, fun r0 u h => ⟨h.1, tk, tu, ip, op, ti, ha, qu, oo, h.2, hI⟩⟩
    · obtain ⟨mf, rfl⟩ := hM
      exact ⟨_, m_greatest_no l D a' d' im mf we x hv, fun r0 u h => ⟨h.1, mf, h.2⟩⟩

theorem op_where (l : Launch) (D : va_G) (a a' : Nat → Nat) (d d' : Nat → ClassId) (im we : Nat → Int32) (x : Int32) : ∃ (r : Int32) (im' we' : Nat → Int32), OpE l D a d im we im' we' r yX0_where cX0_where 4 (some .int) 4 100 [.int x] ∧ OpM l D a' d' im we im' we' r yX1_where cX1_where 2 (some .int) 3 75 [.int x] := by
  by_cases hv : vF x
  · obtain ⟨f, hf, rfl⟩ := vF_nat hv
    refine ⟨nI (bst (resp we im f) 99), im, we, fun wE hE => ?_, fun wM hM => ?_⟩
    · obtain ⟨tk, tu, ip, op, ti, ha, qu, oo, rfl, hI⟩ := hE
      exact ⟨_, e_where_ok l D a d im we tk tu ip op ti ha qu oo f hf hI, fun r0 u h => by obtain ⟨h1, tk, tu, ip, ti, ha, qu, rfl, hT⟩ := h; exact ⟨h1, eI_resp hf hI hT⟩⟩
    · obtain ⟨mf, rfl⟩ := hM
      exact ⟨_, m_where_ok l D a' d' im mf we f hf, fun r0 u h => h⟩
  · refine ⟨(-1000000000), im, we, fun wE hE => ?_, fun wM hM => ?_⟩
    · obtain ⟨tk, tu, ip, op, ti, ha, qu, oo, rfl, hI⟩ := hE
      exact ⟨_, e_where_no l D a d im we tk tu ip op ti ha qu oo x hv, fun r0 u h => ⟨h.1, tk, tu, ip, op, ti, ha, qu, oo, h.2, hI⟩⟩
    · obtain ⟨mf, rfl⟩ := hM
      exact ⟨_, m_where_no l D a' d' im mf we x hv, fun r0 u h => ⟨h.1, mf, h.2⟩⟩

theorem op_total (l : Launch) (D : va_G) (a a' : Nat → Nat) (d d' : Nat → ClassId) (im we : Nat → Int32) (x : Int32) : ∃ (r : Int32) (im' we' : Nat → Int32), OpE l D a d im we im' we' r yX0_total cX0_total 4 (some .int) 4 100 [.int x] ∧ OpM l D a' d' im we im' we' r yX1_total cX1_total 4 (some .int) 3 75 [.int x] := by
  by_cases hv : vF x
  · obtain ⟨f, hf, rfl⟩ := vF_nat hv
    refine ⟨sm (resp we im f) 100, im, we, fun wE hE => ?_, fun wM hM => ?_⟩
    · obtain ⟨tk, tu, ip, op, ti, ha, qu, oo, rfl, hI⟩ := hE
      exact ⟨_, e_total_ok l D a d im we tk tu ip op ti ha qu oo f hf hI, fun r0 u h => h⟩
    · obtain ⟨mf, rfl⟩ := hM
      exact ⟨_, m_total_ok l D a' d' im mf we f hf, fun r0 u h => h⟩
  · refine ⟨(-1000000000), im, we, fun wE hE => ?_, fun wM hM => ?_⟩
    · obtain ⟨tk, tu, ip, op, ti, ha, qu, oo, rfl, hI⟩ := hE
      exact ⟨_, e_total_no l D a d im we tk tu ip op ti ha qu oo x hv, fun r0 u h => ⟨h.1, tk, tu, ip, op, ti, ha, qu, oo, h.2, hI⟩⟩
    · obtain ⟨mf, rfl⟩ := hM
      exact ⟨_, m_total_no l D a' d' im mf we x hv, fun r0 u h => ⟨h.1, mf, h.2⟩⟩

theorem op_pooled (l : Launch) (D : va_G) (a a' : Nat → Nat) (d d' : Nat → ClassId) (im we : Nat → Int32) (x y : Int32) : ∃ (r : Int32) (im' we' : Nat → Int32), OpE l D a d im we im' we' r yX0_pooled cX0_pooled 5 (some .int) 4 100 [.int x, .int y] ∧ OpM l D a' d' im we im' we' r yX1_pooled cX1_pooled 5 (some .int) 3 75 [.int x, .int y] := by
  by_cases hv : vF x ∧ vB y
  · obtain ⟨f, hf, rfl⟩ := vF_nat hv.1
    obtain ⟨n, hn, rfl⟩ := vB_nat hv.2
    refine ⟨pl3 (resp we im f) (20 * (n / 5) + 2 * (n % 5)), im, we, fun wE hE => ?_, fun wM hM => ?_⟩
    · obtain ⟨tk, tu, ip, op, ti, ha, qu, oo, rfl, hI⟩ := hE
      exact ⟨_, e_pooled_ok l D a d im we tk tu ip op ti ha qu oo f n hf hn hI, fun r0 u h => h⟩
    · obtain ⟨mf, rfl⟩ := hM
      exact ⟨_, m_pooled_ok l D a' d' im mf we f n hf hn, fun r0 u h => h⟩
  · refine ⟨(-1000000000), im, we, fun wE hE => ?_, fun wM hM => ?_⟩
    · obtain ⟨tk, tu, ip, op, ti, ha, qu, oo, rfl, hI⟩ := hE
      exact ⟨_, e_pooled_no l D a d im we tk tu ip op ti ha qu oo x y hv, fun r0 u h => ⟨h.1, tk, tu, ip, op, ti, ha, qu, oo, h.2, hI⟩⟩
    · obtain ⟨mf, rfl⟩ := hM
      exact ⟨_, m_pooled_no l D a' d' im mf we x y hv, fun r0 u h => ⟨h.1, mf, h.2⟩⟩

theorem op_apply (l : Launch) (D : va_G) (a a' : Nat → Nat) (d d' : Nat → ClassId) (im we : Nat → Int32) (x : Int32) : ∃ (r : Int32) (im' we' : Nat → Int32), OpE l D a d im we im' we' r yX0_apply cX0_apply 5 (some .int) 4 100 [.int x] ∧ OpM l D a' d' im we im' we' r yX1_apply cX1_apply 4 (some .int) 3 75 [.int x] := by
  by_cases hv : vF x
  · obtain ⟨f, hf, rfl⟩ := vF_nat hv
    refine ⟨nI (ct (resp we im f) 100), fill 100 (fun j => cl (resp we im f j)) im, we, fun wE hE => ?_, fun wM hM => ?_⟩
    · obtain ⟨tk, tu, ip, op, ti, ha, qu, oo, rfl, hI⟩ := hE
      exact ⟨_, e_apply_ok l D a d im we tk tu ip op ti ha qu oo f hf hI, fun r0 u h => h⟩
    · obtain ⟨mf, rfl⟩ := hM
      exact ⟨_, m_apply_ok l D a' d' im mf we f hf, fun r0 u h => h⟩
  · refine ⟨(-1000000000), im, we, fun wE hE => ?_, fun wM hM => ?_⟩
    · obtain ⟨tk, tu, ip, op, ti, ha, qu, oo, rfl, hI⟩ := hE
      exact ⟨_, e_apply_no l D a d im we tk tu ip op ti ha qu oo x hv, fun r0 u h => ⟨h.1, tk, tu, ip, op, ti, ha, qu, oo, h.2, hI⟩⟩
    · obtain ⟨mf, rfl⟩ := hM
      exact ⟨_, m_apply_no l D a' d' im mf we x hv, fun r0 u h => ⟨h.1, mf, h.2⟩⟩

theorem op_turn (l : Launch) (D : va_G) (a a' : Nat → Nat) (d d' : Nat → ClassId) (im we : Nat → Int32) (x : Int32) : ∃ (r : Int32) (im' we' : Nat → Int32), OpE l D a d im we im' we' r yX0_turn cX0_turn 4 (some .boolean) 1 21 [.int x] ∧ OpM l D a' d' im we im' we' r yX1_turn cX1_turn 4 (some .boolean) 1 21 [.int x] := by
  by_cases hv : vF x
  · obtain ⟨f, hf, rfl⟩ := vF_nat hv
    refine ⟨1, im, swp we f 4, fun wE hE => ?_, fun wM hM => ?_⟩
    · obtain ⟨tk, tu, ip, op, ti, ha, qu, oo, rfl, hI⟩ := hE
      exact ⟨_, e_turn_ok l D a d im we tk tu ip op ti ha qu oo f hf hI.2.1, fun r0 u h => ⟨h.1, _, tu, ip, op, ti, ha, qu, _, h.2, EI_m1 hI.1 (swp_bd hf hI.2.1 4 (by decide)) (TT_upd0 hI.2.2.1 (fun g hg hne k hk => swp_other hne hk 4 (by decide)))⟩⟩
    · obtain ⟨mf, rfl⟩ := hM
      exact ⟨_, m_turn_ok l D a' d' im mf we f hf, fun r0 u h => ⟨h.1, mf, h.2⟩⟩
  · refine ⟨0, im, we, fun wE hE => ?_, fun wM hM => ?_⟩
    · obtain ⟨tk, tu, ip, op, ti, ha, qu, oo, rfl, hI⟩ := hE
      exact ⟨_, e_turn_no l D a d im we tk tu ip op ti ha qu oo x hv, fun r0 u h => ⟨h.1, tk, tu, ip, op, ti, ha, qu, oo, h.2, hI⟩⟩
    · obtain ⟨mf, rfl⟩ := hM
      exact ⟨_, m_turn_no l D a' d' im mf we x hv, fun r0 u h => ⟨h.1, mf, h.2⟩⟩
end
section
/-! the constructors; calls out of the law -/
def zF : Nat → Int32 := fun _ => 0
def lA (xs : List Nat) (k : Nat) : Nat := xs.getD k 0
def lD (xs : List ClassId) (k : Nat) : ClassId := xs.getD k 0
set_option maxHeartbeats 4000000 in
set_option maxRecDepth 100000 in
theorem e_init (l : Launch) (D : va_G) (h0 sz : Nat) : Met l yX0_init (ws_ yX0_init cX0_init 1 none) { frames := 1, cells := 9, slots := 388, locals := 12 } (va_Pc [.ref h0] (gP D [] [(h0, .inr (0, [.null, .null, .null, .null, .null, .null, .int 0, .null, .null, .null]))] sz)) (va_Qv (fun u : (Nat → Nat) × (Nat → ClassId) => u.1 0 = h0) (fun u t => gB D (tyE u.2) (gA [h0] sz) (eW u.1 u.2 zF zF zF zF zF zF zF zF zF (-1)) t) (gA [h0] sz)) 9 388 (gA [h0] sz) := by
  refine Met.ofW (cc := cX0_init) (maxL := 1) (ret := none) (by decide) rfl ?_
  intro p e s m args below meth c s₁ B hml hv
  obtain ⟨rfl, rfl, hP, hK, hD0⟩ := hv
  have hx := B.exec
  have hb := B.bytes
  have hr := B.returns
  have hts := atoms_spec (ws := ws_ yX0_init cX0_init 1 none) B.pre
  have hts : ∀ w ∈ lw_all, w.before _ s = true := fun w h => hts w (List.mem_cons_of_mem _ h)
  have hown : s.vm.findClass RX0 = some m.cls := findClass_of_methodNamed B.named
  have hin : meth.name = "<init>" := (name_of_methodNamed B.named B.method).1
  have hlk := B.notSynchronized
  have hD : va_D (gA [h0] s.heap.size) [(h0, .inr (0, [.null, .null, .null, .null, .null, .null, .int 0, .null, .null, .null]))] := gD_self rfl hD0
  generalize hAe : gA [h0] s.heap.size = A at hD ⊢
  have hA : ∀ q : Nat, s.heap.size ≤ q → A q := fun q h => by rw [← hAe]; exact Or.inr h
  have hS : va_S A s.heap s.heap [] := va_S.rf
  have hl := lv_entry ([.ref h0]) (n := 1) (Nat.le_of_ble_eq_true rfl)
  rw [lg_entry_eq]
  generalize (lg_sl ([.ref h0]) ++ List.replicate (1 - (lg_sl ([.ref h0])).length) Slot.unset).toArray = ls at hl ⊢
  have hl : lv_has ls 1 [(0, .ref h0)] := hl
  refine lv_aload_n hx hb dX0_init_0 rfl (lv_at hl 0 rfl) ?_
  refine W.objInit hx hb hown (hts _ q26) (hts _ q27) (hts _ q28) rfl (by rw [hml]; exact hl.1) rfl dX0_init_1 (Nat.le_of_ble_eq_true rfl) (Nat.le_of_ble_eq_true rfl) ?_
  refine W.eq (g2 := F0 m 4 ls []) rfl ?_
  refine lv_aload_n hx hb dX0_init_4 rfl (lv_at hl 0 rfl) ?_
  refine lv_bipush (v := nI 100) hx hb dX0_init_5 (by decide +kernel) ?_
  refine va_newa (atype := .byte) (ty := .byte) (a0 := (100, .inl zF)) (N' := 100) hx hb (hts _ q60) rfl hK hP hD hS hA (fun _ => rfl) (by decide +kernel) (by decide +kernel) (Nat.le_of_ble_eq_true rfl) (Nat.le_of_ble_eq_true rfl) (Nat.le_of_ble_eq_true rfl) dX0_init_7 (fun q_1 c_1 H hK hP hD hS => ?_)
  have hP : va_P D vwCl [(h0, .inr (0, [.null, .null, .null, .null, .null, .null, .int 0, .null, .null, .null])), (q_1, .inl (c_1, 100, .inl zF))] H := hP
  have hD : va_D A [(h0, .inr (0, [.null, .null, .null, .null, .null, .null, .int 0, .null, .null, .null])), (q_1, .inl (c_1, 100, .inl zF))] := hD
  have hK : va_K D vwCl [(c_1, .byte)] s := hK
  refine W.widen (k := 1) (n := 100) (Nat.le_of_ble_eq_true rfl) (Nat.le_of_ble_eq_true rfl) ?_
  refine va_putF (D := D) (ci := 0) (v := .ref q_1) (ty := .array .byte) (C := RX0) (T := TX0) (N := 10) hx hb hts in_X0 tyX0 tyX0_ok nmX0 hown hK hP hD hS 0 rfl rfl 0 (by decide) (hts _ q29) (fun _ h9 => h9) rfl hin rfl (by decide +kernel) rfl rfl (Nat.le_of_ble_eq_true rfl) dX0_init_9 (fun H locs hP hD hS => ?_)
  have hP : va_P D vwCl [(h0, .inr (0, [.ref q_1, .null, .null, .null, .null, .null, .int 0, .null, .null, .null])), (q_1, .inl (c_1, 100, .inl zF))] H := hP
  have hD : va_D A [(h0, .inr (0, [.ref q_1, .null, .null, .null, .null, .null, .int 0, .null, .null, .null])), (q_1, .inl (c_1, 100, .inl zF))] := hD
  refine lv_aload_n hx hb dX0_init_12 rfl (lv_at hl 0 rfl) ?_
  refine lv_bipush (v := nI 18) hx hb dX0_init_13 (by decide +kernel) ?_
  refine va_newa (atype := .byte) (ty := .byte) (a0 := (18, .inl zF)) (N' := 18) hx hb (hts _ q60) rfl hK hP hD hS hA (fun _ => rfl) (by decide +kernel) (by decide +kernel) (Nat.le_of_ble_eq_true rfl) (Nat.le_of_ble_eq_true rfl) (Nat.le_of_ble_eq_true rfl) dX0_init_15 (fun q_2 c_2 H hK hP hD hS => ?_)
  have hP : va_P D vwCl [(h0, .inr (0, [.ref q_1, .null, .null, .null, .null, .null, .int 0, .null, .null, .null])), (q_1, .inl (c_1, 100, .inl zF)), (q_2, .inl (c_2, 18, .inl zF))] H := hP
  have hD : va_D A [(h0, .inr (0, [.ref q_1, .null, .null, .null, .null, .null, .int 0, .null, .null, .null])), (q_1, .inl (c_1, 100, .inl zF)), (q_2, .inl (c_2, 18, .inl zF))] := hD
  have hK : va_K D vwCl [(c_1, .byte), (c_2, .byte)] s := hK
  refine W.widen (k := 2) (n := 118) (Nat.le_of_ble_eq_true rfl) (Nat.le_of_ble_eq_true rfl) ?_
  refine va_putF (D := D) (ci := 0) (v := .ref q_2) (ty := .array .byte) (C := RX0) (T := TX0) (N := 10) hx hb hts in_X0 tyX0 tyX0_ok nmX0 hown hK hP hD hS 0 rfl rfl 1 (by decide) (hts _ q30) (fun _ h9 => h9) rfl hin rfl (by decide +kernel) rfl rfl (Nat.le_of_ble_eq_true rfl) dX0_init_17 (fun H locs hP hD hS => ?_)
  have hP : va_P D vwCl [(h0, .inr (0, [.ref q_1, .ref q_2, .null, .null, .null, .null, .int 0, .null, .null, .null])), (q_1, .inl (c_1, 100, .inl zF)), (q_2, .inl (c_2, 18, .inl zF))] H := hP
  have hD : va_D A [(h0, .inr (0, [.ref q_1, .ref q_2, .null, .null, .null, .null, .int 0, .null, .null, .null])), (q_1, .inl (c_1, 100, .inl zF)), (q_2, .inl (c_2, 18, .inl zF))] := hD
  refine lv_aload_n hx hb dX0_init_20 rfl (lv_at hl 0 rfl) ?_
  refine lv_iconst (v := nI 2) hx hb dX0_init_21 (by decide +kernel) ?_
  refine va_newa (atype := .boolean) (ty := .boolean) (a0 := (2, .inl zF)) (N' := 2) hx hb (hts _ q61) rfl hK hP hD hS hA (fun _ => rfl) (by decide +kernel) (by decide +kernel) (Nat.le_of_ble_eq_true rfl) (Nat.le_of_ble_eq_true rfl) (Nat.le_of_ble_eq_true rfl) dX0_init_22 (fun q_3 c_3 H hK hP hD hS => ?_)
  have hP : va_P D vwCl [(h0, .inr (0, [.ref q_1, .ref q_2, .null, .null, .null, .null, .int 0, .null, .null, .null])), (q_1, .inl (c_1, 100, .inl zF)), (q_2, .inl (c_2, 18, .inl zF)), (q_3, .inl (c_3, 2, .inl zF))] H := hP
  have hD : va_D A [(h0, .inr (0, [.ref q_1, .ref q_2, .null, .null, .null, .null, .int 0, .null, .null, .null])), (q_1, .inl (c_1, 100, .inl zF)), (q_2, .inl (c_2, 18, .inl zF)), (q_3, .inl (c_3, 2, .inl zF))] := hD
  have hK : va_K D vwCl [(c_1, .byte), (c_2, .byte), (c_3, .boolean)] s := hK
  refine W.widen (k := 3) (n := 120) (Nat.le_of_ble_eq_true rfl) (Nat.le_of_ble_eq_true rfl) ?_
  refine va_putF (D := D) (ci := 0) (v := .ref q_3) (ty := .array .boolean) (C := RX0) (T := TX0) (N := 10) hx hb hts in_X0 tyX0 tyX0_ok nmX0 hown hK hP hD hS 0 rfl rfl 2 (by decide) (hts _ q31) (fun _ h9 => h9) rfl hin rfl (by decide +kernel) rfl rfl (Nat.le_of_ble_eq_true rfl) dX0_init_24 (fun H locs hP hD hS => ?_)
  have hP : va_P D vwCl [(h0, .inr (0, [.ref q_1, .ref q_2, .ref q_3, .null, .null, .null, .int 0, .null, .null, .null])), (q_1, .inl (c_1, 100, .inl zF)), (q_2, .inl (c_2, 18, .inl zF)), (q_3, .inl (c_3, 2, .inl zF))] H := hP
  have hD : va_D A [(h0, .inr (0, [.ref q_1, .ref q_2, .ref q_3, .null, .null, .null, .int 0, .null, .null, .null])), (q_1, .inl (c_1, 100, .inl zF)), (q_2, .inl (c_2, 18, .inl zF)), (q_3, .inl (c_3, 2, .inl zF))] := hD
  refine lv_aload_n hx hb dX0_init_27 rfl (lv_at hl 0 rfl) ?_
  refine lv_bipush (v := nI 32) hx hb dX0_init_28 (by decide +kernel) ?_
  refine va_newa (atype := .int) (ty := .int) (a0 := (32, .inl zF)) (N' := 32) hx hb (hts _ q62) rfl hK hP hD hS hA (fun _ => rfl) (by decide +kernel) (by decide +kernel) (Nat.le_of_ble_eq_true rfl) (Nat.le_of_ble_eq_true rfl) (Nat.le_of_ble_eq_true rfl) dX0_init_30 (fun q_4 c_4 H hK hP hD hS => ?_)
  have hP : va_P D vwCl [(h0, .inr (0, [.ref q_1, .ref q_2, .ref q_3, .null, .null, .null, .int 0, .null, .null, .null])), (q_1, .inl (c_1, 100, .inl zF)), (q_2, .inl (c_2, 18, .inl zF)), (q_3, .inl (c_3, 2, .inl zF)), (q_4, .inl (c_4, 32, .inl zF))] H := hP
  have hD : va_D A [(h0, .inr (0, [.ref q_1, .ref q_2, .ref q_3, .null, .null, .null, .int 0, .null, .null, .null])), (q_1, .inl (c_1, 100, .inl zF)), (q_2, .inl (c_2, 18, .inl zF)), (q_3, .inl (c_3, 2, .inl zF)), (q_4, .inl (c_4, 32, .inl zF))] := hD
  have hK : va_K D vwCl [(c_1, .byte), (c_2, .byte), (c_3, .boolean), (c_4, .int)] s := hK
  refine W.widen (k := 4) (n := 152) (Nat.le_of_ble_eq_true rfl) (Nat.le_of_ble_eq_true rfl) ?_
  refine va_putF (D := D) (ci := 0) (v := .ref q_4) (ty := .array .int) (C := RX0) (T := TX0) (N := 10) hx hb hts in_X0 tyX0 tyX0_ok nmX0 hown hK hP hD hS 0 rfl rfl 3 (by decide) (hts _ q32) (fun _ h9 => h9) rfl hin rfl (by decide +kernel) rfl rfl (Nat.le_of_ble_eq_true rfl) dX0_init_32 (fun H locs hP hD hS => ?_)
  have hP : va_P D vwCl [(h0, .inr (0, [.ref q_1, .ref q_2, .ref q_3, .ref q_4, .null, .null, .int 0, .null, .null, .null])), (q_1, .inl (c_1, 100, .inl zF)), (q_2, .inl (c_2, 18, .inl zF)), (q_3, .inl (c_3, 2, .inl zF)), (q_4, .inl (c_4, 32, .inl zF))] H := hP
  have hD : va_D A [(h0, .inr (0, [.ref q_1, .ref q_2, .ref q_3, .ref q_4, .null, .null, .int 0, .null, .null, .null])), (q_1, .inl (c_1, 100, .inl zF)), (q_2, .inl (c_2, 18, .inl zF)), (q_3, .inl (c_3, 2, .inl zF)), (q_4, .inl (c_4, 32, .inl zF))] := hD
  refine lv_aload_n hx hb dX0_init_35 rfl (lv_at hl 0 rfl) ?_
  refine lv_bipush (v := nI 100) hx hb dX0_init_36 (by decide +kernel) ?_
  refine va_newa (atype := .int) (ty := .int) (a0 := (100, .inl zF)) (N' := 100) hx hb (hts _ q62) rfl hK hP hD hS hA (fun _ => rfl) (by decide +kernel) (by decide +kernel) (Nat.le_of_ble_eq_true rfl) (Nat.le_of_ble_eq_true rfl) (Nat.le_of_ble_eq_true rfl) dX0_init_38 (fun q_5 c_5 H hK hP hD hS => ?_)
  have hP : va_P D vwCl [(h0, .inr (0, [.ref q_1, .ref q_2, .ref q_3, .ref q_4, .null, .null, .int 0, .null, .null, .null])), (q_1, .inl (c_1, 100, .inl zF)), (q_2, .inl (c_2, 18, .inl zF)), (q_3, .inl (c_3, 2, .inl zF)), (q_4, .inl (c_4, 32, .inl zF)), (q_5, .inl (c_5, 100, .inl zF))] H := hP
  have hD : va_D A [(h0, .inr (0, [.ref q_1, .ref q_2, .ref q_3, .ref q_4, .null, .null, .int 0, .null, .null, .null])), (q_1, .inl (c_1, 100, .inl zF)), (q_2, .inl (c_2, 18, .inl zF)), (q_3, .inl (c_3, 2, .inl zF)), (q_4, .inl (c_4, 32, .inl zF)), (q_5, .inl (c_5, 100, .inl zF))] := hD
  have hK : va_K D vwCl [(c_1, .byte), (c_2, .byte), (c_3, .boolean), (c_4, .int), (c_5, .int)] s := hK
  refine W.widen (k := 5) (n := 252) (Nat.le_of_ble_eq_true rfl) (Nat.le_of_ble_eq_true rfl) ?_
  refine va_putF (D := D) (ci := 0) (v := .ref q_5) (ty := .array .int) (C := RX0) (T := TX0) (N := 10) hx hb hts in_X0 tyX0 tyX0_ok nmX0 hown hK hP hD hS 0 rfl rfl 4 (by decide) (hts _ q33) (fun _ h9 => h9) rfl hin rfl (by decide +kernel) rfl rfl (Nat.le_of_ble_eq_true rfl) dX0_init_40 (fun H locs hP hD hS => ?_)
  have hP : va_P D vwCl [(h0, .inr (0, [.ref q_1, .ref q_2, .ref q_3, .ref q_4, .ref q_5, .null, .int 0, .null, .null, .null])), (q_1, .inl (c_1, 100, .inl zF)), (q_2, .inl (c_2, 18, .inl zF)), (q_3, .inl (c_3, 2, .inl zF)), (q_4, .inl (c_4, 32, .inl zF)), (q_5, .inl (c_5, 100, .inl zF))] H := hP
  have hD : va_D A [(h0, .inr (0, [.ref q_1, .ref q_2, .ref q_3, .ref q_4, .ref q_5, .null, .int 0, .null, .null, .null])), (q_1, .inl (c_1, 100, .inl zF)), (q_2, .inl (c_2, 18, .inl zF)), (q_3, .inl (c_3, 2, .inl zF)), (q_4, .inl (c_4, 32, .inl zF)), (q_5, .inl (c_5, 100, .inl zF))] := hD
  refine lv_aload_n hx hb dX0_init_43 rfl (lv_at hl 0 rfl) ?_
  refine lv_bipush (v := nI 100) hx hb dX0_init_44 (by decide +kernel) ?_
  refine va_newa (atype := .int) (ty := .int) (a0 := (100, .inl zF)) (N' := 100) hx hb (hts _ q62) rfl hK hP hD hS hA (fun _ => rfl) (by decide +kernel) (by decide +kernel) (Nat.le_of_ble_eq_true rfl) (Nat.le_of_ble_eq_true rfl) (Nat.le_of_ble_eq_true rfl) dX0_init_46 (fun q_6 c_6 H hK hP hD hS => ?_)
  have hP : va_P D vwCl [(h0, .inr (0, [.ref q_1, .ref q_2, .ref q_3, .ref q_4, .ref q_5, .null, .int 0, .null, .null, .null])), (q_1, .inl (c_1, 100, .inl zF)), (q_2, .inl (c_2, 18, .inl zF)), (q_3, .inl (c_3, 2, .inl zF)), (q_4, .inl (c_4, 32, .inl zF)), (q_5, .inl (c_5, 100, .inl zF)), (q_6, .inl (c_6, 100, .inl zF))] H := hP
  have hD : va_D A [(h0, .inr (0, [.ref q_1, .ref q_2, .ref q_3, .ref q_4, .ref q_5, .null, .int 0, .null, .null, .null])), (q_1, .inl (c_1, 100, .inl zF)), (q_2, .inl (c_2, 18, .inl zF)), (q_3, .inl (c_3, 2, .inl zF)), (q_4, .inl (c_4, 32, .inl zF)), (q_5, .inl (c_5, 100, .inl zF)), (q_6, .inl (c_6, 100, .inl zF))] := hD
  have hK : va_K D vwCl [(c_1, .byte), (c_2, .byte), (c_3, .boolean), (c_4, .int), (c_5, .int), (c_6, .int)] s := hK
  refine W.widen (k := 6) (n := 352) (Nat.le_of_ble_eq_true rfl) (Nat.le_of_ble_eq_true rfl) ?_
  refine va_putF (D := D) (ci := 0) (v := .ref q_6) (ty := .array .int) (C := RX0) (T := TX0) (N := 10) hx hb hts in_X0 tyX0 tyX0_ok nmX0 hown hK hP hD hS 0 rfl rfl 5 (by decide) (hts _ q34) (fun _ h9 => h9) rfl hin rfl (by decide +kernel) rfl rfl (Nat.le_of_ble_eq_true rfl) dX0_init_48 (fun H locs hP hD hS => ?_)
  have hP : va_P D vwCl [(h0, .inr (0, [.ref q_1, .ref q_2, .ref q_3, .ref q_4, .ref q_5, .ref q_6, .int 0, .null, .null, .null])), (q_1, .inl (c_1, 100, .inl zF)), (q_2, .inl (c_2, 18, .inl zF)), (q_3, .inl (c_3, 2, .inl zF)), (q_4, .inl (c_4, 32, .inl zF)), (q_5, .inl (c_5, 100, .inl zF)), (q_6, .inl (c_6, 100, .inl zF))] H := hP
  have hD : va_D A [(h0, .inr (0, [.ref q_1, .ref q_2, .ref q_3, .ref q_4, .ref q_5, .ref q_6, .int 0, .null, .null, .null])), (q_1, .inl (c_1, 100, .inl zF)), (q_2, .inl (c_2, 18, .inl zF)), (q_3, .inl (c_3, 2, .inl zF)), (q_4, .inl (c_4, 32, .inl zF)), (q_5, .inl (c_5, 100, .inl zF)), (q_6, .inl (c_6, 100, .inl zF))] := hD
  refine lv_aload_n hx hb dX0_init_51 rfl (lv_at hl 0 rfl) ?_
  refine lv_bipush (v := nI 16) hx hb dX0_init_52 (by decide +kernel) ?_
  refine va_newa (atype := .int) (ty := .int) (a0 := (16, .inl zF)) (N' := 16) hx hb (hts _ q62) rfl hK hP hD hS hA (fun _ => rfl) (by decide +kernel) (by decide +kernel) (Nat.le_of_ble_eq_true rfl) (Nat.le_of_ble_eq_true rfl) (Nat.le_of_ble_eq_true rfl) dX0_init_54 (fun q_7 c_7 H hK hP hD hS => ?_)
  have hP : va_P D vwCl [(h0, .inr (0, [.ref q_1, .ref q_2, .ref q_3, .ref q_4, .ref q_5, .ref q_6, .int 0, .null, .null, .null])), (q_1, .inl (c_1, 100, .inl zF)), (q_2, .inl (c_2, 18, .inl zF)), (q_3, .inl (c_3, 2, .inl zF)), (q_4, .inl (c_4, 32, .inl zF)), (q_5, .inl (c_5, 100, .inl zF)), (q_6, .inl (c_6, 100, .inl zF)), (q_7, .inl (c_7, 16, .inl zF))] H := hP
  have hD : va_D A [(h0, .inr (0, [.ref q_1, .ref q_2, .ref q_3, .ref q_4, .ref q_5, .ref q_6, .int 0, .null, .null, .null])), (q_1, .inl (c_1, 100, .inl zF)), (q_2, .inl (c_2, 18, .inl zF)), (q_3, .inl (c_3, 2, .inl zF)), (q_4, .inl (c_4, 32, .inl zF)), (q_5, .inl (c_5, 100, .inl zF)), (q_6, .inl (c_6, 100, .inl zF)), (q_7, .inl (c_7, 16, .inl zF))] := hD
  have hK : va_K D vwCl [(c_1, .byte), (c_2, .byte), (c_3, .boolean), (c_4, .int), (c_5, .int), (c_6, .int), (c_7, .int)] s := hK
  refine W.widen (k := 7) (n := 368) (Nat.le_of_ble_eq_true rfl) (Nat.le_of_ble_eq_true rfl) ?_
  refine va_putF (D := D) (ci := 0) (v := .ref q_7) (ty := .array .int) (C := RX0) (T := TX0) (N := 10) hx hb hts in_X0 tyX0 tyX0_ok nmX0 hown hK hP hD hS 0 rfl rfl 7 (by decide) (hts _ q36) (fun _ h9 => h9) rfl hin rfl (by decide +kernel) rfl rfl (Nat.le_of_ble_eq_true rfl) dX0_init_56 (fun H locs hP hD hS => ?_)
  have hP : va_P D vwCl [(h0, .inr (0, [.ref q_1, .ref q_2, .ref q_3, .ref q_4, .ref q_5, .ref q_6, .int 0, .ref q_7, .null, .null])), (q_1, .inl (c_1, 100, .inl zF)), (q_2, .inl (c_2, 18, .inl zF)), (q_3, .inl (c_3, 2, .inl zF)), (q_4, .inl (c_4, 32, .inl zF)), (q_5, .inl (c_5, 100, .inl zF)), (q_6, .inl (c_6, 100, .inl zF)), (q_7, .inl (c_7, 16, .inl zF))] H := hP
  have hD : va_D A [(h0, .inr (0, [.ref q_1, .ref q_2, .ref q_3, .ref q_4, .ref q_5, .ref q_6, .int 0, .ref q_7, .null, .null])), (q_1, .inl (c_1, 100, .inl zF)), (q_2, .inl (c_2, 18, .inl zF)), (q_3, .inl (c_3, 2, .inl zF)), (q_4, .inl (c_4, 32, .inl zF)), (q_5, .inl (c_5, 100, .inl zF)), (q_6, .inl (c_6, 100, .inl zF)), (q_7, .inl (c_7, 16, .inl zF))] := hD
  refine lv_aload_n hx hb dX0_init_59 rfl (lv_at hl 0 rfl) ?_
  refine lv_bipush (v := nI 16) hx hb dX0_init_60 (by decide +kernel) ?_
  refine va_newa (atype := .int) (ty := .int) (a0 := (16, .inl zF)) (N' := 16) hx hb (hts _ q62) rfl hK hP hD hS hA (fun _ => rfl) (by decide +kernel) (by decide +kernel) (Nat.le_of_ble_eq_true rfl) (Nat.le_of_ble_eq_true rfl) (Nat.le_of_ble_eq_true rfl) dX0_init_62 (fun q_8 c_8 H hK hP hD hS => ?_)
  have hP : va_P D vwCl [(h0, .inr (0, [.ref q_1, .ref q_2, .ref q_3, .ref q_4, .ref q_5, .ref q_6, .int 0, .ref q_7, .null, .null])), (q_1, .inl (c_1, 100, .inl zF)), (q_2, .inl (c_2, 18, .inl zF)), (q_3, .inl (c_3, 2, .inl zF)), (q_4, .inl (c_4, 32, .inl zF)), (q_5, .inl (c_5, 100, .inl zF)), (q_6, .inl (c_6, 100, .inl zF)), (q_7, .inl (c_7, 16, .inl zF)), (q_8, .inl (c_8, 16, .inl zF))] H := hP
  have hD : va_D A [(h0, .inr (0, [.ref q_1, .ref q_2, .ref q_3, .ref q_4, .ref q_5, .ref q_6, .int 0, .ref q_7, .null, .null])), (q_1, .inl (c_1, 100, .inl zF)), (q_2, .inl (c_2, 18, .inl zF)), (q_3, .inl (c_3, 2, .inl zF)), (q_4, .inl (c_4, 32, .inl zF)), (q_5, .inl (c_5, 100, .inl zF)), (q_6, .inl (c_6, 100, .inl zF)), (q_7, .inl (c_7, 16, .inl zF)), (q_8, .inl (c_8, 16, .inl zF))] := hD
  have hK : va_K D vwCl [(c_1, .byte), (c_2, .byte), (c_3, .boolean), (c_4, .int), (c_5, .int), (c_6, .int), (c_7, .int), (c_8, .int)] s := hK
  refine W.widen (k := 8) (n := 384) (Nat.le_of_ble_eq_true rfl) (Nat.le_of_ble_eq_true rfl) ?_
  refine va_putF (D := D) (ci := 0) (v := .ref q_8) (ty := .array .int) (C := RX0) (T := TX0) (N := 10) hx hb hts in_X0 tyX0 tyX0_ok nmX0 hown hK hP hD hS 0 rfl rfl 8 (by decide) (hts _ q37) (fun _ h9 => h9) rfl hin rfl (by decide +kernel) rfl rfl (Nat.le_of_ble_eq_true rfl) dX0_init_64 (fun H locs hP hD hS => ?_)
  have hP : va_P D vwCl [(h0, .inr (0, [.ref q_1, .ref q_2, .ref q_3, .ref q_4, .ref q_5, .ref q_6, .int 0, .ref q_7, .ref q_8, .null])), (q_1, .inl (c_1, 100, .inl zF)), (q_2, .inl (c_2, 18, .inl zF)), (q_3, .inl (c_3, 2, .inl zF)), (q_4, .inl (c_4, 32, .inl zF)), (q_5, .inl (c_5, 100, .inl zF)), (q_6, .inl (c_6, 100, .inl zF)), (q_7, .inl (c_7, 16, .inl zF)), (q_8, .inl (c_8, 16, .inl zF))] H := hP
  have hD : va_D A [(h0, .inr (0, [.ref q_1, .ref q_2, .ref q_3, .ref q_4, .ref q_5, .ref q_6, .int 0, .ref q_7, .ref q_8, .null])), (q_1, .inl (c_1, 100, .inl zF)), (q_2, .inl (c_2, 18, .inl zF)), (q_3, .inl (c_3, 2, .inl zF)), (q_4, .inl (c_4, 32, .inl zF)), (q_5, .inl (c_5, 100, .inl zF)), (q_6, .inl (c_6, 100, .inl zF)), (q_7, .inl (c_7, 16, .inl zF)), (q_8, .inl (c_8, 16, .inl zF))] := hD
  refine lv_aload_n hx hb dX0_init_67 rfl (lv_at hl 0 rfl) ?_
  refine lv_iconst (v := nI 4) hx hb dX0_init_68 (by decide +kernel) ?_
  refine va_newa (atype := .int) (ty := .int) (a0 := (4, .inl zF)) (N' := 4) hx hb (hts _ q62) rfl hK hP hD hS hA (fun _ => rfl) (by decide +kernel) (by decide +kernel) (Nat.le_of_ble_eq_true rfl) (Nat.le_of_ble_eq_true rfl) (Nat.le_of_ble_eq_true rfl) dX0_init_69 (fun q_9 c_9 H hK hP hD hS => ?_)
  have hP : va_P D vwCl [(h0, .inr (0, [.ref q_1, .ref q_2, .ref q_3, .ref q_4, .ref q_5, .ref q_6, .int 0, .ref q_7, .ref q_8, .null])), (q_1, .inl (c_1, 100, .inl zF)), (q_2, .inl (c_2, 18, .inl zF)), (q_3, .inl (c_3, 2, .inl zF)), (q_4, .inl (c_4, 32, .inl zF)), (q_5, .inl (c_5, 100, .inl zF)), (q_6, .inl (c_6, 100, .inl zF)), (q_7, .inl (c_7, 16, .inl zF)), (q_8, .inl (c_8, 16, .inl zF)), (q_9, .inl (c_9, 4, .inl zF))] H := hP
  have hD : va_D A [(h0, .inr (0, [.ref q_1, .ref q_2, .ref q_3, .ref q_4, .ref q_5, .ref q_6, .int 0, .ref q_7, .ref q_8, .null])), (q_1, .inl (c_1, 100, .inl zF)), (q_2, .inl (c_2, 18, .inl zF)), (q_3, .inl (c_3, 2, .inl zF)), (q_4, .inl (c_4, 32, .inl zF)), (q_5, .inl (c_5, 100, .inl zF)), (q_6, .inl (c_6, 100, .inl zF)), (q_7, .inl (c_7, 16, .inl zF)), (q_8, .inl (c_8, 16, .inl zF)), (q_9, .inl (c_9, 4, .inl zF))] := hD
  have hK : va_K D vwCl [(c_1, .byte), (c_2, .byte), (c_3, .boolean), (c_4, .int), (c_5, .int), (c_6, .int), (c_7, .int), (c_8, .int), (c_9, .int)] s := hK
  refine W.widen (k := 9) (n := 388) (Nat.le_of_ble_eq_true rfl) (Nat.le_of_ble_eq_true rfl) ?_
  refine va_putF (D := D) (ci := 0) (v := .ref q_9) (ty := .array .int) (C := RX0) (T := TX0) (N := 10) hx hb hts in_X0 tyX0 tyX0_ok nmX0 hown hK hP hD hS 0 rfl rfl 9 (by decide) (hts _ q38) (fun _ h9 => h9) rfl hin rfl (by decide +kernel) rfl rfl (Nat.le_of_ble_eq_true rfl) dX0_init_71 (fun H locs hP hD hS => ?_)
  have hP : va_P D vwCl [(h0, .inr (0, [.ref q_1, .ref q_2, .ref q_3, .ref q_4, .ref q_5, .ref q_6, .int 0, .ref q_7, .ref q_8, .ref q_9])), (q_1, .inl (c_1, 100, .inl zF)), (q_2, .inl (c_2, 18, .inl zF)), (q_3, .inl (c_3, 2, .inl zF)), (q_4, .inl (c_4, 32, .inl zF)), (q_5, .inl (c_5, 100, .inl zF)), (q_6, .inl (c_6, 100, .inl zF)), (q_7, .inl (c_7, 16, .inl zF)), (q_8, .inl (c_8, 16, .inl zF)), (q_9, .inl (c_9, 4, .inl zF))] H := hP
  have hD : va_D A [(h0, .inr (0, [.ref q_1, .ref q_2, .ref q_3, .ref q_4, .ref q_5, .ref q_6, .int 0, .ref q_7, .ref q_8, .ref q_9])), (q_1, .inl (c_1, 100, .inl zF)), (q_2, .inl (c_2, 18, .inl zF)), (q_3, .inl (c_3, 2, .inl zF)), (q_4, .inl (c_4, 32, .inl zF)), (q_5, .inl (c_5, 100, .inl zF)), (q_6, .inl (c_6, 100, .inl zF)), (q_7, .inl (c_7, 16, .inl zF)), (q_8, .inl (c_8, 16, .inl zF)), (q_9, .inl (c_9, 4, .inl zF))] := hD
  refine lv_aload_n hx hb dX0_init_74 rfl (lv_at hl 0 rfl) ?_
  refine lv_iconst (v := (-1)) hx hb dX0_init_75 (by decide +kernel) ?_
  refine va_put (D := D) (ci := 0) (v := .int (-1)) (ty := .int) (C := RX0) (T := TX0) (N := 10) hx hb hts in_X0 tyX0 tyX0_ok nmX0 hown hK hP hD hS 0 rfl rfl 6 (by decide) (hts _ q35) (fun _ h9 => h9) rfl (by decide +kernel) rfl rfl (Nat.le_of_ble_eq_true rfl) dX0_init_76 (fun H locs hP hD hS => ?_)
  have hP : va_P D vwCl [(h0, .inr (0, [.ref q_1, .ref q_2, .ref q_3, .ref q_4, .ref q_5, .ref q_6, .int (-1), .ref q_7, .ref q_8, .ref q_9])), (q_1, .inl (c_1, 100, .inl zF)), (q_2, .inl (c_2, 18, .inl zF)), (q_3, .inl (c_3, 2, .inl zF)), (q_4, .inl (c_4, 32, .inl zF)), (q_5, .inl (c_5, 100, .inl zF)), (q_6, .inl (c_6, 100, .inl zF)), (q_7, .inl (c_7, 16, .inl zF)), (q_8, .inl (c_8, 16, .inl zF)), (q_9, .inl (c_9, 4, .inl zF))] H := hP
  have hD : va_D A [(h0, .inr (0, [.ref q_1, .ref q_2, .ref q_3, .ref q_4, .ref q_5, .ref q_6, .int (-1), .ref q_7, .ref q_8, .ref q_9])), (q_1, .inl (c_1, 100, .inl zF)), (q_2, .inl (c_2, 18, .inl zF)), (q_3, .inl (c_3, 2, .inl zF)), (q_4, .inl (c_4, 32, .inl zF)), (q_5, .inl (c_5, 100, .inl zF)), (q_6, .inl (c_6, 100, .inl zF)), (q_7, .inl (c_7, 16, .inl zF)), (q_8, .inl (c_8, 16, .inl zF)), (q_9, .inl (c_9, 4, .inl zF))] := hD
  exact W.vret hx hb hr (fun t ht hW => ⟨⟨(lA [h0, q_1, q_2, q_3, q_4, q_5, q_6, q_7, q_8, q_9], lD [c_1, c_1, c_2, c_3, c_4, c_5, c_6, c_7, c_8, c_9]), rfl, rfl, by rw [ht]; exact hP, va_K.moved hW.alike hK, hD⟩, hS.F ht⟩) hS.2.2 dX0_init_79 hlk

set_option maxHeartbeats 4000000 in
set_option maxRecDepth 100000 in
theorem m_init (l : Launch) (D : va_G) (h0 sz : Nat) : Met l yX1_init (ws_ yX1_init cX1_init 1 none) { frames := 1, cells := 3, slots := 218, locals := 12 } (va_Pc [.ref h0] (gP D [] [(h0, .inr (1, [.null, .null, .null]))] sz)) (va_Qv (fun u : (Nat → Nat) × (Nat → ClassId) => u.1 0 = h0) (fun u t => gB D (tyM u.2) (gA [h0] sz) (mW u.1 u.2 zF zF zF) t) (gA [h0] sz)) 3 218 (gA [h0] sz) := by
  refine Met.ofW (cc := cX1_init) (maxL := 1) (ret := none) (by decide) rfl ?_
  intro p e s m args below meth c s₁ B hml hv
  obtain ⟨rfl, rfl, hP, hK, hD0⟩ := hv
  have hx := B.exec
  have hb := B.bytes
  have hr := B.returns
  have hts := atoms_spec (ws := ws_ yX1_init cX1_init 1 none) B.pre
  have hts : ∀ w ∈ lw_all, w.before _ s = true := fun w h => hts w (List.mem_cons_of_mem _ h)
  have hown : s.vm.findClass RX1 = some m.cls := findClass_of_methodNamed B.named
  have hin : meth.name = "<init>" := (name_of_methodNamed B.named B.method).1
  have hlk := B.notSynchronized
  have hD : va_D (gA [h0] s.heap.size) [(h0, .inr (1, [.null, .null, .null]))] := gD_self rfl hD0
  generalize hAe : gA [h0] s.heap.size = A at hD ⊢
  have hA : ∀ q : Nat, s.heap.size ≤ q → A q := fun q h => by rw [← hAe]; exact Or.inr h
  have hS : va_S A s.heap s.heap [] := va_S.rf
  have hl := lv_entry ([.ref h0]) (n := 1) (Nat.le_of_ble_eq_true rfl)
  rw [lg_entry_eq]
  generalize (lg_sl ([.ref h0]) ++ List.replicate (1 - (lg_sl ([.ref h0])).length) Slot.unset).toArray = ls at hl ⊢
  have hl : lv_has ls 1 [(0, .ref h0)] := hl
  refine lv_aload_n hx hb dX1_init_0 rfl (lv_at hl 0 rfl) ?_
  refine W.objInit hx hb hown (hts _ q159) (hts _ q27) (hts _ q28) rfl (by rw [hml]; exact hl.1) rfl dX1_init_1 (Nat.le_of_ble_eq_true rfl) (Nat.le_of_ble_eq_true rfl) ?_
  refine W.eq (g2 := F0 m 4 ls []) rfl ?_
  refine lv_aload_n hx hb dX1_init_4 rfl (lv_at hl 0 rfl) ?_
  refine lv_bipush (v := nI 100) hx hb dX1_init_5 (by decide +kernel) ?_
  refine va_newa (atype := .int) (ty := .int) (a0 := (100, .inl zF)) (N' := 100) hx hb (hts _ q62) rfl hK hP hD hS hA (fun _ => rfl) (by decide +kernel) (by decide +kernel) (Nat.le_of_ble_eq_true rfl) (Nat.le_of_ble_eq_true rfl) (Nat.le_of_ble_eq_true rfl) dX1_init_7 (fun q_1 c_1 H hK hP hD hS => ?_)
  have hP : va_P D vwCl [(h0, .inr (1, [.null, .null, .null])), (q_1, .inl (c_1, 100, .inl zF))] H := hP
  have hD : va_D A [(h0, .inr (1, [.null, .null, .null])), (q_1, .inl (c_1, 100, .inl zF))] := hD
  have hK : va_K D vwCl [(c_1, .int)] s := hK
  refine W.widen (k := 1) (n := 100) (Nat.le_of_ble_eq_true rfl) (Nat.le_of_ble_eq_true rfl) ?_
  refine va_put (D := D) (ci := 1) (v := .ref q_1) (ty := .array .int) (C := RX1) (T := TX1) (N := 3) hx hb hts in_X1 tyX1 tyX1_ok nmX1 hown hK hP hD hS 0 rfl rfl 0 (by decide) (hts _ q160) (fun _ h9 => h9) rfl (by decide +kernel) rfl rfl (Nat.le_of_ble_eq_true rfl) dX1_init_9 (fun H locs hP hD hS => ?_)
  have hP : va_P D vwCl [(h0, .inr (1, [.ref q_1, .null, .null])), (q_1, .inl (c_1, 100, .inl zF))] H := hP
  have hD : va_D A [(h0, .inr (1, [.ref q_1, .null, .null])), (q_1, .inl (c_1, 100, .inl zF))] := hD
  refine lv_aload_n hx hb dX1_init_12 rfl (lv_at hl 0 rfl) ?_
  refine lv_bipush (v := nI 100) hx hb dX1_init_13 (by decide +kernel) ?_
  refine va_newa (atype := .int) (ty := .int) (a0 := (100, .inl zF)) (N' := 100) hx hb (hts _ q62) rfl hK hP hD hS hA (fun _ => rfl) (by decide +kernel) (by decide +kernel) (Nat.le_of_ble_eq_true rfl) (Nat.le_of_ble_eq_true rfl) (Nat.le_of_ble_eq_true rfl) dX1_init_15 (fun q_2 c_2 H hK hP hD hS => ?_)
  have hP : va_P D vwCl [(h0, .inr (1, [.ref q_1, .null, .null])), (q_1, .inl (c_1, 100, .inl zF)), (q_2, .inl (c_2, 100, .inl zF))] H := hP
  have hD : va_D A [(h0, .inr (1, [.ref q_1, .null, .null])), (q_1, .inl (c_1, 100, .inl zF)), (q_2, .inl (c_2, 100, .inl zF))] := hD
  have hK : va_K D vwCl [(c_1, .int), (c_2, .int)] s := hK
  refine W.widen (k := 2) (n := 200) (Nat.le_of_ble_eq_true rfl) (Nat.le_of_ble_eq_true rfl) ?_
  refine va_put (D := D) (ci := 1) (v := .ref q_2) (ty := .array .int) (C := RX1) (T := TX1) (N := 3) hx hb hts in_X1 tyX1 tyX1_ok nmX1 hown hK hP hD hS 0 rfl rfl 1 (by decide) (hts _ q161) (fun _ h9 => h9) rfl (by decide +kernel) rfl rfl (Nat.le_of_ble_eq_true rfl) dX1_init_17 (fun H locs hP hD hS => ?_)
  have hP : va_P D vwCl [(h0, .inr (1, [.ref q_1, .ref q_2, .null])), (q_1, .inl (c_1, 100, .inl zF)), (q_2, .inl (c_2, 100, .inl zF))] H := hP
  have hD : va_D A [(h0, .inr (1, [.ref q_1, .ref q_2, .null])), (q_1, .inl (c_1, 100, .inl zF)), (q_2, .inl (c_2, 100, .inl zF))] := hD
  refine lv_aload_n hx hb dX1_init_20 rfl (lv_at hl 0 rfl) ?_
  refine lv_bipush (v := nI 18) hx hb dX1_init_21 (by decide +kernel) ?_
  refine va_newa (atype := .int) (ty := .int) (a0 := (18, .inl zF)) (N' := 18) hx hb (hts _ q62) rfl hK hP hD hS hA (fun _ => rfl) (by decide +kernel) (by decide +kernel) (Nat.le_of_ble_eq_true rfl) (Nat.le_of_ble_eq_true rfl) (Nat.le_of_ble_eq_true rfl) dX1_init_23 (fun q_3 c_3 H hK hP hD hS => ?_)
  have hP : va_P D vwCl [(h0, .inr (1, [.ref q_1, .ref q_2, .null])), (q_1, .inl (c_1, 100, .inl zF)), (q_2, .inl (c_2, 100, .inl zF)), (q_3, .inl (c_3, 18, .inl zF))] H := hP
  have hD : va_D A [(h0, .inr (1, [.ref q_1, .ref q_2, .null])), (q_1, .inl (c_1, 100, .inl zF)), (q_2, .inl (c_2, 100, .inl zF)), (q_3, .inl (c_3, 18, .inl zF))] := hD
  have hK : va_K D vwCl [(c_1, .int), (c_2, .int), (c_3, .int)] s := hK
  refine W.widen (k := 3) (n := 218) (Nat.le_of_ble_eq_true rfl) (Nat.le_of_ble_eq_true rfl) ?_
  refine va_put (D := D) (ci := 1) (v := .ref q_3) (ty := .array .int) (C := RX1) (T := TX1) (N := 3) hx hb hts in_X1 tyX1 tyX1_ok nmX1 hown hK hP hD hS 0 rfl rfl 2 (by decide) (hts _ q162) (fun _ h9 => h9) rfl (by decide +kernel) rfl rfl (Nat.le_of_ble_eq_true rfl) dX1_init_25 (fun H locs hP hD hS => ?_)
  have hP : va_P D vwCl [(h0, .inr (1, [.ref q_1, .ref q_2, .ref q_3])), (q_1, .inl (c_1, 100, .inl zF)), (q_2, .inl (c_2, 100, .inl zF)), (q_3, .inl (c_3, 18, .inl zF))] H := hP
  have hD : va_D A [(h0, .inr (1, [.ref q_1, .ref q_2, .ref q_3])), (q_1, .inl (c_1, 100, .inl zF)), (q_2, .inl (c_2, 100, .inl zF)), (q_3, .inl (c_3, 18, .inl zF))] := hD
  exact W.vret hx hb hr (fun t ht hW => ⟨⟨(lA [h0, q_1, q_2, q_3], lD [c_1, c_1, c_2, c_3]), rfl, rfl, by rw [ht]; exact hP, va_K.moved hW.alike hK, hD⟩, hS.F ht⟩) hS.2.2 dX1_init_28 hlk

/-! pictures side by side -/
theorem gP_split {D : va_G} {w1 w2 : va_W} {H : Heap} (h : va_P D vwCl (w1 ++ w2) H) : va_P D vwCl w1 H ∧ va_P D vwCl w2 H := by
  refine ⟨fun k q hk => h k q ?_, fun k q hk => h (w1.length + k) q ?_⟩
  · rw [List.getElem?_append_left (List.getElem?_eq_some_iff.mp hk).1]
    exact hk
  · rw [List.getElem?_append_right (Nat.le_add_right _ _), Nat.add_sub_cancel_left]
    exact hk
theorem gD_split {A : Nat → Prop} {w1 w2 : va_W} (h : va_D A (w1 ++ w2)) : va_D A w1 ∧ va_D A w2 ∧ ∀ (i j : Nat) (p q : Nat × va_E), w1[i]? = some p → w2[j]? = some q → p.1 ≠ q.1 := by
  have e1 : ∀ (k : Nat) (q : Nat × va_E), w1[k]? = some q → (w1 ++ w2)[k]? = some q := fun k q hk => by
    rw [List.getElem?_append_left (List.getElem?_eq_some_iff.mp hk).1]
    exact hk
  have e2 : ∀ (k : Nat) (q : Nat × va_E), w2[k]? = some q → (w1 ++ w2)[w1.length + k]? = some q := fun k q hk => by
    rw [List.getElem?_append_right (Nat.le_add_right _ _), Nat.add_sub_cancel_left]
    exact hk
  refine ⟨⟨fun i j p q hi hj he => h.1 i j p q (e1 i p hi) (e1 j q hj) he, fun k q hk => h.2 k q (e1 k q hk)⟩, ⟨fun i j p q hi hj he => ?_, fun k q hk => h.2 _ q (e2 k q hk)⟩, fun i j p q hi hj he => ?_⟩
  · have := h.1 _ _ p q (e2 i p hi) (e2 j q hj) he
    omega
  · have h1 := h.1 _ _ p q (e1 i p hi) (e2 j q hj) he
    have h2 := (List.getElem?_eq_some_iff.mp hi).1
    omega
theorem gZ_swap {D : va_G} {A : Nat → Prop} {H0 H : Heap} {locs : List Loc} {w1 w2 : va_W} (h : gZ D A H0 (w1 ++ w2) H locs) : gZ D A H0 (w2 ++ w1) H locs := by
  obtain ⟨hP, hD, hS⟩ := h
  obtain ⟨p1, p2⟩ := gP_split hP
  obtain ⟨d1, d2, d3⟩ := gD_split hD
  exact ⟨p2.app p1, d2.app d1 (fun i j p q hi hj he => d3 j i q p hj hi he.symm), hS⟩
/-- behind a call that had the cells w1: they are u now, the others as they were -/
theorem gZ_call {D : va_G} {A : Nat → Prop} {H0 H H1 : Heap} {locs locs1 : List Loc} {w1 w2 u : va_W} {adr : List Nat} (hadr : w1.map (·.1) = adr) (hZ : gZ D A H0 (w1 ++ w2) H locs) (hA : ∀ q, H0.size ≤ q → A q) (hP1 : va_P D vwCl u H1) (hD1 : va_D (gA adr H.size) u) (hk : ∀ q : Nat, q < H.size → ¬ gA adr H.size q → H1[q]? = H[q]?) (hS1 : va_S A H0 H1 locs1) : gZ D A H0 (u ++ w2) H1 locs1 := by
  obtain ⟨hP, hD, hS⟩ := hZ
  obtain ⟨p1, p2⟩ := gP_split hP
  obtain ⟨d1, d2, d3⟩ := gD_split hD
  have hF : ∀ q, gA adr H.size q → A q := by
    intro q h
    rcases h with h | h
    · rw [← hadr] at h
      obtain ⟨x, hx, rfl⟩ := List.mem_map.mp h
      obtain ⟨k, hk⟩ := List.getElem?_of_mem hx
      exact d1.2 k x hk
    · exact hA q (Nat.le_trans hS.1 h)
  have apart : ∀ (k : Nat) (q : Nat × va_E), w2[k]? = some q → ¬ gA adr H.size q.1 := by
    intro k q hq h
    rcases h with h | h
    · rw [← hadr] at h
      obtain ⟨x, hx, e⟩ := List.mem_map.mp h
      obtain ⟨i, hi⟩ := List.getElem?_of_mem hx
      exact d3 i k x q hi hq e
    · have := (p2 k q hq).lt
      omega
  exact ⟨hP1.app (fun k q hq => (p2 k q hq).kept (hk q.1 (p2 k q hq).lt (apart k q hq))), (hD1.weaken (fun _ q _ h => hF q.1 h)).app d2 (fun i j p q hi hj he => apart j q hj (by rw [← he]; exact hD1.2 i p hi)), hS1⟩
theorem gF_of {D : va_G} {A : Nat → Prop} {H0 H : Heap} {locs : List Loc} {w1 w2 : va_W} {adr : List Nat} (hadr : w1.map (·.1) = adr) (hZ : gZ D A H0 (w1 ++ w2) H locs) (hA : ∀ q, H0.size ≤ q → A q) : ∀ q, gA adr H.size q → A q := by
  intro q h
  obtain ⟨d1, d2, d3⟩ := gD_split hZ.2.1
  rcases h with h | h
  · rw [← hadr] at h
    obtain ⟨x, hx, rfl⟩ := List.mem_map.mp h
    obtain ⟨k, hk⟩ := List.getElem?_of_mem hx
    exact d1.2 k x hk
  · exact hA q (Nat.le_trans hZ.2.2.1 h)
section LC
variable {p : Program} {l : Launch} {e : Env} {R : Room} {s : State} {m : MethodId} {args : Array Value} {below : List Frame} {meth : Method} {c : Code} {H : Heap} {locs : List Loc} {cells slots : Nat} {Q : State → Prop}
variable {cc : ByteArray} {pc nL : Nat} {ls : Array Slot} {D : va_G} {tys : List (ClassId × FieldType)} {A : Nat → Prop} {w1 w2 : va_W}
/-- a call out of the law: the callee has w1, the rest w2 stays -/
theorem l_calli {y : MethodName} {bytes : ByteArray} {maxL fr lo n b idx ci : Nat} {ret : Option FieldType} {As rest st0 fs : List Value} {q0 : vw_C} {own CC : String} {adr : List Nat} {post : Int32 → va_W → Prop} (C : CallFix p m c cc nL s args lw_all own) (hM : Mi l D tys adr y bytes maxL ret fr lo b As w1 post) (hadr : w1.map (·.1) = adr)
    (hw : GoodIn lw_all (wsV own idx CC y (ws_ y bytes maxL ret))) (hd : y.cls = CC ∧ y.cls ≠ "java/lang/invoke/MethodHandle" ∧ y.cls ≠ "java/lang/invoke/VarHandle" ∧ (parseMethodDescriptor y.desc).map (fun d => d.parameters.length) = some n) (hR : fr + 1 ≤ R.frames ∧ 8 + (maxL + 11) + lo ≤ R.locals)
    (hK : va_K D vwCl tys s) (hZ : gZ D A s.heap (w1 ++ w2) H locs) (hA : ∀ q, s.heap.size ≤ q → A q) (hc : vwCl[ci]? = some q0) (hq : q0.1 = CC) (he : w1[0]? = some (b, .inr (ci, fs))) (hn : As.length = n) (hsize : ls.size = nL) (hst : st0 = As.reverse ++ .ref b :: rest) (hroom : (rest.map fun v => v.category).sum ≤ 8) (hdg : decode cc pc = .ok (.invokevirtual idx, 3)) (hf : cells + 0 ≤ R.cells ∧ slots + 0 ≤ R.slots)
    (kk : ∀ (r : Int32) (u : va_W) (H : Heap) (locs : List Loc), post r u → gZ D A s.heap (u ++ w2) H locs → W p l e R s m args below meth c H locs cells slots Q (F0 m (pc + 3) ls (.int r :: rest))) : W p l e R s m args below meth c H locs cells slots Q (F0 m pc ls st0) := by
  have hF : ∀ q, gA adr H.size q → A q := gF_of hadr hZ hA
  have hP1 := (gP_split hZ.1).1
  have hD1 := (gD_split hZ.2.1).1
  refine va_calli (va_runV (As := As) (rest := rest) C (hM H.size) (cwV n C.2.2.2.2 hw rfl rfl rfl hd hR) ⟨fun a U g mk q => ?_, ?_, fun U hU hW => ?_⟩ rfl hn hsize hst (lv_room hroom) hdg hf) hZ.2.2 (fun q _ h => hF q h) (fun q h => hF q h) (fun r u t H1 locs1 ht hvm hpost hB hle hk hS1 => ?_)
  · obtain ⟨q0, q1, qP, qK, qD⟩ := q
    exact ⟨q0, q1, qP, va_K.moved (u := U) (U := U.calling g mk a) (Vm.Alike.refl U.vm) qK, qD⟩
  · rw [← hq]; exact va_recv hK hP1 hc he
  · exact ⟨rfl, by rw [hU], by rw [hU]; exact hP1, va_K.moved hW.alike hK, hD1.weaken (fun _ _ _ _ => trivial)⟩
  · obtain ⟨hP2, hK2, hD2⟩ := hB
    rw [ht] at hP2
    exact kk r u H1 locs1 hpost (gZ_call hadr hZ hA hP2 hD2 hk hS1)
/-- a cell of the script -/
theorem l_ld {b L : Nat} {xs : Nat → Int32} {w : va_W} {rest : List Value} (hx : p.tables.exec = Jvm.exec) (hb : c.code = cc) (hX : va_X b L xs s s.heap) (hbl : b < s.heap.size) (hbA : ¬ A b) (hZ : gZ D A s.heap w H locs) {j : Nat} (hj : j < L) (hL : L < 2 ^ 31) (hdg : decode cc pc = .ok (.iaload, 1))
    (kk : W p l e R s m args below meth c H locs cells slots Q (F0 m (pc + 1) ls (.int (xs j) :: rest))) : W p l e R s m args below meth c H locs cells slots Q (F0 m pc ls (.int (nI j) :: .ref b :: rest)) := by
  refine va_sld hx hb hX hbl hbA hZ.2.2 (vp_in_nI hj hL) hdg ?_
  rw [nI_clamp (by omega)]
  exact kk
end LC
theorem l_gt {L k : Nat} (hL : L ≤ 320) (hk : k ≤ 400) : (nI L - nI 5 < nI k) ↔ L < k + 5 := by
  rw [Int32.lt_iff_toInt_lt, pk_sub_toInt (by omega) (by omega), nI_toInt (by omega)]
  omega
end
section
/-! THE CLAIM OUT OF ONE WALK OF THE LAW'S BODY. Your part is whole_start (and what it stands on); all else here is the same for every law, but numbers. -/
def lw_P (b : Addr) (xs : List Int32) (args : Array Value) (s : State) : Prop := args = #[.ref b] ∧ s.IntsAt b xs ∧ xs.length ≤ 320 ∧ (Jvm.Cond.and given_1 narrow_1).before args s = true
def lw_Q (_ : Array Value) (s : State) (o : Outcome) (t : State) : Prop := o = .returned (some (.int 1)) ∧ Framed s o t [] 600000 7290000
def lw_Z (below : List Frame) (a : Array Value) (s : State) : State → Prop := fun t => ∃ o, t.status = .running ∧ Ended t below o ∧ lw_Q a s o t
/-- the law's own end, with 1 on the stack, nothing written that was there before, its room as the claim has it -/
theorem lw_ret {p : Program} {l : Launch} {e : Env} {s : State} {m : MethodId} {below : List Frame} {meth : Method} {c : Code} {b : Nat} (hx : p.tables.exec = Jvm.exec) (hb : c.code = code) (hr : meth.sig.returnType = ret) (hlocks : meth.locks = false) {pc : Nat} {H : Heap} {ls : Array Slot} (hdg : decode code pc = .ok (.ireturn, 1)) : W p l e room_1 s m #[Value.ref b] below meth c H [] 600000 7290000 (lw_Z below #[Value.ref b] s) (F0 m pc ls [.int 1]) := by
  intro T hT X
  obtain ⟨fs, hret, hrun, hended, hW, hframe⟩ := X.leave (v := some (.int 1)) (hlocks := hlocks) (fun h => by rw [hr] at h; cases h)
  have hmeth' : T.vm.method? m = some meth := X.method'
  refine ⟨T.setFrames fs, ?_, .returned (some (.int 1)), hrun, hended, rfl, ⟨_, rfl⟩, hW, hframe⟩
  jvm_step X.here [X.here.top, hx, hb, hdg, hmeth', hr, ret, narrow_b1]
  (try refine ⟨rfl, ?_⟩); (try refine ⟨rfl, ?_⟩)
  first | (intro acts; rw [hret _ acts rfl rfl rfl]) | rw [hret _ _ rfl rfl rfl]
  exact Steps.refl _
/-- what holds at the law's entry: the machine, the code, the tables' words (any of lw_tbl by 'hts w (by decide +kernel)'), the script of L ints xs at the cell b, what the Statement gives of the start (any of its parts by flat_of_before) -/
def lw_At (p : Program) (s : State) (m : MethodId) (meth : Method) (c : Code) (b L : Nat) (xs : Nat → Int32) : Prop :=
  p.tables.exec = Jvm.exec ∧ c.code = code ∧ meth.sig.returnType = ret ∧ c.maxLocals = 4 ∧ s.vm.findClass R_law = some m.cls ∧ (∀ w ∈ lw_tbl, w.before #[Value.ref b] s = true) ∧ va_X b L xs s s.heap ∧ b < s.heap.size ∧ meth.locks = false ∧ (Jvm.Cond.and given_1 narrow_1).before #[Value.ref b] s = true
theorem eI_adr {a : Nat → Nat} {d : Nat → ClassId} {im we : Nat → Int32} {w : va_W} (h : eI a d im we w) : w.map (·.1) = aE a := by
  obtain ⟨tk, tu, ip, op, ti, ha, qu, oo, rfl, hI⟩ := h
  rfl
theorem mI_adr {a : Nat → Nat} {d : Nat → ClassId} {im we : Nat → Int32} {w : va_W} (h : mI a d im we w) : w.map (·.1) = aM a := by
  obtain ⟨mf, rfl⟩ := h
  rfl
theorem eI_0 {a : Nat → Nat} {d : Nat → ClassId} {im we : Nat → Int32} {w : va_W} (h : eI a d im we w) : ∃ fs, w[0]? = some (a 0, .inr (0, fs)) := by
  obtain ⟨tk, tu, ip, op, ti, ha, qu, oo, rfl, hI⟩ := h
  exact ⟨_, rfl⟩
theorem mI_0 {a : Nat → Nat} {d : Nat → ClassId} {im we : Nat → Int32} {w : va_W} (h : mI a d im we w) : ∃ fs, w[0]? = some (a 0, .inr (1, fs)) := by
  obtain ⟨mf, rfl⟩ := h
  exact ⟨_, rfl⟩
theorem EI_start : EI zF zF zF zF zF (-1) := EI_m1 (fun _ _ => bd_0 _) (fun _ _ => bd_0 _) (fun f _ h => absurd rfl h)

set_option maxHeartbeats 4000000 in
set_option maxRecDepth 100000 in
/-- the law's loop at its head -/
theorem law_loop {p : Program} {l : Launch} {e : Env} {s : State} {m : MethodId} {below : List Frame} {meth : Method} {c : Code} {b L : Nat} {xs : Nat → Int32} {D : va_G} {A : Nat → Prop} {H : Heap} {locs : List Loc} {ls : Array Slot} {wE wM : va_W} {im we : Nat → Int32} (a a' : Nat → Nat) (d d' : Nat → ClassId) (hL : L ≤ 320) (C : CallFix p m c cL_law 4 s #[Value.ref b] lw_all R_law) (hr : meth.sig.returnType = ret) (hlk : meth.locks = false) (hX : va_X b L xs s s.heap) (hbl : b < s.heap.size) (hbA : ¬ A b) (hA : ∀ q, s.heap.size ≤ q → A q) (hA2 : ∀ q, A q → s.heap.size ≤ q)
    (hKE : va_K D vwCl (tyE d) s) (hKM : va_K D vwCl (tyM d') s) (hZ : gZ D A s.heap (wE ++ wM) H locs) (hl : lv_has ls 4 [(3, .int (nI 0)), (2, .ref (a' 0)), (1, .ref (a 0)), (0, .ref b)]) (hE : eI a d im we wE) (hM : mI a' d' im we wM) :
    W p l e room_1 s m #[Value.ref b] below meth c H locs 14 619 (lw_Z below #[Value.ref b] s) (F0 m 18 ls []) := by
  have hx := C.1
  have hb : c.code = cL_law := C.2.1
  refine W_loop (N := L / 5) (fun k H locs ls => ∃ (wE wM : va_W) (im we : Nat → Int32), gZ D A s.heap (wE ++ wM) H locs ∧ lv_has ls 4 [(3, .int (nI (5 * k))), (2, .ref (a' 0)), (1, .ref (a 0)), (0, .ref b)] ∧ eI a d im we wE ∧ mI a' d' im we wM) ?_ ?_ 0 (by omega) ⟨wE, wM, im, we, hZ, hl, hE, hM⟩
  · intro H locs ls hI
    obtain ⟨wE, wM, im, we, hZ, hl, hE, hM⟩ := hI
    refine lv_iload_n hx hb dL_law_18 rfl (lv_at hl 0 rfl) ?_
    refine lv_aload_n hx hb dL_law_19 rfl (lv_at hl 3 rfl) ?_
    refine va_slen hx hb hX hbl hbA hZ.2.2 dL_law_20 ?_
    refine lv_iconst (v := nI 5) hx hb dL_law_21 (by decide +kernel) ?_
    refine lv_isub hx hb dL_law_22 ?_
    refine c_gtY hx hb 431 dL_law_23 (by decide) ((l_gt hL (by omega)).mpr (by omega)) ?_
    refine lv_iconst (v := 1) hx hb dL_law_431 (by decide +kernel) ?_
    refine va_forget (fun q hq => hA2 _ (hZ.2.2.2.2 q hq)) ?_
    refine W.widen (k := 600000) (n := 7290000) (Nat.le_of_ble_eq_true rfl) (Nat.le_of_ble_eq_true rfl) ?_
    exact lw_ret hx hb hr hlk dL_law_432
  · intro k hk ih H locs ls hI
    obtain ⟨wE, wM, im, we, hZ, hl, hE, hM⟩ := hI
    refine lv_iload_n hx hb dL_law_18 rfl (lv_at hl 0 rfl) ?_
    refine lv_aload_n hx hb dL_law_19 rfl (lv_at hl 3 rfl) ?_
    refine va_slen hx hb hX hbl hbA hZ.2.2 dL_law_20 ?_
    refine lv_iconst (v := nI 5) hx hb dL_law_21 (by decide +kernel) ?_
    refine lv_isub hx hb dL_law_22 ?_
    refine c_gtN hx hb 431 dL_law_23 (by decide) (fun q => absurd ((l_gt hL (by omega)).mp q) (by omega)) ?_
    refine lv_aload_n hx hb dL_law_26 rfl (lv_at hl 3 rfl) ?_
    refine lv_iload_n hx hb dL_law_27 rfl (lv_at hl 0 rfl) ?_
    refine l_ld hx hb hX hbl hbA hZ (j := 5 * k) (by omega) (by omega) dL_law_28 ?_
    refine lv_bipush (v := nI 15) hx hb dL_law_29 (by decide +kernel) ?_
    refine lv_iand hx hb dL_law_31 ?_
    obtain ⟨j, hj, ej⟩ := pk_andE (xs (5 * k)) (m := nI 15) 4 (by decide +kernel)
    refine i_top ej ?_
    clear ej
    rcases (show j = 0 ∨ j = 1 ∨ j = 2 ∨ j = 3 ∨ j = 4 ∨ j = 5 ∨ j = 6 ∨ j = 7 ∨ j = 8 ∨ j = 9 ∨ j = 10 ∨ 11 ≤ j by omega) with rfl | rfl | rfl | rfl | rfl | rfl | rfl | rfl | rfl | rfl | rfl | hj2
    · refine lv_tableIn (off := 60) (tgt := 92) hx hb dL_law_32 (by decide +kernel) (by decide +kernel) (by decide +kernel) (by decide) ?_
      obtain ⟨r, im', we', hOE, hOM⟩ := op_set l D a a' d d' im we (xs (5 * k + 1)) (xs (5 * k + 2))
      obtain ⟨postE, hME, hpE⟩ := hOE wE hE
      obtain ⟨fsE, h0E⟩ := eI_0 hE
      obtain ⟨postM, hMM, hpM⟩ := hOM wM hM
      obtain ⟨fsM, h0M⟩ := mI_0 hM
      refine lv_aload_n hx hb dL_law_92 rfl (lv_at hl 2 rfl) ?_
      refine lv_aload_n hx hb dL_law_93 rfl (lv_at hl 3 rfl) ?_
      refine lv_iload_n hx hb dL_law_94 rfl (lv_at hl 0 rfl) ?_
      refine lv_iconst (v := nI 1) hx hb dL_law_95 (by decide +kernel) ?_
      refine n_add hx hb dL_law_96 ?_
      refine l_ld hx hb hX hbl hbA hZ (j := (5 * k) + 1) (by omega) (by omega) dL_law_97 ?_
      refine lv_aload_n hx hb dL_law_98 rfl (lv_at hl 3 rfl) ?_
      refine lv_iload_n hx hb dL_law_99 rfl (lv_at hl 0 rfl) ?_
      refine lv_iconst (v := nI 2) hx hb dL_law_100 (by decide +kernel) ?_
      refine n_add hx hb dL_law_101 ?_
      refine l_ld hx hb hX hbl hbA hZ (j := (5 * k) + 2) (by omega) (by omega) dL_law_102 ?_
      refine l_calli (ci := 0) (rest := []) C hME (eI_adr hE) hwLX0_set hdX0_set ⟨Nat.le_of_ble_eq_true rfl, Nat.le_of_ble_eq_true rfl⟩ hKE hZ hA rfl rfl h0E rfl hl.1 rfl (Nat.le_of_ble_eq_true rfl) dL_law_103 ⟨Nat.le_of_ble_eq_true rfl, Nat.le_of_ble_eq_true rfl⟩ (fun r0 u H locs hu hZ => ?_)
      obtain ⟨rfl, hE⟩ := hpE r0 u hu
      have hZ := gZ_swap hZ
      refine lv_aload_n hx hb dL_law_106 rfl (lv_at hl 1 rfl) ?_
      refine lv_aload_n hx hb dL_law_107 rfl (lv_at hl 3 rfl) ?_
      refine lv_iload_n hx hb dL_law_108 rfl (lv_at hl 0 rfl) ?_
      refine lv_iconst (v := nI 1) hx hb dL_law_109 (by decide +kernel) ?_
      refine n_add hx hb dL_law_110 ?_
      refine l_ld hx hb hX hbl hbA hZ (j := (5 * k) + 1) (by omega) (by omega) dL_law_111 ?_
      refine lv_aload_n hx hb dL_law_112 rfl (lv_at hl 3 rfl) ?_
      refine lv_iload_n hx hb dL_law_113 rfl (lv_at hl 0 rfl) ?_
      refine lv_iconst (v := nI 2) hx hb dL_law_114 (by decide +kernel) ?_
      refine n_add hx hb dL_law_115 ?_
      refine l_ld hx hb hX hbl hbA hZ (j := (5 * k) + 2) (by omega) (by omega) dL_law_116 ?_
      refine l_calli (ci := 1) (rest := [.int r0]) C hMM (mI_adr hM) hwLX1_set hdX1_set ⟨Nat.le_of_ble_eq_true rfl, Nat.le_of_ble_eq_true rfl⟩ hKM hZ hA rfl rfl h0M rfl hl.1 rfl (Nat.le_of_ble_eq_true rfl) dL_law_117 ⟨Nat.le_of_ble_eq_true rfl, Nat.le_of_ble_eq_true rfl⟩ (fun r1 u1 H locs hu1 hZ => ?_)
      obtain ⟨rfl, hM⟩ := hpM r1 u1 hu1
      have hZ := gZ_swap hZ
      refine c_eqY hx hb 425 dL_law_120 (by decide) rfl ?_
      refine lv_iinc (v := nI (5 * (k + 1))) (lv' := [(3, .int (nI (5 * (k + 1)))), (2, .ref (a' 0)), (1, .ref (a 0)), (0, .ref b)]) hx hb dL_law_425 hl (k := 0) rfl (by rw [show 5 * (k + 1) = 5 * k + 5 by omega, ← nI_add]; rfl) (by decide) rfl (fun ls hl => ?_)
      refine lv_goto (tgt := 18) hx hb dL_law_428 (by decide) ?_
      exact ih _ _ _ ⟨u, u1, im', we', hZ, hl, hE, hM⟩
    · refine lv_tableIn (off := 93) (tgt := 125) hx hb dL_law_32 (by decide +kernel) (by decide +kernel) (by decide +kernel) (by decide) ?_
      obtain ⟨r, im', we', hOE, hOM⟩ := op_stripe l D a a' d d' im we (xs (5 * k + 1)) (xs (5 * k + 2)) (xs (5 * k + 3)) (xs (5 * k + 4))
      obtain ⟨postE, hME, hpE⟩ := hOE wE hE
      obtain ⟨fsE, h0E⟩ := eI_0 hE
      obtain ⟨postM, hMM, hpM⟩ := hOM wM hM
      obtain ⟨fsM, h0M⟩ := mI_0 hM
      refine lv_aload_n hx hb dL_law_125 rfl (lv_at hl 2 rfl) ?_
      refine lv_aload_n hx hb dL_law_126 rfl (lv_at hl 3 rfl) ?_
      refine lv_iload_n hx hb dL_law_127 rfl (lv_at hl 0 rfl) ?_
      refine lv_iconst (v := nI 1) hx hb dL_law_128 (by decide +kernel) ?_
      refine n_add hx hb dL_law_129 ?_
      refine l_ld hx hb hX hbl hbA hZ (j := (5 * k) + 1) (by omega) (by omega) dL_law_130 ?_
      refine lv_aload_n hx hb dL_law_131 rfl (lv_at hl 3 rfl) ?_
      refine lv_iload_n hx hb dL_law_132 rfl (lv_at hl 0 rfl) ?_
      refine lv_iconst (v := nI 2) hx hb dL_law_133 (by decide +kernel) ?_
      refine n_add hx hb dL_law_134 ?_
      refine l_ld hx hb hX hbl hbA hZ (j := (5 * k) + 2) (by omega) (by omega) dL_law_135 ?_
      refine lv_aload_n hx hb dL_law_136 rfl (lv_at hl 3 rfl) ?_
      refine lv_iload_n hx hb dL_law_137 rfl (lv_at hl 0 rfl) ?_
      refine lv_iconst (v := nI 3) hx hb dL_law_138 (by decide +kernel) ?_
      refine n_add hx hb dL_law_139 ?_
      refine l_ld hx hb hX hbl hbA hZ (j := (5 * k) + 3) (by omega) (by omega) dL_law_140 ?_
      refine lv_aload_n hx hb dL_law_141 rfl (lv_at hl 3 rfl) ?_
      refine lv_iload_n hx hb dL_law_142 rfl (lv_at hl 0 rfl) ?_
      refine lv_iconst (v := nI 4) hx hb dL_law_143 (by decide +kernel) ?_
      refine n_add hx hb dL_law_144 ?_
      refine l_ld hx hb hX hbl hbA hZ (j := (5 * k) + 4) (by omega) (by omega) dL_law_145 ?_
      refine l_calli (ci := 0) (rest := []) C hME (eI_adr hE) hwLX0_stripe hdX0_stripe ⟨Nat.le_of_ble_eq_true rfl, Nat.le_of_ble_eq_true rfl⟩ hKE hZ hA rfl rfl h0E rfl hl.1 rfl (Nat.le_of_ble_eq_true rfl) dL_law_146 ⟨Nat.le_of_ble_eq_true rfl, Nat.le_of_ble_eq_true rfl⟩ (fun r0 u H locs hu hZ => ?_)
      obtain ⟨rfl, hE⟩ := hpE r0 u hu
      have hZ := gZ_swap hZ
      refine lv_aload_n hx hb dL_law_149 rfl (lv_at hl 1 rfl) ?_
      refine lv_aload_n hx hb dL_law_150 rfl (lv_at hl 3 rfl) ?_
      refine lv_iload_n hx hb dL_law_151 rfl (lv_at hl 0 rfl) ?_
      refine lv_iconst (v := nI 1) hx hb dL_law_152 (by decide +kernel) ?_
      refine n_add hx hb dL_law_153 ?_
      refine l_ld hx hb hX hbl hbA hZ (j := (5 * k) + 1) (by omega) (by omega) dL_law_154 ?_
      refine lv_aload_n hx hb dL_law_155 rfl (lv_at hl 3 rfl) ?_
      refine lv_iload_n hx hb dL_law_156 rfl (lv_at hl 0 rfl) ?_
      refine lv_iconst (v := nI 2) hx hb dL_law_157 (by decide +kernel) ?_
      refine n_add hx hb dL_law_158 ?_
      refine l_ld hx hb hX hbl hbA hZ (j := (5 * k) + 2) (by omega) (by omega) dL_law_159 ?_
      refine lv_aload_n hx hb dL_law_160 rfl (lv_at hl 3 rfl) ?_
      refine lv_iload_n hx hb dL_law_161 rfl (lv_at hl 0 rfl) ?_
      refine lv_iconst (v := nI 3) hx hb dL_law_162 (by decide +kernel) ?_
      refine n_add hx hb dL_law_163 ?_
      refine l_ld hx hb hX hbl hbA hZ (j := (5 * k) + 3) (by omega) (by omega) dL_law_164 ?_
      refine lv_aload_n hx hb dL_law_165 rfl (lv_at hl 3 rfl) ?_
      refine lv_iload_n hx hb dL_law_166 rfl (lv_at hl 0 rfl) ?_
      refine lv_iconst (v := nI 4) hx hb dL_law_167 (by decide +kernel) ?_
      refine n_add hx hb dL_law_168 ?_
      refine l_ld hx hb hX hbl hbA hZ (j := (5 * k) + 4) (by omega) (by omega) dL_law_169 ?_
      refine l_calli (ci := 1) (rest := [.int r0]) C hMM (mI_adr hM) hwLX1_stripe hdX1_stripe ⟨Nat.le_of_ble_eq_true rfl, Nat.le_of_ble_eq_true rfl⟩ hKM hZ hA rfl rfl h0M rfl hl.1 rfl (Nat.le_of_ble_eq_true rfl) dL_law_170 ⟨Nat.le_of_ble_eq_true rfl, Nat.le_of_ble_eq_true rfl⟩ (fun r1 u1 H locs hu1 hZ => ?_)
      obtain ⟨rfl, hM⟩ := hpM r1 u1 hu1
      have hZ := gZ_swap hZ
      refine c_eqY hx hb 425 dL_law_173 (by decide) rfl ?_
      refine lv_iinc (v := nI (5 * (k + 1))) (lv' := [(3, .int (nI (5 * (k + 1)))), (2, .ref (a' 0)), (1, .ref (a 0)), (0, .ref b)]) hx hb dL_law_425 hl (k := 0) rfl (by rw [show 5 * (k + 1) = 5 * k + 5 by omega, ← nI_add]; rfl) (by decide) rfl (fun ls hl => ?_)
      refine lv_goto (tgt := 18) hx hb dL_law_428 (by decide) ?_
      exact ih _ _ _ ⟨u, u1, im', we', hZ, hl, hE, hM⟩
    · refine lv_tableIn (off := 146) (tgt := 178) hx hb dL_law_32 (by decide +kernel) (by decide +kernel) (by decide +kernel) (by decide) ?_
      obtain ⟨r, im', we', hOE, hOM⟩ := op_weight l D a a' d d' im we (xs (5 * k + 1)) (xs (5 * k + 2)) (xs (5 * k + 3))
      obtain ⟨postE, hME, hpE⟩ := hOE wE hE
      obtain ⟨fsE, h0E⟩ := eI_0 hE
      obtain ⟨postM, hMM, hpM⟩ := hOM wM hM
      obtain ⟨fsM, h0M⟩ := mI_0 hM
      refine lv_aload_n hx hb dL_law_178 rfl (lv_at hl 2 rfl) ?_
      refine lv_aload_n hx hb dL_law_179 rfl (lv_at hl 3 rfl) ?_
      refine lv_iload_n hx hb dL_law_180 rfl (lv_at hl 0 rfl) ?_
      refine lv_iconst (v := nI 1) hx hb dL_law_181 (by decide +kernel) ?_
      refine n_add hx hb dL_law_182 ?_
      refine l_ld hx hb hX hbl hbA hZ (j := (5 * k) + 1) (by omega) (by omega) dL_law_183 ?_
      refine lv_aload_n hx hb dL_law_184 rfl (lv_at hl 3 rfl) ?_
      refine lv_iload_n hx hb dL_law_185 rfl (lv_at hl 0 rfl) ?_
      refine lv_iconst (v := nI 2) hx hb dL_law_186 (by decide +kernel) ?_
      refine n_add hx hb dL_law_187 ?_
      refine l_ld hx hb hX hbl hbA hZ (j := (5 * k) + 2) (by omega) (by omega) dL_law_188 ?_
      refine lv_aload_n hx hb dL_law_189 rfl (lv_at hl 3 rfl) ?_
      refine lv_iload_n hx hb dL_law_190 rfl (lv_at hl 0 rfl) ?_
      refine lv_iconst (v := nI 3) hx hb dL_law_191 (by decide +kernel) ?_
      refine n_add hx hb dL_law_192 ?_
      refine l_ld hx hb hX hbl hbA hZ (j := (5 * k) + 3) (by omega) (by omega) dL_law_193 ?_
      refine l_calli (ci := 0) (rest := []) C hME (eI_adr hE) hwLX0_weight hdX0_weight ⟨Nat.le_of_ble_eq_true rfl, Nat.le_of_ble_eq_true rfl⟩ hKE hZ hA rfl rfl h0E rfl hl.1 rfl (Nat.le_of_ble_eq_true rfl) dL_law_194 ⟨Nat.le_of_ble_eq_true rfl, Nat.le_of_ble_eq_true rfl⟩ (fun r0 u H locs hu hZ => ?_)
      obtain ⟨rfl, hE⟩ := hpE r0 u hu
      have hZ := gZ_swap hZ
      refine lv_aload_n hx hb dL_law_197 rfl (lv_at hl 1 rfl) ?_
      refine lv_aload_n hx hb dL_law_198 rfl (lv_at hl 3 rfl) ?_
      refine lv_iload_n hx hb dL_law_199 rfl (lv_at hl 0 rfl) ?_
      refine lv_iconst (v := nI 1) hx hb dL_law_200 (by decide +kernel) ?_
      refine n_add hx hb dL_law_201 ?_
      refine l_ld hx hb hX hbl hbA hZ (j := (5 * k) + 1) (by omega) (by omega) dL_law_202 ?_
      refine lv_aload_n hx hb dL_law_203 rfl (lv_at hl 3 rfl) ?_
      refine lv_iload_n hx hb dL_law_204 rfl (lv_at hl 0 rfl) ?_
      refine lv_iconst (v := nI 2) hx hb dL_law_205 (by decide +kernel) ?_
      refine n_add hx hb dL_law_206 ?_
      refine l_ld hx hb hX hbl hbA hZ (j := (5 * k) + 2) (by omega) (by omega) dL_law_207 ?_
      refine lv_aload_n hx hb dL_law_208 rfl (lv_at hl 3 rfl) ?_
      refine lv_iload_n hx hb dL_law_209 rfl (lv_at hl 0 rfl) ?_
      refine lv_iconst (v := nI 3) hx hb dL_law_210 (by decide +kernel) ?_
      refine n_add hx hb dL_law_211 ?_
      refine l_ld hx hb hX hbl hbA hZ (j := (5 * k) + 3) (by omega) (by omega) dL_law_212 ?_
      refine l_calli (ci := 1) (rest := [.int r0]) C hMM (mI_adr hM) hwLX1_weight hdX1_weight ⟨Nat.le_of_ble_eq_true rfl, Nat.le_of_ble_eq_true rfl⟩ hKM hZ hA rfl rfl h0M rfl hl.1 rfl (Nat.le_of_ble_eq_true rfl) dL_law_213 ⟨Nat.le_of_ble_eq_true rfl, Nat.le_of_ble_eq_true rfl⟩ (fun r1 u1 H locs hu1 hZ => ?_)
      obtain ⟨rfl, hM⟩ := hpM r1 u1 hu1
      have hZ := gZ_swap hZ
      refine c_eqY hx hb 425 dL_law_216 (by decide) rfl ?_
      refine lv_iinc (v := nI (5 * (k + 1))) (lv' := [(3, .int (nI (5 * (k + 1)))), (2, .ref (a' 0)), (1, .ref (a 0)), (0, .ref b)]) hx hb dL_law_425 hl (k := 0) rfl (by rw [show 5 * (k + 1) = 5 * k + 5 by omega, ← nI_add]; rfl) (by decide) rfl (fun ls hl => ?_)
      refine lv_goto (tgt := 18) hx hb dL_law_428 (by decide) ?_
      exact ih _ _ _ ⟨u, u1, im', we', hZ, hl, hE, hM⟩
    · refine lv_tableIn (off := 189) (tgt := 221) hx hb dL_law_32 (by decide +kernel) (by decide +kernel) (by decide +kernel) (by decide) ?_
      obtain ⟨r, im', we', hOE, hOM⟩ := op_response l D a a' d d' im we (xs (5 * k + 1)) (xs (5 * k + 2))
      obtain ⟨postE, hME, hpE⟩ := hOE wE hE
      obtain ⟨fsE, h0E⟩ := eI_0 hE
      obtain ⟨postM, hMM, hpM⟩ := hOM wM hM
      obtain ⟨fsM, h0M⟩ := mI_0 hM
      refine lv_aload_n hx hb dL_law_221 rfl (lv_at hl 2 rfl) ?_
      refine lv_aload_n hx hb dL_law_222 rfl (lv_at hl 3 rfl) ?_
      refine lv_iload_n hx hb dL_law_223 rfl (lv_at hl 0 rfl) ?_
      refine lv_iconst (v := nI 1) hx hb dL_law_224 (by decide +kernel) ?_
      refine n_add hx hb dL_law_225 ?_
      refine l_ld hx hb hX hbl hbA hZ (j := (5 * k) + 1) (by omega) (by omega) dL_law_226 ?_
      refine lv_aload_n hx hb dL_law_227 rfl (lv_at hl 3 rfl) ?_
      refine lv_iload_n hx hb dL_law_228 rfl (lv_at hl 0 rfl) ?_
      refine lv_iconst (v := nI 2) hx hb dL_law_229 (by decide +kernel) ?_
      refine n_add hx hb dL_law_230 ?_
      refine l_ld hx hb hX hbl hbA hZ (j := (5 * k) + 2) (by omega) (by omega) dL_law_231 ?_
      refine l_calli (ci := 0) (rest := []) C hME (eI_adr hE) hwLX0_response hdX0_response ⟨Nat.le_of_ble_eq_true rfl, Nat.le_of_ble_eq_true rfl⟩ hKE hZ hA rfl rfl h0E rfl hl.1 rfl (Nat.le_of_ble_eq_true rfl) dL_law_232 ⟨Nat.le_of_ble_eq_true rfl, Nat.le_of_ble_eq_true rfl⟩ (fun r0 u H locs hu hZ => ?_)
      obtain ⟨rfl, hE⟩ := hpE r0 u hu
      have hZ := gZ_swap hZ
      refine lv_aload_n hx hb dL_law_235 rfl (lv_at hl 1 rfl) ?_
      refine lv_aload_n hx hb dL_law_236 rfl (lv_at hl 3 rfl) ?_
      refine lv_iload_n hx hb dL_law_237 rfl (lv_at hl 0 rfl) ?_
      refine lv_iconst (v := nI 1) hx hb dL_law_238 (by decide +kernel) ?_
      refine n_add hx hb dL_law_239 ?_
      refine l_ld hx hb hX hbl hbA hZ (j := (5 * k) + 1) (by omega) (by omega) dL_law_240 ?_
      refine lv_aload_n hx hb dL_law_241 rfl (lv_at hl 3 rfl) ?_
      refine lv_iload_n hx hb dL_law_242 rfl (lv_at hl 0 rfl) ?_
      refine lv_iconst (v := nI 2) hx hb dL_law_243 (by decide +kernel) ?_
      refine n_add hx hb dL_law_244 ?_
      refine l_ld hx hb hX hbl hbA hZ (j := (5 * k) + 2) (by omega) (by omega) dL_law_245 ?_
      refine l_calli (ci := 1) (rest := [.int r0]) C hMM (mI_adr hM) hwLX1_response hdX1_response ⟨Nat.le_of_ble_eq_true rfl, Nat.le_of_ble_eq_true rfl⟩ hKM hZ hA rfl rfl h0M rfl hl.1 rfl (Nat.le_of_ble_eq_true rfl) dL_law_246 ⟨Nat.le_of_ble_eq_true rfl, Nat.le_of_ble_eq_true rfl⟩ (fun r1 u1 H locs hu1 hZ => ?_)
      obtain ⟨rfl, hM⟩ := hpM r1 u1 hu1
      have hZ := gZ_swap hZ
      refine c_eqY hx hb 425 dL_law_249 (by decide) rfl ?_
      refine lv_iinc (v := nI (5 * (k + 1))) (lv' := [(3, .int (nI (5 * (k + 1)))), (2, .ref (a' 0)), (1, .ref (a 0)), (0, .ref b)]) hx hb dL_law_425 hl (k := 0) rfl (by rw [show 5 * (k + 1) = 5 * k + 5 by omega, ← nI_add]; rfl) (by decide) rfl (fun ls hl => ?_)
      refine lv_goto (tgt := 18) hx hb dL_law_428 (by decide) ?_
      exact ih _ _ _ ⟨u, u1, im', we', hZ, hl, hE, hM⟩
    · refine lv_tableIn (off := 222) (tgt := 254) hx hb dL_law_32 (by decide +kernel) (by decide +kernel) (by decide +kernel) (by decide) ?_
      obtain ⟨r, im', we', hOE, hOM⟩ := op_second l D a a' d d' im we (xs (5 * k + 1))
      obtain ⟨postE, hME, hpE⟩ := hOE wE hE
      obtain ⟨fsE, h0E⟩ := eI_0 hE
      obtain ⟨postM, hMM, hpM⟩ := hOM wM hM
      obtain ⟨fsM, h0M⟩ := mI_0 hM
      refine lv_aload_n hx hb dL_law_254 rfl (lv_at hl 2 rfl) ?_
      refine lv_aload_n hx hb dL_law_255 rfl (lv_at hl 3 rfl) ?_
      refine lv_iload_n hx hb dL_law_256 rfl (lv_at hl 0 rfl) ?_
      refine lv_iconst (v := nI 1) hx hb dL_law_257 (by decide +kernel) ?_
      refine n_add hx hb dL_law_258 ?_
      refine l_ld hx hb hX hbl hbA hZ (j := (5 * k) + 1) (by omega) (by omega) dL_law_259 ?_
      refine l_calli (ci := 0) (rest := []) C hME (eI_adr hE) hwLX0_second hdX0_second ⟨Nat.le_of_ble_eq_true rfl, Nat.le_of_ble_eq_true rfl⟩ hKE hZ hA rfl rfl h0E rfl hl.1 rfl (Nat.le_of_ble_eq_true rfl) dL_law_260 ⟨Nat.le_of_ble_eq_true rfl, Nat.le_of_ble_eq_true rfl⟩ (fun r0 u H locs hu hZ => ?_)
      obtain ⟨rfl, hE⟩ := hpE r0 u hu
      have hZ := gZ_swap hZ
      refine lv_aload_n hx hb dL_law_263 rfl (lv_at hl 1 rfl) ?_
      refine lv_aload_n hx hb dL_law_264 rfl (lv_at hl 3 rfl) ?_
      refine lv_iload_n hx hb dL_law_265 rfl (lv_at hl 0 rfl) ?_
      refine lv_iconst (v := nI 1) hx hb dL_law_266 (by decide +kernel) ?_
      refine n_add hx hb dL_law_267 ?_
      refine l_ld hx hb hX hbl hbA hZ (j := (5 * k) + 1) (by omega) (by omega) dL_law_268 ?_
      refine l_calli (ci := 1) (rest := [.int r0]) C hMM (mI_adr hM) hwLX1_second hdX1_second ⟨Nat.le_of_ble_eq_true rfl, Nat.le_of_ble_eq_true rfl⟩ hKM hZ hA rfl rfl h0M rfl hl.1 rfl (Nat.le_of_ble_eq_true rfl) dL_law_269 ⟨Nat.le_of_ble_eq_true rfl, Nat.le_of_ble_eq_true rfl⟩ (fun r1 u1 H locs hu1 hZ => ?_)
      obtain ⟨rfl, hM⟩ := hpM r1 u1 hu1
      have hZ := gZ_swap hZ
      refine c_eqY hx hb 425 dL_law_272 (by decide) rfl ?_
      refine lv_iinc (v := nI (5 * (k + 1))) (lv' := [(3, .int (nI (5 * (k + 1)))), (2, .ref (a' 0)), (1, .ref (a 0)), (0, .ref b)]) hx hb dL_law_425 hl (k := 0) rfl (by rw [show 5 * (k + 1) = 5 * k + 5 by omega, ← nI_add]; rfl) (by decide) rfl (fun ls hl => ?_)
      refine lv_goto (tgt := 18) hx hb dL_law_428 (by decide) ?_
      exact ih _ _ _ ⟨u, u1, im', we', hZ, hl, hE, hM⟩
    · refine lv_tableIn (off := 245) (tgt := 277) hx hb dL_law_32 (by decide +kernel) (by decide +kernel) (by decide +kernel) (by decide) ?_
      obtain ⟨r, im', we', hOE, hOM⟩ := op_greatest l D a a' d d' im we (xs (5 * k + 1))
      obtain ⟨postE, hME, hpE⟩ := hOE wE hE
      obtain ⟨fsE, h0E⟩ := eI_0 hE
      obtain ⟨postM, hMM, hpM⟩ := hOM wM hM
      obtain ⟨fsM, h0M⟩ := mI_0 hM
      refine lv_aload_n hx hb dL_law_277 rfl (lv_at hl 2 rfl) ?_
      refine lv_aload_n hx hb dL_law_278 rfl (lv_at hl 3 rfl) ?_
      refine lv_iload_n hx hb dL_law_279 rfl (lv_at hl 0 rfl) ?_
      refine lv_iconst (v := nI 1) hx hb dL_law_280 (by decide +kernel) ?_
      refine n_add hx hb dL_law_281 ?_
      refine l_ld hx hb hX hbl hbA hZ (j := (5 * k) + 1) (by omega) (by omega) dL_law_282 ?_
      refine l_calli (ci := 0) (rest := []) C hME (eI_adr hE) hwLX0_greatest hdX0_greatest ⟨Nat.le_of_ble_eq_true rfl, Nat.le_of_ble_eq_true rfl⟩ hKE hZ hA rfl rfl h0E rfl hl.1 rfl (Nat.le_of_ble_eq_true rfl) dL_law_283 ⟨Nat.le_of_ble_eq_true rfl, Nat.le_of_ble_eq_true rfl⟩ (fun r0 u H locs hu hZ => ?_)
      obtain ⟨rfl, hE⟩ := hpE r0 u hu
      have hZ := gZ_swap hZ
      refine lv_aload_n hx hb dL_law_286 rfl (lv_at hl 1 rfl) ?_
      refine lv_aload_n hx hb dL_law_287 rfl (lv_at hl 3 rfl) ?_
      refine lv_iload_n hx hb dL_law_288 rfl (lv_at hl 0 rfl) ?_
      refine lv_iconst (v := nI 1) hx hb dL_law_289 (by decide +kernel) ?_
      refine n_add hx hb dL_law_290 ?_
      refine l_ld hx hb hX hbl hbA hZ (j := (5 * k) + 1) (by omega) (by omega) dL_law_291 ?_
      refine l_calli (ci := 1) (rest := [.int r0]) C hMM (mI_adr hM) hwLX1_greatest hdX1_greatest ⟨Nat.le_of_ble_eq_true rfl, Nat.le_of_ble_eq_true rfl⟩ hKM hZ hA rfl rfl h0M rfl hl.1 rfl (Nat.le_of_ble_eq_true rfl) dL_law_292 ⟨Nat.le_of_ble_eq_true rfl, Nat.le_of_ble_eq_true rfl⟩ (fun r1 u1 H locs hu1 hZ => ?_)
      obtain ⟨rfl, hM⟩ := hpM r1 u1 hu1
      have hZ := gZ_swap hZ
      refine c_eqY hx hb 425 dL_law_295 (by decide) rfl ?_
      refine lv_iinc (v := nI (5 * (k + 1))) (lv' := [(3, .int (nI (5 * (k + 1)))), (2, .ref (a' 0)), (1, .ref (a 0)), (0, .ref b)]) hx hb dL_law_425 hl (k := 0) rfl (by rw [show 5 * (k + 1) = 5 * k + 5 by omega, ← nI_add]; rfl) (by decide) rfl (fun ls hl => ?_)
      refine lv_goto (tgt := 18) hx hb dL_law_428 (by decide) ?_
      exact ih _ _ _ ⟨u, u1, im', we', hZ, hl, hE, hM⟩
    · refine lv_tableIn (off := 268) (tgt := 300) hx hb dL_law_32 (by decide +kernel) (by decide +kernel) (by decide +kernel) (by decide) ?_
      obtain ⟨r, im', we', hOE, hOM⟩ := op_where l D a a' d d' im we (xs (5 * k + 1))
      obtain ⟨postE, hME, hpE⟩ := hOE wE hE
      obtain ⟨fsE, h0E⟩ := eI_0 hE
      obtain ⟨postM, hMM, hpM⟩ := hOM wM hM
      obtain ⟨fsM, h0M⟩ := mI_0 hM
      refine lv_aload_n hx hb dL_law_300 rfl (lv_at hl 2 rfl) ?_
      refine lv_aload_n hx hb dL_law_301 rfl (lv_at hl 3 rfl) ?_
      refine lv_iload_n hx hb dL_law_302 rfl (lv_at hl 0 rfl) ?_
      refine lv_iconst (v := nI 1) hx hb dL_law_303 (by decide +kernel) ?_
      refine n_add hx hb dL_law_304 ?_
      refine l_ld hx hb hX hbl hbA hZ (j := (5 * k) + 1) (by omega) (by omega) dL_law_305 ?_
      refine l_calli (ci := 0) (rest := []) C hME (eI_adr hE) hwLX0_where hdX0_where ⟨Nat.le_of_ble_eq_true rfl, Nat.le_of_ble_eq_true rfl⟩ hKE hZ hA rfl rfl h0E rfl hl.1 rfl (Nat.le_of_ble_eq_true rfl) dL_law_306 ⟨Nat.le_of_ble_eq_true rfl, Nat.le_of_ble_eq_true rfl⟩ (fun r0 u H locs hu hZ => ?_)
      obtain ⟨rfl, hE⟩ := hpE r0 u hu
      have hZ := gZ_swap hZ
      refine lv_aload_n hx hb dL_law_309 rfl (lv_at hl 1 rfl) ?_
      refine lv_aload_n hx hb dL_law_310 rfl (lv_at hl 3 rfl) ?_
      refine lv_iload_n hx hb dL_law_311 rfl (lv_at hl 0 rfl) ?_
      refine lv_iconst (v := nI 1) hx hb dL_law_312 (by decide +kernel) ?_
      refine n_add hx hb dL_law_313 ?_
      refine l_ld hx hb hX hbl hbA hZ (j := (5 * k) + 1) (by omega) (by omega) dL_law_314 ?_
      refine l_calli (ci := 1) (rest := [.int r0]) C hMM (mI_adr hM) hwLX1_where hdX1_where ⟨Nat.le_of_ble_eq_true rfl, Nat.le_of_ble_eq_true rfl⟩ hKM hZ hA rfl rfl h0M rfl hl.1 rfl (Nat.le_of_ble_eq_true rfl) dL_law_315 ⟨Nat.le_of_ble_eq_true rfl, Nat.le_of_ble_eq_true rfl⟩ (fun r1 u1 H locs hu1 hZ => ?_)
      obtain ⟨rfl, hM⟩ := hpM r1 u1 hu1
      have hZ := gZ_swap hZ
      refine c_eqY hx hb 425 dL_law_318 (by decide) rfl ?_
      refine lv_iinc (v := nI (5 * (k + 1))) (lv' := [(3, .int (nI (5 * (k + 1)))), (2, .ref (a' 0)), (1, .ref (a 0)), (0, .ref b)]) hx hb dL_law_425 hl (k := 0) rfl (by rw [show 5 * (k + 1) = 5 * k + 5 by omega, ← nI_add]; rfl) (by decide) rfl (fun ls hl => ?_)
      refine lv_goto (tgt := 18) hx hb dL_law_428 (by decide) ?_
      exact ih _ _ _ ⟨u, u1, im', we', hZ, hl, hE, hM⟩
    · refine lv_tableIn (off := 291) (tgt := 323) hx hb dL_law_32 (by decide +kernel) (by decide +kernel) (by decide +kernel) (by decide) ?_
      obtain ⟨r, im', we', hOE, hOM⟩ := op_total l D a a' d d' im we (xs (5 * k + 1))
      obtain ⟨postE, hME, hpE⟩ := hOE wE hE
      obtain ⟨fsE, h0E⟩ := eI_0 hE
      obtain ⟨postM, hMM, hpM⟩ := hOM wM hM
      obtain ⟨fsM, h0M⟩ := mI_0 hM
      refine lv_aload_n hx hb dL_law_323 rfl (lv_at hl 2 rfl) ?_
      refine lv_aload_n hx hb dL_law_324 rfl (lv_at hl 3 rfl) ?_
      refine lv_iload_n hx hb dL_law_325 rfl (lv_at hl 0 rfl) ?_
      refine lv_iconst (v := nI 1) hx hb dL_law_326 (by decide +kernel) ?_
      refine n_add hx hb dL_law_327 ?_
      refine l_ld hx hb hX hbl hbA hZ (j := (5 * k) + 1) (by omega) (by omega) dL_law_328 ?_
      refine l_calli (ci := 0) (rest := []) C hME (eI_adr hE) hwLX0_total hdX0_total ⟨Nat.le_of_ble_eq_true rfl, Nat.le_of_ble_eq_true rfl⟩ hKE hZ hA rfl rfl h0E rfl hl.1 rfl (Nat.le_of_ble_eq_true rfl) dL_law_329 ⟨Nat.le_of_ble_eq_true rfl, Nat.le_of_ble_eq_true rfl⟩ (fun r0 u H locs hu hZ => ?_)
      obtain ⟨rfl, hE⟩ := hpE r0 u hu
      have hZ := gZ_swap hZ
      refine lv_aload_n hx hb dL_law_332 rfl (lv_at hl 1 rfl) ?_
      refine lv_aload_n hx hb dL_law_333 rfl (lv_at hl 3 rfl) ?_
      refine lv_iload_n hx hb dL_law_334 rfl (lv_at hl 0 rfl) ?_
      refine lv_iconst (v := nI 1) hx hb dL_law_335 (by decide +kernel) ?_
      refine n_add hx hb dL_law_336 ?_
      refine l_ld hx hb hX hbl hbA hZ (j := (5 * k) + 1) (by omega) (by omega) dL_law_337 ?_
      refine l_calli (ci := 1) (rest := [.int r0]) C hMM (mI_adr hM) hwLX1_total hdX1_total ⟨Nat.le_of_ble_eq_true rfl, Nat.le_of_ble_eq_true rfl⟩ hKM hZ hA rfl rfl h0M rfl hl.1 rfl (Nat.le_of_ble_eq_true rfl) dL_law_338 ⟨Nat.le_of_ble_eq_true rfl, Nat.le_of_ble_eq_true rfl⟩ (fun r1 u1 H locs hu1 hZ => ?_)
      obtain ⟨rfl, hM⟩ := hpM r1 u1 hu1
      have hZ := gZ_swap hZ
      refine c_eqY hx hb 425 dL_law_341 (by decide) rfl ?_
      refine lv_iinc (v := nI (5 * (k + 1))) (lv' := [(3, .int (nI (5 * (k + 1)))), (2, .ref (a' 0)), (1, .ref (a 0)), (0, .ref b)]) hx hb dL_law_425 hl (k := 0) rfl (by rw [show 5 * (k + 1) = 5 * k + 5 by omega, ← nI_add]; rfl) (by decide) rfl (fun ls hl => ?_)
      refine lv_goto (tgt := 18) hx hb dL_law_428 (by decide) ?_
      exact ih _ _ _ ⟨u, u1, im', we', hZ, hl, hE, hM⟩
    · refine lv_tableIn (off := 314) (tgt := 346) hx hb dL_law_32 (by decide +kernel) (by decide +kernel) (by decide +kernel) (by decide) ?_
      obtain ⟨r, im', we', hOE, hOM⟩ := op_pooled l D a a' d d' im we (xs (5 * k + 1)) (xs (5 * k + 2))
      obtain ⟨postE, hME, hpE⟩ := hOE wE hE
      obtain ⟨fsE, h0E⟩ := eI_0 hE
      obtain ⟨postM, hMM, hpM⟩ := hOM wM hM
      obtain ⟨fsM, h0M⟩ := mI_0 hM
      refine lv_aload_n hx hb dL_law_346 rfl (lv_at hl 2 rfl) ?_
      refine lv_aload_n hx hb dL_law_347 rfl (lv_at hl 3 rfl) ?_
      refine lv_iload_n hx hb dL_law_348 rfl (lv_at hl 0 rfl) ?_
      refine lv_iconst (v := nI 1) hx hb dL_law_349 (by decide +kernel) ?_
      refine n_add hx hb dL_law_350 ?_
      refine l_ld hx hb hX hbl hbA hZ (j := (5 * k) + 1) (by omega) (by omega) dL_law_351 ?_
      refine lv_aload_n hx hb dL_law_352 rfl (lv_at hl 3 rfl) ?_
      refine lv_iload_n hx hb dL_law_353 rfl (lv_at hl 0 rfl) ?_
      refine lv_iconst (v := nI 2) hx hb dL_law_354 (by decide +kernel) ?_
      refine n_add hx hb dL_law_355 ?_
      refine l_ld hx hb hX hbl hbA hZ (j := (5 * k) + 2) (by omega) (by omega) dL_law_356 ?_
      refine l_calli (ci := 0) (rest := []) C hME (eI_adr hE) hwLX0_pooled hdX0_pooled ⟨Nat.le_of_ble_eq_true rfl, Nat.le_of_ble_eq_true rfl⟩ hKE hZ hA rfl rfl h0E rfl hl.1 rfl (Nat.le_of_ble_eq_true rfl) dL_law_357 ⟨Nat.le_of_ble_eq_true rfl, Nat.le_of_ble_eq_true rfl⟩ (fun r0 u H locs hu hZ => ?_)
      obtain ⟨rfl, hE⟩ := hpE r0 u hu
      have hZ := gZ_swap hZ
      refine lv_aload_n hx hb dL_law_360 rfl (lv_at hl 1 rfl) ?_
      refine lv_aload_n hx hb dL_law_361 rfl (lv_at hl 3 rfl) ?_
      refine lv_iload_n hx hb dL_law_362 rfl (lv_at hl 0 rfl) ?_
      refine lv_iconst (v := nI 1) hx hb dL_law_363 (by decide +kernel) ?_
      refine n_add hx hb dL_law_364 ?_
      refine l_ld hx hb hX hbl hbA hZ (j := (5 * k) + 1) (by omega) (by omega) dL_law_365 ?_
      refine lv_aload_n hx hb dL_law_366 rfl (lv_at hl 3 rfl) ?_
      refine lv_iload_n hx hb dL_law_367 rfl (lv_at hl 0 rfl) ?_
      refine lv_iconst (v := nI 2) hx hb dL_law_368 (by decide +kernel) ?_
      refine n_add hx hb dL_law_369 ?_
      refine l_ld hx hb hX hbl hbA hZ (j := (5 * k) + 2) (by omega) (by omega) dL_law_370 ?_
      refine l_calli (ci := 1) (rest := [.int r0]) C hMM (mI_adr hM) hwLX1_pooled hdX1_pooled ⟨Nat.le_of_ble_eq_true rfl, Nat.le_of_ble_eq_true rfl⟩ hKM hZ hA rfl rfl h0M rfl hl.1 rfl (Nat.le_of_ble_eq_true rfl) dL_law_371 ⟨Nat.le_of_ble_eq_true rfl, Nat.le_of_ble_eq_true rfl⟩ (fun r1 u1 H locs hu1 hZ => ?_)
      obtain ⟨rfl, hM⟩ := hpM r1 u1 hu1
      have hZ := gZ_swap hZ
      refine c_eqY hx hb 425 dL_law_374 (by decide) rfl ?_
      refine lv_iinc (v := nI (5 * (k + 1))) (lv' := [(3, .int (nI (5 * (k + 1)))), (2, .ref (a' 0)), (1, .ref (a 0)), (0, .ref b)]) hx hb dL_law_425 hl (k := 0) rfl (by rw [show 5 * (k + 1) = 5 * k + 5 by omega, ← nI_add]; rfl) (by decide) rfl (fun ls hl => ?_)
      refine lv_goto (tgt := 18) hx hb dL_law_428 (by decide) ?_
      exact ih _ _ _ ⟨u, u1, im', we', hZ, hl, hE, hM⟩
    · refine lv_tableIn (off := 347) (tgt := 379) hx hb dL_law_32 (by decide +kernel) (by decide +kernel) (by decide +kernel) (by decide) ?_
      obtain ⟨r, im', we', hOE, hOM⟩ := op_apply l D a a' d d' im we (xs (5 * k + 1))
      obtain ⟨postE, hME, hpE⟩ := hOE wE hE
      obtain ⟨fsE, h0E⟩ := eI_0 hE
      obtain ⟨postM, hMM, hpM⟩ := hOM wM hM
      obtain ⟨fsM, h0M⟩ := mI_0 hM
      refine lv_aload_n hx hb dL_law_379 rfl (lv_at hl 2 rfl) ?_
      refine lv_aload_n hx hb dL_law_380 rfl (lv_at hl 3 rfl) ?_
      refine lv_iload_n hx hb dL_law_381 rfl (lv_at hl 0 rfl) ?_
      refine lv_iconst (v := nI 1) hx hb dL_law_382 (by decide +kernel) ?_
      refine n_add hx hb dL_law_383 ?_
      refine l_ld hx hb hX hbl hbA hZ (j := (5 * k) + 1) (by omega) (by omega) dL_law_384 ?_
      refine l_calli (ci := 0) (rest := []) C hME (eI_adr hE) hwLX0_apply hdX0_apply ⟨Nat.le_of_ble_eq_true rfl, Nat.le_of_ble_eq_true rfl⟩ hKE hZ hA rfl rfl h0E rfl hl.1 rfl (Nat.le_of_ble_eq_true rfl) dL_law_385 ⟨Nat.le_of_ble_eq_true rfl, Nat.le_of_ble_eq_true rfl⟩ (fun r0 u H locs hu hZ => ?_)
      obtain ⟨rfl, hE⟩ := hpE r0 u hu
      have hZ := gZ_swap hZ
      refine lv_aload_n hx hb dL_law_388 rfl (lv_at hl 1 rfl) ?_
      refine lv_aload_n hx hb dL_law_389 rfl (lv_at hl 3 rfl) ?_
      refine lv_iload_n hx hb dL_law_390 rfl (lv_at hl 0 rfl) ?_
      refine lv_iconst (v := nI 1) hx hb dL_law_391 (by decide +kernel) ?_
      refine n_add hx hb dL_law_392 ?_
      refine l_ld hx hb hX hbl hbA hZ (j := (5 * k) + 1) (by omega) (by omega) dL_law_393 ?_
      refine l_calli (ci := 1) (rest := [.int r0]) C hMM (mI_adr hM) hwLX1_apply hdX1_apply ⟨Nat.le_of_ble_eq_true rfl, Nat.le_of_ble_eq_true rfl⟩ hKM hZ hA rfl rfl h0M rfl hl.1 rfl (Nat.le_of_ble_eq_true rfl) dL_law_394 ⟨Nat.le_of_ble_eq_true rfl, Nat.le_of_ble_eq_true rfl⟩ (fun r1 u1 H locs hu1 hZ => ?_)
      obtain ⟨rfl, hM⟩ := hpM r1 u1 hu1
      have hZ := gZ_swap hZ
      refine c_eqY hx hb 425 dL_law_397 (by decide) rfl ?_
      refine lv_iinc (v := nI (5 * (k + 1))) (lv' := [(3, .int (nI (5 * (k + 1)))), (2, .ref (a' 0)), (1, .ref (a 0)), (0, .ref b)]) hx hb dL_law_425 hl (k := 0) rfl (by rw [show 5 * (k + 1) = 5 * k + 5 by omega, ← nI_add]; rfl) (by decide) rfl (fun ls hl => ?_)
      refine lv_goto (tgt := 18) hx hb dL_law_428 (by decide) ?_
      exact ih _ _ _ ⟨u, u1, im', we', hZ, hl, hE, hM⟩
    · refine lv_tableIn (off := 370) (tgt := 402) hx hb dL_law_32 (by decide +kernel) (by decide +kernel) (by decide +kernel) (by decide) ?_
      obtain ⟨r, im', we', hOE, hOM⟩ := op_turn l D a a' d d' im we (xs (5 * k + 1))
      obtain ⟨postE, hME, hpE⟩ := hOE wE hE
      obtain ⟨fsE, h0E⟩ := eI_0 hE
      obtain ⟨postM, hMM, hpM⟩ := hOM wM hM
      obtain ⟨fsM, h0M⟩ := mI_0 hM
      refine lv_aload_n hx hb dL_law_402 rfl (lv_at hl 2 rfl) ?_
      refine lv_aload_n hx hb dL_law_403 rfl (lv_at hl 3 rfl) ?_
      refine lv_iload_n hx hb dL_law_404 rfl (lv_at hl 0 rfl) ?_
      refine lv_iconst (v := nI 1) hx hb dL_law_405 (by decide +kernel) ?_
      refine n_add hx hb dL_law_406 ?_
      refine l_ld hx hb hX hbl hbA hZ (j := (5 * k) + 1) (by omega) (by omega) dL_law_407 ?_
      refine l_calli (ci := 0) (rest := []) C hME (eI_adr hE) hwLX0_turn hdX0_turn ⟨Nat.le_of_ble_eq_true rfl, Nat.le_of_ble_eq_true rfl⟩ hKE hZ hA rfl rfl h0E rfl hl.1 rfl (Nat.le_of_ble_eq_true rfl) dL_law_408 ⟨Nat.le_of_ble_eq_true rfl, Nat.le_of_ble_eq_true rfl⟩ (fun r0 u H locs hu hZ => ?_)
      obtain ⟨rfl, hE⟩ := hpE r0 u hu
      have hZ := gZ_swap hZ
      refine lv_aload_n hx hb dL_law_411 rfl (lv_at hl 1 rfl) ?_
      refine lv_aload_n hx hb dL_law_412 rfl (lv_at hl 3 rfl) ?_
      refine lv_iload_n hx hb dL_law_413 rfl (lv_at hl 0 rfl) ?_
      refine lv_iconst (v := nI 1) hx hb dL_law_414 (by decide +kernel) ?_
      refine n_add hx hb dL_law_415 ?_
      refine l_ld hx hb hX hbl hbA hZ (j := (5 * k) + 1) (by omega) (by omega) dL_law_416 ?_
      refine l_calli (ci := 1) (rest := [.int r0]) C hMM (mI_adr hM) hwLX1_turn hdX1_turn ⟨Nat.le_of_ble_eq_true rfl, Nat.le_of_ble_eq_true rfl⟩ hKM hZ hA rfl rfl h0M rfl hl.1 rfl (Nat.le_of_ble_eq_true rfl) dL_law_417 ⟨Nat.le_of_ble_eq_true rfl, Nat.le_of_ble_eq_true rfl⟩ (fun r1 u1 H locs hu1 hZ => ?_)
      obtain ⟨rfl, hM⟩ := hpM r1 u1 hu1
      have hZ := gZ_swap hZ
      refine c_eqY hx hb 425 dL_law_420 (by decide) rfl ?_
      refine lv_iinc (v := nI (5 * (k + 1))) (lv' := [(3, .int (nI (5 * (k + 1)))), (2, .ref (a' 0)), (1, .ref (a 0)), (0, .ref b)]) hx hb dL_law_425 hl (k := 0) rfl (by rw [show 5 * (k + 1) = 5 * k + 5 by omega, ← nI_add]; rfl) (by decide) rfl (fun ls hl => ?_)
      refine lv_goto (tgt := 18) hx hb dL_law_428 (by decide) ?_
      exact ih _ _ _ ⟨u, u1, im', we', hZ, hl, hE, hM⟩
    · refine lv_tableOut (tgt := 425) hx hb dL_law_32 (Or.inr (by rw [nI_toInt (by omega)]; omega)) (by decide) ?_
      refine lv_iinc (v := nI (5 * (k + 1))) (lv' := [(3, .int (nI (5 * (k + 1)))), (2, .ref (a' 0)), (1, .ref (a 0)), (0, .ref b)]) hx hb dL_law_425 hl (k := 0) rfl (by rw [show 5 * (k + 1) = 5 * k + 5 by omega, ← nI_add]; rfl) (by decide) rfl (fun ls hl => ?_)
      refine lv_goto (tgt := 18) hx hb dL_law_428 (by decide) ?_
      exact ih _ _ _ ⟨wE, wM, im, we, hZ, hl, hE, hM⟩
set_option maxHeartbeats 4000000 in
set_option maxRecDepth 100000 in
/-- from the entry, for every script of at most 320 ints, the law comes to its end with true -/
theorem whole_start {p : Program} {e : Env} {s : State} {m : MethodId} {below : List Frame} {meth : Method} {c : Code} (l : Launch) {b L : Nat} {xs : Nat → Int32} (hL : L ≤ 320) (C0 : lw_At p s m meth c b L xs) : W p l e room_1 s m #[Value.ref b] below meth c s.heap [] 0 0 (lw_Z below #[Value.ref b] s) (entryFrame m ([Value.ref b] : List Value).toArray 4) := by
  obtain ⟨hx, hb, hr, hml, hown, hts0, hX, hbl, hlk, -⟩ := C0
  have hb : c.code = cL_law := hb
  have hts : ∀ w ∈ lw_all, w.before #[Value.ref b] s = true := fun w h => hts0 w (lw_all_tbl h)
  have C : CallFix p m c cL_law 4 s #[Value.ref b] lw_all R_law := ⟨hx, hb, hml, hown, hts⟩
  obtain ⟨c0_, iS0, hKn0⟩ := u_known (C := RX0) (T := TX0) (N := 10) (n := 10) hts in_X0 (hts _ q22)
  obtain ⟨c1_, iS1, hKn1⟩ := u_known (C := RX1) (T := TX1) (N := 3) (n := 3) hts in_X1 (hts _ q155)
  obtain ⟨D, hK⟩ : ∃ D : va_G, va_K D vwCl [] s := by
    refine ⟨(fun k => if k = 0 then c0_ else c1_, fun k => if k = 0 then iS0 else iS1), fun k q hq => ?_, fun k q hq => by simp at hq⟩
    match k, hq with
    | 0, hq => cases hq; exact hKn0
    | 1, hq => cases hq; exact hKn1
    | k + 2, hq => simp [vwCl] at hq
  obtain ⟨A, hA, hA2⟩ : ∃ A : Nat → Prop, (∀ q, s.heap.size ≤ q → A q) ∧ (∀ q, A q → s.heap.size ≤ q) := ⟨fun q => s.heap.size ≤ q, fun _ h => h, fun _ h => h⟩
  have hbA : ¬ A b := fun h => absurd (hA2 b h) (by omega)
  have hP : va_P D vwCl [] s.heap := fun k q h => by simp at h
  have hD : va_D A [] := ⟨fun i j p q h => by simp at h, fun k q h => by simp at h⟩
  have hS : va_S A s.heap s.heap [] := va_S.rf
  have hl := lv_entry ([.ref b]) (n := 4) (Nat.le_of_ble_eq_true rfl)
  rw [lg_entry_eq]
  generalize (lg_sl ([.ref b]) ++ List.replicate (4 - (lg_sl ([.ref b])).length) Slot.unset).toArray = ls at hl ⊢
  have hl : lv_has ls 4 [(0, .ref b)] := hl
  refine va_new (ci := 0) (fs := [.null, .null, .null, .null, .null, .null, .int 0, .null, .null, .null]) (C := RX0) (T := TX0) (N := 10) hx hb hts in_X0 tyX0 tyX0_ok hown (hts _ q21) (hts _ q22) (hts _ q19) hK hP hD hS hA rfl (fun j hj => match j, hj with | 0, _ => rfl | 1, _ => rfl | 2, _ => rfl | 3, _ => rfl | 4, _ => rfl | 5, _ => rfl | 6, _ => rfl | 7, _ => rfl | 8, _ => rfl | 9, _ => rfl | n + 10, h => absurd h (by omega)) (Nat.le_of_ble_eq_true rfl) (Nat.le_of_ble_eq_true rfl) dL_law_0 (fun qE H hP hD hS => ?_)
  have hZ : gZ D A s.heap ([(qE, .inr (0, [.null, .null, .null, .null, .null, .null, .int 0, .null, .null, .null]))] ++ []) H [] := ⟨hP, hD, hS⟩
  refine W.widen (k := 1) (n := 10) (Nat.le_of_ble_eq_true rfl) (Nat.le_of_ble_eq_true rfl) ?_
  refine lv_dup hx hb dL_law_3 rfl ?_
  have hF := gF_of (adr := [qE]) rfl hZ hA
  refine va_callv (va_runI (As := []) (rest := [.ref qE]) C (e_init l D qE H.size) (cwI 0 hts (lw_meth q25) rfl rfl rfl (hts _ q19) (hts _ q23) (hts _ q24) rfl (by decide +kernel) ⟨Nat.le_of_ble_eq_true rfl, Nat.le_of_ble_eq_true rfl⟩) ⟨fun a U g mk q => by obtain ⟨q0, q1, qP, qK, qD⟩ := q; exact ⟨q0, q1, qP, va_K.moved (u := U) (U := U.calling g mk a) (Vm.Alike.refl U.vm) qK, qD⟩, fun U hU hW => ⟨rfl, by rw [hU], by rw [hU]; exact hP, va_K.moved hW.alike hK, hD.weaken (fun _ _ _ _ => trivial)⟩⟩ rfl rfl hl.1 rfl (lv_room (Nat.le_of_ble_eq_true rfl)) dL_law_4 ⟨Nat.le_of_ble_eq_true rfl, Nat.le_of_ble_eq_true rfl⟩) hS (fun q _ h => hF q h) (fun q h => hF q h) (fun u t H1 locs1 ht hvm hpost hB hle hk hS1 => ?_)
  obtain ⟨a, d⟩ := u
  obtain ⟨hP1, hK1, hD1⟩ := hB
  obtain rfl : a 0 = qE := hpost
  rw [ht] at hP1
  have hKE : va_K D vwCl (tyE d) s := va_K.moved hvm.symm hK1
  have hZ : gZ D A s.heap (eW a d zF zF zF zF zF zF zF zF zF (-1) ++ []) H1 locs1 := gZ_call (adr := [a 0]) rfl hZ hA hP1 hD1 hk hS1
  rw [List.append_nil] at hZ
  refine W.widen (k := 10) (n := 398) (Nat.le_of_ble_eq_true rfl) (Nat.le_of_ble_eq_true rfl) ?_
  refine lv_astore_n (lv' := [(1, .ref (a 0)), (0, .ref b)]) hx hb dL_law_7 rfl hl (by decide) rfl (fun ls hl => ?_)
  refine va_new (ci := 1) (fs := [.null, .null, .null]) (C := RX1) (T := TX1) (N := 3) hx hb hts in_X1 tyX1 tyX1_ok hown (hts _ q154) (hts _ q155) (hts _ q20) hK hZ.1 hZ.2.1 hZ.2.2 hA rfl (fun j hj => match j, hj with | 0, _ => rfl | 1, _ => rfl | 2, _ => rfl | n + 3, h => absurd h (by omega)) (Nat.le_of_ble_eq_true rfl) (Nat.le_of_ble_eq_true rfl) dL_law_8 (fun qM H hP hD hS => ?_)
  have hZ : gZ D A s.heap ([(qM, .inr (1, [.null, .null, .null]))] ++ eW a d zF zF zF zF zF zF zF zF zF (-1)) H locs1 := gZ_swap ⟨hP, hD, hS⟩
  refine W.widen (k := 11) (n := 401) (Nat.le_of_ble_eq_true rfl) (Nat.le_of_ble_eq_true rfl) ?_
  refine lv_dup hx hb dL_law_11 rfl ?_
  have hF := gF_of (adr := [qM]) rfl hZ hA
  have hPc := (gP_split hZ.1).1
  have hDc := (gD_split hZ.2.1).1
  refine va_callv (va_runI (As := []) (rest := [.ref qM]) C (m_init l D qM H.size) (cwI 0 hts (lw_meth q158) rfl rfl rfl (hts _ q20) (hts _ q156) (hts _ q157) rfl (by decide +kernel) ⟨Nat.le_of_ble_eq_true rfl, Nat.le_of_ble_eq_true rfl⟩) ⟨fun a U g mk q => by obtain ⟨q0, q1, qP, qK, qD⟩ := q; exact ⟨q0, q1, qP, va_K.moved (u := U) (U := U.calling g mk a) (Vm.Alike.refl U.vm) qK, qD⟩, fun U hU hW => ⟨rfl, by rw [hU], by rw [hU]; exact hPc, va_K.moved hW.alike hK, hDc.weaken (fun _ _ _ _ => trivial)⟩⟩ rfl rfl hl.1 rfl (lv_room (Nat.le_of_ble_eq_true rfl)) dL_law_12 ⟨Nat.le_of_ble_eq_true rfl, Nat.le_of_ble_eq_true rfl⟩) hZ.2.2 (fun q _ h => hF q h) (fun q h => hF q h) (fun u t H1 locs1 ht hvm hpost hB hle hk hS1 => ?_)
  obtain ⟨a', d'⟩ := u
  obtain ⟨hP1, hK1, hD1⟩ := hB
  obtain rfl : a' 0 = qM := hpost
  rw [ht] at hP1
  have hKM : va_K D vwCl (tyM d') s := va_K.moved hvm.symm hK1
  have hZ := gZ_swap (gZ_call (adr := [a' 0]) rfl hZ hA hP1 hD1 hk hS1)
  refine W.widen (k := 14) (n := 619) (Nat.le_of_ble_eq_true rfl) (Nat.le_of_ble_eq_true rfl) ?_
  refine lv_astore_n (lv' := [(2, .ref (a' 0)), (1, .ref (a 0)), (0, .ref b)]) hx hb dL_law_15 rfl hl (by decide) rfl (fun ls hl => ?_)
  refine lv_iconst (v := nI 0) hx hb dL_law_16 (by decide +kernel) ?_
  refine lv_istore_n (lv' := [(3, .int (nI 0)), (2, .ref (a' 0)), (1, .ref (a 0)), (0, .ref b)]) hx hb dL_law_17 rfl hl (by decide) rfl (fun ls hl => ?_)
  exact law_loop a a' d d' hL C hr hlk hX hbl hbA hA hA2 hKE hKM hZ hl ⟨zF, zF, zF, zF, zF, zF, zF, (-1), rfl, EI_start⟩ ⟨zF, rfl⟩
end
section
set_option maxHeartbeats 4000000 in
theorem lw_walk (l : Launch) (b : Addr) (xs : List Int32) : MetFree l x (headSpec (Jvm.Cond.code x code maxLocals ret :: tables_1) room_1) (lw_P b xs) (fun _ _ _ _ _ => True) lw_Q := by
  refine MetFree.of_bodyS (code := code) (maxLocals := maxLocals) (ret := ret) (by decide) ?_ ?_
  · intro args s m h hn
    obtain ⟨meth, c, h1, h2, h3, h4, h5, h6, -, -⟩ := Cond.code_spec hn (atoms_spec (ws := Jvm.Cond.code x code maxLocals ret :: tables_1) h _ List.mem_cons_self)
    exact ⟨meth, c, h1, h2, h3, h4, h5, h6⟩
  · intro p e s m args below meth c s₁ B hml0 hP _
    obtain ⟨rfl, hx, hbd, hgv⟩ := hP
    obtain ⟨scr, harrAt, hlist, hof, hsmall⟩ := hx
    obtain ⟨hcb, hkn, -, -⟩ := State.arrayAt?_spec harrAt
    have hown : s.vm.findClass R_law = some m.cls := findClass_of_methodNamed B.named
    have hts0 : ∀ c ∈ (Jvm.Cond.code x code maxLocals ret :: tables_1), c.before #[Value.ref b] s = true := atoms_spec (ws := Jvm.Cond.code x code maxLocals ret :: tables_1) B.pre
    have hts : ∀ w ∈ lw_tbl, w.before #[Value.ref b] s = true := k2_hts_sels lw_privs (fun w hw => hts0 w (List.mem_cons_of_mem _ hw)) lw_privs_ok
    have hml : c.maxLocals = 4 := B.maxLocals_eq (hts0 _ List.mem_cons_self)
    have X₀ : Stand p l e room_1 s m #[Value.ref b] below meth c s₁ [] 0 0 := Stand.of_body B
    have hh0 : s₁.heap = s.heap := by rw [B.state]; rfl
    have hsz : scr.slots.size = xs.length := by rw [← Array.length_toList, hlist, List.length_map]
    have hval : ∀ j : Nat, j < xs.length → scr.slots[j]? = some (.int (xs.getD j 0)) := fun j hj => by
      rw [← Array.getElem?_toList, hlist]
      simp [hj]
    have hbl : b < s.heap.size := (Array.getElem?_eq_some_iff.mp hcb).1
    have hX : va_X b xs.length (fun j => xs.getD j 0) s s.heap := ⟨scr, hcb, hof, hkn, hsz, hval⟩
    have K : W p l e room_1 s m #[Value.ref b] below meth c s₁.heap [] 0 0 (lw_Z below #[Value.ref b] s) (entryFrame m ([Value.ref b] : List Value).toArray 4) := by
      rw [hh0]
      exact whole_start l hbd ⟨B.exec, B.bytes, B.returns, hml, hown, hts, hX, hbl, B.notSynchronized, hgv⟩
    obtain ⟨t, a1, o, b1, b2, b3⟩ := K s₁ rfl X₀
    exact ⟨t, o, a1, b1, b2, b3⟩
theorem lw_pre_spec {args : Array Value} {s : State} (h : (Jvm.Cond.and given_1 narrow_1).before args s = true) (hr : rest_1_c.before args s = true) : ∃ (b : Addr) (xs : List Int32), lw_P b xs args s := by
  have hs := flat_of_before _ h
  have hq := flat_of_before _ hr
  have hc : (Cond.count 1).before args s = true := hs _ (by decide +kernel)
  have harr : (Cond.arrayOf (.arg 0) .int).before args s = true := hs _ (by decide +kernel)
  have hle : (Cond.le (.length (.arg 0)) (.int 320)).before args s = true := hs _ (by decide +kernel)
  have hlen : (Cond.isInt (.length (.arg 0))).before args s = true := hq _ (by decide +kernel)
  have hall : (Cond.all (.arg 0) (.isInt (.elem (.arg 0) (.index 0)))).before args s = true := hq _ (by decide +kernel)
  obtain ⟨b, xs, hb, hx⟩ := State.ints_of_pre rfl harr hlen hall
  have hsm : xs.length < 2 ^ 31 := hx.choose_spec.2.2.2
  have hev : (Term.length (.arg 0)).eval args s none [] s = some (.int xs.length.toInt32) := hx.length_eval hb
  have hv := Cond.le_ints hev (show (Term.int 320).eval args s none [] s = some (.int 320) from rfl)
  have hd : xs.length.toInt32 ≤ 320 := by
    simpa [Cond.before, Cond.holds, hv] using hle
  have hN : xs.length ≤ 320 := (Int32.ofNat_le_ofNat hsm (by decide)).mp (show Int32.ofNat xs.length ≤ Int32.ofNat 320 from hd)
  exact ⟨b, xs, Cond.one_arg hc (show args[0]? = some (.ref b) from hb), hx, hN, h⟩
theorem lw_comes (l : Launch) : Comes l x (Jvm.Cond.code x code maxLocals ret :: tables_1) room_1 (fun tb e args s => Calls_1 tb e args s ∧ rest_1 tb e args s ∧ Pre_1 tb e args s)
    (fun _ _ args s o t => lw_Q args s o t) := by
  intro p e ha hc hk s m args below hf hfit hheap happ hpre
  obtain ⟨b, xs, hP⟩ := lw_pre_spec hpre.2.2 hpre.2.1
  obtain ⟨k, o, h1, h2, h3, hQ⟩ := lw_walk l b xs p e ha hc hk s m args below hf ((Spec.applies_iff_loose hf).mp happ).1 hP trivial
  exact ⟨k, o, h1, h2, h3, hQ⟩
theorem lw_frame {s t : State} {o : Outcome} {args : Array Value} (h : Framed s o t [] 600000 7290000) :
    Framed s o t (fieldLocs frame_1_writes args s ++ arrayLocs frame_1_arrays args s ++ staticLocs frame_1_statics s) 600000 7290000 := h
theorem lw_limb (L : Cond) (hL : ∀ (args : Array Value) (s t : State), L.after args s (.returned (some (.int 1))) t = true) :
    ArmFor flags0 classFile x code maxLocals ret World_1 tables_1 room_1 Calls_1 rest_1 Pre_1
      (fun tb e a s o t => postC L tb e a s o t ∧ Framed s o t (fieldLocs frame_1_writes a s ++ arrayLocs frame_1_arrays a s ++ staticLocs frame_1_statics s) 600000 7290000) := by
  intro l _ _ _ p e ha hc hk s m args below hf hfit hheap happ hpre
  obtain ⟨k, o, h1, h2, h3, rfl, hF⟩ := lw_comes l p e ha hc hk s m args below hf hfit hheap happ hpre
  exact ⟨k, _, h1, h2, h3, hL args s _, lw_frame hF⟩
theorem i_vc : Claimed_1_1 ∧ Claimed_1_2 := ⟨lw_limb limb_1_1 (fun args s t => by simp [limb_1_1, Cond.after, Cond.holds, Cond.value]), lw_limb limb_1_2 (fun args s t => Cond.after_iff.mpr (by
  first | (rw [show limb_1_2 = Cond.eq .result (.int 1) from rfl, Cond.eq_ints (x := 1) (y := 1) rfl rfl]; simp; done) | (simp [limb_1_2, Cond.value, Term.eval]; done)))⟩
end
