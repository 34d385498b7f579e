section
-- ===== PART A: goes FIRST, ahead of the names: the tables' words, and 'selects' of the private methods out of them =====
/-- a private method of a class that the tables say can be made, by its rows of tables_1 -/
def lw_okq (q : MethodName × Nat) : Prop := (q.1.cls ≠ "java/lang/invoke/MethodHandle" ∧ q.1.cls ≠ "java/lang/invoke/VarHandle") ∧ Cond.instantiable q.1.cls q.2 ∈ tables_1 ∧ Cond.privateMethod q.1 ∈ tables_1 ∧ Cond.instanceMethod q.1 ∈ tables_1
set_option maxRecDepth 100000
theorem lw_t1 {w : Cond} (h : w ∈ tables_1_1) : w ∈ tables_1 := List.mem_append_left _ h
theorem lw_t2 {w : Cond} (h : w ∈ tables_1_2) : w ∈ tables_1 := List.mem_append_right _ h
theorem lw_p0 : lw_okq (⟨"JoinTrees", "isSet", "(I)Z"⟩, 18) := ⟨⟨by decide +kernel, by decide +kernel⟩, lw_t1 (List.mem_of_getElem? (i := 4) rfl), lw_t1 (List.mem_of_getElem? (i := 75) rfl), lw_t1 (List.mem_of_getElem? (i := 76) rfl)⟩
theorem lw_p1 : lw_okq (⟨"JoinTrees", "splitTree", "(II)V"⟩, 18) := ⟨⟨by decide +kernel, by decide +kernel⟩, lw_t1 (List.mem_of_getElem? (i := 4) rfl), lw_t1 (List.mem_of_getElem? (i := 83) rfl), lw_t1 (List.mem_of_getElem? (i := 84) rfl)⟩
theorem lw_p2 : lw_okq (⟨"JoinTrees", "pushWay", "(IZ)V"⟩, 18) := ⟨⟨by decide +kernel, by decide +kernel⟩, lw_t1 (List.mem_of_getElem? (i := 4) rfl), lw_t1 (List.mem_of_getElem? (i := 87) rfl), lw_t1 (List.mem_of_getElem? (i := 88) rfl)⟩
theorem lw_p3 : lw_okq (⟨"JoinTrees", "join", "(III)I"⟩, 18) := ⟨⟨by decide +kernel, by decide +kernel⟩, lw_t1 (List.mem_of_getElem? (i := 4) rfl), lw_t1 (List.mem_of_getElem? (i := 91) rfl), lw_t1 (List.mem_of_getElem? (i := 92) rfl)⟩
theorem lw_p4 : lw_okq (⟨"JoinTrees", "weight", "(I)I"⟩, 18) := ⟨⟨by decide +kernel, by decide +kernel⟩, lw_t1 (List.mem_of_getElem? (i := 4) rfl), lw_t1 (List.mem_of_getElem? (i := 95) rfl), lw_t1 (List.mem_of_getElem? (i := 96) rfl)⟩
theorem lw_p5 : lw_okq (⟨"JoinTrees", "balanced", "(I)I"⟩, 18) := ⟨⟨by decide +kernel, by decide +kernel⟩, lw_t1 (List.mem_of_getElem? (i := 4) rfl), lw_t1 (List.mem_of_getElem? (i := 99) rfl), lw_t1 (List.mem_of_getElem? (i := 100) rfl)⟩
theorem lw_p6 : lw_okq (⟨"JoinTrees", "update", "(I)V"⟩, 18) := ⟨⟨by decide +kernel, by decide +kernel⟩, lw_t1 (List.mem_of_getElem? (i := 4) rfl), lw_t1 (List.mem_of_getElem? (i := 103) rfl), lw_t1 (List.mem_of_getElem? (i := 104) rfl)⟩
theorem lw_p7 : lw_okq (⟨"JoinTrees", "rotatedRight", "(I)I"⟩, 18) := ⟨⟨by decide +kernel, by decide +kernel⟩, lw_t1 (List.mem_of_getElem? (i := 4) rfl), lw_t1 (List.mem_of_getElem? (i := 107) rfl), lw_t1 (List.mem_of_getElem? (i := 108) rfl)⟩
theorem lw_p8 : lw_okq (⟨"JoinTrees", "rotatedLeft", "(I)I"⟩, 18) := ⟨⟨by decide +kernel, by decide +kernel⟩, lw_t1 (List.mem_of_getElem? (i := 4) rfl), lw_t1 (List.mem_of_getElem? (i := 111) rfl), lw_t1 (List.mem_of_getElem? (i := 112) rfl)⟩
theorem lw_p9 : lw_okq (⟨"JoinTrees", "newNode", "(I)I"⟩, 18) := ⟨⟨by decide +kernel, by decide +kernel⟩, lw_t1 (List.mem_of_getElem? (i := 4) rfl), lw_t1 (List.mem_of_getElem? (i := 115) rfl), lw_t1 (List.mem_of_getElem? (i := 116) rfl)⟩
theorem lw_p10 : lw_okq (⟨"JoinTrees", "release", "(I)V"⟩, 18) := ⟨⟨by decide +kernel, by decide +kernel⟩, lw_t1 (List.mem_of_getElem? (i := 4) rfl), lw_t1 (List.mem_of_getElem? (i := 123) rfl), lw_t1 (List.mem_of_getElem? (i := 124) rfl)⟩
theorem lw_p11 : lw_okq (⟨"JoinTrees", "joinTwo", "(II)I"⟩, 18) := ⟨⟨by decide +kernel, by decide +kernel⟩, lw_t1 (List.mem_of_getElem? (i := 4) rfl), lw_t1 (List.mem_of_getElem? (i := 127) rfl), lw_t1 (List.mem_of_getElem? (i := 128) rfl)⟩
theorem lw_p12 : lw_okq (⟨"JoinTrees", "copyOf", "(I)I"⟩, 18) := ⟨⟨by decide +kernel, by decide +kernel⟩, lw_t1 (List.mem_of_getElem? (i := 4) rfl), lw_t1 (List.mem_of_getElem? (i := 148) rfl), lw_t1 (List.mem_of_getElem? (i := 149) rfl)⟩
theorem lw_p13 : lw_okq (⟨"JoinTrees", "twin", "(I)I"⟩, 18) := ⟨⟨by decide +kernel, by decide +kernel⟩, lw_t1 (List.mem_of_getElem? (i := 4) rfl), lw_t1 (List.mem_of_getElem? (i := 152) rfl), lw_t1 (List.mem_of_getElem? (i := 153) rfl)⟩
theorem lw_p14 : lw_okq (⟨"JoinTrees", "combinedEither", "(IIII)I"⟩, 18) := ⟨⟨by decide +kernel, by decide +kernel⟩, lw_t1 (List.mem_of_getElem? (i := 4) rfl), lw_t1 (List.mem_of_getElem? (i := 156) rfl), lw_t1 (List.mem_of_getElem? (i := 157) rfl)⟩
theorem lw_p15 : lw_okq (⟨"JoinTrees", "combined", "(III)I"⟩, 18) := ⟨⟨by decide +kernel, by decide +kernel⟩, lw_t1 (List.mem_of_getElem? (i := 4) rfl), lw_t1 (List.mem_of_getElem? (i := 160) rfl), lw_t1 (List.mem_of_getElem? (i := 161) rfl)⟩
def lw_privs_1 : List (MethodName × Nat) := [(⟨"JoinTrees", "isSet", "(I)Z"⟩, 18), (⟨"JoinTrees", "splitTree", "(II)V"⟩, 18), (⟨"JoinTrees", "pushWay", "(IZ)V"⟩, 18), (⟨"JoinTrees", "join", "(III)I"⟩, 18), (⟨"JoinTrees", "weight", "(I)I"⟩, 18), (⟨"JoinTrees", "balanced", "(I)I"⟩, 18), (⟨"JoinTrees", "update", "(I)V"⟩, 18), (⟨"JoinTrees", "rotatedRight", "(I)I"⟩, 18), (⟨"JoinTrees", "rotatedLeft", "(I)I"⟩, 18), (⟨"JoinTrees", "newNode", "(I)I"⟩, 18), (⟨"JoinTrees", "release", "(I)V"⟩, 18), (⟨"JoinTrees", "joinTwo", "(II)I"⟩, 18), (⟨"JoinTrees", "copyOf", "(I)I"⟩, 18), (⟨"JoinTrees", "twin", "(I)I"⟩, 18), (⟨"JoinTrees", "combinedEither", "(IIII)I"⟩, 18), (⟨"JoinTrees", "combined", "(III)I"⟩, 18)]
theorem lw_r1 : ∀ q ∈ lw_privs_1, lw_okq q := List.forall_mem_cons.mpr ⟨lw_p0, List.forall_mem_cons.mpr ⟨lw_p1, List.forall_mem_cons.mpr ⟨lw_p2, List.forall_mem_cons.mpr ⟨lw_p3, List.forall_mem_cons.mpr ⟨lw_p4, List.forall_mem_cons.mpr ⟨lw_p5, List.forall_mem_cons.mpr ⟨lw_p6, List.forall_mem_cons.mpr ⟨lw_p7, List.forall_mem_cons.mpr ⟨lw_p8, List.forall_mem_cons.mpr ⟨lw_p9, List.forall_mem_cons.mpr ⟨lw_p10, List.forall_mem_cons.mpr ⟨lw_p11, List.forall_mem_cons.mpr ⟨lw_p12, List.forall_mem_cons.mpr ⟨lw_p13, List.forall_mem_cons.mpr ⟨lw_p14, List.forall_mem_cons.mpr ⟨lw_p15, fun _ h => absurd h List.not_mem_nil⟩⟩⟩⟩⟩⟩⟩⟩⟩⟩⟩⟩⟩⟩⟩⟩
theorem lw_p16 : lw_okq (⟨"JoinTrees", "withNothing", "(III)I"⟩, 18) := ⟨⟨by decide +kernel, by decide +kernel⟩, lw_t1 (List.mem_of_getElem? (i := 4) rfl), lw_t1 (List.mem_of_getElem? (i := 164) rfl), lw_t1 (List.mem_of_getElem? (i := 165) rfl)⟩
theorem lw_p17 : lw_okq (⟨"JoinTrees", "releaseTree", "(I)V"⟩, 18) := ⟨⟨by decide +kernel, by decide +kernel⟩, lw_t1 (List.mem_of_getElem? (i := 4) rfl), lw_t1 (List.mem_of_getElem? (i := 168) rfl), lw_t1 (List.mem_of_getElem? (i := 169) rfl)⟩
theorem lw_p18 : lw_okq (⟨"JoinTrees", "finished", "(III)I"⟩, 18) := ⟨⟨by decide +kernel, by decide +kernel⟩, lw_t1 (List.mem_of_getElem? (i := 4) rfl), lw_t1 (List.mem_of_getElem? (i := 172) rfl), lw_t1 (List.mem_of_getElem? (i := 173) rfl)⟩
theorem lw_p19 : lw_okq (⟨"JoinTreesModel", "isSet", "(I)Z"⟩, 4) := ⟨⟨by decide +kernel, by decide +kernel⟩, lw_t1 (List.mem_of_getElem? (i := 202) rfl), lw_t1 (List.mem_of_getElem? (i := 225) rfl), lw_t1 (List.mem_of_getElem? (i := 226) rfl)⟩
theorem lw_p20 : lw_okq (⟨"JoinTreesModel", "collect", "(IIII)V"⟩, 4) := ⟨⟨by decide +kernel, by decide +kernel⟩, lw_t1 (List.mem_of_getElem? (i := 202) rfl), lw_t2 (List.mem_of_getElem? (i := 19) rfl), lw_t2 (List.mem_of_getElem? (i := 20) rfl)⟩
theorem lw_p21 : lw_okq (⟨"JoinTreesModel", "collected", "(I)Z"⟩, 4) := ⟨⟨by decide +kernel, by decide +kernel⟩, lw_t1 (List.mem_of_getElem? (i := 202) rfl), lw_t2 (List.mem_of_getElem? (i := 23) rfl), lw_t2 (List.mem_of_getElem? (i := 24) rfl)⟩
theorem lw_p22 : lw_okq (⟨"JoinTreesModel", "belongs", "(IZZ)Z"⟩, 4) := ⟨⟨by decide +kernel, by decide +kernel⟩, lw_t1 (List.mem_of_getElem? (i := 202) rfl), lw_t2 (List.mem_of_getElem? (i := 27) rfl), lw_t2 (List.mem_of_getElem? (i := 28) rfl)⟩
theorem lw_p23 : lw_okq (⟨"JoinTreesModel", "store", "(I)V"⟩, 4) := ⟨⟨by decide +kernel, by decide +kernel⟩, lw_t1 (List.mem_of_getElem? (i := 202) rfl), lw_t2 (List.mem_of_getElem? (i := 31) rfl), lw_t2 (List.mem_of_getElem? (i := 32) rfl)⟩
def lw_privs_2 : List (MethodName × Nat) := [(⟨"JoinTrees", "withNothing", "(III)I"⟩, 18), (⟨"JoinTrees", "releaseTree", "(I)V"⟩, 18), (⟨"JoinTrees", "finished", "(III)I"⟩, 18), (⟨"JoinTreesModel", "isSet", "(I)Z"⟩, 4), (⟨"JoinTreesModel", "collect", "(IIII)V"⟩, 4), (⟨"JoinTreesModel", "collected", "(I)Z"⟩, 4), (⟨"JoinTreesModel", "belongs", "(IZZ)Z"⟩, 4), (⟨"JoinTreesModel", "store", "(I)V"⟩, 4)]
theorem lw_r2 : ∀ q ∈ lw_privs_2, lw_okq q := List.forall_mem_cons.mpr ⟨lw_p16, List.forall_mem_cons.mpr ⟨lw_p17, List.forall_mem_cons.mpr ⟨lw_p18, List.forall_mem_cons.mpr ⟨lw_p19, List.forall_mem_cons.mpr ⟨lw_p20, List.forall_mem_cons.mpr ⟨lw_p21, List.forall_mem_cons.mpr ⟨lw_p22, List.forall_mem_cons.mpr ⟨lw_p23, fun _ h => absurd h List.not_mem_nil⟩⟩⟩⟩⟩⟩⟩⟩
def lw_privs : List (MethodName × Nat) := lw_privs_1 ++ (lw_privs_2)
def lw_tbl : List Cond := k2_sels lw_privs ++ tables_1
theorem lw_privs_ok : ∀ q ∈ lw_privs, lw_okq q := by
  show ∀ q ∈ lw_privs_1 ++ (lw_privs_2), lw_okq q
  exact List.forall_mem_append.mpr ⟨lw_r1, lw_r2⟩
-- ===== ONE list of words for every method: the tables' words that hold all through a run =====
def lw_all : List Cond := lw_tbl.filter goodWord
/-- a word of the tables by its place: claim/WORDS.tsv -/
theorem lw_w {w : Cond} (i : Nat) (h : lw_tbl[i]? = some w) (g : goodWord w = true) : w ∈ lw_all := List.mem_filter.mpr ⟨List.mem_of_getElem? h, g⟩
theorem lw_all_tbl {w : Cond} (h : w ∈ lw_all) : w ∈ lw_tbl := (List.mem_filter.mp h).1
theorem lw_self : GoodIn lw_all lw_all := fun w h => ⟨h, good_of_word (List.mem_filter.mp h).2⟩
/-- a class's field words, by their places -/
theorem lw_in (ws : List Cond) (ps : List Nat) (hp : ws = ps.filterMap (fun i => lw_tbl[i]?)) (hg : ws.all goodWord = true) : ∀ w ∈ ws, w ∈ lw_all := by
  intro w h
  have h1 := List.all_eq_true.mp hg w h
  rw [hp] at h
  obtain ⟨i, -, hi⟩ := List.mem_filterMap.mp h
  exact lw_w i hi h1
/-- the words of a contract for the method y with code b, L locals, answer r -/
abbrev ws_ (y : MethodName) (b : ByteArray) (L : Nat) (r : Option FieldType) : List Cond := Cond.code y b L r :: lw_all
theorem lw_meth {y : MethodName} {b : ByteArray} {L : Nat} {r : Option FieldType} (h : Cond.code y b L r ∈ lw_all) : GoodIn lw_all (ws_ y b L r) := by
  intro w hw
  rcases List.mem_cons.mp hw with e | e
  · rw [e]
    exact lw_self _ h
  · exact lw_self _ e
theorem lw_app {a c : List Cond} (ha : ∀ w ∈ a, w ∈ lw_all) (hc : GoodIn lw_all c) : GoodIn lw_all (a ++ c) := by
  intro w hw
  rcases List.mem_append.mp hw with e | e
  · exact lw_self w (ha w e)
  · exact hc w e
/-- what a call through an object asks: cwV n hts (lw_V ..) -/
theorem lw_V {own : String} {idx : Nat} {C : String} {y : MethodName} {b : ByteArray} {L : Nat} {r : Option FieldType} (h1 : Cond.methodLink own idx y ∈ lw_all) (h2 : Cond.instanceMethod y ∈ lw_all) (h3 : Cond.selects C y y ∈ lw_all) (h4 : Cond.initialized C ∈ lw_all) (h5 : Cond.code y b L r ∈ lw_all) : GoodIn lw_all (wsV own idx C y (ws_ y b L r)) := by
  refine lw_app ?_ (lw_meth h5)
  intro w hw
  simp only [List.mem_cons, List.not_mem_nil, or_false] at hw
  rcases hw with e | e | e | e
  · rw [e]; exact h1
  · rw [e]; exact h2
  · rw [e]; exact h3
  · rw [e]; exact h4
/-- what a static call asks: va_cwS n hts (lw_S ..) -/
theorem lw_S {own : String} {idx : Nat} {y : MethodName} {b : ByteArray} {L : Nat} {r : Option FieldType} (h1 : Cond.methodLink own idx y ∈ lw_all) (h2 : Cond.static y ∈ lw_all) (h3 : Cond.initialized y.cls ∈ lw_all) (h4 : Cond.code y b L r ∈ lw_all) : GoodIn lw_all (va_wsS own idx y (ws_ y b L r)) := by
  refine lw_app ?_ (lw_meth h4)
  intro w hw
  simp only [List.mem_cons, List.not_mem_nil, or_false] at hw
  rcases hw with e | e | e
  · rw [e]; exact h1
  · rw [e]; exact h2
  · rw [e]; exact h3
/-- the words of a contract for a method WITH HANDLERS (hh: its table) -/
abbrev wsW_ (y : MethodName) (b : ByteArray) (L : Nat) (r : Option FieldType) (hh : List (Nat × Nat × Nat × Nat)) : List Cond := Cond.codeWith y b L r hh :: lw_all
theorem lw_methW {y : MethodName} {b : ByteArray} {L : Nat} {r : Option FieldType} {hh : List (Nat × Nat × Nat × Nat)} (h : Cond.codeWith y b L r hh ∈ lw_all) : GoodIn lw_all (wsW_ y b L r hh) := by
  intro w hw
  rcases List.mem_cons.mp hw with e | e
  · rw [e]
    exact lw_self _ h
  · exact lw_self _ e
/-- any list of words by their places (lw_in), good -/
theorem lw_good {ws : List Cond} (h : ∀ w ∈ ws, w ∈ lw_all) : GoodIn lw_all ws := fun w hw => lw_self w (h w hw)
/-- what a call of a method with handlers asks: vx_cwVW n hts (lw_VW ..), vx_cwSW n hts (lw_SW ..) -/
theorem lw_VW {own : String} {idx : Nat} {C : String} {y : MethodName} {b : ByteArray} {L : Nat} {r : Option FieldType} {hh : List (Nat × Nat × Nat × Nat)} (h1 : Cond.methodLink own idx y ∈ lw_all) (h2 : Cond.instanceMethod y ∈ lw_all) (h3 : Cond.selects C y y ∈ lw_all) (h4 : Cond.initialized C ∈ lw_all) (h5 : Cond.codeWith y b L r hh ∈ lw_all) : GoodIn lw_all (wsV own idx C y (wsW_ y b L r hh)) := by
  refine lw_app ?_ (lw_methW h5)
  intro w hw
  simp only [List.mem_cons, List.not_mem_nil, or_false] at hw
  rcases hw with e | e | e | e
  · rw [e]; exact h1
  · rw [e]; exact h2
  · rw [e]; exact h3
  · rw [e]; exact h4
theorem lw_SW {own : String} {idx : Nat} {y : MethodName} {b : ByteArray} {L : Nat} {r : Option FieldType} {hh : List (Nat × Nat × Nat × Nat)} (h1 : Cond.methodLink own idx y ∈ lw_all) (h2 : Cond.static y ∈ lw_all) (h3 : Cond.initialized y.cls ∈ lw_all) (h4 : Cond.codeWith y b L r hh ∈ lw_all) : GoodIn lw_all (va_wsS own idx y (wsW_ y b L r hh)) := by
  refine lw_app ?_ (lw_methW h4)
  intro w hw
  simp only [List.mem_cons, List.not_mem_nil, or_false] at hw
  rcases hw with e | e | e
  · rw [e]; exact h1
  · rw [e]; exact h2
  · rw [e]; exact h3
/-- a word by its place in its run of the tables -/
theorem lw_at {r : List Cond} (hr : ∀ w ∈ r, w ∈ lw_tbl) {w : Cond} (i : Nat) (h : r[i]? = some w) : w ∈ lw_tbl := hr w (List.mem_of_getElem? h)
theorem lw_g {w : Cond} (h : w ∈ lw_tbl) (g : goodWord w = true) : w ∈ lw_all := List.mem_filter.mpr ⟨h, g⟩
theorem lw_ms : ∀ w ∈ k2_sels lw_privs, w ∈ lw_tbl := fun w h => show w ∈ k2_sels lw_privs ++ tables_1 from List.mem_append_left _ h
theorem lw_m1 : ∀ w ∈ tables_1_1, w ∈ lw_tbl := fun w h => show w ∈ k2_sels lw_privs ++ tables_1 from List.mem_append_right (k2_sels lw_privs) (show w ∈ tables_1 from List.mem_append_left _ h)
theorem lw_m2 : ∀ w ∈ tables_1_2, w ∈ lw_tbl := fun w h => show w ∈ k2_sels lw_privs ++ tables_1 from List.mem_append_right (k2_sels lw_privs) (show w ∈ tables_1 from List.mem_append_right _ h)
theorem qs0 : (Cond.selects "JoinTrees" ⟨"JoinTrees", "isSet", "(I)Z"⟩ ⟨"JoinTrees", "isSet", "(I)Z"⟩) ∈ lw_all := lw_g (lw_at lw_ms 0 rfl) rfl
theorem qs1 : (Cond.selects "JoinTrees" ⟨"JoinTrees", "splitTree", "(II)V"⟩ ⟨"JoinTrees", "splitTree", "(II)V"⟩) ∈ lw_all := lw_g (lw_at lw_ms 1 rfl) rfl
theorem qs2 : (Cond.selects "JoinTrees" ⟨"JoinTrees", "pushWay", "(IZ)V"⟩ ⟨"JoinTrees", "pushWay", "(IZ)V"⟩) ∈ lw_all := lw_g (lw_at lw_ms 2 rfl) rfl
theorem qs3 : (Cond.selects "JoinTrees" ⟨"JoinTrees", "join", "(III)I"⟩ ⟨"JoinTrees", "join", "(III)I"⟩) ∈ lw_all := lw_g (lw_at lw_ms 3 rfl) rfl
theorem qs4 : (Cond.selects "JoinTrees" ⟨"JoinTrees", "weight", "(I)I"⟩ ⟨"JoinTrees", "weight", "(I)I"⟩) ∈ lw_all := lw_g (lw_at lw_ms 4 rfl) rfl
theorem qs5 : (Cond.selects "JoinTrees" ⟨"JoinTrees", "balanced", "(I)I"⟩ ⟨"JoinTrees", "balanced", "(I)I"⟩) ∈ lw_all := lw_g (lw_at lw_ms 5 rfl) rfl
theorem qs6 : (Cond.selects "JoinTrees" ⟨"JoinTrees", "update", "(I)V"⟩ ⟨"JoinTrees", "update", "(I)V"⟩) ∈ lw_all := lw_g (lw_at lw_ms 6 rfl) rfl
theorem qs7 : (Cond.selects "JoinTrees" ⟨"JoinTrees", "rotatedRight", "(I)I"⟩ ⟨"JoinTrees", "rotatedRight", "(I)I"⟩) ∈ lw_all := lw_g (lw_at lw_ms 7 rfl) rfl
theorem qs8 : (Cond.selects "JoinTrees" ⟨"JoinTrees", "rotatedLeft", "(I)I"⟩ ⟨"JoinTrees", "rotatedLeft", "(I)I"⟩) ∈ lw_all := lw_g (lw_at lw_ms 8 rfl) rfl
theorem qs9 : (Cond.selects "JoinTrees" ⟨"JoinTrees", "newNode", "(I)I"⟩ ⟨"JoinTrees", "newNode", "(I)I"⟩) ∈ lw_all := lw_g (lw_at lw_ms 9 rfl) rfl
theorem qs10 : (Cond.selects "JoinTrees" ⟨"JoinTrees", "release", "(I)V"⟩ ⟨"JoinTrees", "release", "(I)V"⟩) ∈ lw_all := lw_g (lw_at lw_ms 10 rfl) rfl
theorem qs11 : (Cond.selects "JoinTrees" ⟨"JoinTrees", "joinTwo", "(II)I"⟩ ⟨"JoinTrees", "joinTwo", "(II)I"⟩) ∈ lw_all := lw_g (lw_at lw_ms 11 rfl) rfl
theorem qs12 : (Cond.selects "JoinTrees" ⟨"JoinTrees", "copyOf", "(I)I"⟩ ⟨"JoinTrees", "copyOf", "(I)I"⟩) ∈ lw_all := lw_g (lw_at lw_ms 12 rfl) rfl
theorem qs13 : (Cond.selects "JoinTrees" ⟨"JoinTrees", "twin", "(I)I"⟩ ⟨"JoinTrees", "twin", "(I)I"⟩) ∈ lw_all := lw_g (lw_at lw_ms 13 rfl) rfl
theorem qs14 : (Cond.selects "JoinTrees" ⟨"JoinTrees", "combinedEither", "(IIII)I"⟩ ⟨"JoinTrees", "combinedEither", "(IIII)I"⟩) ∈ lw_all := lw_g (lw_at lw_ms 14 rfl) rfl
theorem qs15 : (Cond.selects "JoinTrees" ⟨"JoinTrees", "combined", "(III)I"⟩ ⟨"JoinTrees", "combined", "(III)I"⟩) ∈ lw_all := lw_g (lw_at lw_ms 15 rfl) rfl
theorem qs16 : (Cond.selects "JoinTrees" ⟨"JoinTrees", "withNothing", "(III)I"⟩ ⟨"JoinTrees", "withNothing", "(III)I"⟩) ∈ lw_all := lw_g (lw_at lw_ms 16 rfl) rfl
theorem qs17 : (Cond.selects "JoinTrees" ⟨"JoinTrees", "releaseTree", "(I)V"⟩ ⟨"JoinTrees", "releaseTree", "(I)V"⟩) ∈ lw_all := lw_g (lw_at lw_ms 17 rfl) rfl
theorem qs18 : (Cond.selects "JoinTrees" ⟨"JoinTrees", "finished", "(III)I"⟩ ⟨"JoinTrees", "finished", "(III)I"⟩) ∈ lw_all := lw_g (lw_at lw_ms 18 rfl) rfl
theorem qs19 : (Cond.selects "JoinTreesModel" ⟨"JoinTreesModel", "isSet", "(I)Z"⟩ ⟨"JoinTreesModel", "isSet", "(I)Z"⟩) ∈ lw_all := lw_g (lw_at lw_ms 19 rfl) rfl
theorem qs20 : (Cond.selects "JoinTreesModel" ⟨"JoinTreesModel", "collect", "(IIII)V"⟩ ⟨"JoinTreesModel", "collect", "(IIII)V"⟩) ∈ lw_all := lw_g (lw_at lw_ms 20 rfl) rfl
theorem qs21 : (Cond.selects "JoinTreesModel" ⟨"JoinTreesModel", "collected", "(I)Z"⟩ ⟨"JoinTreesModel", "collected", "(I)Z"⟩) ∈ lw_all := lw_g (lw_at lw_ms 21 rfl) rfl
theorem qs22 : (Cond.selects "JoinTreesModel" ⟨"JoinTreesModel", "belongs", "(IZZ)Z"⟩ ⟨"JoinTreesModel", "belongs", "(IZZ)Z"⟩) ∈ lw_all := lw_g (lw_at lw_ms 22 rfl) rfl
theorem qs23 : (Cond.selects "JoinTreesModel" ⟨"JoinTreesModel", "store", "(I)V"⟩ ⟨"JoinTreesModel", "store", "(I)V"⟩) ∈ lw_all := lw_g (lw_at lw_ms 23 rfl) rfl
end
section
set_option maxRecDepth 100000
/-! JoinTrees -/
def RX0 : String := "JoinTrees"
def TX0 : u_T := fun k => match k with
  | 0 => ("JoinTrees", "left", "[S", true)
  | 1 => ("JoinTrees", "right", "[S", true)
  | 2 => ("JoinTrees", "key", "[I", true)
  | 3 => ("JoinTrees", "count", "[B", true)
  | 4 => ("JoinTrees", "rootOf", "[S", true)
  | 5 => ("JoinTrees", "freeCount", "I", false)
  | 6 => ("JoinTrees", "freeNodes", "[S", true)
  | 7 => ("JoinTrees", "wayEnd", "I", false)
  | 8 => ("JoinTrees", "way", "[S", true)
  | 9 => ("JoinTrees", "wentRight", "[Z", true)
  | 10 => ("JoinTrees", "lowPart", "I", false)
  | 11 => ("JoinTrees", "highPart", "I", false)
  | 12 => ("JoinTrees", "exact", "I", false)
  | 13 => ("JoinTrees", "frameNode", "[S", true)
  | 14 => ("JoinTrees", "frameUpper", "[S", true)
  | 15 => ("JoinTrees", "frameLower", "[S", true)
  | 16 => ("JoinTrees", "frameBoth", "[Z", true)
  | _ => ("JoinTrees", "frameSecond", "[Z", true)
def tyX0 : Nat → FieldType := fun k => match k with
  | 0 => .array .short
  | 1 => .array .short
  | 2 => .array .int
  | 3 => .array .byte
  | 4 => .array .short
  | 5 => .int
  | 6 => .array .short
  | 7 => .int
  | 8 => .array .short
  | 9 => .array .boolean
  | 10 => .int
  | 11 => .int
  | 12 => .int
  | 13 => .array .short
  | 14 => .array .short
  | 15 => .array .short
  | 16 => .array .boolean
  | _ => .array .boolean
abbrev wsX00 : List Cond := u_ws RX0 TX0 18
theorem nmX0 : ∀ a, a < 18 → ∀ b, b < 18 → a ≠ b → (TX0 a).2.1 ≠ (TX0 b).2.1 := by decide +kernel
theorem tyX0_ok : ∀ k, k < 18 → parseFieldDescriptor (TX0 k).2.2.1 = some (tyX0 k) := by decide +kernel
abbrev cX0_init : ByteArray := prog_1_method_1_code
def yX0_init : MethodName := ⟨RX0, "<init>", "()V"⟩
abbrev cX0_add : ByteArray := prog_1_method_2_code
def yX0_add : MethodName := ⟨RX0, "add", "(II)I"⟩
abbrev cX0_isSet : ByteArray := prog_1_method_16_code
def yX0_isSet : MethodName := ⟨RX0, "isSet", "(I)Z"⟩
abbrev cX0_has : ByteArray := prog_1_method_4_code
def yX0_has : MethodName := ⟨RX0, "has", "(II)Z"⟩
abbrev cX0_splitTree : ByteArray := prog_1_method_30_code
def yX0_splitTree : MethodName := ⟨RX0, "splitTree", "(II)V"⟩
abbrev cX0_pushWay : ByteArray := prog_1_method_22_code
def yX0_pushWay : MethodName := ⟨RX0, "pushWay", "(IZ)V"⟩
abbrev cX0_join : ByteArray := prog_1_method_28_code
def yX0_join : MethodName := ⟨RX0, "join", "(III)I"⟩
abbrev cX0_weight : ByteArray := prog_1_method_24_code
def yX0_weight : MethodName := ⟨RX0, "weight", "(I)I"⟩
abbrev cX0_balanced : ByteArray := prog_1_method_27_code
def yX0_balanced : MethodName := ⟨RX0, "balanced", "(I)I"⟩
abbrev cX0_update : ByteArray := prog_1_method_23_code
def yX0_update : MethodName := ⟨RX0, "update", "(I)V"⟩
abbrev cX0_rotatedRight : ByteArray := prog_1_method_26_code
def yX0_rotatedRight : MethodName := ⟨RX0, "rotatedRight", "(I)I"⟩
abbrev cX0_rotatedLeft : ByteArray := prog_1_method_25_code
def yX0_rotatedLeft : MethodName := ⟨RX0, "rotatedLeft", "(I)I"⟩
abbrev cX0_newNode : ByteArray := prog_1_method_17_code
def yX0_newNode : MethodName := ⟨RX0, "newNode", "(I)I"⟩
abbrev cX0_remove : ByteArray := prog_1_method_3_code
def yX0_remove : MethodName := ⟨RX0, "remove", "(II)I"⟩
abbrev cX0_release : ByteArray := prog_1_method_18_code
def yX0_release : MethodName := ⟨RX0, "release", "(I)V"⟩
abbrev cX0_joinTwo : ByteArray := prog_1_method_29_code
def yX0_joinTwo : MethodName := ⟨RX0, "joinTwo", "(II)I"⟩
abbrev cX0_size : ByteArray := prog_1_method_5_code
def yX0_size : MethodName := ⟨RX0, "size", "(I)I"⟩
abbrev cX0_at : ByteArray := prog_1_method_6_code
def yX0_at : MethodName := ⟨RX0, "at", "(II)I"⟩
abbrev cX0_rank : ByteArray := prog_1_method_7_code
def yX0_rank : MethodName := ⟨RX0, "rank", "(II)I"⟩
abbrev cX0_combine : ByteArray := prog_1_method_8_code
def yX0_combine : MethodName := ⟨RX0, "combine", "(IIII)I"⟩
abbrev cX0_copyOf : ByteArray := prog_1_method_20_code
def yX0_copyOf : MethodName := ⟨RX0, "copyOf", "(I)I"⟩
abbrev cX0_twin : ByteArray := prog_1_method_21_code
def yX0_twin : MethodName := ⟨RX0, "twin", "(I)I"⟩
abbrev cX0_combinedEither : ByteArray := prog_1_method_9_code
def yX0_combinedEither : MethodName := ⟨RX0, "combinedEither", "(IIII)I"⟩
abbrev cX0_combined : ByteArray := prog_1_method_32_code
def yX0_combined : MethodName := ⟨RX0, "combined", "(III)I"⟩
abbrev cX0_withNothing : ByteArray := prog_1_method_31_code
def yX0_withNothing : MethodName := ⟨RX0, "withNothing", "(III)I"⟩
abbrev cX0_releaseTree : ByteArray := prog_1_method_19_code
def yX0_releaseTree : MethodName := ⟨RX0, "releaseTree", "(I)V"⟩
abbrev cX0_finished : ByteArray := prog_1_method_33_code
def yX0_finished : MethodName := ⟨RX0, "finished", "(III)I"⟩
abbrev cX0_split : ByteArray := prog_1_method_10_code
def yX0_split : MethodName := ⟨RX0, "split", "(III)I"⟩
abbrev cX0_removeRange : ByteArray := prog_1_method_11_code
def yX0_removeRange : MethodName := ⟨RX0, "removeRange", "(III)I"⟩
abbrev cX0_same : ByteArray := prog_1_method_12_code
def yX0_same : MethodName := ⟨RX0, "same", "(II)Z"⟩
abbrev cX0_within : ByteArray := prog_1_method_13_code
def yX0_within : MethodName := ⟨RX0, "within", "(II)Z"⟩
abbrev cX0_ceiling : ByteArray := prog_1_method_14_code
def yX0_ceiling : MethodName := ⟨RX0, "ceiling", "(II)I"⟩
abbrev cX0_clear : ByteArray := prog_1_method_15_code
def yX0_clear : MethodName := ⟨RX0, "clear", "(I)I"⟩
theorem q25 : (Jvm.Cond.initialized "JoinTrees") ∈ lw_all := lw_g (lw_at lw_m1 1 rfl) rfl
theorem q28 : (Jvm.Cond.instantiable "JoinTrees" (18 : Nat)) ∈ lw_all := lw_g (lw_at lw_m1 4 rfl) rfl
theorem q30 : (Jvm.Cond.instanceMethod ({ cls := "JoinTrees", name := "<init>", desc := "()V" } : Jvm.MethodName)) ∈ lw_all := lw_g (lw_at lw_m1 6 rfl) rfl
theorem q31 : (Jvm.Cond.code ({ cls := "JoinTrees", name := "<init>", desc := "()V" } : Jvm.MethodName) prog_1_method_1_code (2 : Nat) (Option.none : Option Jvm.ClassFile.FieldType)) ∈ lw_all := lw_g (lw_at lw_m1 7 rfl) rfl
theorem q32 : (Jvm.Cond.methodLink "JoinTrees" (1 : Nat) ({ cls := "java/lang/Object", name := "<init>", desc := "()V" } : Jvm.MethodName)) ∈ lw_all := lw_g (lw_at lw_m1 8 rfl) rfl
theorem q35 : (Jvm.Cond.fieldLink "JoinTrees" (7 : Nat) "JoinTrees" "left" "[S") ∈ lw_all := lw_g (lw_at lw_m1 11 rfl) rfl
theorem q36 : (Jvm.Cond.fieldLink "JoinTrees" (13 : Nat) "JoinTrees" "right" "[S") ∈ lw_all := lw_g (lw_at lw_m1 12 rfl) rfl
theorem q37 : (Jvm.Cond.fieldLink "JoinTrees" (16 : Nat) "JoinTrees" "key" "[I") ∈ lw_all := lw_g (lw_at lw_m1 13 rfl) rfl
theorem q38 : (Jvm.Cond.fieldLink "JoinTrees" (20 : Nat) "JoinTrees" "count" "[B") ∈ lw_all := lw_g (lw_at lw_m1 14 rfl) rfl
theorem q39 : (Jvm.Cond.fieldLink "JoinTrees" (24 : Nat) "JoinTrees" "rootOf" "[S") ∈ lw_all := lw_g (lw_at lw_m1 15 rfl) rfl
theorem q40 : (Jvm.Cond.fieldLink "JoinTrees" (52 : Nat) "JoinTrees" "freeCount" "I") ∈ lw_all := lw_g (lw_at lw_m1 16 rfl) rfl
theorem q41 : (Jvm.Cond.fieldLink "JoinTrees" (27 : Nat) "JoinTrees" "freeNodes" "[S") ∈ lw_all := lw_g (lw_at lw_m1 17 rfl) rfl
theorem q42 : (Jvm.Cond.fieldLink "JoinTrees" (112 : Nat) "JoinTrees" "wayEnd" "I") ∈ lw_all := lw_g (lw_at lw_m1 18 rfl) rfl
theorem q43 : (Jvm.Cond.fieldLink "JoinTrees" (30 : Nat) "JoinTrees" "way" "[S") ∈ lw_all := lw_g (lw_at lw_m1 19 rfl) rfl
theorem q44 : (Jvm.Cond.fieldLink "JoinTrees" (33 : Nat) "JoinTrees" "wentRight" "[Z") ∈ lw_all := lw_g (lw_at lw_m1 20 rfl) rfl
theorem q45 : (Jvm.Cond.fieldLink "JoinTrees" (75 : Nat) "JoinTrees" "lowPart" "I") ∈ lw_all := lw_g (lw_at lw_m1 21 rfl) rfl
theorem q46 : (Jvm.Cond.fieldLink "JoinTrees" (68 : Nat) "JoinTrees" "highPart" "I") ∈ lw_all := lw_g (lw_at lw_m1 22 rfl) rfl
theorem q47 : (Jvm.Cond.fieldLink "JoinTrees" (82 : Nat) "JoinTrees" "exact" "I") ∈ lw_all := lw_g (lw_at lw_m1 23 rfl) rfl
theorem q48 : (Jvm.Cond.fieldLink "JoinTrees" (37 : Nat) "JoinTrees" "frameNode" "[S") ∈ lw_all := lw_g (lw_at lw_m1 24 rfl) rfl
theorem q49 : (Jvm.Cond.fieldLink "JoinTrees" (40 : Nat) "JoinTrees" "frameUpper" "[S") ∈ lw_all := lw_g (lw_at lw_m1 25 rfl) rfl
theorem q50 : (Jvm.Cond.fieldLink "JoinTrees" (43 : Nat) "JoinTrees" "frameLower" "[S") ∈ lw_all := lw_g (lw_at lw_m1 26 rfl) rfl
theorem q51 : (Jvm.Cond.fieldLink "JoinTrees" (46 : Nat) "JoinTrees" "frameBoth" "[Z") ∈ lw_all := lw_g (lw_at lw_m1 27 rfl) rfl
theorem q52 : (Jvm.Cond.fieldLink "JoinTrees" (49 : Nat) "JoinTrees" "frameSecond" "[Z") ∈ lw_all := lw_g (lw_at lw_m1 28 rfl) rfl
theorem q53 : (Jvm.Cond.laysFinal "JoinTrees" "JoinTrees" "left" "[S") ∈ lw_all := lw_g (lw_at lw_m1 29 rfl) rfl
theorem q54 : (Jvm.Cond.soleField "JoinTrees" "left") ∈ lw_all := lw_g (lw_at lw_m1 30 rfl) rfl
theorem q55 : (Jvm.Cond.laysFinal "JoinTrees" "JoinTrees" "right" "[S") ∈ lw_all := lw_g (lw_at lw_m1 31 rfl) rfl
theorem q56 : (Jvm.Cond.soleField "JoinTrees" "right") ∈ lw_all := lw_g (lw_at lw_m1 32 rfl) rfl
theorem q57 : (Jvm.Cond.laysFinal "JoinTrees" "JoinTrees" "key" "[I") ∈ lw_all := lw_g (lw_at lw_m1 33 rfl) rfl
theorem q58 : (Jvm.Cond.soleField "JoinTrees" "key") ∈ lw_all := lw_g (lw_at lw_m1 34 rfl) rfl
theorem q59 : (Jvm.Cond.laysFinal "JoinTrees" "JoinTrees" "count" "[B") ∈ lw_all := lw_g (lw_at lw_m1 35 rfl) rfl
theorem q60 : (Jvm.Cond.soleField "JoinTrees" "count") ∈ lw_all := lw_g (lw_at lw_m1 36 rfl) rfl
theorem q61 : (Jvm.Cond.laysFinal "JoinTrees" "JoinTrees" "rootOf" "[S") ∈ lw_all := lw_g (lw_at lw_m1 37 rfl) rfl
theorem q62 : (Jvm.Cond.soleField "JoinTrees" "rootOf") ∈ lw_all := lw_g (lw_at lw_m1 38 rfl) rfl
theorem q63 : (Jvm.Cond.lays "JoinTrees" "JoinTrees" "freeCount" "I") ∈ lw_all := lw_g (lw_at lw_m1 39 rfl) rfl
theorem q64 : (Jvm.Cond.soleField "JoinTrees" "freeCount") ∈ lw_all := lw_g (lw_at lw_m1 40 rfl) rfl
theorem q65 : (Jvm.Cond.laysFinal "JoinTrees" "JoinTrees" "freeNodes" "[S") ∈ lw_all := lw_g (lw_at lw_m1 41 rfl) rfl
theorem q66 : (Jvm.Cond.soleField "JoinTrees" "freeNodes") ∈ lw_all := lw_g (lw_at lw_m1 42 rfl) rfl
theorem q67 : (Jvm.Cond.lays "JoinTrees" "JoinTrees" "wayEnd" "I") ∈ lw_all := lw_g (lw_at lw_m1 43 rfl) rfl
theorem q68 : (Jvm.Cond.soleField "JoinTrees" "wayEnd") ∈ lw_all := lw_g (lw_at lw_m1 44 rfl) rfl
theorem q69 : (Jvm.Cond.laysFinal "JoinTrees" "JoinTrees" "way" "[S") ∈ lw_all := lw_g (lw_at lw_m1 45 rfl) rfl
theorem q70 : (Jvm.Cond.soleField "JoinTrees" "way") ∈ lw_all := lw_g (lw_at lw_m1 46 rfl) rfl
theorem q71 : (Jvm.Cond.laysFinal "JoinTrees" "JoinTrees" "wentRight" "[Z") ∈ lw_all := lw_g (lw_at lw_m1 47 rfl) rfl
theorem q72 : (Jvm.Cond.soleField "JoinTrees" "wentRight") ∈ lw_all := lw_g (lw_at lw_m1 48 rfl) rfl
theorem q73 : (Jvm.Cond.lays "JoinTrees" "JoinTrees" "lowPart" "I") ∈ lw_all := lw_g (lw_at lw_m1 49 rfl) rfl
theorem q74 : (Jvm.Cond.soleField "JoinTrees" "lowPart") ∈ lw_all := lw_g (lw_at lw_m1 50 rfl) rfl
theorem q75 : (Jvm.Cond.lays "JoinTrees" "JoinTrees" "highPart" "I") ∈ lw_all := lw_g (lw_at lw_m1 51 rfl) rfl
theorem q76 : (Jvm.Cond.soleField "JoinTrees" "highPart") ∈ lw_all := lw_g (lw_at lw_m1 52 rfl) rfl
theorem q77 : (Jvm.Cond.lays "JoinTrees" "JoinTrees" "exact" "I") ∈ lw_all := lw_g (lw_at lw_m1 53 rfl) rfl
theorem q78 : (Jvm.Cond.soleField "JoinTrees" "exact") ∈ lw_all := lw_g (lw_at lw_m1 54 rfl) rfl
theorem q79 : (Jvm.Cond.laysFinal "JoinTrees" "JoinTrees" "frameNode" "[S") ∈ lw_all := lw_g (lw_at lw_m1 55 rfl) rfl
theorem q80 : (Jvm.Cond.soleField "JoinTrees" "frameNode") ∈ lw_all := lw_g (lw_at lw_m1 56 rfl) rfl
theorem q81 : (Jvm.Cond.laysFinal "JoinTrees" "JoinTrees" "frameUpper" "[S") ∈ lw_all := lw_g (lw_at lw_m1 57 rfl) rfl
theorem q82 : (Jvm.Cond.soleField "JoinTrees" "frameUpper") ∈ lw_all := lw_g (lw_at lw_m1 58 rfl) rfl
theorem q83 : (Jvm.Cond.laysFinal "JoinTrees" "JoinTrees" "frameLower" "[S") ∈ lw_all := lw_g (lw_at lw_m1 59 rfl) rfl
theorem q84 : (Jvm.Cond.soleField "JoinTrees" "frameLower") ∈ lw_all := lw_g (lw_at lw_m1 60 rfl) rfl
theorem q85 : (Jvm.Cond.laysFinal "JoinTrees" "JoinTrees" "frameBoth" "[Z") ∈ lw_all := lw_g (lw_at lw_m1 61 rfl) rfl
theorem q86 : (Jvm.Cond.soleField "JoinTrees" "frameBoth") ∈ lw_all := lw_g (lw_at lw_m1 62 rfl) rfl
theorem q87 : (Jvm.Cond.laysFinal "JoinTrees" "JoinTrees" "frameSecond" "[Z") ∈ lw_all := lw_g (lw_at lw_m1 63 rfl) rfl
theorem q88 : (Jvm.Cond.soleField "JoinTrees" "frameSecond") ∈ lw_all := lw_g (lw_at lw_m1 64 rfl) rfl
theorem q89 : (Jvm.Cond.superclass "JoinTrees" "java/lang/Object") ∈ lw_all := lw_g (lw_at lw_m1 65 rfl) rfl
theorem q95 : (Jvm.Cond.instanceMethod ({ cls := "JoinTrees", name := "add", desc := "(II)I" } : Jvm.MethodName)) ∈ lw_all := lw_g (lw_at lw_m1 71 rfl) rfl
theorem q96 : (Jvm.Cond.selects "JoinTrees" ({ cls := "JoinTrees", name := "add", desc := "(II)I" } : Jvm.MethodName) ({ cls := "JoinTrees", name := "add", desc := "(II)I" } : Jvm.MethodName)) ∈ lw_all := lw_g (lw_at lw_m1 72 rfl) rfl
theorem q97 : (Jvm.Cond.code ({ cls := "JoinTrees", name := "add", desc := "(II)I" } : Jvm.MethodName) prog_1_method_2_code (5 : Nat) (Option.some Jvm.ClassFile.FieldType.int)) ∈ lw_all := lw_g (lw_at lw_m1 73 rfl) rfl
theorem q98 : (Jvm.Cond.methodLink "JoinTrees" (56 : Nat) ({ cls := "JoinTrees", name := "isSet", desc := "(I)Z" } : Jvm.MethodName)) ∈ lw_all := lw_g (lw_at lw_m1 74 rfl) rfl
theorem q99 : (Jvm.Cond.privateMethod ({ cls := "JoinTrees", name := "isSet", desc := "(I)Z" } : Jvm.MethodName)) ∈ lw_tbl := lw_at lw_m1 75 rfl
theorem q100 : (Jvm.Cond.instanceMethod ({ cls := "JoinTrees", name := "isSet", desc := "(I)Z" } : Jvm.MethodName)) ∈ lw_all := lw_g (lw_at lw_m1 76 rfl) rfl
theorem q101 : (Jvm.Cond.code ({ cls := "JoinTrees", name := "isSet", desc := "(I)Z" } : Jvm.MethodName) prog_1_method_16_code (2 : Nat) (Option.some Jvm.ClassFile.FieldType.boolean)) ∈ lw_all := lw_g (lw_at lw_m1 77 rfl) rfl
theorem q102 : (Jvm.Cond.methodLink "JoinTrees" (60 : Nat) ({ cls := "JoinTrees", name := "has", desc := "(II)Z" } : Jvm.MethodName)) ∈ lw_all := lw_g (lw_at lw_m1 78 rfl) rfl
theorem q103 : (Jvm.Cond.instanceMethod ({ cls := "JoinTrees", name := "has", desc := "(II)Z" } : Jvm.MethodName)) ∈ lw_all := lw_g (lw_at lw_m1 79 rfl) rfl
theorem q104 : (Jvm.Cond.selects "JoinTrees" ({ cls := "JoinTrees", name := "has", desc := "(II)Z" } : Jvm.MethodName) ({ cls := "JoinTrees", name := "has", desc := "(II)Z" } : Jvm.MethodName)) ∈ lw_all := lw_g (lw_at lw_m1 80 rfl) rfl
theorem q105 : (Jvm.Cond.code ({ cls := "JoinTrees", name := "has", desc := "(II)Z" } : Jvm.MethodName) prog_1_method_4_code (4 : Nat) (Option.some Jvm.ClassFile.FieldType.boolean)) ∈ lw_all := lw_g (lw_at lw_m1 81 rfl) rfl
theorem q106 : (Jvm.Cond.methodLink "JoinTrees" (64 : Nat) ({ cls := "JoinTrees", name := "splitTree", desc := "(II)V" } : Jvm.MethodName)) ∈ lw_all := lw_g (lw_at lw_m1 82 rfl) rfl
theorem q107 : (Jvm.Cond.privateMethod ({ cls := "JoinTrees", name := "splitTree", desc := "(II)V" } : Jvm.MethodName)) ∈ lw_tbl := lw_at lw_m1 83 rfl
theorem q108 : (Jvm.Cond.instanceMethod ({ cls := "JoinTrees", name := "splitTree", desc := "(II)V" } : Jvm.MethodName)) ∈ lw_all := lw_g (lw_at lw_m1 84 rfl) rfl
theorem q109 : (Jvm.Cond.code ({ cls := "JoinTrees", name := "splitTree", desc := "(II)V" } : Jvm.MethodName) prog_1_method_30_code (8 : Nat) (Option.none : Option Jvm.ClassFile.FieldType)) ∈ lw_all := lw_g (lw_at lw_m1 85 rfl) rfl
theorem q110 : (Jvm.Cond.methodLink "JoinTrees" (115 : Nat) ({ cls := "JoinTrees", name := "pushWay", desc := "(IZ)V" } : Jvm.MethodName)) ∈ lw_all := lw_g (lw_at lw_m1 86 rfl) rfl
theorem q111 : (Jvm.Cond.privateMethod ({ cls := "JoinTrees", name := "pushWay", desc := "(IZ)V" } : Jvm.MethodName)) ∈ lw_tbl := lw_at lw_m1 87 rfl
theorem q112 : (Jvm.Cond.instanceMethod ({ cls := "JoinTrees", name := "pushWay", desc := "(IZ)V" } : Jvm.MethodName)) ∈ lw_all := lw_g (lw_at lw_m1 88 rfl) rfl
theorem q113 : (Jvm.Cond.code ({ cls := "JoinTrees", name := "pushWay", desc := "(IZ)V" } : Jvm.MethodName) prog_1_method_22_code (3 : Nat) (Option.none : Option Jvm.ClassFile.FieldType)) ∈ lw_all := lw_g (lw_at lw_m1 89 rfl) rfl
theorem q114 : (Jvm.Cond.methodLink "JoinTrees" (78 : Nat) ({ cls := "JoinTrees", name := "join", desc := "(III)I" } : Jvm.MethodName)) ∈ lw_all := lw_g (lw_at lw_m1 90 rfl) rfl
theorem q115 : (Jvm.Cond.privateMethod ({ cls := "JoinTrees", name := "join", desc := "(III)I" } : Jvm.MethodName)) ∈ lw_tbl := lw_at lw_m1 91 rfl
theorem q116 : (Jvm.Cond.instanceMethod ({ cls := "JoinTrees", name := "join", desc := "(III)I" } : Jvm.MethodName)) ∈ lw_all := lw_g (lw_at lw_m1 92 rfl) rfl
theorem q117 : (Jvm.Cond.code ({ cls := "JoinTrees", name := "join", desc := "(III)I" } : Jvm.MethodName) prog_1_method_28_code (11 : Nat) (Option.some Jvm.ClassFile.FieldType.int)) ∈ lw_all := lw_g (lw_at lw_m1 93 rfl) rfl
theorem q118 : (Jvm.Cond.methodLink "JoinTrees" (125 : Nat) ({ cls := "JoinTrees", name := "weight", desc := "(I)I" } : Jvm.MethodName)) ∈ lw_all := lw_g (lw_at lw_m1 94 rfl) rfl
theorem q119 : (Jvm.Cond.privateMethod ({ cls := "JoinTrees", name := "weight", desc := "(I)I" } : Jvm.MethodName)) ∈ lw_tbl := lw_at lw_m1 95 rfl
theorem q120 : (Jvm.Cond.instanceMethod ({ cls := "JoinTrees", name := "weight", desc := "(I)I" } : Jvm.MethodName)) ∈ lw_all := lw_g (lw_at lw_m1 96 rfl) rfl
theorem q121 : (Jvm.Cond.code ({ cls := "JoinTrees", name := "weight", desc := "(I)I" } : Jvm.MethodName) prog_1_method_24_code (2 : Nat) (Option.some Jvm.ClassFile.FieldType.int)) ∈ lw_all := lw_g (lw_at lw_m1 97 rfl) rfl
theorem q122 : (Jvm.Cond.methodLink "JoinTrees" (134 : Nat) ({ cls := "JoinTrees", name := "balanced", desc := "(I)I" } : Jvm.MethodName)) ∈ lw_all := lw_g (lw_at lw_m1 98 rfl) rfl
theorem q123 : (Jvm.Cond.privateMethod ({ cls := "JoinTrees", name := "balanced", desc := "(I)I" } : Jvm.MethodName)) ∈ lw_tbl := lw_at lw_m1 99 rfl
theorem q124 : (Jvm.Cond.instanceMethod ({ cls := "JoinTrees", name := "balanced", desc := "(I)I" } : Jvm.MethodName)) ∈ lw_all := lw_g (lw_at lw_m1 100 rfl) rfl
theorem q125 : (Jvm.Cond.code ({ cls := "JoinTrees", name := "balanced", desc := "(I)I" } : Jvm.MethodName) prog_1_method_27_code (4 : Nat) (Option.some Jvm.ClassFile.FieldType.int)) ∈ lw_all := lw_g (lw_at lw_m1 101 rfl) rfl
theorem q126 : (Jvm.Cond.methodLink "JoinTrees" (122 : Nat) ({ cls := "JoinTrees", name := "update", desc := "(I)V" } : Jvm.MethodName)) ∈ lw_all := lw_g (lw_at lw_m1 102 rfl) rfl
theorem q127 : (Jvm.Cond.privateMethod ({ cls := "JoinTrees", name := "update", desc := "(I)V" } : Jvm.MethodName)) ∈ lw_tbl := lw_at lw_m1 103 rfl
theorem q128 : (Jvm.Cond.instanceMethod ({ cls := "JoinTrees", name := "update", desc := "(I)V" } : Jvm.MethodName)) ∈ lw_all := lw_g (lw_at lw_m1 104 rfl) rfl
theorem q129 : (Jvm.Cond.code ({ cls := "JoinTrees", name := "update", desc := "(I)V" } : Jvm.MethodName) prog_1_method_23_code (2 : Nat) (Option.none : Option Jvm.ClassFile.FieldType)) ∈ lw_all := lw_g (lw_at lw_m1 105 rfl) rfl
theorem q130 : (Jvm.Cond.methodLink "JoinTrees" (128 : Nat) ({ cls := "JoinTrees", name := "rotatedRight", desc := "(I)I" } : Jvm.MethodName)) ∈ lw_all := lw_g (lw_at lw_m1 106 rfl) rfl
theorem q131 : (Jvm.Cond.privateMethod ({ cls := "JoinTrees", name := "rotatedRight", desc := "(I)I" } : Jvm.MethodName)) ∈ lw_tbl := lw_at lw_m1 107 rfl
theorem q132 : (Jvm.Cond.instanceMethod ({ cls := "JoinTrees", name := "rotatedRight", desc := "(I)I" } : Jvm.MethodName)) ∈ lw_all := lw_g (lw_at lw_m1 108 rfl) rfl
theorem q133 : (Jvm.Cond.code ({ cls := "JoinTrees", name := "rotatedRight", desc := "(I)I" } : Jvm.MethodName) prog_1_method_26_code (3 : Nat) (Option.some Jvm.ClassFile.FieldType.int)) ∈ lw_all := lw_g (lw_at lw_m1 109 rfl) rfl
theorem q134 : (Jvm.Cond.methodLink "JoinTrees" (131 : Nat) ({ cls := "JoinTrees", name := "rotatedLeft", desc := "(I)I" } : Jvm.MethodName)) ∈ lw_all := lw_g (lw_at lw_m1 110 rfl) rfl
theorem q135 : (Jvm.Cond.privateMethod ({ cls := "JoinTrees", name := "rotatedLeft", desc := "(I)I" } : Jvm.MethodName)) ∈ lw_tbl := lw_at lw_m1 111 rfl
theorem q136 : (Jvm.Cond.instanceMethod ({ cls := "JoinTrees", name := "rotatedLeft", desc := "(I)I" } : Jvm.MethodName)) ∈ lw_all := lw_g (lw_at lw_m1 112 rfl) rfl
theorem q137 : (Jvm.Cond.code ({ cls := "JoinTrees", name := "rotatedLeft", desc := "(I)I" } : Jvm.MethodName) prog_1_method_25_code (3 : Nat) (Option.some Jvm.ClassFile.FieldType.int)) ∈ lw_all := lw_g (lw_at lw_m1 113 rfl) rfl
theorem q138 : (Jvm.Cond.methodLink "JoinTrees" (71 : Nat) ({ cls := "JoinTrees", name := "newNode", desc := "(I)I" } : Jvm.MethodName)) ∈ lw_all := lw_g (lw_at lw_m1 114 rfl) rfl
theorem q139 : (Jvm.Cond.privateMethod ({ cls := "JoinTrees", name := "newNode", desc := "(I)I" } : Jvm.MethodName)) ∈ lw_tbl := lw_at lw_m1 115 rfl
theorem q140 : (Jvm.Cond.instanceMethod ({ cls := "JoinTrees", name := "newNode", desc := "(I)I" } : Jvm.MethodName)) ∈ lw_all := lw_g (lw_at lw_m1 116 rfl) rfl
theorem q141 : (Jvm.Cond.code ({ cls := "JoinTrees", name := "newNode", desc := "(I)I" } : Jvm.MethodName) prog_1_method_17_code (3 : Nat) (Option.some Jvm.ClassFile.FieldType.int)) ∈ lw_all := lw_g (lw_at lw_m1 117 rfl) rfl
theorem q143 : (Jvm.Cond.instanceMethod ({ cls := "JoinTrees", name := "remove", desc := "(II)I" } : Jvm.MethodName)) ∈ lw_all := lw_g (lw_at lw_m1 119 rfl) rfl
theorem q144 : (Jvm.Cond.selects "JoinTrees" ({ cls := "JoinTrees", name := "remove", desc := "(II)I" } : Jvm.MethodName) ({ cls := "JoinTrees", name := "remove", desc := "(II)I" } : Jvm.MethodName)) ∈ lw_all := lw_g (lw_at lw_m1 120 rfl) rfl
theorem q145 : (Jvm.Cond.code ({ cls := "JoinTrees", name := "remove", desc := "(II)I" } : Jvm.MethodName) prog_1_method_3_code (4 : Nat) (Option.some Jvm.ClassFile.FieldType.int)) ∈ lw_all := lw_g (lw_at lw_m1 121 rfl) rfl
theorem q146 : (Jvm.Cond.methodLink "JoinTrees" (85 : Nat) ({ cls := "JoinTrees", name := "release", desc := "(I)V" } : Jvm.MethodName)) ∈ lw_all := lw_g (lw_at lw_m1 122 rfl) rfl
theorem q147 : (Jvm.Cond.privateMethod ({ cls := "JoinTrees", name := "release", desc := "(I)V" } : Jvm.MethodName)) ∈ lw_tbl := lw_at lw_m1 123 rfl
theorem q148 : (Jvm.Cond.instanceMethod ({ cls := "JoinTrees", name := "release", desc := "(I)V" } : Jvm.MethodName)) ∈ lw_all := lw_g (lw_at lw_m1 124 rfl) rfl
theorem q149 : (Jvm.Cond.code ({ cls := "JoinTrees", name := "release", desc := "(I)V" } : Jvm.MethodName) prog_1_method_18_code (2 : Nat) (Option.none : Option Jvm.ClassFile.FieldType)) ∈ lw_all := lw_g (lw_at lw_m1 125 rfl) rfl
theorem q150 : (Jvm.Cond.methodLink "JoinTrees" (89 : Nat) ({ cls := "JoinTrees", name := "joinTwo", desc := "(II)I" } : Jvm.MethodName)) ∈ lw_all := lw_g (lw_at lw_m1 126 rfl) rfl
theorem q151 : (Jvm.Cond.privateMethod ({ cls := "JoinTrees", name := "joinTwo", desc := "(II)I" } : Jvm.MethodName)) ∈ lw_tbl := lw_at lw_m1 127 rfl
theorem q152 : (Jvm.Cond.instanceMethod ({ cls := "JoinTrees", name := "joinTwo", desc := "(II)I" } : Jvm.MethodName)) ∈ lw_all := lw_g (lw_at lw_m1 128 rfl) rfl
theorem q153 : (Jvm.Cond.code ({ cls := "JoinTrees", name := "joinTwo", desc := "(II)I" } : Jvm.MethodName) prog_1_method_29_code (4 : Nat) (Option.some Jvm.ClassFile.FieldType.int)) ∈ lw_all := lw_g (lw_at lw_m1 129 rfl) rfl
theorem q156 : (Jvm.Cond.instanceMethod ({ cls := "JoinTrees", name := "size", desc := "(I)I" } : Jvm.MethodName)) ∈ lw_all := lw_g (lw_at lw_m1 132 rfl) rfl
theorem q157 : (Jvm.Cond.selects "JoinTrees" ({ cls := "JoinTrees", name := "size", desc := "(I)I" } : Jvm.MethodName) ({ cls := "JoinTrees", name := "size", desc := "(I)I" } : Jvm.MethodName)) ∈ lw_all := lw_g (lw_at lw_m1 133 rfl) rfl
theorem q158 : (Jvm.Cond.code ({ cls := "JoinTrees", name := "size", desc := "(I)I" } : Jvm.MethodName) prog_1_method_5_code (2 : Nat) (Option.some Jvm.ClassFile.FieldType.int)) ∈ lw_all := lw_g (lw_at lw_m1 134 rfl) rfl
theorem q160 : (Jvm.Cond.instanceMethod ({ cls := "JoinTrees", name := "at", desc := "(II)I" } : Jvm.MethodName)) ∈ lw_all := lw_g (lw_at lw_m1 136 rfl) rfl
theorem q161 : (Jvm.Cond.selects "JoinTrees" ({ cls := "JoinTrees", name := "at", desc := "(II)I" } : Jvm.MethodName) ({ cls := "JoinTrees", name := "at", desc := "(II)I" } : Jvm.MethodName)) ∈ lw_all := lw_g (lw_at lw_m1 137 rfl) rfl
theorem q162 : (Jvm.Cond.code ({ cls := "JoinTrees", name := "at", desc := "(II)I" } : Jvm.MethodName) prog_1_method_6_code (5 : Nat) (Option.some Jvm.ClassFile.FieldType.int)) ∈ lw_all := lw_g (lw_at lw_m1 138 rfl) rfl
theorem q164 : (Jvm.Cond.instanceMethod ({ cls := "JoinTrees", name := "rank", desc := "(II)I" } : Jvm.MethodName)) ∈ lw_all := lw_g (lw_at lw_m1 140 rfl) rfl
theorem q165 : (Jvm.Cond.selects "JoinTrees" ({ cls := "JoinTrees", name := "rank", desc := "(II)I" } : Jvm.MethodName) ({ cls := "JoinTrees", name := "rank", desc := "(II)I" } : Jvm.MethodName)) ∈ lw_all := lw_g (lw_at lw_m1 141 rfl) rfl
theorem q166 : (Jvm.Cond.code ({ cls := "JoinTrees", name := "rank", desc := "(II)I" } : Jvm.MethodName) prog_1_method_7_code (5 : Nat) (Option.some Jvm.ClassFile.FieldType.int)) ∈ lw_all := lw_g (lw_at lw_m1 142 rfl) rfl
theorem q168 : (Jvm.Cond.instanceMethod ({ cls := "JoinTrees", name := "combine", desc := "(IIII)I" } : Jvm.MethodName)) ∈ lw_all := lw_g (lw_at lw_m1 144 rfl) rfl
theorem q169 : (Jvm.Cond.selects "JoinTrees" ({ cls := "JoinTrees", name := "combine", desc := "(IIII)I" } : Jvm.MethodName) ({ cls := "JoinTrees", name := "combine", desc := "(IIII)I" } : Jvm.MethodName)) ∈ lw_all := lw_g (lw_at lw_m1 145 rfl) rfl
theorem q170 : (Jvm.Cond.code ({ cls := "JoinTrees", name := "combine", desc := "(IIII)I" } : Jvm.MethodName) prog_1_method_8_code (8 : Nat) (Option.some Jvm.ClassFile.FieldType.int)) ∈ lw_all := lw_g (lw_at lw_m1 146 rfl) rfl
theorem q171 : (Jvm.Cond.methodLink "JoinTrees" (93 : Nat) ({ cls := "JoinTrees", name := "copyOf", desc := "(I)I" } : Jvm.MethodName)) ∈ lw_all := lw_g (lw_at lw_m1 147 rfl) rfl
theorem q172 : (Jvm.Cond.privateMethod ({ cls := "JoinTrees", name := "copyOf", desc := "(I)I" } : Jvm.MethodName)) ∈ lw_tbl := lw_at lw_m1 148 rfl
theorem q173 : (Jvm.Cond.instanceMethod ({ cls := "JoinTrees", name := "copyOf", desc := "(I)I" } : Jvm.MethodName)) ∈ lw_all := lw_g (lw_at lw_m1 149 rfl) rfl
theorem q174 : (Jvm.Cond.code ({ cls := "JoinTrees", name := "copyOf", desc := "(I)I" } : Jvm.MethodName) prog_1_method_20_code (4 : Nat) (Option.some Jvm.ClassFile.FieldType.int)) ∈ lw_all := lw_g (lw_at lw_m1 150 rfl) rfl
theorem q175 : (Jvm.Cond.methodLink "JoinTrees" (119 : Nat) ({ cls := "JoinTrees", name := "twin", desc := "(I)I" } : Jvm.MethodName)) ∈ lw_all := lw_g (lw_at lw_m1 151 rfl) rfl
theorem q176 : (Jvm.Cond.privateMethod ({ cls := "JoinTrees", name := "twin", desc := "(I)I" } : Jvm.MethodName)) ∈ lw_tbl := lw_at lw_m1 152 rfl
theorem q177 : (Jvm.Cond.instanceMethod ({ cls := "JoinTrees", name := "twin", desc := "(I)I" } : Jvm.MethodName)) ∈ lw_all := lw_g (lw_at lw_m1 153 rfl) rfl
theorem q178 : (Jvm.Cond.code ({ cls := "JoinTrees", name := "twin", desc := "(I)I" } : Jvm.MethodName) prog_1_method_21_code (3 : Nat) (Option.some Jvm.ClassFile.FieldType.int)) ∈ lw_all := lw_g (lw_at lw_m1 154 rfl) rfl
theorem q179 : (Jvm.Cond.methodLink "JoinTrees" (96 : Nat) ({ cls := "JoinTrees", name := "combinedEither", desc := "(IIII)I" } : Jvm.MethodName)) ∈ lw_all := lw_g (lw_at lw_m1 155 rfl) rfl
theorem q180 : (Jvm.Cond.privateMethod ({ cls := "JoinTrees", name := "combinedEither", desc := "(IIII)I" } : Jvm.MethodName)) ∈ lw_tbl := lw_at lw_m1 156 rfl
theorem q181 : (Jvm.Cond.instanceMethod ({ cls := "JoinTrees", name := "combinedEither", desc := "(IIII)I" } : Jvm.MethodName)) ∈ lw_all := lw_g (lw_at lw_m1 157 rfl) rfl
theorem q182 : (Jvm.Cond.code ({ cls := "JoinTrees", name := "combinedEither", desc := "(IIII)I" } : Jvm.MethodName) prog_1_method_9_code (9 : Nat) (Option.some Jvm.ClassFile.FieldType.int)) ∈ lw_all := lw_g (lw_at lw_m1 158 rfl) rfl
theorem q183 : (Jvm.Cond.methodLink "JoinTrees" (100 : Nat) ({ cls := "JoinTrees", name := "combined", desc := "(III)I" } : Jvm.MethodName)) ∈ lw_all := lw_g (lw_at lw_m1 159 rfl) rfl
theorem q184 : (Jvm.Cond.privateMethod ({ cls := "JoinTrees", name := "combined", desc := "(III)I" } : Jvm.MethodName)) ∈ lw_tbl := lw_at lw_m1 160 rfl
theorem q185 : (Jvm.Cond.instanceMethod ({ cls := "JoinTrees", name := "combined", desc := "(III)I" } : Jvm.MethodName)) ∈ lw_all := lw_g (lw_at lw_m1 161 rfl) rfl
theorem q186 : (Jvm.Cond.code ({ cls := "JoinTrees", name := "combined", desc := "(III)I" } : Jvm.MethodName) prog_1_method_32_code (10 : Nat) (Option.some Jvm.ClassFile.FieldType.int)) ∈ lw_all := lw_g (lw_at lw_m1 162 rfl) rfl
theorem q187 : (Jvm.Cond.methodLink "JoinTrees" (137 : Nat) ({ cls := "JoinTrees", name := "withNothing", desc := "(III)I" } : Jvm.MethodName)) ∈ lw_all := lw_g (lw_at lw_m1 163 rfl) rfl
theorem q188 : (Jvm.Cond.privateMethod ({ cls := "JoinTrees", name := "withNothing", desc := "(III)I" } : Jvm.MethodName)) ∈ lw_tbl := lw_at lw_m1 164 rfl
theorem q189 : (Jvm.Cond.instanceMethod ({ cls := "JoinTrees", name := "withNothing", desc := "(III)I" } : Jvm.MethodName)) ∈ lw_all := lw_g (lw_at lw_m1 165 rfl) rfl
theorem q190 : (Jvm.Cond.code ({ cls := "JoinTrees", name := "withNothing", desc := "(III)I" } : Jvm.MethodName) prog_1_method_31_code (4 : Nat) (Option.some Jvm.ClassFile.FieldType.int)) ∈ lw_all := lw_g (lw_at lw_m1 166 rfl) rfl
theorem q191 : (Jvm.Cond.methodLink "JoinTrees" (103 : Nat) ({ cls := "JoinTrees", name := "releaseTree", desc := "(I)V" } : Jvm.MethodName)) ∈ lw_all := lw_g (lw_at lw_m1 167 rfl) rfl
theorem q192 : (Jvm.Cond.privateMethod ({ cls := "JoinTrees", name := "releaseTree", desc := "(I)V" } : Jvm.MethodName)) ∈ lw_tbl := lw_at lw_m1 168 rfl
theorem q193 : (Jvm.Cond.instanceMethod ({ cls := "JoinTrees", name := "releaseTree", desc := "(I)V" } : Jvm.MethodName)) ∈ lw_all := lw_g (lw_at lw_m1 169 rfl) rfl
theorem q194 : (Jvm.Cond.code ({ cls := "JoinTrees", name := "releaseTree", desc := "(I)V" } : Jvm.MethodName) prog_1_method_19_code (3 : Nat) (Option.none : Option Jvm.ClassFile.FieldType)) ∈ lw_all := lw_g (lw_at lw_m1 170 rfl) rfl
theorem q195 : (Jvm.Cond.methodLink "JoinTrees" (140 : Nat) ({ cls := "JoinTrees", name := "finished", desc := "(III)I" } : Jvm.MethodName)) ∈ lw_all := lw_g (lw_at lw_m1 171 rfl) rfl
theorem q196 : (Jvm.Cond.privateMethod ({ cls := "JoinTrees", name := "finished", desc := "(III)I" } : Jvm.MethodName)) ∈ lw_tbl := lw_at lw_m1 172 rfl
theorem q197 : (Jvm.Cond.instanceMethod ({ cls := "JoinTrees", name := "finished", desc := "(III)I" } : Jvm.MethodName)) ∈ lw_all := lw_g (lw_at lw_m1 173 rfl) rfl
theorem q198 : (Jvm.Cond.code ({ cls := "JoinTrees", name := "finished", desc := "(III)I" } : Jvm.MethodName) prog_1_method_33_code (6 : Nat) (Option.some Jvm.ClassFile.FieldType.int)) ∈ lw_all := lw_g (lw_at lw_m1 174 rfl) rfl
theorem q200 : (Jvm.Cond.instanceMethod ({ cls := "JoinTrees", name := "split", desc := "(III)I" } : Jvm.MethodName)) ∈ lw_all := lw_g (lw_at lw_m1 176 rfl) rfl
theorem q201 : (Jvm.Cond.selects "JoinTrees" ({ cls := "JoinTrees", name := "split", desc := "(III)I" } : Jvm.MethodName) ({ cls := "JoinTrees", name := "split", desc := "(III)I" } : Jvm.MethodName)) ∈ lw_all := lw_g (lw_at lw_m1 177 rfl) rfl
theorem q202 : (Jvm.Cond.code ({ cls := "JoinTrees", name := "split", desc := "(III)I" } : Jvm.MethodName) prog_1_method_10_code (6 : Nat) (Option.some Jvm.ClassFile.FieldType.int)) ∈ lw_all := lw_g (lw_at lw_m1 178 rfl) rfl
theorem q204 : (Jvm.Cond.instanceMethod ({ cls := "JoinTrees", name := "removeRange", desc := "(III)I" } : Jvm.MethodName)) ∈ lw_all := lw_g (lw_at lw_m1 180 rfl) rfl
theorem q205 : (Jvm.Cond.selects "JoinTrees" ({ cls := "JoinTrees", name := "removeRange", desc := "(III)I" } : Jvm.MethodName) ({ cls := "JoinTrees", name := "removeRange", desc := "(III)I" } : Jvm.MethodName)) ∈ lw_all := lw_g (lw_at lw_m1 181 rfl) rfl
theorem q206 : (Jvm.Cond.code ({ cls := "JoinTrees", name := "removeRange", desc := "(III)I" } : Jvm.MethodName) prog_1_method_11_code (8 : Nat) (Option.some Jvm.ClassFile.FieldType.int)) ∈ lw_all := lw_g (lw_at lw_m1 182 rfl) rfl
theorem q208 : (Jvm.Cond.instanceMethod ({ cls := "JoinTrees", name := "same", desc := "(II)Z" } : Jvm.MethodName)) ∈ lw_all := lw_g (lw_at lw_m1 184 rfl) rfl
theorem q209 : (Jvm.Cond.selects "JoinTrees" ({ cls := "JoinTrees", name := "same", desc := "(II)Z" } : Jvm.MethodName) ({ cls := "JoinTrees", name := "same", desc := "(II)Z" } : Jvm.MethodName)) ∈ lw_all := lw_g (lw_at lw_m1 185 rfl) rfl
theorem q210 : (Jvm.Cond.code ({ cls := "JoinTrees", name := "same", desc := "(II)Z" } : Jvm.MethodName) prog_1_method_12_code (3 : Nat) (Option.some Jvm.ClassFile.FieldType.boolean)) ∈ lw_all := lw_g (lw_at lw_m1 186 rfl) rfl
theorem q211 : (Jvm.Cond.methodLink "JoinTrees" (106 : Nat) ({ cls := "JoinTrees", name := "within", desc := "(II)Z" } : Jvm.MethodName)) ∈ lw_all := lw_g (lw_at lw_m1 187 rfl) rfl
theorem q212 : (Jvm.Cond.instanceMethod ({ cls := "JoinTrees", name := "within", desc := "(II)Z" } : Jvm.MethodName)) ∈ lw_all := lw_g (lw_at lw_m1 188 rfl) rfl
theorem q213 : (Jvm.Cond.selects "JoinTrees" ({ cls := "JoinTrees", name := "within", desc := "(II)Z" } : Jvm.MethodName) ({ cls := "JoinTrees", name := "within", desc := "(II)Z" } : Jvm.MethodName)) ∈ lw_all := lw_g (lw_at lw_m1 189 rfl) rfl
theorem q214 : (Jvm.Cond.code ({ cls := "JoinTrees", name := "within", desc := "(II)Z" } : Jvm.MethodName) prog_1_method_13_code (7 : Nat) (Option.some Jvm.ClassFile.FieldType.boolean)) ∈ lw_all := lw_g (lw_at lw_m1 190 rfl) rfl
theorem q217 : (Jvm.Cond.instanceMethod ({ cls := "JoinTrees", name := "ceiling", desc := "(II)I" } : Jvm.MethodName)) ∈ lw_all := lw_g (lw_at lw_m1 193 rfl) rfl
theorem q218 : (Jvm.Cond.selects "JoinTrees" ({ cls := "JoinTrees", name := "ceiling", desc := "(II)I" } : Jvm.MethodName) ({ cls := "JoinTrees", name := "ceiling", desc := "(II)I" } : Jvm.MethodName)) ∈ lw_all := lw_g (lw_at lw_m1 194 rfl) rfl
theorem q219 : (Jvm.Cond.code ({ cls := "JoinTrees", name := "ceiling", desc := "(II)I" } : Jvm.MethodName) prog_1_method_14_code (4 : Nat) (Option.some Jvm.ClassFile.FieldType.int)) ∈ lw_all := lw_g (lw_at lw_m1 195 rfl) rfl
theorem q220 : (Jvm.Cond.methodLink "JoinTrees" (109 : Nat) ({ cls := "JoinTrees", name := "rank", desc := "(II)I" } : Jvm.MethodName)) ∈ lw_all := lw_g (lw_at lw_m1 196 rfl) rfl
theorem q222 : (Jvm.Cond.instanceMethod ({ cls := "JoinTrees", name := "clear", desc := "(I)I" } : Jvm.MethodName)) ∈ lw_all := lw_g (lw_at lw_m1 198 rfl) rfl
theorem q223 : (Jvm.Cond.selects "JoinTrees" ({ cls := "JoinTrees", name := "clear", desc := "(I)I" } : Jvm.MethodName) ({ cls := "JoinTrees", name := "clear", desc := "(I)I" } : Jvm.MethodName)) ∈ lw_all := lw_g (lw_at lw_m1 199 rfl) rfl
theorem q224 : (Jvm.Cond.code ({ cls := "JoinTrees", name := "clear", desc := "(I)I" } : Jvm.MethodName) prog_1_method_15_code (3 : Nat) (Option.some Jvm.ClassFile.FieldType.int)) ∈ lw_all := lw_g (lw_at lw_m1 200 rfl) rfl
theorem in_X0 : ∀ w ∈ wsX00, w ∈ lw_all := lw_in wsX00 [53, 55, 57, 59, 61, 63, 65, 67, 69, 71, 73, 75, 77, 79, 81, 83, 85, 87] (by decide +kernel) (by decide +kernel)
/-! JoinTreesModel -/
def RX1 : String := "JoinTreesModel"
def TX1 : u_T := fun k => match k with
  | 0 => ("JoinTreesModel", "ints", "[I", true)
  | 1 => ("JoinTreesModel", "sizes", "[I", true)
  | 2 => ("JoinTreesModel", "result", "[I", true)
  | _ => ("JoinTreesModel", "found", "I", false)
def tyX1 : Nat → FieldType := fun k => match k with
  | 0 => .array .int
  | 1 => .array .int
  | 2 => .array .int
  | _ => .int
abbrev wsX10 : List Cond := u_ws RX1 TX1 4
theorem nmX1 : ∀ a, a < 4 → ∀ b, b < 4 → a ≠ b → (TX1 a).2.1 ≠ (TX1 b).2.1 := by decide +kernel
theorem tyX1_ok : ∀ k, k < 4 → parseFieldDescriptor (TX1 k).2.2.1 = some (tyX1 k) := by decide +kernel
abbrev cX1_init : ByteArray := prog_3_method_1_code
def yX1_init : MethodName := ⟨RX1, "<init>", "()V"⟩
abbrev cX1_add : ByteArray := prog_3_method_3_code
def yX1_add : MethodName := ⟨RX1, "add", "(II)I"⟩
abbrev cX1_isSet : ByteArray := prog_3_method_2_code
def yX1_isSet : MethodName := ⟨RX1, "isSet", "(I)Z"⟩
abbrev cX1_has : ByteArray := prog_3_method_5_code
def yX1_has : MethodName := ⟨RX1, "has", "(II)Z"⟩
abbrev cX1_remove : ByteArray := prog_3_method_4_code
def yX1_remove : MethodName := ⟨RX1, "remove", "(II)I"⟩
abbrev cX1_removeRange : ByteArray := prog_3_method_15_code
def yX1_removeRange : MethodName := ⟨RX1, "removeRange", "(III)I"⟩
abbrev cX1_size : ByteArray := prog_3_method_6_code
def yX1_size : MethodName := ⟨RX1, "size", "(I)I"⟩
abbrev cX1_at : ByteArray := prog_3_method_7_code
def yX1_at : MethodName := ⟨RX1, "at", "(II)I"⟩
abbrev cX1_rank : ByteArray := prog_3_method_8_code
def yX1_rank : MethodName := ⟨RX1, "rank", "(II)I"⟩
abbrev cX1_combine : ByteArray := prog_3_method_13_code
def yX1_combine : MethodName := ⟨RX1, "combine", "(IIII)I"⟩
abbrev cX1_collect : ByteArray := prog_3_method_11_code
def yX1_collect : MethodName := ⟨RX1, "collect", "(IIII)V"⟩
abbrev cX1_collected : ByteArray := prog_3_method_10_code
def yX1_collected : MethodName := ⟨RX1, "collected", "(I)Z"⟩
abbrev cX1_belongs : ByteArray := prog_3_method_9_code
def yX1_belongs : MethodName := ⟨RX1, "belongs", "(IZZ)Z"⟩
abbrev cX1_store : ByteArray := prog_3_method_12_code
def yX1_store : MethodName := ⟨RX1, "store", "(I)V"⟩
abbrev cX1_split : ByteArray := prog_3_method_14_code
def yX1_split : MethodName := ⟨RX1, "split", "(III)I"⟩
abbrev cX1_same : ByteArray := prog_3_method_16_code
def yX1_same : MethodName := ⟨RX1, "same", "(II)Z"⟩
abbrev cX1_within : ByteArray := prog_3_method_17_code
def yX1_within : MethodName := ⟨RX1, "within", "(II)Z"⟩
abbrev cX1_ceiling : ByteArray := prog_3_method_18_code
def yX1_ceiling : MethodName := ⟨RX1, "ceiling", "(II)I"⟩
abbrev cX1_clear : ByteArray := prog_3_method_19_code
def yX1_clear : MethodName := ⟨RX1, "clear", "(I)I"⟩
theorem q26 : (Jvm.Cond.initialized "JoinTreesModel") ∈ lw_all := lw_g (lw_at lw_m1 2 rfl) rfl
theorem q226 : (Jvm.Cond.instantiable "JoinTreesModel" (4 : Nat)) ∈ lw_all := lw_g (lw_at lw_m1 202 rfl) rfl
theorem q228 : (Jvm.Cond.instanceMethod ({ cls := "JoinTreesModel", name := "<init>", desc := "()V" } : Jvm.MethodName)) ∈ lw_all := lw_g (lw_at lw_m1 204 rfl) rfl
theorem q229 : (Jvm.Cond.code ({ cls := "JoinTreesModel", name := "<init>", desc := "()V" } : Jvm.MethodName) prog_3_method_1_code (1 : Nat) (Option.none : Option Jvm.ClassFile.FieldType)) ∈ lw_all := lw_g (lw_at lw_m1 205 rfl) rfl
theorem q230 : (Jvm.Cond.methodLink "JoinTreesModel" (1 : Nat) ({ cls := "java/lang/Object", name := "<init>", desc := "()V" } : Jvm.MethodName)) ∈ lw_all := lw_g (lw_at lw_m1 206 rfl) rfl
theorem q231 : (Jvm.Cond.fieldLink "JoinTreesModel" (7 : Nat) "JoinTreesModel" "ints" "[I") ∈ lw_all := lw_g (lw_at lw_m1 207 rfl) rfl
theorem q232 : (Jvm.Cond.fieldLink "JoinTreesModel" (13 : Nat) "JoinTreesModel" "sizes" "[I") ∈ lw_all := lw_g (lw_at lw_m1 208 rfl) rfl
theorem q233 : (Jvm.Cond.fieldLink "JoinTreesModel" (16 : Nat) "JoinTreesModel" "result" "[I") ∈ lw_all := lw_g (lw_at lw_m1 209 rfl) rfl
theorem q234 : (Jvm.Cond.fieldLink "JoinTreesModel" (35 : Nat) "JoinTreesModel" "found" "I") ∈ lw_all := lw_g (lw_at lw_m1 210 rfl) rfl
theorem q235 : (Jvm.Cond.laysFinal "JoinTreesModel" "JoinTreesModel" "ints" "[I") ∈ lw_all := lw_g (lw_at lw_m1 211 rfl) rfl
theorem q236 : (Jvm.Cond.soleField "JoinTreesModel" "ints") ∈ lw_all := lw_g (lw_at lw_m1 212 rfl) rfl
theorem q237 : (Jvm.Cond.laysFinal "JoinTreesModel" "JoinTreesModel" "sizes" "[I") ∈ lw_all := lw_g (lw_at lw_m1 213 rfl) rfl
theorem q238 : (Jvm.Cond.soleField "JoinTreesModel" "sizes") ∈ lw_all := lw_g (lw_at lw_m1 214 rfl) rfl
theorem q239 : (Jvm.Cond.laysFinal "JoinTreesModel" "JoinTreesModel" "result" "[I") ∈ lw_all := lw_g (lw_at lw_m1 215 rfl) rfl
theorem q240 : (Jvm.Cond.soleField "JoinTreesModel" "result") ∈ lw_all := lw_g (lw_at lw_m1 216 rfl) rfl
theorem q241 : (Jvm.Cond.lays "JoinTreesModel" "JoinTreesModel" "found" "I") ∈ lw_all := lw_g (lw_at lw_m1 217 rfl) rfl
theorem q242 : (Jvm.Cond.soleField "JoinTreesModel" "found") ∈ lw_all := lw_g (lw_at lw_m1 218 rfl) rfl
theorem q243 : (Jvm.Cond.superclass "JoinTreesModel" "java/lang/Object") ∈ lw_all := lw_g (lw_at lw_m1 219 rfl) rfl
theorem q245 : (Jvm.Cond.instanceMethod ({ cls := "JoinTreesModel", name := "add", desc := "(II)I" } : Jvm.MethodName)) ∈ lw_all := lw_g (lw_at lw_m1 221 rfl) rfl
theorem q246 : (Jvm.Cond.selects "JoinTreesModel" ({ cls := "JoinTreesModel", name := "add", desc := "(II)I" } : Jvm.MethodName) ({ cls := "JoinTreesModel", name := "add", desc := "(II)I" } : Jvm.MethodName)) ∈ lw_all := lw_g (lw_at lw_m1 222 rfl) rfl
theorem q247 : (Jvm.Cond.code ({ cls := "JoinTreesModel", name := "add", desc := "(II)I" } : Jvm.MethodName) prog_3_method_3_code (3 : Nat) (Option.some Jvm.ClassFile.FieldType.int)) ∈ lw_all := lw_g (lw_at lw_m1 223 rfl) rfl
theorem q248 : (Jvm.Cond.methodLink "JoinTreesModel" (19 : Nat) ({ cls := "JoinTreesModel", name := "isSet", desc := "(I)Z" } : Jvm.MethodName)) ∈ lw_all := lw_g (lw_at lw_m1 224 rfl) rfl
theorem q249 : (Jvm.Cond.privateMethod ({ cls := "JoinTreesModel", name := "isSet", desc := "(I)Z" } : Jvm.MethodName)) ∈ lw_tbl := lw_at lw_m1 225 rfl
theorem q250 : (Jvm.Cond.instanceMethod ({ cls := "JoinTreesModel", name := "isSet", desc := "(I)Z" } : Jvm.MethodName)) ∈ lw_all := lw_g (lw_at lw_m1 226 rfl) rfl
theorem q251 : (Jvm.Cond.code ({ cls := "JoinTreesModel", name := "isSet", desc := "(I)Z" } : Jvm.MethodName) prog_3_method_2_code (2 : Nat) (Option.some Jvm.ClassFile.FieldType.boolean)) ∈ lw_all := lw_g (lw_at lw_m1 227 rfl) rfl
theorem q252 : (Jvm.Cond.methodLink "JoinTreesModel" (23 : Nat) ({ cls := "JoinTreesModel", name := "has", desc := "(II)Z" } : Jvm.MethodName)) ∈ lw_all := lw_g (lw_at lw_m1 228 rfl) rfl
theorem q253 : (Jvm.Cond.instanceMethod ({ cls := "JoinTreesModel", name := "has", desc := "(II)Z" } : Jvm.MethodName)) ∈ lw_all := lw_g (lw_at lw_m1 229 rfl) rfl
theorem q254 : (Jvm.Cond.selects "JoinTreesModel" ({ cls := "JoinTreesModel", name := "has", desc := "(II)Z" } : Jvm.MethodName) ({ cls := "JoinTreesModel", name := "has", desc := "(II)Z" } : Jvm.MethodName)) ∈ lw_all := lw_g (lw_at lw_m1 230 rfl) rfl
theorem q255 : (Jvm.Cond.code ({ cls := "JoinTreesModel", name := "has", desc := "(II)Z" } : Jvm.MethodName) prog_3_method_5_code (4 : Nat) (Option.some Jvm.ClassFile.FieldType.boolean)) ∈ lw_all := lw_g (lw_at lw_m1 231 rfl) rfl
theorem q257 : (Jvm.Cond.instanceMethod ({ cls := "JoinTreesModel", name := "remove", desc := "(II)I" } : Jvm.MethodName)) ∈ lw_all := lw_g (lw_at lw_m1 233 rfl) rfl
theorem q258 : (Jvm.Cond.selects "JoinTreesModel" ({ cls := "JoinTreesModel", name := "remove", desc := "(II)I" } : Jvm.MethodName) ({ cls := "JoinTreesModel", name := "remove", desc := "(II)I" } : Jvm.MethodName)) ∈ lw_all := lw_g (lw_at lw_m1 234 rfl) rfl
theorem q259 : (Jvm.Cond.code ({ cls := "JoinTreesModel", name := "remove", desc := "(II)I" } : Jvm.MethodName) prog_3_method_4_code (3 : Nat) (Option.some Jvm.ClassFile.FieldType.int)) ∈ lw_all := lw_g (lw_at lw_m1 235 rfl) rfl
theorem q260 : (Jvm.Cond.methodLink "JoinTreesModel" (27 : Nat) ({ cls := "JoinTreesModel", name := "removeRange", desc := "(III)I" } : Jvm.MethodName)) ∈ lw_all := lw_g (lw_at lw_m1 236 rfl) rfl
theorem q261 : (Jvm.Cond.instanceMethod ({ cls := "JoinTreesModel", name := "removeRange", desc := "(III)I" } : Jvm.MethodName)) ∈ lw_all := lw_g (lw_at lw_m1 237 rfl) rfl
theorem q262 : (Jvm.Cond.selects "JoinTreesModel" ({ cls := "JoinTreesModel", name := "removeRange", desc := "(III)I" } : Jvm.MethodName) ({ cls := "JoinTreesModel", name := "removeRange", desc := "(III)I" } : Jvm.MethodName)) ∈ lw_all := lw_g (lw_at lw_m1 238 rfl) rfl
theorem q263 : (Jvm.Cond.code ({ cls := "JoinTreesModel", name := "removeRange", desc := "(III)I" } : Jvm.MethodName) prog_3_method_15_code (7 : Nat) (Option.some Jvm.ClassFile.FieldType.int)) ∈ lw_all := lw_g (lw_at lw_m1 239 rfl) rfl
theorem q266 : (Jvm.Cond.instanceMethod ({ cls := "JoinTreesModel", name := "size", desc := "(I)I" } : Jvm.MethodName)) ∈ lw_all := lw_g (lw_at lw_m2 2 rfl) rfl
theorem q267 : (Jvm.Cond.selects "JoinTreesModel" ({ cls := "JoinTreesModel", name := "size", desc := "(I)I" } : Jvm.MethodName) ({ cls := "JoinTreesModel", name := "size", desc := "(I)I" } : Jvm.MethodName)) ∈ lw_all := lw_g (lw_at lw_m2 3 rfl) rfl
theorem q268 : (Jvm.Cond.code ({ cls := "JoinTreesModel", name := "size", desc := "(I)I" } : Jvm.MethodName) prog_3_method_6_code (2 : Nat) (Option.some Jvm.ClassFile.FieldType.int)) ∈ lw_all := lw_g (lw_at lw_m2 4 rfl) rfl
theorem q270 : (Jvm.Cond.instanceMethod ({ cls := "JoinTreesModel", name := "at", desc := "(II)I" } : Jvm.MethodName)) ∈ lw_all := lw_g (lw_at lw_m2 6 rfl) rfl
theorem q271 : (Jvm.Cond.selects "JoinTreesModel" ({ cls := "JoinTreesModel", name := "at", desc := "(II)I" } : Jvm.MethodName) ({ cls := "JoinTreesModel", name := "at", desc := "(II)I" } : Jvm.MethodName)) ∈ lw_all := lw_g (lw_at lw_m2 7 rfl) rfl
theorem q272 : (Jvm.Cond.code ({ cls := "JoinTreesModel", name := "at", desc := "(II)I" } : Jvm.MethodName) prog_3_method_7_code (4 : Nat) (Option.some Jvm.ClassFile.FieldType.int)) ∈ lw_all := lw_g (lw_at lw_m2 8 rfl) rfl
theorem q273 : (Jvm.Cond.methodLink "JoinTreesModel" (31 : Nat) ({ cls := "JoinTreesModel", name := "rank", desc := "(II)I" } : Jvm.MethodName)) ∈ lw_all := lw_g (lw_at lw_m2 9 rfl) rfl
theorem q274 : (Jvm.Cond.instanceMethod ({ cls := "JoinTreesModel", name := "rank", desc := "(II)I" } : Jvm.MethodName)) ∈ lw_all := lw_g (lw_at lw_m2 10 rfl) rfl
theorem q275 : (Jvm.Cond.selects "JoinTreesModel" ({ cls := "JoinTreesModel", name := "rank", desc := "(II)I" } : Jvm.MethodName) ({ cls := "JoinTreesModel", name := "rank", desc := "(II)I" } : Jvm.MethodName)) ∈ lw_all := lw_g (lw_at lw_m2 11 rfl) rfl
theorem q276 : (Jvm.Cond.code ({ cls := "JoinTreesModel", name := "rank", desc := "(II)I" } : Jvm.MethodName) prog_3_method_8_code (5 : Nat) (Option.some Jvm.ClassFile.FieldType.int)) ∈ lw_all := lw_g (lw_at lw_m2 12 rfl) rfl
theorem q279 : (Jvm.Cond.instanceMethod ({ cls := "JoinTreesModel", name := "combine", desc := "(IIII)I" } : Jvm.MethodName)) ∈ lw_all := lw_g (lw_at lw_m2 15 rfl) rfl
theorem q280 : (Jvm.Cond.selects "JoinTreesModel" ({ cls := "JoinTreesModel", name := "combine", desc := "(IIII)I" } : Jvm.MethodName) ({ cls := "JoinTreesModel", name := "combine", desc := "(IIII)I" } : Jvm.MethodName)) ∈ lw_all := lw_g (lw_at lw_m2 16 rfl) rfl
theorem q281 : (Jvm.Cond.code ({ cls := "JoinTreesModel", name := "combine", desc := "(IIII)I" } : Jvm.MethodName) prog_3_method_13_code (5 : Nat) (Option.some Jvm.ClassFile.FieldType.int)) ∈ lw_all := lw_g (lw_at lw_m2 17 rfl) rfl
theorem q282 : (Jvm.Cond.methodLink "JoinTreesModel" (46 : Nat) ({ cls := "JoinTreesModel", name := "collect", desc := "(IIII)V" } : Jvm.MethodName)) ∈ lw_all := lw_g (lw_at lw_m2 18 rfl) rfl
theorem q283 : (Jvm.Cond.privateMethod ({ cls := "JoinTreesModel", name := "collect", desc := "(IIII)V" } : Jvm.MethodName)) ∈ lw_tbl := lw_at lw_m2 19 rfl
theorem q284 : (Jvm.Cond.instanceMethod ({ cls := "JoinTreesModel", name := "collect", desc := "(IIII)V" } : Jvm.MethodName)) ∈ lw_all := lw_g (lw_at lw_m2 20 rfl) rfl
theorem q285 : (Jvm.Cond.code ({ cls := "JoinTreesModel", name := "collect", desc := "(IIII)V" } : Jvm.MethodName) prog_3_method_11_code (9 : Nat) (Option.none : Option Jvm.ClassFile.FieldType)) ∈ lw_all := lw_g (lw_at lw_m2 21 rfl) rfl
theorem q286 : (Jvm.Cond.methodLink "JoinTreesModel" (39 : Nat) ({ cls := "JoinTreesModel", name := "collected", desc := "(I)Z" } : Jvm.MethodName)) ∈ lw_all := lw_g (lw_at lw_m2 22 rfl) rfl
theorem q287 : (Jvm.Cond.privateMethod ({ cls := "JoinTreesModel", name := "collected", desc := "(I)Z" } : Jvm.MethodName)) ∈ lw_tbl := lw_at lw_m2 23 rfl
theorem q288 : (Jvm.Cond.instanceMethod ({ cls := "JoinTreesModel", name := "collected", desc := "(I)Z" } : Jvm.MethodName)) ∈ lw_all := lw_g (lw_at lw_m2 24 rfl) rfl
theorem q289 : (Jvm.Cond.code ({ cls := "JoinTreesModel", name := "collected", desc := "(I)Z" } : Jvm.MethodName) prog_3_method_10_code (3 : Nat) (Option.some Jvm.ClassFile.FieldType.boolean)) ∈ lw_all := lw_g (lw_at lw_m2 25 rfl) rfl
theorem q290 : (Jvm.Cond.methodLink "JoinTreesModel" (42 : Nat) ({ cls := "JoinTreesModel", name := "belongs", desc := "(IZZ)Z" } : Jvm.MethodName)) ∈ lw_all := lw_g (lw_at lw_m2 26 rfl) rfl
theorem q291 : (Jvm.Cond.privateMethod ({ cls := "JoinTreesModel", name := "belongs", desc := "(IZZ)Z" } : Jvm.MethodName)) ∈ lw_tbl := lw_at lw_m2 27 rfl
theorem q292 : (Jvm.Cond.instanceMethod ({ cls := "JoinTreesModel", name := "belongs", desc := "(IZZ)Z" } : Jvm.MethodName)) ∈ lw_all := lw_g (lw_at lw_m2 28 rfl) rfl
theorem q293 : (Jvm.Cond.code ({ cls := "JoinTreesModel", name := "belongs", desc := "(IZZ)Z" } : Jvm.MethodName) prog_3_method_9_code (4 : Nat) (Option.some Jvm.ClassFile.FieldType.boolean)) ∈ lw_all := lw_g (lw_at lw_m2 29 rfl) rfl
theorem q294 : (Jvm.Cond.methodLink "JoinTreesModel" (50 : Nat) ({ cls := "JoinTreesModel", name := "store", desc := "(I)V" } : Jvm.MethodName)) ∈ lw_all := lw_g (lw_at lw_m2 30 rfl) rfl
theorem q295 : (Jvm.Cond.privateMethod ({ cls := "JoinTreesModel", name := "store", desc := "(I)V" } : Jvm.MethodName)) ∈ lw_tbl := lw_at lw_m2 31 rfl
theorem q296 : (Jvm.Cond.instanceMethod ({ cls := "JoinTreesModel", name := "store", desc := "(I)V" } : Jvm.MethodName)) ∈ lw_all := lw_g (lw_at lw_m2 32 rfl) rfl
theorem q297 : (Jvm.Cond.code ({ cls := "JoinTreesModel", name := "store", desc := "(I)V" } : Jvm.MethodName) prog_3_method_12_code (3 : Nat) (Option.none : Option Jvm.ClassFile.FieldType)) ∈ lw_all := lw_g (lw_at lw_m2 33 rfl) rfl
theorem q299 : (Jvm.Cond.instanceMethod ({ cls := "JoinTreesModel", name := "split", desc := "(III)I" } : Jvm.MethodName)) ∈ lw_all := lw_g (lw_at lw_m2 35 rfl) rfl
theorem q300 : (Jvm.Cond.selects "JoinTreesModel" ({ cls := "JoinTreesModel", name := "split", desc := "(III)I" } : Jvm.MethodName) ({ cls := "JoinTreesModel", name := "split", desc := "(III)I" } : Jvm.MethodName)) ∈ lw_all := lw_g (lw_at lw_m2 36 rfl) rfl
theorem q301 : (Jvm.Cond.code ({ cls := "JoinTreesModel", name := "split", desc := "(III)I" } : Jvm.MethodName) prog_3_method_14_code (5 : Nat) (Option.some Jvm.ClassFile.FieldType.int)) ∈ lw_all := lw_g (lw_at lw_m2 37 rfl) rfl
theorem q302 : (Jvm.Cond.constant "JoinTreesModel" (54 : Nat) (2147483647 : Int32)) ∈ lw_all := lw_g (lw_at lw_m2 38 rfl) rfl
theorem q305 : (Jvm.Cond.instanceMethod ({ cls := "JoinTreesModel", name := "same", desc := "(II)Z" } : Jvm.MethodName)) ∈ lw_all := lw_g (lw_at lw_m2 41 rfl) rfl
theorem q306 : (Jvm.Cond.selects "JoinTreesModel" ({ cls := "JoinTreesModel", name := "same", desc := "(II)Z" } : Jvm.MethodName) ({ cls := "JoinTreesModel", name := "same", desc := "(II)Z" } : Jvm.MethodName)) ∈ lw_all := lw_g (lw_at lw_m2 42 rfl) rfl
theorem q307 : (Jvm.Cond.code ({ cls := "JoinTreesModel", name := "same", desc := "(II)Z" } : Jvm.MethodName) prog_3_method_16_code (3 : Nat) (Option.some Jvm.ClassFile.FieldType.boolean)) ∈ lw_all := lw_g (lw_at lw_m2 43 rfl) rfl
theorem q308 : (Jvm.Cond.methodLink "JoinTreesModel" (55 : Nat) ({ cls := "JoinTreesModel", name := "within", desc := "(II)Z" } : Jvm.MethodName)) ∈ lw_all := lw_g (lw_at lw_m2 44 rfl) rfl
theorem q309 : (Jvm.Cond.instanceMethod ({ cls := "JoinTreesModel", name := "within", desc := "(II)Z" } : Jvm.MethodName)) ∈ lw_all := lw_g (lw_at lw_m2 45 rfl) rfl
theorem q310 : (Jvm.Cond.selects "JoinTreesModel" ({ cls := "JoinTreesModel", name := "within", desc := "(II)Z" } : Jvm.MethodName) ({ cls := "JoinTreesModel", name := "within", desc := "(II)Z" } : Jvm.MethodName)) ∈ lw_all := lw_g (lw_at lw_m2 46 rfl) rfl
theorem q311 : (Jvm.Cond.code ({ cls := "JoinTreesModel", name := "within", desc := "(II)Z" } : Jvm.MethodName) prog_3_method_17_code (4 : Nat) (Option.some Jvm.ClassFile.FieldType.boolean)) ∈ lw_all := lw_g (lw_at lw_m2 47 rfl) rfl
theorem q314 : (Jvm.Cond.instanceMethod ({ cls := "JoinTreesModel", name := "ceiling", desc := "(II)I" } : Jvm.MethodName)) ∈ lw_all := lw_g (lw_at lw_m2 50 rfl) rfl
theorem q315 : (Jvm.Cond.selects "JoinTreesModel" ({ cls := "JoinTreesModel", name := "ceiling", desc := "(II)I" } : Jvm.MethodName) ({ cls := "JoinTreesModel", name := "ceiling", desc := "(II)I" } : Jvm.MethodName)) ∈ lw_all := lw_g (lw_at lw_m2 51 rfl) rfl
theorem q316 : (Jvm.Cond.code ({ cls := "JoinTreesModel", name := "ceiling", desc := "(II)I" } : Jvm.MethodName) prog_3_method_18_code (4 : Nat) (Option.some Jvm.ClassFile.FieldType.int)) ∈ lw_all := lw_g (lw_at lw_m2 52 rfl) rfl
theorem q318 : (Jvm.Cond.instanceMethod ({ cls := "JoinTreesModel", name := "clear", desc := "(I)I" } : Jvm.MethodName)) ∈ lw_all := lw_g (lw_at lw_m2 54 rfl) rfl
theorem q319 : (Jvm.Cond.selects "JoinTreesModel" ({ cls := "JoinTreesModel", name := "clear", desc := "(I)I" } : Jvm.MethodName) ({ cls := "JoinTreesModel", name := "clear", desc := "(I)I" } : Jvm.MethodName)) ∈ lw_all := lw_g (lw_at lw_m2 55 rfl) rfl
theorem q320 : (Jvm.Cond.code ({ cls := "JoinTreesModel", name := "clear", desc := "(I)I" } : Jvm.MethodName) prog_3_method_19_code (3 : Nat) (Option.some Jvm.ClassFile.FieldType.int)) ∈ lw_all := lw_g (lw_at lw_m2 56 rfl) rfl
theorem in_X1 : ∀ w ∈ wsX10, w ∈ lw_all := lw_in wsX10 [235, 237, 239, 241] (by decide +kernel) (by decide +kernel)
abbrev cL_law : ByteArray := code
/-! java/lang/Object -/
def RJ0 : String := "java/lang/Object"
abbrev cJ0_init : ByteArray := object_method_1_code
def yJ0_init : MethodName := ⟨RJ0, "<init>", "()V"⟩
theorem dJ0_init_0 : decode cJ0_init 0 = .ok (.return_, 1) := by decide +kernel
theorem q33 : (Jvm.Cond.instanceMethod ({ cls := "java/lang/Object", name := "<init>", desc := "()V" } : Jvm.MethodName)) ∈ lw_all := lw_g (lw_at lw_m1 9 rfl) rfl
theorem q34 : (Jvm.Cond.code ({ cls := "java/lang/Object", name := "<init>", desc := "()V" } : Jvm.MethodName) object_method_1_code (1 : Nat) (Option.none : Option Jvm.ClassFile.FieldType)) ∈ lw_all := lw_g (lw_at lw_m1 10 rfl) rfl
theorem q24 : (Jvm.Cond.initialized "JoinTreesLaw") ∈ lw_all := lw_g (lw_at lw_m1 0 rfl) rfl
theorem q27 : (Jvm.Cond.classLink "JoinTreesLaw" (7 : Nat) "JoinTrees") ∈ lw_all := lw_g (lw_at lw_m1 3 rfl) rfl
theorem q29 : (Jvm.Cond.methodLink "JoinTreesLaw" (9 : Nat) ({ cls := "JoinTrees", name := "<init>", desc := "()V" } : Jvm.MethodName)) ∈ lw_all := lw_g (lw_at lw_m1 5 rfl) rfl
theorem q94 : (Jvm.Cond.methodLink "JoinTreesLaw" (13 : Nat) ({ cls := "JoinTrees", name := "add", desc := "(II)I" } : Jvm.MethodName)) ∈ lw_all := lw_g (lw_at lw_m1 70 rfl) rfl
theorem q142 : (Jvm.Cond.methodLink "JoinTreesLaw" (18 : Nat) ({ cls := "JoinTrees", name := "remove", desc := "(II)I" } : Jvm.MethodName)) ∈ lw_all := lw_g (lw_at lw_m1 118 rfl) rfl
theorem q154 : (Jvm.Cond.methodLink "JoinTreesLaw" (22 : Nat) ({ cls := "JoinTrees", name := "has", desc := "(II)Z" } : Jvm.MethodName)) ∈ lw_all := lw_g (lw_at lw_m1 130 rfl) rfl
theorem q155 : (Jvm.Cond.methodLink "JoinTreesLaw" (27 : Nat) ({ cls := "JoinTrees", name := "size", desc := "(I)I" } : Jvm.MethodName)) ∈ lw_all := lw_g (lw_at lw_m1 131 rfl) rfl
theorem q159 : (Jvm.Cond.methodLink "JoinTreesLaw" (32 : Nat) ({ cls := "JoinTrees", name := "at", desc := "(II)I" } : Jvm.MethodName)) ∈ lw_all := lw_g (lw_at lw_m1 135 rfl) rfl
theorem q163 : (Jvm.Cond.methodLink "JoinTreesLaw" (36 : Nat) ({ cls := "JoinTrees", name := "rank", desc := "(II)I" } : Jvm.MethodName)) ∈ lw_all := lw_g (lw_at lw_m1 139 rfl) rfl
theorem q167 : (Jvm.Cond.methodLink "JoinTreesLaw" (40 : Nat) ({ cls := "JoinTrees", name := "combine", desc := "(IIII)I" } : Jvm.MethodName)) ∈ lw_all := lw_g (lw_at lw_m1 143 rfl) rfl
theorem q199 : (Jvm.Cond.methodLink "JoinTreesLaw" (45 : Nat) ({ cls := "JoinTrees", name := "split", desc := "(III)I" } : Jvm.MethodName)) ∈ lw_all := lw_g (lw_at lw_m1 175 rfl) rfl
theorem q203 : (Jvm.Cond.methodLink "JoinTreesLaw" (50 : Nat) ({ cls := "JoinTrees", name := "removeRange", desc := "(III)I" } : Jvm.MethodName)) ∈ lw_all := lw_g (lw_at lw_m1 179 rfl) rfl
theorem q207 : (Jvm.Cond.methodLink "JoinTreesLaw" (54 : Nat) ({ cls := "JoinTrees", name := "same", desc := "(II)Z" } : Jvm.MethodName)) ∈ lw_all := lw_g (lw_at lw_m1 183 rfl) rfl
theorem q215 : (Jvm.Cond.methodLink "JoinTreesLaw" (58 : Nat) ({ cls := "JoinTrees", name := "within", desc := "(II)Z" } : Jvm.MethodName)) ∈ lw_all := lw_g (lw_at lw_m1 191 rfl) rfl
theorem q216 : (Jvm.Cond.methodLink "JoinTreesLaw" (62 : Nat) ({ cls := "JoinTrees", name := "ceiling", desc := "(II)I" } : Jvm.MethodName)) ∈ lw_all := lw_g (lw_at lw_m1 192 rfl) rfl
theorem q221 : (Jvm.Cond.methodLink "JoinTreesLaw" (66 : Nat) ({ cls := "JoinTrees", name := "clear", desc := "(I)I" } : Jvm.MethodName)) ∈ lw_all := lw_g (lw_at lw_m1 197 rfl) rfl
theorem q225 : (Jvm.Cond.classLink "JoinTreesLaw" (10 : Nat) "JoinTreesModel") ∈ lw_all := lw_g (lw_at lw_m1 201 rfl) rfl
theorem q227 : (Jvm.Cond.methodLink "JoinTreesLaw" (12 : Nat) ({ cls := "JoinTreesModel", name := "<init>", desc := "()V" } : Jvm.MethodName)) ∈ lw_all := lw_g (lw_at lw_m1 203 rfl) rfl
theorem q244 : (Jvm.Cond.methodLink "JoinTreesLaw" (17 : Nat) ({ cls := "JoinTreesModel", name := "add", desc := "(II)I" } : Jvm.MethodName)) ∈ lw_all := lw_g (lw_at lw_m1 220 rfl) rfl
theorem q256 : (Jvm.Cond.methodLink "JoinTreesLaw" (21 : Nat) ({ cls := "JoinTreesModel", name := "remove", desc := "(II)I" } : Jvm.MethodName)) ∈ lw_all := lw_g (lw_at lw_m1 232 rfl) rfl
theorem q264 : (Jvm.Cond.methodLink "JoinTreesLaw" (26 : Nat) ({ cls := "JoinTreesModel", name := "has", desc := "(II)Z" } : Jvm.MethodName)) ∈ lw_all := lw_g (lw_at lw_m2 0 rfl) rfl
theorem q265 : (Jvm.Cond.methodLink "JoinTreesLaw" (31 : Nat) ({ cls := "JoinTreesModel", name := "size", desc := "(I)I" } : Jvm.MethodName)) ∈ lw_all := lw_g (lw_at lw_m2 1 rfl) rfl
theorem q269 : (Jvm.Cond.methodLink "JoinTreesLaw" (35 : Nat) ({ cls := "JoinTreesModel", name := "at", desc := "(II)I" } : Jvm.MethodName)) ∈ lw_all := lw_g (lw_at lw_m2 5 rfl) rfl
theorem q277 : (Jvm.Cond.methodLink "JoinTreesLaw" (39 : Nat) ({ cls := "JoinTreesModel", name := "rank", desc := "(II)I" } : Jvm.MethodName)) ∈ lw_all := lw_g (lw_at lw_m2 13 rfl) rfl
theorem q278 : (Jvm.Cond.methodLink "JoinTreesLaw" (44 : Nat) ({ cls := "JoinTreesModel", name := "combine", desc := "(IIII)I" } : Jvm.MethodName)) ∈ lw_all := lw_g (lw_at lw_m2 14 rfl) rfl
theorem q298 : (Jvm.Cond.methodLink "JoinTreesLaw" (49 : Nat) ({ cls := "JoinTreesModel", name := "split", desc := "(III)I" } : Jvm.MethodName)) ∈ lw_all := lw_g (lw_at lw_m2 34 rfl) rfl
theorem q303 : (Jvm.Cond.methodLink "JoinTreesLaw" (53 : Nat) ({ cls := "JoinTreesModel", name := "removeRange", desc := "(III)I" } : Jvm.MethodName)) ∈ lw_all := lw_g (lw_at lw_m2 39 rfl) rfl
theorem q304 : (Jvm.Cond.methodLink "JoinTreesLaw" (57 : Nat) ({ cls := "JoinTreesModel", name := "same", desc := "(II)Z" } : Jvm.MethodName)) ∈ lw_all := lw_g (lw_at lw_m2 40 rfl) rfl
theorem q312 : (Jvm.Cond.methodLink "JoinTreesLaw" (61 : Nat) ({ cls := "JoinTreesModel", name := "within", desc := "(II)Z" } : Jvm.MethodName)) ∈ lw_all := lw_g (lw_at lw_m2 48 rfl) rfl
theorem q313 : (Jvm.Cond.methodLink "JoinTreesLaw" (65 : Nat) ({ cls := "JoinTreesModel", name := "ceiling", desc := "(II)I" } : Jvm.MethodName)) ∈ lw_all := lw_g (lw_at lw_m2 49 rfl) rfl
theorem q317 : (Jvm.Cond.methodLink "JoinTreesLaw" (69 : Nat) ({ cls := "JoinTreesModel", name := "clear", desc := "(I)I" } : Jvm.MethodName)) ∈ lw_all := lw_g (lw_at lw_m2 53 rfl) rfl
theorem q90 : (Jvm.Cond.arrayClass Jvm.ClassFile.FieldType.short) ∈ lw_all := lw_g (lw_at lw_m1 66 rfl) rfl
theorem q91 : (Jvm.Cond.arrayClass Jvm.ClassFile.FieldType.int) ∈ lw_all := lw_g (lw_at lw_m1 67 rfl) rfl
theorem q92 : (Jvm.Cond.arrayClass Jvm.ClassFile.FieldType.byte) ∈ lw_all := lw_g (lw_at lw_m1 68 rfl) rfl
theorem q93 : (Jvm.Cond.arrayClass Jvm.ClassFile.FieldType.boolean) ∈ lw_all := lw_g (lw_at lw_m1 69 rfl) rfl
end
section
set_option maxRecDepth 100000
theorem dX0_init_0 : decode cX0_init 0 = .ok (.aload_n 0, 1) ∧ 0 + 1 = 1 := ⟨by decide +kernel, rfl⟩
theorem dX0_init_1 : decode cX0_init 1 = .ok (.invokespecial 1, 3) ∧ 1 + 3 = 4 := ⟨by decide +kernel, rfl⟩
theorem dX0_init_4 : decode cX0_init 4 = .ok (.aload_n 0, 1) ∧ 4 + 1 = 5 := ⟨by decide +kernel, rfl⟩
theorem dX0_init_5 : decode cX0_init 5 = .ok (.sipush 256, 3) ∧ 5 + 3 = 8 := ⟨by decide +kernel, rfl⟩
theorem dX0_init_8 : decode cX0_init 8 = .ok (.newarray .short, 2) ∧ 8 + 2 = 10 := ⟨by decide +kernel, rfl⟩
theorem dX0_init_10 : decode cX0_init 10 = .ok (.putfield 7, 3) ∧ 10 + 3 = 13 := ⟨by decide +kernel, rfl⟩
theorem dX0_init_13 : decode cX0_init 13 = .ok (.aload_n 0, 1) ∧ 13 + 1 = 14 := ⟨by decide +kernel, rfl⟩
theorem dX0_init_14 : decode cX0_init 14 = .ok (.sipush 256, 3) ∧ 14 + 3 = 17 := ⟨by decide +kernel, rfl⟩
theorem dX0_init_17 : decode cX0_init 17 = .ok (.newarray .short, 2) ∧ 17 + 2 = 19 := ⟨by decide +kernel, rfl⟩
theorem dX0_init_19 : decode cX0_init 19 = .ok (.putfield 13, 3) ∧ 19 + 3 = 22 := ⟨by decide +kernel, rfl⟩
theorem dX0_init_22 : decode cX0_init 22 = .ok (.aload_n 0, 1) ∧ 22 + 1 = 23 := ⟨by decide +kernel, rfl⟩
theorem dX0_init_23 : decode cX0_init 23 = .ok (.sipush 256, 3) ∧ 23 + 3 = 26 := ⟨by decide +kernel, rfl⟩
theorem dX0_init_26 : decode cX0_init 26 = .ok (.newarray .int, 2) ∧ 26 + 2 = 28 := ⟨by decide +kernel, rfl⟩
theorem dX0_init_28 : decode cX0_init 28 = .ok (.putfield 16, 3) ∧ 28 + 3 = 31 := ⟨by decide +kernel, rfl⟩
theorem dX0_init_31 : decode cX0_init 31 = .ok (.aload_n 0, 1) ∧ 31 + 1 = 32 := ⟨by decide +kernel, rfl⟩
theorem dX0_init_32 : decode cX0_init 32 = .ok (.sipush 256, 3) ∧ 32 + 3 = 35 := ⟨by decide +kernel, rfl⟩
theorem dX0_init_35 : decode cX0_init 35 = .ok (.newarray .byte, 2) ∧ 35 + 2 = 37 := ⟨by decide +kernel, rfl⟩
theorem dX0_init_37 : decode cX0_init 37 = .ok (.putfield 20, 3) ∧ 37 + 3 = 40 := ⟨by decide +kernel, rfl⟩
theorem dX0_init_40 : decode cX0_init 40 = .ok (.aload_n 0, 1) ∧ 40 + 1 = 41 := ⟨by decide +kernel, rfl⟩
theorem dX0_init_41 : decode cX0_init 41 = .ok (.iconst 4, 1) ∧ 41 + 1 = 42 := ⟨by decide +kernel, rfl⟩
theorem dX0_init_42 : decode cX0_init 42 = .ok (.newarray .short, 2) ∧ 42 + 2 = 44 := ⟨by decide +kernel, rfl⟩
theorem dX0_init_44 : decode cX0_init 44 = .ok (.putfield 24, 3) ∧ 44 + 3 = 47 := ⟨by decide +kernel, rfl⟩
theorem dX0_init_47 : decode cX0_init 47 = .ok (.aload_n 0, 1) ∧ 47 + 1 = 48 := ⟨by decide +kernel, rfl⟩
theorem dX0_init_48 : decode cX0_init 48 = .ok (.sipush 256, 3) ∧ 48 + 3 = 51 := ⟨by decide +kernel, rfl⟩
theorem dX0_init_51 : decode cX0_init 51 = .ok (.newarray .short, 2) ∧ 51 + 2 = 53 := ⟨by decide +kernel, rfl⟩
theorem dX0_init_53 : decode cX0_init 53 = .ok (.putfield 27, 3) ∧ 53 + 3 = 56 := ⟨by decide +kernel, rfl⟩
theorem dX0_init_56 : decode cX0_init 56 = .ok (.aload_n 0, 1) ∧ 56 + 1 = 57 := ⟨by decide +kernel, rfl⟩
theorem dX0_init_57 : decode cX0_init 57 = .ok (.bipush 64, 2) ∧ 57 + 2 = 59 := ⟨by decide +kernel, rfl⟩
theorem dX0_init_59 : decode cX0_init 59 = .ok (.newarray .short, 2) ∧ 59 + 2 = 61 := ⟨by decide +kernel, rfl⟩
theorem dX0_init_61 : decode cX0_init 61 = .ok (.putfield 30, 3) ∧ 61 + 3 = 64 := ⟨by decide +kernel, rfl⟩
theorem dX0_init_64 : decode cX0_init 64 = .ok (.aload_n 0, 1) ∧ 64 + 1 = 65 := ⟨by decide +kernel, rfl⟩
theorem dX0_init_65 : decode cX0_init 65 = .ok (.bipush 64, 2) ∧ 65 + 2 = 67 := ⟨by decide +kernel, rfl⟩
theorem dX0_init_67 : decode cX0_init 67 = .ok (.newarray .boolean, 2) ∧ 67 + 2 = 69 := ⟨by decide +kernel, rfl⟩
theorem dX0_init_69 : decode cX0_init 69 = .ok (.putfield 33, 3) ∧ 69 + 3 = 72 := ⟨by decide +kernel, rfl⟩
theorem dX0_init_72 : decode cX0_init 72 = .ok (.aload_n 0, 1) ∧ 72 + 1 = 73 := ⟨by decide +kernel, rfl⟩
theorem dX0_init_73 : decode cX0_init 73 = .ok (.bipush 32, 2) ∧ 73 + 2 = 75 := ⟨by decide +kernel, rfl⟩
theorem dX0_init_75 : decode cX0_init 75 = .ok (.newarray .short, 2) ∧ 75 + 2 = 77 := ⟨by decide +kernel, rfl⟩
theorem dX0_init_77 : decode cX0_init 77 = .ok (.putfield 37, 3) ∧ 77 + 3 = 80 := ⟨by decide +kernel, rfl⟩
theorem dX0_init_80 : decode cX0_init 80 = .ok (.aload_n 0, 1) ∧ 80 + 1 = 81 := ⟨by decide +kernel, rfl⟩
theorem dX0_init_81 : decode cX0_init 81 = .ok (.bipush 32, 2) ∧ 81 + 2 = 83 := ⟨by decide +kernel, rfl⟩
theorem dX0_init_83 : decode cX0_init 83 = .ok (.newarray .short, 2) ∧ 83 + 2 = 85 := ⟨by decide +kernel, rfl⟩
theorem dX0_init_85 : decode cX0_init 85 = .ok (.putfield 40, 3) ∧ 85 + 3 = 88 := ⟨by decide +kernel, rfl⟩
theorem dX0_init_88 : decode cX0_init 88 = .ok (.aload_n 0, 1) ∧ 88 + 1 = 89 := ⟨by decide +kernel, rfl⟩
theorem dX0_init_89 : decode cX0_init 89 = .ok (.bipush 32, 2) ∧ 89 + 2 = 91 := ⟨by decide +kernel, rfl⟩
theorem dX0_init_91 : decode cX0_init 91 = .ok (.newarray .short, 2) ∧ 91 + 2 = 93 := ⟨by decide +kernel, rfl⟩
theorem dX0_init_93 : decode cX0_init 93 = .ok (.putfield 43, 3) ∧ 93 + 3 = 96 := ⟨by decide +kernel, rfl⟩
theorem dX0_init_96 : decode cX0_init 96 = .ok (.aload_n 0, 1) ∧ 96 + 1 = 97 := ⟨by decide +kernel, rfl⟩
theorem dX0_init_97 : decode cX0_init 97 = .ok (.bipush 32, 2) ∧ 97 + 2 = 99 := ⟨by decide +kernel, rfl⟩
theorem dX0_init_99 : decode cX0_init 99 = .ok (.newarray .boolean, 2) ∧ 99 + 2 = 101 := ⟨by decide +kernel, rfl⟩
theorem dX0_init_101 : decode cX0_init 101 = .ok (.putfield 46, 3) ∧ 101 + 3 = 104 := ⟨by decide +kernel, rfl⟩
theorem dX0_init_104 : decode cX0_init 104 = .ok (.aload_n 0, 1) ∧ 104 + 1 = 105 := ⟨by decide +kernel, rfl⟩
theorem dX0_init_105 : decode cX0_init 105 = .ok (.bipush 32, 2) ∧ 105 + 2 = 107 := ⟨by decide +kernel, rfl⟩
theorem dX0_init_107 : decode cX0_init 107 = .ok (.newarray .boolean, 2) ∧ 107 + 2 = 109 := ⟨by decide +kernel, rfl⟩
theorem dX0_init_109 : decode cX0_init 109 = .ok (.putfield 49, 3) ∧ 109 + 3 = 112 := ⟨by decide +kernel, rfl⟩
theorem dX0_init_112 : decode cX0_init 112 = .ok (.sipush 255, 3) ∧ 112 + 3 = 115 := ⟨by decide +kernel, rfl⟩
theorem dX0_init_115 : decode cX0_init 115 = .ok (.istore_n 1, 1) ∧ 115 + 1 = 116 := ⟨by decide +kernel, rfl⟩
theorem dX0_init_116 : decode cX0_init 116 = .ok (.iload_n 1, 1) ∧ 116 + 1 = 117 := ⟨by decide +kernel, rfl⟩
theorem dX0_init_117 : decode cX0_init 117 = .ok (.ifCond .le 30, 3) ∧ 117 + 3 = 120 ∧ ((117 : Nat) : Int) + (30) = ((147 : Nat) : Int) := ⟨by decide +kernel, rfl, by decide⟩
theorem dX0_init_120 : decode cX0_init 120 = .ok (.aload_n 0, 1) ∧ 120 + 1 = 121 := ⟨by decide +kernel, rfl⟩
theorem dX0_init_121 : decode cX0_init 121 = .ok (.getfield 27, 3) ∧ 121 + 3 = 124 := ⟨by decide +kernel, rfl⟩
theorem dX0_init_124 : decode cX0_init 124 = .ok (.aload_n 0, 1) ∧ 124 + 1 = 125 := ⟨by decide +kernel, rfl⟩
theorem dX0_init_125 : decode cX0_init 125 = .ok (.getfield 52, 3) ∧ 125 + 3 = 128 := ⟨by decide +kernel, rfl⟩
theorem dX0_init_128 : decode cX0_init 128 = .ok (.iload_n 1, 1) ∧ 128 + 1 = 129 := ⟨by decide +kernel, rfl⟩
theorem dX0_init_129 : decode cX0_init 129 = .ok (.i2s, 1) ∧ 129 + 1 = 130 := ⟨by decide +kernel, rfl⟩
theorem dX0_init_130 : decode cX0_init 130 = .ok (.sastore, 1) ∧ 130 + 1 = 131 := ⟨by decide +kernel, rfl⟩
theorem dX0_init_131 : decode cX0_init 131 = .ok (.aload_n 0, 1) ∧ 131 + 1 = 132 := ⟨by decide +kernel, rfl⟩
theorem dX0_init_132 : decode cX0_init 132 = .ok (.dup, 1) ∧ 132 + 1 = 133 := ⟨by decide +kernel, rfl⟩
theorem dX0_init_133 : decode cX0_init 133 = .ok (.getfield 52, 3) ∧ 133 + 3 = 136 := ⟨by decide +kernel, rfl⟩
theorem dX0_init_136 : decode cX0_init 136 = .ok (.iconst 1, 1) ∧ 136 + 1 = 137 := ⟨by decide +kernel, rfl⟩
theorem dX0_init_137 : decode cX0_init 137 = .ok (.iadd, 1) ∧ 137 + 1 = 138 := ⟨by decide +kernel, rfl⟩
theorem dX0_init_138 : decode cX0_init 138 = .ok (.putfield 52, 3) ∧ 138 + 3 = 141 := ⟨by decide +kernel, rfl⟩
theorem dX0_init_141 : decode cX0_init 141 = .ok (.iinc 1 (-1), 3) ∧ 141 + 3 = 144 := ⟨by decide +kernel, rfl⟩
theorem dX0_init_144 : decode cX0_init 144 = .ok (.goto (-28), 3) ∧ 144 + 3 = 147 ∧ ((144 : Nat) : Int) + (-28) = ((116 : Nat) : Int) := ⟨by decide +kernel, rfl, by decide⟩
theorem dX0_init_147 : decode cX0_init 147 = .ok (.return_, 1) ∧ 147 + 1 = 148 := ⟨by decide +kernel, rfl⟩
theorem dX0_add_0 : decode cX0_add 0 = .ok (.aload_n 0, 1) ∧ 0 + 1 = 1 := ⟨by decide +kernel, rfl⟩
theorem dX0_add_1 : decode cX0_add 1 = .ok (.iload_n 1, 1) ∧ 1 + 1 = 2 := ⟨by decide +kernel, rfl⟩
theorem dX0_add_2 : decode cX0_add 2 = .ok (.invokevirtual 56, 3) ∧ 2 + 3 = 5 := ⟨by decide +kernel, rfl⟩
theorem dX0_add_5 : decode cX0_add 5 = .ok (.ifCond .ne 5, 3) ∧ 5 + 3 = 8 ∧ ((5 : Nat) : Int) + (5) = ((10 : Nat) : Int) := ⟨by decide +kernel, rfl, by decide⟩
theorem dX0_add_8 : decode cX0_add 8 = .ok (.iconst (-1), 1) ∧ 8 + 1 = 9 := ⟨by decide +kernel, rfl⟩
theorem dX0_add_9 : decode cX0_add 9 = .ok (.ireturn, 1) ∧ 9 + 1 = 10 := ⟨by decide +kernel, rfl⟩
theorem dX0_add_10 : decode cX0_add 10 = .ok (.aload_n 0, 1) ∧ 10 + 1 = 11 := ⟨by decide +kernel, rfl⟩
theorem dX0_add_11 : decode cX0_add 11 = .ok (.iload_n 1, 1) ∧ 11 + 1 = 12 := ⟨by decide +kernel, rfl⟩
theorem dX0_add_12 : decode cX0_add 12 = .ok (.iload_n 2, 1) ∧ 12 + 1 = 13 := ⟨by decide +kernel, rfl⟩
theorem dX0_add_13 : decode cX0_add 13 = .ok (.invokevirtual 60, 3) ∧ 13 + 3 = 16 := ⟨by decide +kernel, rfl⟩
theorem dX0_add_16 : decode cX0_add 16 = .ok (.ifCond .eq 5, 3) ∧ 16 + 3 = 19 ∧ ((16 : Nat) : Int) + (5) = ((21 : Nat) : Int) := ⟨by decide +kernel, rfl, by decide⟩
theorem dX0_add_19 : decode cX0_add 19 = .ok (.iconst 0, 1) ∧ 19 + 1 = 20 := ⟨by decide +kernel, rfl⟩
theorem dX0_add_20 : decode cX0_add 20 = .ok (.ireturn, 1) ∧ 20 + 1 = 21 := ⟨by decide +kernel, rfl⟩
theorem dX0_add_21 : decode cX0_add 21 = .ok (.aload_n 0, 1) ∧ 21 + 1 = 22 := ⟨by decide +kernel, rfl⟩
theorem dX0_add_22 : decode cX0_add 22 = .ok (.getfield 20, 3) ∧ 22 + 3 = 25 := ⟨by decide +kernel, rfl⟩
theorem dX0_add_25 : decode cX0_add 25 = .ok (.aload_n 0, 1) ∧ 25 + 1 = 26 := ⟨by decide +kernel, rfl⟩
theorem dX0_add_26 : decode cX0_add 26 = .ok (.getfield 24, 3) ∧ 26 + 3 = 29 := ⟨by decide +kernel, rfl⟩
theorem dX0_add_29 : decode cX0_add 29 = .ok (.iload_n 1, 1) ∧ 29 + 1 = 30 := ⟨by decide +kernel, rfl⟩
theorem dX0_add_30 : decode cX0_add 30 = .ok (.saload, 1) ∧ 30 + 1 = 31 := ⟨by decide +kernel, rfl⟩
theorem dX0_add_31 : decode cX0_add 31 = .ok (.baload, 1) ∧ 31 + 1 = 32 := ⟨by decide +kernel, rfl⟩
theorem dX0_add_32 : decode cX0_add 32 = .ok (.bipush 20, 2) ∧ 32 + 2 = 34 := ⟨by decide +kernel, rfl⟩
theorem dX0_add_34 : decode cX0_add 34 = .ok (.if_icmp .lt 6, 3) ∧ 34 + 3 = 37 ∧ ((34 : Nat) : Int) + (6) = ((40 : Nat) : Int) := ⟨by decide +kernel, rfl, by decide⟩
theorem dX0_add_37 : decode cX0_add 37 = .ok (.bipush (-2), 2) ∧ 37 + 2 = 39 := ⟨by decide +kernel, rfl⟩
theorem dX0_add_39 : decode cX0_add 39 = .ok (.ireturn, 1) ∧ 39 + 1 = 40 := ⟨by decide +kernel, rfl⟩
theorem dX0_add_40 : decode cX0_add 40 = .ok (.aload_n 0, 1) ∧ 40 + 1 = 41 := ⟨by decide +kernel, rfl⟩
theorem dX0_add_41 : decode cX0_add 41 = .ok (.aload_n 0, 1) ∧ 41 + 1 = 42 := ⟨by decide +kernel, rfl⟩
theorem dX0_add_42 : decode cX0_add 42 = .ok (.getfield 24, 3) ∧ 42 + 3 = 45 := ⟨by decide +kernel, rfl⟩
theorem dX0_add_45 : decode cX0_add 45 = .ok (.iload_n 1, 1) ∧ 45 + 1 = 46 := ⟨by decide +kernel, rfl⟩
theorem dX0_add_46 : decode cX0_add 46 = .ok (.saload, 1) ∧ 46 + 1 = 47 := ⟨by decide +kernel, rfl⟩
theorem dX0_add_47 : decode cX0_add 47 = .ok (.iload_n 2, 1) ∧ 47 + 1 = 48 := ⟨by decide +kernel, rfl⟩
theorem dX0_add_48 : decode cX0_add 48 = .ok (.invokevirtual 64, 3) ∧ 48 + 3 = 51 := ⟨by decide +kernel, rfl⟩
theorem dX0_add_51 : decode cX0_add 51 = .ok (.aload_n 0, 1) ∧ 51 + 1 = 52 := ⟨by decide +kernel, rfl⟩
theorem dX0_add_52 : decode cX0_add 52 = .ok (.getfield 68, 3) ∧ 52 + 3 = 55 := ⟨by decide +kernel, rfl⟩
theorem dX0_add_55 : decode cX0_add 55 = .ok (.istore_n 3, 1) ∧ 55 + 1 = 56 := ⟨by decide +kernel, rfl⟩
theorem dX0_add_56 : decode cX0_add 56 = .ok (.aload_n 0, 1) ∧ 56 + 1 = 57 := ⟨by decide +kernel, rfl⟩
theorem dX0_add_57 : decode cX0_add 57 = .ok (.iload_n 2, 1) ∧ 57 + 1 = 58 := ⟨by decide +kernel, rfl⟩
theorem dX0_add_58 : decode cX0_add 58 = .ok (.invokevirtual 71, 3) ∧ 58 + 3 = 61 := ⟨by decide +kernel, rfl⟩
theorem dX0_add_61 : decode cX0_add 61 = .ok (.istore 4, 2) ∧ 61 + 2 = 63 := ⟨by decide +kernel, rfl⟩
theorem dX0_add_63 : decode cX0_add 63 = .ok (.aload_n 0, 1) ∧ 63 + 1 = 64 := ⟨by decide +kernel, rfl⟩
theorem dX0_add_64 : decode cX0_add 64 = .ok (.getfield 24, 3) ∧ 64 + 3 = 67 := ⟨by decide +kernel, rfl⟩
theorem dX0_add_67 : decode cX0_add 67 = .ok (.iload_n 1, 1) ∧ 67 + 1 = 68 := ⟨by decide +kernel, rfl⟩
theorem dX0_add_68 : decode cX0_add 68 = .ok (.aload_n 0, 1) ∧ 68 + 1 = 69 := ⟨by decide +kernel, rfl⟩
theorem dX0_add_69 : decode cX0_add 69 = .ok (.aload_n 0, 1) ∧ 69 + 1 = 70 := ⟨by decide +kernel, rfl⟩
theorem dX0_add_70 : decode cX0_add 70 = .ok (.getfield 75, 3) ∧ 70 + 3 = 73 := ⟨by decide +kernel, rfl⟩
theorem dX0_add_73 : decode cX0_add 73 = .ok (.iload 4, 2) ∧ 73 + 2 = 75 := ⟨by decide +kernel, rfl⟩
theorem dX0_add_75 : decode cX0_add 75 = .ok (.iload_n 3, 1) ∧ 75 + 1 = 76 := ⟨by decide +kernel, rfl⟩
theorem dX0_add_76 : decode cX0_add 76 = .ok (.invokevirtual 78, 3) ∧ 76 + 3 = 79 := ⟨by decide +kernel, rfl⟩
theorem dX0_add_79 : decode cX0_add 79 = .ok (.i2s, 1) ∧ 79 + 1 = 80 := ⟨by decide +kernel, rfl⟩
theorem dX0_add_80 : decode cX0_add 80 = .ok (.sastore, 1) ∧ 80 + 1 = 81 := ⟨by decide +kernel, rfl⟩
theorem dX0_add_81 : decode cX0_add 81 = .ok (.iconst 1, 1) ∧ 81 + 1 = 82 := ⟨by decide +kernel, rfl⟩
theorem dX0_add_82 : decode cX0_add 82 = .ok (.ireturn, 1) ∧ 82 + 1 = 83 := ⟨by decide +kernel, rfl⟩
theorem dX0_isSet_0 : decode cX0_isSet 0 = .ok (.iload_n 1, 1) ∧ 0 + 1 = 1 := ⟨by decide +kernel, rfl⟩
theorem dX0_isSet_1 : decode cX0_isSet 1 = .ok (.ifCond .lt 12, 3) ∧ 1 + 3 = 4 ∧ ((1 : Nat) : Int) + (12) = ((13 : Nat) : Int) := ⟨by decide +kernel, rfl, by decide⟩
theorem dX0_isSet_4 : decode cX0_isSet 4 = .ok (.iload_n 1, 1) ∧ 4 + 1 = 5 := ⟨by decide +kernel, rfl⟩
theorem dX0_isSet_5 : decode cX0_isSet 5 = .ok (.iconst 3, 1) ∧ 5 + 1 = 6 := ⟨by decide +kernel, rfl⟩
theorem dX0_isSet_6 : decode cX0_isSet 6 = .ok (.if_icmp .gt 7, 3) ∧ 6 + 3 = 9 ∧ ((6 : Nat) : Int) + (7) = ((13 : Nat) : Int) := ⟨by decide +kernel, rfl, by decide⟩
theorem dX0_isSet_9 : decode cX0_isSet 9 = .ok (.iconst 1, 1) ∧ 9 + 1 = 10 := ⟨by decide +kernel, rfl⟩
theorem dX0_isSet_10 : decode cX0_isSet 10 = .ok (.goto 4, 3) ∧ 10 + 3 = 13 ∧ ((10 : Nat) : Int) + (4) = ((14 : Nat) : Int) := ⟨by decide +kernel, rfl, by decide⟩
theorem dX0_isSet_13 : decode cX0_isSet 13 = .ok (.iconst 0, 1) ∧ 13 + 1 = 14 := ⟨by decide +kernel, rfl⟩
theorem dX0_isSet_14 : decode cX0_isSet 14 = .ok (.ireturn, 1) ∧ 14 + 1 = 15 := ⟨by decide +kernel, rfl⟩
theorem dX0_has_0 : decode cX0_has 0 = .ok (.aload_n 0, 1) ∧ 0 + 1 = 1 := ⟨by decide +kernel, rfl⟩
theorem dX0_has_1 : decode cX0_has 1 = .ok (.iload_n 1, 1) ∧ 1 + 1 = 2 := ⟨by decide +kernel, rfl⟩
theorem dX0_has_2 : decode cX0_has 2 = .ok (.invokevirtual 56, 3) ∧ 2 + 3 = 5 := ⟨by decide +kernel, rfl⟩
theorem dX0_has_5 : decode cX0_has 5 = .ok (.ifCond .ne 5, 3) ∧ 5 + 3 = 8 ∧ ((5 : Nat) : Int) + (5) = ((10 : Nat) : Int) := ⟨by decide +kernel, rfl, by decide⟩
theorem dX0_has_8 : decode cX0_has 8 = .ok (.iconst 0, 1) ∧ 8 + 1 = 9 := ⟨by decide +kernel, rfl⟩
theorem dX0_has_9 : decode cX0_has 9 = .ok (.ireturn, 1) ∧ 9 + 1 = 10 := ⟨by decide +kernel, rfl⟩
theorem dX0_has_10 : decode cX0_has 10 = .ok (.aload_n 0, 1) ∧ 10 + 1 = 11 := ⟨by decide +kernel, rfl⟩
theorem dX0_has_11 : decode cX0_has 11 = .ok (.getfield 24, 3) ∧ 11 + 3 = 14 := ⟨by decide +kernel, rfl⟩
theorem dX0_has_14 : decode cX0_has 14 = .ok (.iload_n 1, 1) ∧ 14 + 1 = 15 := ⟨by decide +kernel, rfl⟩
theorem dX0_has_15 : decode cX0_has 15 = .ok (.saload, 1) ∧ 15 + 1 = 16 := ⟨by decide +kernel, rfl⟩
theorem dX0_has_16 : decode cX0_has 16 = .ok (.istore_n 3, 1) ∧ 16 + 1 = 17 := ⟨by decide +kernel, rfl⟩
theorem dX0_has_17 : decode cX0_has 17 = .ok (.iload_n 3, 1) ∧ 17 + 1 = 18 := ⟨by decide +kernel, rfl⟩
theorem dX0_has_18 : decode cX0_has 18 = .ok (.ifCond .eq 42, 3) ∧ 18 + 3 = 21 ∧ ((18 : Nat) : Int) + (42) = ((60 : Nat) : Int) := ⟨by decide +kernel, rfl, by decide⟩
theorem dX0_has_21 : decode cX0_has 21 = .ok (.aload_n 0, 1) ∧ 21 + 1 = 22 := ⟨by decide +kernel, rfl⟩
theorem dX0_has_22 : decode cX0_has 22 = .ok (.getfield 16, 3) ∧ 22 + 3 = 25 := ⟨by decide +kernel, rfl⟩
theorem dX0_has_25 : decode cX0_has 25 = .ok (.iload_n 3, 1) ∧ 25 + 1 = 26 := ⟨by decide +kernel, rfl⟩
theorem dX0_has_26 : decode cX0_has 26 = .ok (.iaload, 1) ∧ 26 + 1 = 27 := ⟨by decide +kernel, rfl⟩
theorem dX0_has_27 : decode cX0_has 27 = .ok (.iload_n 2, 1) ∧ 27 + 1 = 28 := ⟨by decide +kernel, rfl⟩
theorem dX0_has_28 : decode cX0_has 28 = .ok (.if_icmp .eq 32, 3) ∧ 28 + 3 = 31 ∧ ((28 : Nat) : Int) + (32) = ((60 : Nat) : Int) := ⟨by decide +kernel, rfl, by decide⟩
theorem dX0_has_31 : decode cX0_has 31 = .ok (.iload_n 2, 1) ∧ 31 + 1 = 32 := ⟨by decide +kernel, rfl⟩
theorem dX0_has_32 : decode cX0_has 32 = .ok (.aload_n 0, 1) ∧ 32 + 1 = 33 := ⟨by decide +kernel, rfl⟩
theorem dX0_has_33 : decode cX0_has 33 = .ok (.getfield 16, 3) ∧ 33 + 3 = 36 := ⟨by decide +kernel, rfl⟩
theorem dX0_has_36 : decode cX0_has 36 = .ok (.iload_n 3, 1) ∧ 36 + 1 = 37 := ⟨by decide +kernel, rfl⟩
theorem dX0_has_37 : decode cX0_has 37 = .ok (.iaload, 1) ∧ 37 + 1 = 38 := ⟨by decide +kernel, rfl⟩
theorem dX0_has_38 : decode cX0_has 38 = .ok (.if_icmp .ge 12, 3) ∧ 38 + 3 = 41 ∧ ((38 : Nat) : Int) + (12) = ((50 : Nat) : Int) := ⟨by decide +kernel, rfl, by decide⟩
theorem dX0_has_41 : decode cX0_has 41 = .ok (.aload_n 0, 1) ∧ 41 + 1 = 42 := ⟨by decide +kernel, rfl⟩
theorem dX0_has_42 : decode cX0_has 42 = .ok (.getfield 7, 3) ∧ 42 + 3 = 45 := ⟨by decide +kernel, rfl⟩
theorem dX0_has_45 : decode cX0_has 45 = .ok (.iload_n 3, 1) ∧ 45 + 1 = 46 := ⟨by decide +kernel, rfl⟩
theorem dX0_has_46 : decode cX0_has 46 = .ok (.saload, 1) ∧ 46 + 1 = 47 := ⟨by decide +kernel, rfl⟩
theorem dX0_has_47 : decode cX0_has 47 = .ok (.goto 9, 3) ∧ 47 + 3 = 50 ∧ ((47 : Nat) : Int) + (9) = ((56 : Nat) : Int) := ⟨by decide +kernel, rfl, by decide⟩
theorem dX0_has_50 : decode cX0_has 50 = .ok (.aload_n 0, 1) ∧ 50 + 1 = 51 := ⟨by decide +kernel, rfl⟩
theorem dX0_has_51 : decode cX0_has 51 = .ok (.getfield 13, 3) ∧ 51 + 3 = 54 := ⟨by decide +kernel, rfl⟩
theorem dX0_has_54 : decode cX0_has 54 = .ok (.iload_n 3, 1) ∧ 54 + 1 = 55 := ⟨by decide +kernel, rfl⟩
theorem dX0_has_55 : decode cX0_has 55 = .ok (.saload, 1) ∧ 55 + 1 = 56 := ⟨by decide +kernel, rfl⟩
theorem dX0_has_56 : decode cX0_has 56 = .ok (.istore_n 3, 1) ∧ 56 + 1 = 57 := ⟨by decide +kernel, rfl⟩
theorem dX0_has_57 : decode cX0_has 57 = .ok (.goto (-40), 3) ∧ 57 + 3 = 60 ∧ ((57 : Nat) : Int) + (-40) = ((17 : Nat) : Int) := ⟨by decide +kernel, rfl, by decide⟩
theorem dX0_has_60 : decode cX0_has 60 = .ok (.iload_n 3, 1) ∧ 60 + 1 = 61 := ⟨by decide +kernel, rfl⟩
theorem dX0_has_61 : decode cX0_has 61 = .ok (.ifCond .eq 7, 3) ∧ 61 + 3 = 64 ∧ ((61 : Nat) : Int) + (7) = ((68 : Nat) : Int) := ⟨by decide +kernel, rfl, by decide⟩
theorem dX0_has_64 : decode cX0_has 64 = .ok (.iconst 1, 1) ∧ 64 + 1 = 65 := ⟨by decide +kernel, rfl⟩
theorem dX0_has_65 : decode cX0_has 65 = .ok (.goto 4, 3) ∧ 65 + 3 = 68 ∧ ((65 : Nat) : Int) + (4) = ((69 : Nat) : Int) := ⟨by decide +kernel, rfl, by decide⟩
theorem dX0_has_68 : decode cX0_has 68 = .ok (.iconst 0, 1) ∧ 68 + 1 = 69 := ⟨by decide +kernel, rfl⟩
theorem dX0_has_69 : decode cX0_has 69 = .ok (.ireturn, 1) ∧ 69 + 1 = 70 := ⟨by decide +kernel, rfl⟩
theorem dX0_splitTree_0 : decode cX0_splitTree 0 = .ok (.iload_n 1, 1) ∧ 0 + 1 = 1 := ⟨by decide +kernel, rfl⟩
theorem dX0_splitTree_1 : decode cX0_splitTree 1 = .ok (.istore_n 3, 1) ∧ 1 + 1 = 2 := ⟨by decide +kernel, rfl⟩
theorem dX0_splitTree_2 : decode cX0_splitTree 2 = .ok (.aload_n 0, 1) ∧ 2 + 1 = 3 := ⟨by decide +kernel, rfl⟩
theorem dX0_splitTree_3 : decode cX0_splitTree 3 = .ok (.iconst 0, 1) ∧ 3 + 1 = 4 := ⟨by decide +kernel, rfl⟩
theorem dX0_splitTree_4 : decode cX0_splitTree 4 = .ok (.putfield 112, 3) ∧ 4 + 3 = 7 := ⟨by decide +kernel, rfl⟩
theorem dX0_splitTree_7 : decode cX0_splitTree 7 = .ok (.iload_n 3, 1) ∧ 7 + 1 = 8 := ⟨by decide +kernel, rfl⟩
theorem dX0_splitTree_8 : decode cX0_splitTree 8 = .ok (.ifCond .eq 61, 3) ∧ 8 + 3 = 11 ∧ ((8 : Nat) : Int) + (61) = ((69 : Nat) : Int) := ⟨by decide +kernel, rfl, by decide⟩
theorem dX0_splitTree_11 : decode cX0_splitTree 11 = .ok (.aload_n 0, 1) ∧ 11 + 1 = 12 := ⟨by decide +kernel, rfl⟩
theorem dX0_splitTree_12 : decode cX0_splitTree 12 = .ok (.getfield 16, 3) ∧ 12 + 3 = 15 := ⟨by decide +kernel, rfl⟩
theorem dX0_splitTree_15 : decode cX0_splitTree 15 = .ok (.iload_n 3, 1) ∧ 15 + 1 = 16 := ⟨by decide +kernel, rfl⟩
theorem dX0_splitTree_16 : decode cX0_splitTree 16 = .ok (.iaload, 1) ∧ 16 + 1 = 17 := ⟨by decide +kernel, rfl⟩
theorem dX0_splitTree_17 : decode cX0_splitTree 17 = .ok (.iload_n 2, 1) ∧ 17 + 1 = 18 := ⟨by decide +kernel, rfl⟩
theorem dX0_splitTree_18 : decode cX0_splitTree 18 = .ok (.if_icmp .eq 51, 3) ∧ 18 + 3 = 21 ∧ ((18 : Nat) : Int) + (51) = ((69 : Nat) : Int) := ⟨by decide +kernel, rfl, by decide⟩
theorem dX0_splitTree_21 : decode cX0_splitTree 21 = .ok (.aload_n 0, 1) ∧ 21 + 1 = 22 := ⟨by decide +kernel, rfl⟩
theorem dX0_splitTree_22 : decode cX0_splitTree 22 = .ok (.getfield 16, 3) ∧ 22 + 3 = 25 := ⟨by decide +kernel, rfl⟩
theorem dX0_splitTree_25 : decode cX0_splitTree 25 = .ok (.iload_n 3, 1) ∧ 25 + 1 = 26 := ⟨by decide +kernel, rfl⟩
theorem dX0_splitTree_26 : decode cX0_splitTree 26 = .ok (.iaload, 1) ∧ 26 + 1 = 27 := ⟨by decide +kernel, rfl⟩
theorem dX0_splitTree_27 : decode cX0_splitTree 27 = .ok (.iload_n 2, 1) ∧ 27 + 1 = 28 := ⟨by decide +kernel, rfl⟩
theorem dX0_splitTree_28 : decode cX0_splitTree 28 = .ok (.if_icmp .ge 7, 3) ∧ 28 + 3 = 31 ∧ ((28 : Nat) : Int) + (7) = ((35 : Nat) : Int) := ⟨by decide +kernel, rfl, by decide⟩
theorem dX0_splitTree_31 : decode cX0_splitTree 31 = .ok (.iconst 1, 1) ∧ 31 + 1 = 32 := ⟨by decide +kernel, rfl⟩
theorem dX0_splitTree_32 : decode cX0_splitTree 32 = .ok (.goto 4, 3) ∧ 32 + 3 = 35 ∧ ((32 : Nat) : Int) + (4) = ((36 : Nat) : Int) := ⟨by decide +kernel, rfl, by decide⟩
theorem dX0_splitTree_35 : decode cX0_splitTree 35 = .ok (.iconst 0, 1) ∧ 35 + 1 = 36 := ⟨by decide +kernel, rfl⟩
theorem dX0_splitTree_36 : decode cX0_splitTree 36 = .ok (.istore 4, 2) ∧ 36 + 2 = 38 := ⟨by decide +kernel, rfl⟩
theorem dX0_splitTree_38 : decode cX0_splitTree 38 = .ok (.aload_n 0, 1) ∧ 38 + 1 = 39 := ⟨by decide +kernel, rfl⟩
theorem dX0_splitTree_39 : decode cX0_splitTree 39 = .ok (.iload_n 3, 1) ∧ 39 + 1 = 40 := ⟨by decide +kernel, rfl⟩
theorem dX0_splitTree_40 : decode cX0_splitTree 40 = .ok (.iload 4, 2) ∧ 40 + 2 = 42 := ⟨by decide +kernel, rfl⟩
theorem dX0_splitTree_42 : decode cX0_splitTree 42 = .ok (.invokevirtual 115, 3) ∧ 42 + 3 = 45 := ⟨by decide +kernel, rfl⟩
theorem dX0_splitTree_45 : decode cX0_splitTree 45 = .ok (.iload 4, 2) ∧ 45 + 2 = 47 := ⟨by decide +kernel, rfl⟩
theorem dX0_splitTree_47 : decode cX0_splitTree 47 = .ok (.ifCond .eq 12, 3) ∧ 47 + 3 = 50 ∧ ((47 : Nat) : Int) + (12) = ((59 : Nat) : Int) := ⟨by decide +kernel, rfl, by decide⟩
theorem dX0_splitTree_50 : decode cX0_splitTree 50 = .ok (.aload_n 0, 1) ∧ 50 + 1 = 51 := ⟨by decide +kernel, rfl⟩
theorem dX0_splitTree_51 : decode cX0_splitTree 51 = .ok (.getfield 13, 3) ∧ 51 + 3 = 54 := ⟨by decide +kernel, rfl⟩
theorem dX0_splitTree_54 : decode cX0_splitTree 54 = .ok (.iload_n 3, 1) ∧ 54 + 1 = 55 := ⟨by decide +kernel, rfl⟩
theorem dX0_splitTree_55 : decode cX0_splitTree 55 = .ok (.saload, 1) ∧ 55 + 1 = 56 := ⟨by decide +kernel, rfl⟩
theorem dX0_splitTree_56 : decode cX0_splitTree 56 = .ok (.goto 9, 3) ∧ 56 + 3 = 59 ∧ ((56 : Nat) : Int) + (9) = ((65 : Nat) : Int) := ⟨by decide +kernel, rfl, by decide⟩
theorem dX0_splitTree_59 : decode cX0_splitTree 59 = .ok (.aload_n 0, 1) ∧ 59 + 1 = 60 := ⟨by decide +kernel, rfl⟩
theorem dX0_splitTree_60 : decode cX0_splitTree 60 = .ok (.getfield 7, 3) ∧ 60 + 3 = 63 := ⟨by decide +kernel, rfl⟩
theorem dX0_splitTree_63 : decode cX0_splitTree 63 = .ok (.iload_n 3, 1) ∧ 63 + 1 = 64 := ⟨by decide +kernel, rfl⟩
theorem dX0_splitTree_64 : decode cX0_splitTree 64 = .ok (.saload, 1) ∧ 64 + 1 = 65 := ⟨by decide +kernel, rfl⟩
theorem dX0_splitTree_65 : decode cX0_splitTree 65 = .ok (.istore_n 3, 1) ∧ 65 + 1 = 66 := ⟨by decide +kernel, rfl⟩
theorem dX0_splitTree_66 : decode cX0_splitTree 66 = .ok (.goto (-59), 3) ∧ 66 + 3 = 69 ∧ ((66 : Nat) : Int) + (-59) = ((7 : Nat) : Int) := ⟨by decide +kernel, rfl, by decide⟩
theorem dX0_splitTree_69 : decode cX0_splitTree 69 = .ok (.iload_n 3, 1) ∧ 69 + 1 = 70 := ⟨by decide +kernel, rfl⟩
theorem dX0_splitTree_70 : decode cX0_splitTree 70 = .ok (.ifCond .ne 7, 3) ∧ 70 + 3 = 73 ∧ ((70 : Nat) : Int) + (7) = ((77 : Nat) : Int) := ⟨by decide +kernel, rfl, by decide⟩
theorem dX0_splitTree_73 : decode cX0_splitTree 73 = .ok (.iconst 0, 1) ∧ 73 + 1 = 74 := ⟨by decide +kernel, rfl⟩
theorem dX0_splitTree_74 : decode cX0_splitTree 74 = .ok (.goto 9, 3) ∧ 74 + 3 = 77 ∧ ((74 : Nat) : Int) + (9) = ((83 : Nat) : Int) := ⟨by decide +kernel, rfl, by decide⟩
theorem dX0_splitTree_77 : decode cX0_splitTree 77 = .ok (.aload_n 0, 1) ∧ 77 + 1 = 78 := ⟨by decide +kernel, rfl⟩
theorem dX0_splitTree_78 : decode cX0_splitTree 78 = .ok (.getfield 7, 3) ∧ 78 + 3 = 81 := ⟨by decide +kernel, rfl⟩
theorem dX0_splitTree_81 : decode cX0_splitTree 81 = .ok (.iload_n 3, 1) ∧ 81 + 1 = 82 := ⟨by decide +kernel, rfl⟩
theorem dX0_splitTree_82 : decode cX0_splitTree 82 = .ok (.saload, 1) ∧ 82 + 1 = 83 := ⟨by decide +kernel, rfl⟩
theorem dX0_splitTree_83 : decode cX0_splitTree 83 = .ok (.istore 4, 2) ∧ 83 + 2 = 85 := ⟨by decide +kernel, rfl⟩
theorem dX0_splitTree_85 : decode cX0_splitTree 85 = .ok (.iload_n 3, 1) ∧ 85 + 1 = 86 := ⟨by decide +kernel, rfl⟩
theorem dX0_splitTree_86 : decode cX0_splitTree 86 = .ok (.ifCond .ne 7, 3) ∧ 86 + 3 = 89 ∧ ((86 : Nat) : Int) + (7) = ((93 : Nat) : Int) := ⟨by decide +kernel, rfl, by decide⟩
theorem dX0_splitTree_89 : decode cX0_splitTree 89 = .ok (.iconst 0, 1) ∧ 89 + 1 = 90 := ⟨by decide +kernel, rfl⟩
theorem dX0_splitTree_90 : decode cX0_splitTree 90 = .ok (.goto 9, 3) ∧ 90 + 3 = 93 ∧ ((90 : Nat) : Int) + (9) = ((99 : Nat) : Int) := ⟨by decide +kernel, rfl, by decide⟩
theorem dX0_splitTree_93 : decode cX0_splitTree 93 = .ok (.aload_n 0, 1) ∧ 93 + 1 = 94 := ⟨by decide +kernel, rfl⟩
theorem dX0_splitTree_94 : decode cX0_splitTree 94 = .ok (.getfield 13, 3) ∧ 94 + 3 = 97 := ⟨by decide +kernel, rfl⟩
theorem dX0_splitTree_97 : decode cX0_splitTree 97 = .ok (.iload_n 3, 1) ∧ 97 + 1 = 98 := ⟨by decide +kernel, rfl⟩
theorem dX0_splitTree_98 : decode cX0_splitTree 98 = .ok (.saload, 1) ∧ 98 + 1 = 99 := ⟨by decide +kernel, rfl⟩
theorem dX0_splitTree_99 : decode cX0_splitTree 99 = .ok (.istore 5, 2) ∧ 99 + 2 = 101 := ⟨by decide +kernel, rfl⟩
theorem dX0_splitTree_101 : decode cX0_splitTree 101 = .ok (.aload_n 0, 1) ∧ 101 + 1 = 102 := ⟨by decide +kernel, rfl⟩
theorem dX0_splitTree_102 : decode cX0_splitTree 102 = .ok (.getfield 112, 3) ∧ 102 + 3 = 105 := ⟨by decide +kernel, rfl⟩
theorem dX0_splitTree_105 : decode cX0_splitTree 105 = .ok (.ifCond .le 84, 3) ∧ 105 + 3 = 108 ∧ ((105 : Nat) : Int) + (84) = ((189 : Nat) : Int) := ⟨by decide +kernel, rfl, by decide⟩
theorem dX0_splitTree_108 : decode cX0_splitTree 108 = .ok (.aload_n 0, 1) ∧ 108 + 1 = 109 := ⟨by decide +kernel, rfl⟩
theorem dX0_splitTree_109 : decode cX0_splitTree 109 = .ok (.getfield 30, 3) ∧ 109 + 3 = 112 := ⟨by decide +kernel, rfl⟩
theorem dX0_splitTree_112 : decode cX0_splitTree 112 = .ok (.aload_n 0, 1) ∧ 112 + 1 = 113 := ⟨by decide +kernel, rfl⟩
theorem dX0_splitTree_113 : decode cX0_splitTree 113 = .ok (.getfield 112, 3) ∧ 113 + 3 = 116 := ⟨by decide +kernel, rfl⟩
theorem dX0_splitTree_116 : decode cX0_splitTree 116 = .ok (.iconst 1, 1) ∧ 116 + 1 = 117 := ⟨by decide +kernel, rfl⟩
theorem dX0_splitTree_117 : decode cX0_splitTree 117 = .ok (.isub, 1) ∧ 117 + 1 = 118 := ⟨by decide +kernel, rfl⟩
theorem dX0_splitTree_118 : decode cX0_splitTree 118 = .ok (.saload, 1) ∧ 118 + 1 = 119 := ⟨by decide +kernel, rfl⟩
theorem dX0_splitTree_119 : decode cX0_splitTree 119 = .ok (.istore 6, 2) ∧ 119 + 2 = 121 := ⟨by decide +kernel, rfl⟩
theorem dX0_splitTree_121 : decode cX0_splitTree 121 = .ok (.aload_n 0, 1) ∧ 121 + 1 = 122 := ⟨by decide +kernel, rfl⟩
theorem dX0_splitTree_122 : decode cX0_splitTree 122 = .ok (.getfield 33, 3) ∧ 122 + 3 = 125 := ⟨by decide +kernel, rfl⟩
theorem dX0_splitTree_125 : decode cX0_splitTree 125 = .ok (.aload_n 0, 1) ∧ 125 + 1 = 126 := ⟨by decide +kernel, rfl⟩
theorem dX0_splitTree_126 : decode cX0_splitTree 126 = .ok (.getfield 112, 3) ∧ 126 + 3 = 129 := ⟨by decide +kernel, rfl⟩
theorem dX0_splitTree_129 : decode cX0_splitTree 129 = .ok (.iconst 1, 1) ∧ 129 + 1 = 130 := ⟨by decide +kernel, rfl⟩
theorem dX0_splitTree_130 : decode cX0_splitTree 130 = .ok (.isub, 1) ∧ 130 + 1 = 131 := ⟨by decide +kernel, rfl⟩
theorem dX0_splitTree_131 : decode cX0_splitTree 131 = .ok (.baload, 1) ∧ 131 + 1 = 132 := ⟨by decide +kernel, rfl⟩
theorem dX0_splitTree_132 : decode cX0_splitTree 132 = .ok (.istore 7, 2) ∧ 132 + 2 = 134 := ⟨by decide +kernel, rfl⟩
theorem dX0_splitTree_134 : decode cX0_splitTree 134 = .ok (.aload_n 0, 1) ∧ 134 + 1 = 135 := ⟨by decide +kernel, rfl⟩
theorem dX0_splitTree_135 : decode cX0_splitTree 135 = .ok (.dup, 1) ∧ 135 + 1 = 136 := ⟨by decide +kernel, rfl⟩
theorem dX0_splitTree_136 : decode cX0_splitTree 136 = .ok (.getfield 112, 3) ∧ 136 + 3 = 139 := ⟨by decide +kernel, rfl⟩
theorem dX0_splitTree_139 : decode cX0_splitTree 139 = .ok (.iconst 1, 1) ∧ 139 + 1 = 140 := ⟨by decide +kernel, rfl⟩
theorem dX0_splitTree_140 : decode cX0_splitTree 140 = .ok (.isub, 1) ∧ 140 + 1 = 141 := ⟨by decide +kernel, rfl⟩
theorem dX0_splitTree_141 : decode cX0_splitTree 141 = .ok (.putfield 112, 3) ∧ 141 + 3 = 144 := ⟨by decide +kernel, rfl⟩
theorem dX0_splitTree_144 : decode cX0_splitTree 144 = .ok (.iload 7, 2) ∧ 144 + 2 = 146 := ⟨by decide +kernel, rfl⟩
theorem dX0_splitTree_146 : decode cX0_splitTree 146 = .ok (.ifCond .eq 23, 3) ∧ 146 + 3 = 149 ∧ ((146 : Nat) : Int) + (23) = ((169 : Nat) : Int) := ⟨by decide +kernel, rfl, by decide⟩
theorem dX0_splitTree_149 : decode cX0_splitTree 149 = .ok (.aload_n 0, 1) ∧ 149 + 1 = 150 := ⟨by decide +kernel, rfl⟩
theorem dX0_splitTree_150 : decode cX0_splitTree 150 = .ok (.aload_n 0, 1) ∧ 150 + 1 = 151 := ⟨by decide +kernel, rfl⟩
theorem dX0_splitTree_151 : decode cX0_splitTree 151 = .ok (.getfield 7, 3) ∧ 151 + 3 = 154 := ⟨by decide +kernel, rfl⟩
theorem dX0_splitTree_154 : decode cX0_splitTree 154 = .ok (.iload 6, 2) ∧ 154 + 2 = 156 := ⟨by decide +kernel, rfl⟩
theorem dX0_splitTree_156 : decode cX0_splitTree 156 = .ok (.saload, 1) ∧ 156 + 1 = 157 := ⟨by decide +kernel, rfl⟩
theorem dX0_splitTree_157 : decode cX0_splitTree 157 = .ok (.iload 6, 2) ∧ 157 + 2 = 159 := ⟨by decide +kernel, rfl⟩
theorem dX0_splitTree_159 : decode cX0_splitTree 159 = .ok (.iload 4, 2) ∧ 159 + 2 = 161 := ⟨by decide +kernel, rfl⟩
theorem dX0_splitTree_161 : decode cX0_splitTree 161 = .ok (.invokevirtual 78, 3) ∧ 161 + 3 = 164 := ⟨by decide +kernel, rfl⟩
theorem dX0_splitTree_164 : decode cX0_splitTree 164 = .ok (.istore 4, 2) ∧ 164 + 2 = 166 := ⟨by decide +kernel, rfl⟩
theorem dX0_splitTree_166 : decode cX0_splitTree 166 = .ok (.goto 20, 3) ∧ 166 + 3 = 169 ∧ ((166 : Nat) : Int) + (20) = ((186 : Nat) : Int) := ⟨by decide +kernel, rfl, by decide⟩
theorem dX0_splitTree_169 : decode cX0_splitTree 169 = .ok (.aload_n 0, 1) ∧ 169 + 1 = 170 := ⟨by decide +kernel, rfl⟩
theorem dX0_splitTree_170 : decode cX0_splitTree 170 = .ok (.iload 5, 2) ∧ 170 + 2 = 172 := ⟨by decide +kernel, rfl⟩
theorem dX0_splitTree_172 : decode cX0_splitTree 172 = .ok (.iload 6, 2) ∧ 172 + 2 = 174 := ⟨by decide +kernel, rfl⟩
theorem dX0_splitTree_174 : decode cX0_splitTree 174 = .ok (.aload_n 0, 1) ∧ 174 + 1 = 175 := ⟨by decide +kernel, rfl⟩
theorem dX0_splitTree_175 : decode cX0_splitTree 175 = .ok (.getfield 13, 3) ∧ 175 + 3 = 178 := ⟨by decide +kernel, rfl⟩
theorem dX0_splitTree_178 : decode cX0_splitTree 178 = .ok (.iload 6, 2) ∧ 178 + 2 = 180 := ⟨by decide +kernel, rfl⟩
theorem dX0_splitTree_180 : decode cX0_splitTree 180 = .ok (.saload, 1) ∧ 180 + 1 = 181 := ⟨by decide +kernel, rfl⟩
theorem dX0_splitTree_181 : decode cX0_splitTree 181 = .ok (.invokevirtual 78, 3) ∧ 181 + 3 = 184 := ⟨by decide +kernel, rfl⟩
theorem dX0_splitTree_184 : decode cX0_splitTree 184 = .ok (.istore 5, 2) ∧ 184 + 2 = 186 := ⟨by decide +kernel, rfl⟩
theorem dX0_splitTree_186 : decode cX0_splitTree 186 = .ok (.goto (-85), 3) ∧ 186 + 3 = 189 ∧ ((186 : Nat) : Int) + (-85) = ((101 : Nat) : Int) := ⟨by decide +kernel, rfl, by decide⟩
theorem dX0_splitTree_189 : decode cX0_splitTree 189 = .ok (.aload_n 0, 1) ∧ 189 + 1 = 190 := ⟨by decide +kernel, rfl⟩
theorem dX0_splitTree_190 : decode cX0_splitTree 190 = .ok (.iload 4, 2) ∧ 190 + 2 = 192 := ⟨by decide +kernel, rfl⟩
theorem dX0_splitTree_192 : decode cX0_splitTree 192 = .ok (.putfield 75, 3) ∧ 192 + 3 = 195 := ⟨by decide +kernel, rfl⟩
theorem dX0_splitTree_195 : decode cX0_splitTree 195 = .ok (.aload_n 0, 1) ∧ 195 + 1 = 196 := ⟨by decide +kernel, rfl⟩
theorem dX0_splitTree_196 : decode cX0_splitTree 196 = .ok (.iload 5, 2) ∧ 196 + 2 = 198 := ⟨by decide +kernel, rfl⟩
theorem dX0_splitTree_198 : decode cX0_splitTree 198 = .ok (.putfield 68, 3) ∧ 198 + 3 = 201 := ⟨by decide +kernel, rfl⟩
theorem dX0_splitTree_201 : decode cX0_splitTree 201 = .ok (.aload_n 0, 1) ∧ 201 + 1 = 202 := ⟨by decide +kernel, rfl⟩
theorem dX0_splitTree_202 : decode cX0_splitTree 202 = .ok (.iload_n 3, 1) ∧ 202 + 1 = 203 := ⟨by decide +kernel, rfl⟩
theorem dX0_splitTree_203 : decode cX0_splitTree 203 = .ok (.putfield 82, 3) ∧ 203 + 3 = 206 := ⟨by decide +kernel, rfl⟩
theorem dX0_splitTree_206 : decode cX0_splitTree 206 = .ok (.iload_n 3, 1) ∧ 206 + 1 = 207 := ⟨by decide +kernel, rfl⟩
theorem dX0_splitTree_207 : decode cX0_splitTree 207 = .ok (.ifCond .ne 4, 3) ∧ 207 + 3 = 210 ∧ ((207 : Nat) : Int) + (4) = ((211 : Nat) : Int) := ⟨by decide +kernel, rfl, by decide⟩
theorem dX0_splitTree_210 : decode cX0_splitTree 210 = .ok (.return_, 1) ∧ 210 + 1 = 211 := ⟨by decide +kernel, rfl⟩
theorem dX0_splitTree_211 : decode cX0_splitTree 211 = .ok (.aload_n 0, 1) ∧ 211 + 1 = 212 := ⟨by decide +kernel, rfl⟩
theorem dX0_splitTree_212 : decode cX0_splitTree 212 = .ok (.getfield 7, 3) ∧ 212 + 3 = 215 := ⟨by decide +kernel, rfl⟩
theorem dX0_splitTree_215 : decode cX0_splitTree 215 = .ok (.iload_n 3, 1) ∧ 215 + 1 = 216 := ⟨by decide +kernel, rfl⟩
theorem dX0_splitTree_216 : decode cX0_splitTree 216 = .ok (.iconst 0, 1) ∧ 216 + 1 = 217 := ⟨by decide +kernel, rfl⟩
theorem dX0_splitTree_217 : decode cX0_splitTree 217 = .ok (.sastore, 1) ∧ 217 + 1 = 218 := ⟨by decide +kernel, rfl⟩
theorem dX0_splitTree_218 : decode cX0_splitTree 218 = .ok (.aload_n 0, 1) ∧ 218 + 1 = 219 := ⟨by decide +kernel, rfl⟩
theorem dX0_splitTree_219 : decode cX0_splitTree 219 = .ok (.getfield 13, 3) ∧ 219 + 3 = 222 := ⟨by decide +kernel, rfl⟩
theorem dX0_splitTree_222 : decode cX0_splitTree 222 = .ok (.iload_n 3, 1) ∧ 222 + 1 = 223 := ⟨by decide +kernel, rfl⟩
theorem dX0_splitTree_223 : decode cX0_splitTree 223 = .ok (.iconst 0, 1) ∧ 223 + 1 = 224 := ⟨by decide +kernel, rfl⟩
theorem dX0_splitTree_224 : decode cX0_splitTree 224 = .ok (.sastore, 1) ∧ 224 + 1 = 225 := ⟨by decide +kernel, rfl⟩
theorem dX0_splitTree_225 : decode cX0_splitTree 225 = .ok (.aload_n 0, 1) ∧ 225 + 1 = 226 := ⟨by decide +kernel, rfl⟩
theorem dX0_splitTree_226 : decode cX0_splitTree 226 = .ok (.getfield 20, 3) ∧ 226 + 3 = 229 := ⟨by decide +kernel, rfl⟩
theorem dX0_splitTree_229 : decode cX0_splitTree 229 = .ok (.iload_n 3, 1) ∧ 229 + 1 = 230 := ⟨by decide +kernel, rfl⟩
theorem dX0_splitTree_230 : decode cX0_splitTree 230 = .ok (.iconst 1, 1) ∧ 230 + 1 = 231 := ⟨by decide +kernel, rfl⟩
theorem dX0_splitTree_231 : decode cX0_splitTree 231 = .ok (.bastore, 1) ∧ 231 + 1 = 232 := ⟨by decide +kernel, rfl⟩
theorem dX0_splitTree_232 : decode cX0_splitTree 232 = .ok (.return_, 1) ∧ 232 + 1 = 233 := ⟨by decide +kernel, rfl⟩
theorem dX0_pushWay_0 : decode cX0_pushWay 0 = .ok (.aload_n 0, 1) ∧ 0 + 1 = 1 := ⟨by decide +kernel, rfl⟩
theorem dX0_pushWay_1 : decode cX0_pushWay 1 = .ok (.getfield 30, 3) ∧ 1 + 3 = 4 := ⟨by decide +kernel, rfl⟩
theorem dX0_pushWay_4 : decode cX0_pushWay 4 = .ok (.aload_n 0, 1) ∧ 4 + 1 = 5 := ⟨by decide +kernel, rfl⟩
theorem dX0_pushWay_5 : decode cX0_pushWay 5 = .ok (.getfield 112, 3) ∧ 5 + 3 = 8 := ⟨by decide +kernel, rfl⟩
theorem dX0_pushWay_8 : decode cX0_pushWay 8 = .ok (.iload_n 1, 1) ∧ 8 + 1 = 9 := ⟨by decide +kernel, rfl⟩
theorem dX0_pushWay_9 : decode cX0_pushWay 9 = .ok (.i2s, 1) ∧ 9 + 1 = 10 := ⟨by decide +kernel, rfl⟩
theorem dX0_pushWay_10 : decode cX0_pushWay 10 = .ok (.sastore, 1) ∧ 10 + 1 = 11 := ⟨by decide +kernel, rfl⟩
theorem dX0_pushWay_11 : decode cX0_pushWay 11 = .ok (.aload_n 0, 1) ∧ 11 + 1 = 12 := ⟨by decide +kernel, rfl⟩
theorem dX0_pushWay_12 : decode cX0_pushWay 12 = .ok (.getfield 33, 3) ∧ 12 + 3 = 15 := ⟨by decide +kernel, rfl⟩
theorem dX0_pushWay_15 : decode cX0_pushWay 15 = .ok (.aload_n 0, 1) ∧ 15 + 1 = 16 := ⟨by decide +kernel, rfl⟩
theorem dX0_pushWay_16 : decode cX0_pushWay 16 = .ok (.getfield 112, 3) ∧ 16 + 3 = 19 := ⟨by decide +kernel, rfl⟩
theorem dX0_pushWay_19 : decode cX0_pushWay 19 = .ok (.iload_n 2, 1) ∧ 19 + 1 = 20 := ⟨by decide +kernel, rfl⟩
theorem dX0_pushWay_20 : decode cX0_pushWay 20 = .ok (.bastore, 1) ∧ 20 + 1 = 21 := ⟨by decide +kernel, rfl⟩
theorem dX0_pushWay_21 : decode cX0_pushWay 21 = .ok (.aload_n 0, 1) ∧ 21 + 1 = 22 := ⟨by decide +kernel, rfl⟩
theorem dX0_pushWay_22 : decode cX0_pushWay 22 = .ok (.dup, 1) ∧ 22 + 1 = 23 := ⟨by decide +kernel, rfl⟩
theorem dX0_pushWay_23 : decode cX0_pushWay 23 = .ok (.getfield 112, 3) ∧ 23 + 3 = 26 := ⟨by decide +kernel, rfl⟩
theorem dX0_pushWay_26 : decode cX0_pushWay 26 = .ok (.iconst 1, 1) ∧ 26 + 1 = 27 := ⟨by decide +kernel, rfl⟩
theorem dX0_pushWay_27 : decode cX0_pushWay 27 = .ok (.iadd, 1) ∧ 27 + 1 = 28 := ⟨by decide +kernel, rfl⟩
theorem dX0_pushWay_28 : decode cX0_pushWay 28 = .ok (.putfield 112, 3) ∧ 28 + 3 = 31 := ⟨by decide +kernel, rfl⟩
theorem dX0_pushWay_31 : decode cX0_pushWay 31 = .ok (.return_, 1) ∧ 31 + 1 = 32 := ⟨by decide +kernel, rfl⟩
theorem dX0_join_0 : decode cX0_join 0 = .ok (.iload_n 1, 1) ∧ 0 + 1 = 1 := ⟨by decide +kernel, rfl⟩
theorem dX0_join_1 : decode cX0_join 1 = .ok (.istore 4, 2) ∧ 1 + 2 = 3 := ⟨by decide +kernel, rfl⟩
theorem dX0_join_3 : decode cX0_join 3 = .ok (.iload_n 3, 1) ∧ 3 + 1 = 4 := ⟨by decide +kernel, rfl⟩
theorem dX0_join_4 : decode cX0_join 4 = .ok (.istore 5, 2) ∧ 4 + 2 = 6 := ⟨by decide +kernel, rfl⟩
theorem dX0_join_6 : decode cX0_join 6 = .ok (.aload_n 0, 1) ∧ 6 + 1 = 7 := ⟨by decide +kernel, rfl⟩
theorem dX0_join_7 : decode cX0_join 7 = .ok (.getfield 112, 3) ∧ 7 + 3 = 10 := ⟨by decide +kernel, rfl⟩
theorem dX0_join_10 : decode cX0_join 10 = .ok (.istore 6, 2) ∧ 10 + 2 = 12 := ⟨by decide +kernel, rfl⟩
theorem dX0_join_12 : decode cX0_join 12 = .ok (.aload_n 0, 1) ∧ 12 + 1 = 13 := ⟨by decide +kernel, rfl⟩
theorem dX0_join_13 : decode cX0_join 13 = .ok (.iload_n 1, 1) ∧ 13 + 1 = 14 := ⟨by decide +kernel, rfl⟩
theorem dX0_join_14 : decode cX0_join 14 = .ok (.invokevirtual 125, 3) ∧ 14 + 3 = 17 := ⟨by decide +kernel, rfl⟩
theorem dX0_join_17 : decode cX0_join 17 = .ok (.iconst 3, 1) ∧ 17 + 1 = 18 := ⟨by decide +kernel, rfl⟩
theorem dX0_join_18 : decode cX0_join 18 = .ok (.aload_n 0, 1) ∧ 18 + 1 = 19 := ⟨by decide +kernel, rfl⟩
theorem dX0_join_19 : decode cX0_join 19 = .ok (.iload_n 3, 1) ∧ 19 + 1 = 20 := ⟨by decide +kernel, rfl⟩
theorem dX0_join_20 : decode cX0_join 20 = .ok (.invokevirtual 125, 3) ∧ 20 + 3 = 23 := ⟨by decide +kernel, rfl⟩
theorem dX0_join_23 : decode cX0_join 23 = .ok (.imul, 1) ∧ 23 + 1 = 24 := ⟨by decide +kernel, rfl⟩
theorem dX0_join_24 : decode cX0_join 24 = .ok (.if_icmp .le 7, 3) ∧ 24 + 3 = 27 ∧ ((24 : Nat) : Int) + (7) = ((31 : Nat) : Int) := ⟨by decide +kernel, rfl, by decide⟩
theorem dX0_join_27 : decode cX0_join 27 = .ok (.iconst 1, 1) ∧ 27 + 1 = 28 := ⟨by decide +kernel, rfl⟩
theorem dX0_join_28 : decode cX0_join 28 = .ok (.goto 4, 3) ∧ 28 + 3 = 31 ∧ ((28 : Nat) : Int) + (4) = ((32 : Nat) : Int) := ⟨by decide +kernel, rfl, by decide⟩
theorem dX0_join_31 : decode cX0_join 31 = .ok (.iconst 0, 1) ∧ 31 + 1 = 32 := ⟨by decide +kernel, rfl⟩
theorem dX0_join_32 : decode cX0_join 32 = .ok (.istore 7, 2) ∧ 32 + 2 = 34 := ⟨by decide +kernel, rfl⟩
theorem dX0_join_34 : decode cX0_join 34 = .ok (.aload_n 0, 1) ∧ 34 + 1 = 35 := ⟨by decide +kernel, rfl⟩
theorem dX0_join_35 : decode cX0_join 35 = .ok (.iload_n 3, 1) ∧ 35 + 1 = 36 := ⟨by decide +kernel, rfl⟩
theorem dX0_join_36 : decode cX0_join 36 = .ok (.invokevirtual 125, 3) ∧ 36 + 3 = 39 := ⟨by decide +kernel, rfl⟩
theorem dX0_join_39 : decode cX0_join 39 = .ok (.iconst 3, 1) ∧ 39 + 1 = 40 := ⟨by decide +kernel, rfl⟩
theorem dX0_join_40 : decode cX0_join 40 = .ok (.aload_n 0, 1) ∧ 40 + 1 = 41 := ⟨by decide +kernel, rfl⟩
theorem dX0_join_41 : decode cX0_join 41 = .ok (.iload_n 1, 1) ∧ 41 + 1 = 42 := ⟨by decide +kernel, rfl⟩
theorem dX0_join_42 : decode cX0_join 42 = .ok (.invokevirtual 125, 3) ∧ 42 + 3 = 45 := ⟨by decide +kernel, rfl⟩
theorem dX0_join_45 : decode cX0_join 45 = .ok (.imul, 1) ∧ 45 + 1 = 46 := ⟨by decide +kernel, rfl⟩
theorem dX0_join_46 : decode cX0_join 46 = .ok (.if_icmp .le 7, 3) ∧ 46 + 3 = 49 ∧ ((46 : Nat) : Int) + (7) = ((53 : Nat) : Int) := ⟨by decide +kernel, rfl, by decide⟩
theorem dX0_join_49 : decode cX0_join 49 = .ok (.iconst 1, 1) ∧ 49 + 1 = 50 := ⟨by decide +kernel, rfl⟩
theorem dX0_join_50 : decode cX0_join 50 = .ok (.goto 4, 3) ∧ 50 + 3 = 53 ∧ ((50 : Nat) : Int) + (4) = ((54 : Nat) : Int) := ⟨by decide +kernel, rfl, by decide⟩
theorem dX0_join_53 : decode cX0_join 53 = .ok (.iconst 0, 1) ∧ 53 + 1 = 54 := ⟨by decide +kernel, rfl⟩
theorem dX0_join_54 : decode cX0_join 54 = .ok (.istore 8, 2) ∧ 54 + 2 = 56 := ⟨by decide +kernel, rfl⟩
theorem dX0_join_56 : decode cX0_join 56 = .ok (.iload 7, 2) ∧ 56 + 2 = 58 := ⟨by decide +kernel, rfl⟩
theorem dX0_join_58 : decode cX0_join 58 = .ok (.ifCond .eq 38, 3) ∧ 58 + 3 = 61 ∧ ((58 : Nat) : Int) + (38) = ((96 : Nat) : Int) := ⟨by decide +kernel, rfl, by decide⟩
theorem dX0_join_61 : decode cX0_join 61 = .ok (.aload_n 0, 1) ∧ 61 + 1 = 62 := ⟨by decide +kernel, rfl⟩
theorem dX0_join_62 : decode cX0_join 62 = .ok (.iload 4, 2) ∧ 62 + 2 = 64 := ⟨by decide +kernel, rfl⟩
theorem dX0_join_64 : decode cX0_join 64 = .ok (.invokevirtual 125, 3) ∧ 64 + 3 = 67 := ⟨by decide +kernel, rfl⟩
theorem dX0_join_67 : decode cX0_join 67 = .ok (.iconst 3, 1) ∧ 67 + 1 = 68 := ⟨by decide +kernel, rfl⟩
theorem dX0_join_68 : decode cX0_join 68 = .ok (.aload_n 0, 1) ∧ 68 + 1 = 69 := ⟨by decide +kernel, rfl⟩
theorem dX0_join_69 : decode cX0_join 69 = .ok (.iload_n 3, 1) ∧ 69 + 1 = 70 := ⟨by decide +kernel, rfl⟩
theorem dX0_join_70 : decode cX0_join 70 = .ok (.invokevirtual 125, 3) ∧ 70 + 3 = 73 := ⟨by decide +kernel, rfl⟩
theorem dX0_join_73 : decode cX0_join 73 = .ok (.imul, 1) ∧ 73 + 1 = 74 := ⟨by decide +kernel, rfl⟩
theorem dX0_join_74 : decode cX0_join 74 = .ok (.if_icmp .le 22, 3) ∧ 74 + 3 = 77 ∧ ((74 : Nat) : Int) + (22) = ((96 : Nat) : Int) := ⟨by decide +kernel, rfl, by decide⟩
theorem dX0_join_77 : decode cX0_join 77 = .ok (.aload_n 0, 1) ∧ 77 + 1 = 78 := ⟨by decide +kernel, rfl⟩
theorem dX0_join_78 : decode cX0_join 78 = .ok (.iload 4, 2) ∧ 78 + 2 = 80 := ⟨by decide +kernel, rfl⟩
theorem dX0_join_80 : decode cX0_join 80 = .ok (.iconst 1, 1) ∧ 80 + 1 = 81 := ⟨by decide +kernel, rfl⟩
theorem dX0_join_81 : decode cX0_join 81 = .ok (.invokevirtual 115, 3) ∧ 81 + 3 = 84 := ⟨by decide +kernel, rfl⟩
theorem dX0_join_84 : decode cX0_join 84 = .ok (.aload_n 0, 1) ∧ 84 + 1 = 85 := ⟨by decide +kernel, rfl⟩
theorem dX0_join_85 : decode cX0_join 85 = .ok (.getfield 13, 3) ∧ 85 + 3 = 88 := ⟨by decide +kernel, rfl⟩
theorem dX0_join_88 : decode cX0_join 88 = .ok (.iload 4, 2) ∧ 88 + 2 = 90 := ⟨by decide +kernel, rfl⟩
theorem dX0_join_90 : decode cX0_join 90 = .ok (.saload, 1) ∧ 90 + 1 = 91 := ⟨by decide +kernel, rfl⟩
theorem dX0_join_91 : decode cX0_join 91 = .ok (.istore 4, 2) ∧ 91 + 2 = 93 := ⟨by decide +kernel, rfl⟩
theorem dX0_join_93 : decode cX0_join 93 = .ok (.goto (-37), 3) ∧ 93 + 3 = 96 ∧ ((93 : Nat) : Int) + (-37) = ((56 : Nat) : Int) := ⟨by decide +kernel, rfl, by decide⟩
theorem dX0_join_96 : decode cX0_join 96 = .ok (.iload 8, 2) ∧ 96 + 2 = 98 := ⟨by decide +kernel, rfl⟩
theorem dX0_join_98 : decode cX0_join 98 = .ok (.ifCond .eq 38, 3) ∧ 98 + 3 = 101 ∧ ((98 : Nat) : Int) + (38) = ((136 : Nat) : Int) := ⟨by decide +kernel, rfl, by decide⟩
theorem dX0_join_101 : decode cX0_join 101 = .ok (.aload_n 0, 1) ∧ 101 + 1 = 102 := ⟨by decide +kernel, rfl⟩
theorem dX0_join_102 : decode cX0_join 102 = .ok (.iload 5, 2) ∧ 102 + 2 = 104 := ⟨by decide +kernel, rfl⟩
theorem dX0_join_104 : decode cX0_join 104 = .ok (.invokevirtual 125, 3) ∧ 104 + 3 = 107 := ⟨by decide +kernel, rfl⟩
theorem dX0_join_107 : decode cX0_join 107 = .ok (.iconst 3, 1) ∧ 107 + 1 = 108 := ⟨by decide +kernel, rfl⟩
theorem dX0_join_108 : decode cX0_join 108 = .ok (.aload_n 0, 1) ∧ 108 + 1 = 109 := ⟨by decide +kernel, rfl⟩
theorem dX0_join_109 : decode cX0_join 109 = .ok (.iload_n 1, 1) ∧ 109 + 1 = 110 := ⟨by decide +kernel, rfl⟩
theorem dX0_join_110 : decode cX0_join 110 = .ok (.invokevirtual 125, 3) ∧ 110 + 3 = 113 := ⟨by decide +kernel, rfl⟩
theorem dX0_join_113 : decode cX0_join 113 = .ok (.imul, 1) ∧ 113 + 1 = 114 := ⟨by decide +kernel, rfl⟩
theorem dX0_join_114 : decode cX0_join 114 = .ok (.if_icmp .le 22, 3) ∧ 114 + 3 = 117 ∧ ((114 : Nat) : Int) + (22) = ((136 : Nat) : Int) := ⟨by decide +kernel, rfl, by decide⟩
theorem dX0_join_117 : decode cX0_join 117 = .ok (.aload_n 0, 1) ∧ 117 + 1 = 118 := ⟨by decide +kernel, rfl⟩
theorem dX0_join_118 : decode cX0_join 118 = .ok (.iload 5, 2) ∧ 118 + 2 = 120 := ⟨by decide +kernel, rfl⟩
theorem dX0_join_120 : decode cX0_join 120 = .ok (.iconst 0, 1) ∧ 120 + 1 = 121 := ⟨by decide +kernel, rfl⟩
theorem dX0_join_121 : decode cX0_join 121 = .ok (.invokevirtual 115, 3) ∧ 121 + 3 = 124 := ⟨by decide +kernel, rfl⟩
theorem dX0_join_124 : decode cX0_join 124 = .ok (.aload_n 0, 1) ∧ 124 + 1 = 125 := ⟨by decide +kernel, rfl⟩
theorem dX0_join_125 : decode cX0_join 125 = .ok (.getfield 7, 3) ∧ 125 + 3 = 128 := ⟨by decide +kernel, rfl⟩
theorem dX0_join_128 : decode cX0_join 128 = .ok (.iload 5, 2) ∧ 128 + 2 = 130 := ⟨by decide +kernel, rfl⟩
theorem dX0_join_130 : decode cX0_join 130 = .ok (.saload, 1) ∧ 130 + 1 = 131 := ⟨by decide +kernel, rfl⟩
theorem dX0_join_131 : decode cX0_join 131 = .ok (.istore 5, 2) ∧ 131 + 2 = 133 := ⟨by decide +kernel, rfl⟩
theorem dX0_join_133 : decode cX0_join 133 = .ok (.goto (-37), 3) ∧ 133 + 3 = 136 ∧ ((133 : Nat) : Int) + (-37) = ((96 : Nat) : Int) := ⟨by decide +kernel, rfl, by decide⟩
theorem dX0_join_136 : decode cX0_join 136 = .ok (.aload_n 0, 1) ∧ 136 + 1 = 137 := ⟨by decide +kernel, rfl⟩
theorem dX0_join_137 : decode cX0_join 137 = .ok (.getfield 7, 3) ∧ 137 + 3 = 140 := ⟨by decide +kernel, rfl⟩
theorem dX0_join_140 : decode cX0_join 140 = .ok (.iload_n 2, 1) ∧ 140 + 1 = 141 := ⟨by decide +kernel, rfl⟩
theorem dX0_join_141 : decode cX0_join 141 = .ok (.iload 4, 2) ∧ 141 + 2 = 143 := ⟨by decide +kernel, rfl⟩
theorem dX0_join_143 : decode cX0_join 143 = .ok (.i2s, 1) ∧ 143 + 1 = 144 := ⟨by decide +kernel, rfl⟩
theorem dX0_join_144 : decode cX0_join 144 = .ok (.sastore, 1) ∧ 144 + 1 = 145 := ⟨by decide +kernel, rfl⟩
theorem dX0_join_145 : decode cX0_join 145 = .ok (.aload_n 0, 1) ∧ 145 + 1 = 146 := ⟨by decide +kernel, rfl⟩
theorem dX0_join_146 : decode cX0_join 146 = .ok (.getfield 13, 3) ∧ 146 + 3 = 149 := ⟨by decide +kernel, rfl⟩
theorem dX0_join_149 : decode cX0_join 149 = .ok (.iload_n 2, 1) ∧ 149 + 1 = 150 := ⟨by decide +kernel, rfl⟩
theorem dX0_join_150 : decode cX0_join 150 = .ok (.iload 5, 2) ∧ 150 + 2 = 152 := ⟨by decide +kernel, rfl⟩
theorem dX0_join_152 : decode cX0_join 152 = .ok (.i2s, 1) ∧ 152 + 1 = 153 := ⟨by decide +kernel, rfl⟩
theorem dX0_join_153 : decode cX0_join 153 = .ok (.sastore, 1) ∧ 153 + 1 = 154 := ⟨by decide +kernel, rfl⟩
theorem dX0_join_154 : decode cX0_join 154 = .ok (.aload_n 0, 1) ∧ 154 + 1 = 155 := ⟨by decide +kernel, rfl⟩
theorem dX0_join_155 : decode cX0_join 155 = .ok (.iload_n 2, 1) ∧ 155 + 1 = 156 := ⟨by decide +kernel, rfl⟩
theorem dX0_join_156 : decode cX0_join 156 = .ok (.invokevirtual 134, 3) ∧ 156 + 3 = 159 := ⟨by decide +kernel, rfl⟩
theorem dX0_join_159 : decode cX0_join 159 = .ok (.istore 9, 2) ∧ 159 + 2 = 161 := ⟨by decide +kernel, rfl⟩
theorem dX0_join_161 : decode cX0_join 161 = .ok (.aload_n 0, 1) ∧ 161 + 1 = 162 := ⟨by decide +kernel, rfl⟩
theorem dX0_join_162 : decode cX0_join 162 = .ok (.getfield 112, 3) ∧ 162 + 3 = 165 := ⟨by decide +kernel, rfl⟩
theorem dX0_join_165 : decode cX0_join 165 = .ok (.iload 6, 2) ∧ 165 + 2 = 167 := ⟨by decide +kernel, rfl⟩
theorem dX0_join_167 : decode cX0_join 167 = .ok (.if_icmp .le 70, 3) ∧ 167 + 3 = 170 ∧ ((167 : Nat) : Int) + (70) = ((237 : Nat) : Int) := ⟨by decide +kernel, rfl, by decide⟩
theorem dX0_join_170 : decode cX0_join 170 = .ok (.aload_n 0, 1) ∧ 170 + 1 = 171 := ⟨by decide +kernel, rfl⟩
theorem dX0_join_171 : decode cX0_join 171 = .ok (.dup, 1) ∧ 171 + 1 = 172 := ⟨by decide +kernel, rfl⟩
theorem dX0_join_172 : decode cX0_join 172 = .ok (.getfield 112, 3) ∧ 172 + 3 = 175 := ⟨by decide +kernel, rfl⟩
theorem dX0_join_175 : decode cX0_join 175 = .ok (.iconst 1, 1) ∧ 175 + 1 = 176 := ⟨by decide +kernel, rfl⟩
theorem dX0_join_176 : decode cX0_join 176 = .ok (.isub, 1) ∧ 176 + 1 = 177 := ⟨by decide +kernel, rfl⟩
theorem dX0_join_177 : decode cX0_join 177 = .ok (.putfield 112, 3) ∧ 177 + 3 = 180 := ⟨by decide +kernel, rfl⟩
theorem dX0_join_180 : decode cX0_join 180 = .ok (.aload_n 0, 1) ∧ 180 + 1 = 181 := ⟨by decide +kernel, rfl⟩
theorem dX0_join_181 : decode cX0_join 181 = .ok (.getfield 30, 3) ∧ 181 + 3 = 184 := ⟨by decide +kernel, rfl⟩
theorem dX0_join_184 : decode cX0_join 184 = .ok (.aload_n 0, 1) ∧ 184 + 1 = 185 := ⟨by decide +kernel, rfl⟩
theorem dX0_join_185 : decode cX0_join 185 = .ok (.getfield 112, 3) ∧ 185 + 3 = 188 := ⟨by decide +kernel, rfl⟩
theorem dX0_join_188 : decode cX0_join 188 = .ok (.saload, 1) ∧ 188 + 1 = 189 := ⟨by decide +kernel, rfl⟩
theorem dX0_join_189 : decode cX0_join 189 = .ok (.istore 10, 2) ∧ 189 + 2 = 191 := ⟨by decide +kernel, rfl⟩
theorem dX0_join_191 : decode cX0_join 191 = .ok (.aload_n 0, 1) ∧ 191 + 1 = 192 := ⟨by decide +kernel, rfl⟩
theorem dX0_join_192 : decode cX0_join 192 = .ok (.getfield 33, 3) ∧ 192 + 3 = 195 := ⟨by decide +kernel, rfl⟩
theorem dX0_join_195 : decode cX0_join 195 = .ok (.aload_n 0, 1) ∧ 195 + 1 = 196 := ⟨by decide +kernel, rfl⟩
theorem dX0_join_196 : decode cX0_join 196 = .ok (.getfield 112, 3) ∧ 196 + 3 = 199 := ⟨by decide +kernel, rfl⟩
theorem dX0_join_199 : decode cX0_join 199 = .ok (.baload, 1) ∧ 199 + 1 = 200 := ⟨by decide +kernel, rfl⟩
theorem dX0_join_200 : decode cX0_join 200 = .ok (.ifCond .eq 16, 3) ∧ 200 + 3 = 203 ∧ ((200 : Nat) : Int) + (16) = ((216 : Nat) : Int) := ⟨by decide +kernel, rfl, by decide⟩
theorem dX0_join_203 : decode cX0_join 203 = .ok (.aload_n 0, 1) ∧ 203 + 1 = 204 := ⟨by decide +kernel, rfl⟩
theorem dX0_join_204 : decode cX0_join 204 = .ok (.getfield 13, 3) ∧ 204 + 3 = 207 := ⟨by decide +kernel, rfl⟩
theorem dX0_join_207 : decode cX0_join 207 = .ok (.iload 10, 2) ∧ 207 + 2 = 209 := ⟨by decide +kernel, rfl⟩
theorem dX0_join_209 : decode cX0_join 209 = .ok (.iload 9, 2) ∧ 209 + 2 = 211 := ⟨by decide +kernel, rfl⟩
theorem dX0_join_211 : decode cX0_join 211 = .ok (.i2s, 1) ∧ 211 + 1 = 212 := ⟨by decide +kernel, rfl⟩
theorem dX0_join_212 : decode cX0_join 212 = .ok (.sastore, 1) ∧ 212 + 1 = 213 := ⟨by decide +kernel, rfl⟩
theorem dX0_join_213 : decode cX0_join 213 = .ok (.goto 13, 3) ∧ 213 + 3 = 216 ∧ ((213 : Nat) : Int) + (13) = ((226 : Nat) : Int) := ⟨by decide +kernel, rfl, by decide⟩
theorem dX0_join_216 : decode cX0_join 216 = .ok (.aload_n 0, 1) ∧ 216 + 1 = 217 := ⟨by decide +kernel, rfl⟩
end
section
set_option maxRecDepth 100000
theorem dX0_join_217 : decode cX0_join 217 = .ok (.getfield 7, 3) ∧ 217 + 3 = 220 := ⟨by decide +kernel, rfl⟩
theorem dX0_join_220 : decode cX0_join 220 = .ok (.iload 10, 2) ∧ 220 + 2 = 222 := ⟨by decide +kernel, rfl⟩
theorem dX0_join_222 : decode cX0_join 222 = .ok (.iload 9, 2) ∧ 222 + 2 = 224 := ⟨by decide +kernel, rfl⟩
theorem dX0_join_224 : decode cX0_join 224 = .ok (.i2s, 1) ∧ 224 + 1 = 225 := ⟨by decide +kernel, rfl⟩
theorem dX0_join_225 : decode cX0_join 225 = .ok (.sastore, 1) ∧ 225 + 1 = 226 := ⟨by decide +kernel, rfl⟩
theorem dX0_join_226 : decode cX0_join 226 = .ok (.aload_n 0, 1) ∧ 226 + 1 = 227 := ⟨by decide +kernel, rfl⟩
theorem dX0_join_227 : decode cX0_join 227 = .ok (.iload 10, 2) ∧ 227 + 2 = 229 := ⟨by decide +kernel, rfl⟩
theorem dX0_join_229 : decode cX0_join 229 = .ok (.invokevirtual 134, 3) ∧ 229 + 3 = 232 := ⟨by decide +kernel, rfl⟩
theorem dX0_join_232 : decode cX0_join 232 = .ok (.istore 9, 2) ∧ 232 + 2 = 234 := ⟨by decide +kernel, rfl⟩
theorem dX0_join_234 : decode cX0_join 234 = .ok (.goto (-73), 3) ∧ 234 + 3 = 237 ∧ ((234 : Nat) : Int) + (-73) = ((161 : Nat) : Int) := ⟨by decide +kernel, rfl, by decide⟩
theorem dX0_join_237 : decode cX0_join 237 = .ok (.iload 9, 2) ∧ 237 + 2 = 239 := ⟨by decide +kernel, rfl⟩
theorem dX0_join_239 : decode cX0_join 239 = .ok (.ireturn, 1) ∧ 239 + 1 = 240 := ⟨by decide +kernel, rfl⟩
theorem dX0_weight_0 : decode cX0_weight 0 = .ok (.aload_n 0, 1) ∧ 0 + 1 = 1 := ⟨by decide +kernel, rfl⟩
theorem dX0_weight_1 : decode cX0_weight 1 = .ok (.getfield 20, 3) ∧ 1 + 3 = 4 := ⟨by decide +kernel, rfl⟩
theorem dX0_weight_4 : decode cX0_weight 4 = .ok (.iload_n 1, 1) ∧ 4 + 1 = 5 := ⟨by decide +kernel, rfl⟩
theorem dX0_weight_5 : decode cX0_weight 5 = .ok (.baload, 1) ∧ 5 + 1 = 6 := ⟨by decide +kernel, rfl⟩
theorem dX0_weight_6 : decode cX0_weight 6 = .ok (.iconst 1, 1) ∧ 6 + 1 = 7 := ⟨by decide +kernel, rfl⟩
theorem dX0_weight_7 : decode cX0_weight 7 = .ok (.iadd, 1) ∧ 7 + 1 = 8 := ⟨by decide +kernel, rfl⟩
theorem dX0_weight_8 : decode cX0_weight 8 = .ok (.ireturn, 1) ∧ 8 + 1 = 9 := ⟨by decide +kernel, rfl⟩
theorem dX0_balanced_0 : decode cX0_balanced 0 = .ok (.aload_n 0, 1) ∧ 0 + 1 = 1 := ⟨by decide +kernel, rfl⟩
theorem dX0_balanced_1 : decode cX0_balanced 1 = .ok (.iload_n 1, 1) ∧ 1 + 1 = 2 := ⟨by decide +kernel, rfl⟩
theorem dX0_balanced_2 : decode cX0_balanced 2 = .ok (.invokevirtual 122, 3) ∧ 2 + 3 = 5 := ⟨by decide +kernel, rfl⟩
theorem dX0_balanced_5 : decode cX0_balanced 5 = .ok (.aload_n 0, 1) ∧ 5 + 1 = 6 := ⟨by decide +kernel, rfl⟩
theorem dX0_balanced_6 : decode cX0_balanced 6 = .ok (.getfield 7, 3) ∧ 6 + 3 = 9 := ⟨by decide +kernel, rfl⟩
theorem dX0_balanced_9 : decode cX0_balanced 9 = .ok (.iload_n 1, 1) ∧ 9 + 1 = 10 := ⟨by decide +kernel, rfl⟩
theorem dX0_balanced_10 : decode cX0_balanced 10 = .ok (.saload, 1) ∧ 10 + 1 = 11 := ⟨by decide +kernel, rfl⟩
theorem dX0_balanced_11 : decode cX0_balanced 11 = .ok (.istore_n 2, 1) ∧ 11 + 1 = 12 := ⟨by decide +kernel, rfl⟩
theorem dX0_balanced_12 : decode cX0_balanced 12 = .ok (.aload_n 0, 1) ∧ 12 + 1 = 13 := ⟨by decide +kernel, rfl⟩
theorem dX0_balanced_13 : decode cX0_balanced 13 = .ok (.getfield 13, 3) ∧ 13 + 3 = 16 := ⟨by decide +kernel, rfl⟩
theorem dX0_balanced_16 : decode cX0_balanced 16 = .ok (.iload_n 1, 1) ∧ 16 + 1 = 17 := ⟨by decide +kernel, rfl⟩
theorem dX0_balanced_17 : decode cX0_balanced 17 = .ok (.saload, 1) ∧ 17 + 1 = 18 := ⟨by decide +kernel, rfl⟩
theorem dX0_balanced_18 : decode cX0_balanced 18 = .ok (.istore_n 3, 1) ∧ 18 + 1 = 19 := ⟨by decide +kernel, rfl⟩
theorem dX0_balanced_19 : decode cX0_balanced 19 = .ok (.aload_n 0, 1) ∧ 19 + 1 = 20 := ⟨by decide +kernel, rfl⟩
theorem dX0_balanced_20 : decode cX0_balanced 20 = .ok (.iload_n 3, 1) ∧ 20 + 1 = 21 := ⟨by decide +kernel, rfl⟩
theorem dX0_balanced_21 : decode cX0_balanced 21 = .ok (.invokevirtual 125, 3) ∧ 21 + 3 = 24 := ⟨by decide +kernel, rfl⟩
theorem dX0_balanced_24 : decode cX0_balanced 24 = .ok (.iconst 3, 1) ∧ 24 + 1 = 25 := ⟨by decide +kernel, rfl⟩
theorem dX0_balanced_25 : decode cX0_balanced 25 = .ok (.aload_n 0, 1) ∧ 25 + 1 = 26 := ⟨by decide +kernel, rfl⟩
theorem dX0_balanced_26 : decode cX0_balanced 26 = .ok (.iload_n 2, 1) ∧ 26 + 1 = 27 := ⟨by decide +kernel, rfl⟩
theorem dX0_balanced_27 : decode cX0_balanced 27 = .ok (.invokevirtual 125, 3) ∧ 27 + 3 = 30 := ⟨by decide +kernel, rfl⟩
theorem dX0_balanced_30 : decode cX0_balanced 30 = .ok (.imul, 1) ∧ 30 + 1 = 31 := ⟨by decide +kernel, rfl⟩
theorem dX0_balanced_31 : decode cX0_balanced 31 = .ok (.if_icmp .le 46, 3) ∧ 31 + 3 = 34 ∧ ((31 : Nat) : Int) + (46) = ((77 : Nat) : Int) := ⟨by decide +kernel, rfl, by decide⟩
theorem dX0_balanced_34 : decode cX0_balanced 34 = .ok (.aload_n 0, 1) ∧ 34 + 1 = 35 := ⟨by decide +kernel, rfl⟩
theorem dX0_balanced_35 : decode cX0_balanced 35 = .ok (.aload_n 0, 1) ∧ 35 + 1 = 36 := ⟨by decide +kernel, rfl⟩
theorem dX0_balanced_36 : decode cX0_balanced 36 = .ok (.getfield 7, 3) ∧ 36 + 3 = 39 := ⟨by decide +kernel, rfl⟩
theorem dX0_balanced_39 : decode cX0_balanced 39 = .ok (.iload_n 3, 1) ∧ 39 + 1 = 40 := ⟨by decide +kernel, rfl⟩
theorem dX0_balanced_40 : decode cX0_balanced 40 = .ok (.saload, 1) ∧ 40 + 1 = 41 := ⟨by decide +kernel, rfl⟩
theorem dX0_balanced_41 : decode cX0_balanced 41 = .ok (.invokevirtual 125, 3) ∧ 41 + 3 = 44 := ⟨by decide +kernel, rfl⟩
theorem dX0_balanced_44 : decode cX0_balanced 44 = .ok (.iconst 2, 1) ∧ 44 + 1 = 45 := ⟨by decide +kernel, rfl⟩
theorem dX0_balanced_45 : decode cX0_balanced 45 = .ok (.aload_n 0, 1) ∧ 45 + 1 = 46 := ⟨by decide +kernel, rfl⟩
theorem dX0_balanced_46 : decode cX0_balanced 46 = .ok (.aload_n 0, 1) ∧ 46 + 1 = 47 := ⟨by decide +kernel, rfl⟩
theorem dX0_balanced_47 : decode cX0_balanced 47 = .ok (.getfield 13, 3) ∧ 47 + 3 = 50 := ⟨by decide +kernel, rfl⟩
theorem dX0_balanced_50 : decode cX0_balanced 50 = .ok (.iload_n 3, 1) ∧ 50 + 1 = 51 := ⟨by decide +kernel, rfl⟩
theorem dX0_balanced_51 : decode cX0_balanced 51 = .ok (.saload, 1) ∧ 51 + 1 = 52 := ⟨by decide +kernel, rfl⟩
theorem dX0_balanced_52 : decode cX0_balanced 52 = .ok (.invokevirtual 125, 3) ∧ 52 + 3 = 55 := ⟨by decide +kernel, rfl⟩
theorem dX0_balanced_55 : decode cX0_balanced 55 = .ok (.imul, 1) ∧ 55 + 1 = 56 := ⟨by decide +kernel, rfl⟩
theorem dX0_balanced_56 : decode cX0_balanced 56 = .ok (.if_icmp .lt 15, 3) ∧ 56 + 3 = 59 ∧ ((56 : Nat) : Int) + (15) = ((71 : Nat) : Int) := ⟨by decide +kernel, rfl, by decide⟩
theorem dX0_balanced_59 : decode cX0_balanced 59 = .ok (.aload_n 0, 1) ∧ 59 + 1 = 60 := ⟨by decide +kernel, rfl⟩
theorem dX0_balanced_60 : decode cX0_balanced 60 = .ok (.getfield 13, 3) ∧ 60 + 3 = 63 := ⟨by decide +kernel, rfl⟩
theorem dX0_balanced_63 : decode cX0_balanced 63 = .ok (.iload_n 1, 1) ∧ 63 + 1 = 64 := ⟨by decide +kernel, rfl⟩
theorem dX0_balanced_64 : decode cX0_balanced 64 = .ok (.aload_n 0, 1) ∧ 64 + 1 = 65 := ⟨by decide +kernel, rfl⟩
theorem dX0_balanced_65 : decode cX0_balanced 65 = .ok (.iload_n 3, 1) ∧ 65 + 1 = 66 := ⟨by decide +kernel, rfl⟩
theorem dX0_balanced_66 : decode cX0_balanced 66 = .ok (.invokevirtual 128, 3) ∧ 66 + 3 = 69 := ⟨by decide +kernel, rfl⟩
theorem dX0_balanced_69 : decode cX0_balanced 69 = .ok (.i2s, 1) ∧ 69 + 1 = 70 := ⟨by decide +kernel, rfl⟩
theorem dX0_balanced_70 : decode cX0_balanced 70 = .ok (.sastore, 1) ∧ 70 + 1 = 71 := ⟨by decide +kernel, rfl⟩
theorem dX0_balanced_71 : decode cX0_balanced 71 = .ok (.aload_n 0, 1) ∧ 71 + 1 = 72 := ⟨by decide +kernel, rfl⟩
theorem dX0_balanced_72 : decode cX0_balanced 72 = .ok (.iload_n 1, 1) ∧ 72 + 1 = 73 := ⟨by decide +kernel, rfl⟩
theorem dX0_balanced_73 : decode cX0_balanced 73 = .ok (.invokevirtual 131, 3) ∧ 73 + 3 = 76 := ⟨by decide +kernel, rfl⟩
theorem dX0_balanced_76 : decode cX0_balanced 76 = .ok (.ireturn, 1) ∧ 76 + 1 = 77 := ⟨by decide +kernel, rfl⟩
theorem dX0_balanced_77 : decode cX0_balanced 77 = .ok (.aload_n 0, 1) ∧ 77 + 1 = 78 := ⟨by decide +kernel, rfl⟩
theorem dX0_balanced_78 : decode cX0_balanced 78 = .ok (.iload_n 2, 1) ∧ 78 + 1 = 79 := ⟨by decide +kernel, rfl⟩
theorem dX0_balanced_79 : decode cX0_balanced 79 = .ok (.invokevirtual 125, 3) ∧ 79 + 3 = 82 := ⟨by decide +kernel, rfl⟩
theorem dX0_balanced_82 : decode cX0_balanced 82 = .ok (.iconst 3, 1) ∧ 82 + 1 = 83 := ⟨by decide +kernel, rfl⟩
theorem dX0_balanced_83 : decode cX0_balanced 83 = .ok (.aload_n 0, 1) ∧ 83 + 1 = 84 := ⟨by decide +kernel, rfl⟩
theorem dX0_balanced_84 : decode cX0_balanced 84 = .ok (.iload_n 3, 1) ∧ 84 + 1 = 85 := ⟨by decide +kernel, rfl⟩
theorem dX0_balanced_85 : decode cX0_balanced 85 = .ok (.invokevirtual 125, 3) ∧ 85 + 3 = 88 := ⟨by decide +kernel, rfl⟩
theorem dX0_balanced_88 : decode cX0_balanced 88 = .ok (.imul, 1) ∧ 88 + 1 = 89 := ⟨by decide +kernel, rfl⟩
theorem dX0_balanced_89 : decode cX0_balanced 89 = .ok (.if_icmp .le 46, 3) ∧ 89 + 3 = 92 ∧ ((89 : Nat) : Int) + (46) = ((135 : Nat) : Int) := ⟨by decide +kernel, rfl, by decide⟩
theorem dX0_balanced_92 : decode cX0_balanced 92 = .ok (.aload_n 0, 1) ∧ 92 + 1 = 93 := ⟨by decide +kernel, rfl⟩
theorem dX0_balanced_93 : decode cX0_balanced 93 = .ok (.aload_n 0, 1) ∧ 93 + 1 = 94 := ⟨by decide +kernel, rfl⟩
theorem dX0_balanced_94 : decode cX0_balanced 94 = .ok (.getfield 13, 3) ∧ 94 + 3 = 97 := ⟨by decide +kernel, rfl⟩
theorem dX0_balanced_97 : decode cX0_balanced 97 = .ok (.iload_n 2, 1) ∧ 97 + 1 = 98 := ⟨by decide +kernel, rfl⟩
theorem dX0_balanced_98 : decode cX0_balanced 98 = .ok (.saload, 1) ∧ 98 + 1 = 99 := ⟨by decide +kernel, rfl⟩
theorem dX0_balanced_99 : decode cX0_balanced 99 = .ok (.invokevirtual 125, 3) ∧ 99 + 3 = 102 := ⟨by decide +kernel, rfl⟩
theorem dX0_balanced_102 : decode cX0_balanced 102 = .ok (.iconst 2, 1) ∧ 102 + 1 = 103 := ⟨by decide +kernel, rfl⟩
theorem dX0_balanced_103 : decode cX0_balanced 103 = .ok (.aload_n 0, 1) ∧ 103 + 1 = 104 := ⟨by decide +kernel, rfl⟩
theorem dX0_balanced_104 : decode cX0_balanced 104 = .ok (.aload_n 0, 1) ∧ 104 + 1 = 105 := ⟨by decide +kernel, rfl⟩
theorem dX0_balanced_105 : decode cX0_balanced 105 = .ok (.getfield 7, 3) ∧ 105 + 3 = 108 := ⟨by decide +kernel, rfl⟩
theorem dX0_balanced_108 : decode cX0_balanced 108 = .ok (.iload_n 2, 1) ∧ 108 + 1 = 109 := ⟨by decide +kernel, rfl⟩
theorem dX0_balanced_109 : decode cX0_balanced 109 = .ok (.saload, 1) ∧ 109 + 1 = 110 := ⟨by decide +kernel, rfl⟩
theorem dX0_balanced_110 : decode cX0_balanced 110 = .ok (.invokevirtual 125, 3) ∧ 110 + 3 = 113 := ⟨by decide +kernel, rfl⟩
theorem dX0_balanced_113 : decode cX0_balanced 113 = .ok (.imul, 1) ∧ 113 + 1 = 114 := ⟨by decide +kernel, rfl⟩
theorem dX0_balanced_114 : decode cX0_balanced 114 = .ok (.if_icmp .lt 15, 3) ∧ 114 + 3 = 117 ∧ ((114 : Nat) : Int) + (15) = ((129 : Nat) : Int) := ⟨by decide +kernel, rfl, by decide⟩
theorem dX0_balanced_117 : decode cX0_balanced 117 = .ok (.aload_n 0, 1) ∧ 117 + 1 = 118 := ⟨by decide +kernel, rfl⟩
theorem dX0_balanced_118 : decode cX0_balanced 118 = .ok (.getfield 7, 3) ∧ 118 + 3 = 121 := ⟨by decide +kernel, rfl⟩
theorem dX0_balanced_121 : decode cX0_balanced 121 = .ok (.iload_n 1, 1) ∧ 121 + 1 = 122 := ⟨by decide +kernel, rfl⟩
theorem dX0_balanced_122 : decode cX0_balanced 122 = .ok (.aload_n 0, 1) ∧ 122 + 1 = 123 := ⟨by decide +kernel, rfl⟩
theorem dX0_balanced_123 : decode cX0_balanced 123 = .ok (.iload_n 2, 1) ∧ 123 + 1 = 124 := ⟨by decide +kernel, rfl⟩
theorem dX0_balanced_124 : decode cX0_balanced 124 = .ok (.invokevirtual 131, 3) ∧ 124 + 3 = 127 := ⟨by decide +kernel, rfl⟩
theorem dX0_balanced_127 : decode cX0_balanced 127 = .ok (.i2s, 1) ∧ 127 + 1 = 128 := ⟨by decide +kernel, rfl⟩
theorem dX0_balanced_128 : decode cX0_balanced 128 = .ok (.sastore, 1) ∧ 128 + 1 = 129 := ⟨by decide +kernel, rfl⟩
theorem dX0_balanced_129 : decode cX0_balanced 129 = .ok (.aload_n 0, 1) ∧ 129 + 1 = 130 := ⟨by decide +kernel, rfl⟩
theorem dX0_balanced_130 : decode cX0_balanced 130 = .ok (.iload_n 1, 1) ∧ 130 + 1 = 131 := ⟨by decide +kernel, rfl⟩
theorem dX0_balanced_131 : decode cX0_balanced 131 = .ok (.invokevirtual 128, 3) ∧ 131 + 3 = 134 := ⟨by decide +kernel, rfl⟩
theorem dX0_balanced_134 : decode cX0_balanced 134 = .ok (.ireturn, 1) ∧ 134 + 1 = 135 := ⟨by decide +kernel, rfl⟩
theorem dX0_balanced_135 : decode cX0_balanced 135 = .ok (.iload_n 1, 1) ∧ 135 + 1 = 136 := ⟨by decide +kernel, rfl⟩
theorem dX0_balanced_136 : decode cX0_balanced 136 = .ok (.ireturn, 1) ∧ 136 + 1 = 137 := ⟨by decide +kernel, rfl⟩
theorem dX0_update_0 : decode cX0_update 0 = .ok (.aload_n 0, 1) ∧ 0 + 1 = 1 := ⟨by decide +kernel, rfl⟩
theorem dX0_update_1 : decode cX0_update 1 = .ok (.getfield 20, 3) ∧ 1 + 3 = 4 := ⟨by decide +kernel, rfl⟩
theorem dX0_update_4 : decode cX0_update 4 = .ok (.iload_n 1, 1) ∧ 4 + 1 = 5 := ⟨by decide +kernel, rfl⟩
theorem dX0_update_5 : decode cX0_update 5 = .ok (.aload_n 0, 1) ∧ 5 + 1 = 6 := ⟨by decide +kernel, rfl⟩
theorem dX0_update_6 : decode cX0_update 6 = .ok (.getfield 20, 3) ∧ 6 + 3 = 9 := ⟨by decide +kernel, rfl⟩
theorem dX0_update_9 : decode cX0_update 9 = .ok (.aload_n 0, 1) ∧ 9 + 1 = 10 := ⟨by decide +kernel, rfl⟩
theorem dX0_update_10 : decode cX0_update 10 = .ok (.getfield 7, 3) ∧ 10 + 3 = 13 := ⟨by decide +kernel, rfl⟩
theorem dX0_update_13 : decode cX0_update 13 = .ok (.iload_n 1, 1) ∧ 13 + 1 = 14 := ⟨by decide +kernel, rfl⟩
theorem dX0_update_14 : decode cX0_update 14 = .ok (.saload, 1) ∧ 14 + 1 = 15 := ⟨by decide +kernel, rfl⟩
theorem dX0_update_15 : decode cX0_update 15 = .ok (.baload, 1) ∧ 15 + 1 = 16 := ⟨by decide +kernel, rfl⟩
theorem dX0_update_16 : decode cX0_update 16 = .ok (.aload_n 0, 1) ∧ 16 + 1 = 17 := ⟨by decide +kernel, rfl⟩
theorem dX0_update_17 : decode cX0_update 17 = .ok (.getfield 20, 3) ∧ 17 + 3 = 20 := ⟨by decide +kernel, rfl⟩
theorem dX0_update_20 : decode cX0_update 20 = .ok (.aload_n 0, 1) ∧ 20 + 1 = 21 := ⟨by decide +kernel, rfl⟩
theorem dX0_update_21 : decode cX0_update 21 = .ok (.getfield 13, 3) ∧ 21 + 3 = 24 := ⟨by decide +kernel, rfl⟩
theorem dX0_update_24 : decode cX0_update 24 = .ok (.iload_n 1, 1) ∧ 24 + 1 = 25 := ⟨by decide +kernel, rfl⟩
theorem dX0_update_25 : decode cX0_update 25 = .ok (.saload, 1) ∧ 25 + 1 = 26 := ⟨by decide +kernel, rfl⟩
theorem dX0_update_26 : decode cX0_update 26 = .ok (.baload, 1) ∧ 26 + 1 = 27 := ⟨by decide +kernel, rfl⟩
theorem dX0_update_27 : decode cX0_update 27 = .ok (.iadd, 1) ∧ 27 + 1 = 28 := ⟨by decide +kernel, rfl⟩
theorem dX0_update_28 : decode cX0_update 28 = .ok (.iconst 1, 1) ∧ 28 + 1 = 29 := ⟨by decide +kernel, rfl⟩
theorem dX0_update_29 : decode cX0_update 29 = .ok (.iadd, 1) ∧ 29 + 1 = 30 := ⟨by decide +kernel, rfl⟩
theorem dX0_update_30 : decode cX0_update 30 = .ok (.i2b, 1) ∧ 30 + 1 = 31 := ⟨by decide +kernel, rfl⟩
theorem dX0_update_31 : decode cX0_update 31 = .ok (.bastore, 1) ∧ 31 + 1 = 32 := ⟨by decide +kernel, rfl⟩
theorem dX0_update_32 : decode cX0_update 32 = .ok (.return_, 1) ∧ 32 + 1 = 33 := ⟨by decide +kernel, rfl⟩
theorem dX0_rotatedRight_0 : decode cX0_rotatedRight 0 = .ok (.aload_n 0, 1) ∧ 0 + 1 = 1 := ⟨by decide +kernel, rfl⟩
theorem dX0_rotatedRight_1 : decode cX0_rotatedRight 1 = .ok (.getfield 7, 3) ∧ 1 + 3 = 4 := ⟨by decide +kernel, rfl⟩
theorem dX0_rotatedRight_4 : decode cX0_rotatedRight 4 = .ok (.iload_n 1, 1) ∧ 4 + 1 = 5 := ⟨by decide +kernel, rfl⟩
theorem dX0_rotatedRight_5 : decode cX0_rotatedRight 5 = .ok (.saload, 1) ∧ 5 + 1 = 6 := ⟨by decide +kernel, rfl⟩
theorem dX0_rotatedRight_6 : decode cX0_rotatedRight 6 = .ok (.istore_n 2, 1) ∧ 6 + 1 = 7 := ⟨by decide +kernel, rfl⟩
theorem dX0_rotatedRight_7 : decode cX0_rotatedRight 7 = .ok (.aload_n 0, 1) ∧ 7 + 1 = 8 := ⟨by decide +kernel, rfl⟩
theorem dX0_rotatedRight_8 : decode cX0_rotatedRight 8 = .ok (.getfield 7, 3) ∧ 8 + 3 = 11 := ⟨by decide +kernel, rfl⟩
theorem dX0_rotatedRight_11 : decode cX0_rotatedRight 11 = .ok (.iload_n 1, 1) ∧ 11 + 1 = 12 := ⟨by decide +kernel, rfl⟩
theorem dX0_rotatedRight_12 : decode cX0_rotatedRight 12 = .ok (.aload_n 0, 1) ∧ 12 + 1 = 13 := ⟨by decide +kernel, rfl⟩
theorem dX0_rotatedRight_13 : decode cX0_rotatedRight 13 = .ok (.getfield 13, 3) ∧ 13 + 3 = 16 := ⟨by decide +kernel, rfl⟩
theorem dX0_rotatedRight_16 : decode cX0_rotatedRight 16 = .ok (.iload_n 2, 1) ∧ 16 + 1 = 17 := ⟨by decide +kernel, rfl⟩
theorem dX0_rotatedRight_17 : decode cX0_rotatedRight 17 = .ok (.saload, 1) ∧ 17 + 1 = 18 := ⟨by decide +kernel, rfl⟩
theorem dX0_rotatedRight_18 : decode cX0_rotatedRight 18 = .ok (.sastore, 1) ∧ 18 + 1 = 19 := ⟨by decide +kernel, rfl⟩
theorem dX0_rotatedRight_19 : decode cX0_rotatedRight 19 = .ok (.aload_n 0, 1) ∧ 19 + 1 = 20 := ⟨by decide +kernel, rfl⟩
theorem dX0_rotatedRight_20 : decode cX0_rotatedRight 20 = .ok (.getfield 13, 3) ∧ 20 + 3 = 23 := ⟨by decide +kernel, rfl⟩
theorem dX0_rotatedRight_23 : decode cX0_rotatedRight 23 = .ok (.iload_n 2, 1) ∧ 23 + 1 = 24 := ⟨by decide +kernel, rfl⟩
theorem dX0_rotatedRight_24 : decode cX0_rotatedRight 24 = .ok (.iload_n 1, 1) ∧ 24 + 1 = 25 := ⟨by decide +kernel, rfl⟩
theorem dX0_rotatedRight_25 : decode cX0_rotatedRight 25 = .ok (.i2s, 1) ∧ 25 + 1 = 26 := ⟨by decide +kernel, rfl⟩
theorem dX0_rotatedRight_26 : decode cX0_rotatedRight 26 = .ok (.sastore, 1) ∧ 26 + 1 = 27 := ⟨by decide +kernel, rfl⟩
theorem dX0_rotatedRight_27 : decode cX0_rotatedRight 27 = .ok (.aload_n 0, 1) ∧ 27 + 1 = 28 := ⟨by decide +kernel, rfl⟩
theorem dX0_rotatedRight_28 : decode cX0_rotatedRight 28 = .ok (.iload_n 1, 1) ∧ 28 + 1 = 29 := ⟨by decide +kernel, rfl⟩
theorem dX0_rotatedRight_29 : decode cX0_rotatedRight 29 = .ok (.invokevirtual 122, 3) ∧ 29 + 3 = 32 := ⟨by decide +kernel, rfl⟩
theorem dX0_rotatedRight_32 : decode cX0_rotatedRight 32 = .ok (.aload_n 0, 1) ∧ 32 + 1 = 33 := ⟨by decide +kernel, rfl⟩
theorem dX0_rotatedRight_33 : decode cX0_rotatedRight 33 = .ok (.iload_n 2, 1) ∧ 33 + 1 = 34 := ⟨by decide +kernel, rfl⟩
theorem dX0_rotatedRight_34 : decode cX0_rotatedRight 34 = .ok (.invokevirtual 122, 3) ∧ 34 + 3 = 37 := ⟨by decide +kernel, rfl⟩
theorem dX0_rotatedRight_37 : decode cX0_rotatedRight 37 = .ok (.iload_n 2, 1) ∧ 37 + 1 = 38 := ⟨by decide +kernel, rfl⟩
theorem dX0_rotatedRight_38 : decode cX0_rotatedRight 38 = .ok (.ireturn, 1) ∧ 38 + 1 = 39 := ⟨by decide +kernel, rfl⟩
theorem dX0_rotatedLeft_0 : decode cX0_rotatedLeft 0 = .ok (.aload_n 0, 1) ∧ 0 + 1 = 1 := ⟨by decide +kernel, rfl⟩
theorem dX0_rotatedLeft_1 : decode cX0_rotatedLeft 1 = .ok (.getfield 13, 3) ∧ 1 + 3 = 4 := ⟨by decide +kernel, rfl⟩
theorem dX0_rotatedLeft_4 : decode cX0_rotatedLeft 4 = .ok (.iload_n 1, 1) ∧ 4 + 1 = 5 := ⟨by decide +kernel, rfl⟩
theorem dX0_rotatedLeft_5 : decode cX0_rotatedLeft 5 = .ok (.saload, 1) ∧ 5 + 1 = 6 := ⟨by decide +kernel, rfl⟩
theorem dX0_rotatedLeft_6 : decode cX0_rotatedLeft 6 = .ok (.istore_n 2, 1) ∧ 6 + 1 = 7 := ⟨by decide +kernel, rfl⟩
theorem dX0_rotatedLeft_7 : decode cX0_rotatedLeft 7 = .ok (.aload_n 0, 1) ∧ 7 + 1 = 8 := ⟨by decide +kernel, rfl⟩
theorem dX0_rotatedLeft_8 : decode cX0_rotatedLeft 8 = .ok (.getfield 13, 3) ∧ 8 + 3 = 11 := ⟨by decide +kernel, rfl⟩
theorem dX0_rotatedLeft_11 : decode cX0_rotatedLeft 11 = .ok (.iload_n 1, 1) ∧ 11 + 1 = 12 := ⟨by decide +kernel, rfl⟩
theorem dX0_rotatedLeft_12 : decode cX0_rotatedLeft 12 = .ok (.aload_n 0, 1) ∧ 12 + 1 = 13 := ⟨by decide +kernel, rfl⟩
theorem dX0_rotatedLeft_13 : decode cX0_rotatedLeft 13 = .ok (.getfield 7, 3) ∧ 13 + 3 = 16 := ⟨by decide +kernel, rfl⟩
theorem dX0_rotatedLeft_16 : decode cX0_rotatedLeft 16 = .ok (.iload_n 2, 1) ∧ 16 + 1 = 17 := ⟨by decide +kernel, rfl⟩
theorem dX0_rotatedLeft_17 : decode cX0_rotatedLeft 17 = .ok (.saload, 1) ∧ 17 + 1 = 18 := ⟨by decide +kernel, rfl⟩
theorem dX0_rotatedLeft_18 : decode cX0_rotatedLeft 18 = .ok (.sastore, 1) ∧ 18 + 1 = 19 := ⟨by decide +kernel, rfl⟩
theorem dX0_rotatedLeft_19 : decode cX0_rotatedLeft 19 = .ok (.aload_n 0, 1) ∧ 19 + 1 = 20 := ⟨by decide +kernel, rfl⟩
theorem dX0_rotatedLeft_20 : decode cX0_rotatedLeft 20 = .ok (.getfield 7, 3) ∧ 20 + 3 = 23 := ⟨by decide +kernel, rfl⟩
theorem dX0_rotatedLeft_23 : decode cX0_rotatedLeft 23 = .ok (.iload_n 2, 1) ∧ 23 + 1 = 24 := ⟨by decide +kernel, rfl⟩
theorem dX0_rotatedLeft_24 : decode cX0_rotatedLeft 24 = .ok (.iload_n 1, 1) ∧ 24 + 1 = 25 := ⟨by decide +kernel, rfl⟩
theorem dX0_rotatedLeft_25 : decode cX0_rotatedLeft 25 = .ok (.i2s, 1) ∧ 25 + 1 = 26 := ⟨by decide +kernel, rfl⟩
theorem dX0_rotatedLeft_26 : decode cX0_rotatedLeft 26 = .ok (.sastore, 1) ∧ 26 + 1 = 27 := ⟨by decide +kernel, rfl⟩
theorem dX0_rotatedLeft_27 : decode cX0_rotatedLeft 27 = .ok (.aload_n 0, 1) ∧ 27 + 1 = 28 := ⟨by decide +kernel, rfl⟩
theorem dX0_rotatedLeft_28 : decode cX0_rotatedLeft 28 = .ok (.iload_n 1, 1) ∧ 28 + 1 = 29 := ⟨by decide +kernel, rfl⟩
theorem dX0_rotatedLeft_29 : decode cX0_rotatedLeft 29 = .ok (.invokevirtual 122, 3) ∧ 29 + 3 = 32 := ⟨by decide +kernel, rfl⟩
theorem dX0_rotatedLeft_32 : decode cX0_rotatedLeft 32 = .ok (.aload_n 0, 1) ∧ 32 + 1 = 33 := ⟨by decide +kernel, rfl⟩
theorem dX0_rotatedLeft_33 : decode cX0_rotatedLeft 33 = .ok (.iload_n 2, 1) ∧ 33 + 1 = 34 := ⟨by decide +kernel, rfl⟩
theorem dX0_rotatedLeft_34 : decode cX0_rotatedLeft 34 = .ok (.invokevirtual 122, 3) ∧ 34 + 3 = 37 := ⟨by decide +kernel, rfl⟩
theorem dX0_rotatedLeft_37 : decode cX0_rotatedLeft 37 = .ok (.iload_n 2, 1) ∧ 37 + 1 = 38 := ⟨by decide +kernel, rfl⟩
theorem dX0_rotatedLeft_38 : decode cX0_rotatedLeft 38 = .ok (.ireturn, 1) ∧ 38 + 1 = 39 := ⟨by decide +kernel, rfl⟩
theorem dX0_newNode_0 : decode cX0_newNode 0 = .ok (.aload_n 0, 1) ∧ 0 + 1 = 1 := ⟨by decide +kernel, rfl⟩
theorem dX0_newNode_1 : decode cX0_newNode 1 = .ok (.dup, 1) ∧ 1 + 1 = 2 := ⟨by decide +kernel, rfl⟩
theorem dX0_newNode_2 : decode cX0_newNode 2 = .ok (.getfield 52, 3) ∧ 2 + 3 = 5 := ⟨by decide +kernel, rfl⟩
theorem dX0_newNode_5 : decode cX0_newNode 5 = .ok (.iconst 1, 1) ∧ 5 + 1 = 6 := ⟨by decide +kernel, rfl⟩
theorem dX0_newNode_6 : decode cX0_newNode 6 = .ok (.isub, 1) ∧ 6 + 1 = 7 := ⟨by decide +kernel, rfl⟩
theorem dX0_newNode_7 : decode cX0_newNode 7 = .ok (.putfield 52, 3) ∧ 7 + 3 = 10 := ⟨by decide +kernel, rfl⟩
theorem dX0_newNode_10 : decode cX0_newNode 10 = .ok (.aload_n 0, 1) ∧ 10 + 1 = 11 := ⟨by decide +kernel, rfl⟩
theorem dX0_newNode_11 : decode cX0_newNode 11 = .ok (.getfield 27, 3) ∧ 11 + 3 = 14 := ⟨by decide +kernel, rfl⟩
theorem dX0_newNode_14 : decode cX0_newNode 14 = .ok (.aload_n 0, 1) ∧ 14 + 1 = 15 := ⟨by decide +kernel, rfl⟩
theorem dX0_newNode_15 : decode cX0_newNode 15 = .ok (.getfield 52, 3) ∧ 15 + 3 = 18 := ⟨by decide +kernel, rfl⟩
theorem dX0_newNode_18 : decode cX0_newNode 18 = .ok (.saload, 1) ∧ 18 + 1 = 19 := ⟨by decide +kernel, rfl⟩
theorem dX0_newNode_19 : decode cX0_newNode 19 = .ok (.istore_n 2, 1) ∧ 19 + 1 = 20 := ⟨by decide +kernel, rfl⟩
theorem dX0_newNode_20 : decode cX0_newNode 20 = .ok (.aload_n 0, 1) ∧ 20 + 1 = 21 := ⟨by decide +kernel, rfl⟩
theorem dX0_newNode_21 : decode cX0_newNode 21 = .ok (.getfield 16, 3) ∧ 21 + 3 = 24 := ⟨by decide +kernel, rfl⟩
theorem dX0_newNode_24 : decode cX0_newNode 24 = .ok (.iload_n 2, 1) ∧ 24 + 1 = 25 := ⟨by decide +kernel, rfl⟩
theorem dX0_newNode_25 : decode cX0_newNode 25 = .ok (.iload_n 1, 1) ∧ 25 + 1 = 26 := ⟨by decide +kernel, rfl⟩
theorem dX0_newNode_26 : decode cX0_newNode 26 = .ok (.iastore, 1) ∧ 26 + 1 = 27 := ⟨by decide +kernel, rfl⟩
theorem dX0_newNode_27 : decode cX0_newNode 27 = .ok (.aload_n 0, 1) ∧ 27 + 1 = 28 := ⟨by decide +kernel, rfl⟩
theorem dX0_newNode_28 : decode cX0_newNode 28 = .ok (.getfield 7, 3) ∧ 28 + 3 = 31 := ⟨by decide +kernel, rfl⟩
theorem dX0_newNode_31 : decode cX0_newNode 31 = .ok (.iload_n 2, 1) ∧ 31 + 1 = 32 := ⟨by decide +kernel, rfl⟩
theorem dX0_newNode_32 : decode cX0_newNode 32 = .ok (.iconst 0, 1) ∧ 32 + 1 = 33 := ⟨by decide +kernel, rfl⟩
theorem dX0_newNode_33 : decode cX0_newNode 33 = .ok (.sastore, 1) ∧ 33 + 1 = 34 := ⟨by decide +kernel, rfl⟩
theorem dX0_newNode_34 : decode cX0_newNode 34 = .ok (.aload_n 0, 1) ∧ 34 + 1 = 35 := ⟨by decide +kernel, rfl⟩
theorem dX0_newNode_35 : decode cX0_newNode 35 = .ok (.getfield 13, 3) ∧ 35 + 3 = 38 := ⟨by decide +kernel, rfl⟩
theorem dX0_newNode_38 : decode cX0_newNode 38 = .ok (.iload_n 2, 1) ∧ 38 + 1 = 39 := ⟨by decide +kernel, rfl⟩
theorem dX0_newNode_39 : decode cX0_newNode 39 = .ok (.iconst 0, 1) ∧ 39 + 1 = 40 := ⟨by decide +kernel, rfl⟩
theorem dX0_newNode_40 : decode cX0_newNode 40 = .ok (.sastore, 1) ∧ 40 + 1 = 41 := ⟨by decide +kernel, rfl⟩
theorem dX0_newNode_41 : decode cX0_newNode 41 = .ok (.aload_n 0, 1) ∧ 41 + 1 = 42 := ⟨by decide +kernel, rfl⟩
theorem dX0_newNode_42 : decode cX0_newNode 42 = .ok (.getfield 20, 3) ∧ 42 + 3 = 45 := ⟨by decide +kernel, rfl⟩
theorem dX0_newNode_45 : decode cX0_newNode 45 = .ok (.iload_n 2, 1) ∧ 45 + 1 = 46 := ⟨by decide +kernel, rfl⟩
theorem dX0_newNode_46 : decode cX0_newNode 46 = .ok (.iconst 1, 1) ∧ 46 + 1 = 47 := ⟨by decide +kernel, rfl⟩
theorem dX0_newNode_47 : decode cX0_newNode 47 = .ok (.bastore, 1) ∧ 47 + 1 = 48 := ⟨by decide +kernel, rfl⟩
theorem dX0_newNode_48 : decode cX0_newNode 48 = .ok (.iload_n 2, 1) ∧ 48 + 1 = 49 := ⟨by decide +kernel, rfl⟩
theorem dX0_newNode_49 : decode cX0_newNode 49 = .ok (.ireturn, 1) ∧ 49 + 1 = 50 := ⟨by decide +kernel, rfl⟩
theorem dX0_remove_0 : decode cX0_remove 0 = .ok (.aload_n 0, 1) ∧ 0 + 1 = 1 := ⟨by decide +kernel, rfl⟩
theorem dX0_remove_1 : decode cX0_remove 1 = .ok (.iload_n 1, 1) ∧ 1 + 1 = 2 := ⟨by decide +kernel, rfl⟩
theorem dX0_remove_2 : decode cX0_remove 2 = .ok (.invokevirtual 56, 3) ∧ 2 + 3 = 5 := ⟨by decide +kernel, rfl⟩
theorem dX0_remove_5 : decode cX0_remove 5 = .ok (.ifCond .ne 5, 3) ∧ 5 + 3 = 8 ∧ ((5 : Nat) : Int) + (5) = ((10 : Nat) : Int) := ⟨by decide +kernel, rfl, by decide⟩
theorem dX0_remove_8 : decode cX0_remove 8 = .ok (.iconst (-1), 1) ∧ 8 + 1 = 9 := ⟨by decide +kernel, rfl⟩
theorem dX0_remove_9 : decode cX0_remove 9 = .ok (.ireturn, 1) ∧ 9 + 1 = 10 := ⟨by decide +kernel, rfl⟩
theorem dX0_remove_10 : decode cX0_remove 10 = .ok (.aload_n 0, 1) ∧ 10 + 1 = 11 := ⟨by decide +kernel, rfl⟩
theorem dX0_remove_11 : decode cX0_remove 11 = .ok (.iload_n 1, 1) ∧ 11 + 1 = 12 := ⟨by decide +kernel, rfl⟩
theorem dX0_remove_12 : decode cX0_remove 12 = .ok (.iload_n 2, 1) ∧ 12 + 1 = 13 := ⟨by decide +kernel, rfl⟩
theorem dX0_remove_13 : decode cX0_remove 13 = .ok (.invokevirtual 60, 3) ∧ 13 + 3 = 16 := ⟨by decide +kernel, rfl⟩
theorem dX0_remove_16 : decode cX0_remove 16 = .ok (.ifCond .ne 5, 3) ∧ 16 + 3 = 19 ∧ ((16 : Nat) : Int) + (5) = ((21 : Nat) : Int) := ⟨by decide +kernel, rfl, by decide⟩
theorem dX0_remove_19 : decode cX0_remove 19 = .ok (.iconst 0, 1) ∧ 19 + 1 = 20 := ⟨by decide +kernel, rfl⟩
theorem dX0_remove_20 : decode cX0_remove 20 = .ok (.ireturn, 1) ∧ 20 + 1 = 21 := ⟨by decide +kernel, rfl⟩
theorem dX0_remove_21 : decode cX0_remove 21 = .ok (.aload_n 0, 1) ∧ 21 + 1 = 22 := ⟨by decide +kernel, rfl⟩
theorem dX0_remove_22 : decode cX0_remove 22 = .ok (.aload_n 0, 1) ∧ 22 + 1 = 23 := ⟨by decide +kernel, rfl⟩
theorem dX0_remove_23 : decode cX0_remove 23 = .ok (.getfield 24, 3) ∧ 23 + 3 = 26 := ⟨by decide +kernel, rfl⟩
theorem dX0_remove_26 : decode cX0_remove 26 = .ok (.iload_n 1, 1) ∧ 26 + 1 = 27 := ⟨by decide +kernel, rfl⟩
theorem dX0_remove_27 : decode cX0_remove 27 = .ok (.saload, 1) ∧ 27 + 1 = 28 := ⟨by decide +kernel, rfl⟩
theorem dX0_remove_28 : decode cX0_remove 28 = .ok (.iload_n 2, 1) ∧ 28 + 1 = 29 := ⟨by decide +kernel, rfl⟩
theorem dX0_remove_29 : decode cX0_remove 29 = .ok (.invokevirtual 64, 3) ∧ 29 + 3 = 32 := ⟨by decide +kernel, rfl⟩
theorem dX0_remove_32 : decode cX0_remove 32 = .ok (.aload_n 0, 1) ∧ 32 + 1 = 33 := ⟨by decide +kernel, rfl⟩
theorem dX0_remove_33 : decode cX0_remove 33 = .ok (.getfield 68, 3) ∧ 33 + 3 = 36 := ⟨by decide +kernel, rfl⟩
theorem dX0_remove_36 : decode cX0_remove 36 = .ok (.istore_n 3, 1) ∧ 36 + 1 = 37 := ⟨by decide +kernel, rfl⟩
theorem dX0_remove_37 : decode cX0_remove 37 = .ok (.aload_n 0, 1) ∧ 37 + 1 = 38 := ⟨by decide +kernel, rfl⟩
theorem dX0_remove_38 : decode cX0_remove 38 = .ok (.aload_n 0, 1) ∧ 38 + 1 = 39 := ⟨by decide +kernel, rfl⟩
theorem dX0_remove_39 : decode cX0_remove 39 = .ok (.getfield 82, 3) ∧ 39 + 3 = 42 := ⟨by decide +kernel, rfl⟩
theorem dX0_remove_42 : decode cX0_remove 42 = .ok (.invokevirtual 85, 3) ∧ 42 + 3 = 45 := ⟨by decide +kernel, rfl⟩
theorem dX0_remove_45 : decode cX0_remove 45 = .ok (.aload_n 0, 1) ∧ 45 + 1 = 46 := ⟨by decide +kernel, rfl⟩
theorem dX0_remove_46 : decode cX0_remove 46 = .ok (.getfield 24, 3) ∧ 46 + 3 = 49 := ⟨by decide +kernel, rfl⟩
theorem dX0_remove_49 : decode cX0_remove 49 = .ok (.iload_n 1, 1) ∧ 49 + 1 = 50 := ⟨by decide +kernel, rfl⟩
theorem dX0_remove_50 : decode cX0_remove 50 = .ok (.aload_n 0, 1) ∧ 50 + 1 = 51 := ⟨by decide +kernel, rfl⟩
theorem dX0_remove_51 : decode cX0_remove 51 = .ok (.aload_n 0, 1) ∧ 51 + 1 = 52 := ⟨by decide +kernel, rfl⟩
theorem dX0_remove_52 : decode cX0_remove 52 = .ok (.getfield 75, 3) ∧ 52 + 3 = 55 := ⟨by decide +kernel, rfl⟩
theorem dX0_remove_55 : decode cX0_remove 55 = .ok (.iload_n 3, 1) ∧ 55 + 1 = 56 := ⟨by decide +kernel, rfl⟩
theorem dX0_remove_56 : decode cX0_remove 56 = .ok (.invokevirtual 89, 3) ∧ 56 + 3 = 59 := ⟨by decide +kernel, rfl⟩
theorem dX0_remove_59 : decode cX0_remove 59 = .ok (.i2s, 1) ∧ 59 + 1 = 60 := ⟨by decide +kernel, rfl⟩
theorem dX0_remove_60 : decode cX0_remove 60 = .ok (.sastore, 1) ∧ 60 + 1 = 61 := ⟨by decide +kernel, rfl⟩
theorem dX0_remove_61 : decode cX0_remove 61 = .ok (.iconst 1, 1) ∧ 61 + 1 = 62 := ⟨by decide +kernel, rfl⟩
theorem dX0_remove_62 : decode cX0_remove 62 = .ok (.ireturn, 1) ∧ 62 + 1 = 63 := ⟨by decide +kernel, rfl⟩
theorem dX0_release_0 : decode cX0_release 0 = .ok (.iload_n 1, 1) ∧ 0 + 1 = 1 := ⟨by decide +kernel, rfl⟩
theorem dX0_release_1 : decode cX0_release 1 = .ok (.ifCond .ne 4, 3) ∧ 1 + 3 = 4 ∧ ((1 : Nat) : Int) + (4) = ((5 : Nat) : Int) := ⟨by decide +kernel, rfl, by decide⟩
theorem dX0_release_4 : decode cX0_release 4 = .ok (.return_, 1) ∧ 4 + 1 = 5 := ⟨by decide +kernel, rfl⟩
theorem dX0_release_5 : decode cX0_release 5 = .ok (.aload_n 0, 1) ∧ 5 + 1 = 6 := ⟨by decide +kernel, rfl⟩
theorem dX0_release_6 : decode cX0_release 6 = .ok (.getfield 27, 3) ∧ 6 + 3 = 9 := ⟨by decide +kernel, rfl⟩
theorem dX0_release_9 : decode cX0_release 9 = .ok (.aload_n 0, 1) ∧ 9 + 1 = 10 := ⟨by decide +kernel, rfl⟩
theorem dX0_release_10 : decode cX0_release 10 = .ok (.getfield 52, 3) ∧ 10 + 3 = 13 := ⟨by decide +kernel, rfl⟩
theorem dX0_release_13 : decode cX0_release 13 = .ok (.iload_n 1, 1) ∧ 13 + 1 = 14 := ⟨by decide +kernel, rfl⟩
theorem dX0_release_14 : decode cX0_release 14 = .ok (.i2s, 1) ∧ 14 + 1 = 15 := ⟨by decide +kernel, rfl⟩
theorem dX0_release_15 : decode cX0_release 15 = .ok (.sastore, 1) ∧ 15 + 1 = 16 := ⟨by decide +kernel, rfl⟩
theorem dX0_release_16 : decode cX0_release 16 = .ok (.aload_n 0, 1) ∧ 16 + 1 = 17 := ⟨by decide +kernel, rfl⟩
theorem dX0_release_17 : decode cX0_release 17 = .ok (.dup, 1) ∧ 17 + 1 = 18 := ⟨by decide +kernel, rfl⟩
theorem dX0_release_18 : decode cX0_release 18 = .ok (.getfield 52, 3) ∧ 18 + 3 = 21 := ⟨by decide +kernel, rfl⟩
theorem dX0_release_21 : decode cX0_release 21 = .ok (.iconst 1, 1) ∧ 21 + 1 = 22 := ⟨by decide +kernel, rfl⟩
theorem dX0_release_22 : decode cX0_release 22 = .ok (.iadd, 1) ∧ 22 + 1 = 23 := ⟨by decide +kernel, rfl⟩
theorem dX0_release_23 : decode cX0_release 23 = .ok (.putfield 52, 3) ∧ 23 + 3 = 26 := ⟨by decide +kernel, rfl⟩
theorem dX0_release_26 : decode cX0_release 26 = .ok (.return_, 1) ∧ 26 + 1 = 27 := ⟨by decide +kernel, rfl⟩
theorem dX0_joinTwo_0 : decode cX0_joinTwo 0 = .ok (.iload_n 1, 1) ∧ 0 + 1 = 1 := ⟨by decide +kernel, rfl⟩
theorem dX0_joinTwo_1 : decode cX0_joinTwo 1 = .ok (.ifCond .ne 5, 3) ∧ 1 + 3 = 4 ∧ ((1 : Nat) : Int) + (5) = ((6 : Nat) : Int) := ⟨by decide +kernel, rfl, by decide⟩
theorem dX0_joinTwo_4 : decode cX0_joinTwo 4 = .ok (.iload_n 2, 1) ∧ 4 + 1 = 5 := ⟨by decide +kernel, rfl⟩
theorem dX0_joinTwo_5 : decode cX0_joinTwo 5 = .ok (.ireturn, 1) ∧ 5 + 1 = 6 := ⟨by decide +kernel, rfl⟩
theorem dX0_joinTwo_6 : decode cX0_joinTwo 6 = .ok (.iload_n 1, 1) ∧ 6 + 1 = 7 := ⟨by decide +kernel, rfl⟩
theorem dX0_joinTwo_7 : decode cX0_joinTwo 7 = .ok (.istore_n 3, 1) ∧ 7 + 1 = 8 := ⟨by decide +kernel, rfl⟩
theorem dX0_joinTwo_8 : decode cX0_joinTwo 8 = .ok (.aload_n 0, 1) ∧ 8 + 1 = 9 := ⟨by decide +kernel, rfl⟩
theorem dX0_joinTwo_9 : decode cX0_joinTwo 9 = .ok (.getfield 13, 3) ∧ 9 + 3 = 12 := ⟨by decide +kernel, rfl⟩
theorem dX0_joinTwo_12 : decode cX0_joinTwo 12 = .ok (.iload_n 3, 1) ∧ 12 + 1 = 13 := ⟨by decide +kernel, rfl⟩
theorem dX0_joinTwo_13 : decode cX0_joinTwo 13 = .ok (.saload, 1) ∧ 13 + 1 = 14 := ⟨by decide +kernel, rfl⟩
theorem dX0_joinTwo_14 : decode cX0_joinTwo 14 = .ok (.ifCond .eq 13, 3) ∧ 14 + 3 = 17 ∧ ((14 : Nat) : Int) + (13) = ((27 : Nat) : Int) := ⟨by decide +kernel, rfl, by decide⟩
theorem dX0_joinTwo_17 : decode cX0_joinTwo 17 = .ok (.aload_n 0, 1) ∧ 17 + 1 = 18 := ⟨by decide +kernel, rfl⟩
theorem dX0_joinTwo_18 : decode cX0_joinTwo 18 = .ok (.getfield 13, 3) ∧ 18 + 3 = 21 := ⟨by decide +kernel, rfl⟩
theorem dX0_joinTwo_21 : decode cX0_joinTwo 21 = .ok (.iload_n 3, 1) ∧ 21 + 1 = 22 := ⟨by decide +kernel, rfl⟩
theorem dX0_joinTwo_22 : decode cX0_joinTwo 22 = .ok (.saload, 1) ∧ 22 + 1 = 23 := ⟨by decide +kernel, rfl⟩
theorem dX0_joinTwo_23 : decode cX0_joinTwo 23 = .ok (.istore_n 3, 1) ∧ 23 + 1 = 24 := ⟨by decide +kernel, rfl⟩
theorem dX0_joinTwo_24 : decode cX0_joinTwo 24 = .ok (.goto (-16), 3) ∧ 24 + 3 = 27 ∧ ((24 : Nat) : Int) + (-16) = ((8 : Nat) : Int) := ⟨by decide +kernel, rfl, by decide⟩
theorem dX0_joinTwo_27 : decode cX0_joinTwo 27 = .ok (.aload_n 0, 1) ∧ 27 + 1 = 28 := ⟨by decide +kernel, rfl⟩
theorem dX0_joinTwo_28 : decode cX0_joinTwo 28 = .ok (.iload_n 1, 1) ∧ 28 + 1 = 29 := ⟨by decide +kernel, rfl⟩
theorem dX0_joinTwo_29 : decode cX0_joinTwo 29 = .ok (.aload_n 0, 1) ∧ 29 + 1 = 30 := ⟨by decide +kernel, rfl⟩
theorem dX0_joinTwo_30 : decode cX0_joinTwo 30 = .ok (.getfield 16, 3) ∧ 30 + 3 = 33 := ⟨by decide +kernel, rfl⟩
theorem dX0_joinTwo_33 : decode cX0_joinTwo 33 = .ok (.iload_n 3, 1) ∧ 33 + 1 = 34 := ⟨by decide +kernel, rfl⟩
theorem dX0_joinTwo_34 : decode cX0_joinTwo 34 = .ok (.iaload, 1) ∧ 34 + 1 = 35 := ⟨by decide +kernel, rfl⟩
theorem dX0_joinTwo_35 : decode cX0_joinTwo 35 = .ok (.invokevirtual 64, 3) ∧ 35 + 3 = 38 := ⟨by decide +kernel, rfl⟩
theorem dX0_joinTwo_38 : decode cX0_joinTwo 38 = .ok (.aload_n 0, 1) ∧ 38 + 1 = 39 := ⟨by decide +kernel, rfl⟩
theorem dX0_joinTwo_39 : decode cX0_joinTwo 39 = .ok (.aload_n 0, 1) ∧ 39 + 1 = 40 := ⟨by decide +kernel, rfl⟩
theorem dX0_joinTwo_40 : decode cX0_joinTwo 40 = .ok (.getfield 75, 3) ∧ 40 + 3 = 43 := ⟨by decide +kernel, rfl⟩
theorem dX0_joinTwo_43 : decode cX0_joinTwo 43 = .ok (.aload_n 0, 1) ∧ 43 + 1 = 44 := ⟨by decide +kernel, rfl⟩
theorem dX0_joinTwo_44 : decode cX0_joinTwo 44 = .ok (.getfield 82, 3) ∧ 44 + 3 = 47 := ⟨by decide +kernel, rfl⟩
theorem dX0_joinTwo_47 : decode cX0_joinTwo 47 = .ok (.iload_n 2, 1) ∧ 47 + 1 = 48 := ⟨by decide +kernel, rfl⟩
theorem dX0_joinTwo_48 : decode cX0_joinTwo 48 = .ok (.invokevirtual 78, 3) ∧ 48 + 3 = 51 := ⟨by decide +kernel, rfl⟩
theorem dX0_joinTwo_51 : decode cX0_joinTwo 51 = .ok (.ireturn, 1) ∧ 51 + 1 = 52 := ⟨by decide +kernel, rfl⟩
theorem dX0_size_0 : decode cX0_size 0 = .ok (.aload_n 0, 1) ∧ 0 + 1 = 1 := ⟨by decide +kernel, rfl⟩
theorem dX0_size_1 : decode cX0_size 1 = .ok (.iload_n 1, 1) ∧ 1 + 1 = 2 := ⟨by decide +kernel, rfl⟩
theorem dX0_size_2 : decode cX0_size 2 = .ok (.invokevirtual 56, 3) ∧ 2 + 3 = 5 := ⟨by decide +kernel, rfl⟩
theorem dX0_size_5 : decode cX0_size 5 = .ok (.ifCond .eq 17, 3) ∧ 5 + 3 = 8 ∧ ((5 : Nat) : Int) + (17) = ((22 : Nat) : Int) := ⟨by decide +kernel, rfl, by decide⟩
theorem dX0_size_8 : decode cX0_size 8 = .ok (.aload_n 0, 1) ∧ 8 + 1 = 9 := ⟨by decide +kernel, rfl⟩
theorem dX0_size_9 : decode cX0_size 9 = .ok (.getfield 20, 3) ∧ 9 + 3 = 12 := ⟨by decide +kernel, rfl⟩
theorem dX0_size_12 : decode cX0_size 12 = .ok (.aload_n 0, 1) ∧ 12 + 1 = 13 := ⟨by decide +kernel, rfl⟩
theorem dX0_size_13 : decode cX0_size 13 = .ok (.getfield 24, 3) ∧ 13 + 3 = 16 := ⟨by decide +kernel, rfl⟩
theorem dX0_size_16 : decode cX0_size 16 = .ok (.iload_n 1, 1) ∧ 16 + 1 = 17 := ⟨by decide +kernel, rfl⟩
theorem dX0_size_17 : decode cX0_size 17 = .ok (.saload, 1) ∧ 17 + 1 = 18 := ⟨by decide +kernel, rfl⟩
theorem dX0_size_18 : decode cX0_size 18 = .ok (.baload, 1) ∧ 18 + 1 = 19 := ⟨by decide +kernel, rfl⟩
theorem dX0_size_19 : decode cX0_size 19 = .ok (.goto 4, 3) ∧ 19 + 3 = 22 ∧ ((19 : Nat) : Int) + (4) = ((23 : Nat) : Int) := ⟨by decide +kernel, rfl, by decide⟩
theorem dX0_size_22 : decode cX0_size 22 = .ok (.iconst (-1), 1) ∧ 22 + 1 = 23 := ⟨by decide +kernel, rfl⟩
theorem dX0_size_23 : decode cX0_size 23 = .ok (.ireturn, 1) ∧ 23 + 1 = 24 := ⟨by decide +kernel, rfl⟩
theorem dX0_at_0 : decode cX0_at 0 = .ok (.aload_n 0, 1) ∧ 0 + 1 = 1 := ⟨by decide +kernel, rfl⟩
theorem dX0_at_1 : decode cX0_at 1 = .ok (.iload_n 1, 1) ∧ 1 + 1 = 2 := ⟨by decide +kernel, rfl⟩
theorem dX0_at_2 : decode cX0_at 2 = .ok (.invokevirtual 56, 3) ∧ 2 + 3 = 5 := ⟨by decide +kernel, rfl⟩
theorem dX0_at_5 : decode cX0_at 5 = .ok (.ifCond .eq 22, 3) ∧ 5 + 3 = 8 ∧ ((5 : Nat) : Int) + (22) = ((27 : Nat) : Int) := ⟨by decide +kernel, rfl, by decide⟩
theorem dX0_at_8 : decode cX0_at 8 = .ok (.iload_n 2, 1) ∧ 8 + 1 = 9 := ⟨by decide +kernel, rfl⟩
theorem dX0_at_9 : decode cX0_at 9 = .ok (.ifCond .lt 18, 3) ∧ 9 + 3 = 12 ∧ ((9 : Nat) : Int) + (18) = ((27 : Nat) : Int) := ⟨by decide +kernel, rfl, by decide⟩
theorem dX0_at_12 : decode cX0_at 12 = .ok (.iload_n 2, 1) ∧ 12 + 1 = 13 := ⟨by decide +kernel, rfl⟩
theorem dX0_at_13 : decode cX0_at 13 = .ok (.aload_n 0, 1) ∧ 13 + 1 = 14 := ⟨by decide +kernel, rfl⟩
theorem dX0_at_14 : decode cX0_at 14 = .ok (.getfield 20, 3) ∧ 14 + 3 = 17 := ⟨by decide +kernel, rfl⟩
theorem dX0_at_17 : decode cX0_at 17 = .ok (.aload_n 0, 1) ∧ 17 + 1 = 18 := ⟨by decide +kernel, rfl⟩
theorem dX0_at_18 : decode cX0_at 18 = .ok (.getfield 24, 3) ∧ 18 + 3 = 21 := ⟨by decide +kernel, rfl⟩
theorem dX0_at_21 : decode cX0_at 21 = .ok (.iload_n 1, 1) ∧ 21 + 1 = 22 := ⟨by decide +kernel, rfl⟩
theorem dX0_at_22 : decode cX0_at 22 = .ok (.saload, 1) ∧ 22 + 1 = 23 := ⟨by decide +kernel, rfl⟩
theorem dX0_at_23 : decode cX0_at 23 = .ok (.baload, 1) ∧ 23 + 1 = 24 := ⟨by decide +kernel, rfl⟩
theorem dX0_at_24 : decode cX0_at 24 = .ok (.if_icmp .lt 5, 3) ∧ 24 + 3 = 27 ∧ ((24 : Nat) : Int) + (5) = ((29 : Nat) : Int) := ⟨by decide +kernel, rfl, by decide⟩
theorem dX0_at_27 : decode cX0_at 27 = .ok (.iconst 0, 1) ∧ 27 + 1 = 28 := ⟨by decide +kernel, rfl⟩
theorem dX0_at_28 : decode cX0_at 28 = .ok (.ireturn, 1) ∧ 28 + 1 = 29 := ⟨by decide +kernel, rfl⟩
theorem dX0_at_29 : decode cX0_at 29 = .ok (.aload_n 0, 1) ∧ 29 + 1 = 30 := ⟨by decide +kernel, rfl⟩
theorem dX0_at_30 : decode cX0_at 30 = .ok (.getfield 24, 3) ∧ 30 + 3 = 33 := ⟨by decide +kernel, rfl⟩
theorem dX0_at_33 : decode cX0_at 33 = .ok (.iload_n 1, 1) ∧ 33 + 1 = 34 := ⟨by decide +kernel, rfl⟩
theorem dX0_at_34 : decode cX0_at 34 = .ok (.saload, 1) ∧ 34 + 1 = 35 := ⟨by decide +kernel, rfl⟩
theorem dX0_at_35 : decode cX0_at 35 = .ok (.istore_n 3, 1) ∧ 35 + 1 = 36 := ⟨by decide +kernel, rfl⟩
theorem dX0_at_36 : decode cX0_at 36 = .ok (.iload_n 2, 1) ∧ 36 + 1 = 37 := ⟨by decide +kernel, rfl⟩
theorem dX0_at_37 : decode cX0_at 37 = .ok (.istore 4, 2) ∧ 37 + 2 = 39 := ⟨by decide +kernel, rfl⟩
theorem dX0_at_39 : decode cX0_at 39 = .ok (.iload 4, 2) ∧ 39 + 2 = 41 := ⟨by decide +kernel, rfl⟩
theorem dX0_at_41 : decode cX0_at 41 = .ok (.aload_n 0, 1) ∧ 41 + 1 = 42 := ⟨by decide +kernel, rfl⟩
theorem dX0_at_42 : decode cX0_at 42 = .ok (.getfield 20, 3) ∧ 42 + 3 = 45 := ⟨by decide +kernel, rfl⟩
theorem dX0_at_45 : decode cX0_at 45 = .ok (.aload_n 0, 1) ∧ 45 + 1 = 46 := ⟨by decide +kernel, rfl⟩
theorem dX0_at_46 : decode cX0_at 46 = .ok (.getfield 7, 3) ∧ 46 + 3 = 49 := ⟨by decide +kernel, rfl⟩
theorem dX0_at_49 : decode cX0_at 49 = .ok (.iload_n 3, 1) ∧ 49 + 1 = 50 := ⟨by decide +kernel, rfl⟩
theorem dX0_at_50 : decode cX0_at 50 = .ok (.saload, 1) ∧ 50 + 1 = 51 := ⟨by decide +kernel, rfl⟩
theorem dX0_at_51 : decode cX0_at 51 = .ok (.baload, 1) ∧ 51 + 1 = 52 := ⟨by decide +kernel, rfl⟩
theorem dX0_at_52 : decode cX0_at 52 = .ok (.if_icmp .eq 57, 3) ∧ 52 + 3 = 55 ∧ ((52 : Nat) : Int) + (57) = ((109 : Nat) : Int) := ⟨by decide +kernel, rfl, by decide⟩
theorem dX0_at_55 : decode cX0_at 55 = .ok (.iload 4, 2) ∧ 55 + 2 = 57 := ⟨by decide +kernel, rfl⟩
theorem dX0_at_57 : decode cX0_at 57 = .ok (.aload_n 0, 1) ∧ 57 + 1 = 58 := ⟨by decide +kernel, rfl⟩
theorem dX0_at_58 : decode cX0_at 58 = .ok (.getfield 20, 3) ∧ 58 + 3 = 61 := ⟨by decide +kernel, rfl⟩
theorem dX0_at_61 : decode cX0_at 61 = .ok (.aload_n 0, 1) ∧ 61 + 1 = 62 := ⟨by decide +kernel, rfl⟩
theorem dX0_at_62 : decode cX0_at 62 = .ok (.getfield 7, 3) ∧ 62 + 3 = 65 := ⟨by decide +kernel, rfl⟩
theorem dX0_at_65 : decode cX0_at 65 = .ok (.iload_n 3, 1) ∧ 65 + 1 = 66 := ⟨by decide +kernel, rfl⟩
theorem dX0_at_66 : decode cX0_at 66 = .ok (.saload, 1) ∧ 66 + 1 = 67 := ⟨by decide +kernel, rfl⟩
theorem dX0_at_67 : decode cX0_at 67 = .ok (.baload, 1) ∧ 67 + 1 = 68 := ⟨by decide +kernel, rfl⟩
theorem dX0_at_68 : decode cX0_at 68 = .ok (.if_icmp .ge 13, 3) ∧ 68 + 3 = 71 ∧ ((68 : Nat) : Int) + (13) = ((81 : Nat) : Int) := ⟨by decide +kernel, rfl, by decide⟩
theorem dX0_at_71 : decode cX0_at 71 = .ok (.aload_n 0, 1) ∧ 71 + 1 = 72 := ⟨by decide +kernel, rfl⟩
theorem dX0_at_72 : decode cX0_at 72 = .ok (.getfield 7, 3) ∧ 72 + 3 = 75 := ⟨by decide +kernel, rfl⟩
theorem dX0_at_75 : decode cX0_at 75 = .ok (.iload_n 3, 1) ∧ 75 + 1 = 76 := ⟨by decide +kernel, rfl⟩
theorem dX0_at_76 : decode cX0_at 76 = .ok (.saload, 1) ∧ 76 + 1 = 77 := ⟨by decide +kernel, rfl⟩
theorem dX0_at_77 : decode cX0_at 77 = .ok (.istore_n 3, 1) ∧ 77 + 1 = 78 := ⟨by decide +kernel, rfl⟩
theorem dX0_at_78 : decode cX0_at 78 = .ok (.goto (-39), 3) ∧ 78 + 3 = 81 ∧ ((78 : Nat) : Int) + (-39) = ((39 : Nat) : Int) := ⟨by decide +kernel, rfl, by decide⟩
theorem dX0_at_81 : decode cX0_at 81 = .ok (.iload 4, 2) ∧ 81 + 2 = 83 := ⟨by decide +kernel, rfl⟩
theorem dX0_at_83 : decode cX0_at 83 = .ok (.aload_n 0, 1) ∧ 83 + 1 = 84 := ⟨by decide +kernel, rfl⟩
theorem dX0_at_84 : decode cX0_at 84 = .ok (.getfield 20, 3) ∧ 84 + 3 = 87 := ⟨by decide +kernel, rfl⟩
theorem dX0_at_87 : decode cX0_at 87 = .ok (.aload_n 0, 1) ∧ 87 + 1 = 88 := ⟨by decide +kernel, rfl⟩
theorem dX0_at_88 : decode cX0_at 88 = .ok (.getfield 7, 3) ∧ 88 + 3 = 91 := ⟨by decide +kernel, rfl⟩
theorem dX0_at_91 : decode cX0_at 91 = .ok (.iload_n 3, 1) ∧ 91 + 1 = 92 := ⟨by decide +kernel, rfl⟩
theorem dX0_at_92 : decode cX0_at 92 = .ok (.saload, 1) ∧ 92 + 1 = 93 := ⟨by decide +kernel, rfl⟩
theorem dX0_at_93 : decode cX0_at 93 = .ok (.baload, 1) ∧ 93 + 1 = 94 := ⟨by decide +kernel, rfl⟩
theorem dX0_at_94 : decode cX0_at 94 = .ok (.iconst 1, 1) ∧ 94 + 1 = 95 := ⟨by decide +kernel, rfl⟩
theorem dX0_at_95 : decode cX0_at 95 = .ok (.iadd, 1) ∧ 95 + 1 = 96 := ⟨by decide +kernel, rfl⟩
theorem dX0_at_96 : decode cX0_at 96 = .ok (.isub, 1) ∧ 96 + 1 = 97 := ⟨by decide +kernel, rfl⟩
theorem dX0_at_97 : decode cX0_at 97 = .ok (.istore 4, 2) ∧ 97 + 2 = 99 := ⟨by decide +kernel, rfl⟩
theorem dX0_at_99 : decode cX0_at 99 = .ok (.aload_n 0, 1) ∧ 99 + 1 = 100 := ⟨by decide +kernel, rfl⟩
theorem dX0_at_100 : decode cX0_at 100 = .ok (.getfield 13, 3) ∧ 100 + 3 = 103 := ⟨by decide +kernel, rfl⟩
theorem dX0_at_103 : decode cX0_at 103 = .ok (.iload_n 3, 1) ∧ 103 + 1 = 104 := ⟨by decide +kernel, rfl⟩
theorem dX0_at_104 : decode cX0_at 104 = .ok (.saload, 1) ∧ 104 + 1 = 105 := ⟨by decide +kernel, rfl⟩
theorem dX0_at_105 : decode cX0_at 105 = .ok (.istore_n 3, 1) ∧ 105 + 1 = 106 := ⟨by decide +kernel, rfl⟩
theorem dX0_at_106 : decode cX0_at 106 = .ok (.goto (-67), 3) ∧ 106 + 3 = 109 ∧ ((106 : Nat) : Int) + (-67) = ((39 : Nat) : Int) := ⟨by decide +kernel, rfl, by decide⟩
theorem dX0_at_109 : decode cX0_at 109 = .ok (.aload_n 0, 1) ∧ 109 + 1 = 110 := ⟨by decide +kernel, rfl⟩
theorem dX0_at_110 : decode cX0_at 110 = .ok (.getfield 16, 3) ∧ 110 + 3 = 113 := ⟨by decide +kernel, rfl⟩
theorem dX0_at_113 : decode cX0_at 113 = .ok (.iload_n 3, 1) ∧ 113 + 1 = 114 := ⟨by decide +kernel, rfl⟩
theorem dX0_at_114 : decode cX0_at 114 = .ok (.iaload, 1) ∧ 114 + 1 = 115 := ⟨by decide +kernel, rfl⟩
theorem dX0_at_115 : decode cX0_at 115 = .ok (.ireturn, 1) ∧ 115 + 1 = 116 := ⟨by decide +kernel, rfl⟩
theorem dX0_rank_0 : decode cX0_rank 0 = .ok (.aload_n 0, 1) ∧ 0 + 1 = 1 := ⟨by decide +kernel, rfl⟩
theorem dX0_rank_1 : decode cX0_rank 1 = .ok (.iload_n 1, 1) ∧ 1 + 1 = 2 := ⟨by decide +kernel, rfl⟩
theorem dX0_rank_2 : decode cX0_rank 2 = .ok (.invokevirtual 56, 3) ∧ 2 + 3 = 5 := ⟨by decide +kernel, rfl⟩
theorem dX0_rank_5 : decode cX0_rank 5 = .ok (.ifCond .ne 5, 3) ∧ 5 + 3 = 8 ∧ ((5 : Nat) : Int) + (5) = ((10 : Nat) : Int) := ⟨by decide +kernel, rfl, by decide⟩
theorem dX0_rank_8 : decode cX0_rank 8 = .ok (.iconst (-1), 1) ∧ 8 + 1 = 9 := ⟨by decide +kernel, rfl⟩
theorem dX0_rank_9 : decode cX0_rank 9 = .ok (.ireturn, 1) ∧ 9 + 1 = 10 := ⟨by decide +kernel, rfl⟩
theorem dX0_rank_10 : decode cX0_rank 10 = .ok (.aload_n 0, 1) ∧ 10 + 1 = 11 := ⟨by decide +kernel, rfl⟩
theorem dX0_rank_11 : decode cX0_rank 11 = .ok (.getfield 24, 3) ∧ 11 + 3 = 14 := ⟨by decide +kernel, rfl⟩
theorem dX0_rank_14 : decode cX0_rank 14 = .ok (.iload_n 1, 1) ∧ 14 + 1 = 15 := ⟨by decide +kernel, rfl⟩
theorem dX0_rank_15 : decode cX0_rank 15 = .ok (.saload, 1) ∧ 15 + 1 = 16 := ⟨by decide +kernel, rfl⟩
theorem dX0_rank_16 : decode cX0_rank 16 = .ok (.istore_n 3, 1) ∧ 16 + 1 = 17 := ⟨by decide +kernel, rfl⟩
theorem dX0_rank_17 : decode cX0_rank 17 = .ok (.iconst 0, 1) ∧ 17 + 1 = 18 := ⟨by decide +kernel, rfl⟩
theorem dX0_rank_18 : decode cX0_rank 18 = .ok (.istore 4, 2) ∧ 18 + 2 = 20 := ⟨by decide +kernel, rfl⟩
theorem dX0_rank_20 : decode cX0_rank 20 = .ok (.iload_n 3, 1) ∧ 20 + 1 = 21 := ⟨by decide +kernel, rfl⟩
theorem dX0_rank_21 : decode cX0_rank 21 = .ok (.ifCond .eq 51, 3) ∧ 21 + 3 = 24 ∧ ((21 : Nat) : Int) + (51) = ((72 : Nat) : Int) := ⟨by decide +kernel, rfl, by decide⟩
theorem dX0_rank_24 : decode cX0_rank 24 = .ok (.aload_n 0, 1) ∧ 24 + 1 = 25 := ⟨by decide +kernel, rfl⟩
theorem dX0_rank_25 : decode cX0_rank 25 = .ok (.getfield 16, 3) ∧ 25 + 3 = 28 := ⟨by decide +kernel, rfl⟩
theorem dX0_rank_28 : decode cX0_rank 28 = .ok (.iload_n 3, 1) ∧ 28 + 1 = 29 := ⟨by decide +kernel, rfl⟩
theorem dX0_rank_29 : decode cX0_rank 29 = .ok (.iaload, 1) ∧ 29 + 1 = 30 := ⟨by decide +kernel, rfl⟩
theorem dX0_rank_30 : decode cX0_rank 30 = .ok (.iload_n 2, 1) ∧ 30 + 1 = 31 := ⟨by decide +kernel, rfl⟩
theorem dX0_rank_31 : decode cX0_rank 31 = .ok (.if_icmp .ge 31, 3) ∧ 31 + 3 = 34 ∧ ((31 : Nat) : Int) + (31) = ((62 : Nat) : Int) := ⟨by decide +kernel, rfl, by decide⟩
theorem dX0_rank_34 : decode cX0_rank 34 = .ok (.iload 4, 2) ∧ 34 + 2 = 36 := ⟨by decide +kernel, rfl⟩
theorem dX0_rank_36 : decode cX0_rank 36 = .ok (.aload_n 0, 1) ∧ 36 + 1 = 37 := ⟨by decide +kernel, rfl⟩
theorem dX0_rank_37 : decode cX0_rank 37 = .ok (.getfield 20, 3) ∧ 37 + 3 = 40 := ⟨by decide +kernel, rfl⟩
theorem dX0_rank_40 : decode cX0_rank 40 = .ok (.aload_n 0, 1) ∧ 40 + 1 = 41 := ⟨by decide +kernel, rfl⟩
theorem dX0_rank_41 : decode cX0_rank 41 = .ok (.getfield 7, 3) ∧ 41 + 3 = 44 := ⟨by decide +kernel, rfl⟩
theorem dX0_rank_44 : decode cX0_rank 44 = .ok (.iload_n 3, 1) ∧ 44 + 1 = 45 := ⟨by decide +kernel, rfl⟩
theorem dX0_rank_45 : decode cX0_rank 45 = .ok (.saload, 1) ∧ 45 + 1 = 46 := ⟨by decide +kernel, rfl⟩
theorem dX0_rank_46 : decode cX0_rank 46 = .ok (.baload, 1) ∧ 46 + 1 = 47 := ⟨by decide +kernel, rfl⟩
theorem dX0_rank_47 : decode cX0_rank 47 = .ok (.iconst 1, 1) ∧ 47 + 1 = 48 := ⟨by decide +kernel, rfl⟩
theorem dX0_rank_48 : decode cX0_rank 48 = .ok (.iadd, 1) ∧ 48 + 1 = 49 := ⟨by decide +kernel, rfl⟩
theorem dX0_rank_49 : decode cX0_rank 49 = .ok (.iadd, 1) ∧ 49 + 1 = 50 := ⟨by decide +kernel, rfl⟩
theorem dX0_rank_50 : decode cX0_rank 50 = .ok (.istore 4, 2) ∧ 50 + 2 = 52 := ⟨by decide +kernel, rfl⟩
theorem dX0_rank_52 : decode cX0_rank 52 = .ok (.aload_n 0, 1) ∧ 52 + 1 = 53 := ⟨by decide +kernel, rfl⟩
theorem dX0_rank_53 : decode cX0_rank 53 = .ok (.getfield 13, 3) ∧ 53 + 3 = 56 := ⟨by decide +kernel, rfl⟩
theorem dX0_rank_56 : decode cX0_rank 56 = .ok (.iload_n 3, 1) ∧ 56 + 1 = 57 := ⟨by decide +kernel, rfl⟩
theorem dX0_rank_57 : decode cX0_rank 57 = .ok (.saload, 1) ∧ 57 + 1 = 58 := ⟨by decide +kernel, rfl⟩
theorem dX0_rank_58 : decode cX0_rank 58 = .ok (.istore_n 3, 1) ∧ 58 + 1 = 59 := ⟨by decide +kernel, rfl⟩
theorem dX0_rank_59 : decode cX0_rank 59 = .ok (.goto (-39), 3) ∧ 59 + 3 = 62 ∧ ((59 : Nat) : Int) + (-39) = ((20 : Nat) : Int) := ⟨by decide +kernel, rfl, by decide⟩
theorem dX0_rank_62 : decode cX0_rank 62 = .ok (.aload_n 0, 1) ∧ 62 + 1 = 63 := ⟨by decide +kernel, rfl⟩
theorem dX0_rank_63 : decode cX0_rank 63 = .ok (.getfield 7, 3) ∧ 63 + 3 = 66 := ⟨by decide +kernel, rfl⟩
theorem dX0_rank_66 : decode cX0_rank 66 = .ok (.iload_n 3, 1) ∧ 66 + 1 = 67 := ⟨by decide +kernel, rfl⟩
theorem dX0_rank_67 : decode cX0_rank 67 = .ok (.saload, 1) ∧ 67 + 1 = 68 := ⟨by decide +kernel, rfl⟩
theorem dX0_rank_68 : decode cX0_rank 68 = .ok (.istore_n 3, 1) ∧ 68 + 1 = 69 := ⟨by decide +kernel, rfl⟩
theorem dX0_rank_69 : decode cX0_rank 69 = .ok (.goto (-49), 3) ∧ 69 + 3 = 72 ∧ ((69 : Nat) : Int) + (-49) = ((20 : Nat) : Int) := ⟨by decide +kernel, rfl, by decide⟩
theorem dX0_rank_72 : decode cX0_rank 72 = .ok (.iload 4, 2) ∧ 72 + 2 = 74 := ⟨by decide +kernel, rfl⟩
theorem dX0_rank_74 : decode cX0_rank 74 = .ok (.ireturn, 1) ∧ 74 + 1 = 75 := ⟨by decide +kernel, rfl⟩
theorem dX0_combine_0 : decode cX0_combine 0 = .ok (.iload_n 1, 1) ∧ 0 + 1 = 1 := ⟨by decide +kernel, rfl⟩
theorem dX0_combine_1 : decode cX0_combine 1 = .ok (.ifCond .lt 33, 3) ∧ 1 + 3 = 4 ∧ ((1 : Nat) : Int) + (33) = ((34 : Nat) : Int) := ⟨by decide +kernel, rfl, by decide⟩
theorem dX0_combine_4 : decode cX0_combine 4 = .ok (.iload_n 1, 1) ∧ 4 + 1 = 5 := ⟨by decide +kernel, rfl⟩
theorem dX0_combine_5 : decode cX0_combine 5 = .ok (.iconst 3, 1) ∧ 5 + 1 = 6 := ⟨by decide +kernel, rfl⟩
theorem dX0_combine_6 : decode cX0_combine 6 = .ok (.if_icmp .gt 28, 3) ∧ 6 + 3 = 9 ∧ ((6 : Nat) : Int) + (28) = ((34 : Nat) : Int) := ⟨by decide +kernel, rfl, by decide⟩
theorem dX0_combine_9 : decode cX0_combine 9 = .ok (.aload_n 0, 1) ∧ 9 + 1 = 10 := ⟨by decide +kernel, rfl⟩
theorem dX0_combine_10 : decode cX0_combine 10 = .ok (.iload_n 2, 1) ∧ 10 + 1 = 11 := ⟨by decide +kernel, rfl⟩
theorem dX0_combine_11 : decode cX0_combine 11 = .ok (.invokevirtual 56, 3) ∧ 11 + 3 = 14 := ⟨by decide +kernel, rfl⟩
theorem dX0_combine_14 : decode cX0_combine 14 = .ok (.ifCond .eq 20, 3) ∧ 14 + 3 = 17 ∧ ((14 : Nat) : Int) + (20) = ((34 : Nat) : Int) := ⟨by decide +kernel, rfl, by decide⟩
theorem dX0_combine_17 : decode cX0_combine 17 = .ok (.aload_n 0, 1) ∧ 17 + 1 = 18 := ⟨by decide +kernel, rfl⟩
theorem dX0_combine_18 : decode cX0_combine 18 = .ok (.iload_n 3, 1) ∧ 18 + 1 = 19 := ⟨by decide +kernel, rfl⟩
theorem dX0_combine_19 : decode cX0_combine 19 = .ok (.invokevirtual 56, 3) ∧ 19 + 3 = 22 := ⟨by decide +kernel, rfl⟩
theorem dX0_combine_22 : decode cX0_combine 22 = .ok (.ifCond .eq 12, 3) ∧ 22 + 3 = 25 ∧ ((22 : Nat) : Int) + (12) = ((34 : Nat) : Int) := ⟨by decide +kernel, rfl, by decide⟩
end
section
set_option maxRecDepth 100000
theorem dX0_combine_25 : decode cX0_combine 25 = .ok (.aload_n 0, 1) ∧ 25 + 1 = 26 := ⟨by decide +kernel, rfl⟩
theorem dX0_combine_26 : decode cX0_combine 26 = .ok (.iload 4, 2) ∧ 26 + 2 = 28 := ⟨by decide +kernel, rfl⟩
theorem dX0_combine_28 : decode cX0_combine 28 = .ok (.invokevirtual 56, 3) ∧ 28 + 3 = 31 := ⟨by decide +kernel, rfl⟩
theorem dX0_combine_31 : decode cX0_combine 31 = .ok (.ifCond .ne 5, 3) ∧ 31 + 3 = 34 ∧ ((31 : Nat) : Int) + (5) = ((36 : Nat) : Int) := ⟨by decide +kernel, rfl, by decide⟩
theorem dX0_combine_34 : decode cX0_combine 34 = .ok (.iconst (-1), 1) ∧ 34 + 1 = 35 := ⟨by decide +kernel, rfl⟩
theorem dX0_combine_35 : decode cX0_combine 35 = .ok (.ireturn, 1) ∧ 35 + 1 = 36 := ⟨by decide +kernel, rfl⟩
theorem dX0_combine_36 : decode cX0_combine 36 = .ok (.aload_n 0, 1) ∧ 36 + 1 = 37 := ⟨by decide +kernel, rfl⟩
theorem dX0_combine_37 : decode cX0_combine 37 = .ok (.aload_n 0, 1) ∧ 37 + 1 = 38 := ⟨by decide +kernel, rfl⟩
theorem dX0_combine_38 : decode cX0_combine 38 = .ok (.getfield 24, 3) ∧ 38 + 3 = 41 := ⟨by decide +kernel, rfl⟩
theorem dX0_combine_41 : decode cX0_combine 41 = .ok (.iload_n 3, 1) ∧ 41 + 1 = 42 := ⟨by decide +kernel, rfl⟩
theorem dX0_combine_42 : decode cX0_combine 42 = .ok (.saload, 1) ∧ 42 + 1 = 43 := ⟨by decide +kernel, rfl⟩
theorem dX0_combine_43 : decode cX0_combine 43 = .ok (.invokevirtual 93, 3) ∧ 43 + 3 = 46 := ⟨by decide +kernel, rfl⟩
theorem dX0_combine_46 : decode cX0_combine 46 = .ok (.istore 5, 2) ∧ 46 + 2 = 48 := ⟨by decide +kernel, rfl⟩
theorem dX0_combine_48 : decode cX0_combine 48 = .ok (.aload_n 0, 1) ∧ 48 + 1 = 49 := ⟨by decide +kernel, rfl⟩
theorem dX0_combine_49 : decode cX0_combine 49 = .ok (.aload_n 0, 1) ∧ 49 + 1 = 50 := ⟨by decide +kernel, rfl⟩
theorem dX0_combine_50 : decode cX0_combine 50 = .ok (.getfield 24, 3) ∧ 50 + 3 = 53 := ⟨by decide +kernel, rfl⟩
theorem dX0_combine_53 : decode cX0_combine 53 = .ok (.iload 4, 2) ∧ 53 + 2 = 55 := ⟨by decide +kernel, rfl⟩
theorem dX0_combine_55 : decode cX0_combine 55 = .ok (.saload, 1) ∧ 55 + 1 = 56 := ⟨by decide +kernel, rfl⟩
theorem dX0_combine_56 : decode cX0_combine 56 = .ok (.invokevirtual 93, 3) ∧ 56 + 3 = 59 := ⟨by decide +kernel, rfl⟩
theorem dX0_combine_59 : decode cX0_combine 59 = .ok (.istore 6, 2) ∧ 59 + 2 = 61 := ⟨by decide +kernel, rfl⟩
theorem dX0_combine_61 : decode cX0_combine 61 = .ok (.iload_n 1, 1) ∧ 61 + 1 = 62 := ⟨by decide +kernel, rfl⟩
theorem dX0_combine_62 : decode cX0_combine 62 = .ok (.iconst 3, 1) ∧ 62 + 1 = 63 := ⟨by decide +kernel, rfl⟩
theorem dX0_combine_63 : decode cX0_combine 63 = .ok (.if_icmp .ne 17, 3) ∧ 63 + 3 = 66 ∧ ((63 : Nat) : Int) + (17) = ((80 : Nat) : Int) := ⟨by decide +kernel, rfl, by decide⟩
theorem dX0_combine_66 : decode cX0_combine 66 = .ok (.aload_n 0, 1) ∧ 66 + 1 = 67 := ⟨by decide +kernel, rfl⟩
theorem dX0_combine_67 : decode cX0_combine 67 = .ok (.iload_n 3, 1) ∧ 67 + 1 = 68 := ⟨by decide +kernel, rfl⟩
theorem dX0_combine_68 : decode cX0_combine 68 = .ok (.iload 4, 2) ∧ 68 + 2 = 70 := ⟨by decide +kernel, rfl⟩
theorem dX0_combine_70 : decode cX0_combine 70 = .ok (.iload 5, 2) ∧ 70 + 2 = 72 := ⟨by decide +kernel, rfl⟩
theorem dX0_combine_72 : decode cX0_combine 72 = .ok (.iload 6, 2) ∧ 72 + 2 = 74 := ⟨by decide +kernel, rfl⟩
theorem dX0_combine_74 : decode cX0_combine 74 = .ok (.invokevirtual 96, 3) ∧ 74 + 3 = 77 := ⟨by decide +kernel, rfl⟩
theorem dX0_combine_77 : decode cX0_combine 77 = .ok (.goto 12, 3) ∧ 77 + 3 = 80 ∧ ((77 : Nat) : Int) + (12) = ((89 : Nat) : Int) := ⟨by decide +kernel, rfl, by decide⟩
theorem dX0_combine_80 : decode cX0_combine 80 = .ok (.aload_n 0, 1) ∧ 80 + 1 = 81 := ⟨by decide +kernel, rfl⟩
theorem dX0_combine_81 : decode cX0_combine 81 = .ok (.iload_n 1, 1) ∧ 81 + 1 = 82 := ⟨by decide +kernel, rfl⟩
theorem dX0_combine_82 : decode cX0_combine 82 = .ok (.iload 5, 2) ∧ 82 + 2 = 84 := ⟨by decide +kernel, rfl⟩
theorem dX0_combine_84 : decode cX0_combine 84 = .ok (.iload 6, 2) ∧ 84 + 2 = 86 := ⟨by decide +kernel, rfl⟩
theorem dX0_combine_86 : decode cX0_combine 86 = .ok (.invokevirtual 100, 3) ∧ 86 + 3 = 89 := ⟨by decide +kernel, rfl⟩
theorem dX0_combine_89 : decode cX0_combine 89 = .ok (.istore 7, 2) ∧ 89 + 2 = 91 := ⟨by decide +kernel, rfl⟩
theorem dX0_combine_91 : decode cX0_combine 91 = .ok (.aload_n 0, 1) ∧ 91 + 1 = 92 := ⟨by decide +kernel, rfl⟩
theorem dX0_combine_92 : decode cX0_combine 92 = .ok (.getfield 20, 3) ∧ 92 + 3 = 95 := ⟨by decide +kernel, rfl⟩
theorem dX0_combine_95 : decode cX0_combine 95 = .ok (.iload 7, 2) ∧ 95 + 2 = 97 := ⟨by decide +kernel, rfl⟩
theorem dX0_combine_97 : decode cX0_combine 97 = .ok (.baload, 1) ∧ 97 + 1 = 98 := ⟨by decide +kernel, rfl⟩
theorem dX0_combine_98 : decode cX0_combine 98 = .ok (.bipush 20, 2) ∧ 98 + 2 = 100 := ⟨by decide +kernel, rfl⟩
theorem dX0_combine_100 : decode cX0_combine 100 = .ok (.if_icmp .le 12, 3) ∧ 100 + 3 = 103 ∧ ((100 : Nat) : Int) + (12) = ((112 : Nat) : Int) := ⟨by decide +kernel, rfl, by decide⟩
theorem dX0_combine_103 : decode cX0_combine 103 = .ok (.aload_n 0, 1) ∧ 103 + 1 = 104 := ⟨by decide +kernel, rfl⟩
theorem dX0_combine_104 : decode cX0_combine 104 = .ok (.iload 7, 2) ∧ 104 + 2 = 106 := ⟨by decide +kernel, rfl⟩
theorem dX0_combine_106 : decode cX0_combine 106 = .ok (.invokevirtual 103, 3) ∧ 106 + 3 = 109 := ⟨by decide +kernel, rfl⟩
theorem dX0_combine_109 : decode cX0_combine 109 = .ok (.bipush (-2), 2) ∧ 109 + 2 = 111 := ⟨by decide +kernel, rfl⟩
theorem dX0_combine_111 : decode cX0_combine 111 = .ok (.ireturn, 1) ∧ 111 + 1 = 112 := ⟨by decide +kernel, rfl⟩
theorem dX0_combine_112 : decode cX0_combine 112 = .ok (.aload_n 0, 1) ∧ 112 + 1 = 113 := ⟨by decide +kernel, rfl⟩
theorem dX0_combine_113 : decode cX0_combine 113 = .ok (.aload_n 0, 1) ∧ 113 + 1 = 114 := ⟨by decide +kernel, rfl⟩
theorem dX0_combine_114 : decode cX0_combine 114 = .ok (.getfield 24, 3) ∧ 114 + 3 = 117 := ⟨by decide +kernel, rfl⟩
theorem dX0_combine_117 : decode cX0_combine 117 = .ok (.iload_n 2, 1) ∧ 117 + 1 = 118 := ⟨by decide +kernel, rfl⟩
theorem dX0_combine_118 : decode cX0_combine 118 = .ok (.saload, 1) ∧ 118 + 1 = 119 := ⟨by decide +kernel, rfl⟩
theorem dX0_combine_119 : decode cX0_combine 119 = .ok (.invokevirtual 103, 3) ∧ 119 + 3 = 122 := ⟨by decide +kernel, rfl⟩
theorem dX0_combine_122 : decode cX0_combine 122 = .ok (.aload_n 0, 1) ∧ 122 + 1 = 123 := ⟨by decide +kernel, rfl⟩
theorem dX0_combine_123 : decode cX0_combine 123 = .ok (.getfield 24, 3) ∧ 123 + 3 = 126 := ⟨by decide +kernel, rfl⟩
theorem dX0_combine_126 : decode cX0_combine 126 = .ok (.iload_n 2, 1) ∧ 126 + 1 = 127 := ⟨by decide +kernel, rfl⟩
theorem dX0_combine_127 : decode cX0_combine 127 = .ok (.iload 7, 2) ∧ 127 + 2 = 129 := ⟨by decide +kernel, rfl⟩
theorem dX0_combine_129 : decode cX0_combine 129 = .ok (.i2s, 1) ∧ 129 + 1 = 130 := ⟨by decide +kernel, rfl⟩
theorem dX0_combine_130 : decode cX0_combine 130 = .ok (.sastore, 1) ∧ 130 + 1 = 131 := ⟨by decide +kernel, rfl⟩
theorem dX0_combine_131 : decode cX0_combine 131 = .ok (.aload_n 0, 1) ∧ 131 + 1 = 132 := ⟨by decide +kernel, rfl⟩
theorem dX0_combine_132 : decode cX0_combine 132 = .ok (.getfield 20, 3) ∧ 132 + 3 = 135 := ⟨by decide +kernel, rfl⟩
theorem dX0_combine_135 : decode cX0_combine 135 = .ok (.iload 7, 2) ∧ 135 + 2 = 137 := ⟨by decide +kernel, rfl⟩
theorem dX0_combine_137 : decode cX0_combine 137 = .ok (.baload, 1) ∧ 137 + 1 = 138 := ⟨by decide +kernel, rfl⟩
theorem dX0_combine_138 : decode cX0_combine 138 = .ok (.ireturn, 1) ∧ 138 + 1 = 139 := ⟨by decide +kernel, rfl⟩
theorem dX0_copyOf_0 : decode cX0_copyOf 0 = .ok (.iload_n 1, 1) ∧ 0 + 1 = 1 := ⟨by decide +kernel, rfl⟩
theorem dX0_copyOf_1 : decode cX0_copyOf 1 = .ok (.ifCond .ne 5, 3) ∧ 1 + 3 = 4 ∧ ((1 : Nat) : Int) + (5) = ((6 : Nat) : Int) := ⟨by decide +kernel, rfl, by decide⟩
theorem dX0_copyOf_4 : decode cX0_copyOf 4 = .ok (.iconst 0, 1) ∧ 4 + 1 = 5 := ⟨by decide +kernel, rfl⟩
theorem dX0_copyOf_5 : decode cX0_copyOf 5 = .ok (.ireturn, 1) ∧ 5 + 1 = 6 := ⟨by decide +kernel, rfl⟩
theorem dX0_copyOf_6 : decode cX0_copyOf 6 = .ok (.aload_n 0, 1) ∧ 6 + 1 = 7 := ⟨by decide +kernel, rfl⟩
theorem dX0_copyOf_7 : decode cX0_copyOf 7 = .ok (.iload_n 1, 1) ∧ 7 + 1 = 8 := ⟨by decide +kernel, rfl⟩
theorem dX0_copyOf_8 : decode cX0_copyOf 8 = .ok (.invokevirtual 119, 3) ∧ 8 + 3 = 11 := ⟨by decide +kernel, rfl⟩
theorem dX0_copyOf_11 : decode cX0_copyOf 11 = .ok (.istore_n 2, 1) ∧ 11 + 1 = 12 := ⟨by decide +kernel, rfl⟩
theorem dX0_copyOf_12 : decode cX0_copyOf 12 = .ok (.aload_n 0, 1) ∧ 12 + 1 = 13 := ⟨by decide +kernel, rfl⟩
theorem dX0_copyOf_13 : decode cX0_copyOf 13 = .ok (.iconst 0, 1) ∧ 13 + 1 = 14 := ⟨by decide +kernel, rfl⟩
theorem dX0_copyOf_14 : decode cX0_copyOf 14 = .ok (.putfield 112, 3) ∧ 14 + 3 = 17 := ⟨by decide +kernel, rfl⟩
theorem dX0_copyOf_17 : decode cX0_copyOf 17 = .ok (.aload_n 0, 1) ∧ 17 + 1 = 18 := ⟨by decide +kernel, rfl⟩
theorem dX0_copyOf_18 : decode cX0_copyOf 18 = .ok (.iload_n 2, 1) ∧ 18 + 1 = 19 := ⟨by decide +kernel, rfl⟩
theorem dX0_copyOf_19 : decode cX0_copyOf 19 = .ok (.iconst 0, 1) ∧ 19 + 1 = 20 := ⟨by decide +kernel, rfl⟩
theorem dX0_copyOf_20 : decode cX0_copyOf 20 = .ok (.invokevirtual 115, 3) ∧ 20 + 3 = 23 := ⟨by decide +kernel, rfl⟩
theorem dX0_copyOf_23 : decode cX0_copyOf 23 = .ok (.aload_n 0, 1) ∧ 23 + 1 = 24 := ⟨by decide +kernel, rfl⟩
theorem dX0_copyOf_24 : decode cX0_copyOf 24 = .ok (.getfield 112, 3) ∧ 24 + 3 = 27 := ⟨by decide +kernel, rfl⟩
theorem dX0_copyOf_27 : decode cX0_copyOf 27 = .ok (.ifCond .le 100, 3) ∧ 27 + 3 = 30 ∧ ((27 : Nat) : Int) + (100) = ((127 : Nat) : Int) := ⟨by decide +kernel, rfl, by decide⟩
theorem dX0_copyOf_30 : decode cX0_copyOf 30 = .ok (.aload_n 0, 1) ∧ 30 + 1 = 31 := ⟨by decide +kernel, rfl⟩
theorem dX0_copyOf_31 : decode cX0_copyOf 31 = .ok (.dup, 1) ∧ 31 + 1 = 32 := ⟨by decide +kernel, rfl⟩
theorem dX0_copyOf_32 : decode cX0_copyOf 32 = .ok (.getfield 112, 3) ∧ 32 + 3 = 35 := ⟨by decide +kernel, rfl⟩
theorem dX0_copyOf_35 : decode cX0_copyOf 35 = .ok (.iconst 1, 1) ∧ 35 + 1 = 36 := ⟨by decide +kernel, rfl⟩
theorem dX0_copyOf_36 : decode cX0_copyOf 36 = .ok (.isub, 1) ∧ 36 + 1 = 37 := ⟨by decide +kernel, rfl⟩
theorem dX0_copyOf_37 : decode cX0_copyOf 37 = .ok (.putfield 112, 3) ∧ 37 + 3 = 40 := ⟨by decide +kernel, rfl⟩
theorem dX0_copyOf_40 : decode cX0_copyOf 40 = .ok (.aload_n 0, 1) ∧ 40 + 1 = 41 := ⟨by decide +kernel, rfl⟩
theorem dX0_copyOf_41 : decode cX0_copyOf 41 = .ok (.getfield 30, 3) ∧ 41 + 3 = 44 := ⟨by decide +kernel, rfl⟩
theorem dX0_copyOf_44 : decode cX0_copyOf 44 = .ok (.aload_n 0, 1) ∧ 44 + 1 = 45 := ⟨by decide +kernel, rfl⟩
theorem dX0_copyOf_45 : decode cX0_copyOf 45 = .ok (.getfield 112, 3) ∧ 45 + 3 = 48 := ⟨by decide +kernel, rfl⟩
theorem dX0_copyOf_48 : decode cX0_copyOf 48 = .ok (.saload, 1) ∧ 48 + 1 = 49 := ⟨by decide +kernel, rfl⟩
theorem dX0_copyOf_49 : decode cX0_copyOf 49 = .ok (.istore_n 3, 1) ∧ 49 + 1 = 50 := ⟨by decide +kernel, rfl⟩
theorem dX0_copyOf_50 : decode cX0_copyOf 50 = .ok (.aload_n 0, 1) ∧ 50 + 1 = 51 := ⟨by decide +kernel, rfl⟩
theorem dX0_copyOf_51 : decode cX0_copyOf 51 = .ok (.getfield 7, 3) ∧ 51 + 3 = 54 := ⟨by decide +kernel, rfl⟩
theorem dX0_copyOf_54 : decode cX0_copyOf 54 = .ok (.iload_n 3, 1) ∧ 54 + 1 = 55 := ⟨by decide +kernel, rfl⟩
theorem dX0_copyOf_55 : decode cX0_copyOf 55 = .ok (.saload, 1) ∧ 55 + 1 = 56 := ⟨by decide +kernel, rfl⟩
theorem dX0_copyOf_56 : decode cX0_copyOf 56 = .ok (.ifCond .eq 31, 3) ∧ 56 + 3 = 59 ∧ ((56 : Nat) : Int) + (31) = ((87 : Nat) : Int) := ⟨by decide +kernel, rfl, by decide⟩
theorem dX0_copyOf_59 : decode cX0_copyOf 59 = .ok (.aload_n 0, 1) ∧ 59 + 1 = 60 := ⟨by decide +kernel, rfl⟩
theorem dX0_copyOf_60 : decode cX0_copyOf 60 = .ok (.getfield 7, 3) ∧ 60 + 3 = 63 := ⟨by decide +kernel, rfl⟩
theorem dX0_copyOf_63 : decode cX0_copyOf 63 = .ok (.iload_n 3, 1) ∧ 63 + 1 = 64 := ⟨by decide +kernel, rfl⟩
theorem dX0_copyOf_64 : decode cX0_copyOf 64 = .ok (.aload_n 0, 1) ∧ 64 + 1 = 65 := ⟨by decide +kernel, rfl⟩
theorem dX0_copyOf_65 : decode cX0_copyOf 65 = .ok (.aload_n 0, 1) ∧ 65 + 1 = 66 := ⟨by decide +kernel, rfl⟩
theorem dX0_copyOf_66 : decode cX0_copyOf 66 = .ok (.getfield 7, 3) ∧ 66 + 3 = 69 := ⟨by decide +kernel, rfl⟩
theorem dX0_copyOf_69 : decode cX0_copyOf 69 = .ok (.iload_n 3, 1) ∧ 69 + 1 = 70 := ⟨by decide +kernel, rfl⟩
theorem dX0_copyOf_70 : decode cX0_copyOf 70 = .ok (.saload, 1) ∧ 70 + 1 = 71 := ⟨by decide +kernel, rfl⟩
theorem dX0_copyOf_71 : decode cX0_copyOf 71 = .ok (.invokevirtual 119, 3) ∧ 71 + 3 = 74 := ⟨by decide +kernel, rfl⟩
theorem dX0_copyOf_74 : decode cX0_copyOf 74 = .ok (.i2s, 1) ∧ 74 + 1 = 75 := ⟨by decide +kernel, rfl⟩
theorem dX0_copyOf_75 : decode cX0_copyOf 75 = .ok (.sastore, 1) ∧ 75 + 1 = 76 := ⟨by decide +kernel, rfl⟩
theorem dX0_copyOf_76 : decode cX0_copyOf 76 = .ok (.aload_n 0, 1) ∧ 76 + 1 = 77 := ⟨by decide +kernel, rfl⟩
theorem dX0_copyOf_77 : decode cX0_copyOf 77 = .ok (.aload_n 0, 1) ∧ 77 + 1 = 78 := ⟨by decide +kernel, rfl⟩
theorem dX0_copyOf_78 : decode cX0_copyOf 78 = .ok (.getfield 7, 3) ∧ 78 + 3 = 81 := ⟨by decide +kernel, rfl⟩
theorem dX0_copyOf_81 : decode cX0_copyOf 81 = .ok (.iload_n 3, 1) ∧ 81 + 1 = 82 := ⟨by decide +kernel, rfl⟩
theorem dX0_copyOf_82 : decode cX0_copyOf 82 = .ok (.saload, 1) ∧ 82 + 1 = 83 := ⟨by decide +kernel, rfl⟩
theorem dX0_copyOf_83 : decode cX0_copyOf 83 = .ok (.iconst 0, 1) ∧ 83 + 1 = 84 := ⟨by decide +kernel, rfl⟩
theorem dX0_copyOf_84 : decode cX0_copyOf 84 = .ok (.invokevirtual 115, 3) ∧ 84 + 3 = 87 := ⟨by decide +kernel, rfl⟩
theorem dX0_copyOf_87 : decode cX0_copyOf 87 = .ok (.aload_n 0, 1) ∧ 87 + 1 = 88 := ⟨by decide +kernel, rfl⟩
theorem dX0_copyOf_88 : decode cX0_copyOf 88 = .ok (.getfield 13, 3) ∧ 88 + 3 = 91 := ⟨by decide +kernel, rfl⟩
theorem dX0_copyOf_91 : decode cX0_copyOf 91 = .ok (.iload_n 3, 1) ∧ 91 + 1 = 92 := ⟨by decide +kernel, rfl⟩
theorem dX0_copyOf_92 : decode cX0_copyOf 92 = .ok (.saload, 1) ∧ 92 + 1 = 93 := ⟨by decide +kernel, rfl⟩
theorem dX0_copyOf_93 : decode cX0_copyOf 93 = .ok (.ifCond .eq 31, 3) ∧ 93 + 3 = 96 ∧ ((93 : Nat) : Int) + (31) = ((124 : Nat) : Int) := ⟨by decide +kernel, rfl, by decide⟩
theorem dX0_copyOf_96 : decode cX0_copyOf 96 = .ok (.aload_n 0, 1) ∧ 96 + 1 = 97 := ⟨by decide +kernel, rfl⟩
theorem dX0_copyOf_97 : decode cX0_copyOf 97 = .ok (.getfield 13, 3) ∧ 97 + 3 = 100 := ⟨by decide +kernel, rfl⟩
theorem dX0_copyOf_100 : decode cX0_copyOf 100 = .ok (.iload_n 3, 1) ∧ 100 + 1 = 101 := ⟨by decide +kernel, rfl⟩
theorem dX0_copyOf_101 : decode cX0_copyOf 101 = .ok (.aload_n 0, 1) ∧ 101 + 1 = 102 := ⟨by decide +kernel, rfl⟩
theorem dX0_copyOf_102 : decode cX0_copyOf 102 = .ok (.aload_n 0, 1) ∧ 102 + 1 = 103 := ⟨by decide +kernel, rfl⟩
theorem dX0_copyOf_103 : decode cX0_copyOf 103 = .ok (.getfield 13, 3) ∧ 103 + 3 = 106 := ⟨by decide +kernel, rfl⟩
theorem dX0_copyOf_106 : decode cX0_copyOf 106 = .ok (.iload_n 3, 1) ∧ 106 + 1 = 107 := ⟨by decide +kernel, rfl⟩
theorem dX0_copyOf_107 : decode cX0_copyOf 107 = .ok (.saload, 1) ∧ 107 + 1 = 108 := ⟨by decide +kernel, rfl⟩
theorem dX0_copyOf_108 : decode cX0_copyOf 108 = .ok (.invokevirtual 119, 3) ∧ 108 + 3 = 111 := ⟨by decide +kernel, rfl⟩
theorem dX0_copyOf_111 : decode cX0_copyOf 111 = .ok (.i2s, 1) ∧ 111 + 1 = 112 := ⟨by decide +kernel, rfl⟩
theorem dX0_copyOf_112 : decode cX0_copyOf 112 = .ok (.sastore, 1) ∧ 112 + 1 = 113 := ⟨by decide +kernel, rfl⟩
theorem dX0_copyOf_113 : decode cX0_copyOf 113 = .ok (.aload_n 0, 1) ∧ 113 + 1 = 114 := ⟨by decide +kernel, rfl⟩
theorem dX0_copyOf_114 : decode cX0_copyOf 114 = .ok (.aload_n 0, 1) ∧ 114 + 1 = 115 := ⟨by decide +kernel, rfl⟩
theorem dX0_copyOf_115 : decode cX0_copyOf 115 = .ok (.getfield 13, 3) ∧ 115 + 3 = 118 := ⟨by decide +kernel, rfl⟩
theorem dX0_copyOf_118 : decode cX0_copyOf 118 = .ok (.iload_n 3, 1) ∧ 118 + 1 = 119 := ⟨by decide +kernel, rfl⟩
theorem dX0_copyOf_119 : decode cX0_copyOf 119 = .ok (.saload, 1) ∧ 119 + 1 = 120 := ⟨by decide +kernel, rfl⟩
theorem dX0_copyOf_120 : decode cX0_copyOf 120 = .ok (.iconst 0, 1) ∧ 120 + 1 = 121 := ⟨by decide +kernel, rfl⟩
theorem dX0_copyOf_121 : decode cX0_copyOf 121 = .ok (.invokevirtual 115, 3) ∧ 121 + 3 = 124 := ⟨by decide +kernel, rfl⟩
theorem dX0_copyOf_124 : decode cX0_copyOf 124 = .ok (.goto (-101), 3) ∧ 124 + 3 = 127 ∧ ((124 : Nat) : Int) + (-101) = ((23 : Nat) : Int) := ⟨by decide +kernel, rfl, by decide⟩
theorem dX0_copyOf_127 : decode cX0_copyOf 127 = .ok (.iload_n 2, 1) ∧ 127 + 1 = 128 := ⟨by decide +kernel, rfl⟩
theorem dX0_copyOf_128 : decode cX0_copyOf 128 = .ok (.ireturn, 1) ∧ 128 + 1 = 129 := ⟨by decide +kernel, rfl⟩
theorem dX0_twin_0 : decode cX0_twin 0 = .ok (.aload_n 0, 1) ∧ 0 + 1 = 1 := ⟨by decide +kernel, rfl⟩
theorem dX0_twin_1 : decode cX0_twin 1 = .ok (.aload_n 0, 1) ∧ 1 + 1 = 2 := ⟨by decide +kernel, rfl⟩
theorem dX0_twin_2 : decode cX0_twin 2 = .ok (.getfield 16, 3) ∧ 2 + 3 = 5 := ⟨by decide +kernel, rfl⟩
theorem dX0_twin_5 : decode cX0_twin 5 = .ok (.iload_n 1, 1) ∧ 5 + 1 = 6 := ⟨by decide +kernel, rfl⟩
theorem dX0_twin_6 : decode cX0_twin 6 = .ok (.iaload, 1) ∧ 6 + 1 = 7 := ⟨by decide +kernel, rfl⟩
theorem dX0_twin_7 : decode cX0_twin 7 = .ok (.invokevirtual 71, 3) ∧ 7 + 3 = 10 := ⟨by decide +kernel, rfl⟩
theorem dX0_twin_10 : decode cX0_twin 10 = .ok (.istore_n 2, 1) ∧ 10 + 1 = 11 := ⟨by decide +kernel, rfl⟩
theorem dX0_twin_11 : decode cX0_twin 11 = .ok (.aload_n 0, 1) ∧ 11 + 1 = 12 := ⟨by decide +kernel, rfl⟩
theorem dX0_twin_12 : decode cX0_twin 12 = .ok (.getfield 7, 3) ∧ 12 + 3 = 15 := ⟨by decide +kernel, rfl⟩
theorem dX0_twin_15 : decode cX0_twin 15 = .ok (.iload_n 2, 1) ∧ 15 + 1 = 16 := ⟨by decide +kernel, rfl⟩
theorem dX0_twin_16 : decode cX0_twin 16 = .ok (.aload_n 0, 1) ∧ 16 + 1 = 17 := ⟨by decide +kernel, rfl⟩
theorem dX0_twin_17 : decode cX0_twin 17 = .ok (.getfield 7, 3) ∧ 17 + 3 = 20 := ⟨by decide +kernel, rfl⟩
theorem dX0_twin_20 : decode cX0_twin 20 = .ok (.iload_n 1, 1) ∧ 20 + 1 = 21 := ⟨by decide +kernel, rfl⟩
theorem dX0_twin_21 : decode cX0_twin 21 = .ok (.saload, 1) ∧ 21 + 1 = 22 := ⟨by decide +kernel, rfl⟩
theorem dX0_twin_22 : decode cX0_twin 22 = .ok (.sastore, 1) ∧ 22 + 1 = 23 := ⟨by decide +kernel, rfl⟩
theorem dX0_twin_23 : decode cX0_twin 23 = .ok (.aload_n 0, 1) ∧ 23 + 1 = 24 := ⟨by decide +kernel, rfl⟩
theorem dX0_twin_24 : decode cX0_twin 24 = .ok (.getfield 13, 3) ∧ 24 + 3 = 27 := ⟨by decide +kernel, rfl⟩
theorem dX0_twin_27 : decode cX0_twin 27 = .ok (.iload_n 2, 1) ∧ 27 + 1 = 28 := ⟨by decide +kernel, rfl⟩
theorem dX0_twin_28 : decode cX0_twin 28 = .ok (.aload_n 0, 1) ∧ 28 + 1 = 29 := ⟨by decide +kernel, rfl⟩
theorem dX0_twin_29 : decode cX0_twin 29 = .ok (.getfield 13, 3) ∧ 29 + 3 = 32 := ⟨by decide +kernel, rfl⟩
theorem dX0_twin_32 : decode cX0_twin 32 = .ok (.iload_n 1, 1) ∧ 32 + 1 = 33 := ⟨by decide +kernel, rfl⟩
theorem dX0_twin_33 : decode cX0_twin 33 = .ok (.saload, 1) ∧ 33 + 1 = 34 := ⟨by decide +kernel, rfl⟩
theorem dX0_twin_34 : decode cX0_twin 34 = .ok (.sastore, 1) ∧ 34 + 1 = 35 := ⟨by decide +kernel, rfl⟩
theorem dX0_twin_35 : decode cX0_twin 35 = .ok (.aload_n 0, 1) ∧ 35 + 1 = 36 := ⟨by decide +kernel, rfl⟩
theorem dX0_twin_36 : decode cX0_twin 36 = .ok (.getfield 20, 3) ∧ 36 + 3 = 39 := ⟨by decide +kernel, rfl⟩
theorem dX0_twin_39 : decode cX0_twin 39 = .ok (.iload_n 2, 1) ∧ 39 + 1 = 40 := ⟨by decide +kernel, rfl⟩
theorem dX0_twin_40 : decode cX0_twin 40 = .ok (.aload_n 0, 1) ∧ 40 + 1 = 41 := ⟨by decide +kernel, rfl⟩
theorem dX0_twin_41 : decode cX0_twin 41 = .ok (.getfield 20, 3) ∧ 41 + 3 = 44 := ⟨by decide +kernel, rfl⟩
theorem dX0_twin_44 : decode cX0_twin 44 = .ok (.iload_n 1, 1) ∧ 44 + 1 = 45 := ⟨by decide +kernel, rfl⟩
theorem dX0_twin_45 : decode cX0_twin 45 = .ok (.baload, 1) ∧ 45 + 1 = 46 := ⟨by decide +kernel, rfl⟩
theorem dX0_twin_46 : decode cX0_twin 46 = .ok (.bastore, 1) ∧ 46 + 1 = 47 := ⟨by decide +kernel, rfl⟩
theorem dX0_twin_47 : decode cX0_twin 47 = .ok (.iload_n 2, 1) ∧ 47 + 1 = 48 := ⟨by decide +kernel, rfl⟩
theorem dX0_twin_48 : decode cX0_twin 48 = .ok (.ireturn, 1) ∧ 48 + 1 = 49 := ⟨by decide +kernel, rfl⟩
theorem dX0_combinedEither_0 : decode cX0_combinedEither 0 = .ok (.aload_n 0, 1) ∧ 0 + 1 = 1 := ⟨by decide +kernel, rfl⟩
theorem dX0_combinedEither_1 : decode cX0_combinedEither 1 = .ok (.iconst 2, 1) ∧ 1 + 1 = 2 := ⟨by decide +kernel, rfl⟩
theorem dX0_combinedEither_2 : decode cX0_combinedEither 2 = .ok (.iload_n 3, 1) ∧ 2 + 1 = 3 := ⟨by decide +kernel, rfl⟩
theorem dX0_combinedEither_3 : decode cX0_combinedEither 3 = .ok (.iload 4, 2) ∧ 3 + 2 = 5 := ⟨by decide +kernel, rfl⟩
theorem dX0_combinedEither_5 : decode cX0_combinedEither 5 = .ok (.invokevirtual 100, 3) ∧ 5 + 3 = 8 := ⟨by decide +kernel, rfl⟩
theorem dX0_combinedEither_8 : decode cX0_combinedEither 8 = .ok (.istore 5, 2) ∧ 8 + 2 = 10 := ⟨by decide +kernel, rfl⟩
theorem dX0_combinedEither_10 : decode cX0_combinedEither 10 = .ok (.aload_n 0, 1) ∧ 10 + 1 = 11 := ⟨by decide +kernel, rfl⟩
theorem dX0_combinedEither_11 : decode cX0_combinedEither 11 = .ok (.aload_n 0, 1) ∧ 11 + 1 = 12 := ⟨by decide +kernel, rfl⟩
theorem dX0_combinedEither_12 : decode cX0_combinedEither 12 = .ok (.getfield 24, 3) ∧ 12 + 3 = 15 := ⟨by decide +kernel, rfl⟩
theorem dX0_combinedEither_15 : decode cX0_combinedEither 15 = .ok (.iload_n 1, 1) ∧ 15 + 1 = 16 := ⟨by decide +kernel, rfl⟩
theorem dX0_combinedEither_16 : decode cX0_combinedEither 16 = .ok (.saload, 1) ∧ 16 + 1 = 17 := ⟨by decide +kernel, rfl⟩
theorem dX0_combinedEither_17 : decode cX0_combinedEither 17 = .ok (.invokevirtual 93, 3) ∧ 17 + 3 = 20 := ⟨by decide +kernel, rfl⟩
theorem dX0_combinedEither_20 : decode cX0_combinedEither 20 = .ok (.istore 6, 2) ∧ 20 + 2 = 22 := ⟨by decide +kernel, rfl⟩
theorem dX0_combinedEither_22 : decode cX0_combinedEither 22 = .ok (.aload_n 0, 1) ∧ 22 + 1 = 23 := ⟨by decide +kernel, rfl⟩
theorem dX0_combinedEither_23 : decode cX0_combinedEither 23 = .ok (.aload_n 0, 1) ∧ 23 + 1 = 24 := ⟨by decide +kernel, rfl⟩
theorem dX0_combinedEither_24 : decode cX0_combinedEither 24 = .ok (.getfield 24, 3) ∧ 24 + 3 = 27 := ⟨by decide +kernel, rfl⟩
theorem dX0_combinedEither_27 : decode cX0_combinedEither 27 = .ok (.iload_n 2, 1) ∧ 27 + 1 = 28 := ⟨by decide +kernel, rfl⟩
theorem dX0_combinedEither_28 : decode cX0_combinedEither 28 = .ok (.saload, 1) ∧ 28 + 1 = 29 := ⟨by decide +kernel, rfl⟩
theorem dX0_combinedEither_29 : decode cX0_combinedEither 29 = .ok (.invokevirtual 93, 3) ∧ 29 + 3 = 32 := ⟨by decide +kernel, rfl⟩
theorem dX0_combinedEither_32 : decode cX0_combinedEither 32 = .ok (.istore 7, 2) ∧ 32 + 2 = 34 := ⟨by decide +kernel, rfl⟩
theorem dX0_combinedEither_34 : decode cX0_combinedEither 34 = .ok (.aload_n 0, 1) ∧ 34 + 1 = 35 := ⟨by decide +kernel, rfl⟩
theorem dX0_combinedEither_35 : decode cX0_combinedEither 35 = .ok (.iconst 2, 1) ∧ 35 + 1 = 36 := ⟨by decide +kernel, rfl⟩
theorem dX0_combinedEither_36 : decode cX0_combinedEither 36 = .ok (.iload 7, 2) ∧ 36 + 2 = 38 := ⟨by decide +kernel, rfl⟩
theorem dX0_combinedEither_38 : decode cX0_combinedEither 38 = .ok (.iload 6, 2) ∧ 38 + 2 = 40 := ⟨by decide +kernel, rfl⟩
theorem dX0_combinedEither_40 : decode cX0_combinedEither 40 = .ok (.invokevirtual 100, 3) ∧ 40 + 3 = 43 := ⟨by decide +kernel, rfl⟩
theorem dX0_combinedEither_43 : decode cX0_combinedEither 43 = .ok (.istore 8, 2) ∧ 43 + 2 = 45 := ⟨by decide +kernel, rfl⟩
theorem dX0_combinedEither_45 : decode cX0_combinedEither 45 = .ok (.aload_n 0, 1) ∧ 45 + 1 = 46 := ⟨by decide +kernel, rfl⟩
theorem dX0_combinedEither_46 : decode cX0_combinedEither 46 = .ok (.iconst 0, 1) ∧ 46 + 1 = 47 := ⟨by decide +kernel, rfl⟩
theorem dX0_combinedEither_47 : decode cX0_combinedEither 47 = .ok (.iload 5, 2) ∧ 47 + 2 = 49 := ⟨by decide +kernel, rfl⟩
theorem dX0_combinedEither_49 : decode cX0_combinedEither 49 = .ok (.iload 8, 2) ∧ 49 + 2 = 51 := ⟨by decide +kernel, rfl⟩
theorem dX0_combinedEither_51 : decode cX0_combinedEither 51 = .ok (.invokevirtual 100, 3) ∧ 51 + 3 = 54 := ⟨by decide +kernel, rfl⟩
theorem dX0_combinedEither_54 : decode cX0_combinedEither 54 = .ok (.ireturn, 1) ∧ 54 + 1 = 55 := ⟨by decide +kernel, rfl⟩
theorem dX0_combined_0 : decode cX0_combined 0 = .ok (.iconst 0, 1) ∧ 0 + 1 = 1 := ⟨by decide +kernel, rfl⟩
theorem dX0_combined_1 : decode cX0_combined 1 = .ok (.istore 4, 2) ∧ 1 + 2 = 3 := ⟨by decide +kernel, rfl⟩
theorem dX0_combined_3 : decode cX0_combined 3 = .ok (.iload_n 2, 1) ∧ 3 + 1 = 4 := ⟨by decide +kernel, rfl⟩
theorem dX0_combined_4 : decode cX0_combined 4 = .ok (.istore 5, 2) ∧ 4 + 2 = 6 := ⟨by decide +kernel, rfl⟩
theorem dX0_combined_6 : decode cX0_combined 6 = .ok (.iload_n 3, 1) ∧ 6 + 1 = 7 := ⟨by decide +kernel, rfl⟩
theorem dX0_combined_7 : decode cX0_combined 7 = .ok (.istore 6, 2) ∧ 7 + 2 = 9 := ⟨by decide +kernel, rfl⟩
theorem dX0_combined_9 : decode cX0_combined 9 = .ok (.iconst 0, 1) ∧ 9 + 1 = 10 := ⟨by decide +kernel, rfl⟩
theorem dX0_combined_10 : decode cX0_combined 10 = .ok (.istore 7, 2) ∧ 10 + 2 = 12 := ⟨by decide +kernel, rfl⟩
theorem dX0_combined_12 : decode cX0_combined 12 = .ok (.iconst 1, 1) ∧ 12 + 1 = 13 := ⟨by decide +kernel, rfl⟩
theorem dX0_combined_13 : decode cX0_combined 13 = .ok (.istore 8, 2) ∧ 13 + 2 = 15 := ⟨by decide +kernel, rfl⟩
theorem dX0_combined_15 : decode cX0_combined 15 = .ok (.iload 8, 2) ∧ 15 + 2 = 17 := ⟨by decide +kernel, rfl⟩
theorem dX0_combined_17 : decode cX0_combined 17 = .ok (.ifCond .ne 8, 3) ∧ 17 + 3 = 20 ∧ ((17 : Nat) : Int) + (8) = ((25 : Nat) : Int) := ⟨by decide +kernel, rfl, by decide⟩
theorem dX0_combined_20 : decode cX0_combined 20 = .ok (.iload 4, 2) ∧ 20 + 2 = 22 := ⟨by decide +kernel, rfl⟩
theorem dX0_combined_22 : decode cX0_combined 22 = .ok (.ifCond .le 211, 3) ∧ 22 + 3 = 25 ∧ ((22 : Nat) : Int) + (211) = ((233 : Nat) : Int) := ⟨by decide +kernel, rfl, by decide⟩
theorem dX0_combined_25 : decode cX0_combined 25 = .ok (.iload 8, 2) ∧ 25 + 2 = 27 := ⟨by decide +kernel, rfl⟩
theorem dX0_combined_27 : decode cX0_combined 27 = .ok (.ifCond .eq 104, 3) ∧ 27 + 3 = 30 ∧ ((27 : Nat) : Int) + (104) = ((131 : Nat) : Int) := ⟨by decide +kernel, rfl, by decide⟩
theorem dX0_combined_30 : decode cX0_combined 30 = .ok (.iload 5, 2) ∧ 30 + 2 = 32 := ⟨by decide +kernel, rfl⟩
theorem dX0_combined_32 : decode cX0_combined 32 = .ok (.ifCond .eq 99, 3) ∧ 32 + 3 = 35 ∧ ((32 : Nat) : Int) + (99) = ((131 : Nat) : Int) := ⟨by decide +kernel, rfl, by decide⟩
theorem dX0_combined_35 : decode cX0_combined 35 = .ok (.iload 6, 2) ∧ 35 + 2 = 37 := ⟨by decide +kernel, rfl⟩
theorem dX0_combined_37 : decode cX0_combined 37 = .ok (.ifCond .eq 94, 3) ∧ 37 + 3 = 40 ∧ ((37 : Nat) : Int) + (94) = ((131 : Nat) : Int) := ⟨by decide +kernel, rfl, by decide⟩
theorem dX0_combined_40 : decode cX0_combined 40 = .ok (.aload_n 0, 1) ∧ 40 + 1 = 41 := ⟨by decide +kernel, rfl⟩
theorem dX0_combined_41 : decode cX0_combined 41 = .ok (.iload 6, 2) ∧ 41 + 2 = 43 := ⟨by decide +kernel, rfl⟩
theorem dX0_combined_43 : decode cX0_combined 43 = .ok (.aload_n 0, 1) ∧ 43 + 1 = 44 := ⟨by decide +kernel, rfl⟩
theorem dX0_combined_44 : decode cX0_combined 44 = .ok (.getfield 16, 3) ∧ 44 + 3 = 47 := ⟨by decide +kernel, rfl⟩
theorem dX0_combined_47 : decode cX0_combined 47 = .ok (.iload 5, 2) ∧ 47 + 2 = 49 := ⟨by decide +kernel, rfl⟩
theorem dX0_combined_49 : decode cX0_combined 49 = .ok (.iaload, 1) ∧ 49 + 1 = 50 := ⟨by decide +kernel, rfl⟩
theorem dX0_combined_50 : decode cX0_combined 50 = .ok (.invokevirtual 64, 3) ∧ 50 + 3 = 53 := ⟨by decide +kernel, rfl⟩
theorem dX0_combined_53 : decode cX0_combined 53 = .ok (.aload_n 0, 1) ∧ 53 + 1 = 54 := ⟨by decide +kernel, rfl⟩
theorem dX0_combined_54 : decode cX0_combined 54 = .ok (.getfield 37, 3) ∧ 54 + 3 = 57 := ⟨by decide +kernel, rfl⟩
theorem dX0_combined_57 : decode cX0_combined 57 = .ok (.iload 4, 2) ∧ 57 + 2 = 59 := ⟨by decide +kernel, rfl⟩
theorem dX0_combined_59 : decode cX0_combined 59 = .ok (.iload 5, 2) ∧ 59 + 2 = 61 := ⟨by decide +kernel, rfl⟩
theorem dX0_combined_61 : decode cX0_combined 61 = .ok (.i2s, 1) ∧ 61 + 1 = 62 := ⟨by decide +kernel, rfl⟩
theorem dX0_combined_62 : decode cX0_combined 62 = .ok (.sastore, 1) ∧ 62 + 1 = 63 := ⟨by decide +kernel, rfl⟩
theorem dX0_combined_63 : decode cX0_combined 63 = .ok (.aload_n 0, 1) ∧ 63 + 1 = 64 := ⟨by decide +kernel, rfl⟩
theorem dX0_combined_64 : decode cX0_combined 64 = .ok (.getfield 40, 3) ∧ 64 + 3 = 67 := ⟨by decide +kernel, rfl⟩
theorem dX0_combined_67 : decode cX0_combined 67 = .ok (.iload 4, 2) ∧ 67 + 2 = 69 := ⟨by decide +kernel, rfl⟩
theorem dX0_combined_69 : decode cX0_combined 69 = .ok (.aload_n 0, 1) ∧ 69 + 1 = 70 := ⟨by decide +kernel, rfl⟩
theorem dX0_combined_70 : decode cX0_combined 70 = .ok (.getfield 68, 3) ∧ 70 + 3 = 73 := ⟨by decide +kernel, rfl⟩
theorem dX0_combined_73 : decode cX0_combined 73 = .ok (.i2s, 1) ∧ 73 + 1 = 74 := ⟨by decide +kernel, rfl⟩
theorem dX0_combined_74 : decode cX0_combined 74 = .ok (.sastore, 1) ∧ 74 + 1 = 75 := ⟨by decide +kernel, rfl⟩
theorem dX0_combined_75 : decode cX0_combined 75 = .ok (.aload_n 0, 1) ∧ 75 + 1 = 76 := ⟨by decide +kernel, rfl⟩
theorem dX0_combined_76 : decode cX0_combined 76 = .ok (.getfield 46, 3) ∧ 76 + 3 = 79 := ⟨by decide +kernel, rfl⟩
theorem dX0_combined_79 : decode cX0_combined 79 = .ok (.iload 4, 2) ∧ 79 + 2 = 81 := ⟨by decide +kernel, rfl⟩
theorem dX0_combined_81 : decode cX0_combined 81 = .ok (.aload_n 0, 1) ∧ 81 + 1 = 82 := ⟨by decide +kernel, rfl⟩
theorem dX0_combined_82 : decode cX0_combined 82 = .ok (.getfield 82, 3) ∧ 82 + 3 = 85 := ⟨by decide +kernel, rfl⟩
theorem dX0_combined_85 : decode cX0_combined 85 = .ok (.ifCond .eq 7, 3) ∧ 85 + 3 = 88 ∧ ((85 : Nat) : Int) + (7) = ((92 : Nat) : Int) := ⟨by decide +kernel, rfl, by decide⟩
theorem dX0_combined_88 : decode cX0_combined 88 = .ok (.iconst 1, 1) ∧ 88 + 1 = 89 := ⟨by decide +kernel, rfl⟩
theorem dX0_combined_89 : decode cX0_combined 89 = .ok (.goto 4, 3) ∧ 89 + 3 = 92 ∧ ((89 : Nat) : Int) + (4) = ((93 : Nat) : Int) := ⟨by decide +kernel, rfl, by decide⟩
theorem dX0_combined_92 : decode cX0_combined 92 = .ok (.iconst 0, 1) ∧ 92 + 1 = 93 := ⟨by decide +kernel, rfl⟩
theorem dX0_combined_93 : decode cX0_combined 93 = .ok (.bastore, 1) ∧ 93 + 1 = 94 := ⟨by decide +kernel, rfl⟩
theorem dX0_combined_94 : decode cX0_combined 94 = .ok (.aload_n 0, 1) ∧ 94 + 1 = 95 := ⟨by decide +kernel, rfl⟩
theorem dX0_combined_95 : decode cX0_combined 95 = .ok (.getfield 49, 3) ∧ 95 + 3 = 98 := ⟨by decide +kernel, rfl⟩
theorem dX0_combined_98 : decode cX0_combined 98 = .ok (.iload 4, 2) ∧ 98 + 2 = 100 := ⟨by decide +kernel, rfl⟩
theorem dX0_combined_100 : decode cX0_combined 100 = .ok (.iconst 0, 1) ∧ 100 + 1 = 101 := ⟨by decide +kernel, rfl⟩
theorem dX0_combined_101 : decode cX0_combined 101 = .ok (.bastore, 1) ∧ 101 + 1 = 102 := ⟨by decide +kernel, rfl⟩
theorem dX0_combined_102 : decode cX0_combined 102 = .ok (.aload_n 0, 1) ∧ 102 + 1 = 103 := ⟨by decide +kernel, rfl⟩
theorem dX0_combined_103 : decode cX0_combined 103 = .ok (.aload_n 0, 1) ∧ 103 + 1 = 104 := ⟨by decide +kernel, rfl⟩
theorem dX0_combined_104 : decode cX0_combined 104 = .ok (.getfield 82, 3) ∧ 104 + 3 = 107 := ⟨by decide +kernel, rfl⟩
theorem dX0_combined_107 : decode cX0_combined 107 = .ok (.invokevirtual 85, 3) ∧ 107 + 3 = 110 := ⟨by decide +kernel, rfl⟩
theorem dX0_combined_110 : decode cX0_combined 110 = .ok (.iinc 4 1, 3) ∧ 110 + 3 = 113 := ⟨by decide +kernel, rfl⟩
theorem dX0_combined_113 : decode cX0_combined 113 = .ok (.aload_n 0, 1) ∧ 113 + 1 = 114 := ⟨by decide +kernel, rfl⟩
theorem dX0_combined_114 : decode cX0_combined 114 = .ok (.getfield 7, 3) ∧ 114 + 3 = 117 := ⟨by decide +kernel, rfl⟩
theorem dX0_combined_117 : decode cX0_combined 117 = .ok (.iload 5, 2) ∧ 117 + 2 = 119 := ⟨by decide +kernel, rfl⟩
theorem dX0_combined_119 : decode cX0_combined 119 = .ok (.saload, 1) ∧ 119 + 1 = 120 := ⟨by decide +kernel, rfl⟩
theorem dX0_combined_120 : decode cX0_combined 120 = .ok (.istore 5, 2) ∧ 120 + 2 = 122 := ⟨by decide +kernel, rfl⟩
theorem dX0_combined_122 : decode cX0_combined 122 = .ok (.aload_n 0, 1) ∧ 122 + 1 = 123 := ⟨by decide +kernel, rfl⟩
theorem dX0_combined_123 : decode cX0_combined 123 = .ok (.getfield 75, 3) ∧ 123 + 3 = 126 := ⟨by decide +kernel, rfl⟩
theorem dX0_combined_126 : decode cX0_combined 126 = .ok (.istore 6, 2) ∧ 126 + 2 = 128 := ⟨by decide +kernel, rfl⟩
theorem dX0_combined_128 : decode cX0_combined 128 = .ok (.goto (-113), 3) ∧ 128 + 3 = 131 ∧ ((128 : Nat) : Int) + (-113) = ((15 : Nat) : Int) := ⟨by decide +kernel, rfl, by decide⟩
theorem dX0_combined_131 : decode cX0_combined 131 = .ok (.iload 8, 2) ∧ 131 + 2 = 133 := ⟨by decide +kernel, rfl⟩
theorem dX0_combined_133 : decode cX0_combined 133 = .ok (.ifCond .eq 20, 3) ∧ 133 + 3 = 136 ∧ ((133 : Nat) : Int) + (20) = ((153 : Nat) : Int) := ⟨by decide +kernel, rfl, by decide⟩
theorem dX0_combined_136 : decode cX0_combined 136 = .ok (.aload_n 0, 1) ∧ 136 + 1 = 137 := ⟨by decide +kernel, rfl⟩
theorem dX0_combined_137 : decode cX0_combined 137 = .ok (.iload_n 1, 1) ∧ 137 + 1 = 138 := ⟨by decide +kernel, rfl⟩
theorem dX0_combined_138 : decode cX0_combined 138 = .ok (.iload 5, 2) ∧ 138 + 2 = 140 := ⟨by decide +kernel, rfl⟩
theorem dX0_combined_140 : decode cX0_combined 140 = .ok (.iload 6, 2) ∧ 140 + 2 = 142 := ⟨by decide +kernel, rfl⟩
theorem dX0_combined_142 : decode cX0_combined 142 = .ok (.invokevirtual 137, 3) ∧ 142 + 3 = 145 := ⟨by decide +kernel, rfl⟩
theorem dX0_combined_145 : decode cX0_combined 145 = .ok (.istore 7, 2) ∧ 145 + 2 = 147 := ⟨by decide +kernel, rfl⟩
theorem dX0_combined_147 : decode cX0_combined 147 = .ok (.iconst 0, 1) ∧ 147 + 1 = 148 := ⟨by decide +kernel, rfl⟩
theorem dX0_combined_148 : decode cX0_combined 148 = .ok (.istore 8, 2) ∧ 148 + 2 = 150 := ⟨by decide +kernel, rfl⟩
theorem dX0_combined_150 : decode cX0_combined 150 = .ok (.goto (-135), 3) ∧ 150 + 3 = 153 ∧ ((150 : Nat) : Int) + (-135) = ((15 : Nat) : Int) := ⟨by decide +kernel, rfl, by decide⟩
theorem dX0_combined_153 : decode cX0_combined 153 = .ok (.iload 4, 2) ∧ 153 + 2 = 155 := ⟨by decide +kernel, rfl⟩
theorem dX0_combined_155 : decode cX0_combined 155 = .ok (.iconst 1, 1) ∧ 155 + 1 = 156 := ⟨by decide +kernel, rfl⟩
theorem dX0_combined_156 : decode cX0_combined 156 = .ok (.isub, 1) ∧ 156 + 1 = 157 := ⟨by decide +kernel, rfl⟩
theorem dX0_combined_157 : decode cX0_combined 157 = .ok (.istore 9, 2) ∧ 157 + 2 = 159 := ⟨by decide +kernel, rfl⟩
theorem dX0_combined_159 : decode cX0_combined 159 = .ok (.aload_n 0, 1) ∧ 159 + 1 = 160 := ⟨by decide +kernel, rfl⟩
theorem dX0_combined_160 : decode cX0_combined 160 = .ok (.getfield 49, 3) ∧ 160 + 3 = 163 := ⟨by decide +kernel, rfl⟩
theorem dX0_combined_163 : decode cX0_combined 163 = .ok (.iload 9, 2) ∧ 163 + 2 = 165 := ⟨by decide +kernel, rfl⟩
theorem dX0_combined_165 : decode cX0_combined 165 = .ok (.baload, 1) ∧ 165 + 1 = 166 := ⟨by decide +kernel, rfl⟩
theorem dX0_combined_166 : decode cX0_combined 166 = .ok (.ifCond .ne 50, 3) ∧ 166 + 3 = 169 ∧ ((166 : Nat) : Int) + (50) = ((216 : Nat) : Int) := ⟨by decide +kernel, rfl, by decide⟩
theorem dX0_combined_169 : decode cX0_combined 169 = .ok (.aload_n 0, 1) ∧ 169 + 1 = 170 := ⟨by decide +kernel, rfl⟩
theorem dX0_combined_170 : decode cX0_combined 170 = .ok (.getfield 43, 3) ∧ 170 + 3 = 173 := ⟨by decide +kernel, rfl⟩
theorem dX0_combined_173 : decode cX0_combined 173 = .ok (.iload 9, 2) ∧ 173 + 2 = 175 := ⟨by decide +kernel, rfl⟩
theorem dX0_combined_175 : decode cX0_combined 175 = .ok (.iload 7, 2) ∧ 175 + 2 = 177 := ⟨by decide +kernel, rfl⟩
theorem dX0_combined_177 : decode cX0_combined 177 = .ok (.i2s, 1) ∧ 177 + 1 = 178 := ⟨by decide +kernel, rfl⟩
theorem dX0_combined_178 : decode cX0_combined 178 = .ok (.sastore, 1) ∧ 178 + 1 = 179 := ⟨by decide +kernel, rfl⟩
theorem dX0_combined_179 : decode cX0_combined 179 = .ok (.aload_n 0, 1) ∧ 179 + 1 = 180 := ⟨by decide +kernel, rfl⟩
theorem dX0_combined_180 : decode cX0_combined 180 = .ok (.getfield 49, 3) ∧ 180 + 3 = 183 := ⟨by decide +kernel, rfl⟩
theorem dX0_combined_183 : decode cX0_combined 183 = .ok (.iload 9, 2) ∧ 183 + 2 = 185 := ⟨by decide +kernel, rfl⟩
theorem dX0_combined_185 : decode cX0_combined 185 = .ok (.iconst 1, 1) ∧ 185 + 1 = 186 := ⟨by decide +kernel, rfl⟩
theorem dX0_combined_186 : decode cX0_combined 186 = .ok (.bastore, 1) ∧ 186 + 1 = 187 := ⟨by decide +kernel, rfl⟩
theorem dX0_combined_187 : decode cX0_combined 187 = .ok (.aload_n 0, 1) ∧ 187 + 1 = 188 := ⟨by decide +kernel, rfl⟩
theorem dX0_combined_188 : decode cX0_combined 188 = .ok (.getfield 13, 3) ∧ 188 + 3 = 191 := ⟨by decide +kernel, rfl⟩
theorem dX0_combined_191 : decode cX0_combined 191 = .ok (.aload_n 0, 1) ∧ 191 + 1 = 192 := ⟨by decide +kernel, rfl⟩
theorem dX0_combined_192 : decode cX0_combined 192 = .ok (.getfield 37, 3) ∧ 192 + 3 = 195 := ⟨by decide +kernel, rfl⟩
theorem dX0_combined_195 : decode cX0_combined 195 = .ok (.iload 9, 2) ∧ 195 + 2 = 197 := ⟨by decide +kernel, rfl⟩
theorem dX0_combined_197 : decode cX0_combined 197 = .ok (.saload, 1) ∧ 197 + 1 = 198 := ⟨by decide +kernel, rfl⟩
theorem dX0_combined_198 : decode cX0_combined 198 = .ok (.saload, 1) ∧ 198 + 1 = 199 := ⟨by decide +kernel, rfl⟩
theorem dX0_combined_199 : decode cX0_combined 199 = .ok (.istore 5, 2) ∧ 199 + 2 = 201 := ⟨by decide +kernel, rfl⟩
theorem dX0_combined_201 : decode cX0_combined 201 = .ok (.aload_n 0, 1) ∧ 201 + 1 = 202 := ⟨by decide +kernel, rfl⟩
theorem dX0_combined_202 : decode cX0_combined 202 = .ok (.getfield 40, 3) ∧ 202 + 3 = 205 := ⟨by decide +kernel, rfl⟩
theorem dX0_combined_205 : decode cX0_combined 205 = .ok (.iload 9, 2) ∧ 205 + 2 = 207 := ⟨by decide +kernel, rfl⟩
theorem dX0_combined_207 : decode cX0_combined 207 = .ok (.saload, 1) ∧ 207 + 1 = 208 := ⟨by decide +kernel, rfl⟩
theorem dX0_combined_208 : decode cX0_combined 208 = .ok (.istore 6, 2) ∧ 208 + 2 = 210 := ⟨by decide +kernel, rfl⟩
theorem dX0_combined_210 : decode cX0_combined 210 = .ok (.iconst 1, 1) ∧ 210 + 1 = 211 := ⟨by decide +kernel, rfl⟩
theorem dX0_combined_211 : decode cX0_combined 211 = .ok (.istore 8, 2) ∧ 211 + 2 = 213 := ⟨by decide +kernel, rfl⟩
theorem dX0_combined_213 : decode cX0_combined 213 = .ok (.goto (-198), 3) ∧ 213 + 3 = 216 ∧ ((213 : Nat) : Int) + (-198) = ((15 : Nat) : Int) := ⟨by decide +kernel, rfl, by decide⟩
theorem dX0_combined_216 : decode cX0_combined 216 = .ok (.aload_n 0, 1) ∧ 216 + 1 = 217 := ⟨by decide +kernel, rfl⟩
theorem dX0_combined_217 : decode cX0_combined 217 = .ok (.iload_n 1, 1) ∧ 217 + 1 = 218 := ⟨by decide +kernel, rfl⟩
theorem dX0_combined_218 : decode cX0_combined 218 = .ok (.iload 9, 2) ∧ 218 + 2 = 220 := ⟨by decide +kernel, rfl⟩
theorem dX0_combined_220 : decode cX0_combined 220 = .ok (.iload 7, 2) ∧ 220 + 2 = 222 := ⟨by decide +kernel, rfl⟩
theorem dX0_combined_222 : decode cX0_combined 222 = .ok (.invokevirtual 140, 3) ∧ 222 + 3 = 225 := ⟨by decide +kernel, rfl⟩
theorem dX0_combined_225 : decode cX0_combined 225 = .ok (.istore 7, 2) ∧ 225 + 2 = 227 := ⟨by decide +kernel, rfl⟩
theorem dX0_combined_227 : decode cX0_combined 227 = .ok (.iinc 4 (-1), 3) ∧ 227 + 3 = 230 := ⟨by decide +kernel, rfl⟩
theorem dX0_combined_230 : decode cX0_combined 230 = .ok (.goto (-215), 3) ∧ 230 + 3 = 233 ∧ ((230 : Nat) : Int) + (-215) = ((15 : Nat) : Int) := ⟨by decide +kernel, rfl, by decide⟩
theorem dX0_combined_233 : decode cX0_combined 233 = .ok (.iload 7, 2) ∧ 233 + 2 = 235 := ⟨by decide +kernel, rfl⟩
theorem dX0_combined_235 : decode cX0_combined 235 = .ok (.ireturn, 1) ∧ 235 + 1 = 236 := ⟨by decide +kernel, rfl⟩
theorem dX0_withNothing_0 : decode cX0_withNothing 0 = .ok (.iload_n 1, 1) ∧ 0 + 1 = 1 := ⟨by decide +kernel, rfl⟩
theorem dX0_withNothing_1 : decode cX0_withNothing 1 = .ok (.ifCond .ne 13, 3) ∧ 1 + 3 = 4 ∧ ((1 : Nat) : Int) + (13) = ((14 : Nat) : Int) := ⟨by decide +kernel, rfl, by decide⟩
theorem dX0_withNothing_4 : decode cX0_withNothing 4 = .ok (.iload_n 2, 1) ∧ 4 + 1 = 5 := ⟨by decide +kernel, rfl⟩
theorem dX0_withNothing_5 : decode cX0_withNothing 5 = .ok (.ifCond .ne 7, 3) ∧ 5 + 3 = 8 ∧ ((5 : Nat) : Int) + (7) = ((12 : Nat) : Int) := ⟨by decide +kernel, rfl, by decide⟩
theorem dX0_withNothing_8 : decode cX0_withNothing 8 = .ok (.iload_n 3, 1) ∧ 8 + 1 = 9 := ⟨by decide +kernel, rfl⟩
theorem dX0_withNothing_9 : decode cX0_withNothing 9 = .ok (.goto 4, 3) ∧ 9 + 3 = 12 ∧ ((9 : Nat) : Int) + (4) = ((13 : Nat) : Int) := ⟨by decide +kernel, rfl, by decide⟩
theorem dX0_withNothing_12 : decode cX0_withNothing 12 = .ok (.iload_n 2, 1) ∧ 12 + 1 = 13 := ⟨by decide +kernel, rfl⟩
theorem dX0_withNothing_13 : decode cX0_withNothing 13 = .ok (.ireturn, 1) ∧ 13 + 1 = 14 := ⟨by decide +kernel, rfl⟩
theorem dX0_withNothing_14 : decode cX0_withNothing 14 = .ok (.aload_n 0, 1) ∧ 14 + 1 = 15 := ⟨by decide +kernel, rfl⟩
theorem dX0_withNothing_15 : decode cX0_withNothing 15 = .ok (.iload_n 3, 1) ∧ 15 + 1 = 16 := ⟨by decide +kernel, rfl⟩
theorem dX0_withNothing_16 : decode cX0_withNothing 16 = .ok (.invokevirtual 103, 3) ∧ 16 + 3 = 19 := ⟨by decide +kernel, rfl⟩
theorem dX0_withNothing_19 : decode cX0_withNothing 19 = .ok (.iload_n 1, 1) ∧ 19 + 1 = 20 := ⟨by decide +kernel, rfl⟩
theorem dX0_withNothing_20 : decode cX0_withNothing 20 = .ok (.iconst 2, 1) ∧ 20 + 1 = 21 := ⟨by decide +kernel, rfl⟩
theorem dX0_withNothing_21 : decode cX0_withNothing 21 = .ok (.if_icmp .ne 5, 3) ∧ 21 + 3 = 24 ∧ ((21 : Nat) : Int) + (5) = ((26 : Nat) : Int) := ⟨by decide +kernel, rfl, by decide⟩
theorem dX0_withNothing_24 : decode cX0_withNothing 24 = .ok (.iload_n 2, 1) ∧ 24 + 1 = 25 := ⟨by decide +kernel, rfl⟩
theorem dX0_withNothing_25 : decode cX0_withNothing 25 = .ok (.ireturn, 1) ∧ 25 + 1 = 26 := ⟨by decide +kernel, rfl⟩
theorem dX0_withNothing_26 : decode cX0_withNothing 26 = .ok (.aload_n 0, 1) ∧ 26 + 1 = 27 := ⟨by decide +kernel, rfl⟩
theorem dX0_withNothing_27 : decode cX0_withNothing 27 = .ok (.iload_n 2, 1) ∧ 27 + 1 = 28 := ⟨by decide +kernel, rfl⟩
theorem dX0_withNothing_28 : decode cX0_withNothing 28 = .ok (.invokevirtual 103, 3) ∧ 28 + 3 = 31 := ⟨by decide +kernel, rfl⟩
theorem dX0_withNothing_31 : decode cX0_withNothing 31 = .ok (.iconst 0, 1) ∧ 31 + 1 = 32 := ⟨by decide +kernel, rfl⟩
theorem dX0_withNothing_32 : decode cX0_withNothing 32 = .ok (.ireturn, 1) ∧ 32 + 1 = 33 := ⟨by decide +kernel, rfl⟩
theorem dX0_releaseTree_0 : decode cX0_releaseTree 0 = .ok (.aload_n 0, 1) ∧ 0 + 1 = 1 := ⟨by decide +kernel, rfl⟩
theorem dX0_releaseTree_1 : decode cX0_releaseTree 1 = .ok (.iconst 0, 1) ∧ 1 + 1 = 2 := ⟨by decide +kernel, rfl⟩
theorem dX0_releaseTree_2 : decode cX0_releaseTree 2 = .ok (.putfield 112, 3) ∧ 2 + 3 = 5 := ⟨by decide +kernel, rfl⟩
theorem dX0_releaseTree_5 : decode cX0_releaseTree 5 = .ok (.aload_n 0, 1) ∧ 5 + 1 = 6 := ⟨by decide +kernel, rfl⟩
theorem dX0_releaseTree_6 : decode cX0_releaseTree 6 = .ok (.iload_n 1, 1) ∧ 6 + 1 = 7 := ⟨by decide +kernel, rfl⟩
theorem dX0_releaseTree_7 : decode cX0_releaseTree 7 = .ok (.iconst 0, 1) ∧ 7 + 1 = 8 := ⟨by decide +kernel, rfl⟩
theorem dX0_releaseTree_8 : decode cX0_releaseTree 8 = .ok (.invokevirtual 115, 3) ∧ 8 + 3 = 11 := ⟨by decide +kernel, rfl⟩
theorem dX0_releaseTree_11 : decode cX0_releaseTree 11 = .ok (.aload_n 0, 1) ∧ 11 + 1 = 12 := ⟨by decide +kernel, rfl⟩
theorem dX0_releaseTree_12 : decode cX0_releaseTree 12 = .ok (.getfield 112, 3) ∧ 12 + 3 = 15 := ⟨by decide +kernel, rfl⟩
theorem dX0_releaseTree_15 : decode cX0_releaseTree 15 = .ok (.ifCond .le 60, 3) ∧ 15 + 3 = 18 ∧ ((15 : Nat) : Int) + (60) = ((75 : Nat) : Int) := ⟨by decide +kernel, rfl, by decide⟩
theorem dX0_releaseTree_18 : decode cX0_releaseTree 18 = .ok (.aload_n 0, 1) ∧ 18 + 1 = 19 := ⟨by decide +kernel, rfl⟩
theorem dX0_releaseTree_19 : decode cX0_releaseTree 19 = .ok (.dup, 1) ∧ 19 + 1 = 20 := ⟨by decide +kernel, rfl⟩
theorem dX0_releaseTree_20 : decode cX0_releaseTree 20 = .ok (.getfield 112, 3) ∧ 20 + 3 = 23 := ⟨by decide +kernel, rfl⟩
theorem dX0_releaseTree_23 : decode cX0_releaseTree 23 = .ok (.iconst 1, 1) ∧ 23 + 1 = 24 := ⟨by decide +kernel, rfl⟩
theorem dX0_releaseTree_24 : decode cX0_releaseTree 24 = .ok (.isub, 1) ∧ 24 + 1 = 25 := ⟨by decide +kernel, rfl⟩
theorem dX0_releaseTree_25 : decode cX0_releaseTree 25 = .ok (.putfield 112, 3) ∧ 25 + 3 = 28 := ⟨by decide +kernel, rfl⟩
theorem dX0_releaseTree_28 : decode cX0_releaseTree 28 = .ok (.aload_n 0, 1) ∧ 28 + 1 = 29 := ⟨by decide +kernel, rfl⟩
theorem dX0_releaseTree_29 : decode cX0_releaseTree 29 = .ok (.getfield 30, 3) ∧ 29 + 3 = 32 := ⟨by decide +kernel, rfl⟩
theorem dX0_releaseTree_32 : decode cX0_releaseTree 32 = .ok (.aload_n 0, 1) ∧ 32 + 1 = 33 := ⟨by decide +kernel, rfl⟩
theorem dX0_releaseTree_33 : decode cX0_releaseTree 33 = .ok (.getfield 112, 3) ∧ 33 + 3 = 36 := ⟨by decide +kernel, rfl⟩
theorem dX0_releaseTree_36 : decode cX0_releaseTree 36 = .ok (.saload, 1) ∧ 36 + 1 = 37 := ⟨by decide +kernel, rfl⟩
theorem dX0_releaseTree_37 : decode cX0_releaseTree 37 = .ok (.istore_n 2, 1) ∧ 37 + 1 = 38 := ⟨by decide +kernel, rfl⟩
theorem dX0_releaseTree_38 : decode cX0_releaseTree 38 = .ok (.iload_n 2, 1) ∧ 38 + 1 = 39 := ⟨by decide +kernel, rfl⟩
theorem dX0_releaseTree_39 : decode cX0_releaseTree 39 = .ok (.ifCond .ne 6, 3) ∧ 39 + 3 = 42 ∧ ((39 : Nat) : Int) + (6) = ((45 : Nat) : Int) := ⟨by decide +kernel, rfl, by decide⟩
theorem dX0_releaseTree_42 : decode cX0_releaseTree 42 = .ok (.goto (-31), 3) ∧ 42 + 3 = 45 ∧ ((42 : Nat) : Int) + (-31) = ((11 : Nat) : Int) := ⟨by decide +kernel, rfl, by decide⟩
theorem dX0_releaseTree_45 : decode cX0_releaseTree 45 = .ok (.aload_n 0, 1) ∧ 45 + 1 = 46 := ⟨by decide +kernel, rfl⟩
theorem dX0_releaseTree_46 : decode cX0_releaseTree 46 = .ok (.iload_n 2, 1) ∧ 46 + 1 = 47 := ⟨by decide +kernel, rfl⟩
theorem dX0_releaseTree_47 : decode cX0_releaseTree 47 = .ok (.invokevirtual 85, 3) ∧ 47 + 3 = 50 := ⟨by decide +kernel, rfl⟩
theorem dX0_releaseTree_50 : decode cX0_releaseTree 50 = .ok (.aload_n 0, 1) ∧ 50 + 1 = 51 := ⟨by decide +kernel, rfl⟩
theorem dX0_releaseTree_51 : decode cX0_releaseTree 51 = .ok (.aload_n 0, 1) ∧ 51 + 1 = 52 := ⟨by decide +kernel, rfl⟩
theorem dX0_releaseTree_52 : decode cX0_releaseTree 52 = .ok (.getfield 7, 3) ∧ 52 + 3 = 55 := ⟨by decide +kernel, rfl⟩
theorem dX0_releaseTree_55 : decode cX0_releaseTree 55 = .ok (.iload_n 2, 1) ∧ 55 + 1 = 56 := ⟨by decide +kernel, rfl⟩
theorem dX0_releaseTree_56 : decode cX0_releaseTree 56 = .ok (.saload, 1) ∧ 56 + 1 = 57 := ⟨by decide +kernel, rfl⟩
theorem dX0_releaseTree_57 : decode cX0_releaseTree 57 = .ok (.iconst 0, 1) ∧ 57 + 1 = 58 := ⟨by decide +kernel, rfl⟩
theorem dX0_releaseTree_58 : decode cX0_releaseTree 58 = .ok (.invokevirtual 115, 3) ∧ 58 + 3 = 61 := ⟨by decide +kernel, rfl⟩
theorem dX0_releaseTree_61 : decode cX0_releaseTree 61 = .ok (.aload_n 0, 1) ∧ 61 + 1 = 62 := ⟨by decide +kernel, rfl⟩
theorem dX0_releaseTree_62 : decode cX0_releaseTree 62 = .ok (.aload_n 0, 1) ∧ 62 + 1 = 63 := ⟨by decide +kernel, rfl⟩
theorem dX0_releaseTree_63 : decode cX0_releaseTree 63 = .ok (.getfield 13, 3) ∧ 63 + 3 = 66 := ⟨by decide +kernel, rfl⟩
theorem dX0_releaseTree_66 : decode cX0_releaseTree 66 = .ok (.iload_n 2, 1) ∧ 66 + 1 = 67 := ⟨by decide +kernel, rfl⟩
theorem dX0_releaseTree_67 : decode cX0_releaseTree 67 = .ok (.saload, 1) ∧ 67 + 1 = 68 := ⟨by decide +kernel, rfl⟩
theorem dX0_releaseTree_68 : decode cX0_releaseTree 68 = .ok (.iconst 0, 1) ∧ 68 + 1 = 69 := ⟨by decide +kernel, rfl⟩
theorem dX0_releaseTree_69 : decode cX0_releaseTree 69 = .ok (.invokevirtual 115, 3) ∧ 69 + 3 = 72 := ⟨by decide +kernel, rfl⟩
theorem dX0_releaseTree_72 : decode cX0_releaseTree 72 = .ok (.goto (-61), 3) ∧ 72 + 3 = 75 ∧ ((72 : Nat) : Int) + (-61) = ((11 : Nat) : Int) := ⟨by decide +kernel, rfl, by decide⟩
theorem dX0_releaseTree_75 : decode cX0_releaseTree 75 = .ok (.return_, 1) ∧ 75 + 1 = 76 := ⟨by decide +kernel, rfl⟩
theorem dX0_finished_0 : decode cX0_finished 0 = .ok (.aload_n 0, 1) ∧ 0 + 1 = 1 := ⟨by decide +kernel, rfl⟩
theorem dX0_finished_1 : decode cX0_finished 1 = .ok (.getfield 37, 3) ∧ 1 + 3 = 4 := ⟨by decide +kernel, rfl⟩
theorem dX0_finished_4 : decode cX0_finished 4 = .ok (.iload_n 2, 1) ∧ 4 + 1 = 5 := ⟨by decide +kernel, rfl⟩
theorem dX0_finished_5 : decode cX0_finished 5 = .ok (.saload, 1) ∧ 5 + 1 = 6 := ⟨by decide +kernel, rfl⟩
theorem dX0_finished_6 : decode cX0_finished 6 = .ok (.istore 4, 2) ∧ 6 + 2 = 8 := ⟨by decide +kernel, rfl⟩
theorem dX0_finished_8 : decode cX0_finished 8 = .ok (.iload_n 1, 1) ∧ 8 + 1 = 9 := ⟨by decide +kernel, rfl⟩
theorem dX0_finished_9 : decode cX0_finished 9 = .ok (.ifCond .eq 22, 3) ∧ 9 + 3 = 12 ∧ ((9 : Nat) : Int) + (22) = ((31 : Nat) : Int) := ⟨by decide +kernel, rfl, by decide⟩
theorem dX0_finished_12 : decode cX0_finished 12 = .ok (.aload_n 0, 1) ∧ 12 + 1 = 13 := ⟨by decide +kernel, rfl⟩
theorem dX0_finished_13 : decode cX0_finished 13 = .ok (.getfield 46, 3) ∧ 13 + 3 = 16 := ⟨by decide +kernel, rfl⟩
theorem dX0_finished_16 : decode cX0_finished 16 = .ok (.iload_n 2, 1) ∧ 16 + 1 = 17 := ⟨by decide +kernel, rfl⟩
theorem dX0_finished_17 : decode cX0_finished 17 = .ok (.baload, 1) ∧ 17 + 1 = 18 := ⟨by decide +kernel, rfl⟩
theorem dX0_finished_18 : decode cX0_finished 18 = .ok (.iload_n 1, 1) ∧ 18 + 1 = 19 := ⟨by decide +kernel, rfl⟩
theorem dX0_finished_19 : decode cX0_finished 19 = .ok (.iconst 1, 1) ∧ 19 + 1 = 20 := ⟨by decide +kernel, rfl⟩
theorem dX0_finished_20 : decode cX0_finished 20 = .ok (.if_icmp .ne 7, 3) ∧ 20 + 3 = 23 ∧ ((20 : Nat) : Int) + (7) = ((27 : Nat) : Int) := ⟨by decide +kernel, rfl, by decide⟩
theorem dX0_finished_23 : decode cX0_finished 23 = .ok (.iconst 1, 1) ∧ 23 + 1 = 24 := ⟨by decide +kernel, rfl⟩
theorem dX0_finished_24 : decode cX0_finished 24 = .ok (.goto 4, 3) ∧ 24 + 3 = 27 ∧ ((24 : Nat) : Int) + (4) = ((28 : Nat) : Int) := ⟨by decide +kernel, rfl, by decide⟩
theorem dX0_finished_27 : decode cX0_finished 27 = .ok (.iconst 0, 1) ∧ 27 + 1 = 28 := ⟨by decide +kernel, rfl⟩
theorem dX0_finished_28 : decode cX0_finished 28 = .ok (.if_icmp .ne 7, 3) ∧ 28 + 3 = 31 ∧ ((28 : Nat) : Int) + (7) = ((35 : Nat) : Int) := ⟨by decide +kernel, rfl, by decide⟩
theorem dX0_finished_31 : decode cX0_finished 31 = .ok (.iconst 1, 1) ∧ 31 + 1 = 32 := ⟨by decide +kernel, rfl⟩
theorem dX0_finished_32 : decode cX0_finished 32 = .ok (.goto 4, 3) ∧ 32 + 3 = 35 ∧ ((32 : Nat) : Int) + (4) = ((36 : Nat) : Int) := ⟨by decide +kernel, rfl, by decide⟩
theorem dX0_finished_35 : decode cX0_finished 35 = .ok (.iconst 0, 1) ∧ 35 + 1 = 36 := ⟨by decide +kernel, rfl⟩
theorem dX0_finished_36 : decode cX0_finished 36 = .ok (.istore 5, 2) ∧ 36 + 2 = 38 := ⟨by decide +kernel, rfl⟩
theorem dX0_finished_38 : decode cX0_finished 38 = .ok (.aload_n 0, 1) ∧ 38 + 1 = 39 := ⟨by decide +kernel, rfl⟩
theorem dX0_finished_39 : decode cX0_finished 39 = .ok (.iconst 0, 1) ∧ 39 + 1 = 40 := ⟨by decide +kernel, rfl⟩
theorem dX0_finished_40 : decode cX0_finished 40 = .ok (.putfield 112, 3) ∧ 40 + 3 = 43 := ⟨by decide +kernel, rfl⟩
theorem dX0_finished_43 : decode cX0_finished 43 = .ok (.iload 5, 2) ∧ 43 + 2 = 45 := ⟨by decide +kernel, rfl⟩
theorem dX0_finished_45 : decode cX0_finished 45 = .ok (.ifCond .eq 17, 3) ∧ 45 + 3 = 48 ∧ ((45 : Nat) : Int) + (17) = ((62 : Nat) : Int) := ⟨by decide +kernel, rfl, by decide⟩
theorem dX0_finished_48 : decode cX0_finished 48 = .ok (.aload_n 0, 1) ∧ 48 + 1 = 49 := ⟨by decide +kernel, rfl⟩
theorem dX0_finished_49 : decode cX0_finished 49 = .ok (.aload_n 0, 1) ∧ 49 + 1 = 50 := ⟨by decide +kernel, rfl⟩
theorem dX0_finished_50 : decode cX0_finished 50 = .ok (.getfield 43, 3) ∧ 50 + 3 = 53 := ⟨by decide +kernel, rfl⟩
theorem dX0_finished_53 : decode cX0_finished 53 = .ok (.iload_n 2, 1) ∧ 53 + 1 = 54 := ⟨by decide +kernel, rfl⟩
theorem dX0_finished_54 : decode cX0_finished 54 = .ok (.saload, 1) ∧ 54 + 1 = 55 := ⟨by decide +kernel, rfl⟩
theorem dX0_finished_55 : decode cX0_finished 55 = .ok (.iload 4, 2) ∧ 55 + 2 = 57 := ⟨by decide +kernel, rfl⟩
theorem dX0_finished_57 : decode cX0_finished 57 = .ok (.iload_n 3, 1) ∧ 57 + 1 = 58 := ⟨by decide +kernel, rfl⟩
theorem dX0_finished_58 : decode cX0_finished 58 = .ok (.invokevirtual 78, 3) ∧ 58 + 3 = 61 := ⟨by decide +kernel, rfl⟩
theorem dX0_finished_61 : decode cX0_finished 61 = .ok (.ireturn, 1) ∧ 61 + 1 = 62 := ⟨by decide +kernel, rfl⟩
theorem dX0_finished_62 : decode cX0_finished 62 = .ok (.aload_n 0, 1) ∧ 62 + 1 = 63 := ⟨by decide +kernel, rfl⟩
theorem dX0_finished_63 : decode cX0_finished 63 = .ok (.iload 4, 2) ∧ 63 + 2 = 65 := ⟨by decide +kernel, rfl⟩
theorem dX0_finished_65 : decode cX0_finished 65 = .ok (.invokevirtual 85, 3) ∧ 65 + 3 = 68 := ⟨by decide +kernel, rfl⟩
theorem dX0_finished_68 : decode cX0_finished 68 = .ok (.aload_n 0, 1) ∧ 68 + 1 = 69 := ⟨by decide +kernel, rfl⟩
theorem dX0_finished_69 : decode cX0_finished 69 = .ok (.aload_n 0, 1) ∧ 69 + 1 = 70 := ⟨by decide +kernel, rfl⟩
theorem dX0_finished_70 : decode cX0_finished 70 = .ok (.getfield 43, 3) ∧ 70 + 3 = 73 := ⟨by decide +kernel, rfl⟩
theorem dX0_finished_73 : decode cX0_finished 73 = .ok (.iload_n 2, 1) ∧ 73 + 1 = 74 := ⟨by decide +kernel, rfl⟩
theorem dX0_finished_74 : decode cX0_finished 74 = .ok (.saload, 1) ∧ 74 + 1 = 75 := ⟨by decide +kernel, rfl⟩
theorem dX0_finished_75 : decode cX0_finished 75 = .ok (.iload_n 3, 1) ∧ 75 + 1 = 76 := ⟨by decide +kernel, rfl⟩
theorem dX0_finished_76 : decode cX0_finished 76 = .ok (.invokevirtual 89, 3) ∧ 76 + 3 = 79 := ⟨by decide +kernel, rfl⟩
theorem dX0_finished_79 : decode cX0_finished 79 = .ok (.ireturn, 1) ∧ 79 + 1 = 80 := ⟨by decide +kernel, rfl⟩
theorem dX0_split_0 : decode cX0_split 0 = .ok (.aload_n 0, 1) ∧ 0 + 1 = 1 := ⟨by decide +kernel, rfl⟩
theorem dX0_split_1 : decode cX0_split 1 = .ok (.iload_n 1, 1) ∧ 1 + 1 = 2 := ⟨by decide +kernel, rfl⟩
theorem dX0_split_2 : decode cX0_split 2 = .ok (.invokevirtual 56, 3) ∧ 2 + 3 = 5 := ⟨by decide +kernel, rfl⟩
theorem dX0_split_5 : decode cX0_split 5 = .ok (.ifCond .eq 11, 3) ∧ 5 + 3 = 8 ∧ ((5 : Nat) : Int) + (11) = ((16 : Nat) : Int) := ⟨by decide +kernel, rfl, by decide⟩
end
section
set_option maxRecDepth 100000
theorem dX0_split_8 : decode cX0_split 8 = .ok (.aload_n 0, 1) ∧ 8 + 1 = 9 := ⟨by decide +kernel, rfl⟩
theorem dX0_split_9 : decode cX0_split 9 = .ok (.iload_n 3, 1) ∧ 9 + 1 = 10 := ⟨by decide +kernel, rfl⟩
theorem dX0_split_10 : decode cX0_split 10 = .ok (.invokevirtual 56, 3) ∧ 10 + 3 = 13 := ⟨by decide +kernel, rfl⟩
theorem dX0_split_13 : decode cX0_split 13 = .ok (.ifCond .ne 5, 3) ∧ 13 + 3 = 16 ∧ ((13 : Nat) : Int) + (5) = ((18 : Nat) : Int) := ⟨by decide +kernel, rfl, by decide⟩
theorem dX0_split_16 : decode cX0_split 16 = .ok (.iconst (-1), 1) ∧ 16 + 1 = 17 := ⟨by decide +kernel, rfl⟩
theorem dX0_split_17 : decode cX0_split 17 = .ok (.ireturn, 1) ∧ 17 + 1 = 18 := ⟨by decide +kernel, rfl⟩
theorem dX0_split_18 : decode cX0_split 18 = .ok (.aload_n 0, 1) ∧ 18 + 1 = 19 := ⟨by decide +kernel, rfl⟩
theorem dX0_split_19 : decode cX0_split 19 = .ok (.aload_n 0, 1) ∧ 19 + 1 = 20 := ⟨by decide +kernel, rfl⟩
theorem dX0_split_20 : decode cX0_split 20 = .ok (.getfield 24, 3) ∧ 20 + 3 = 23 := ⟨by decide +kernel, rfl⟩
theorem dX0_split_23 : decode cX0_split 23 = .ok (.iload_n 1, 1) ∧ 23 + 1 = 24 := ⟨by decide +kernel, rfl⟩
theorem dX0_split_24 : decode cX0_split 24 = .ok (.saload, 1) ∧ 24 + 1 = 25 := ⟨by decide +kernel, rfl⟩
theorem dX0_split_25 : decode cX0_split 25 = .ok (.iload_n 2, 1) ∧ 25 + 1 = 26 := ⟨by decide +kernel, rfl⟩
theorem dX0_split_26 : decode cX0_split 26 = .ok (.invokevirtual 64, 3) ∧ 26 + 3 = 29 := ⟨by decide +kernel, rfl⟩
theorem dX0_split_29 : decode cX0_split 29 = .ok (.aload_n 0, 1) ∧ 29 + 1 = 30 := ⟨by decide +kernel, rfl⟩
theorem dX0_split_30 : decode cX0_split 30 = .ok (.getfield 75, 3) ∧ 30 + 3 = 33 := ⟨by decide +kernel, rfl⟩
theorem dX0_split_33 : decode cX0_split 33 = .ok (.istore 4, 2) ∧ 33 + 2 = 35 := ⟨by decide +kernel, rfl⟩
theorem dX0_split_35 : decode cX0_split 35 = .ok (.aload_n 0, 1) ∧ 35 + 1 = 36 := ⟨by decide +kernel, rfl⟩
theorem dX0_split_36 : decode cX0_split 36 = .ok (.getfield 68, 3) ∧ 36 + 3 = 39 := ⟨by decide +kernel, rfl⟩
theorem dX0_split_39 : decode cX0_split 39 = .ok (.istore 5, 2) ∧ 39 + 2 = 41 := ⟨by decide +kernel, rfl⟩
theorem dX0_split_41 : decode cX0_split 41 = .ok (.aload_n 0, 1) ∧ 41 + 1 = 42 := ⟨by decide +kernel, rfl⟩
theorem dX0_split_42 : decode cX0_split 42 = .ok (.getfield 82, 3) ∧ 42 + 3 = 45 := ⟨by decide +kernel, rfl⟩
theorem dX0_split_45 : decode cX0_split 45 = .ok (.ifCond .eq 16, 3) ∧ 45 + 3 = 48 ∧ ((45 : Nat) : Int) + (16) = ((61 : Nat) : Int) := ⟨by decide +kernel, rfl, by decide⟩
theorem dX0_split_48 : decode cX0_split 48 = .ok (.aload_n 0, 1) ∧ 48 + 1 = 49 := ⟨by decide +kernel, rfl⟩
theorem dX0_split_49 : decode cX0_split 49 = .ok (.iconst 0, 1) ∧ 49 + 1 = 50 := ⟨by decide +kernel, rfl⟩
theorem dX0_split_50 : decode cX0_split 50 = .ok (.aload_n 0, 1) ∧ 50 + 1 = 51 := ⟨by decide +kernel, rfl⟩
theorem dX0_split_51 : decode cX0_split 51 = .ok (.getfield 82, 3) ∧ 51 + 3 = 54 := ⟨by decide +kernel, rfl⟩
theorem dX0_split_54 : decode cX0_split 54 = .ok (.iload 5, 2) ∧ 54 + 2 = 56 := ⟨by decide +kernel, rfl⟩
theorem dX0_split_56 : decode cX0_split 56 = .ok (.invokevirtual 78, 3) ∧ 56 + 3 = 59 := ⟨by decide +kernel, rfl⟩
theorem dX0_split_59 : decode cX0_split 59 = .ok (.istore 5, 2) ∧ 59 + 2 = 61 := ⟨by decide +kernel, rfl⟩
theorem dX0_split_61 : decode cX0_split 61 = .ok (.aload_n 0, 1) ∧ 61 + 1 = 62 := ⟨by decide +kernel, rfl⟩
theorem dX0_split_62 : decode cX0_split 62 = .ok (.getfield 24, 3) ∧ 62 + 3 = 65 := ⟨by decide +kernel, rfl⟩
theorem dX0_split_65 : decode cX0_split 65 = .ok (.iload_n 1, 1) ∧ 65 + 1 = 66 := ⟨by decide +kernel, rfl⟩
theorem dX0_split_66 : decode cX0_split 66 = .ok (.iload 4, 2) ∧ 66 + 2 = 68 := ⟨by decide +kernel, rfl⟩
theorem dX0_split_68 : decode cX0_split 68 = .ok (.i2s, 1) ∧ 68 + 1 = 69 := ⟨by decide +kernel, rfl⟩
theorem dX0_split_69 : decode cX0_split 69 = .ok (.sastore, 1) ∧ 69 + 1 = 70 := ⟨by decide +kernel, rfl⟩
theorem dX0_split_70 : decode cX0_split 70 = .ok (.aload_n 0, 1) ∧ 70 + 1 = 71 := ⟨by decide +kernel, rfl⟩
theorem dX0_split_71 : decode cX0_split 71 = .ok (.aload_n 0, 1) ∧ 71 + 1 = 72 := ⟨by decide +kernel, rfl⟩
theorem dX0_split_72 : decode cX0_split 72 = .ok (.getfield 24, 3) ∧ 72 + 3 = 75 := ⟨by decide +kernel, rfl⟩
theorem dX0_split_75 : decode cX0_split 75 = .ok (.iload_n 3, 1) ∧ 75 + 1 = 76 := ⟨by decide +kernel, rfl⟩
theorem dX0_split_76 : decode cX0_split 76 = .ok (.saload, 1) ∧ 76 + 1 = 77 := ⟨by decide +kernel, rfl⟩
theorem dX0_split_77 : decode cX0_split 77 = .ok (.invokevirtual 103, 3) ∧ 77 + 3 = 80 := ⟨by decide +kernel, rfl⟩
theorem dX0_split_80 : decode cX0_split 80 = .ok (.aload_n 0, 1) ∧ 80 + 1 = 81 := ⟨by decide +kernel, rfl⟩
theorem dX0_split_81 : decode cX0_split 81 = .ok (.getfield 24, 3) ∧ 81 + 3 = 84 := ⟨by decide +kernel, rfl⟩
theorem dX0_split_84 : decode cX0_split 84 = .ok (.iload_n 3, 1) ∧ 84 + 1 = 85 := ⟨by decide +kernel, rfl⟩
theorem dX0_split_85 : decode cX0_split 85 = .ok (.iload 5, 2) ∧ 85 + 2 = 87 := ⟨by decide +kernel, rfl⟩
theorem dX0_split_87 : decode cX0_split 87 = .ok (.i2s, 1) ∧ 87 + 1 = 88 := ⟨by decide +kernel, rfl⟩
theorem dX0_split_88 : decode cX0_split 88 = .ok (.sastore, 1) ∧ 88 + 1 = 89 := ⟨by decide +kernel, rfl⟩
theorem dX0_split_89 : decode cX0_split 89 = .ok (.aload_n 0, 1) ∧ 89 + 1 = 90 := ⟨by decide +kernel, rfl⟩
theorem dX0_split_90 : decode cX0_split 90 = .ok (.getfield 20, 3) ∧ 90 + 3 = 93 := ⟨by decide +kernel, rfl⟩
theorem dX0_split_93 : decode cX0_split 93 = .ok (.iload 5, 2) ∧ 93 + 2 = 95 := ⟨by decide +kernel, rfl⟩
theorem dX0_split_95 : decode cX0_split 95 = .ok (.baload, 1) ∧ 95 + 1 = 96 := ⟨by decide +kernel, rfl⟩
theorem dX0_split_96 : decode cX0_split 96 = .ok (.ireturn, 1) ∧ 96 + 1 = 97 := ⟨by decide +kernel, rfl⟩
theorem dX0_removeRange_0 : decode cX0_removeRange 0 = .ok (.aload_n 0, 1) ∧ 0 + 1 = 1 := ⟨by decide +kernel, rfl⟩
theorem dX0_removeRange_1 : decode cX0_removeRange 1 = .ok (.iload_n 1, 1) ∧ 1 + 1 = 2 := ⟨by decide +kernel, rfl⟩
theorem dX0_removeRange_2 : decode cX0_removeRange 2 = .ok (.invokevirtual 56, 3) ∧ 2 + 3 = 5 := ⟨by decide +kernel, rfl⟩
theorem dX0_removeRange_5 : decode cX0_removeRange 5 = .ok (.ifCond .ne 5, 3) ∧ 5 + 3 = 8 ∧ ((5 : Nat) : Int) + (5) = ((10 : Nat) : Int) := ⟨by decide +kernel, rfl, by decide⟩
theorem dX0_removeRange_8 : decode cX0_removeRange 8 = .ok (.iconst (-1), 1) ∧ 8 + 1 = 9 := ⟨by decide +kernel, rfl⟩
theorem dX0_removeRange_9 : decode cX0_removeRange 9 = .ok (.ireturn, 1) ∧ 9 + 1 = 10 := ⟨by decide +kernel, rfl⟩
theorem dX0_removeRange_10 : decode cX0_removeRange 10 = .ok (.iload_n 2, 1) ∧ 10 + 1 = 11 := ⟨by decide +kernel, rfl⟩
theorem dX0_removeRange_11 : decode cX0_removeRange 11 = .ok (.iload_n 3, 1) ∧ 11 + 1 = 12 := ⟨by decide +kernel, rfl⟩
theorem dX0_removeRange_12 : decode cX0_removeRange 12 = .ok (.if_icmp .le 5, 3) ∧ 12 + 3 = 15 ∧ ((12 : Nat) : Int) + (5) = ((17 : Nat) : Int) := ⟨by decide +kernel, rfl, by decide⟩
theorem dX0_removeRange_15 : decode cX0_removeRange 15 = .ok (.iconst 0, 1) ∧ 15 + 1 = 16 := ⟨by decide +kernel, rfl⟩
theorem dX0_removeRange_16 : decode cX0_removeRange 16 = .ok (.ireturn, 1) ∧ 16 + 1 = 17 := ⟨by decide +kernel, rfl⟩
theorem dX0_removeRange_17 : decode cX0_removeRange 17 = .ok (.aload_n 0, 1) ∧ 17 + 1 = 18 := ⟨by decide +kernel, rfl⟩
theorem dX0_removeRange_18 : decode cX0_removeRange 18 = .ok (.getfield 20, 3) ∧ 18 + 3 = 21 := ⟨by decide +kernel, rfl⟩
theorem dX0_removeRange_21 : decode cX0_removeRange 21 = .ok (.aload_n 0, 1) ∧ 21 + 1 = 22 := ⟨by decide +kernel, rfl⟩
theorem dX0_removeRange_22 : decode cX0_removeRange 22 = .ok (.getfield 24, 3) ∧ 22 + 3 = 25 := ⟨by decide +kernel, rfl⟩
theorem dX0_removeRange_25 : decode cX0_removeRange 25 = .ok (.iload_n 1, 1) ∧ 25 + 1 = 26 := ⟨by decide +kernel, rfl⟩
theorem dX0_removeRange_26 : decode cX0_removeRange 26 = .ok (.saload, 1) ∧ 26 + 1 = 27 := ⟨by decide +kernel, rfl⟩
theorem dX0_removeRange_27 : decode cX0_removeRange 27 = .ok (.baload, 1) ∧ 27 + 1 = 28 := ⟨by decide +kernel, rfl⟩
theorem dX0_removeRange_28 : decode cX0_removeRange 28 = .ok (.istore 4, 2) ∧ 28 + 2 = 30 := ⟨by decide +kernel, rfl⟩
theorem dX0_removeRange_30 : decode cX0_removeRange 30 = .ok (.aload_n 0, 1) ∧ 30 + 1 = 31 := ⟨by decide +kernel, rfl⟩
theorem dX0_removeRange_31 : decode cX0_removeRange 31 = .ok (.aload_n 0, 1) ∧ 31 + 1 = 32 := ⟨by decide +kernel, rfl⟩
theorem dX0_removeRange_32 : decode cX0_removeRange 32 = .ok (.getfield 24, 3) ∧ 32 + 3 = 35 := ⟨by decide +kernel, rfl⟩
theorem dX0_removeRange_35 : decode cX0_removeRange 35 = .ok (.iload_n 1, 1) ∧ 35 + 1 = 36 := ⟨by decide +kernel, rfl⟩
theorem dX0_removeRange_36 : decode cX0_removeRange 36 = .ok (.saload, 1) ∧ 36 + 1 = 37 := ⟨by decide +kernel, rfl⟩
theorem dX0_removeRange_37 : decode cX0_removeRange 37 = .ok (.iload_n 2, 1) ∧ 37 + 1 = 38 := ⟨by decide +kernel, rfl⟩
theorem dX0_removeRange_38 : decode cX0_removeRange 38 = .ok (.invokevirtual 64, 3) ∧ 38 + 3 = 41 := ⟨by decide +kernel, rfl⟩
theorem dX0_removeRange_41 : decode cX0_removeRange 41 = .ok (.aload_n 0, 1) ∧ 41 + 1 = 42 := ⟨by decide +kernel, rfl⟩
theorem dX0_removeRange_42 : decode cX0_removeRange 42 = .ok (.getfield 75, 3) ∧ 42 + 3 = 45 := ⟨by decide +kernel, rfl⟩
theorem dX0_removeRange_45 : decode cX0_removeRange 45 = .ok (.istore 5, 2) ∧ 45 + 2 = 47 := ⟨by decide +kernel, rfl⟩
theorem dX0_removeRange_47 : decode cX0_removeRange 47 = .ok (.aload_n 0, 1) ∧ 47 + 1 = 48 := ⟨by decide +kernel, rfl⟩
theorem dX0_removeRange_48 : decode cX0_removeRange 48 = .ok (.getfield 68, 3) ∧ 48 + 3 = 51 := ⟨by decide +kernel, rfl⟩
theorem dX0_removeRange_51 : decode cX0_removeRange 51 = .ok (.istore 6, 2) ∧ 51 + 2 = 53 := ⟨by decide +kernel, rfl⟩
theorem dX0_removeRange_53 : decode cX0_removeRange 53 = .ok (.aload_n 0, 1) ∧ 53 + 1 = 54 := ⟨by decide +kernel, rfl⟩
theorem dX0_removeRange_54 : decode cX0_removeRange 54 = .ok (.aload_n 0, 1) ∧ 54 + 1 = 55 := ⟨by decide +kernel, rfl⟩
theorem dX0_removeRange_55 : decode cX0_removeRange 55 = .ok (.getfield 82, 3) ∧ 55 + 3 = 58 := ⟨by decide +kernel, rfl⟩
theorem dX0_removeRange_58 : decode cX0_removeRange 58 = .ok (.invokevirtual 85, 3) ∧ 58 + 3 = 61 := ⟨by decide +kernel, rfl⟩
theorem dX0_removeRange_61 : decode cX0_removeRange 61 = .ok (.aload_n 0, 1) ∧ 61 + 1 = 62 := ⟨by decide +kernel, rfl⟩
theorem dX0_removeRange_62 : decode cX0_removeRange 62 = .ok (.iload 6, 2) ∧ 62 + 2 = 64 := ⟨by decide +kernel, rfl⟩
theorem dX0_removeRange_64 : decode cX0_removeRange 64 = .ok (.iload_n 3, 1) ∧ 64 + 1 = 65 := ⟨by decide +kernel, rfl⟩
theorem dX0_removeRange_65 : decode cX0_removeRange 65 = .ok (.invokevirtual 64, 3) ∧ 65 + 3 = 68 := ⟨by decide +kernel, rfl⟩
theorem dX0_removeRange_68 : decode cX0_removeRange 68 = .ok (.aload_n 0, 1) ∧ 68 + 1 = 69 := ⟨by decide +kernel, rfl⟩
theorem dX0_removeRange_69 : decode cX0_removeRange 69 = .ok (.getfield 68, 3) ∧ 69 + 3 = 72 := ⟨by decide +kernel, rfl⟩
theorem dX0_removeRange_72 : decode cX0_removeRange 72 = .ok (.istore 7, 2) ∧ 72 + 2 = 74 := ⟨by decide +kernel, rfl⟩
theorem dX0_removeRange_74 : decode cX0_removeRange 74 = .ok (.aload_n 0, 1) ∧ 74 + 1 = 75 := ⟨by decide +kernel, rfl⟩
theorem dX0_removeRange_75 : decode cX0_removeRange 75 = .ok (.aload_n 0, 1) ∧ 75 + 1 = 76 := ⟨by decide +kernel, rfl⟩
theorem dX0_removeRange_76 : decode cX0_removeRange 76 = .ok (.getfield 82, 3) ∧ 76 + 3 = 79 := ⟨by decide +kernel, rfl⟩
theorem dX0_removeRange_79 : decode cX0_removeRange 79 = .ok (.invokevirtual 85, 3) ∧ 79 + 3 = 82 := ⟨by decide +kernel, rfl⟩
theorem dX0_removeRange_82 : decode cX0_removeRange 82 = .ok (.aload_n 0, 1) ∧ 82 + 1 = 83 := ⟨by decide +kernel, rfl⟩
theorem dX0_removeRange_83 : decode cX0_removeRange 83 = .ok (.aload_n 0, 1) ∧ 83 + 1 = 84 := ⟨by decide +kernel, rfl⟩
theorem dX0_removeRange_84 : decode cX0_removeRange 84 = .ok (.getfield 75, 3) ∧ 84 + 3 = 87 := ⟨by decide +kernel, rfl⟩
theorem dX0_removeRange_87 : decode cX0_removeRange 87 = .ok (.invokevirtual 103, 3) ∧ 87 + 3 = 90 := ⟨by decide +kernel, rfl⟩
theorem dX0_removeRange_90 : decode cX0_removeRange 90 = .ok (.aload_n 0, 1) ∧ 90 + 1 = 91 := ⟨by decide +kernel, rfl⟩
theorem dX0_removeRange_91 : decode cX0_removeRange 91 = .ok (.getfield 24, 3) ∧ 91 + 3 = 94 := ⟨by decide +kernel, rfl⟩
theorem dX0_removeRange_94 : decode cX0_removeRange 94 = .ok (.iload_n 1, 1) ∧ 94 + 1 = 95 := ⟨by decide +kernel, rfl⟩
theorem dX0_removeRange_95 : decode cX0_removeRange 95 = .ok (.aload_n 0, 1) ∧ 95 + 1 = 96 := ⟨by decide +kernel, rfl⟩
theorem dX0_removeRange_96 : decode cX0_removeRange 96 = .ok (.iload 5, 2) ∧ 96 + 2 = 98 := ⟨by decide +kernel, rfl⟩
theorem dX0_removeRange_98 : decode cX0_removeRange 98 = .ok (.iload 7, 2) ∧ 98 + 2 = 100 := ⟨by decide +kernel, rfl⟩
theorem dX0_removeRange_100 : decode cX0_removeRange 100 = .ok (.invokevirtual 89, 3) ∧ 100 + 3 = 103 := ⟨by decide +kernel, rfl⟩
theorem dX0_removeRange_103 : decode cX0_removeRange 103 = .ok (.i2s, 1) ∧ 103 + 1 = 104 := ⟨by decide +kernel, rfl⟩
theorem dX0_removeRange_104 : decode cX0_removeRange 104 = .ok (.sastore, 1) ∧ 104 + 1 = 105 := ⟨by decide +kernel, rfl⟩
theorem dX0_removeRange_105 : decode cX0_removeRange 105 = .ok (.iload 4, 2) ∧ 105 + 2 = 107 := ⟨by decide +kernel, rfl⟩
theorem dX0_removeRange_107 : decode cX0_removeRange 107 = .ok (.aload_n 0, 1) ∧ 107 + 1 = 108 := ⟨by decide +kernel, rfl⟩
theorem dX0_removeRange_108 : decode cX0_removeRange 108 = .ok (.getfield 20, 3) ∧ 108 + 3 = 111 := ⟨by decide +kernel, rfl⟩
theorem dX0_removeRange_111 : decode cX0_removeRange 111 = .ok (.aload_n 0, 1) ∧ 111 + 1 = 112 := ⟨by decide +kernel, rfl⟩
theorem dX0_removeRange_112 : decode cX0_removeRange 112 = .ok (.getfield 24, 3) ∧ 112 + 3 = 115 := ⟨by decide +kernel, rfl⟩
theorem dX0_removeRange_115 : decode cX0_removeRange 115 = .ok (.iload_n 1, 1) ∧ 115 + 1 = 116 := ⟨by decide +kernel, rfl⟩
theorem dX0_removeRange_116 : decode cX0_removeRange 116 = .ok (.saload, 1) ∧ 116 + 1 = 117 := ⟨by decide +kernel, rfl⟩
theorem dX0_removeRange_117 : decode cX0_removeRange 117 = .ok (.baload, 1) ∧ 117 + 1 = 118 := ⟨by decide +kernel, rfl⟩
theorem dX0_removeRange_118 : decode cX0_removeRange 118 = .ok (.isub, 1) ∧ 118 + 1 = 119 := ⟨by decide +kernel, rfl⟩
theorem dX0_removeRange_119 : decode cX0_removeRange 119 = .ok (.ireturn, 1) ∧ 119 + 1 = 120 := ⟨by decide +kernel, rfl⟩
theorem dX0_same_0 : decode cX0_same 0 = .ok (.aload_n 0, 1) ∧ 0 + 1 = 1 := ⟨by decide +kernel, rfl⟩
theorem dX0_same_1 : decode cX0_same 1 = .ok (.iload_n 1, 1) ∧ 1 + 1 = 2 := ⟨by decide +kernel, rfl⟩
theorem dX0_same_2 : decode cX0_same 2 = .ok (.iload_n 2, 1) ∧ 2 + 1 = 3 := ⟨by decide +kernel, rfl⟩
theorem dX0_same_3 : decode cX0_same 3 = .ok (.invokevirtual 106, 3) ∧ 3 + 3 = 6 := ⟨by decide +kernel, rfl⟩
theorem dX0_same_6 : decode cX0_same 6 = .ok (.ifCond .eq 16, 3) ∧ 6 + 3 = 9 ∧ ((6 : Nat) : Int) + (16) = ((22 : Nat) : Int) := ⟨by decide +kernel, rfl, by decide⟩
theorem dX0_same_9 : decode cX0_same 9 = .ok (.aload_n 0, 1) ∧ 9 + 1 = 10 := ⟨by decide +kernel, rfl⟩
theorem dX0_same_10 : decode cX0_same 10 = .ok (.iload_n 2, 1) ∧ 10 + 1 = 11 := ⟨by decide +kernel, rfl⟩
theorem dX0_same_11 : decode cX0_same 11 = .ok (.iload_n 1, 1) ∧ 11 + 1 = 12 := ⟨by decide +kernel, rfl⟩
theorem dX0_same_12 : decode cX0_same 12 = .ok (.invokevirtual 106, 3) ∧ 12 + 3 = 15 := ⟨by decide +kernel, rfl⟩
theorem dX0_same_15 : decode cX0_same 15 = .ok (.ifCond .eq 7, 3) ∧ 15 + 3 = 18 ∧ ((15 : Nat) : Int) + (7) = ((22 : Nat) : Int) := ⟨by decide +kernel, rfl, by decide⟩
theorem dX0_same_18 : decode cX0_same 18 = .ok (.iconst 1, 1) ∧ 18 + 1 = 19 := ⟨by decide +kernel, rfl⟩
theorem dX0_same_19 : decode cX0_same 19 = .ok (.goto 4, 3) ∧ 19 + 3 = 22 ∧ ((19 : Nat) : Int) + (4) = ((23 : Nat) : Int) := ⟨by decide +kernel, rfl, by decide⟩
theorem dX0_same_22 : decode cX0_same 22 = .ok (.iconst 0, 1) ∧ 22 + 1 = 23 := ⟨by decide +kernel, rfl⟩
theorem dX0_same_23 : decode cX0_same 23 = .ok (.ireturn, 1) ∧ 23 + 1 = 24 := ⟨by decide +kernel, rfl⟩
theorem dX0_within_0 : decode cX0_within 0 = .ok (.aload_n 0, 1) ∧ 0 + 1 = 1 := ⟨by decide +kernel, rfl⟩
theorem dX0_within_1 : decode cX0_within 1 = .ok (.iload_n 1, 1) ∧ 1 + 1 = 2 := ⟨by decide +kernel, rfl⟩
theorem dX0_within_2 : decode cX0_within 2 = .ok (.invokevirtual 56, 3) ∧ 2 + 3 = 5 := ⟨by decide +kernel, rfl⟩
theorem dX0_within_5 : decode cX0_within 5 = .ok (.ifCond .eq 11, 3) ∧ 5 + 3 = 8 ∧ ((5 : Nat) : Int) + (11) = ((16 : Nat) : Int) := ⟨by decide +kernel, rfl, by decide⟩
theorem dX0_within_8 : decode cX0_within 8 = .ok (.aload_n 0, 1) ∧ 8 + 1 = 9 := ⟨by decide +kernel, rfl⟩
theorem dX0_within_9 : decode cX0_within 9 = .ok (.iload_n 2, 1) ∧ 9 + 1 = 10 := ⟨by decide +kernel, rfl⟩
theorem dX0_within_10 : decode cX0_within 10 = .ok (.invokevirtual 56, 3) ∧ 10 + 3 = 13 := ⟨by decide +kernel, rfl⟩
theorem dX0_within_13 : decode cX0_within 13 = .ok (.ifCond .ne 5, 3) ∧ 13 + 3 = 16 ∧ ((13 : Nat) : Int) + (5) = ((18 : Nat) : Int) := ⟨by decide +kernel, rfl, by decide⟩
theorem dX0_within_16 : decode cX0_within 16 = .ok (.iconst 0, 1) ∧ 16 + 1 = 17 := ⟨by decide +kernel, rfl⟩
theorem dX0_within_17 : decode cX0_within 17 = .ok (.ireturn, 1) ∧ 17 + 1 = 18 := ⟨by decide +kernel, rfl⟩
theorem dX0_within_18 : decode cX0_within 18 = .ok (.aload_n 0, 1) ∧ 18 + 1 = 19 := ⟨by decide +kernel, rfl⟩
theorem dX0_within_19 : decode cX0_within 19 = .ok (.aload_n 0, 1) ∧ 19 + 1 = 20 := ⟨by decide +kernel, rfl⟩
theorem dX0_within_20 : decode cX0_within 20 = .ok (.getfield 24, 3) ∧ 20 + 3 = 23 := ⟨by decide +kernel, rfl⟩
theorem dX0_within_23 : decode cX0_within 23 = .ok (.iload_n 1, 1) ∧ 23 + 1 = 24 := ⟨by decide +kernel, rfl⟩
theorem dX0_within_24 : decode cX0_within 24 = .ok (.saload, 1) ∧ 24 + 1 = 25 := ⟨by decide +kernel, rfl⟩
theorem dX0_within_25 : decode cX0_within 25 = .ok (.invokevirtual 93, 3) ∧ 25 + 3 = 28 := ⟨by decide +kernel, rfl⟩
theorem dX0_within_28 : decode cX0_within 28 = .ok (.istore_n 3, 1) ∧ 28 + 1 = 29 := ⟨by decide +kernel, rfl⟩
theorem dX0_within_29 : decode cX0_within 29 = .ok (.aload_n 0, 1) ∧ 29 + 1 = 30 := ⟨by decide +kernel, rfl⟩
theorem dX0_within_30 : decode cX0_within 30 = .ok (.aload_n 0, 1) ∧ 30 + 1 = 31 := ⟨by decide +kernel, rfl⟩
theorem dX0_within_31 : decode cX0_within 31 = .ok (.getfield 24, 3) ∧ 31 + 3 = 34 := ⟨by decide +kernel, rfl⟩
theorem dX0_within_34 : decode cX0_within 34 = .ok (.iload_n 2, 1) ∧ 34 + 1 = 35 := ⟨by decide +kernel, rfl⟩
theorem dX0_within_35 : decode cX0_within 35 = .ok (.saload, 1) ∧ 35 + 1 = 36 := ⟨by decide +kernel, rfl⟩
theorem dX0_within_36 : decode cX0_within 36 = .ok (.invokevirtual 93, 3) ∧ 36 + 3 = 39 := ⟨by decide +kernel, rfl⟩
theorem dX0_within_39 : decode cX0_within 39 = .ok (.istore 4, 2) ∧ 39 + 2 = 41 := ⟨by decide +kernel, rfl⟩
theorem dX0_within_41 : decode cX0_within 41 = .ok (.aload_n 0, 1) ∧ 41 + 1 = 42 := ⟨by decide +kernel, rfl⟩
theorem dX0_within_42 : decode cX0_within 42 = .ok (.iconst 2, 1) ∧ 42 + 1 = 43 := ⟨by decide +kernel, rfl⟩
theorem dX0_within_43 : decode cX0_within 43 = .ok (.iload_n 3, 1) ∧ 43 + 1 = 44 := ⟨by decide +kernel, rfl⟩
theorem dX0_within_44 : decode cX0_within 44 = .ok (.iload 4, 2) ∧ 44 + 2 = 46 := ⟨by decide +kernel, rfl⟩
theorem dX0_within_46 : decode cX0_within 46 = .ok (.invokevirtual 100, 3) ∧ 46 + 3 = 49 := ⟨by decide +kernel, rfl⟩
theorem dX0_within_49 : decode cX0_within 49 = .ok (.istore 5, 2) ∧ 49 + 2 = 51 := ⟨by decide +kernel, rfl⟩
theorem dX0_within_51 : decode cX0_within 51 = .ok (.iload 5, 2) ∧ 51 + 2 = 53 := ⟨by decide +kernel, rfl⟩
theorem dX0_within_53 : decode cX0_within 53 = .ok (.ifCond .ne 7, 3) ∧ 53 + 3 = 56 ∧ ((53 : Nat) : Int) + (7) = ((60 : Nat) : Int) := ⟨by decide +kernel, rfl, by decide⟩
theorem dX0_within_56 : decode cX0_within 56 = .ok (.iconst 1, 1) ∧ 56 + 1 = 57 := ⟨by decide +kernel, rfl⟩
theorem dX0_within_57 : decode cX0_within 57 = .ok (.goto 4, 3) ∧ 57 + 3 = 60 ∧ ((57 : Nat) : Int) + (4) = ((61 : Nat) : Int) := ⟨by decide +kernel, rfl, by decide⟩
theorem dX0_within_60 : decode cX0_within 60 = .ok (.iconst 0, 1) ∧ 60 + 1 = 61 := ⟨by decide +kernel, rfl⟩
theorem dX0_within_61 : decode cX0_within 61 = .ok (.istore 6, 2) ∧ 61 + 2 = 63 := ⟨by decide +kernel, rfl⟩
theorem dX0_within_63 : decode cX0_within 63 = .ok (.aload_n 0, 1) ∧ 63 + 1 = 64 := ⟨by decide +kernel, rfl⟩
theorem dX0_within_64 : decode cX0_within 64 = .ok (.iload 5, 2) ∧ 64 + 2 = 66 := ⟨by decide +kernel, rfl⟩
theorem dX0_within_66 : decode cX0_within 66 = .ok (.invokevirtual 103, 3) ∧ 66 + 3 = 69 := ⟨by decide +kernel, rfl⟩
theorem dX0_within_69 : decode cX0_within 69 = .ok (.iload 6, 2) ∧ 69 + 2 = 71 := ⟨by decide +kernel, rfl⟩
theorem dX0_within_71 : decode cX0_within 71 = .ok (.ireturn, 1) ∧ 71 + 1 = 72 := ⟨by decide +kernel, rfl⟩
theorem dX0_ceiling_0 : decode cX0_ceiling 0 = .ok (.aload_n 0, 1) ∧ 0 + 1 = 1 := ⟨by decide +kernel, rfl⟩
theorem dX0_ceiling_1 : decode cX0_ceiling 1 = .ok (.iload_n 1, 1) ∧ 1 + 1 = 2 := ⟨by decide +kernel, rfl⟩
theorem dX0_ceiling_2 : decode cX0_ceiling 2 = .ok (.invokevirtual 56, 3) ∧ 2 + 3 = 5 := ⟨by decide +kernel, rfl⟩
theorem dX0_ceiling_5 : decode cX0_ceiling 5 = .ok (.ifCond .ne 5, 3) ∧ 5 + 3 = 8 ∧ ((5 : Nat) : Int) + (5) = ((10 : Nat) : Int) := ⟨by decide +kernel, rfl, by decide⟩
theorem dX0_ceiling_8 : decode cX0_ceiling 8 = .ok (.iconst (-1), 1) ∧ 8 + 1 = 9 := ⟨by decide +kernel, rfl⟩
theorem dX0_ceiling_9 : decode cX0_ceiling 9 = .ok (.ireturn, 1) ∧ 9 + 1 = 10 := ⟨by decide +kernel, rfl⟩
theorem dX0_ceiling_10 : decode cX0_ceiling 10 = .ok (.aload_n 0, 1) ∧ 10 + 1 = 11 := ⟨by decide +kernel, rfl⟩
theorem dX0_ceiling_11 : decode cX0_ceiling 11 = .ok (.iload_n 1, 1) ∧ 11 + 1 = 12 := ⟨by decide +kernel, rfl⟩
theorem dX0_ceiling_12 : decode cX0_ceiling 12 = .ok (.iload_n 2, 1) ∧ 12 + 1 = 13 := ⟨by decide +kernel, rfl⟩
theorem dX0_ceiling_13 : decode cX0_ceiling 13 = .ok (.invokevirtual 109, 3) ∧ 13 + 3 = 16 := ⟨by decide +kernel, rfl⟩
theorem dX0_ceiling_16 : decode cX0_ceiling 16 = .ok (.istore_n 3, 1) ∧ 16 + 1 = 17 := ⟨by decide +kernel, rfl⟩
theorem dX0_ceiling_17 : decode cX0_ceiling 17 = .ok (.iload_n 3, 1) ∧ 17 + 1 = 18 := ⟨by decide +kernel, rfl⟩
theorem dX0_ceiling_18 : decode cX0_ceiling 18 = .ok (.aload_n 0, 1) ∧ 18 + 1 = 19 := ⟨by decide +kernel, rfl⟩
theorem dX0_ceiling_19 : decode cX0_ceiling 19 = .ok (.getfield 20, 3) ∧ 19 + 3 = 22 := ⟨by decide +kernel, rfl⟩
theorem dX0_ceiling_22 : decode cX0_ceiling 22 = .ok (.aload_n 0, 1) ∧ 22 + 1 = 23 := ⟨by decide +kernel, rfl⟩
theorem dX0_ceiling_23 : decode cX0_ceiling 23 = .ok (.getfield 24, 3) ∧ 23 + 3 = 26 := ⟨by decide +kernel, rfl⟩
theorem dX0_ceiling_26 : decode cX0_ceiling 26 = .ok (.iload_n 1, 1) ∧ 26 + 1 = 27 := ⟨by decide +kernel, rfl⟩
theorem dX0_ceiling_27 : decode cX0_ceiling 27 = .ok (.saload, 1) ∧ 27 + 1 = 28 := ⟨by decide +kernel, rfl⟩
theorem dX0_ceiling_28 : decode cX0_ceiling 28 = .ok (.baload, 1) ∧ 28 + 1 = 29 := ⟨by decide +kernel, rfl⟩
theorem dX0_ceiling_29 : decode cX0_ceiling 29 = .ok (.if_icmp .ge 7, 3) ∧ 29 + 3 = 32 ∧ ((29 : Nat) : Int) + (7) = ((36 : Nat) : Int) := ⟨by decide +kernel, rfl, by decide⟩
theorem dX0_ceiling_32 : decode cX0_ceiling 32 = .ok (.iload_n 3, 1) ∧ 32 + 1 = 33 := ⟨by decide +kernel, rfl⟩
theorem dX0_ceiling_33 : decode cX0_ceiling 33 = .ok (.goto 5, 3) ∧ 33 + 3 = 36 ∧ ((33 : Nat) : Int) + (5) = ((38 : Nat) : Int) := ⟨by decide +kernel, rfl, by decide⟩
theorem dX0_ceiling_36 : decode cX0_ceiling 36 = .ok (.bipush (-3), 2) ∧ 36 + 2 = 38 := ⟨by decide +kernel, rfl⟩
theorem dX0_ceiling_38 : decode cX0_ceiling 38 = .ok (.ireturn, 1) ∧ 38 + 1 = 39 := ⟨by decide +kernel, rfl⟩
theorem dX0_clear_0 : decode cX0_clear 0 = .ok (.aload_n 0, 1) ∧ 0 + 1 = 1 := ⟨by decide +kernel, rfl⟩
theorem dX0_clear_1 : decode cX0_clear 1 = .ok (.iload_n 1, 1) ∧ 1 + 1 = 2 := ⟨by decide +kernel, rfl⟩
theorem dX0_clear_2 : decode cX0_clear 2 = .ok (.invokevirtual 56, 3) ∧ 2 + 3 = 5 := ⟨by decide +kernel, rfl⟩
theorem dX0_clear_5 : decode cX0_clear 5 = .ok (.ifCond .ne 5, 3) ∧ 5 + 3 = 8 ∧ ((5 : Nat) : Int) + (5) = ((10 : Nat) : Int) := ⟨by decide +kernel, rfl, by decide⟩
theorem dX0_clear_8 : decode cX0_clear 8 = .ok (.iconst (-1), 1) ∧ 8 + 1 = 9 := ⟨by decide +kernel, rfl⟩
theorem dX0_clear_9 : decode cX0_clear 9 = .ok (.ireturn, 1) ∧ 9 + 1 = 10 := ⟨by decide +kernel, rfl⟩
theorem dX0_clear_10 : decode cX0_clear 10 = .ok (.aload_n 0, 1) ∧ 10 + 1 = 11 := ⟨by decide +kernel, rfl⟩
theorem dX0_clear_11 : decode cX0_clear 11 = .ok (.getfield 20, 3) ∧ 11 + 3 = 14 := ⟨by decide +kernel, rfl⟩
theorem dX0_clear_14 : decode cX0_clear 14 = .ok (.aload_n 0, 1) ∧ 14 + 1 = 15 := ⟨by decide +kernel, rfl⟩
theorem dX0_clear_15 : decode cX0_clear 15 = .ok (.getfield 24, 3) ∧ 15 + 3 = 18 := ⟨by decide +kernel, rfl⟩
theorem dX0_clear_18 : decode cX0_clear 18 = .ok (.iload_n 1, 1) ∧ 18 + 1 = 19 := ⟨by decide +kernel, rfl⟩
theorem dX0_clear_19 : decode cX0_clear 19 = .ok (.saload, 1) ∧ 19 + 1 = 20 := ⟨by decide +kernel, rfl⟩
theorem dX0_clear_20 : decode cX0_clear 20 = .ok (.baload, 1) ∧ 20 + 1 = 21 := ⟨by decide +kernel, rfl⟩
theorem dX0_clear_21 : decode cX0_clear 21 = .ok (.istore_n 2, 1) ∧ 21 + 1 = 22 := ⟨by decide +kernel, rfl⟩
theorem dX0_clear_22 : decode cX0_clear 22 = .ok (.aload_n 0, 1) ∧ 22 + 1 = 23 := ⟨by decide +kernel, rfl⟩
theorem dX0_clear_23 : decode cX0_clear 23 = .ok (.aload_n 0, 1) ∧ 23 + 1 = 24 := ⟨by decide +kernel, rfl⟩
theorem dX0_clear_24 : decode cX0_clear 24 = .ok (.getfield 24, 3) ∧ 24 + 3 = 27 := ⟨by decide +kernel, rfl⟩
theorem dX0_clear_27 : decode cX0_clear 27 = .ok (.iload_n 1, 1) ∧ 27 + 1 = 28 := ⟨by decide +kernel, rfl⟩
theorem dX0_clear_28 : decode cX0_clear 28 = .ok (.saload, 1) ∧ 28 + 1 = 29 := ⟨by decide +kernel, rfl⟩
theorem dX0_clear_29 : decode cX0_clear 29 = .ok (.invokevirtual 103, 3) ∧ 29 + 3 = 32 := ⟨by decide +kernel, rfl⟩
theorem dX0_clear_32 : decode cX0_clear 32 = .ok (.aload_n 0, 1) ∧ 32 + 1 = 33 := ⟨by decide +kernel, rfl⟩
theorem dX0_clear_33 : decode cX0_clear 33 = .ok (.getfield 24, 3) ∧ 33 + 3 = 36 := ⟨by decide +kernel, rfl⟩
theorem dX0_clear_36 : decode cX0_clear 36 = .ok (.iload_n 1, 1) ∧ 36 + 1 = 37 := ⟨by decide +kernel, rfl⟩
theorem dX0_clear_37 : decode cX0_clear 37 = .ok (.iconst 0, 1) ∧ 37 + 1 = 38 := ⟨by decide +kernel, rfl⟩
theorem dX0_clear_38 : decode cX0_clear 38 = .ok (.sastore, 1) ∧ 38 + 1 = 39 := ⟨by decide +kernel, rfl⟩
theorem dX0_clear_39 : decode cX0_clear 39 = .ok (.iload_n 2, 1) ∧ 39 + 1 = 40 := ⟨by decide +kernel, rfl⟩
theorem dX0_clear_40 : decode cX0_clear 40 = .ok (.ireturn, 1) ∧ 40 + 1 = 41 := ⟨by decide +kernel, rfl⟩
theorem dX1_init_0 : decode cX1_init 0 = .ok (.aload_n 0, 1) ∧ 0 + 1 = 1 := ⟨by decide +kernel, rfl⟩
theorem dX1_init_1 : decode cX1_init 1 = .ok (.invokespecial 1, 3) ∧ 1 + 3 = 4 := ⟨by decide +kernel, rfl⟩
theorem dX1_init_4 : decode cX1_init 4 = .ok (.aload_n 0, 1) ∧ 4 + 1 = 5 := ⟨by decide +kernel, rfl⟩
theorem dX1_init_5 : decode cX1_init 5 = .ok (.bipush 80, 2) ∧ 5 + 2 = 7 := ⟨by decide +kernel, rfl⟩
theorem dX1_init_7 : decode cX1_init 7 = .ok (.newarray .int, 2) ∧ 7 + 2 = 9 := ⟨by decide +kernel, rfl⟩
theorem dX1_init_9 : decode cX1_init 9 = .ok (.putfield 7, 3) ∧ 9 + 3 = 12 := ⟨by decide +kernel, rfl⟩
theorem dX1_init_12 : decode cX1_init 12 = .ok (.aload_n 0, 1) ∧ 12 + 1 = 13 := ⟨by decide +kernel, rfl⟩
theorem dX1_init_13 : decode cX1_init 13 = .ok (.iconst 4, 1) ∧ 13 + 1 = 14 := ⟨by decide +kernel, rfl⟩
theorem dX1_init_14 : decode cX1_init 14 = .ok (.newarray .int, 2) ∧ 14 + 2 = 16 := ⟨by decide +kernel, rfl⟩
theorem dX1_init_16 : decode cX1_init 16 = .ok (.putfield 13, 3) ∧ 16 + 3 = 19 := ⟨by decide +kernel, rfl⟩
theorem dX1_init_19 : decode cX1_init 19 = .ok (.aload_n 0, 1) ∧ 19 + 1 = 20 := ⟨by decide +kernel, rfl⟩
theorem dX1_init_20 : decode cX1_init 20 = .ok (.bipush 40, 2) ∧ 20 + 2 = 22 := ⟨by decide +kernel, rfl⟩
theorem dX1_init_22 : decode cX1_init 22 = .ok (.newarray .int, 2) ∧ 22 + 2 = 24 := ⟨by decide +kernel, rfl⟩
theorem dX1_init_24 : decode cX1_init 24 = .ok (.putfield 16, 3) ∧ 24 + 3 = 27 := ⟨by decide +kernel, rfl⟩
theorem dX1_init_27 : decode cX1_init 27 = .ok (.return_, 1) ∧ 27 + 1 = 28 := ⟨by decide +kernel, rfl⟩
theorem dX1_add_0 : decode cX1_add 0 = .ok (.aload_n 0, 1) ∧ 0 + 1 = 1 := ⟨by decide +kernel, rfl⟩
theorem dX1_add_1 : decode cX1_add 1 = .ok (.iload_n 1, 1) ∧ 1 + 1 = 2 := ⟨by decide +kernel, rfl⟩
theorem dX1_add_2 : decode cX1_add 2 = .ok (.invokevirtual 19, 3) ∧ 2 + 3 = 5 := ⟨by decide +kernel, rfl⟩
theorem dX1_add_5 : decode cX1_add 5 = .ok (.ifCond .ne 5, 3) ∧ 5 + 3 = 8 ∧ ((5 : Nat) : Int) + (5) = ((10 : Nat) : Int) := ⟨by decide +kernel, rfl, by decide⟩
theorem dX1_add_8 : decode cX1_add 8 = .ok (.iconst (-1), 1) ∧ 8 + 1 = 9 := ⟨by decide +kernel, rfl⟩
theorem dX1_add_9 : decode cX1_add 9 = .ok (.ireturn, 1) ∧ 9 + 1 = 10 := ⟨by decide +kernel, rfl⟩
theorem dX1_add_10 : decode cX1_add 10 = .ok (.aload_n 0, 1) ∧ 10 + 1 = 11 := ⟨by decide +kernel, rfl⟩
theorem dX1_add_11 : decode cX1_add 11 = .ok (.iload_n 1, 1) ∧ 11 + 1 = 12 := ⟨by decide +kernel, rfl⟩
theorem dX1_add_12 : decode cX1_add 12 = .ok (.iload_n 2, 1) ∧ 12 + 1 = 13 := ⟨by decide +kernel, rfl⟩
theorem dX1_add_13 : decode cX1_add 13 = .ok (.invokevirtual 23, 3) ∧ 13 + 3 = 16 := ⟨by decide +kernel, rfl⟩
theorem dX1_add_16 : decode cX1_add 16 = .ok (.ifCond .eq 5, 3) ∧ 16 + 3 = 19 ∧ ((16 : Nat) : Int) + (5) = ((21 : Nat) : Int) := ⟨by decide +kernel, rfl, by decide⟩
theorem dX1_add_19 : decode cX1_add 19 = .ok (.iconst 0, 1) ∧ 19 + 1 = 20 := ⟨by decide +kernel, rfl⟩
theorem dX1_add_20 : decode cX1_add 20 = .ok (.ireturn, 1) ∧ 20 + 1 = 21 := ⟨by decide +kernel, rfl⟩
theorem dX1_add_21 : decode cX1_add 21 = .ok (.aload_n 0, 1) ∧ 21 + 1 = 22 := ⟨by decide +kernel, rfl⟩
theorem dX1_add_22 : decode cX1_add 22 = .ok (.getfield 13, 3) ∧ 22 + 3 = 25 := ⟨by decide +kernel, rfl⟩
theorem dX1_add_25 : decode cX1_add 25 = .ok (.iload_n 1, 1) ∧ 25 + 1 = 26 := ⟨by decide +kernel, rfl⟩
theorem dX1_add_26 : decode cX1_add 26 = .ok (.iaload, 1) ∧ 26 + 1 = 27 := ⟨by decide +kernel, rfl⟩
theorem dX1_add_27 : decode cX1_add 27 = .ok (.bipush 20, 2) ∧ 27 + 2 = 29 := ⟨by decide +kernel, rfl⟩
theorem dX1_add_29 : decode cX1_add 29 = .ok (.if_icmp .ne 6, 3) ∧ 29 + 3 = 32 ∧ ((29 : Nat) : Int) + (6) = ((35 : Nat) : Int) := ⟨by decide +kernel, rfl, by decide⟩
theorem dX1_add_32 : decode cX1_add 32 = .ok (.bipush (-2), 2) ∧ 32 + 2 = 34 := ⟨by decide +kernel, rfl⟩
theorem dX1_add_34 : decode cX1_add 34 = .ok (.ireturn, 1) ∧ 34 + 1 = 35 := ⟨by decide +kernel, rfl⟩
theorem dX1_add_35 : decode cX1_add 35 = .ok (.aload_n 0, 1) ∧ 35 + 1 = 36 := ⟨by decide +kernel, rfl⟩
theorem dX1_add_36 : decode cX1_add 36 = .ok (.getfield 7, 3) ∧ 36 + 3 = 39 := ⟨by decide +kernel, rfl⟩
theorem dX1_add_39 : decode cX1_add 39 = .ok (.iload_n 1, 1) ∧ 39 + 1 = 40 := ⟨by decide +kernel, rfl⟩
theorem dX1_add_40 : decode cX1_add 40 = .ok (.bipush 20, 2) ∧ 40 + 2 = 42 := ⟨by decide +kernel, rfl⟩
theorem dX1_add_42 : decode cX1_add 42 = .ok (.imul, 1) ∧ 42 + 1 = 43 := ⟨by decide +kernel, rfl⟩
theorem dX1_add_43 : decode cX1_add 43 = .ok (.aload_n 0, 1) ∧ 43 + 1 = 44 := ⟨by decide +kernel, rfl⟩
theorem dX1_add_44 : decode cX1_add 44 = .ok (.getfield 13, 3) ∧ 44 + 3 = 47 := ⟨by decide +kernel, rfl⟩
theorem dX1_add_47 : decode cX1_add 47 = .ok (.iload_n 1, 1) ∧ 47 + 1 = 48 := ⟨by decide +kernel, rfl⟩
theorem dX1_add_48 : decode cX1_add 48 = .ok (.iaload, 1) ∧ 48 + 1 = 49 := ⟨by decide +kernel, rfl⟩
theorem dX1_add_49 : decode cX1_add 49 = .ok (.iadd, 1) ∧ 49 + 1 = 50 := ⟨by decide +kernel, rfl⟩
theorem dX1_add_50 : decode cX1_add 50 = .ok (.iload_n 2, 1) ∧ 50 + 1 = 51 := ⟨by decide +kernel, rfl⟩
theorem dX1_add_51 : decode cX1_add 51 = .ok (.iastore, 1) ∧ 51 + 1 = 52 := ⟨by decide +kernel, rfl⟩
theorem dX1_add_52 : decode cX1_add 52 = .ok (.aload_n 0, 1) ∧ 52 + 1 = 53 := ⟨by decide +kernel, rfl⟩
theorem dX1_add_53 : decode cX1_add 53 = .ok (.getfield 13, 3) ∧ 53 + 3 = 56 := ⟨by decide +kernel, rfl⟩
theorem dX1_add_56 : decode cX1_add 56 = .ok (.iload_n 1, 1) ∧ 56 + 1 = 57 := ⟨by decide +kernel, rfl⟩
theorem dX1_add_57 : decode cX1_add 57 = .ok (.dup2, 1) ∧ 57 + 1 = 58 := ⟨by decide +kernel, rfl⟩
theorem dX1_add_58 : decode cX1_add 58 = .ok (.iaload, 1) ∧ 58 + 1 = 59 := ⟨by decide +kernel, rfl⟩
theorem dX1_add_59 : decode cX1_add 59 = .ok (.iconst 1, 1) ∧ 59 + 1 = 60 := ⟨by decide +kernel, rfl⟩
theorem dX1_add_60 : decode cX1_add 60 = .ok (.iadd, 1) ∧ 60 + 1 = 61 := ⟨by decide +kernel, rfl⟩
theorem dX1_add_61 : decode cX1_add 61 = .ok (.iastore, 1) ∧ 61 + 1 = 62 := ⟨by decide +kernel, rfl⟩
theorem dX1_add_62 : decode cX1_add 62 = .ok (.iconst 1, 1) ∧ 62 + 1 = 63 := ⟨by decide +kernel, rfl⟩
theorem dX1_add_63 : decode cX1_add 63 = .ok (.ireturn, 1) ∧ 63 + 1 = 64 := ⟨by decide +kernel, rfl⟩
theorem dX1_isSet_0 : decode cX1_isSet 0 = .ok (.iload_n 1, 1) ∧ 0 + 1 = 1 := ⟨by decide +kernel, rfl⟩
theorem dX1_isSet_1 : decode cX1_isSet 1 = .ok (.ifCond .lt 12, 3) ∧ 1 + 3 = 4 ∧ ((1 : Nat) : Int) + (12) = ((13 : Nat) : Int) := ⟨by decide +kernel, rfl, by decide⟩
theorem dX1_isSet_4 : decode cX1_isSet 4 = .ok (.iload_n 1, 1) ∧ 4 + 1 = 5 := ⟨by decide +kernel, rfl⟩
theorem dX1_isSet_5 : decode cX1_isSet 5 = .ok (.iconst 4, 1) ∧ 5 + 1 = 6 := ⟨by decide +kernel, rfl⟩
theorem dX1_isSet_6 : decode cX1_isSet 6 = .ok (.if_icmp .ge 7, 3) ∧ 6 + 3 = 9 ∧ ((6 : Nat) : Int) + (7) = ((13 : Nat) : Int) := ⟨by decide +kernel, rfl, by decide⟩
theorem dX1_isSet_9 : decode cX1_isSet 9 = .ok (.iconst 1, 1) ∧ 9 + 1 = 10 := ⟨by decide +kernel, rfl⟩
theorem dX1_isSet_10 : decode cX1_isSet 10 = .ok (.goto 4, 3) ∧ 10 + 3 = 13 ∧ ((10 : Nat) : Int) + (4) = ((14 : Nat) : Int) := ⟨by decide +kernel, rfl, by decide⟩
theorem dX1_isSet_13 : decode cX1_isSet 13 = .ok (.iconst 0, 1) ∧ 13 + 1 = 14 := ⟨by decide +kernel, rfl⟩
theorem dX1_isSet_14 : decode cX1_isSet 14 = .ok (.ireturn, 1) ∧ 14 + 1 = 15 := ⟨by decide +kernel, rfl⟩
theorem dX1_has_0 : decode cX1_has 0 = .ok (.iconst 0, 1) ∧ 0 + 1 = 1 := ⟨by decide +kernel, rfl⟩
theorem dX1_has_1 : decode cX1_has 1 = .ok (.istore_n 3, 1) ∧ 1 + 1 = 2 := ⟨by decide +kernel, rfl⟩
theorem dX1_has_2 : decode cX1_has 2 = .ok (.aload_n 0, 1) ∧ 2 + 1 = 3 := ⟨by decide +kernel, rfl⟩
theorem dX1_has_3 : decode cX1_has 3 = .ok (.iload_n 1, 1) ∧ 3 + 1 = 4 := ⟨by decide +kernel, rfl⟩
theorem dX1_has_4 : decode cX1_has 4 = .ok (.invokevirtual 19, 3) ∧ 4 + 3 = 7 := ⟨by decide +kernel, rfl⟩
theorem dX1_has_7 : decode cX1_has 7 = .ok (.ifCond .eq 36, 3) ∧ 7 + 3 = 10 ∧ ((7 : Nat) : Int) + (36) = ((43 : Nat) : Int) := ⟨by decide +kernel, rfl, by decide⟩
theorem dX1_has_10 : decode cX1_has 10 = .ok (.iload_n 3, 1) ∧ 10 + 1 = 11 := ⟨by decide +kernel, rfl⟩
theorem dX1_has_11 : decode cX1_has 11 = .ok (.aload_n 0, 1) ∧ 11 + 1 = 12 := ⟨by decide +kernel, rfl⟩
theorem dX1_has_12 : decode cX1_has 12 = .ok (.getfield 13, 3) ∧ 12 + 3 = 15 := ⟨by decide +kernel, rfl⟩
theorem dX1_has_15 : decode cX1_has 15 = .ok (.iload_n 1, 1) ∧ 15 + 1 = 16 := ⟨by decide +kernel, rfl⟩
theorem dX1_has_16 : decode cX1_has 16 = .ok (.iaload, 1) ∧ 16 + 1 = 17 := ⟨by decide +kernel, rfl⟩
theorem dX1_has_17 : decode cX1_has 17 = .ok (.if_icmp .ge 26, 3) ∧ 17 + 3 = 20 ∧ ((17 : Nat) : Int) + (26) = ((43 : Nat) : Int) := ⟨by decide +kernel, rfl, by decide⟩
theorem dX1_has_20 : decode cX1_has 20 = .ok (.aload_n 0, 1) ∧ 20 + 1 = 21 := ⟨by decide +kernel, rfl⟩
theorem dX1_has_21 : decode cX1_has 21 = .ok (.getfield 7, 3) ∧ 21 + 3 = 24 := ⟨by decide +kernel, rfl⟩
theorem dX1_has_24 : decode cX1_has 24 = .ok (.iload_n 1, 1) ∧ 24 + 1 = 25 := ⟨by decide +kernel, rfl⟩
theorem dX1_has_25 : decode cX1_has 25 = .ok (.bipush 20, 2) ∧ 25 + 2 = 27 := ⟨by decide +kernel, rfl⟩
theorem dX1_has_27 : decode cX1_has 27 = .ok (.imul, 1) ∧ 27 + 1 = 28 := ⟨by decide +kernel, rfl⟩
theorem dX1_has_28 : decode cX1_has 28 = .ok (.iload_n 3, 1) ∧ 28 + 1 = 29 := ⟨by decide +kernel, rfl⟩
theorem dX1_has_29 : decode cX1_has 29 = .ok (.iadd, 1) ∧ 29 + 1 = 30 := ⟨by decide +kernel, rfl⟩
theorem dX1_has_30 : decode cX1_has 30 = .ok (.iaload, 1) ∧ 30 + 1 = 31 := ⟨by decide +kernel, rfl⟩
theorem dX1_has_31 : decode cX1_has 31 = .ok (.iload_n 2, 1) ∧ 31 + 1 = 32 := ⟨by decide +kernel, rfl⟩
theorem dX1_has_32 : decode cX1_has 32 = .ok (.if_icmp .ne 5, 3) ∧ 32 + 3 = 35 ∧ ((32 : Nat) : Int) + (5) = ((37 : Nat) : Int) := ⟨by decide +kernel, rfl, by decide⟩
theorem dX1_has_35 : decode cX1_has 35 = .ok (.iconst 1, 1) ∧ 35 + 1 = 36 := ⟨by decide +kernel, rfl⟩
theorem dX1_has_36 : decode cX1_has 36 = .ok (.ireturn, 1) ∧ 36 + 1 = 37 := ⟨by decide +kernel, rfl⟩
theorem dX1_has_37 : decode cX1_has 37 = .ok (.iinc 3 1, 3) ∧ 37 + 3 = 40 := ⟨by decide +kernel, rfl⟩
theorem dX1_has_40 : decode cX1_has 40 = .ok (.goto (-38), 3) ∧ 40 + 3 = 43 ∧ ((40 : Nat) : Int) + (-38) = ((2 : Nat) : Int) := ⟨by decide +kernel, rfl, by decide⟩
theorem dX1_has_43 : decode cX1_has 43 = .ok (.iconst 0, 1) ∧ 43 + 1 = 44 := ⟨by decide +kernel, rfl⟩
theorem dX1_has_44 : decode cX1_has 44 = .ok (.ireturn, 1) ∧ 44 + 1 = 45 := ⟨by decide +kernel, rfl⟩
theorem dX1_remove_0 : decode cX1_remove 0 = .ok (.aload_n 0, 1) ∧ 0 + 1 = 1 := ⟨by decide +kernel, rfl⟩
theorem dX1_remove_1 : decode cX1_remove 1 = .ok (.iload_n 1, 1) ∧ 1 + 1 = 2 := ⟨by decide +kernel, rfl⟩
theorem dX1_remove_2 : decode cX1_remove 2 = .ok (.iload_n 2, 1) ∧ 2 + 1 = 3 := ⟨by decide +kernel, rfl⟩
theorem dX1_remove_3 : decode cX1_remove 3 = .ok (.iload_n 2, 1) ∧ 3 + 1 = 4 := ⟨by decide +kernel, rfl⟩
theorem dX1_remove_4 : decode cX1_remove 4 = .ok (.invokevirtual 27, 3) ∧ 4 + 3 = 7 := ⟨by decide +kernel, rfl⟩
theorem dX1_remove_7 : decode cX1_remove 7 = .ok (.ireturn, 1) ∧ 7 + 1 = 8 := ⟨by decide +kernel, rfl⟩
theorem dX1_removeRange_0 : decode cX1_removeRange 0 = .ok (.aload_n 0, 1) ∧ 0 + 1 = 1 := ⟨by decide +kernel, rfl⟩
theorem dX1_removeRange_1 : decode cX1_removeRange 1 = .ok (.iload_n 1, 1) ∧ 1 + 1 = 2 := ⟨by decide +kernel, rfl⟩
theorem dX1_removeRange_2 : decode cX1_removeRange 2 = .ok (.invokevirtual 19, 3) ∧ 2 + 3 = 5 := ⟨by decide +kernel, rfl⟩
theorem dX1_removeRange_5 : decode cX1_removeRange 5 = .ok (.ifCond .ne 5, 3) ∧ 5 + 3 = 8 ∧ ((5 : Nat) : Int) + (5) = ((10 : Nat) : Int) := ⟨by decide +kernel, rfl, by decide⟩
theorem dX1_removeRange_8 : decode cX1_removeRange 8 = .ok (.iconst (-1), 1) ∧ 8 + 1 = 9 := ⟨by decide +kernel, rfl⟩
theorem dX1_removeRange_9 : decode cX1_removeRange 9 = .ok (.ireturn, 1) ∧ 9 + 1 = 10 := ⟨by decide +kernel, rfl⟩
theorem dX1_removeRange_10 : decode cX1_removeRange 10 = .ok (.iconst 0, 1) ∧ 10 + 1 = 11 := ⟨by decide +kernel, rfl⟩
theorem dX1_removeRange_11 : decode cX1_removeRange 11 = .ok (.istore 4, 2) ∧ 11 + 2 = 13 := ⟨by decide +kernel, rfl⟩
theorem dX1_removeRange_13 : decode cX1_removeRange 13 = .ok (.iconst 0, 1) ∧ 13 + 1 = 14 := ⟨by decide +kernel, rfl⟩
theorem dX1_removeRange_14 : decode cX1_removeRange 14 = .ok (.istore 5, 2) ∧ 14 + 2 = 16 := ⟨by decide +kernel, rfl⟩
theorem dX1_removeRange_16 : decode cX1_removeRange 16 = .ok (.iload 5, 2) ∧ 16 + 2 = 18 := ⟨by decide +kernel, rfl⟩
theorem dX1_removeRange_18 : decode cX1_removeRange 18 = .ok (.aload_n 0, 1) ∧ 18 + 1 = 19 := ⟨by decide +kernel, rfl⟩
theorem dX1_removeRange_19 : decode cX1_removeRange 19 = .ok (.getfield 13, 3) ∧ 19 + 3 = 22 := ⟨by decide +kernel, rfl⟩
theorem dX1_removeRange_22 : decode cX1_removeRange 22 = .ok (.iload_n 1, 1) ∧ 22 + 1 = 23 := ⟨by decide +kernel, rfl⟩
theorem dX1_removeRange_23 : decode cX1_removeRange 23 = .ok (.iaload, 1) ∧ 23 + 1 = 24 := ⟨by decide +kernel, rfl⟩
theorem dX1_removeRange_24 : decode cX1_removeRange 24 = .ok (.if_icmp .ge 52, 3) ∧ 24 + 3 = 27 ∧ ((24 : Nat) : Int) + (52) = ((76 : Nat) : Int) := ⟨by decide +kernel, rfl, by decide⟩
theorem dX1_removeRange_27 : decode cX1_removeRange 27 = .ok (.aload_n 0, 1) ∧ 27 + 1 = 28 := ⟨by decide +kernel, rfl⟩
theorem dX1_removeRange_28 : decode cX1_removeRange 28 = .ok (.getfield 7, 3) ∧ 28 + 3 = 31 := ⟨by decide +kernel, rfl⟩
theorem dX1_removeRange_31 : decode cX1_removeRange 31 = .ok (.iload_n 1, 1) ∧ 31 + 1 = 32 := ⟨by decide +kernel, rfl⟩
theorem dX1_removeRange_32 : decode cX1_removeRange 32 = .ok (.bipush 20, 2) ∧ 32 + 2 = 34 := ⟨by decide +kernel, rfl⟩
theorem dX1_removeRange_34 : decode cX1_removeRange 34 = .ok (.imul, 1) ∧ 34 + 1 = 35 := ⟨by decide +kernel, rfl⟩
theorem dX1_removeRange_35 : decode cX1_removeRange 35 = .ok (.iload 5, 2) ∧ 35 + 2 = 37 := ⟨by decide +kernel, rfl⟩
theorem dX1_removeRange_37 : decode cX1_removeRange 37 = .ok (.iadd, 1) ∧ 37 + 1 = 38 := ⟨by decide +kernel, rfl⟩
theorem dX1_removeRange_38 : decode cX1_removeRange 38 = .ok (.iaload, 1) ∧ 38 + 1 = 39 := ⟨by decide +kernel, rfl⟩
theorem dX1_removeRange_39 : decode cX1_removeRange 39 = .ok (.istore 6, 2) ∧ 39 + 2 = 41 := ⟨by decide +kernel, rfl⟩
theorem dX1_removeRange_41 : decode cX1_removeRange 41 = .ok (.iload 6, 2) ∧ 41 + 2 = 43 := ⟨by decide +kernel, rfl⟩
theorem dX1_removeRange_43 : decode cX1_removeRange 43 = .ok (.iload_n 2, 1) ∧ 43 + 1 = 44 := ⟨by decide +kernel, rfl⟩
theorem dX1_removeRange_44 : decode cX1_removeRange 44 = .ok (.if_icmp .lt 9, 3) ∧ 44 + 3 = 47 ∧ ((44 : Nat) : Int) + (9) = ((53 : Nat) : Int) := ⟨by decide +kernel, rfl, by decide⟩
theorem dX1_removeRange_47 : decode cX1_removeRange 47 = .ok (.iload 6, 2) ∧ 47 + 2 = 49 := ⟨by decide +kernel, rfl⟩
theorem dX1_removeRange_49 : decode cX1_removeRange 49 = .ok (.iload_n 3, 1) ∧ 49 + 1 = 50 := ⟨by decide +kernel, rfl⟩
theorem dX1_removeRange_50 : decode cX1_removeRange 50 = .ok (.if_icmp .le 20, 3) ∧ 50 + 3 = 53 ∧ ((50 : Nat) : Int) + (20) = ((70 : Nat) : Int) := ⟨by decide +kernel, rfl, by decide⟩
theorem dX1_removeRange_53 : decode cX1_removeRange 53 = .ok (.aload_n 0, 1) ∧ 53 + 1 = 54 := ⟨by decide +kernel, rfl⟩
theorem dX1_removeRange_54 : decode cX1_removeRange 54 = .ok (.getfield 7, 3) ∧ 54 + 3 = 57 := ⟨by decide +kernel, rfl⟩
theorem dX1_removeRange_57 : decode cX1_removeRange 57 = .ok (.iload_n 1, 1) ∧ 57 + 1 = 58 := ⟨by decide +kernel, rfl⟩
theorem dX1_removeRange_58 : decode cX1_removeRange 58 = .ok (.bipush 20, 2) ∧ 58 + 2 = 60 := ⟨by decide +kernel, rfl⟩
theorem dX1_removeRange_60 : decode cX1_removeRange 60 = .ok (.imul, 1) ∧ 60 + 1 = 61 := ⟨by decide +kernel, rfl⟩
theorem dX1_removeRange_61 : decode cX1_removeRange 61 = .ok (.iload 4, 2) ∧ 61 + 2 = 63 := ⟨by decide +kernel, rfl⟩
theorem dX1_removeRange_63 : decode cX1_removeRange 63 = .ok (.iadd, 1) ∧ 63 + 1 = 64 := ⟨by decide +kernel, rfl⟩
theorem dX1_removeRange_64 : decode cX1_removeRange 64 = .ok (.iload 6, 2) ∧ 64 + 2 = 66 := ⟨by decide +kernel, rfl⟩
theorem dX1_removeRange_66 : decode cX1_removeRange 66 = .ok (.iastore, 1) ∧ 66 + 1 = 67 := ⟨by decide +kernel, rfl⟩
theorem dX1_removeRange_67 : decode cX1_removeRange 67 = .ok (.iinc 4 1, 3) ∧ 67 + 3 = 70 := ⟨by decide +kernel, rfl⟩
theorem dX1_removeRange_70 : decode cX1_removeRange 70 = .ok (.iinc 5 1, 3) ∧ 70 + 3 = 73 := ⟨by decide +kernel, rfl⟩
theorem dX1_removeRange_73 : decode cX1_removeRange 73 = .ok (.goto (-57), 3) ∧ 73 + 3 = 76 ∧ ((73 : Nat) : Int) + (-57) = ((16 : Nat) : Int) := ⟨by decide +kernel, rfl, by decide⟩
theorem dX1_removeRange_76 : decode cX1_removeRange 76 = .ok (.aload_n 0, 1) ∧ 76 + 1 = 77 := ⟨by decide +kernel, rfl⟩
theorem dX1_removeRange_77 : decode cX1_removeRange 77 = .ok (.getfield 13, 3) ∧ 77 + 3 = 80 := ⟨by decide +kernel, rfl⟩
theorem dX1_removeRange_80 : decode cX1_removeRange 80 = .ok (.iload_n 1, 1) ∧ 80 + 1 = 81 := ⟨by decide +kernel, rfl⟩
theorem dX1_removeRange_81 : decode cX1_removeRange 81 = .ok (.iaload, 1) ∧ 81 + 1 = 82 := ⟨by decide +kernel, rfl⟩
theorem dX1_removeRange_82 : decode cX1_removeRange 82 = .ok (.iload 4, 2) ∧ 82 + 2 = 84 := ⟨by decide +kernel, rfl⟩
theorem dX1_removeRange_84 : decode cX1_removeRange 84 = .ok (.isub, 1) ∧ 84 + 1 = 85 := ⟨by decide +kernel, rfl⟩
theorem dX1_removeRange_85 : decode cX1_removeRange 85 = .ok (.istore 5, 2) ∧ 85 + 2 = 87 := ⟨by decide +kernel, rfl⟩
theorem dX1_removeRange_87 : decode cX1_removeRange 87 = .ok (.aload_n 0, 1) ∧ 87 + 1 = 88 := ⟨by decide +kernel, rfl⟩
theorem dX1_removeRange_88 : decode cX1_removeRange 88 = .ok (.getfield 13, 3) ∧ 88 + 3 = 91 := ⟨by decide +kernel, rfl⟩
theorem dX1_removeRange_91 : decode cX1_removeRange 91 = .ok (.iload_n 1, 1) ∧ 91 + 1 = 92 := ⟨by decide +kernel, rfl⟩
theorem dX1_removeRange_92 : decode cX1_removeRange 92 = .ok (.iload 4, 2) ∧ 92 + 2 = 94 := ⟨by decide +kernel, rfl⟩
theorem dX1_removeRange_94 : decode cX1_removeRange 94 = .ok (.iastore, 1) ∧ 94 + 1 = 95 := ⟨by decide +kernel, rfl⟩
theorem dX1_removeRange_95 : decode cX1_removeRange 95 = .ok (.iload 5, 2) ∧ 95 + 2 = 97 := ⟨by decide +kernel, rfl⟩
theorem dX1_removeRange_97 : decode cX1_removeRange 97 = .ok (.ireturn, 1) ∧ 97 + 1 = 98 := ⟨by decide +kernel, rfl⟩
theorem dX1_size_0 : decode cX1_size 0 = .ok (.aload_n 0, 1) ∧ 0 + 1 = 1 := ⟨by decide +kernel, rfl⟩
theorem dX1_size_1 : decode cX1_size 1 = .ok (.iload_n 1, 1) ∧ 1 + 1 = 2 := ⟨by decide +kernel, rfl⟩
theorem dX1_size_2 : decode cX1_size 2 = .ok (.invokevirtual 19, 3) ∧ 2 + 3 = 5 := ⟨by decide +kernel, rfl⟩
theorem dX1_size_5 : decode cX1_size 5 = .ok (.ifCond .eq 12, 3) ∧ 5 + 3 = 8 ∧ ((5 : Nat) : Int) + (12) = ((17 : Nat) : Int) := ⟨by decide +kernel, rfl, by decide⟩
theorem dX1_size_8 : decode cX1_size 8 = .ok (.aload_n 0, 1) ∧ 8 + 1 = 9 := ⟨by decide +kernel, rfl⟩
theorem dX1_size_9 : decode cX1_size 9 = .ok (.getfield 13, 3) ∧ 9 + 3 = 12 := ⟨by decide +kernel, rfl⟩
theorem dX1_size_12 : decode cX1_size 12 = .ok (.iload_n 1, 1) ∧ 12 + 1 = 13 := ⟨by decide +kernel, rfl⟩
theorem dX1_size_13 : decode cX1_size 13 = .ok (.iaload, 1) ∧ 13 + 1 = 14 := ⟨by decide +kernel, rfl⟩
theorem dX1_size_14 : decode cX1_size 14 = .ok (.goto 4, 3) ∧ 14 + 3 = 17 ∧ ((14 : Nat) : Int) + (4) = ((18 : Nat) : Int) := ⟨by decide +kernel, rfl, by decide⟩
theorem dX1_size_17 : decode cX1_size 17 = .ok (.iconst (-1), 1) ∧ 17 + 1 = 18 := ⟨by decide +kernel, rfl⟩
theorem dX1_size_18 : decode cX1_size 18 = .ok (.ireturn, 1) ∧ 18 + 1 = 19 := ⟨by decide +kernel, rfl⟩
theorem dX1_at_0 : decode cX1_at 0 = .ok (.iconst 0, 1) ∧ 0 + 1 = 1 := ⟨by decide +kernel, rfl⟩
theorem dX1_at_1 : decode cX1_at 1 = .ok (.istore_n 3, 1) ∧ 1 + 1 = 2 := ⟨by decide +kernel, rfl⟩
theorem dX1_at_2 : decode cX1_at 2 = .ok (.aload_n 0, 1) ∧ 2 + 1 = 3 := ⟨by decide +kernel, rfl⟩
theorem dX1_at_3 : decode cX1_at 3 = .ok (.iload_n 1, 1) ∧ 3 + 1 = 4 := ⟨by decide +kernel, rfl⟩
theorem dX1_at_4 : decode cX1_at 4 = .ok (.invokevirtual 19, 3) ∧ 4 + 3 = 7 := ⟨by decide +kernel, rfl⟩
theorem dX1_at_7 : decode cX1_at 7 = .ok (.ifCond .eq 51, 3) ∧ 7 + 3 = 10 ∧ ((7 : Nat) : Int) + (51) = ((58 : Nat) : Int) := ⟨by decide +kernel, rfl, by decide⟩
theorem dX1_at_10 : decode cX1_at 10 = .ok (.iload_n 3, 1) ∧ 10 + 1 = 11 := ⟨by decide +kernel, rfl⟩
theorem dX1_at_11 : decode cX1_at 11 = .ok (.aload_n 0, 1) ∧ 11 + 1 = 12 := ⟨by decide +kernel, rfl⟩
theorem dX1_at_12 : decode cX1_at 12 = .ok (.getfield 13, 3) ∧ 12 + 3 = 15 := ⟨by decide +kernel, rfl⟩
theorem dX1_at_15 : decode cX1_at 15 = .ok (.iload_n 1, 1) ∧ 15 + 1 = 16 := ⟨by decide +kernel, rfl⟩
theorem dX1_at_16 : decode cX1_at 16 = .ok (.iaload, 1) ∧ 16 + 1 = 17 := ⟨by decide +kernel, rfl⟩
theorem dX1_at_17 : decode cX1_at 17 = .ok (.if_icmp .ge 41, 3) ∧ 17 + 3 = 20 ∧ ((17 : Nat) : Int) + (41) = ((58 : Nat) : Int) := ⟨by decide +kernel, rfl, by decide⟩
theorem dX1_at_20 : decode cX1_at 20 = .ok (.aload_n 0, 1) ∧ 20 + 1 = 21 := ⟨by decide +kernel, rfl⟩
theorem dX1_at_21 : decode cX1_at 21 = .ok (.iload_n 1, 1) ∧ 21 + 1 = 22 := ⟨by decide +kernel, rfl⟩
theorem dX1_at_22 : decode cX1_at 22 = .ok (.aload_n 0, 1) ∧ 22 + 1 = 23 := ⟨by decide +kernel, rfl⟩
theorem dX1_at_23 : decode cX1_at 23 = .ok (.getfield 7, 3) ∧ 23 + 3 = 26 := ⟨by decide +kernel, rfl⟩
theorem dX1_at_26 : decode cX1_at 26 = .ok (.iload_n 1, 1) ∧ 26 + 1 = 27 := ⟨by decide +kernel, rfl⟩
theorem dX1_at_27 : decode cX1_at 27 = .ok (.bipush 20, 2) ∧ 27 + 2 = 29 := ⟨by decide +kernel, rfl⟩
theorem dX1_at_29 : decode cX1_at 29 = .ok (.imul, 1) ∧ 29 + 1 = 30 := ⟨by decide +kernel, rfl⟩
theorem dX1_at_30 : decode cX1_at 30 = .ok (.iload_n 3, 1) ∧ 30 + 1 = 31 := ⟨by decide +kernel, rfl⟩
theorem dX1_at_31 : decode cX1_at 31 = .ok (.iadd, 1) ∧ 31 + 1 = 32 := ⟨by decide +kernel, rfl⟩
theorem dX1_at_32 : decode cX1_at 32 = .ok (.iaload, 1) ∧ 32 + 1 = 33 := ⟨by decide +kernel, rfl⟩
theorem dX1_at_33 : decode cX1_at 33 = .ok (.invokevirtual 31, 3) ∧ 33 + 3 = 36 := ⟨by decide +kernel, rfl⟩
theorem dX1_at_36 : decode cX1_at 36 = .ok (.iload_n 2, 1) ∧ 36 + 1 = 37 := ⟨by decide +kernel, rfl⟩
theorem dX1_at_37 : decode cX1_at 37 = .ok (.if_icmp .ne 15, 3) ∧ 37 + 3 = 40 ∧ ((37 : Nat) : Int) + (15) = ((52 : Nat) : Int) := ⟨by decide +kernel, rfl, by decide⟩
theorem dX1_at_40 : decode cX1_at 40 = .ok (.aload_n 0, 1) ∧ 40 + 1 = 41 := ⟨by decide +kernel, rfl⟩
theorem dX1_at_41 : decode cX1_at 41 = .ok (.getfield 7, 3) ∧ 41 + 3 = 44 := ⟨by decide +kernel, rfl⟩
theorem dX1_at_44 : decode cX1_at 44 = .ok (.iload_n 1, 1) ∧ 44 + 1 = 45 := ⟨by decide +kernel, rfl⟩
theorem dX1_at_45 : decode cX1_at 45 = .ok (.bipush 20, 2) ∧ 45 + 2 = 47 := ⟨by decide +kernel, rfl⟩
theorem dX1_at_47 : decode cX1_at 47 = .ok (.imul, 1) ∧ 47 + 1 = 48 := ⟨by decide +kernel, rfl⟩
theorem dX1_at_48 : decode cX1_at 48 = .ok (.iload_n 3, 1) ∧ 48 + 1 = 49 := ⟨by decide +kernel, rfl⟩
theorem dX1_at_49 : decode cX1_at 49 = .ok (.iadd, 1) ∧ 49 + 1 = 50 := ⟨by decide +kernel, rfl⟩
theorem dX1_at_50 : decode cX1_at 50 = .ok (.iaload, 1) ∧ 50 + 1 = 51 := ⟨by decide +kernel, rfl⟩
theorem dX1_at_51 : decode cX1_at 51 = .ok (.ireturn, 1) ∧ 51 + 1 = 52 := ⟨by decide +kernel, rfl⟩
theorem dX1_at_52 : decode cX1_at 52 = .ok (.iinc 3 1, 3) ∧ 52 + 3 = 55 := ⟨by decide +kernel, rfl⟩
theorem dX1_at_55 : decode cX1_at 55 = .ok (.goto (-53), 3) ∧ 55 + 3 = 58 ∧ ((55 : Nat) : Int) + (-53) = ((2 : Nat) : Int) := ⟨by decide +kernel, rfl, by decide⟩
theorem dX1_at_58 : decode cX1_at 58 = .ok (.iconst 0, 1) ∧ 58 + 1 = 59 := ⟨by decide +kernel, rfl⟩
theorem dX1_at_59 : decode cX1_at 59 = .ok (.ireturn, 1) ∧ 59 + 1 = 60 := ⟨by decide +kernel, rfl⟩
theorem dX1_rank_0 : decode cX1_rank 0 = .ok (.aload_n 0, 1) ∧ 0 + 1 = 1 := ⟨by decide +kernel, rfl⟩
theorem dX1_rank_1 : decode cX1_rank 1 = .ok (.iload_n 1, 1) ∧ 1 + 1 = 2 := ⟨by decide +kernel, rfl⟩
theorem dX1_rank_2 : decode cX1_rank 2 = .ok (.invokevirtual 19, 3) ∧ 2 + 3 = 5 := ⟨by decide +kernel, rfl⟩
theorem dX1_rank_5 : decode cX1_rank 5 = .ok (.ifCond .ne 5, 3) ∧ 5 + 3 = 8 ∧ ((5 : Nat) : Int) + (5) = ((10 : Nat) : Int) := ⟨by decide +kernel, rfl, by decide⟩
theorem dX1_rank_8 : decode cX1_rank 8 = .ok (.iconst (-1), 1) ∧ 8 + 1 = 9 := ⟨by decide +kernel, rfl⟩
theorem dX1_rank_9 : decode cX1_rank 9 = .ok (.ireturn, 1) ∧ 9 + 1 = 10 := ⟨by decide +kernel, rfl⟩
theorem dX1_rank_10 : decode cX1_rank 10 = .ok (.iconst 0, 1) ∧ 10 + 1 = 11 := ⟨by decide +kernel, rfl⟩
theorem dX1_rank_11 : decode cX1_rank 11 = .ok (.istore_n 3, 1) ∧ 11 + 1 = 12 := ⟨by decide +kernel, rfl⟩
theorem dX1_rank_12 : decode cX1_rank 12 = .ok (.iconst 0, 1) ∧ 12 + 1 = 13 := ⟨by decide +kernel, rfl⟩
theorem dX1_rank_13 : decode cX1_rank 13 = .ok (.istore 4, 2) ∧ 13 + 2 = 15 := ⟨by decide +kernel, rfl⟩
theorem dX1_rank_15 : decode cX1_rank 15 = .ok (.iload 4, 2) ∧ 15 + 2 = 17 := ⟨by decide +kernel, rfl⟩
theorem dX1_rank_17 : decode cX1_rank 17 = .ok (.aload_n 0, 1) ∧ 17 + 1 = 18 := ⟨by decide +kernel, rfl⟩
theorem dX1_rank_18 : decode cX1_rank 18 = .ok (.getfield 13, 3) ∧ 18 + 3 = 21 := ⟨by decide +kernel, rfl⟩
theorem dX1_rank_21 : decode cX1_rank 21 = .ok (.iload_n 1, 1) ∧ 21 + 1 = 22 := ⟨by decide +kernel, rfl⟩
theorem dX1_rank_22 : decode cX1_rank 22 = .ok (.iaload, 1) ∧ 22 + 1 = 23 := ⟨by decide +kernel, rfl⟩
end
section
set_option maxRecDepth 100000
theorem dX1_rank_23 : decode cX1_rank 23 = .ok (.if_icmp .ge 28, 3) ∧ 23 + 3 = 26 ∧ ((23 : Nat) : Int) + (28) = ((51 : Nat) : Int) := ⟨by decide +kernel, rfl, by decide⟩
theorem dX1_rank_26 : decode cX1_rank 26 = .ok (.aload_n 0, 1) ∧ 26 + 1 = 27 := ⟨by decide +kernel, rfl⟩
theorem dX1_rank_27 : decode cX1_rank 27 = .ok (.getfield 7, 3) ∧ 27 + 3 = 30 := ⟨by decide +kernel, rfl⟩
theorem dX1_rank_30 : decode cX1_rank 30 = .ok (.iload_n 1, 1) ∧ 30 + 1 = 31 := ⟨by decide +kernel, rfl⟩
theorem dX1_rank_31 : decode cX1_rank 31 = .ok (.bipush 20, 2) ∧ 31 + 2 = 33 := ⟨by decide +kernel, rfl⟩
theorem dX1_rank_33 : decode cX1_rank 33 = .ok (.imul, 1) ∧ 33 + 1 = 34 := ⟨by decide +kernel, rfl⟩
theorem dX1_rank_34 : decode cX1_rank 34 = .ok (.iload 4, 2) ∧ 34 + 2 = 36 := ⟨by decide +kernel, rfl⟩
theorem dX1_rank_36 : decode cX1_rank 36 = .ok (.iadd, 1) ∧ 36 + 1 = 37 := ⟨by decide +kernel, rfl⟩
theorem dX1_rank_37 : decode cX1_rank 37 = .ok (.iaload, 1) ∧ 37 + 1 = 38 := ⟨by decide +kernel, rfl⟩
theorem dX1_rank_38 : decode cX1_rank 38 = .ok (.iload_n 2, 1) ∧ 38 + 1 = 39 := ⟨by decide +kernel, rfl⟩
theorem dX1_rank_39 : decode cX1_rank 39 = .ok (.if_icmp .ge 6, 3) ∧ 39 + 3 = 42 ∧ ((39 : Nat) : Int) + (6) = ((45 : Nat) : Int) := ⟨by decide +kernel, rfl, by decide⟩
theorem dX1_rank_42 : decode cX1_rank 42 = .ok (.iinc 3 1, 3) ∧ 42 + 3 = 45 := ⟨by decide +kernel, rfl⟩
theorem dX1_rank_45 : decode cX1_rank 45 = .ok (.iinc 4 1, 3) ∧ 45 + 3 = 48 := ⟨by decide +kernel, rfl⟩
theorem dX1_rank_48 : decode cX1_rank 48 = .ok (.goto (-33), 3) ∧ 48 + 3 = 51 ∧ ((48 : Nat) : Int) + (-33) = ((15 : Nat) : Int) := ⟨by decide +kernel, rfl, by decide⟩
theorem dX1_rank_51 : decode cX1_rank 51 = .ok (.iload_n 3, 1) ∧ 51 + 1 = 52 := ⟨by decide +kernel, rfl⟩
theorem dX1_rank_52 : decode cX1_rank 52 = .ok (.ireturn, 1) ∧ 52 + 1 = 53 := ⟨by decide +kernel, rfl⟩
theorem dX1_combine_0 : decode cX1_combine 0 = .ok (.iload_n 1, 1) ∧ 0 + 1 = 1 := ⟨by decide +kernel, rfl⟩
theorem dX1_combine_1 : decode cX1_combine 1 = .ok (.ifCond .lt 33, 3) ∧ 1 + 3 = 4 ∧ ((1 : Nat) : Int) + (33) = ((34 : Nat) : Int) := ⟨by decide +kernel, rfl, by decide⟩
theorem dX1_combine_4 : decode cX1_combine 4 = .ok (.iload_n 1, 1) ∧ 4 + 1 = 5 := ⟨by decide +kernel, rfl⟩
theorem dX1_combine_5 : decode cX1_combine 5 = .ok (.iconst 3, 1) ∧ 5 + 1 = 6 := ⟨by decide +kernel, rfl⟩
theorem dX1_combine_6 : decode cX1_combine 6 = .ok (.if_icmp .gt 28, 3) ∧ 6 + 3 = 9 ∧ ((6 : Nat) : Int) + (28) = ((34 : Nat) : Int) := ⟨by decide +kernel, rfl, by decide⟩
theorem dX1_combine_9 : decode cX1_combine 9 = .ok (.aload_n 0, 1) ∧ 9 + 1 = 10 := ⟨by decide +kernel, rfl⟩
theorem dX1_combine_10 : decode cX1_combine 10 = .ok (.iload_n 2, 1) ∧ 10 + 1 = 11 := ⟨by decide +kernel, rfl⟩
theorem dX1_combine_11 : decode cX1_combine 11 = .ok (.invokevirtual 19, 3) ∧ 11 + 3 = 14 := ⟨by decide +kernel, rfl⟩
theorem dX1_combine_14 : decode cX1_combine 14 = .ok (.ifCond .eq 20, 3) ∧ 14 + 3 = 17 ∧ ((14 : Nat) : Int) + (20) = ((34 : Nat) : Int) := ⟨by decide +kernel, rfl, by decide⟩
theorem dX1_combine_17 : decode cX1_combine 17 = .ok (.aload_n 0, 1) ∧ 17 + 1 = 18 := ⟨by decide +kernel, rfl⟩
theorem dX1_combine_18 : decode cX1_combine 18 = .ok (.iload_n 3, 1) ∧ 18 + 1 = 19 := ⟨by decide +kernel, rfl⟩
theorem dX1_combine_19 : decode cX1_combine 19 = .ok (.invokevirtual 19, 3) ∧ 19 + 3 = 22 := ⟨by decide +kernel, rfl⟩
theorem dX1_combine_22 : decode cX1_combine 22 = .ok (.ifCond .eq 12, 3) ∧ 22 + 3 = 25 ∧ ((22 : Nat) : Int) + (12) = ((34 : Nat) : Int) := ⟨by decide +kernel, rfl, by decide⟩
theorem dX1_combine_25 : decode cX1_combine 25 = .ok (.aload_n 0, 1) ∧ 25 + 1 = 26 := ⟨by decide +kernel, rfl⟩
theorem dX1_combine_26 : decode cX1_combine 26 = .ok (.iload 4, 2) ∧ 26 + 2 = 28 := ⟨by decide +kernel, rfl⟩
theorem dX1_combine_28 : decode cX1_combine 28 = .ok (.invokevirtual 19, 3) ∧ 28 + 3 = 31 := ⟨by decide +kernel, rfl⟩
theorem dX1_combine_31 : decode cX1_combine 31 = .ok (.ifCond .ne 5, 3) ∧ 31 + 3 = 34 ∧ ((31 : Nat) : Int) + (5) = ((36 : Nat) : Int) := ⟨by decide +kernel, rfl, by decide⟩
theorem dX1_combine_34 : decode cX1_combine 34 = .ok (.iconst (-1), 1) ∧ 34 + 1 = 35 := ⟨by decide +kernel, rfl⟩
theorem dX1_combine_35 : decode cX1_combine 35 = .ok (.ireturn, 1) ∧ 35 + 1 = 36 := ⟨by decide +kernel, rfl⟩
theorem dX1_combine_36 : decode cX1_combine 36 = .ok (.aload_n 0, 1) ∧ 36 + 1 = 37 := ⟨by decide +kernel, rfl⟩
theorem dX1_combine_37 : decode cX1_combine 37 = .ok (.iconst 0, 1) ∧ 37 + 1 = 38 := ⟨by decide +kernel, rfl⟩
theorem dX1_combine_38 : decode cX1_combine 38 = .ok (.putfield 35, 3) ∧ 38 + 3 = 41 := ⟨by decide +kernel, rfl⟩
theorem dX1_combine_41 : decode cX1_combine 41 = .ok (.aload_n 0, 1) ∧ 41 + 1 = 42 := ⟨by decide +kernel, rfl⟩
theorem dX1_combine_42 : decode cX1_combine 42 = .ok (.iload_n 3, 1) ∧ 42 + 1 = 43 := ⟨by decide +kernel, rfl⟩
theorem dX1_combine_43 : decode cX1_combine 43 = .ok (.iload_n 1, 1) ∧ 43 + 1 = 44 := ⟨by decide +kernel, rfl⟩
theorem dX1_combine_44 : decode cX1_combine 44 = .ok (.iload_n 3, 1) ∧ 44 + 1 = 45 := ⟨by decide +kernel, rfl⟩
theorem dX1_combine_45 : decode cX1_combine 45 = .ok (.iload 4, 2) ∧ 45 + 2 = 47 := ⟨by decide +kernel, rfl⟩
theorem dX1_combine_47 : decode cX1_combine 47 = .ok (.invokevirtual 46, 3) ∧ 47 + 3 = 50 := ⟨by decide +kernel, rfl⟩
theorem dX1_combine_50 : decode cX1_combine 50 = .ok (.aload_n 0, 1) ∧ 50 + 1 = 51 := ⟨by decide +kernel, rfl⟩
theorem dX1_combine_51 : decode cX1_combine 51 = .ok (.iload 4, 2) ∧ 51 + 2 = 53 := ⟨by decide +kernel, rfl⟩
theorem dX1_combine_53 : decode cX1_combine 53 = .ok (.iload_n 1, 1) ∧ 53 + 1 = 54 := ⟨by decide +kernel, rfl⟩
theorem dX1_combine_54 : decode cX1_combine 54 = .ok (.iload_n 3, 1) ∧ 54 + 1 = 55 := ⟨by decide +kernel, rfl⟩
theorem dX1_combine_55 : decode cX1_combine 55 = .ok (.iload 4, 2) ∧ 55 + 2 = 57 := ⟨by decide +kernel, rfl⟩
theorem dX1_combine_57 : decode cX1_combine 57 = .ok (.invokevirtual 46, 3) ∧ 57 + 3 = 60 := ⟨by decide +kernel, rfl⟩
theorem dX1_combine_60 : decode cX1_combine 60 = .ok (.aload_n 0, 1) ∧ 60 + 1 = 61 := ⟨by decide +kernel, rfl⟩
theorem dX1_combine_61 : decode cX1_combine 61 = .ok (.getfield 35, 3) ∧ 61 + 3 = 64 := ⟨by decide +kernel, rfl⟩
theorem dX1_combine_64 : decode cX1_combine 64 = .ok (.bipush 20, 2) ∧ 64 + 2 = 66 := ⟨by decide +kernel, rfl⟩
theorem dX1_combine_66 : decode cX1_combine 66 = .ok (.if_icmp .le 6, 3) ∧ 66 + 3 = 69 ∧ ((66 : Nat) : Int) + (6) = ((72 : Nat) : Int) := ⟨by decide +kernel, rfl, by decide⟩
theorem dX1_combine_69 : decode cX1_combine 69 = .ok (.bipush (-2), 2) ∧ 69 + 2 = 71 := ⟨by decide +kernel, rfl⟩
theorem dX1_combine_71 : decode cX1_combine 71 = .ok (.ireturn, 1) ∧ 71 + 1 = 72 := ⟨by decide +kernel, rfl⟩
theorem dX1_combine_72 : decode cX1_combine 72 = .ok (.aload_n 0, 1) ∧ 72 + 1 = 73 := ⟨by decide +kernel, rfl⟩
theorem dX1_combine_73 : decode cX1_combine 73 = .ok (.iload_n 2, 1) ∧ 73 + 1 = 74 := ⟨by decide +kernel, rfl⟩
theorem dX1_combine_74 : decode cX1_combine 74 = .ok (.invokevirtual 50, 3) ∧ 74 + 3 = 77 := ⟨by decide +kernel, rfl⟩
theorem dX1_combine_77 : decode cX1_combine 77 = .ok (.aload_n 0, 1) ∧ 77 + 1 = 78 := ⟨by decide +kernel, rfl⟩
theorem dX1_combine_78 : decode cX1_combine 78 = .ok (.getfield 35, 3) ∧ 78 + 3 = 81 := ⟨by decide +kernel, rfl⟩
theorem dX1_combine_81 : decode cX1_combine 81 = .ok (.ireturn, 1) ∧ 81 + 1 = 82 := ⟨by decide +kernel, rfl⟩
theorem dX1_collect_0 : decode cX1_collect 0 = .ok (.iconst 0, 1) ∧ 0 + 1 = 1 := ⟨by decide +kernel, rfl⟩
theorem dX1_collect_1 : decode cX1_collect 1 = .ok (.istore 5, 2) ∧ 1 + 2 = 3 := ⟨by decide +kernel, rfl⟩
theorem dX1_collect_3 : decode cX1_collect 3 = .ok (.iload 5, 2) ∧ 3 + 2 = 5 := ⟨by decide +kernel, rfl⟩
theorem dX1_collect_5 : decode cX1_collect 5 = .ok (.aload_n 0, 1) ∧ 5 + 1 = 6 := ⟨by decide +kernel, rfl⟩
theorem dX1_collect_6 : decode cX1_collect 6 = .ok (.getfield 13, 3) ∧ 6 + 3 = 9 := ⟨by decide +kernel, rfl⟩
theorem dX1_collect_9 : decode cX1_collect 9 = .ok (.iload_n 1, 1) ∧ 9 + 1 = 10 := ⟨by decide +kernel, rfl⟩
theorem dX1_collect_10 : decode cX1_collect 10 = .ok (.iaload, 1) ∧ 10 + 1 = 11 := ⟨by decide +kernel, rfl⟩
theorem dX1_collect_11 : decode cX1_collect 11 = .ok (.if_icmp .ge 84, 3) ∧ 11 + 3 = 14 ∧ ((11 : Nat) : Int) + (84) = ((95 : Nat) : Int) := ⟨by decide +kernel, rfl, by decide⟩
theorem dX1_collect_14 : decode cX1_collect 14 = .ok (.aload_n 0, 1) ∧ 14 + 1 = 15 := ⟨by decide +kernel, rfl⟩
theorem dX1_collect_15 : decode cX1_collect 15 = .ok (.getfield 7, 3) ∧ 15 + 3 = 18 := ⟨by decide +kernel, rfl⟩
theorem dX1_collect_18 : decode cX1_collect 18 = .ok (.iload_n 1, 1) ∧ 18 + 1 = 19 := ⟨by decide +kernel, rfl⟩
theorem dX1_collect_19 : decode cX1_collect 19 = .ok (.bipush 20, 2) ∧ 19 + 2 = 21 := ⟨by decide +kernel, rfl⟩
theorem dX1_collect_21 : decode cX1_collect 21 = .ok (.imul, 1) ∧ 21 + 1 = 22 := ⟨by decide +kernel, rfl⟩
theorem dX1_collect_22 : decode cX1_collect 22 = .ok (.iload 5, 2) ∧ 22 + 2 = 24 := ⟨by decide +kernel, rfl⟩
theorem dX1_collect_24 : decode cX1_collect 24 = .ok (.iadd, 1) ∧ 24 + 1 = 25 := ⟨by decide +kernel, rfl⟩
theorem dX1_collect_25 : decode cX1_collect 25 = .ok (.iaload, 1) ∧ 25 + 1 = 26 := ⟨by decide +kernel, rfl⟩
theorem dX1_collect_26 : decode cX1_collect 26 = .ok (.istore 6, 2) ∧ 26 + 2 = 28 := ⟨by decide +kernel, rfl⟩
theorem dX1_collect_28 : decode cX1_collect 28 = .ok (.aload_n 0, 1) ∧ 28 + 1 = 29 := ⟨by decide +kernel, rfl⟩
theorem dX1_collect_29 : decode cX1_collect 29 = .ok (.iload_n 3, 1) ∧ 29 + 1 = 30 := ⟨by decide +kernel, rfl⟩
theorem dX1_collect_30 : decode cX1_collect 30 = .ok (.iload 6, 2) ∧ 30 + 2 = 32 := ⟨by decide +kernel, rfl⟩
theorem dX1_collect_32 : decode cX1_collect 32 = .ok (.invokevirtual 23, 3) ∧ 32 + 3 = 35 := ⟨by decide +kernel, rfl⟩
theorem dX1_collect_35 : decode cX1_collect 35 = .ok (.istore 7, 2) ∧ 35 + 2 = 37 := ⟨by decide +kernel, rfl⟩
theorem dX1_collect_37 : decode cX1_collect 37 = .ok (.aload_n 0, 1) ∧ 37 + 1 = 38 := ⟨by decide +kernel, rfl⟩
theorem dX1_collect_38 : decode cX1_collect 38 = .ok (.iload 4, 2) ∧ 38 + 2 = 40 := ⟨by decide +kernel, rfl⟩
theorem dX1_collect_40 : decode cX1_collect 40 = .ok (.iload 6, 2) ∧ 40 + 2 = 42 := ⟨by decide +kernel, rfl⟩
theorem dX1_collect_42 : decode cX1_collect 42 = .ok (.invokevirtual 23, 3) ∧ 42 + 3 = 45 := ⟨by decide +kernel, rfl⟩
theorem dX1_collect_45 : decode cX1_collect 45 = .ok (.istore 8, 2) ∧ 45 + 2 = 47 := ⟨by decide +kernel, rfl⟩
theorem dX1_collect_47 : decode cX1_collect 47 = .ok (.aload_n 0, 1) ∧ 47 + 1 = 48 := ⟨by decide +kernel, rfl⟩
theorem dX1_collect_48 : decode cX1_collect 48 = .ok (.iload 6, 2) ∧ 48 + 2 = 50 := ⟨by decide +kernel, rfl⟩
theorem dX1_collect_50 : decode cX1_collect 50 = .ok (.invokevirtual 39, 3) ∧ 50 + 3 = 53 := ⟨by decide +kernel, rfl⟩
theorem dX1_collect_53 : decode cX1_collect 53 = .ok (.ifCond .ne 36, 3) ∧ 53 + 3 = 56 ∧ ((53 : Nat) : Int) + (36) = ((89 : Nat) : Int) := ⟨by decide +kernel, rfl, by decide⟩
theorem dX1_collect_56 : decode cX1_collect 56 = .ok (.aload_n 0, 1) ∧ 56 + 1 = 57 := ⟨by decide +kernel, rfl⟩
theorem dX1_collect_57 : decode cX1_collect 57 = .ok (.iload_n 2, 1) ∧ 57 + 1 = 58 := ⟨by decide +kernel, rfl⟩
theorem dX1_collect_58 : decode cX1_collect 58 = .ok (.iload 7, 2) ∧ 58 + 2 = 60 := ⟨by decide +kernel, rfl⟩
theorem dX1_collect_60 : decode cX1_collect 60 = .ok (.iload 8, 2) ∧ 60 + 2 = 62 := ⟨by decide +kernel, rfl⟩
theorem dX1_collect_62 : decode cX1_collect 62 = .ok (.invokevirtual 42, 3) ∧ 62 + 3 = 65 := ⟨by decide +kernel, rfl⟩
theorem dX1_collect_65 : decode cX1_collect 65 = .ok (.ifCond .eq 24, 3) ∧ 65 + 3 = 68 ∧ ((65 : Nat) : Int) + (24) = ((89 : Nat) : Int) := ⟨by decide +kernel, rfl, by decide⟩
theorem dX1_collect_68 : decode cX1_collect 68 = .ok (.aload_n 0, 1) ∧ 68 + 1 = 69 := ⟨by decide +kernel, rfl⟩
theorem dX1_collect_69 : decode cX1_collect 69 = .ok (.getfield 16, 3) ∧ 69 + 3 = 72 := ⟨by decide +kernel, rfl⟩
theorem dX1_collect_72 : decode cX1_collect 72 = .ok (.aload_n 0, 1) ∧ 72 + 1 = 73 := ⟨by decide +kernel, rfl⟩
theorem dX1_collect_73 : decode cX1_collect 73 = .ok (.getfield 35, 3) ∧ 73 + 3 = 76 := ⟨by decide +kernel, rfl⟩
theorem dX1_collect_76 : decode cX1_collect 76 = .ok (.iload 6, 2) ∧ 76 + 2 = 78 := ⟨by decide +kernel, rfl⟩
theorem dX1_collect_78 : decode cX1_collect 78 = .ok (.iastore, 1) ∧ 78 + 1 = 79 := ⟨by decide +kernel, rfl⟩
theorem dX1_collect_79 : decode cX1_collect 79 = .ok (.aload_n 0, 1) ∧ 79 + 1 = 80 := ⟨by decide +kernel, rfl⟩
theorem dX1_collect_80 : decode cX1_collect 80 = .ok (.dup, 1) ∧ 80 + 1 = 81 := ⟨by decide +kernel, rfl⟩
theorem dX1_collect_81 : decode cX1_collect 81 = .ok (.getfield 35, 3) ∧ 81 + 3 = 84 := ⟨by decide +kernel, rfl⟩
theorem dX1_collect_84 : decode cX1_collect 84 = .ok (.iconst 1, 1) ∧ 84 + 1 = 85 := ⟨by decide +kernel, rfl⟩
theorem dX1_collect_85 : decode cX1_collect 85 = .ok (.iadd, 1) ∧ 85 + 1 = 86 := ⟨by decide +kernel, rfl⟩
theorem dX1_collect_86 : decode cX1_collect 86 = .ok (.putfield 35, 3) ∧ 86 + 3 = 89 := ⟨by decide +kernel, rfl⟩
theorem dX1_collect_89 : decode cX1_collect 89 = .ok (.iinc 5 1, 3) ∧ 89 + 3 = 92 := ⟨by decide +kernel, rfl⟩
theorem dX1_collect_92 : decode cX1_collect 92 = .ok (.goto (-89), 3) ∧ 92 + 3 = 95 ∧ ((92 : Nat) : Int) + (-89) = ((3 : Nat) : Int) := ⟨by decide +kernel, rfl, by decide⟩
theorem dX1_collect_95 : decode cX1_collect 95 = .ok (.return_, 1) ∧ 95 + 1 = 96 := ⟨by decide +kernel, rfl⟩
theorem dX1_collected_0 : decode cX1_collected 0 = .ok (.iconst 0, 1) ∧ 0 + 1 = 1 := ⟨by decide +kernel, rfl⟩
theorem dX1_collected_1 : decode cX1_collected 1 = .ok (.istore_n 2, 1) ∧ 1 + 1 = 2 := ⟨by decide +kernel, rfl⟩
theorem dX1_collected_2 : decode cX1_collected 2 = .ok (.iload_n 2, 1) ∧ 2 + 1 = 3 := ⟨by decide +kernel, rfl⟩
theorem dX1_collected_3 : decode cX1_collected 3 = .ok (.aload_n 0, 1) ∧ 3 + 1 = 4 := ⟨by decide +kernel, rfl⟩
theorem dX1_collected_4 : decode cX1_collected 4 = .ok (.getfield 35, 3) ∧ 4 + 3 = 7 := ⟨by decide +kernel, rfl⟩
theorem dX1_collected_7 : decode cX1_collected 7 = .ok (.if_icmp .ge 21, 3) ∧ 7 + 3 = 10 ∧ ((7 : Nat) : Int) + (21) = ((28 : Nat) : Int) := ⟨by decide +kernel, rfl, by decide⟩
theorem dX1_collected_10 : decode cX1_collected 10 = .ok (.aload_n 0, 1) ∧ 10 + 1 = 11 := ⟨by decide +kernel, rfl⟩
theorem dX1_collected_11 : decode cX1_collected 11 = .ok (.getfield 16, 3) ∧ 11 + 3 = 14 := ⟨by decide +kernel, rfl⟩
theorem dX1_collected_14 : decode cX1_collected 14 = .ok (.iload_n 2, 1) ∧ 14 + 1 = 15 := ⟨by decide +kernel, rfl⟩
theorem dX1_collected_15 : decode cX1_collected 15 = .ok (.iaload, 1) ∧ 15 + 1 = 16 := ⟨by decide +kernel, rfl⟩
theorem dX1_collected_16 : decode cX1_collected 16 = .ok (.iload_n 1, 1) ∧ 16 + 1 = 17 := ⟨by decide +kernel, rfl⟩
theorem dX1_collected_17 : decode cX1_collected 17 = .ok (.if_icmp .ne 5, 3) ∧ 17 + 3 = 20 ∧ ((17 : Nat) : Int) + (5) = ((22 : Nat) : Int) := ⟨by decide +kernel, rfl, by decide⟩
theorem dX1_collected_20 : decode cX1_collected 20 = .ok (.iconst 1, 1) ∧ 20 + 1 = 21 := ⟨by decide +kernel, rfl⟩
theorem dX1_collected_21 : decode cX1_collected 21 = .ok (.ireturn, 1) ∧ 21 + 1 = 22 := ⟨by decide +kernel, rfl⟩
theorem dX1_collected_22 : decode cX1_collected 22 = .ok (.iinc 2 1, 3) ∧ 22 + 3 = 25 := ⟨by decide +kernel, rfl⟩
theorem dX1_collected_25 : decode cX1_collected 25 = .ok (.goto (-23), 3) ∧ 25 + 3 = 28 ∧ ((25 : Nat) : Int) + (-23) = ((2 : Nat) : Int) := ⟨by decide +kernel, rfl, by decide⟩
theorem dX1_collected_28 : decode cX1_collected 28 = .ok (.iconst 0, 1) ∧ 28 + 1 = 29 := ⟨by decide +kernel, rfl⟩
theorem dX1_collected_29 : decode cX1_collected 29 = .ok (.ireturn, 1) ∧ 29 + 1 = 30 := ⟨by decide +kernel, rfl⟩
theorem dX1_belongs_0 : decode cX1_belongs 0 = .ok (.iload_n 1, 1) ∧ 0 + 1 = 1 := ⟨by decide +kernel, rfl⟩
theorem dX1_belongs_1 : decode cX1_belongs 1 = .ok (.ifCond .ne 17, 3) ∧ 1 + 3 = 4 ∧ ((1 : Nat) : Int) + (17) = ((18 : Nat) : Int) := ⟨by decide +kernel, rfl, by decide⟩
theorem dX1_belongs_4 : decode cX1_belongs 4 = .ok (.iload_n 2, 1) ∧ 4 + 1 = 5 := ⟨by decide +kernel, rfl⟩
theorem dX1_belongs_5 : decode cX1_belongs 5 = .ok (.ifCond .ne 7, 3) ∧ 5 + 3 = 8 ∧ ((5 : Nat) : Int) + (7) = ((12 : Nat) : Int) := ⟨by decide +kernel, rfl, by decide⟩
theorem dX1_belongs_8 : decode cX1_belongs 8 = .ok (.iload_n 3, 1) ∧ 8 + 1 = 9 := ⟨by decide +kernel, rfl⟩
theorem dX1_belongs_9 : decode cX1_belongs 9 = .ok (.ifCond .eq 7, 3) ∧ 9 + 3 = 12 ∧ ((9 : Nat) : Int) + (7) = ((16 : Nat) : Int) := ⟨by decide +kernel, rfl, by decide⟩
theorem dX1_belongs_12 : decode cX1_belongs 12 = .ok (.iconst 1, 1) ∧ 12 + 1 = 13 := ⟨by decide +kernel, rfl⟩
theorem dX1_belongs_13 : decode cX1_belongs 13 = .ok (.goto 4, 3) ∧ 13 + 3 = 16 ∧ ((13 : Nat) : Int) + (4) = ((17 : Nat) : Int) := ⟨by decide +kernel, rfl, by decide⟩
theorem dX1_belongs_16 : decode cX1_belongs 16 = .ok (.iconst 0, 1) ∧ 16 + 1 = 17 := ⟨by decide +kernel, rfl⟩
theorem dX1_belongs_17 : decode cX1_belongs 17 = .ok (.ireturn, 1) ∧ 17 + 1 = 18 := ⟨by decide +kernel, rfl⟩
theorem dX1_belongs_18 : decode cX1_belongs 18 = .ok (.iload_n 1, 1) ∧ 18 + 1 = 19 := ⟨by decide +kernel, rfl⟩
theorem dX1_belongs_19 : decode cX1_belongs 19 = .ok (.iconst 1, 1) ∧ 19 + 1 = 20 := ⟨by decide +kernel, rfl⟩
theorem dX1_belongs_20 : decode cX1_belongs 20 = .ok (.if_icmp .ne 17, 3) ∧ 20 + 3 = 23 ∧ ((20 : Nat) : Int) + (17) = ((37 : Nat) : Int) := ⟨by decide +kernel, rfl, by decide⟩
theorem dX1_belongs_23 : decode cX1_belongs 23 = .ok (.iload_n 2, 1) ∧ 23 + 1 = 24 := ⟨by decide +kernel, rfl⟩
theorem dX1_belongs_24 : decode cX1_belongs 24 = .ok (.ifCond .eq 11, 3) ∧ 24 + 3 = 27 ∧ ((24 : Nat) : Int) + (11) = ((35 : Nat) : Int) := ⟨by decide +kernel, rfl, by decide⟩
theorem dX1_belongs_27 : decode cX1_belongs 27 = .ok (.iload_n 3, 1) ∧ 27 + 1 = 28 := ⟨by decide +kernel, rfl⟩
theorem dX1_belongs_28 : decode cX1_belongs 28 = .ok (.ifCond .eq 7, 3) ∧ 28 + 3 = 31 ∧ ((28 : Nat) : Int) + (7) = ((35 : Nat) : Int) := ⟨by decide +kernel, rfl, by decide⟩
theorem dX1_belongs_31 : decode cX1_belongs 31 = .ok (.iconst 1, 1) ∧ 31 + 1 = 32 := ⟨by decide +kernel, rfl⟩
theorem dX1_belongs_32 : decode cX1_belongs 32 = .ok (.goto 4, 3) ∧ 32 + 3 = 35 ∧ ((32 : Nat) : Int) + (4) = ((36 : Nat) : Int) := ⟨by decide +kernel, rfl, by decide⟩
theorem dX1_belongs_35 : decode cX1_belongs 35 = .ok (.iconst 0, 1) ∧ 35 + 1 = 36 := ⟨by decide +kernel, rfl⟩
theorem dX1_belongs_36 : decode cX1_belongs 36 = .ok (.ireturn, 1) ∧ 36 + 1 = 37 := ⟨by decide +kernel, rfl⟩
theorem dX1_belongs_37 : decode cX1_belongs 37 = .ok (.iload_n 1, 1) ∧ 37 + 1 = 38 := ⟨by decide +kernel, rfl⟩
theorem dX1_belongs_38 : decode cX1_belongs 38 = .ok (.iconst 2, 1) ∧ 38 + 1 = 39 := ⟨by decide +kernel, rfl⟩
theorem dX1_belongs_39 : decode cX1_belongs 39 = .ok (.if_icmp .ne 19, 3) ∧ 39 + 3 = 42 ∧ ((39 : Nat) : Int) + (19) = ((58 : Nat) : Int) := ⟨by decide +kernel, rfl, by decide⟩
theorem dX1_belongs_42 : decode cX1_belongs 42 = .ok (.iload_n 2, 1) ∧ 42 + 1 = 43 := ⟨by decide +kernel, rfl⟩
theorem dX1_belongs_43 : decode cX1_belongs 43 = .ok (.ifCond .eq 11, 3) ∧ 43 + 3 = 46 ∧ ((43 : Nat) : Int) + (11) = ((54 : Nat) : Int) := ⟨by decide +kernel, rfl, by decide⟩
theorem dX1_belongs_46 : decode cX1_belongs 46 = .ok (.iload_n 3, 1) ∧ 46 + 1 = 47 := ⟨by decide +kernel, rfl⟩
theorem dX1_belongs_47 : decode cX1_belongs 47 = .ok (.ifCond .ne 7, 3) ∧ 47 + 3 = 50 ∧ ((47 : Nat) : Int) + (7) = ((54 : Nat) : Int) := ⟨by decide +kernel, rfl, by decide⟩
theorem dX1_belongs_50 : decode cX1_belongs 50 = .ok (.iconst 1, 1) ∧ 50 + 1 = 51 := ⟨by decide +kernel, rfl⟩
theorem dX1_belongs_51 : decode cX1_belongs 51 = .ok (.goto 17, 3) ∧ 51 + 3 = 54 ∧ ((51 : Nat) : Int) + (17) = ((68 : Nat) : Int) := ⟨by decide +kernel, rfl, by decide⟩
theorem dX1_belongs_54 : decode cX1_belongs 54 = .ok (.iconst 0, 1) ∧ 54 + 1 = 55 := ⟨by decide +kernel, rfl⟩
theorem dX1_belongs_55 : decode cX1_belongs 55 = .ok (.goto 13, 3) ∧ 55 + 3 = 58 ∧ ((55 : Nat) : Int) + (13) = ((68 : Nat) : Int) := ⟨by decide +kernel, rfl, by decide⟩
theorem dX1_belongs_58 : decode cX1_belongs 58 = .ok (.iload_n 2, 1) ∧ 58 + 1 = 59 := ⟨by decide +kernel, rfl⟩
theorem dX1_belongs_59 : decode cX1_belongs 59 = .ok (.iload_n 3, 1) ∧ 59 + 1 = 60 := ⟨by decide +kernel, rfl⟩
theorem dX1_belongs_60 : decode cX1_belongs 60 = .ok (.if_icmp .eq 7, 3) ∧ 60 + 3 = 63 ∧ ((60 : Nat) : Int) + (7) = ((67 : Nat) : Int) := ⟨by decide +kernel, rfl, by decide⟩
theorem dX1_belongs_63 : decode cX1_belongs 63 = .ok (.iconst 1, 1) ∧ 63 + 1 = 64 := ⟨by decide +kernel, rfl⟩
theorem dX1_belongs_64 : decode cX1_belongs 64 = .ok (.goto 4, 3) ∧ 64 + 3 = 67 ∧ ((64 : Nat) : Int) + (4) = ((68 : Nat) : Int) := ⟨by decide +kernel, rfl, by decide⟩
theorem dX1_belongs_67 : decode cX1_belongs 67 = .ok (.iconst 0, 1) ∧ 67 + 1 = 68 := ⟨by decide +kernel, rfl⟩
theorem dX1_belongs_68 : decode cX1_belongs 68 = .ok (.ireturn, 1) ∧ 68 + 1 = 69 := ⟨by decide +kernel, rfl⟩
theorem dX1_store_0 : decode cX1_store 0 = .ok (.iconst 0, 1) ∧ 0 + 1 = 1 := ⟨by decide +kernel, rfl⟩
theorem dX1_store_1 : decode cX1_store 1 = .ok (.istore_n 2, 1) ∧ 1 + 1 = 2 := ⟨by decide +kernel, rfl⟩
theorem dX1_store_2 : decode cX1_store 2 = .ok (.iload_n 2, 1) ∧ 2 + 1 = 3 := ⟨by decide +kernel, rfl⟩
theorem dX1_store_3 : decode cX1_store 3 = .ok (.aload_n 0, 1) ∧ 3 + 1 = 4 := ⟨by decide +kernel, rfl⟩
theorem dX1_store_4 : decode cX1_store 4 = .ok (.getfield 35, 3) ∧ 4 + 3 = 7 := ⟨by decide +kernel, rfl⟩
theorem dX1_store_7 : decode cX1_store 7 = .ok (.if_icmp .ge 26, 3) ∧ 7 + 3 = 10 ∧ ((7 : Nat) : Int) + (26) = ((33 : Nat) : Int) := ⟨by decide +kernel, rfl, by decide⟩
theorem dX1_store_10 : decode cX1_store 10 = .ok (.aload_n 0, 1) ∧ 10 + 1 = 11 := ⟨by decide +kernel, rfl⟩
theorem dX1_store_11 : decode cX1_store 11 = .ok (.getfield 7, 3) ∧ 11 + 3 = 14 := ⟨by decide +kernel, rfl⟩
theorem dX1_store_14 : decode cX1_store 14 = .ok (.iload_n 1, 1) ∧ 14 + 1 = 15 := ⟨by decide +kernel, rfl⟩
theorem dX1_store_15 : decode cX1_store 15 = .ok (.bipush 20, 2) ∧ 15 + 2 = 17 := ⟨by decide +kernel, rfl⟩
theorem dX1_store_17 : decode cX1_store 17 = .ok (.imul, 1) ∧ 17 + 1 = 18 := ⟨by decide +kernel, rfl⟩
theorem dX1_store_18 : decode cX1_store 18 = .ok (.iload_n 2, 1) ∧ 18 + 1 = 19 := ⟨by decide +kernel, rfl⟩
theorem dX1_store_19 : decode cX1_store 19 = .ok (.iadd, 1) ∧ 19 + 1 = 20 := ⟨by decide +kernel, rfl⟩
theorem dX1_store_20 : decode cX1_store 20 = .ok (.aload_n 0, 1) ∧ 20 + 1 = 21 := ⟨by decide +kernel, rfl⟩
theorem dX1_store_21 : decode cX1_store 21 = .ok (.getfield 16, 3) ∧ 21 + 3 = 24 := ⟨by decide +kernel, rfl⟩
theorem dX1_store_24 : decode cX1_store 24 = .ok (.iload_n 2, 1) ∧ 24 + 1 = 25 := ⟨by decide +kernel, rfl⟩
theorem dX1_store_25 : decode cX1_store 25 = .ok (.iaload, 1) ∧ 25 + 1 = 26 := ⟨by decide +kernel, rfl⟩
theorem dX1_store_26 : decode cX1_store 26 = .ok (.iastore, 1) ∧ 26 + 1 = 27 := ⟨by decide +kernel, rfl⟩
theorem dX1_store_27 : decode cX1_store 27 = .ok (.iinc 2 1, 3) ∧ 27 + 3 = 30 := ⟨by decide +kernel, rfl⟩
theorem dX1_store_30 : decode cX1_store 30 = .ok (.goto (-28), 3) ∧ 30 + 3 = 33 ∧ ((30 : Nat) : Int) + (-28) = ((2 : Nat) : Int) := ⟨by decide +kernel, rfl, by decide⟩
theorem dX1_store_33 : decode cX1_store 33 = .ok (.aload_n 0, 1) ∧ 33 + 1 = 34 := ⟨by decide +kernel, rfl⟩
theorem dX1_store_34 : decode cX1_store 34 = .ok (.getfield 13, 3) ∧ 34 + 3 = 37 := ⟨by decide +kernel, rfl⟩
theorem dX1_store_37 : decode cX1_store 37 = .ok (.iload_n 1, 1) ∧ 37 + 1 = 38 := ⟨by decide +kernel, rfl⟩
theorem dX1_store_38 : decode cX1_store 38 = .ok (.aload_n 0, 1) ∧ 38 + 1 = 39 := ⟨by decide +kernel, rfl⟩
theorem dX1_store_39 : decode cX1_store 39 = .ok (.getfield 35, 3) ∧ 39 + 3 = 42 := ⟨by decide +kernel, rfl⟩
theorem dX1_store_42 : decode cX1_store 42 = .ok (.iastore, 1) ∧ 42 + 1 = 43 := ⟨by decide +kernel, rfl⟩
theorem dX1_store_43 : decode cX1_store 43 = .ok (.return_, 1) ∧ 43 + 1 = 44 := ⟨by decide +kernel, rfl⟩
theorem dX1_split_0 : decode cX1_split 0 = .ok (.aload_n 0, 1) ∧ 0 + 1 = 1 := ⟨by decide +kernel, rfl⟩
theorem dX1_split_1 : decode cX1_split 1 = .ok (.iload_n 1, 1) ∧ 1 + 1 = 2 := ⟨by decide +kernel, rfl⟩
theorem dX1_split_2 : decode cX1_split 2 = .ok (.invokevirtual 19, 3) ∧ 2 + 3 = 5 := ⟨by decide +kernel, rfl⟩
theorem dX1_split_5 : decode cX1_split 5 = .ok (.ifCond .eq 11, 3) ∧ 5 + 3 = 8 ∧ ((5 : Nat) : Int) + (11) = ((16 : Nat) : Int) := ⟨by decide +kernel, rfl, by decide⟩
theorem dX1_split_8 : decode cX1_split 8 = .ok (.aload_n 0, 1) ∧ 8 + 1 = 9 := ⟨by decide +kernel, rfl⟩
theorem dX1_split_9 : decode cX1_split 9 = .ok (.iload_n 3, 1) ∧ 9 + 1 = 10 := ⟨by decide +kernel, rfl⟩
theorem dX1_split_10 : decode cX1_split 10 = .ok (.invokevirtual 19, 3) ∧ 10 + 3 = 13 := ⟨by decide +kernel, rfl⟩
theorem dX1_split_13 : decode cX1_split 13 = .ok (.ifCond .ne 5, 3) ∧ 13 + 3 = 16 ∧ ((13 : Nat) : Int) + (5) = ((18 : Nat) : Int) := ⟨by decide +kernel, rfl, by decide⟩
theorem dX1_split_16 : decode cX1_split 16 = .ok (.iconst (-1), 1) ∧ 16 + 1 = 17 := ⟨by decide +kernel, rfl⟩
theorem dX1_split_17 : decode cX1_split 17 = .ok (.ireturn, 1) ∧ 17 + 1 = 18 := ⟨by decide +kernel, rfl⟩
theorem dX1_split_18 : decode cX1_split 18 = .ok (.aload_n 0, 1) ∧ 18 + 1 = 19 := ⟨by decide +kernel, rfl⟩
theorem dX1_split_19 : decode cX1_split 19 = .ok (.iconst 0, 1) ∧ 19 + 1 = 20 := ⟨by decide +kernel, rfl⟩
theorem dX1_split_20 : decode cX1_split 20 = .ok (.putfield 35, 3) ∧ 20 + 3 = 23 := ⟨by decide +kernel, rfl⟩
theorem dX1_split_23 : decode cX1_split 23 = .ok (.iconst 0, 1) ∧ 23 + 1 = 24 := ⟨by decide +kernel, rfl⟩
theorem dX1_split_24 : decode cX1_split 24 = .ok (.istore 4, 2) ∧ 24 + 2 = 26 := ⟨by decide +kernel, rfl⟩
theorem dX1_split_26 : decode cX1_split 26 = .ok (.iload 4, 2) ∧ 26 + 2 = 28 := ⟨by decide +kernel, rfl⟩
theorem dX1_split_28 : decode cX1_split 28 = .ok (.aload_n 0, 1) ∧ 28 + 1 = 29 := ⟨by decide +kernel, rfl⟩
theorem dX1_split_29 : decode cX1_split 29 = .ok (.getfield 13, 3) ∧ 29 + 3 = 32 := ⟨by decide +kernel, rfl⟩
theorem dX1_split_32 : decode cX1_split 32 = .ok (.iload_n 1, 1) ∧ 32 + 1 = 33 := ⟨by decide +kernel, rfl⟩
theorem dX1_split_33 : decode cX1_split 33 = .ok (.iaload, 1) ∧ 33 + 1 = 34 := ⟨by decide +kernel, rfl⟩
theorem dX1_split_34 : decode cX1_split 34 = .ok (.if_icmp .ge 56, 3) ∧ 34 + 3 = 37 ∧ ((34 : Nat) : Int) + (56) = ((90 : Nat) : Int) := ⟨by decide +kernel, rfl, by decide⟩
theorem dX1_split_37 : decode cX1_split 37 = .ok (.aload_n 0, 1) ∧ 37 + 1 = 38 := ⟨by decide +kernel, rfl⟩
theorem dX1_split_38 : decode cX1_split 38 = .ok (.getfield 7, 3) ∧ 38 + 3 = 41 := ⟨by decide +kernel, rfl⟩
theorem dX1_split_41 : decode cX1_split 41 = .ok (.iload_n 1, 1) ∧ 41 + 1 = 42 := ⟨by decide +kernel, rfl⟩
theorem dX1_split_42 : decode cX1_split 42 = .ok (.bipush 20, 2) ∧ 42 + 2 = 44 := ⟨by decide +kernel, rfl⟩
theorem dX1_split_44 : decode cX1_split 44 = .ok (.imul, 1) ∧ 44 + 1 = 45 := ⟨by decide +kernel, rfl⟩
theorem dX1_split_45 : decode cX1_split 45 = .ok (.iload 4, 2) ∧ 45 + 2 = 47 := ⟨by decide +kernel, rfl⟩
theorem dX1_split_47 : decode cX1_split 47 = .ok (.iadd, 1) ∧ 47 + 1 = 48 := ⟨by decide +kernel, rfl⟩
theorem dX1_split_48 : decode cX1_split 48 = .ok (.iaload, 1) ∧ 48 + 1 = 49 := ⟨by decide +kernel, rfl⟩
theorem dX1_split_49 : decode cX1_split 49 = .ok (.iload_n 2, 1) ∧ 49 + 1 = 50 := ⟨by decide +kernel, rfl⟩
theorem dX1_split_50 : decode cX1_split 50 = .ok (.if_icmp .lt 34, 3) ∧ 50 + 3 = 53 ∧ ((50 : Nat) : Int) + (34) = ((84 : Nat) : Int) := ⟨by decide +kernel, rfl, by decide⟩
theorem dX1_split_53 : decode cX1_split 53 = .ok (.aload_n 0, 1) ∧ 53 + 1 = 54 := ⟨by decide +kernel, rfl⟩
theorem dX1_split_54 : decode cX1_split 54 = .ok (.getfield 16, 3) ∧ 54 + 3 = 57 := ⟨by decide +kernel, rfl⟩
theorem dX1_split_57 : decode cX1_split 57 = .ok (.aload_n 0, 1) ∧ 57 + 1 = 58 := ⟨by decide +kernel, rfl⟩
theorem dX1_split_58 : decode cX1_split 58 = .ok (.getfield 35, 3) ∧ 58 + 3 = 61 := ⟨by decide +kernel, rfl⟩
theorem dX1_split_61 : decode cX1_split 61 = .ok (.aload_n 0, 1) ∧ 61 + 1 = 62 := ⟨by decide +kernel, rfl⟩
theorem dX1_split_62 : decode cX1_split 62 = .ok (.getfield 7, 3) ∧ 62 + 3 = 65 := ⟨by decide +kernel, rfl⟩
theorem dX1_split_65 : decode cX1_split 65 = .ok (.iload_n 1, 1) ∧ 65 + 1 = 66 := ⟨by decide +kernel, rfl⟩
theorem dX1_split_66 : decode cX1_split 66 = .ok (.bipush 20, 2) ∧ 66 + 2 = 68 := ⟨by decide +kernel, rfl⟩
theorem dX1_split_68 : decode cX1_split 68 = .ok (.imul, 1) ∧ 68 + 1 = 69 := ⟨by decide +kernel, rfl⟩
theorem dX1_split_69 : decode cX1_split 69 = .ok (.iload 4, 2) ∧ 69 + 2 = 71 := ⟨by decide +kernel, rfl⟩
theorem dX1_split_71 : decode cX1_split 71 = .ok (.iadd, 1) ∧ 71 + 1 = 72 := ⟨by decide +kernel, rfl⟩
theorem dX1_split_72 : decode cX1_split 72 = .ok (.iaload, 1) ∧ 72 + 1 = 73 := ⟨by decide +kernel, rfl⟩
theorem dX1_split_73 : decode cX1_split 73 = .ok (.iastore, 1) ∧ 73 + 1 = 74 := ⟨by decide +kernel, rfl⟩
theorem dX1_split_74 : decode cX1_split 74 = .ok (.aload_n 0, 1) ∧ 74 + 1 = 75 := ⟨by decide +kernel, rfl⟩
theorem dX1_split_75 : decode cX1_split 75 = .ok (.dup, 1) ∧ 75 + 1 = 76 := ⟨by decide +kernel, rfl⟩
theorem dX1_split_76 : decode cX1_split 76 = .ok (.getfield 35, 3) ∧ 76 + 3 = 79 := ⟨by decide +kernel, rfl⟩
theorem dX1_split_79 : decode cX1_split 79 = .ok (.iconst 1, 1) ∧ 79 + 1 = 80 := ⟨by decide +kernel, rfl⟩
theorem dX1_split_80 : decode cX1_split 80 = .ok (.iadd, 1) ∧ 80 + 1 = 81 := ⟨by decide +kernel, rfl⟩
theorem dX1_split_81 : decode cX1_split 81 = .ok (.putfield 35, 3) ∧ 81 + 3 = 84 := ⟨by decide +kernel, rfl⟩
theorem dX1_split_84 : decode cX1_split 84 = .ok (.iinc 4 1, 3) ∧ 84 + 3 = 87 := ⟨by decide +kernel, rfl⟩
theorem dX1_split_87 : decode cX1_split 87 = .ok (.goto (-61), 3) ∧ 87 + 3 = 90 ∧ ((87 : Nat) : Int) + (-61) = ((26 : Nat) : Int) := ⟨by decide +kernel, rfl, by decide⟩
theorem dX1_split_90 : decode cX1_split 90 = .ok (.aload_n 0, 1) ∧ 90 + 1 = 91 := ⟨by decide +kernel, rfl⟩
theorem dX1_split_91 : decode cX1_split 91 = .ok (.iload_n 1, 1) ∧ 91 + 1 = 92 := ⟨by decide +kernel, rfl⟩
theorem dX1_split_92 : decode cX1_split 92 = .ok (.iload_n 2, 1) ∧ 92 + 1 = 93 := ⟨by decide +kernel, rfl⟩
theorem dX1_split_93 : decode cX1_split 93 = .ok (.ldc 54, 2) ∧ 93 + 2 = 95 := ⟨by decide +kernel, rfl⟩
theorem dX1_split_95 : decode cX1_split 95 = .ok (.invokevirtual 27, 3) ∧ 95 + 3 = 98 := ⟨by decide +kernel, rfl⟩
theorem dX1_split_98 : decode cX1_split 98 = .ok (.pop, 1) ∧ 98 + 1 = 99 := ⟨by decide +kernel, rfl⟩
theorem dX1_split_99 : decode cX1_split 99 = .ok (.aload_n 0, 1) ∧ 99 + 1 = 100 := ⟨by decide +kernel, rfl⟩
theorem dX1_split_100 : decode cX1_split 100 = .ok (.iload_n 3, 1) ∧ 100 + 1 = 101 := ⟨by decide +kernel, rfl⟩
theorem dX1_split_101 : decode cX1_split 101 = .ok (.invokevirtual 50, 3) ∧ 101 + 3 = 104 := ⟨by decide +kernel, rfl⟩
theorem dX1_split_104 : decode cX1_split 104 = .ok (.aload_n 0, 1) ∧ 104 + 1 = 105 := ⟨by decide +kernel, rfl⟩
theorem dX1_split_105 : decode cX1_split 105 = .ok (.getfield 35, 3) ∧ 105 + 3 = 108 := ⟨by decide +kernel, rfl⟩
theorem dX1_split_108 : decode cX1_split 108 = .ok (.ireturn, 1) ∧ 108 + 1 = 109 := ⟨by decide +kernel, rfl⟩
theorem dX1_same_0 : decode cX1_same 0 = .ok (.aload_n 0, 1) ∧ 0 + 1 = 1 := ⟨by decide +kernel, rfl⟩
theorem dX1_same_1 : decode cX1_same 1 = .ok (.iload_n 1, 1) ∧ 1 + 1 = 2 := ⟨by decide +kernel, rfl⟩
theorem dX1_same_2 : decode cX1_same 2 = .ok (.iload_n 2, 1) ∧ 2 + 1 = 3 := ⟨by decide +kernel, rfl⟩
theorem dX1_same_3 : decode cX1_same 3 = .ok (.invokevirtual 55, 3) ∧ 3 + 3 = 6 := ⟨by decide +kernel, rfl⟩
theorem dX1_same_6 : decode cX1_same 6 = .ok (.ifCond .eq 16, 3) ∧ 6 + 3 = 9 ∧ ((6 : Nat) : Int) + (16) = ((22 : Nat) : Int) := ⟨by decide +kernel, rfl, by decide⟩
theorem dX1_same_9 : decode cX1_same 9 = .ok (.aload_n 0, 1) ∧ 9 + 1 = 10 := ⟨by decide +kernel, rfl⟩
theorem dX1_same_10 : decode cX1_same 10 = .ok (.iload_n 2, 1) ∧ 10 + 1 = 11 := ⟨by decide +kernel, rfl⟩
theorem dX1_same_11 : decode cX1_same 11 = .ok (.iload_n 1, 1) ∧ 11 + 1 = 12 := ⟨by decide +kernel, rfl⟩
theorem dX1_same_12 : decode cX1_same 12 = .ok (.invokevirtual 55, 3) ∧ 12 + 3 = 15 := ⟨by decide +kernel, rfl⟩
theorem dX1_same_15 : decode cX1_same 15 = .ok (.ifCond .eq 7, 3) ∧ 15 + 3 = 18 ∧ ((15 : Nat) : Int) + (7) = ((22 : Nat) : Int) := ⟨by decide +kernel, rfl, by decide⟩
theorem dX1_same_18 : decode cX1_same 18 = .ok (.iconst 1, 1) ∧ 18 + 1 = 19 := ⟨by decide +kernel, rfl⟩
theorem dX1_same_19 : decode cX1_same 19 = .ok (.goto 4, 3) ∧ 19 + 3 = 22 ∧ ((19 : Nat) : Int) + (4) = ((23 : Nat) : Int) := ⟨by decide +kernel, rfl, by decide⟩
theorem dX1_same_22 : decode cX1_same 22 = .ok (.iconst 0, 1) ∧ 22 + 1 = 23 := ⟨by decide +kernel, rfl⟩
theorem dX1_same_23 : decode cX1_same 23 = .ok (.ireturn, 1) ∧ 23 + 1 = 24 := ⟨by decide +kernel, rfl⟩
theorem dX1_within_0 : decode cX1_within 0 = .ok (.aload_n 0, 1) ∧ 0 + 1 = 1 := ⟨by decide +kernel, rfl⟩
theorem dX1_within_1 : decode cX1_within 1 = .ok (.iload_n 1, 1) ∧ 1 + 1 = 2 := ⟨by decide +kernel, rfl⟩
theorem dX1_within_2 : decode cX1_within 2 = .ok (.invokevirtual 19, 3) ∧ 2 + 3 = 5 := ⟨by decide +kernel, rfl⟩
theorem dX1_within_5 : decode cX1_within 5 = .ok (.ifCond .eq 11, 3) ∧ 5 + 3 = 8 ∧ ((5 : Nat) : Int) + (11) = ((16 : Nat) : Int) := ⟨by decide +kernel, rfl, by decide⟩
theorem dX1_within_8 : decode cX1_within 8 = .ok (.aload_n 0, 1) ∧ 8 + 1 = 9 := ⟨by decide +kernel, rfl⟩
theorem dX1_within_9 : decode cX1_within 9 = .ok (.iload_n 2, 1) ∧ 9 + 1 = 10 := ⟨by decide +kernel, rfl⟩
theorem dX1_within_10 : decode cX1_within 10 = .ok (.invokevirtual 19, 3) ∧ 10 + 3 = 13 := ⟨by decide +kernel, rfl⟩
theorem dX1_within_13 : decode cX1_within 13 = .ok (.ifCond .ne 5, 3) ∧ 13 + 3 = 16 ∧ ((13 : Nat) : Int) + (5) = ((18 : Nat) : Int) := ⟨by decide +kernel, rfl, by decide⟩
theorem dX1_within_16 : decode cX1_within 16 = .ok (.iconst 0, 1) ∧ 16 + 1 = 17 := ⟨by decide +kernel, rfl⟩
theorem dX1_within_17 : decode cX1_within 17 = .ok (.ireturn, 1) ∧ 17 + 1 = 18 := ⟨by decide +kernel, rfl⟩
theorem dX1_within_18 : decode cX1_within 18 = .ok (.iconst 0, 1) ∧ 18 + 1 = 19 := ⟨by decide +kernel, rfl⟩
theorem dX1_within_19 : decode cX1_within 19 = .ok (.istore_n 3, 1) ∧ 19 + 1 = 20 := ⟨by decide +kernel, rfl⟩
theorem dX1_within_20 : decode cX1_within 20 = .ok (.iload_n 3, 1) ∧ 20 + 1 = 21 := ⟨by decide +kernel, rfl⟩
theorem dX1_within_21 : decode cX1_within 21 = .ok (.aload_n 0, 1) ∧ 21 + 1 = 22 := ⟨by decide +kernel, rfl⟩
theorem dX1_within_22 : decode cX1_within 22 = .ok (.getfield 13, 3) ∧ 22 + 3 = 25 := ⟨by decide +kernel, rfl⟩
theorem dX1_within_25 : decode cX1_within 25 = .ok (.iload_n 1, 1) ∧ 25 + 1 = 26 := ⟨by decide +kernel, rfl⟩
theorem dX1_within_26 : decode cX1_within 26 = .ok (.iaload, 1) ∧ 26 + 1 = 27 := ⟨by decide +kernel, rfl⟩
theorem dX1_within_27 : decode cX1_within 27 = .ok (.if_icmp .ge 30, 3) ∧ 27 + 3 = 30 ∧ ((27 : Nat) : Int) + (30) = ((57 : Nat) : Int) := ⟨by decide +kernel, rfl, by decide⟩
theorem dX1_within_30 : decode cX1_within 30 = .ok (.aload_n 0, 1) ∧ 30 + 1 = 31 := ⟨by decide +kernel, rfl⟩
theorem dX1_within_31 : decode cX1_within 31 = .ok (.iload_n 2, 1) ∧ 31 + 1 = 32 := ⟨by decide +kernel, rfl⟩
theorem dX1_within_32 : decode cX1_within 32 = .ok (.aload_n 0, 1) ∧ 32 + 1 = 33 := ⟨by decide +kernel, rfl⟩
theorem dX1_within_33 : decode cX1_within 33 = .ok (.getfield 7, 3) ∧ 33 + 3 = 36 := ⟨by decide +kernel, rfl⟩
theorem dX1_within_36 : decode cX1_within 36 = .ok (.iload_n 1, 1) ∧ 36 + 1 = 37 := ⟨by decide +kernel, rfl⟩
theorem dX1_within_37 : decode cX1_within 37 = .ok (.bipush 20, 2) ∧ 37 + 2 = 39 := ⟨by decide +kernel, rfl⟩
theorem dX1_within_39 : decode cX1_within 39 = .ok (.imul, 1) ∧ 39 + 1 = 40 := ⟨by decide +kernel, rfl⟩
theorem dX1_within_40 : decode cX1_within 40 = .ok (.iload_n 3, 1) ∧ 40 + 1 = 41 := ⟨by decide +kernel, rfl⟩
theorem dX1_within_41 : decode cX1_within 41 = .ok (.iadd, 1) ∧ 41 + 1 = 42 := ⟨by decide +kernel, rfl⟩
theorem dX1_within_42 : decode cX1_within 42 = .ok (.iaload, 1) ∧ 42 + 1 = 43 := ⟨by decide +kernel, rfl⟩
theorem dX1_within_43 : decode cX1_within 43 = .ok (.invokevirtual 23, 3) ∧ 43 + 3 = 46 := ⟨by decide +kernel, rfl⟩
theorem dX1_within_46 : decode cX1_within 46 = .ok (.ifCond .ne 5, 3) ∧ 46 + 3 = 49 ∧ ((46 : Nat) : Int) + (5) = ((51 : Nat) : Int) := ⟨by decide +kernel, rfl, by decide⟩
theorem dX1_within_49 : decode cX1_within 49 = .ok (.iconst 0, 1) ∧ 49 + 1 = 50 := ⟨by decide +kernel, rfl⟩
theorem dX1_within_50 : decode cX1_within 50 = .ok (.ireturn, 1) ∧ 50 + 1 = 51 := ⟨by decide +kernel, rfl⟩
theorem dX1_within_51 : decode cX1_within 51 = .ok (.iinc 3 1, 3) ∧ 51 + 3 = 54 := ⟨by decide +kernel, rfl⟩
theorem dX1_within_54 : decode cX1_within 54 = .ok (.goto (-34), 3) ∧ 54 + 3 = 57 ∧ ((54 : Nat) : Int) + (-34) = ((20 : Nat) : Int) := ⟨by decide +kernel, rfl, by decide⟩
theorem dX1_within_57 : decode cX1_within 57 = .ok (.iconst 1, 1) ∧ 57 + 1 = 58 := ⟨by decide +kernel, rfl⟩
theorem dX1_within_58 : decode cX1_within 58 = .ok (.ireturn, 1) ∧ 58 + 1 = 59 := ⟨by decide +kernel, rfl⟩
theorem dX1_ceiling_0 : decode cX1_ceiling 0 = .ok (.aload_n 0, 1) ∧ 0 + 1 = 1 := ⟨by decide +kernel, rfl⟩
theorem dX1_ceiling_1 : decode cX1_ceiling 1 = .ok (.iload_n 1, 1) ∧ 1 + 1 = 2 := ⟨by decide +kernel, rfl⟩
theorem dX1_ceiling_2 : decode cX1_ceiling 2 = .ok (.invokevirtual 19, 3) ∧ 2 + 3 = 5 := ⟨by decide +kernel, rfl⟩
theorem dX1_ceiling_5 : decode cX1_ceiling 5 = .ok (.ifCond .ne 5, 3) ∧ 5 + 3 = 8 ∧ ((5 : Nat) : Int) + (5) = ((10 : Nat) : Int) := ⟨by decide +kernel, rfl, by decide⟩
theorem dX1_ceiling_8 : decode cX1_ceiling 8 = .ok (.iconst (-1), 1) ∧ 8 + 1 = 9 := ⟨by decide +kernel, rfl⟩
theorem dX1_ceiling_9 : decode cX1_ceiling 9 = .ok (.ireturn, 1) ∧ 9 + 1 = 10 := ⟨by decide +kernel, rfl⟩
theorem dX1_ceiling_10 : decode cX1_ceiling 10 = .ok (.aload_n 0, 1) ∧ 10 + 1 = 11 := ⟨by decide +kernel, rfl⟩
theorem dX1_ceiling_11 : decode cX1_ceiling 11 = .ok (.iload_n 1, 1) ∧ 11 + 1 = 12 := ⟨by decide +kernel, rfl⟩
theorem dX1_ceiling_12 : decode cX1_ceiling 12 = .ok (.iload_n 2, 1) ∧ 12 + 1 = 13 := ⟨by decide +kernel, rfl⟩
theorem dX1_ceiling_13 : decode cX1_ceiling 13 = .ok (.invokevirtual 31, 3) ∧ 13 + 3 = 16 := ⟨by decide +kernel, rfl⟩
theorem dX1_ceiling_16 : decode cX1_ceiling 16 = .ok (.istore_n 3, 1) ∧ 16 + 1 = 17 := ⟨by decide +kernel, rfl⟩
theorem dX1_ceiling_17 : decode cX1_ceiling 17 = .ok (.iload_n 3, 1) ∧ 17 + 1 = 18 := ⟨by decide +kernel, rfl⟩
theorem dX1_ceiling_18 : decode cX1_ceiling 18 = .ok (.aload_n 0, 1) ∧ 18 + 1 = 19 := ⟨by decide +kernel, rfl⟩
theorem dX1_ceiling_19 : decode cX1_ceiling 19 = .ok (.getfield 13, 3) ∧ 19 + 3 = 22 := ⟨by decide +kernel, rfl⟩
theorem dX1_ceiling_22 : decode cX1_ceiling 22 = .ok (.iload_n 1, 1) ∧ 22 + 1 = 23 := ⟨by decide +kernel, rfl⟩
theorem dX1_ceiling_23 : decode cX1_ceiling 23 = .ok (.iaload, 1) ∧ 23 + 1 = 24 := ⟨by decide +kernel, rfl⟩
theorem dX1_ceiling_24 : decode cX1_ceiling 24 = .ok (.if_icmp .ge 7, 3) ∧ 24 + 3 = 27 ∧ ((24 : Nat) : Int) + (7) = ((31 : Nat) : Int) := ⟨by decide +kernel, rfl, by decide⟩
theorem dX1_ceiling_27 : decode cX1_ceiling 27 = .ok (.iload_n 3, 1) ∧ 27 + 1 = 28 := ⟨by decide +kernel, rfl⟩
theorem dX1_ceiling_28 : decode cX1_ceiling 28 = .ok (.goto 5, 3) ∧ 28 + 3 = 31 ∧ ((28 : Nat) : Int) + (5) = ((33 : Nat) : Int) := ⟨by decide +kernel, rfl, by decide⟩
theorem dX1_ceiling_31 : decode cX1_ceiling 31 = .ok (.bipush (-3), 2) ∧ 31 + 2 = 33 := ⟨by decide +kernel, rfl⟩
theorem dX1_ceiling_33 : decode cX1_ceiling 33 = .ok (.ireturn, 1) ∧ 33 + 1 = 34 := ⟨by decide +kernel, rfl⟩
theorem dX1_clear_0 : decode cX1_clear 0 = .ok (.aload_n 0, 1) ∧ 0 + 1 = 1 := ⟨by decide +kernel, rfl⟩
theorem dX1_clear_1 : decode cX1_clear 1 = .ok (.iload_n 1, 1) ∧ 1 + 1 = 2 := ⟨by decide +kernel, rfl⟩
theorem dX1_clear_2 : decode cX1_clear 2 = .ok (.invokevirtual 19, 3) ∧ 2 + 3 = 5 := ⟨by decide +kernel, rfl⟩
theorem dX1_clear_5 : decode cX1_clear 5 = .ok (.ifCond .ne 5, 3) ∧ 5 + 3 = 8 ∧ ((5 : Nat) : Int) + (5) = ((10 : Nat) : Int) := ⟨by decide +kernel, rfl, by decide⟩
theorem dX1_clear_8 : decode cX1_clear 8 = .ok (.iconst (-1), 1) ∧ 8 + 1 = 9 := ⟨by decide +kernel, rfl⟩
theorem dX1_clear_9 : decode cX1_clear 9 = .ok (.ireturn, 1) ∧ 9 + 1 = 10 := ⟨by decide +kernel, rfl⟩
theorem dX1_clear_10 : decode cX1_clear 10 = .ok (.aload_n 0, 1) ∧ 10 + 1 = 11 := ⟨by decide +kernel, rfl⟩
theorem dX1_clear_11 : decode cX1_clear 11 = .ok (.getfield 13, 3) ∧ 11 + 3 = 14 := ⟨by decide +kernel, rfl⟩
theorem dX1_clear_14 : decode cX1_clear 14 = .ok (.iload_n 1, 1) ∧ 14 + 1 = 15 := ⟨by decide +kernel, rfl⟩
theorem dX1_clear_15 : decode cX1_clear 15 = .ok (.iaload, 1) ∧ 15 + 1 = 16 := ⟨by decide +kernel, rfl⟩
theorem dX1_clear_16 : decode cX1_clear 16 = .ok (.istore_n 2, 1) ∧ 16 + 1 = 17 := ⟨by decide +kernel, rfl⟩
theorem dX1_clear_17 : decode cX1_clear 17 = .ok (.aload_n 0, 1) ∧ 17 + 1 = 18 := ⟨by decide +kernel, rfl⟩
theorem dX1_clear_18 : decode cX1_clear 18 = .ok (.getfield 13, 3) ∧ 18 + 3 = 21 := ⟨by decide +kernel, rfl⟩
theorem dX1_clear_21 : decode cX1_clear 21 = .ok (.iload_n 1, 1) ∧ 21 + 1 = 22 := ⟨by decide +kernel, rfl⟩
theorem dX1_clear_22 : decode cX1_clear 22 = .ok (.iconst 0, 1) ∧ 22 + 1 = 23 := ⟨by decide +kernel, rfl⟩
theorem dX1_clear_23 : decode cX1_clear 23 = .ok (.iastore, 1) ∧ 23 + 1 = 24 := ⟨by decide +kernel, rfl⟩
theorem dX1_clear_24 : decode cX1_clear 24 = .ok (.iload_n 2, 1) ∧ 24 + 1 = 25 := ⟨by decide +kernel, rfl⟩
theorem dX1_clear_25 : decode cX1_clear 25 = .ok (.ireturn, 1) ∧ 25 + 1 = 26 := ⟨by decide +kernel, rfl⟩
theorem dL_law_0 : decode cL_law 0 = .ok (.new 7, 3) ∧ 0 + 3 = 3 := ⟨by decide +kernel, rfl⟩
theorem dL_law_3 : decode cL_law 3 = .ok (.dup, 1) ∧ 3 + 1 = 4 := ⟨by decide +kernel, rfl⟩
theorem dL_law_4 : decode cL_law 4 = .ok (.invokespecial 9, 3) ∧ 4 + 3 = 7 := ⟨by decide +kernel, rfl⟩
theorem dL_law_7 : decode cL_law 7 = .ok (.astore_n 1, 1) ∧ 7 + 1 = 8 := ⟨by decide +kernel, rfl⟩
theorem dL_law_8 : decode cL_law 8 = .ok (.new 10, 3) ∧ 8 + 3 = 11 := ⟨by decide +kernel, rfl⟩
theorem dL_law_11 : decode cL_law 11 = .ok (.dup, 1) ∧ 11 + 1 = 12 := ⟨by decide +kernel, rfl⟩
theorem dL_law_12 : decode cL_law 12 = .ok (.invokespecial 12, 3) ∧ 12 + 3 = 15 := ⟨by decide +kernel, rfl⟩
theorem dL_law_15 : decode cL_law 15 = .ok (.astore_n 2, 1) ∧ 15 + 1 = 16 := ⟨by decide +kernel, rfl⟩
theorem dL_law_16 : decode cL_law 16 = .ok (.iconst 0, 1) ∧ 16 + 1 = 17 := ⟨by decide +kernel, rfl⟩
theorem dL_law_17 : decode cL_law 17 = .ok (.istore_n 3, 1) ∧ 17 + 1 = 18 := ⟨by decide +kernel, rfl⟩
theorem dL_law_18 : decode cL_law 18 = .ok (.iload_n 3, 1) ∧ 18 + 1 = 19 := ⟨by decide +kernel, rfl⟩
theorem dL_law_19 : decode cL_law 19 = .ok (.aload_n 0, 1) ∧ 19 + 1 = 20 := ⟨by decide +kernel, rfl⟩
theorem dL_law_20 : decode cL_law 20 = .ok (.arraylength, 1) ∧ 20 + 1 = 21 := ⟨by decide +kernel, rfl⟩
theorem dL_law_21 : decode cL_law 21 = .ok (.iconst 5, 1) ∧ 21 + 1 = 22 := ⟨by decide +kernel, rfl⟩
theorem dL_law_22 : decode cL_law 22 = .ok (.isub, 1) ∧ 22 + 1 = 23 := ⟨by decide +kernel, rfl⟩
theorem dL_law_23 : decode cL_law 23 = .ok (.if_icmp .gt 532, 3) ∧ 23 + 3 = 26 ∧ ((23 : Nat) : Int) + (532) = ((555 : Nat) : Int) := ⟨by decide +kernel, rfl, by decide⟩
theorem dL_law_26 : decode cL_law 26 = .ok (.aload_n 0, 1) ∧ 26 + 1 = 27 := ⟨by decide +kernel, rfl⟩
theorem dL_law_27 : decode cL_law 27 = .ok (.iload_n 3, 1) ∧ 27 + 1 = 28 := ⟨by decide +kernel, rfl⟩
theorem dL_law_28 : decode cL_law 28 = .ok (.iaload, 1) ∧ 28 + 1 = 29 := ⟨by decide +kernel, rfl⟩
theorem dL_law_29 : decode cL_law 29 = .ok (.bipush 15, 2) ∧ 29 + 2 = 31 := ⟨by decide +kernel, rfl⟩
theorem dL_law_31 : decode cL_law 31 = .ok (.iand, 1) ∧ 31 + 1 = 32 := ⟨by decide +kernel, rfl⟩
theorem dL_law_32 : decode cL_law 32 = .ok (.tableswitch 517 0 12 #[68, 101, 134, 167, 190, 223, 256, 309, 352, 395, 428, 461, 494], 68) ∧ 32 + 68 = 100 := ⟨by decide +kernel, rfl⟩
theorem dL_law_100 : decode cL_law 100 = .ok (.aload_n 1, 1) ∧ 100 + 1 = 101 := ⟨by decide +kernel, rfl⟩
theorem dL_law_101 : decode cL_law 101 = .ok (.aload_n 0, 1) ∧ 101 + 1 = 102 := ⟨by decide +kernel, rfl⟩
theorem dL_law_102 : decode cL_law 102 = .ok (.iload_n 3, 1) ∧ 102 + 1 = 103 := ⟨by decide +kernel, rfl⟩
theorem dL_law_103 : decode cL_law 103 = .ok (.iconst 1, 1) ∧ 103 + 1 = 104 := ⟨by decide +kernel, rfl⟩
theorem dL_law_104 : decode cL_law 104 = .ok (.iadd, 1) ∧ 104 + 1 = 105 := ⟨by decide +kernel, rfl⟩
theorem dL_law_105 : decode cL_law 105 = .ok (.iaload, 1) ∧ 105 + 1 = 106 := ⟨by decide +kernel, rfl⟩
theorem dL_law_106 : decode cL_law 106 = .ok (.aload_n 0, 1) ∧ 106 + 1 = 107 := ⟨by decide +kernel, rfl⟩
theorem dL_law_107 : decode cL_law 107 = .ok (.iload_n 3, 1) ∧ 107 + 1 = 108 := ⟨by decide +kernel, rfl⟩
theorem dL_law_108 : decode cL_law 108 = .ok (.iconst 2, 1) ∧ 108 + 1 = 109 := ⟨by decide +kernel, rfl⟩
theorem dL_law_109 : decode cL_law 109 = .ok (.iadd, 1) ∧ 109 + 1 = 110 := ⟨by decide +kernel, rfl⟩
theorem dL_law_110 : decode cL_law 110 = .ok (.iaload, 1) ∧ 110 + 1 = 111 := ⟨by decide +kernel, rfl⟩
theorem dL_law_111 : decode cL_law 111 = .ok (.invokevirtual 13, 3) ∧ 111 + 3 = 114 := ⟨by decide +kernel, rfl⟩
theorem dL_law_114 : decode cL_law 114 = .ok (.aload_n 2, 1) ∧ 114 + 1 = 115 := ⟨by decide +kernel, rfl⟩
theorem dL_law_115 : decode cL_law 115 = .ok (.aload_n 0, 1) ∧ 115 + 1 = 116 := ⟨by decide +kernel, rfl⟩
theorem dL_law_116 : decode cL_law 116 = .ok (.iload_n 3, 1) ∧ 116 + 1 = 117 := ⟨by decide +kernel, rfl⟩
theorem dL_law_117 : decode cL_law 117 = .ok (.iconst 1, 1) ∧ 117 + 1 = 118 := ⟨by decide +kernel, rfl⟩
theorem dL_law_118 : decode cL_law 118 = .ok (.iadd, 1) ∧ 118 + 1 = 119 := ⟨by decide +kernel, rfl⟩
theorem dL_law_119 : decode cL_law 119 = .ok (.iaload, 1) ∧ 119 + 1 = 120 := ⟨by decide +kernel, rfl⟩
theorem dL_law_120 : decode cL_law 120 = .ok (.aload_n 0, 1) ∧ 120 + 1 = 121 := ⟨by decide +kernel, rfl⟩
theorem dL_law_121 : decode cL_law 121 = .ok (.iload_n 3, 1) ∧ 121 + 1 = 122 := ⟨by decide +kernel, rfl⟩
theorem dL_law_122 : decode cL_law 122 = .ok (.iconst 2, 1) ∧ 122 + 1 = 123 := ⟨by decide +kernel, rfl⟩
theorem dL_law_123 : decode cL_law 123 = .ok (.iadd, 1) ∧ 123 + 1 = 124 := ⟨by decide +kernel, rfl⟩
theorem dL_law_124 : decode cL_law 124 = .ok (.iaload, 1) ∧ 124 + 1 = 125 := ⟨by decide +kernel, rfl⟩
theorem dL_law_125 : decode cL_law 125 = .ok (.invokevirtual 17, 3) ∧ 125 + 3 = 128 := ⟨by decide +kernel, rfl⟩
theorem dL_law_128 : decode cL_law 128 = .ok (.if_icmp .eq 421, 3) ∧ 128 + 3 = 131 ∧ ((128 : Nat) : Int) + (421) = ((549 : Nat) : Int) := ⟨by decide +kernel, rfl, by decide⟩
theorem dL_law_131 : decode cL_law 131 = .ok (.iconst 0, 1) ∧ 131 + 1 = 132 := ⟨by decide +kernel, rfl⟩
theorem dL_law_132 : decode cL_law 132 = .ok (.ireturn, 1) ∧ 132 + 1 = 133 := ⟨by decide +kernel, rfl⟩
theorem dL_law_133 : decode cL_law 133 = .ok (.aload_n 1, 1) ∧ 133 + 1 = 134 := ⟨by decide +kernel, rfl⟩
theorem dL_law_134 : decode cL_law 134 = .ok (.aload_n 0, 1) ∧ 134 + 1 = 135 := ⟨by decide +kernel, rfl⟩
theorem dL_law_135 : decode cL_law 135 = .ok (.iload_n 3, 1) ∧ 135 + 1 = 136 := ⟨by decide +kernel, rfl⟩
theorem dL_law_136 : decode cL_law 136 = .ok (.iconst 1, 1) ∧ 136 + 1 = 137 := ⟨by decide +kernel, rfl⟩
theorem dL_law_137 : decode cL_law 137 = .ok (.iadd, 1) ∧ 137 + 1 = 138 := ⟨by decide +kernel, rfl⟩
theorem dL_law_138 : decode cL_law 138 = .ok (.iaload, 1) ∧ 138 + 1 = 139 := ⟨by decide +kernel, rfl⟩
theorem dL_law_139 : decode cL_law 139 = .ok (.aload_n 0, 1) ∧ 139 + 1 = 140 := ⟨by decide +kernel, rfl⟩
theorem dL_law_140 : decode cL_law 140 = .ok (.iload_n 3, 1) ∧ 140 + 1 = 141 := ⟨by decide +kernel, rfl⟩
theorem dL_law_141 : decode cL_law 141 = .ok (.iconst 2, 1) ∧ 141 + 1 = 142 := ⟨by decide +kernel, rfl⟩
theorem dL_law_142 : decode cL_law 142 = .ok (.iadd, 1) ∧ 142 + 1 = 143 := ⟨by decide +kernel, rfl⟩
theorem dL_law_143 : decode cL_law 143 = .ok (.iaload, 1) ∧ 143 + 1 = 144 := ⟨by decide +kernel, rfl⟩
theorem dL_law_144 : decode cL_law 144 = .ok (.invokevirtual 18, 3) ∧ 144 + 3 = 147 := ⟨by decide +kernel, rfl⟩
theorem dL_law_147 : decode cL_law 147 = .ok (.aload_n 2, 1) ∧ 147 + 1 = 148 := ⟨by decide +kernel, rfl⟩
theorem dL_law_148 : decode cL_law 148 = .ok (.aload_n 0, 1) ∧ 148 + 1 = 149 := ⟨by decide +kernel, rfl⟩
theorem dL_law_149 : decode cL_law 149 = .ok (.iload_n 3, 1) ∧ 149 + 1 = 150 := ⟨by decide +kernel, rfl⟩
theorem dL_law_150 : decode cL_law 150 = .ok (.iconst 1, 1) ∧ 150 + 1 = 151 := ⟨by decide +kernel, rfl⟩
theorem dL_law_151 : decode cL_law 151 = .ok (.iadd, 1) ∧ 151 + 1 = 152 := ⟨by decide +kernel, rfl⟩
theorem dL_law_152 : decode cL_law 152 = .ok (.iaload, 1) ∧ 152 + 1 = 153 := ⟨by decide +kernel, rfl⟩
theorem dL_law_153 : decode cL_law 153 = .ok (.aload_n 0, 1) ∧ 153 + 1 = 154 := ⟨by decide +kernel, rfl⟩
theorem dL_law_154 : decode cL_law 154 = .ok (.iload_n 3, 1) ∧ 154 + 1 = 155 := ⟨by decide +kernel, rfl⟩
theorem dL_law_155 : decode cL_law 155 = .ok (.iconst 2, 1) ∧ 155 + 1 = 156 := ⟨by decide +kernel, rfl⟩
theorem dL_law_156 : decode cL_law 156 = .ok (.iadd, 1) ∧ 156 + 1 = 157 := ⟨by decide +kernel, rfl⟩
theorem dL_law_157 : decode cL_law 157 = .ok (.iaload, 1) ∧ 157 + 1 = 158 := ⟨by decide +kernel, rfl⟩
theorem dL_law_158 : decode cL_law 158 = .ok (.invokevirtual 21, 3) ∧ 158 + 3 = 161 := ⟨by decide +kernel, rfl⟩
theorem dL_law_161 : decode cL_law 161 = .ok (.if_icmp .eq 388, 3) ∧ 161 + 3 = 164 ∧ ((161 : Nat) : Int) + (388) = ((549 : Nat) : Int) := ⟨by decide +kernel, rfl, by decide⟩
theorem dL_law_164 : decode cL_law 164 = .ok (.iconst 0, 1) ∧ 164 + 1 = 165 := ⟨by decide +kernel, rfl⟩
theorem dL_law_165 : decode cL_law 165 = .ok (.ireturn, 1) ∧ 165 + 1 = 166 := ⟨by decide +kernel, rfl⟩
theorem dL_law_166 : decode cL_law 166 = .ok (.aload_n 1, 1) ∧ 166 + 1 = 167 := ⟨by decide +kernel, rfl⟩
theorem dL_law_167 : decode cL_law 167 = .ok (.aload_n 0, 1) ∧ 167 + 1 = 168 := ⟨by decide +kernel, rfl⟩
theorem dL_law_168 : decode cL_law 168 = .ok (.iload_n 3, 1) ∧ 168 + 1 = 169 := ⟨by decide +kernel, rfl⟩
theorem dL_law_169 : decode cL_law 169 = .ok (.iconst 1, 1) ∧ 169 + 1 = 170 := ⟨by decide +kernel, rfl⟩
theorem dL_law_170 : decode cL_law 170 = .ok (.iadd, 1) ∧ 170 + 1 = 171 := ⟨by decide +kernel, rfl⟩
theorem dL_law_171 : decode cL_law 171 = .ok (.iaload, 1) ∧ 171 + 1 = 172 := ⟨by decide +kernel, rfl⟩
theorem dL_law_172 : decode cL_law 172 = .ok (.aload_n 0, 1) ∧ 172 + 1 = 173 := ⟨by decide +kernel, rfl⟩
theorem dL_law_173 : decode cL_law 173 = .ok (.iload_n 3, 1) ∧ 173 + 1 = 174 := ⟨by decide +kernel, rfl⟩
theorem dL_law_174 : decode cL_law 174 = .ok (.iconst 2, 1) ∧ 174 + 1 = 175 := ⟨by decide +kernel, rfl⟩
theorem dL_law_175 : decode cL_law 175 = .ok (.iadd, 1) ∧ 175 + 1 = 176 := ⟨by decide +kernel, rfl⟩
theorem dL_law_176 : decode cL_law 176 = .ok (.iaload, 1) ∧ 176 + 1 = 177 := ⟨by decide +kernel, rfl⟩
theorem dL_law_177 : decode cL_law 177 = .ok (.invokevirtual 22, 3) ∧ 177 + 3 = 180 := ⟨by decide +kernel, rfl⟩
theorem dL_law_180 : decode cL_law 180 = .ok (.aload_n 2, 1) ∧ 180 + 1 = 181 := ⟨by decide +kernel, rfl⟩
theorem dL_law_181 : decode cL_law 181 = .ok (.aload_n 0, 1) ∧ 181 + 1 = 182 := ⟨by decide +kernel, rfl⟩
theorem dL_law_182 : decode cL_law 182 = .ok (.iload_n 3, 1) ∧ 182 + 1 = 183 := ⟨by decide +kernel, rfl⟩
theorem dL_law_183 : decode cL_law 183 = .ok (.iconst 1, 1) ∧ 183 + 1 = 184 := ⟨by decide +kernel, rfl⟩
theorem dL_law_184 : decode cL_law 184 = .ok (.iadd, 1) ∧ 184 + 1 = 185 := ⟨by decide +kernel, rfl⟩
theorem dL_law_185 : decode cL_law 185 = .ok (.iaload, 1) ∧ 185 + 1 = 186 := ⟨by decide +kernel, rfl⟩
theorem dL_law_186 : decode cL_law 186 = .ok (.aload_n 0, 1) ∧ 186 + 1 = 187 := ⟨by decide +kernel, rfl⟩
theorem dL_law_187 : decode cL_law 187 = .ok (.iload_n 3, 1) ∧ 187 + 1 = 188 := ⟨by decide +kernel, rfl⟩
theorem dL_law_188 : decode cL_law 188 = .ok (.iconst 2, 1) ∧ 188 + 1 = 189 := ⟨by decide +kernel, rfl⟩
theorem dL_law_189 : decode cL_law 189 = .ok (.iadd, 1) ∧ 189 + 1 = 190 := ⟨by decide +kernel, rfl⟩
theorem dL_law_190 : decode cL_law 190 = .ok (.iaload, 1) ∧ 190 + 1 = 191 := ⟨by decide +kernel, rfl⟩
end
section
set_option maxRecDepth 100000
theorem dL_law_191 : decode cL_law 191 = .ok (.invokevirtual 26, 3) ∧ 191 + 3 = 194 := ⟨by decide +kernel, rfl⟩
theorem dL_law_194 : decode cL_law 194 = .ok (.if_icmp .eq 355, 3) ∧ 194 + 3 = 197 ∧ ((194 : Nat) : Int) + (355) = ((549 : Nat) : Int) := ⟨by decide +kernel, rfl, by decide⟩
theorem dL_law_197 : decode cL_law 197 = .ok (.iconst 0, 1) ∧ 197 + 1 = 198 := ⟨by decide +kernel, rfl⟩
theorem dL_law_198 : decode cL_law 198 = .ok (.ireturn, 1) ∧ 198 + 1 = 199 := ⟨by decide +kernel, rfl⟩
theorem dL_law_199 : decode cL_law 199 = .ok (.aload_n 1, 1) ∧ 199 + 1 = 200 := ⟨by decide +kernel, rfl⟩
theorem dL_law_200 : decode cL_law 200 = .ok (.aload_n 0, 1) ∧ 200 + 1 = 201 := ⟨by decide +kernel, rfl⟩
theorem dL_law_201 : decode cL_law 201 = .ok (.iload_n 3, 1) ∧ 201 + 1 = 202 := ⟨by decide +kernel, rfl⟩
theorem dL_law_202 : decode cL_law 202 = .ok (.iconst 1, 1) ∧ 202 + 1 = 203 := ⟨by decide +kernel, rfl⟩
theorem dL_law_203 : decode cL_law 203 = .ok (.iadd, 1) ∧ 203 + 1 = 204 := ⟨by decide +kernel, rfl⟩
theorem dL_law_204 : decode cL_law 204 = .ok (.iaload, 1) ∧ 204 + 1 = 205 := ⟨by decide +kernel, rfl⟩
theorem dL_law_205 : decode cL_law 205 = .ok (.invokevirtual 27, 3) ∧ 205 + 3 = 208 := ⟨by decide +kernel, rfl⟩
theorem dL_law_208 : decode cL_law 208 = .ok (.aload_n 2, 1) ∧ 208 + 1 = 209 := ⟨by decide +kernel, rfl⟩
theorem dL_law_209 : decode cL_law 209 = .ok (.aload_n 0, 1) ∧ 209 + 1 = 210 := ⟨by decide +kernel, rfl⟩
theorem dL_law_210 : decode cL_law 210 = .ok (.iload_n 3, 1) ∧ 210 + 1 = 211 := ⟨by decide +kernel, rfl⟩
theorem dL_law_211 : decode cL_law 211 = .ok (.iconst 1, 1) ∧ 211 + 1 = 212 := ⟨by decide +kernel, rfl⟩
theorem dL_law_212 : decode cL_law 212 = .ok (.iadd, 1) ∧ 212 + 1 = 213 := ⟨by decide +kernel, rfl⟩
theorem dL_law_213 : decode cL_law 213 = .ok (.iaload, 1) ∧ 213 + 1 = 214 := ⟨by decide +kernel, rfl⟩
theorem dL_law_214 : decode cL_law 214 = .ok (.invokevirtual 31, 3) ∧ 214 + 3 = 217 := ⟨by decide +kernel, rfl⟩
theorem dL_law_217 : decode cL_law 217 = .ok (.if_icmp .eq 332, 3) ∧ 217 + 3 = 220 ∧ ((217 : Nat) : Int) + (332) = ((549 : Nat) : Int) := ⟨by decide +kernel, rfl, by decide⟩
theorem dL_law_220 : decode cL_law 220 = .ok (.iconst 0, 1) ∧ 220 + 1 = 221 := ⟨by decide +kernel, rfl⟩
theorem dL_law_221 : decode cL_law 221 = .ok (.ireturn, 1) ∧ 221 + 1 = 222 := ⟨by decide +kernel, rfl⟩
theorem dL_law_222 : decode cL_law 222 = .ok (.aload_n 1, 1) ∧ 222 + 1 = 223 := ⟨by decide +kernel, rfl⟩
theorem dL_law_223 : decode cL_law 223 = .ok (.aload_n 0, 1) ∧ 223 + 1 = 224 := ⟨by decide +kernel, rfl⟩
theorem dL_law_224 : decode cL_law 224 = .ok (.iload_n 3, 1) ∧ 224 + 1 = 225 := ⟨by decide +kernel, rfl⟩
theorem dL_law_225 : decode cL_law 225 = .ok (.iconst 1, 1) ∧ 225 + 1 = 226 := ⟨by decide +kernel, rfl⟩
theorem dL_law_226 : decode cL_law 226 = .ok (.iadd, 1) ∧ 226 + 1 = 227 := ⟨by decide +kernel, rfl⟩
theorem dL_law_227 : decode cL_law 227 = .ok (.iaload, 1) ∧ 227 + 1 = 228 := ⟨by decide +kernel, rfl⟩
theorem dL_law_228 : decode cL_law 228 = .ok (.aload_n 0, 1) ∧ 228 + 1 = 229 := ⟨by decide +kernel, rfl⟩
theorem dL_law_229 : decode cL_law 229 = .ok (.iload_n 3, 1) ∧ 229 + 1 = 230 := ⟨by decide +kernel, rfl⟩
theorem dL_law_230 : decode cL_law 230 = .ok (.iconst 2, 1) ∧ 230 + 1 = 231 := ⟨by decide +kernel, rfl⟩
theorem dL_law_231 : decode cL_law 231 = .ok (.iadd, 1) ∧ 231 + 1 = 232 := ⟨by decide +kernel, rfl⟩
theorem dL_law_232 : decode cL_law 232 = .ok (.iaload, 1) ∧ 232 + 1 = 233 := ⟨by decide +kernel, rfl⟩
theorem dL_law_233 : decode cL_law 233 = .ok (.invokevirtual 32, 3) ∧ 233 + 3 = 236 := ⟨by decide +kernel, rfl⟩
theorem dL_law_236 : decode cL_law 236 = .ok (.aload_n 2, 1) ∧ 236 + 1 = 237 := ⟨by decide +kernel, rfl⟩
theorem dL_law_237 : decode cL_law 237 = .ok (.aload_n 0, 1) ∧ 237 + 1 = 238 := ⟨by decide +kernel, rfl⟩
theorem dL_law_238 : decode cL_law 238 = .ok (.iload_n 3, 1) ∧ 238 + 1 = 239 := ⟨by decide +kernel, rfl⟩
theorem dL_law_239 : decode cL_law 239 = .ok (.iconst 1, 1) ∧ 239 + 1 = 240 := ⟨by decide +kernel, rfl⟩
theorem dL_law_240 : decode cL_law 240 = .ok (.iadd, 1) ∧ 240 + 1 = 241 := ⟨by decide +kernel, rfl⟩
theorem dL_law_241 : decode cL_law 241 = .ok (.iaload, 1) ∧ 241 + 1 = 242 := ⟨by decide +kernel, rfl⟩
theorem dL_law_242 : decode cL_law 242 = .ok (.aload_n 0, 1) ∧ 242 + 1 = 243 := ⟨by decide +kernel, rfl⟩
theorem dL_law_243 : decode cL_law 243 = .ok (.iload_n 3, 1) ∧ 243 + 1 = 244 := ⟨by decide +kernel, rfl⟩
theorem dL_law_244 : decode cL_law 244 = .ok (.iconst 2, 1) ∧ 244 + 1 = 245 := ⟨by decide +kernel, rfl⟩
theorem dL_law_245 : decode cL_law 245 = .ok (.iadd, 1) ∧ 245 + 1 = 246 := ⟨by decide +kernel, rfl⟩
theorem dL_law_246 : decode cL_law 246 = .ok (.iaload, 1) ∧ 246 + 1 = 247 := ⟨by decide +kernel, rfl⟩
theorem dL_law_247 : decode cL_law 247 = .ok (.invokevirtual 35, 3) ∧ 247 + 3 = 250 := ⟨by decide +kernel, rfl⟩
theorem dL_law_250 : decode cL_law 250 = .ok (.if_icmp .eq 299, 3) ∧ 250 + 3 = 253 ∧ ((250 : Nat) : Int) + (299) = ((549 : Nat) : Int) := ⟨by decide +kernel, rfl, by decide⟩
theorem dL_law_253 : decode cL_law 253 = .ok (.iconst 0, 1) ∧ 253 + 1 = 254 := ⟨by decide +kernel, rfl⟩
theorem dL_law_254 : decode cL_law 254 = .ok (.ireturn, 1) ∧ 254 + 1 = 255 := ⟨by decide +kernel, rfl⟩
theorem dL_law_255 : decode cL_law 255 = .ok (.aload_n 1, 1) ∧ 255 + 1 = 256 := ⟨by decide +kernel, rfl⟩
theorem dL_law_256 : decode cL_law 256 = .ok (.aload_n 0, 1) ∧ 256 + 1 = 257 := ⟨by decide +kernel, rfl⟩
theorem dL_law_257 : decode cL_law 257 = .ok (.iload_n 3, 1) ∧ 257 + 1 = 258 := ⟨by decide +kernel, rfl⟩
theorem dL_law_258 : decode cL_law 258 = .ok (.iconst 1, 1) ∧ 258 + 1 = 259 := ⟨by decide +kernel, rfl⟩
theorem dL_law_259 : decode cL_law 259 = .ok (.iadd, 1) ∧ 259 + 1 = 260 := ⟨by decide +kernel, rfl⟩
theorem dL_law_260 : decode cL_law 260 = .ok (.iaload, 1) ∧ 260 + 1 = 261 := ⟨by decide +kernel, rfl⟩
theorem dL_law_261 : decode cL_law 261 = .ok (.aload_n 0, 1) ∧ 261 + 1 = 262 := ⟨by decide +kernel, rfl⟩
theorem dL_law_262 : decode cL_law 262 = .ok (.iload_n 3, 1) ∧ 262 + 1 = 263 := ⟨by decide +kernel, rfl⟩
theorem dL_law_263 : decode cL_law 263 = .ok (.iconst 2, 1) ∧ 263 + 1 = 264 := ⟨by decide +kernel, rfl⟩
theorem dL_law_264 : decode cL_law 264 = .ok (.iadd, 1) ∧ 264 + 1 = 265 := ⟨by decide +kernel, rfl⟩
theorem dL_law_265 : decode cL_law 265 = .ok (.iaload, 1) ∧ 265 + 1 = 266 := ⟨by decide +kernel, rfl⟩
theorem dL_law_266 : decode cL_law 266 = .ok (.invokevirtual 36, 3) ∧ 266 + 3 = 269 := ⟨by decide +kernel, rfl⟩
theorem dL_law_269 : decode cL_law 269 = .ok (.aload_n 2, 1) ∧ 269 + 1 = 270 := ⟨by decide +kernel, rfl⟩
theorem dL_law_270 : decode cL_law 270 = .ok (.aload_n 0, 1) ∧ 270 + 1 = 271 := ⟨by decide +kernel, rfl⟩
theorem dL_law_271 : decode cL_law 271 = .ok (.iload_n 3, 1) ∧ 271 + 1 = 272 := ⟨by decide +kernel, rfl⟩
theorem dL_law_272 : decode cL_law 272 = .ok (.iconst 1, 1) ∧ 272 + 1 = 273 := ⟨by decide +kernel, rfl⟩
theorem dL_law_273 : decode cL_law 273 = .ok (.iadd, 1) ∧ 273 + 1 = 274 := ⟨by decide +kernel, rfl⟩
theorem dL_law_274 : decode cL_law 274 = .ok (.iaload, 1) ∧ 274 + 1 = 275 := ⟨by decide +kernel, rfl⟩
theorem dL_law_275 : decode cL_law 275 = .ok (.aload_n 0, 1) ∧ 275 + 1 = 276 := ⟨by decide +kernel, rfl⟩
theorem dL_law_276 : decode cL_law 276 = .ok (.iload_n 3, 1) ∧ 276 + 1 = 277 := ⟨by decide +kernel, rfl⟩
theorem dL_law_277 : decode cL_law 277 = .ok (.iconst 2, 1) ∧ 277 + 1 = 278 := ⟨by decide +kernel, rfl⟩
theorem dL_law_278 : decode cL_law 278 = .ok (.iadd, 1) ∧ 278 + 1 = 279 := ⟨by decide +kernel, rfl⟩
theorem dL_law_279 : decode cL_law 279 = .ok (.iaload, 1) ∧ 279 + 1 = 280 := ⟨by decide +kernel, rfl⟩
theorem dL_law_280 : decode cL_law 280 = .ok (.invokevirtual 39, 3) ∧ 280 + 3 = 283 := ⟨by decide +kernel, rfl⟩
theorem dL_law_283 : decode cL_law 283 = .ok (.if_icmp .eq 266, 3) ∧ 283 + 3 = 286 ∧ ((283 : Nat) : Int) + (266) = ((549 : Nat) : Int) := ⟨by decide +kernel, rfl, by decide⟩
theorem dL_law_286 : decode cL_law 286 = .ok (.iconst 0, 1) ∧ 286 + 1 = 287 := ⟨by decide +kernel, rfl⟩
theorem dL_law_287 : decode cL_law 287 = .ok (.ireturn, 1) ∧ 287 + 1 = 288 := ⟨by decide +kernel, rfl⟩
theorem dL_law_288 : decode cL_law 288 = .ok (.aload_n 1, 1) ∧ 288 + 1 = 289 := ⟨by decide +kernel, rfl⟩
theorem dL_law_289 : decode cL_law 289 = .ok (.aload_n 0, 1) ∧ 289 + 1 = 290 := ⟨by decide +kernel, rfl⟩
theorem dL_law_290 : decode cL_law 290 = .ok (.iload_n 3, 1) ∧ 290 + 1 = 291 := ⟨by decide +kernel, rfl⟩
theorem dL_law_291 : decode cL_law 291 = .ok (.iconst 1, 1) ∧ 291 + 1 = 292 := ⟨by decide +kernel, rfl⟩
theorem dL_law_292 : decode cL_law 292 = .ok (.iadd, 1) ∧ 292 + 1 = 293 := ⟨by decide +kernel, rfl⟩
theorem dL_law_293 : decode cL_law 293 = .ok (.iaload, 1) ∧ 293 + 1 = 294 := ⟨by decide +kernel, rfl⟩
theorem dL_law_294 : decode cL_law 294 = .ok (.aload_n 0, 1) ∧ 294 + 1 = 295 := ⟨by decide +kernel, rfl⟩
theorem dL_law_295 : decode cL_law 295 = .ok (.iload_n 3, 1) ∧ 295 + 1 = 296 := ⟨by decide +kernel, rfl⟩
theorem dL_law_296 : decode cL_law 296 = .ok (.iconst 2, 1) ∧ 296 + 1 = 297 := ⟨by decide +kernel, rfl⟩
theorem dL_law_297 : decode cL_law 297 = .ok (.iadd, 1) ∧ 297 + 1 = 298 := ⟨by decide +kernel, rfl⟩
theorem dL_law_298 : decode cL_law 298 = .ok (.iaload, 1) ∧ 298 + 1 = 299 := ⟨by decide +kernel, rfl⟩
theorem dL_law_299 : decode cL_law 299 = .ok (.aload_n 0, 1) ∧ 299 + 1 = 300 := ⟨by decide +kernel, rfl⟩
theorem dL_law_300 : decode cL_law 300 = .ok (.iload_n 3, 1) ∧ 300 + 1 = 301 := ⟨by decide +kernel, rfl⟩
theorem dL_law_301 : decode cL_law 301 = .ok (.iconst 3, 1) ∧ 301 + 1 = 302 := ⟨by decide +kernel, rfl⟩
theorem dL_law_302 : decode cL_law 302 = .ok (.iadd, 1) ∧ 302 + 1 = 303 := ⟨by decide +kernel, rfl⟩
theorem dL_law_303 : decode cL_law 303 = .ok (.iaload, 1) ∧ 303 + 1 = 304 := ⟨by decide +kernel, rfl⟩
theorem dL_law_304 : decode cL_law 304 = .ok (.aload_n 0, 1) ∧ 304 + 1 = 305 := ⟨by decide +kernel, rfl⟩
theorem dL_law_305 : decode cL_law 305 = .ok (.iload_n 3, 1) ∧ 305 + 1 = 306 := ⟨by decide +kernel, rfl⟩
theorem dL_law_306 : decode cL_law 306 = .ok (.iconst 4, 1) ∧ 306 + 1 = 307 := ⟨by decide +kernel, rfl⟩
theorem dL_law_307 : decode cL_law 307 = .ok (.iadd, 1) ∧ 307 + 1 = 308 := ⟨by decide +kernel, rfl⟩
theorem dL_law_308 : decode cL_law 308 = .ok (.iaload, 1) ∧ 308 + 1 = 309 := ⟨by decide +kernel, rfl⟩
theorem dL_law_309 : decode cL_law 309 = .ok (.invokevirtual 40, 3) ∧ 309 + 3 = 312 := ⟨by decide +kernel, rfl⟩
theorem dL_law_312 : decode cL_law 312 = .ok (.aload_n 2, 1) ∧ 312 + 1 = 313 := ⟨by decide +kernel, rfl⟩
theorem dL_law_313 : decode cL_law 313 = .ok (.aload_n 0, 1) ∧ 313 + 1 = 314 := ⟨by decide +kernel, rfl⟩
theorem dL_law_314 : decode cL_law 314 = .ok (.iload_n 3, 1) ∧ 314 + 1 = 315 := ⟨by decide +kernel, rfl⟩
theorem dL_law_315 : decode cL_law 315 = .ok (.iconst 1, 1) ∧ 315 + 1 = 316 := ⟨by decide +kernel, rfl⟩
theorem dL_law_316 : decode cL_law 316 = .ok (.iadd, 1) ∧ 316 + 1 = 317 := ⟨by decide +kernel, rfl⟩
theorem dL_law_317 : decode cL_law 317 = .ok (.iaload, 1) ∧ 317 + 1 = 318 := ⟨by decide +kernel, rfl⟩
theorem dL_law_318 : decode cL_law 318 = .ok (.aload_n 0, 1) ∧ 318 + 1 = 319 := ⟨by decide +kernel, rfl⟩
theorem dL_law_319 : decode cL_law 319 = .ok (.iload_n 3, 1) ∧ 319 + 1 = 320 := ⟨by decide +kernel, rfl⟩
theorem dL_law_320 : decode cL_law 320 = .ok (.iconst 2, 1) ∧ 320 + 1 = 321 := ⟨by decide +kernel, rfl⟩
theorem dL_law_321 : decode cL_law 321 = .ok (.iadd, 1) ∧ 321 + 1 = 322 := ⟨by decide +kernel, rfl⟩
theorem dL_law_322 : decode cL_law 322 = .ok (.iaload, 1) ∧ 322 + 1 = 323 := ⟨by decide +kernel, rfl⟩
theorem dL_law_323 : decode cL_law 323 = .ok (.aload_n 0, 1) ∧ 323 + 1 = 324 := ⟨by decide +kernel, rfl⟩
theorem dL_law_324 : decode cL_law 324 = .ok (.iload_n 3, 1) ∧ 324 + 1 = 325 := ⟨by decide +kernel, rfl⟩
theorem dL_law_325 : decode cL_law 325 = .ok (.iconst 3, 1) ∧ 325 + 1 = 326 := ⟨by decide +kernel, rfl⟩
theorem dL_law_326 : decode cL_law 326 = .ok (.iadd, 1) ∧ 326 + 1 = 327 := ⟨by decide +kernel, rfl⟩
theorem dL_law_327 : decode cL_law 327 = .ok (.iaload, 1) ∧ 327 + 1 = 328 := ⟨by decide +kernel, rfl⟩
theorem dL_law_328 : decode cL_law 328 = .ok (.aload_n 0, 1) ∧ 328 + 1 = 329 := ⟨by decide +kernel, rfl⟩
theorem dL_law_329 : decode cL_law 329 = .ok (.iload_n 3, 1) ∧ 329 + 1 = 330 := ⟨by decide +kernel, rfl⟩
theorem dL_law_330 : decode cL_law 330 = .ok (.iconst 4, 1) ∧ 330 + 1 = 331 := ⟨by decide +kernel, rfl⟩
theorem dL_law_331 : decode cL_law 331 = .ok (.iadd, 1) ∧ 331 + 1 = 332 := ⟨by decide +kernel, rfl⟩
theorem dL_law_332 : decode cL_law 332 = .ok (.iaload, 1) ∧ 332 + 1 = 333 := ⟨by decide +kernel, rfl⟩
theorem dL_law_333 : decode cL_law 333 = .ok (.invokevirtual 44, 3) ∧ 333 + 3 = 336 := ⟨by decide +kernel, rfl⟩
theorem dL_law_336 : decode cL_law 336 = .ok (.if_icmp .eq 213, 3) ∧ 336 + 3 = 339 ∧ ((336 : Nat) : Int) + (213) = ((549 : Nat) : Int) := ⟨by decide +kernel, rfl, by decide⟩
theorem dL_law_339 : decode cL_law 339 = .ok (.iconst 0, 1) ∧ 339 + 1 = 340 := ⟨by decide +kernel, rfl⟩
theorem dL_law_340 : decode cL_law 340 = .ok (.ireturn, 1) ∧ 340 + 1 = 341 := ⟨by decide +kernel, rfl⟩
theorem dL_law_341 : decode cL_law 341 = .ok (.aload_n 1, 1) ∧ 341 + 1 = 342 := ⟨by decide +kernel, rfl⟩
theorem dL_law_342 : decode cL_law 342 = .ok (.aload_n 0, 1) ∧ 342 + 1 = 343 := ⟨by decide +kernel, rfl⟩
theorem dL_law_343 : decode cL_law 343 = .ok (.iload_n 3, 1) ∧ 343 + 1 = 344 := ⟨by decide +kernel, rfl⟩
theorem dL_law_344 : decode cL_law 344 = .ok (.iconst 1, 1) ∧ 344 + 1 = 345 := ⟨by decide +kernel, rfl⟩
theorem dL_law_345 : decode cL_law 345 = .ok (.iadd, 1) ∧ 345 + 1 = 346 := ⟨by decide +kernel, rfl⟩
theorem dL_law_346 : decode cL_law 346 = .ok (.iaload, 1) ∧ 346 + 1 = 347 := ⟨by decide +kernel, rfl⟩
theorem dL_law_347 : decode cL_law 347 = .ok (.aload_n 0, 1) ∧ 347 + 1 = 348 := ⟨by decide +kernel, rfl⟩
theorem dL_law_348 : decode cL_law 348 = .ok (.iload_n 3, 1) ∧ 348 + 1 = 349 := ⟨by decide +kernel, rfl⟩
theorem dL_law_349 : decode cL_law 349 = .ok (.iconst 2, 1) ∧ 349 + 1 = 350 := ⟨by decide +kernel, rfl⟩
theorem dL_law_350 : decode cL_law 350 = .ok (.iadd, 1) ∧ 350 + 1 = 351 := ⟨by decide +kernel, rfl⟩
theorem dL_law_351 : decode cL_law 351 = .ok (.iaload, 1) ∧ 351 + 1 = 352 := ⟨by decide +kernel, rfl⟩
theorem dL_law_352 : decode cL_law 352 = .ok (.aload_n 0, 1) ∧ 352 + 1 = 353 := ⟨by decide +kernel, rfl⟩
theorem dL_law_353 : decode cL_law 353 = .ok (.iload_n 3, 1) ∧ 353 + 1 = 354 := ⟨by decide +kernel, rfl⟩
theorem dL_law_354 : decode cL_law 354 = .ok (.iconst 3, 1) ∧ 354 + 1 = 355 := ⟨by decide +kernel, rfl⟩
theorem dL_law_355 : decode cL_law 355 = .ok (.iadd, 1) ∧ 355 + 1 = 356 := ⟨by decide +kernel, rfl⟩
theorem dL_law_356 : decode cL_law 356 = .ok (.iaload, 1) ∧ 356 + 1 = 357 := ⟨by decide +kernel, rfl⟩
theorem dL_law_357 : decode cL_law 357 = .ok (.invokevirtual 45, 3) ∧ 357 + 3 = 360 := ⟨by decide +kernel, rfl⟩
theorem dL_law_360 : decode cL_law 360 = .ok (.aload_n 2, 1) ∧ 360 + 1 = 361 := ⟨by decide +kernel, rfl⟩
theorem dL_law_361 : decode cL_law 361 = .ok (.aload_n 0, 1) ∧ 361 + 1 = 362 := ⟨by decide +kernel, rfl⟩
theorem dL_law_362 : decode cL_law 362 = .ok (.iload_n 3, 1) ∧ 362 + 1 = 363 := ⟨by decide +kernel, rfl⟩
theorem dL_law_363 : decode cL_law 363 = .ok (.iconst 1, 1) ∧ 363 + 1 = 364 := ⟨by decide +kernel, rfl⟩
theorem dL_law_364 : decode cL_law 364 = .ok (.iadd, 1) ∧ 364 + 1 = 365 := ⟨by decide +kernel, rfl⟩
theorem dL_law_365 : decode cL_law 365 = .ok (.iaload, 1) ∧ 365 + 1 = 366 := ⟨by decide +kernel, rfl⟩
theorem dL_law_366 : decode cL_law 366 = .ok (.aload_n 0, 1) ∧ 366 + 1 = 367 := ⟨by decide +kernel, rfl⟩
theorem dL_law_367 : decode cL_law 367 = .ok (.iload_n 3, 1) ∧ 367 + 1 = 368 := ⟨by decide +kernel, rfl⟩
theorem dL_law_368 : decode cL_law 368 = .ok (.iconst 2, 1) ∧ 368 + 1 = 369 := ⟨by decide +kernel, rfl⟩
theorem dL_law_369 : decode cL_law 369 = .ok (.iadd, 1) ∧ 369 + 1 = 370 := ⟨by decide +kernel, rfl⟩
theorem dL_law_370 : decode cL_law 370 = .ok (.iaload, 1) ∧ 370 + 1 = 371 := ⟨by decide +kernel, rfl⟩
theorem dL_law_371 : decode cL_law 371 = .ok (.aload_n 0, 1) ∧ 371 + 1 = 372 := ⟨by decide +kernel, rfl⟩
theorem dL_law_372 : decode cL_law 372 = .ok (.iload_n 3, 1) ∧ 372 + 1 = 373 := ⟨by decide +kernel, rfl⟩
theorem dL_law_373 : decode cL_law 373 = .ok (.iconst 3, 1) ∧ 373 + 1 = 374 := ⟨by decide +kernel, rfl⟩
theorem dL_law_374 : decode cL_law 374 = .ok (.iadd, 1) ∧ 374 + 1 = 375 := ⟨by decide +kernel, rfl⟩
theorem dL_law_375 : decode cL_law 375 = .ok (.iaload, 1) ∧ 375 + 1 = 376 := ⟨by decide +kernel, rfl⟩
theorem dL_law_376 : decode cL_law 376 = .ok (.invokevirtual 49, 3) ∧ 376 + 3 = 379 := ⟨by decide +kernel, rfl⟩
theorem dL_law_379 : decode cL_law 379 = .ok (.if_icmp .eq 170, 3) ∧ 379 + 3 = 382 ∧ ((379 : Nat) : Int) + (170) = ((549 : Nat) : Int) := ⟨by decide +kernel, rfl, by decide⟩
theorem dL_law_382 : decode cL_law 382 = .ok (.iconst 0, 1) ∧ 382 + 1 = 383 := ⟨by decide +kernel, rfl⟩
theorem dL_law_383 : decode cL_law 383 = .ok (.ireturn, 1) ∧ 383 + 1 = 384 := ⟨by decide +kernel, rfl⟩
theorem dL_law_384 : decode cL_law 384 = .ok (.aload_n 1, 1) ∧ 384 + 1 = 385 := ⟨by decide +kernel, rfl⟩
theorem dL_law_385 : decode cL_law 385 = .ok (.aload_n 0, 1) ∧ 385 + 1 = 386 := ⟨by decide +kernel, rfl⟩
theorem dL_law_386 : decode cL_law 386 = .ok (.iload_n 3, 1) ∧ 386 + 1 = 387 := ⟨by decide +kernel, rfl⟩
theorem dL_law_387 : decode cL_law 387 = .ok (.iconst 1, 1) ∧ 387 + 1 = 388 := ⟨by decide +kernel, rfl⟩
theorem dL_law_388 : decode cL_law 388 = .ok (.iadd, 1) ∧ 388 + 1 = 389 := ⟨by decide +kernel, rfl⟩
theorem dL_law_389 : decode cL_law 389 = .ok (.iaload, 1) ∧ 389 + 1 = 390 := ⟨by decide +kernel, rfl⟩
theorem dL_law_390 : decode cL_law 390 = .ok (.aload_n 0, 1) ∧ 390 + 1 = 391 := ⟨by decide +kernel, rfl⟩
theorem dL_law_391 : decode cL_law 391 = .ok (.iload_n 3, 1) ∧ 391 + 1 = 392 := ⟨by decide +kernel, rfl⟩
theorem dL_law_392 : decode cL_law 392 = .ok (.iconst 2, 1) ∧ 392 + 1 = 393 := ⟨by decide +kernel, rfl⟩
theorem dL_law_393 : decode cL_law 393 = .ok (.iadd, 1) ∧ 393 + 1 = 394 := ⟨by decide +kernel, rfl⟩
theorem dL_law_394 : decode cL_law 394 = .ok (.iaload, 1) ∧ 394 + 1 = 395 := ⟨by decide +kernel, rfl⟩
theorem dL_law_395 : decode cL_law 395 = .ok (.aload_n 0, 1) ∧ 395 + 1 = 396 := ⟨by decide +kernel, rfl⟩
theorem dL_law_396 : decode cL_law 396 = .ok (.iload_n 3, 1) ∧ 396 + 1 = 397 := ⟨by decide +kernel, rfl⟩
theorem dL_law_397 : decode cL_law 397 = .ok (.iconst 3, 1) ∧ 397 + 1 = 398 := ⟨by decide +kernel, rfl⟩
theorem dL_law_398 : decode cL_law 398 = .ok (.iadd, 1) ∧ 398 + 1 = 399 := ⟨by decide +kernel, rfl⟩
theorem dL_law_399 : decode cL_law 399 = .ok (.iaload, 1) ∧ 399 + 1 = 400 := ⟨by decide +kernel, rfl⟩
theorem dL_law_400 : decode cL_law 400 = .ok (.invokevirtual 50, 3) ∧ 400 + 3 = 403 := ⟨by decide +kernel, rfl⟩
theorem dL_law_403 : decode cL_law 403 = .ok (.aload_n 2, 1) ∧ 403 + 1 = 404 := ⟨by decide +kernel, rfl⟩
theorem dL_law_404 : decode cL_law 404 = .ok (.aload_n 0, 1) ∧ 404 + 1 = 405 := ⟨by decide +kernel, rfl⟩
theorem dL_law_405 : decode cL_law 405 = .ok (.iload_n 3, 1) ∧ 405 + 1 = 406 := ⟨by decide +kernel, rfl⟩
theorem dL_law_406 : decode cL_law 406 = .ok (.iconst 1, 1) ∧ 406 + 1 = 407 := ⟨by decide +kernel, rfl⟩
theorem dL_law_407 : decode cL_law 407 = .ok (.iadd, 1) ∧ 407 + 1 = 408 := ⟨by decide +kernel, rfl⟩
theorem dL_law_408 : decode cL_law 408 = .ok (.iaload, 1) ∧ 408 + 1 = 409 := ⟨by decide +kernel, rfl⟩
theorem dL_law_409 : decode cL_law 409 = .ok (.aload_n 0, 1) ∧ 409 + 1 = 410 := ⟨by decide +kernel, rfl⟩
theorem dL_law_410 : decode cL_law 410 = .ok (.iload_n 3, 1) ∧ 410 + 1 = 411 := ⟨by decide +kernel, rfl⟩
theorem dL_law_411 : decode cL_law 411 = .ok (.iconst 2, 1) ∧ 411 + 1 = 412 := ⟨by decide +kernel, rfl⟩
theorem dL_law_412 : decode cL_law 412 = .ok (.iadd, 1) ∧ 412 + 1 = 413 := ⟨by decide +kernel, rfl⟩
theorem dL_law_413 : decode cL_law 413 = .ok (.iaload, 1) ∧ 413 + 1 = 414 := ⟨by decide +kernel, rfl⟩
theorem dL_law_414 : decode cL_law 414 = .ok (.aload_n 0, 1) ∧ 414 + 1 = 415 := ⟨by decide +kernel, rfl⟩
theorem dL_law_415 : decode cL_law 415 = .ok (.iload_n 3, 1) ∧ 415 + 1 = 416 := ⟨by decide +kernel, rfl⟩
theorem dL_law_416 : decode cL_law 416 = .ok (.iconst 3, 1) ∧ 416 + 1 = 417 := ⟨by decide +kernel, rfl⟩
theorem dL_law_417 : decode cL_law 417 = .ok (.iadd, 1) ∧ 417 + 1 = 418 := ⟨by decide +kernel, rfl⟩
theorem dL_law_418 : decode cL_law 418 = .ok (.iaload, 1) ∧ 418 + 1 = 419 := ⟨by decide +kernel, rfl⟩
theorem dL_law_419 : decode cL_law 419 = .ok (.invokevirtual 53, 3) ∧ 419 + 3 = 422 := ⟨by decide +kernel, rfl⟩
theorem dL_law_422 : decode cL_law 422 = .ok (.if_icmp .eq 127, 3) ∧ 422 + 3 = 425 ∧ ((422 : Nat) : Int) + (127) = ((549 : Nat) : Int) := ⟨by decide +kernel, rfl, by decide⟩
theorem dL_law_425 : decode cL_law 425 = .ok (.iconst 0, 1) ∧ 425 + 1 = 426 := ⟨by decide +kernel, rfl⟩
theorem dL_law_426 : decode cL_law 426 = .ok (.ireturn, 1) ∧ 426 + 1 = 427 := ⟨by decide +kernel, rfl⟩
theorem dL_law_427 : decode cL_law 427 = .ok (.aload_n 1, 1) ∧ 427 + 1 = 428 := ⟨by decide +kernel, rfl⟩
theorem dL_law_428 : decode cL_law 428 = .ok (.aload_n 0, 1) ∧ 428 + 1 = 429 := ⟨by decide +kernel, rfl⟩
theorem dL_law_429 : decode cL_law 429 = .ok (.iload_n 3, 1) ∧ 429 + 1 = 430 := ⟨by decide +kernel, rfl⟩
theorem dL_law_430 : decode cL_law 430 = .ok (.iconst 1, 1) ∧ 430 + 1 = 431 := ⟨by decide +kernel, rfl⟩
theorem dL_law_431 : decode cL_law 431 = .ok (.iadd, 1) ∧ 431 + 1 = 432 := ⟨by decide +kernel, rfl⟩
theorem dL_law_432 : decode cL_law 432 = .ok (.iaload, 1) ∧ 432 + 1 = 433 := ⟨by decide +kernel, rfl⟩
theorem dL_law_433 : decode cL_law 433 = .ok (.aload_n 0, 1) ∧ 433 + 1 = 434 := ⟨by decide +kernel, rfl⟩
theorem dL_law_434 : decode cL_law 434 = .ok (.iload_n 3, 1) ∧ 434 + 1 = 435 := ⟨by decide +kernel, rfl⟩
theorem dL_law_435 : decode cL_law 435 = .ok (.iconst 2, 1) ∧ 435 + 1 = 436 := ⟨by decide +kernel, rfl⟩
theorem dL_law_436 : decode cL_law 436 = .ok (.iadd, 1) ∧ 436 + 1 = 437 := ⟨by decide +kernel, rfl⟩
theorem dL_law_437 : decode cL_law 437 = .ok (.iaload, 1) ∧ 437 + 1 = 438 := ⟨by decide +kernel, rfl⟩
theorem dL_law_438 : decode cL_law 438 = .ok (.invokevirtual 54, 3) ∧ 438 + 3 = 441 := ⟨by decide +kernel, rfl⟩
theorem dL_law_441 : decode cL_law 441 = .ok (.aload_n 2, 1) ∧ 441 + 1 = 442 := ⟨by decide +kernel, rfl⟩
theorem dL_law_442 : decode cL_law 442 = .ok (.aload_n 0, 1) ∧ 442 + 1 = 443 := ⟨by decide +kernel, rfl⟩
theorem dL_law_443 : decode cL_law 443 = .ok (.iload_n 3, 1) ∧ 443 + 1 = 444 := ⟨by decide +kernel, rfl⟩
theorem dL_law_444 : decode cL_law 444 = .ok (.iconst 1, 1) ∧ 444 + 1 = 445 := ⟨by decide +kernel, rfl⟩
theorem dL_law_445 : decode cL_law 445 = .ok (.iadd, 1) ∧ 445 + 1 = 446 := ⟨by decide +kernel, rfl⟩
theorem dL_law_446 : decode cL_law 446 = .ok (.iaload, 1) ∧ 446 + 1 = 447 := ⟨by decide +kernel, rfl⟩
theorem dL_law_447 : decode cL_law 447 = .ok (.aload_n 0, 1) ∧ 447 + 1 = 448 := ⟨by decide +kernel, rfl⟩
theorem dL_law_448 : decode cL_law 448 = .ok (.iload_n 3, 1) ∧ 448 + 1 = 449 := ⟨by decide +kernel, rfl⟩
theorem dL_law_449 : decode cL_law 449 = .ok (.iconst 2, 1) ∧ 449 + 1 = 450 := ⟨by decide +kernel, rfl⟩
theorem dL_law_450 : decode cL_law 450 = .ok (.iadd, 1) ∧ 450 + 1 = 451 := ⟨by decide +kernel, rfl⟩
theorem dL_law_451 : decode cL_law 451 = .ok (.iaload, 1) ∧ 451 + 1 = 452 := ⟨by decide +kernel, rfl⟩
theorem dL_law_452 : decode cL_law 452 = .ok (.invokevirtual 57, 3) ∧ 452 + 3 = 455 := ⟨by decide +kernel, rfl⟩
theorem dL_law_455 : decode cL_law 455 = .ok (.if_icmp .eq 94, 3) ∧ 455 + 3 = 458 ∧ ((455 : Nat) : Int) + (94) = ((549 : Nat) : Int) := ⟨by decide +kernel, rfl, by decide⟩
theorem dL_law_458 : decode cL_law 458 = .ok (.iconst 0, 1) ∧ 458 + 1 = 459 := ⟨by decide +kernel, rfl⟩
theorem dL_law_459 : decode cL_law 459 = .ok (.ireturn, 1) ∧ 459 + 1 = 460 := ⟨by decide +kernel, rfl⟩
theorem dL_law_460 : decode cL_law 460 = .ok (.aload_n 1, 1) ∧ 460 + 1 = 461 := ⟨by decide +kernel, rfl⟩
theorem dL_law_461 : decode cL_law 461 = .ok (.aload_n 0, 1) ∧ 461 + 1 = 462 := ⟨by decide +kernel, rfl⟩
theorem dL_law_462 : decode cL_law 462 = .ok (.iload_n 3, 1) ∧ 462 + 1 = 463 := ⟨by decide +kernel, rfl⟩
theorem dL_law_463 : decode cL_law 463 = .ok (.iconst 1, 1) ∧ 463 + 1 = 464 := ⟨by decide +kernel, rfl⟩
theorem dL_law_464 : decode cL_law 464 = .ok (.iadd, 1) ∧ 464 + 1 = 465 := ⟨by decide +kernel, rfl⟩
theorem dL_law_465 : decode cL_law 465 = .ok (.iaload, 1) ∧ 465 + 1 = 466 := ⟨by decide +kernel, rfl⟩
theorem dL_law_466 : decode cL_law 466 = .ok (.aload_n 0, 1) ∧ 466 + 1 = 467 := ⟨by decide +kernel, rfl⟩
theorem dL_law_467 : decode cL_law 467 = .ok (.iload_n 3, 1) ∧ 467 + 1 = 468 := ⟨by decide +kernel, rfl⟩
theorem dL_law_468 : decode cL_law 468 = .ok (.iconst 2, 1) ∧ 468 + 1 = 469 := ⟨by decide +kernel, rfl⟩
theorem dL_law_469 : decode cL_law 469 = .ok (.iadd, 1) ∧ 469 + 1 = 470 := ⟨by decide +kernel, rfl⟩
theorem dL_law_470 : decode cL_law 470 = .ok (.iaload, 1) ∧ 470 + 1 = 471 := ⟨by decide +kernel, rfl⟩
theorem dL_law_471 : decode cL_law 471 = .ok (.invokevirtual 58, 3) ∧ 471 + 3 = 474 := ⟨by decide +kernel, rfl⟩
theorem dL_law_474 : decode cL_law 474 = .ok (.aload_n 2, 1) ∧ 474 + 1 = 475 := ⟨by decide +kernel, rfl⟩
theorem dL_law_475 : decode cL_law 475 = .ok (.aload_n 0, 1) ∧ 475 + 1 = 476 := ⟨by decide +kernel, rfl⟩
theorem dL_law_476 : decode cL_law 476 = .ok (.iload_n 3, 1) ∧ 476 + 1 = 477 := ⟨by decide +kernel, rfl⟩
theorem dL_law_477 : decode cL_law 477 = .ok (.iconst 1, 1) ∧ 477 + 1 = 478 := ⟨by decide +kernel, rfl⟩
theorem dL_law_478 : decode cL_law 478 = .ok (.iadd, 1) ∧ 478 + 1 = 479 := ⟨by decide +kernel, rfl⟩
theorem dL_law_479 : decode cL_law 479 = .ok (.iaload, 1) ∧ 479 + 1 = 480 := ⟨by decide +kernel, rfl⟩
theorem dL_law_480 : decode cL_law 480 = .ok (.aload_n 0, 1) ∧ 480 + 1 = 481 := ⟨by decide +kernel, rfl⟩
theorem dL_law_481 : decode cL_law 481 = .ok (.iload_n 3, 1) ∧ 481 + 1 = 482 := ⟨by decide +kernel, rfl⟩
theorem dL_law_482 : decode cL_law 482 = .ok (.iconst 2, 1) ∧ 482 + 1 = 483 := ⟨by decide +kernel, rfl⟩
theorem dL_law_483 : decode cL_law 483 = .ok (.iadd, 1) ∧ 483 + 1 = 484 := ⟨by decide +kernel, rfl⟩
theorem dL_law_484 : decode cL_law 484 = .ok (.iaload, 1) ∧ 484 + 1 = 485 := ⟨by decide +kernel, rfl⟩
theorem dL_law_485 : decode cL_law 485 = .ok (.invokevirtual 61, 3) ∧ 485 + 3 = 488 := ⟨by decide +kernel, rfl⟩
theorem dL_law_488 : decode cL_law 488 = .ok (.if_icmp .eq 61, 3) ∧ 488 + 3 = 491 ∧ ((488 : Nat) : Int) + (61) = ((549 : Nat) : Int) := ⟨by decide +kernel, rfl, by decide⟩
theorem dL_law_491 : decode cL_law 491 = .ok (.iconst 0, 1) ∧ 491 + 1 = 492 := ⟨by decide +kernel, rfl⟩
theorem dL_law_492 : decode cL_law 492 = .ok (.ireturn, 1) ∧ 492 + 1 = 493 := ⟨by decide +kernel, rfl⟩
theorem dL_law_493 : decode cL_law 493 = .ok (.aload_n 1, 1) ∧ 493 + 1 = 494 := ⟨by decide +kernel, rfl⟩
theorem dL_law_494 : decode cL_law 494 = .ok (.aload_n 0, 1) ∧ 494 + 1 = 495 := ⟨by decide +kernel, rfl⟩
theorem dL_law_495 : decode cL_law 495 = .ok (.iload_n 3, 1) ∧ 495 + 1 = 496 := ⟨by decide +kernel, rfl⟩
theorem dL_law_496 : decode cL_law 496 = .ok (.iconst 1, 1) ∧ 496 + 1 = 497 := ⟨by decide +kernel, rfl⟩
theorem dL_law_497 : decode cL_law 497 = .ok (.iadd, 1) ∧ 497 + 1 = 498 := ⟨by decide +kernel, rfl⟩
theorem dL_law_498 : decode cL_law 498 = .ok (.iaload, 1) ∧ 498 + 1 = 499 := ⟨by decide +kernel, rfl⟩
theorem dL_law_499 : decode cL_law 499 = .ok (.aload_n 0, 1) ∧ 499 + 1 = 500 := ⟨by decide +kernel, rfl⟩
theorem dL_law_500 : decode cL_law 500 = .ok (.iload_n 3, 1) ∧ 500 + 1 = 501 := ⟨by decide +kernel, rfl⟩
theorem dL_law_501 : decode cL_law 501 = .ok (.iconst 2, 1) ∧ 501 + 1 = 502 := ⟨by decide +kernel, rfl⟩
theorem dL_law_502 : decode cL_law 502 = .ok (.iadd, 1) ∧ 502 + 1 = 503 := ⟨by decide +kernel, rfl⟩
theorem dL_law_503 : decode cL_law 503 = .ok (.iaload, 1) ∧ 503 + 1 = 504 := ⟨by decide +kernel, rfl⟩
theorem dL_law_504 : decode cL_law 504 = .ok (.invokevirtual 62, 3) ∧ 504 + 3 = 507 := ⟨by decide +kernel, rfl⟩
theorem dL_law_507 : decode cL_law 507 = .ok (.aload_n 2, 1) ∧ 507 + 1 = 508 := ⟨by decide +kernel, rfl⟩
theorem dL_law_508 : decode cL_law 508 = .ok (.aload_n 0, 1) ∧ 508 + 1 = 509 := ⟨by decide +kernel, rfl⟩
theorem dL_law_509 : decode cL_law 509 = .ok (.iload_n 3, 1) ∧ 509 + 1 = 510 := ⟨by decide +kernel, rfl⟩
theorem dL_law_510 : decode cL_law 510 = .ok (.iconst 1, 1) ∧ 510 + 1 = 511 := ⟨by decide +kernel, rfl⟩
theorem dL_law_511 : decode cL_law 511 = .ok (.iadd, 1) ∧ 511 + 1 = 512 := ⟨by decide +kernel, rfl⟩
theorem dL_law_512 : decode cL_law 512 = .ok (.iaload, 1) ∧ 512 + 1 = 513 := ⟨by decide +kernel, rfl⟩
theorem dL_law_513 : decode cL_law 513 = .ok (.aload_n 0, 1) ∧ 513 + 1 = 514 := ⟨by decide +kernel, rfl⟩
theorem dL_law_514 : decode cL_law 514 = .ok (.iload_n 3, 1) ∧ 514 + 1 = 515 := ⟨by decide +kernel, rfl⟩
theorem dL_law_515 : decode cL_law 515 = .ok (.iconst 2, 1) ∧ 515 + 1 = 516 := ⟨by decide +kernel, rfl⟩
theorem dL_law_516 : decode cL_law 516 = .ok (.iadd, 1) ∧ 516 + 1 = 517 := ⟨by decide +kernel, rfl⟩
theorem dL_law_517 : decode cL_law 517 = .ok (.iaload, 1) ∧ 517 + 1 = 518 := ⟨by decide +kernel, rfl⟩
theorem dL_law_518 : decode cL_law 518 = .ok (.invokevirtual 65, 3) ∧ 518 + 3 = 521 := ⟨by decide +kernel, rfl⟩
theorem dL_law_521 : decode cL_law 521 = .ok (.if_icmp .eq 28, 3) ∧ 521 + 3 = 524 ∧ ((521 : Nat) : Int) + (28) = ((549 : Nat) : Int) := ⟨by decide +kernel, rfl, by decide⟩
theorem dL_law_524 : decode cL_law 524 = .ok (.iconst 0, 1) ∧ 524 + 1 = 525 := ⟨by decide +kernel, rfl⟩
theorem dL_law_525 : decode cL_law 525 = .ok (.ireturn, 1) ∧ 525 + 1 = 526 := ⟨by decide +kernel, rfl⟩
theorem dL_law_526 : decode cL_law 526 = .ok (.aload_n 1, 1) ∧ 526 + 1 = 527 := ⟨by decide +kernel, rfl⟩
theorem dL_law_527 : decode cL_law 527 = .ok (.aload_n 0, 1) ∧ 527 + 1 = 528 := ⟨by decide +kernel, rfl⟩
theorem dL_law_528 : decode cL_law 528 = .ok (.iload_n 3, 1) ∧ 528 + 1 = 529 := ⟨by decide +kernel, rfl⟩
theorem dL_law_529 : decode cL_law 529 = .ok (.iconst 1, 1) ∧ 529 + 1 = 530 := ⟨by decide +kernel, rfl⟩
theorem dL_law_530 : decode cL_law 530 = .ok (.iadd, 1) ∧ 530 + 1 = 531 := ⟨by decide +kernel, rfl⟩
theorem dL_law_531 : decode cL_law 531 = .ok (.iaload, 1) ∧ 531 + 1 = 532 := ⟨by decide +kernel, rfl⟩
theorem dL_law_532 : decode cL_law 532 = .ok (.invokevirtual 66, 3) ∧ 532 + 3 = 535 := ⟨by decide +kernel, rfl⟩
theorem dL_law_535 : decode cL_law 535 = .ok (.aload_n 2, 1) ∧ 535 + 1 = 536 := ⟨by decide +kernel, rfl⟩
theorem dL_law_536 : decode cL_law 536 = .ok (.aload_n 0, 1) ∧ 536 + 1 = 537 := ⟨by decide +kernel, rfl⟩
theorem dL_law_537 : decode cL_law 537 = .ok (.iload_n 3, 1) ∧ 537 + 1 = 538 := ⟨by decide +kernel, rfl⟩
theorem dL_law_538 : decode cL_law 538 = .ok (.iconst 1, 1) ∧ 538 + 1 = 539 := ⟨by decide +kernel, rfl⟩
theorem dL_law_539 : decode cL_law 539 = .ok (.iadd, 1) ∧ 539 + 1 = 540 := ⟨by decide +kernel, rfl⟩
theorem dL_law_540 : decode cL_law 540 = .ok (.iaload, 1) ∧ 540 + 1 = 541 := ⟨by decide +kernel, rfl⟩
theorem dL_law_541 : decode cL_law 541 = .ok (.invokevirtual 69, 3) ∧ 541 + 3 = 544 := ⟨by decide +kernel, rfl⟩
theorem dL_law_544 : decode cL_law 544 = .ok (.if_icmp .eq 5, 3) ∧ 544 + 3 = 547 ∧ ((544 : Nat) : Int) + (5) = ((549 : Nat) : Int) := ⟨by decide +kernel, rfl, by decide⟩
theorem dL_law_547 : decode cL_law 547 = .ok (.iconst 0, 1) ∧ 547 + 1 = 548 := ⟨by decide +kernel, rfl⟩
theorem dL_law_548 : decode cL_law 548 = .ok (.ireturn, 1) ∧ 548 + 1 = 549 := ⟨by decide +kernel, rfl⟩
theorem dL_law_549 : decode cL_law 549 = .ok (.iinc 3 5, 3) ∧ 549 + 3 = 552 := ⟨by decide +kernel, rfl⟩
theorem dL_law_552 : decode cL_law 552 = .ok (.goto (-534), 3) ∧ 552 + 3 = 555 ∧ ((552 : Nat) : Int) + (-534) = ((18 : Nat) : Int) := ⟨by decide +kernel, rfl, by decide⟩
theorem dL_law_555 : decode cL_law 555 = .ok (.iconst 1, 1) ∧ 555 + 1 = 556 := ⟨by decide +kernel, rfl⟩
theorem dL_law_556 : decode cL_law 556 = .ok (.ireturn, 1) ∧ 556 + 1 = 557 := ⟨by decide +kernel, rfl⟩
end
section
/-! the judgement JJ: the machine at pc with locals L, stack st, and a world wd; its rows -/
abbrev jG : Type := va_G × Nat × (Nat → Nat) × (Nat → ClassId)
abbrev jcl : List vw_C := [(RX0, TX0, 18), (RX1, TX1, 4)]
def jup {α : Type} (N : Nat → Nat → α) (k i : Nat) (v : α) : Nat → Nat → α := va_up N k (va_up (N k) i v)
theorem jup_s {α : Type} {N : Nat → Nat → α} {k i : Nat} {v : α} : jup N k i v k i = v := by simp [jup, va_up]
theorem jup_k {α : Type} {N : Nat → Nat → α} {k i k' : Nat} {v : α} (h : k' ≠ k) : jup N k i v k' = N k' := by simp [jup, va_up, h]
theorem jup_n {α : Type} {N : Nat → Nat → α} {k i j : Nat} {v : α} (h : j ≠ i) : jup N k i v k j = N k j := by simp [jup, va_up, h]
theorem jup_e {α : Type} {N : Nat → Nat → α} {k i k' j : Nat} {v : α} : jup N k i v k' j = if k' = k ∧ j = i then v else N k' j := by
  unfold jup va_up
  by_cases h : k' = k
  · subst h
    by_cases h2 : j = i
    · simp [h2]
    · simp [h2]
  · simp [h]
/-- the locals: a known value or none a slot -/
def jl (ls : Array Slot) (nL : Nat) (L : List (Option Value)) : Prop := ls.size = nL ∧ L.length = nL ∧ lv_wf ls ∧ ∀ (i : Nat) (v : Value), L[i]? = some (some v) → ls[i]? = some (.val v) ∧ v.category = 1
def jlv (L : List (Option Value)) : List (Nat × Value) := (List.range L.length).filterMap (fun i => match L[i]? with
  | some (some v) => some (i, v)
  | _ => none)
theorem jlv_mem {L : List (Option Value)} {i : Nat} {v : Value} : (i, v) ∈ jlv L ↔ L[i]? = some (some v) := by
  unfold jlv
  rw [List.mem_filterMap]
  constructor
  · rintro ⟨a, ha, h⟩
    split at h
    · cases h; assumption
    · cases h
  · intro h
    refine ⟨i, ?_, by rw [h]⟩
    rw [List.mem_range]
    exact (List.getElem?_eq_some_iff.mp h).1
theorem jl_has {ls : Array Slot} {nL : Nat} {L : List (Option Value)} (h : jl ls nL L) : lv_has ls nL (jlv L) :=
  ⟨h.1, h.2.2.1, fun q hq => (h.2.2.2 q.1 q.2 (jlv_mem.mp hq)).1⟩
theorem jl_lt {ls : Array Slot} {nL i : Nat} {L : List (Option Value)} (h : jl ls nL L) (hi : i < L.length) : i < nL := by rw [← h.2.1]; exact hi
theorem jl_setV {ls ls2 : Array Slot} {nL i : Nat} {v : Value} (hc : v.category = 1) {L : List (Option Value)} (h : jl ls nL L) (h2 : lv_has ls2 nL ((i, v) :: (jlv L).filter (fun q => !(q.1 == i) && !(q.1 + 1 == i && q.2.category == 2)))) : jl ls2 nL (L.set i (some v)) := by
  refine ⟨h2.1, by rw [List.length_set]; exact h.2.1, h2.2.1, fun j w hj => ?_⟩
  rw [List.getElem?_set] at hj
  by_cases hij : i = j
  · subst hij
    rw [if_pos rfl] at hj
    split at hj
    · cases hj
      exact ⟨h2.2.2 (i, v) List.mem_cons_self, hc⟩
    · cases hj
  · rw [if_neg hij] at hj
    have hw := (h.2.2.2 j w hj).2
    refine ⟨h2.2.2 (j, w) (List.mem_cons_of_mem _ (List.mem_filter.mpr ⟨jlv_mem.mpr hj, ?_⟩)), hw⟩
    have hji : ¬ j = i := fun q => hij q.symm
    simp [hji, hw]
theorem jl_set {ls ls2 : Array Slot} {nL i : Nat} {x : Int32} {L : List (Option Value)} (h : jl ls nL L) (h2 : lv_has ls2 nL ((i, Value.int x) :: (jlv L).filter (fun q => !(q.1 == i) && !(q.1 + 1 == i && q.2.category == 2)))) : jl ls2 nL (L.set i (some (.int x))) := jl_setV rfl h h2
theorem jl_entry (vs : List Value) {n k : Nat} (h1 : ∀ v ∈ vs, v.category = 1) (hn : vs.length + k = n) : jl ((lg_sl vs ++ List.replicate (n - (lg_sl vs).length) Slot.unset).toArray) n (vs.map some ++ List.replicate k none) := by
  have key : ∀ (vs : List Value), (∀ v ∈ vs, v.category = 1) → (lg_sl vs).length = vs.length ∧ ∀ (a i : Nat) (v : Value), vs[i]? = some v → (a + i, v) ∈ lv_args a vs := by
    intro vs
    induction vs with
    | nil => intro _; exact ⟨rfl, fun a i v h => by simp at h⟩
    | cons w ws ih =>
      intro hc
      have hw : w.category = 1 := hc w List.mem_cons_self
      obtain ⟨e1, e2⟩ := ih (fun v hv => hc v (List.mem_cons_of_mem _ hv))
      refine ⟨?_, fun a i v h => ?_⟩
      · have : lg_sl (w :: ws) = .val w :: lg_sl ws := by simp [lg_sl, hw]
        rw [this, List.length_cons, List.length_cons, e1]
      · cases i with
        | zero =>
          rw [List.getElem?_cons_zero] at h
          cases h
          simp [lv_args]
        | succ i =>
          rw [List.getElem?_cons_succ] at h
          have := e2 (a + 1) i v h
          have hq : a + (i + 1) = a + 1 + i := by omega
          rw [hq]
          simp only [lv_args, hw]
          exact List.mem_cons_of_mem _ this
  obtain ⟨e1, e2⟩ := key vs h1
  obtain ⟨a1, a2, a3⟩ := lv_entry vs (n := n) (by rw [e1]; omega)
  refine ⟨a1, by simp; omega, a2, fun i v hi => ?_⟩
  have hv : vs[i]? = some v := by
    rw [List.getElem?_append] at hi
    split at hi
    · rw [List.getElem?_map] at hi
      cases hx : vs[i]? with
      | none => rw [hx] at hi; cases hi
      | some w => rw [hx] at hi; cases hi; rfl
    · rw [List.getElem?_replicate] at hi
      split at hi <;> cases hi
  have := a3 (i, v) (by have := e2 0 i v hv; rw [Nat.zero_add] at this; exact this)
  exact ⟨this, h1 v (List.mem_of_getElem? hv)⟩
def JJ (p : Program) (l : Launch) (e : Env) (R : Room) (s : State) (m : MethodId) (args : Array Value) (below : List Frame) (meth : Method) (c : Code) (ce sl : Nat) (Q : State → Prop) (A : Nat → Prop) (D : va_G) (nL : Nat) (wd : va_W) (pc : Nat) (L : List (Option Value)) (st : List Value) : Prop :=
  ∀ (H : Heap) (locs : List Loc) (ls : Array Slot), va_P D jcl wd H → va_D A wd → va_S A s.heap H locs → jl ls nL L → W p l e R s m args below meth c H locs ce sl Q (F0 m pc ls st)
def jC (p : Program) (s : State) (m : MethodId) (args : Array Value) (meth : Method) (c : Code) (A : Nat → Prop) (D : va_G) (nL : Nat) (cc : ByteArray) (own : String) (tys : List (ClassId × FieldType)) : Prop :=
  p.tables.exec = Jvm.exec ∧ c.code = cc ∧ c.maxLocals = nL ∧ s.vm.findClass own = some m.cls ∧ (∀ w ∈ lw_all, w.before args s = true) ∧ va_K D jcl tys s ∧ meth.locks = false ∧ (∀ q : Nat, s.heap.size ≤ q → A q)
def jw (g : jG) (N : Nat → Nat → Nat) (K : Nat → Nat → Int32) : va_W := [(g.2.1, .inr (0, [.ref (g.2.2.1 0), .ref (g.2.2.1 1), .ref (g.2.2.1 2), .ref (g.2.2.1 3), .ref (g.2.2.1 4), .int (nI (N 5 0)), .ref (g.2.2.1 6), .int (nI (N 7 0)), .ref (g.2.2.1 8), .ref (g.2.2.1 9), .int (nI (N 10 0)), .int (nI (N 11 0)), .int (nI (N 12 0)), .ref (g.2.2.1 13), .ref (g.2.2.1 14), .ref (g.2.2.1 15), .ref (g.2.2.1 16), .ref (g.2.2.1 17)])), (g.2.2.1 0, .inl (g.2.2.2 0, 256, .inl (fun j => nI (N 0 j)))), (g.2.2.1 1, .inl (g.2.2.2 1, 256, .inl (fun j => nI (N 1 j)))), (g.2.2.1 2, .inl (g.2.2.2 2, 256, .inl (K 2))), (g.2.2.1 3, .inl (g.2.2.2 3, 256, .inl (fun j => nI (N 3 j)))), (g.2.2.1 4, .inl (g.2.2.2 4, 4, .inl (fun j => nI (N 4 j)))), (g.2.2.1 6, .inl (g.2.2.2 6, 256, .inl (fun j => nI (N 6 j)))), (g.2.2.1 8, .inl (g.2.2.2 8, 64, .inl (fun j => nI (N 8 j)))), (g.2.2.1 9, .inl (g.2.2.2 9, 64, .inl (fun j => nI (N 9 j)))), (g.2.2.1 13, .inl (g.2.2.2 13, 32, .inl (fun j => nI (N 13 j)))), (g.2.2.1 14, .inl (g.2.2.2 14, 32, .inl (fun j => nI (N 14 j)))), (g.2.2.1 15, .inl (g.2.2.2 15, 32, .inl (fun j => nI (N 15 j)))), (g.2.2.1 16, .inl (g.2.2.2 16, 32, .inl (fun j => nI (N 16 j)))), (g.2.2.1 17, .inl (g.2.2.2 17, 32, .inl (fun j => nI (N 17 j))))]
def jty (g : jG) : List (ClassId × FieldType) := [(g.2.2.2 0, .short), (g.2.2.2 1, .short), (g.2.2.2 2, .int), (g.2.2.2 3, .byte), (g.2.2.2 4, .short), (g.2.2.2 6, .short), (g.2.2.2 8, .short), (g.2.2.2 9, .boolean), (g.2.2.2 13, .short), (g.2.2.2 14, .short), (g.2.2.2 15, .short), (g.2.2.2 16, .boolean), (g.2.2.2 17, .boolean)]
def mw (g : jG) (N : Nat → Nat → Nat) (K : Nat → Nat → Int32) : va_W := [(g.2.1, .inr (1, [.ref (g.2.2.1 0), .ref (g.2.2.1 1), .ref (g.2.2.1 2), .int (nI (N 3 0))])), (g.2.2.1 0, .inl (g.2.2.2 0, 80, .inl (K 0))), (g.2.2.1 1, .inl (g.2.2.2 1, 4, .inl (fun j => nI (N 1 j)))), (g.2.2.1 2, .inl (g.2.2.2 2, 40, .inl (K 2)))]
def mty (g : jG) : List (ClassId × FieldType) := [(g.2.2.2 0, .int), (g.2.2.2 1, .int), (g.2.2.2 2, .int)]
def jrm (k : Nat) : Room := { frames := k, cells := 0, slots := 0, locals := 40 * k }
/-- a contract: the method y with answer r, level k, arguments as, from the world wf g N K -/
def jI (l : Launch) (wf : jG → (Nat → Nat → Nat) → (Nat → Nat → Int32) → va_W) (tf : jG → List (ClassId × FieldType)) (y : MethodName) (cc : ByteArray) (mL : Nat) (r : FieldType) (k : Nat) (as : List Value) (N : Nat → Nat → Nat) (K : Nat → Nat → Int32) (post : Int32 → (Nat → Nat → Nat) → (Nat → Nat → Int32) → Prop) : Prop :=
  ∀ (g : jG) (sz : Nat), Met l y (ws_ y cc mL (some r)) (jrm k) (va_Pc (.ref g.2.1 :: as) (fun U => U.heap.size = sz ∧ va_P g.1 jcl (wf g N K) U.heap ∧ va_K g.1 jcl (tf g) U ∧ va_D (fun _ => True) (wf g N K)))
    (va_Qi (fun r (u : (Nat → Nat → Nat) × (Nat → Nat → Int32)) => post r u.1 u.2) (fun u t => va_P g.1 jcl (wf g u.1 u.2) t.heap ∧ va_K g.1 jcl (tf g) t ∧ va_D (va_A (wf g N K) sz) (wf g u.1 u.2)) (va_A (wf g N K) sz)) 0 0 (va_A (wf g N K) sz)
def jV (l : Launch) (wf : jG → (Nat → Nat → Nat) → (Nat → Nat → Int32) → va_W) (tf : jG → List (ClassId × FieldType)) (y : MethodName) (cc : ByteArray) (mL : Nat) (k : Nat) (as : List Value) (N : Nat → Nat → Nat) (K : Nat → Nat → Int32) (post : (Nat → Nat → Nat) → (Nat → Nat → Int32) → Prop) : Prop :=
  ∀ (g : jG) (sz : Nat), Met l y (ws_ y cc mL none) (jrm k) (va_Pc (.ref g.2.1 :: as) (fun U => U.heap.size = sz ∧ va_P g.1 jcl (wf g N K) U.heap ∧ va_K g.1 jcl (tf g) U ∧ va_D (fun _ => True) (wf g N K)))
    (va_Qv (fun (u : (Nat → Nat → Nat) × (Nat → Nat → Int32)) => post u.1 u.2) (fun u t => va_P g.1 jcl (wf g u.1 u.2) t.heap ∧ va_K g.1 jcl (tf g) t ∧ va_D (va_A (wf g N K) sz) (wf g u.1 u.2)) (va_A (wf g N K) sz)) 0 0 (va_A (wf g N K) sz)
/-- the end of a method's walk -/
abbrev jQI (wf : jG → (Nat → Nat → Nat) → (Nat → Nat → Int32) → va_W) (tf : jG → List (ClassId × FieldType)) (g : jG) (A : Nat → Prop) (below : List Frame) (args : Array Value) (s : State) (post : Int32 → (Nat → Nat → Nat) → (Nat → Nat → Int32) → Prop) : State → Prop :=
  MQ below (va_Qi (fun r (u : (Nat → Nat → Nat) × (Nat → Nat → Int32)) => post r u.1 u.2) (fun u t => va_P g.1 jcl (wf g u.1 u.2) t.heap ∧ va_K g.1 jcl (tf g) t ∧ va_D A (wf g u.1 u.2)) A) args s 0 0 A
abbrev jQV (wf : jG → (Nat → Nat → Nat) → (Nat → Nat → Int32) → va_W) (tf : jG → List (ClassId × FieldType)) (g : jG) (A : Nat → Prop) (below : List Frame) (args : Array Value) (s : State) (post : (Nat → Nat → Nat) → (Nat → Nat → Int32) → Prop) : State → Prop :=
  MQ below (va_Qv (fun (u : (Nat → Nat → Nat) × (Nat → Nat → Int32)) => post u.1 u.2) (fun u t => va_P g.1 jcl (wf g u.1 u.2) t.heap ∧ va_K g.1 jcl (tf g) t ∧ va_D A (wf g u.1 u.2)) A) args s 0 0 A
theorem jI_of {l : Launch} {wf : jG → (Nat → Nat → Nat) → (Nat → Nat → Int32) → va_W} {tf : jG → List (ClassId × FieldType)} {y : MethodName} {cc : ByteArray} {mL : Nat} {r : FieldType} {k : Nat} {as : List Value} {N : Nat → Nat → Nat} {K : Nat → Nat → Int32} {post : Int32 → (Nat → Nat → Nat) → (Nat → Nat → Int32) → Prop} {kN : Nat} {L : jG → List (Option Value)}
    (hy : plainName y.cls = true) (hL : ∀ g : jG, (Value.ref g.2.1 :: as).map some ++ List.replicate kN none = L g) (hn : ∀ g : jG, (Value.ref g.2.1 :: as).length + kN = mL) (h1 : ∀ g : jG, ∀ v ∈ (Value.ref g.2.1 :: as), v.category = 1)
    (body : ∀ (g : jG) (p : Program) (e : Env) (s : State) (m : MethodId) (args : Array Value) (below : List Frame) (meth : Method) (c : Code) (A : Nat → Prop), jC p s m args meth c A g.1 mL cc y.cls (tf g) → meth.sig.returnType = some r →
      JJ p l e (jrm k) s m args below meth c 0 0 (jQI wf tf g A below args s post) A g.1 mL (wf g N K) 0 (L g) []) : jI l wf tf y cc mL r k as N K post := by
  intro g sz
  refine Met.ofW (cc := cc) (maxL := mL) (ret := some r) hy rfl ?_
  intro p e s m args below meth c s₁ B hml hv
  obtain ⟨rfl, hsz, hP, hK, hD0⟩ := hv
  have hts := atoms_spec (ws := ws_ y cc mL (some r)) B.pre
  have hts : ∀ w ∈ lw_all, w.before _ s = true := fun w h => hts w (List.mem_cons_of_mem _ h)
  have hown : s.vm.findClass y.cls = some m.cls := findClass_of_methodNamed B.named
  subst hsz
  have hD := hD0.self (sz := s.heap.size)
  have hl := jl_entry (Value.ref g.2.1 :: as) (n := mL) (k := kN) (h1 g) (hn g)
  rw [lg_entry_eq]
  rw [hL g] at hl
  exact body g p e s m _ below meth c (va_A (wf g N K) s.heap.size) ⟨B.exec, B.bytes, hml, hown, hts, hK, B.notSynchronized, fun q h => Or.inr h⟩ B.returns s.heap [] _ hP hD va_S.rf hl
theorem jV_of {l : Launch} {wf : jG → (Nat → Nat → Nat) → (Nat → Nat → Int32) → va_W} {tf : jG → List (ClassId × FieldType)} {y : MethodName} {cc : ByteArray} {mL : Nat} {k : Nat} {as : List Value} {N : Nat → Nat → Nat} {K : Nat → Nat → Int32} {post : (Nat → Nat → Nat) → (Nat → Nat → Int32) → Prop} {kN : Nat} {L : jG → List (Option Value)}
    (hy : plainName y.cls = true) (hL : ∀ g : jG, (Value.ref g.2.1 :: as).map some ++ List.replicate kN none = L g) (hn : ∀ g : jG, (Value.ref g.2.1 :: as).length + kN = mL) (h1 : ∀ g : jG, ∀ v ∈ (Value.ref g.2.1 :: as), v.category = 1)
    (body : ∀ (g : jG) (p : Program) (e : Env) (s : State) (m : MethodId) (args : Array Value) (below : List Frame) (meth : Method) (c : Code) (A : Nat → Prop), jC p s m args meth c A g.1 mL cc y.cls (tf g) → meth.sig.returnType = none →
      JJ p l e (jrm k) s m args below meth c 0 0 (jQV wf tf g A below args s post) A g.1 mL (wf g N K) 0 (L g) []) : jV l wf tf y cc mL k as N K post := by
  intro g sz
  refine Met.ofW (cc := cc) (maxL := mL) (ret := none) hy rfl ?_
  intro p e s m args below meth c s₁ B hml hv
  obtain ⟨rfl, hsz, hP, hK, hD0⟩ := hv
  have hts := atoms_spec (ws := ws_ y cc mL none) B.pre
  have hts : ∀ w ∈ lw_all, w.before _ s = true := fun w h => hts w (List.mem_cons_of_mem _ h)
  have hown : s.vm.findClass y.cls = some m.cls := findClass_of_methodNamed B.named
  subst hsz
  have hD := hD0.self (sz := s.heap.size)
  have hl := jl_entry (Value.ref g.2.1 :: as) (n := mL) (k := kN) (h1 g) (hn g)
  rw [lg_entry_eq]
  rw [hL g] at hl
  exact body g p e s m _ below meth c (va_A (wf g N K) s.heap.size) ⟨B.exec, B.bytes, hml, hown, hts, hK, B.notSynchronized, fun q h => Or.inr h⟩ B.returns s.heap [] _ hP hD va_S.rf hl
theorem ju_i2s : ∀ v, v < 32768 → (nI v).toInt16.toInt32 = nI v := by
  intro v hv
  apply Int32.toInt_inj.mp
  rw [Int16.toInt_toInt32, nI_toInt (by omega), nI, Int32.toInt16_ofNat', Int16.toInt_ofNat_of_lt (by omega)]
theorem ju_i2b : ∀ v, v < 128 → (nI v).toInt8.toInt32 = nI v := by
  intro v hv
  apply Int32.toInt_inj.mp
  rw [Int8.toInt_toInt32, nI_toInt (by omega), nI, Int32.toInt8_ofNat', Int8.toInt_ofNat_of_lt (by omega)]
theorem ju_and1 : ∀ v, v < 2 → nI v &&& 1 = nI v := by decide
theorem ju_upd {f : Nat → Nat} {i v : Nat} : upd (fun j => nI (f j)) i (nI v) = fun j => nI (va_up f i v j) := by
  funext j
  unfold upd va_up
  by_cases h : j = i
  · simp [h]
  · simp [h]
theorem ju_short {f : Nat → Nat} {i v : Nat} (h : v < 32768) : upd (fun j => nI (f j)) i (vp_nar .short (nI v)) = fun j => nI (va_up f i v j) := by
  rw [vp_nar_short, ju_i2s v h, ju_upd]
theorem ju_byte {f : Nat → Nat} {i v : Nat} (h : v < 128) : upd (fun j => nI (f j)) i (vp_nar .byte (nI v)) = fun j => nI (va_up f i v j) := by
  rw [vp_nar_byte, ju_i2b v h, ju_upd]
theorem ju_bool {f : Nat → Nat} {i v : Nat} (h : v < 2) : upd (fun j => nI (f j)) i (vp_nar .boolean (nI v)) = fun j => nI (va_up f i v j) := by
  have e : vp_nar .boolean (nI v) = nI v := by
    show nI v &&& 1 = nI v
    exact ju_and1 v h
  rw [e, ju_upd]
theorem ju_int {f : Nat → Nat} {i v : Nat} : upd (fun j => nI (f j)) i (nI v) = fun j => nI (va_up f i v j) := ju_upd
section JC
variable {p : Program} {l : Launch} {e : Env} {R : Room} {s : State} {m : MethodId} {args : Array Value} {below : List Frame} {meth : Method} {c : Code} {Q : State → Prop} {A : Nat → Prop} {g : jG} {nL : Nat} {pc n : Nat} {L : List (Option Value)} {st stk : List Value} {cc : ByteArray} {own : String} {wf : jG → (Nat → Nat → Nat) → (Nat → Nat → Int32) → va_W} {tf : jG → List (ClassId × FieldType)} {N : Nat → Nat → Nat} {K : Nat → Nat → Int32} {y : MethodName} {bytes : ByteArray} {mL k idx nA ci : Nat} {r : FieldType} {As : List Value} {q : vw_C} {fs : List Value}
theorem jcallI {post : Int32 → (Nat → Nat → Nat) → (Nat → Nat → Int32) → Prop} (C : jC p s m args meth c A g.1 nL cc own (tf g)) (hw : jcl[ci]? = some q) (hM : jI l wf tf y bytes mL r k As N K post) (cw : CallW R s args own q.1 idx y bytes mL (some r) (ws_ y bytes mL (some r)) (jrm k) 0 0 As.length) (he : (wf g N K)[0]? = some (g.2.1, .inr (ci, fs))) (d : decode cc pc = .ok (.invokevirtual idx, 3) ∧ pc + 3 = n) (hst : (st.map fun v => v.category).sum ≤ 8)
    (kk : ∀ r N1 K1, post r N1 K1 → JJ p l e R s m args below meth c 0 0 Q A g.1 nL (wf g N1 K1) n L (.int r :: st)) : JJ p l e R s m args below meth c 0 0 Q A g.1 nL (wf g N K) pc L (As.reverse ++ .ref g.2.1 :: st) := by
  obtain ⟨d, rfl⟩ := d
  obtain ⟨hx, hb, hml, hown, hts, hK, hlk, hA⟩ := C
  intro H locs ls hP hD hS hl
  have hFc : ∀ q, va_A (wf g N K) H.size q → A q := by
    rintro q (⟨k, e, h⟩ | h)
    · exact hD.2 k _ h
    · exact hA q (Nat.le_trans hS.1 h)
  refine va_calli (va_runV (As := As) (rest := st) ⟨hx, hb, hml, hown, hts⟩ (hM g H.size) cw ⟨fun a U g' mk q => by obtain ⟨q0, q1, qP, qK, qD⟩ := q; exact ⟨q0, q1, qP, va_K.moved (u := U) (U := U.calling g' mk a) (Vm.Alike.refl U.vm) qK, qD⟩, va_recv hK hP (ci := ci) (q0 := 0) hw he, fun U hU hW => ⟨rfl, by rw [hU], by rw [hU]; exact hP, va_K.moved hW.alike hK, hD.weaken (fun _ _ _ _ => trivial)⟩⟩ rfl rfl hl.1 rfl (lv_room hst) d ⟨Nat.zero_le _, Nat.zero_le _⟩) hS (fun q _ h => hFc q h) hFc (fun r u t H1 locs ht hvm hw1 hB hz1 hk1 hS => ?_)
  obtain ⟨hP1, hK1, hD1⟩ := hB
  rw [ht] at hP1
  exact kk r u.1 u.2 hw1 H1 locs ls hP1 (hD1.weaken (fun _ _ _ h => hFc _ h)) hS hl
theorem jcallV {post : (Nat → Nat → Nat) → (Nat → Nat → Int32) → Prop} (C : jC p s m args meth c A g.1 nL cc own (tf g)) (hw : jcl[ci]? = some q) (hM : jV l wf tf y bytes mL k As N K post) (cw : CallW R s args own q.1 idx y bytes mL none (ws_ y bytes mL none) (jrm k) 0 0 As.length) (he : (wf g N K)[0]? = some (g.2.1, .inr (ci, fs))) (d : decode cc pc = .ok (.invokevirtual idx, 3) ∧ pc + 3 = n) (hst : (st.map fun v => v.category).sum ≤ 8)
    (kk : ∀ N1 K1, post N1 K1 → JJ p l e R s m args below meth c 0 0 Q A g.1 nL (wf g N1 K1) n L st) : JJ p l e R s m args below meth c 0 0 Q A g.1 nL (wf g N K) pc L (As.reverse ++ .ref g.2.1 :: st) := by
  obtain ⟨d, rfl⟩ := d
  obtain ⟨hx, hb, hml, hown, hts, hK, hlk, hA⟩ := C
  intro H locs ls hP hD hS hl
  have hFc : ∀ q, va_A (wf g N K) H.size q → A q := by
    rintro q (⟨k, e, h⟩ | h)
    · exact hD.2 k _ h
    · exact hA q (Nat.le_trans hS.1 h)
  refine va_callv (va_runV (As := As) (rest := st) ⟨hx, hb, hml, hown, hts⟩ (hM g H.size) cw ⟨fun a U g' mk q => by obtain ⟨q0, q1, qP, qK, qD⟩ := q; exact ⟨q0, q1, qP, va_K.moved (u := U) (U := U.calling g' mk a) (Vm.Alike.refl U.vm) qK, qD⟩, va_recv hK hP (ci := ci) (q0 := 0) hw he, fun U hU hW => ⟨rfl, by rw [hU], by rw [hU]; exact hP, va_K.moved hW.alike hK, hD.weaken (fun _ _ _ _ => trivial)⟩⟩ rfl rfl hl.1 rfl (lv_room hst) d ⟨Nat.zero_le _, Nat.zero_le _⟩) hS (fun q _ h => hFc q h) hFc (fun u t H1 locs ht hvm hw1 hB hz1 hk1 hS => ?_)
  obtain ⟨hP1, hK1, hD1⟩ := hB
  rw [ht] at hP1
  exact kk u.1 u.2 hw1 H1 locs ls hP1 (hD1.weaken (fun _ _ _ h => hFc _ h)) hS hl
theorem jr_iret {x : Int32} {post : Int32 → (Nat → Nat → Nat) → (Nat → Nat → Int32) → Prop} (C : jC p s m args meth c A g.1 nL cc own (tf g)) (hr : meth.sig.returnType = some .int) (d : decode cc pc = .ok (.ireturn, 1) ∧ pc + 1 = n) (hq : post x N K) : JJ p l e R s m args below meth c 0 0 (jQI wf tf g A below args s post) A g.1 nL (wf g N K) pc L [.int x] := by
  obtain ⟨hx, hb, hml, hown, hts, hK, hlk, hA⟩ := C
  exact fun H locs ls hP hD hS hl => W.iret hx hb hr (fun t ht hW => ⟨⟨x, (N, K), rfl, hq, by rw [ht]; exact hP, va_K.moved hW.alike hK, hD⟩, hS.F ht⟩) hS.2.2 d.1 hlk
theorem jr_zret {b : Nat} {post : Int32 → (Nat → Nat → Nat) → (Nat → Nat → Int32) → Prop} (C : jC p s m args meth c A g.1 nL cc own (tf g)) (hr : meth.sig.returnType = some .boolean) (d : decode cc pc = .ok (.ireturn, 1) ∧ pc + 1 = n) (hq : b < 2 ∧ post (nI b) N K) : JJ p l e R s m args below meth c 0 0 (jQI wf tf g A below args s post) A g.1 nL (wf g N K) pc L [.int (nI b)] := by
  obtain ⟨hx, hb, hml, hown, hts, hK, hlk, hA⟩ := C
  exact fun H locs ls hP hD hS hl => W.zret hx hb hr (by show Value.int (nI b &&& 1) = _; rw [ju_and1 b hq.1]) (fun t ht hW => ⟨⟨nI b, (N, K), rfl, hq.2, by rw [ht]; exact hP, va_K.moved hW.alike hK, hD⟩, hS.F ht⟩) hS.2.2 d.1 hlk
theorem jr_vret {post : (Nat → Nat → Nat) → (Nat → Nat → Int32) → Prop} (C : jC p s m args meth c A g.1 nL cc own (tf g)) (hr : meth.sig.returnType = none) (d : decode cc pc = .ok (.return_, 1) ∧ pc + 1 = n) (hq : post N K) : JJ p l e R s m args below meth c 0 0 (jQV wf tf g A below args s post) A g.1 nL (wf g N K) pc L [] := by
  obtain ⟨hx, hb, hml, hown, hts, hK, hlk, hA⟩ := C
  exact fun H locs ls hP hD hS hl => W.vret hx hb hr (fun t ht hW => ⟨⟨(N, K), rfl, hq, by rw [ht]; exact hP, va_K.moved hW.alike hK, hD⟩, hS.F ht⟩) hS.2.2 d.1 hlk
end JC
end
section
section JR
variable {p : Program} {l : Launch} {e : Env} {R : Room} {s : State} {m : MethodId} {args : Array Value} {below : List Frame} {meth : Method} {c : Code} {ce sl : Nat} {Q : State → Prop} {A : Nat → Prop} {D : va_G} {nL : Nat} {wd : va_W} {pc n : Nat} {L : List (Option Value)} {st : List Value} {cc : ByteArray} {own : String} {tys : List (ClassId × FieldType)}
theorem jl_iinc {H : Heap} {locs : List Loc} {ls : Array Slot} {i : Nat} {z : Int} {x v : Int32} (hx : p.tables.exec = Jvm.exec) (hb : c.code = cc) (d : decode cc pc = .ok (.iinc i z, 3)) (hl : jl ls nL L) (hL : L[i]? = some (some (.int x))) (hv : x + Int32.ofInt z = v) (kk : ∀ ls2, jl ls2 nL (L.set i (some (.int v))) → W p l e R s m args below meth c H locs ce sl Q (F0 m (pc + 3) ls2 st)) : W p l e R s m args below meth c H locs ce sl Q (F0 m pc ls st) := by
  obtain ⟨k, hk⟩ := List.getElem?_of_mem (jlv_mem.mpr hL)
  exact lv_iinc hx hb d (jl_has hl) hk hv (jl_lt hl (List.getElem?_eq_some_iff.mp hL).1) rfl (fun ls2 h2 => kk ls2 (jl_set hl h2))
theorem jr_al0 (C : jC p s m args meth c A D nL cc own tys) {a : Nat} (d : decode cc pc = .ok (.aload_n 0, 1) ∧ pc + 1 = n) (kk : JJ p l e R s m args below meth c ce sl Q A D nL wd n (some (.ref a) :: L) (.ref a :: st)) : JJ p l e R s m args below meth c ce sl Q A D nL wd pc (some (.ref a) :: L) st := by
  obtain ⟨d, rfl⟩ := d
  exact fun H locs ls hP hD hS hl => lv_aload_n C.1 C.2.1 d rfl (hl.2.2.2 0 _ rfl).1 (kk H locs ls hP hD hS hl)
theorem jr_il1 (C : jC p s m args meth c A D nL cc own tys) {o0 : Option Value} {x : Int32} (d : decode cc pc = .ok (.iload_n 1, 1) ∧ pc + 1 = n) (kk : JJ p l e R s m args below meth c ce sl Q A D nL wd n (o0 :: some (.int x) :: L) (.int x :: st)) : JJ p l e R s m args below meth c ce sl Q A D nL wd pc (o0 :: some (.int x) :: L) st := by
  obtain ⟨d, rfl⟩ := d
  exact fun H locs ls hP hD hS hl => lv_iload_n C.1 C.2.1 d rfl (hl.2.2.2 1 _ rfl).1 (kk H locs ls hP hD hS hl)
theorem jr_is1 (C : jC p s m args meth c A D nL cc own tys) {o0 : Option Value} {w : Option Value} {x : Int32} (d : decode cc pc = .ok (.istore_n 1, 1) ∧ pc + 1 = n) (kk : JJ p l e R s m args below meth c ce sl Q A D nL wd n (o0 :: some (.int x) :: L) st) : JJ p l e R s m args below meth c ce sl Q A D nL wd pc (o0 :: w :: L) (.int x :: st) := by
  obtain ⟨d, rfl⟩ := d
  exact fun H locs ls hP hD hS hl => lv_istore_n C.1 C.2.1 d rfl (jl_has hl) (jl_lt hl (i := 1) (by simp)) rfl (fun ls2 h2 => kk H locs ls2 hP hD hS (jl_set (i := 1) (x := x) hl h2))
theorem jr_inc1 (C : jC p s m args meth c A D nL cc own tys) {o0 : Option Value} {x : Nat} (d : decode cc pc = .ok (.iinc 1 1, 3) ∧ pc + 3 = n) (kk : JJ p l e R s m args below meth c ce sl Q A D nL wd n (o0 :: some (.int (nI (x + 1))) :: L) st) : JJ p l e R s m args below meth c ce sl Q A D nL wd pc (o0 :: some (.int (nI x)) :: L) st := by
  obtain ⟨d, rfl⟩ := d
  exact fun H locs ls hP hD hS hl => jl_iinc C.1 C.2.1 d hl rfl (show nI x + Int32.ofInt 1 = nI (x + 1) from nI_1 x) (fun ls2 h2 => kk H locs ls2 hP hD hS h2)
theorem jr_il2 (C : jC p s m args meth c A D nL cc own tys) {o0 o1 : Option Value} {x : Int32} (d : decode cc pc = .ok (.iload_n 2, 1) ∧ pc + 1 = n) (kk : JJ p l e R s m args below meth c ce sl Q A D nL wd n (o0 :: o1 :: some (.int x) :: L) (.int x :: st)) : JJ p l e R s m args below meth c ce sl Q A D nL wd pc (o0 :: o1 :: some (.int x) :: L) st := by
  obtain ⟨d, rfl⟩ := d
  exact fun H locs ls hP hD hS hl => lv_iload_n C.1 C.2.1 d rfl (hl.2.2.2 2 _ rfl).1 (kk H locs ls hP hD hS hl)
theorem jr_is2 (C : jC p s m args meth c A D nL cc own tys) {o0 o1 : Option Value} {w : Option Value} {x : Int32} (d : decode cc pc = .ok (.istore_n 2, 1) ∧ pc + 1 = n) (kk : JJ p l e R s m args below meth c ce sl Q A D nL wd n (o0 :: o1 :: some (.int x) :: L) st) : JJ p l e R s m args below meth c ce sl Q A D nL wd pc (o0 :: o1 :: w :: L) (.int x :: st) := by
  obtain ⟨d, rfl⟩ := d
  exact fun H locs ls hP hD hS hl => lv_istore_n C.1 C.2.1 d rfl (jl_has hl) (jl_lt hl (i := 2) (by simp)) rfl (fun ls2 h2 => kk H locs ls2 hP hD hS (jl_set (i := 2) (x := x) hl h2))
theorem jr_inc2 (C : jC p s m args meth c A D nL cc own tys) {o0 o1 : Option Value} {x : Nat} (d : decode cc pc = .ok (.iinc 2 1, 3) ∧ pc + 3 = n) (kk : JJ p l e R s m args below meth c ce sl Q A D nL wd n (o0 :: o1 :: some (.int (nI (x + 1))) :: L) st) : JJ p l e R s m args below meth c ce sl Q A D nL wd pc (o0 :: o1 :: some (.int (nI x)) :: L) st := by
  obtain ⟨d, rfl⟩ := d
  exact fun H locs ls hP hD hS hl => jl_iinc C.1 C.2.1 d hl rfl (show nI x + Int32.ofInt 1 = nI (x + 1) from nI_1 x) (fun ls2 h2 => kk H locs ls2 hP hD hS h2)
theorem jr_il3 (C : jC p s m args meth c A D nL cc own tys) {o0 o1 o2 : Option Value} {x : Int32} (d : decode cc pc = .ok (.iload_n 3, 1) ∧ pc + 1 = n) (kk : JJ p l e R s m args below meth c ce sl Q A D nL wd n (o0 :: o1 :: o2 :: some (.int x) :: L) (.int x :: st)) : JJ p l e R s m args below meth c ce sl Q A D nL wd pc (o0 :: o1 :: o2 :: some (.int x) :: L) st := by
  obtain ⟨d, rfl⟩ := d
  exact fun H locs ls hP hD hS hl => lv_iload_n C.1 C.2.1 d rfl (hl.2.2.2 3 _ rfl).1 (kk H locs ls hP hD hS hl)
theorem jr_is3 (C : jC p s m args meth c A D nL cc own tys) {o0 o1 o2 : Option Value} {w : Option Value} {x : Int32} (d : decode cc pc = .ok (.istore_n 3, 1) ∧ pc + 1 = n) (kk : JJ p l e R s m args below meth c ce sl Q A D nL wd n (o0 :: o1 :: o2 :: some (.int x) :: L) st) : JJ p l e R s m args below meth c ce sl Q A D nL wd pc (o0 :: o1 :: o2 :: w :: L) (.int x :: st) := by
  obtain ⟨d, rfl⟩ := d
  exact fun H locs ls hP hD hS hl => lv_istore_n C.1 C.2.1 d rfl (jl_has hl) (jl_lt hl (i := 3) (by simp)) rfl (fun ls2 h2 => kk H locs ls2 hP hD hS (jl_set (i := 3) (x := x) hl h2))
theorem jr_inc3 (C : jC p s m args meth c A D nL cc own tys) {o0 o1 o2 : Option Value} {x : Nat} (d : decode cc pc = .ok (.iinc 3 1, 3) ∧ pc + 3 = n) (kk : JJ p l e R s m args below meth c ce sl Q A D nL wd n (o0 :: o1 :: o2 :: some (.int (nI (x + 1))) :: L) st) : JJ p l e R s m args below meth c ce sl Q A D nL wd pc (o0 :: o1 :: o2 :: some (.int (nI x)) :: L) st := by
  obtain ⟨d, rfl⟩ := d
  exact fun H locs ls hP hD hS hl => jl_iinc C.1 C.2.1 d hl rfl (show nI x + Int32.ofInt 1 = nI (x + 1) from nI_1 x) (fun ls2 h2 => kk H locs ls2 hP hD hS h2)
theorem jr_il4 (C : jC p s m args meth c A D nL cc own tys) {o0 o1 o2 o3 : Option Value} {x : Int32} (d : decode cc pc = .ok (.iload 4, 2) ∧ pc + 2 = n) (kk : JJ p l e R s m args below meth c ce sl Q A D nL wd n (o0 :: o1 :: o2 :: o3 :: some (.int x) :: L) (.int x :: st)) : JJ p l e R s m args below meth c ce sl Q A D nL wd pc (o0 :: o1 :: o2 :: o3 :: some (.int x) :: L) st := by
  obtain ⟨d, rfl⟩ := d
  exact fun H locs ls hP hD hS hl => lv_iload C.1 C.2.1 d (hl.2.2.2 4 _ rfl).1 (kk H locs ls hP hD hS hl)
theorem jr_is4 (C : jC p s m args meth c A D nL cc own tys) {o0 o1 o2 o3 : Option Value} {w : Option Value} {x : Int32} (d : decode cc pc = .ok (.istore 4, 2) ∧ pc + 2 = n) (kk : JJ p l e R s m args below meth c ce sl Q A D nL wd n (o0 :: o1 :: o2 :: o3 :: some (.int x) :: L) st) : JJ p l e R s m args below meth c ce sl Q A D nL wd pc (o0 :: o1 :: o2 :: o3 :: w :: L) (.int x :: st) := by
  obtain ⟨d, rfl⟩ := d
  exact fun H locs ls hP hD hS hl => lv_istore C.1 C.2.1 d (jl_has hl) (jl_lt hl (i := 4) (by simp)) rfl (fun ls2 h2 => kk H locs ls2 hP hD hS (jl_set (i := 4) (x := x) hl h2))
theorem jr_inc4 (C : jC p s m args meth c A D nL cc own tys) {o0 o1 o2 o3 : Option Value} {x : Nat} (d : decode cc pc = .ok (.iinc 4 1, 3) ∧ pc + 3 = n) (kk : JJ p l e R s m args below meth c ce sl Q A D nL wd n (o0 :: o1 :: o2 :: o3 :: some (.int (nI (x + 1))) :: L) st) : JJ p l e R s m args below meth c ce sl Q A D nL wd pc (o0 :: o1 :: o2 :: o3 :: some (.int (nI x)) :: L) st := by
  obtain ⟨d, rfl⟩ := d
  exact fun H locs ls hP hD hS hl => jl_iinc C.1 C.2.1 d hl rfl (show nI x + Int32.ofInt 1 = nI (x + 1) from nI_1 x) (fun ls2 h2 => kk H locs ls2 hP hD hS h2)
theorem jr_il5 (C : jC p s m args meth c A D nL cc own tys) {o0 o1 o2 o3 o4 : Option Value} {x : Int32} (d : decode cc pc = .ok (.iload 5, 2) ∧ pc + 2 = n) (kk : JJ p l e R s m args below meth c ce sl Q A D nL wd n (o0 :: o1 :: o2 :: o3 :: o4 :: some (.int x) :: L) (.int x :: st)) : JJ p l e R s m args below meth c ce sl Q A D nL wd pc (o0 :: o1 :: o2 :: o3 :: o4 :: some (.int x) :: L) st := by
  obtain ⟨d, rfl⟩ := d
  exact fun H locs ls hP hD hS hl => lv_iload C.1 C.2.1 d (hl.2.2.2 5 _ rfl).1 (kk H locs ls hP hD hS hl)
theorem jr_is5 (C : jC p s m args meth c A D nL cc own tys) {o0 o1 o2 o3 o4 : Option Value} {w : Option Value} {x : Int32} (d : decode cc pc = .ok (.istore 5, 2) ∧ pc + 2 = n) (kk : JJ p l e R s m args below meth c ce sl Q A D nL wd n (o0 :: o1 :: o2 :: o3 :: o4 :: some (.int x) :: L) st) : JJ p l e R s m args below meth c ce sl Q A D nL wd pc (o0 :: o1 :: o2 :: o3 :: o4 :: w :: L) (.int x :: st) := by
  obtain ⟨d, rfl⟩ := d
  exact fun H locs ls hP hD hS hl => lv_istore C.1 C.2.1 d (jl_has hl) (jl_lt hl (i := 5) (by simp)) rfl (fun ls2 h2 => kk H locs ls2 hP hD hS (jl_set (i := 5) (x := x) hl h2))
theorem jr_inc5 (C : jC p s m args meth c A D nL cc own tys) {o0 o1 o2 o3 o4 : Option Value} {x : Nat} (d : decode cc pc = .ok (.iinc 5 1, 3) ∧ pc + 3 = n) (kk : JJ p l e R s m args below meth c ce sl Q A D nL wd n (o0 :: o1 :: o2 :: o3 :: o4 :: some (.int (nI (x + 1))) :: L) st) : JJ p l e R s m args below meth c ce sl Q A D nL wd pc (o0 :: o1 :: o2 :: o3 :: o4 :: some (.int (nI x)) :: L) st := by
  obtain ⟨d, rfl⟩ := d
  exact fun H locs ls hP hD hS hl => jl_iinc C.1 C.2.1 d hl rfl (show nI x + Int32.ofInt 1 = nI (x + 1) from nI_1 x) (fun ls2 h2 => kk H locs ls2 hP hD hS h2)
theorem jr_il6 (C : jC p s m args meth c A D nL cc own tys) {o0 o1 o2 o3 o4 o5 : Option Value} {x : Int32} (d : decode cc pc = .ok (.iload 6, 2) ∧ pc + 2 = n) (kk : JJ p l e R s m args below meth c ce sl Q A D nL wd n (o0 :: o1 :: o2 :: o3 :: o4 :: o5 :: some (.int x) :: L) (.int x :: st)) : JJ p l e R s m args below meth c ce sl Q A D nL wd pc (o0 :: o1 :: o2 :: o3 :: o4 :: o5 :: some (.int x) :: L) st := by
  obtain ⟨d, rfl⟩ := d
  exact fun H locs ls hP hD hS hl => lv_iload C.1 C.2.1 d (hl.2.2.2 6 _ rfl).1 (kk H locs ls hP hD hS hl)
theorem jr_is6 (C : jC p s m args meth c A D nL cc own tys) {o0 o1 o2 o3 o4 o5 : Option Value} {w : Option Value} {x : Int32} (d : decode cc pc = .ok (.istore 6, 2) ∧ pc + 2 = n) (kk : JJ p l e R s m args below meth c ce sl Q A D nL wd n (o0 :: o1 :: o2 :: o3 :: o4 :: o5 :: some (.int x) :: L) st) : JJ p l e R s m args below meth c ce sl Q A D nL wd pc (o0 :: o1 :: o2 :: o3 :: o4 :: o5 :: w :: L) (.int x :: st) := by
  obtain ⟨d, rfl⟩ := d
  exact fun H locs ls hP hD hS hl => lv_istore C.1 C.2.1 d (jl_has hl) (jl_lt hl (i := 6) (by simp)) rfl (fun ls2 h2 => kk H locs ls2 hP hD hS (jl_set (i := 6) (x := x) hl h2))
theorem jr_inc6 (C : jC p s m args meth c A D nL cc own tys) {o0 o1 o2 o3 o4 o5 : Option Value} {x : Nat} (d : decode cc pc = .ok (.iinc 6 1, 3) ∧ pc + 3 = n) (kk : JJ p l e R s m args below meth c ce sl Q A D nL wd n (o0 :: o1 :: o2 :: o3 :: o4 :: o5 :: some (.int (nI (x + 1))) :: L) st) : JJ p l e R s m args below meth c ce sl Q A D nL wd pc (o0 :: o1 :: o2 :: o3 :: o4 :: o5 :: some (.int (nI x)) :: L) st := by
  obtain ⟨d, rfl⟩ := d
  exact fun H locs ls hP hD hS hl => jl_iinc C.1 C.2.1 d hl rfl (show nI x + Int32.ofInt 1 = nI (x + 1) from nI_1 x) (fun ls2 h2 => kk H locs ls2 hP hD hS h2)
theorem jr_il7 (C : jC p s m args meth c A D nL cc own tys) {o0 o1 o2 o3 o4 o5 o6 : Option Value} {x : Int32} (d : decode cc pc = .ok (.iload 7, 2) ∧ pc + 2 = n) (kk : JJ p l e R s m args below meth c ce sl Q A D nL wd n (o0 :: o1 :: o2 :: o3 :: o4 :: o5 :: o6 :: some (.int x) :: L) (.int x :: st)) : JJ p l e R s m args below meth c ce sl Q A D nL wd pc (o0 :: o1 :: o2 :: o3 :: o4 :: o5 :: o6 :: some (.int x) :: L) st := by
  obtain ⟨d, rfl⟩ := d
  exact fun H locs ls hP hD hS hl => lv_iload C.1 C.2.1 d (hl.2.2.2 7 _ rfl).1 (kk H locs ls hP hD hS hl)
theorem jr_is7 (C : jC p s m args meth c A D nL cc own tys) {o0 o1 o2 o3 o4 o5 o6 : Option Value} {w : Option Value} {x : Int32} (d : decode cc pc = .ok (.istore 7, 2) ∧ pc + 2 = n) (kk : JJ p l e R s m args below meth c ce sl Q A D nL wd n (o0 :: o1 :: o2 :: o3 :: o4 :: o5 :: o6 :: some (.int x) :: L) st) : JJ p l e R s m args below meth c ce sl Q A D nL wd pc (o0 :: o1 :: o2 :: o3 :: o4 :: o5 :: o6 :: w :: L) (.int x :: st) := by
  obtain ⟨d, rfl⟩ := d
  exact fun H locs ls hP hD hS hl => lv_istore C.1 C.2.1 d (jl_has hl) (jl_lt hl (i := 7) (by simp)) rfl (fun ls2 h2 => kk H locs ls2 hP hD hS (jl_set (i := 7) (x := x) hl h2))
theorem jr_inc7 (C : jC p s m args meth c A D nL cc own tys) {o0 o1 o2 o3 o4 o5 o6 : Option Value} {x : Nat} (d : decode cc pc = .ok (.iinc 7 1, 3) ∧ pc + 3 = n) (kk : JJ p l e R s m args below meth c ce sl Q A D nL wd n (o0 :: o1 :: o2 :: o3 :: o4 :: o5 :: o6 :: some (.int (nI (x + 1))) :: L) st) : JJ p l e R s m args below meth c ce sl Q A D nL wd pc (o0 :: o1 :: o2 :: o3 :: o4 :: o5 :: o6 :: some (.int (nI x)) :: L) st := by
  obtain ⟨d, rfl⟩ := d
  exact fun H locs ls hP hD hS hl => jl_iinc C.1 C.2.1 d hl rfl (show nI x + Int32.ofInt 1 = nI (x + 1) from nI_1 x) (fun ls2 h2 => kk H locs ls2 hP hD hS h2)
theorem jr_il8 (C : jC p s m args meth c A D nL cc own tys) {o0 o1 o2 o3 o4 o5 o6 o7 : Option Value} {x : Int32} (d : decode cc pc = .ok (.iload 8, 2) ∧ pc + 2 = n) (kk : JJ p l e R s m args below meth c ce sl Q A D nL wd n (o0 :: o1 :: o2 :: o3 :: o4 :: o5 :: o6 :: o7 :: some (.int x) :: L) (.int x :: st)) : JJ p l e R s m args below meth c ce sl Q A D nL wd pc (o0 :: o1 :: o2 :: o3 :: o4 :: o5 :: o6 :: o7 :: some (.int x) :: L) st := by
  obtain ⟨d, rfl⟩ := d
  exact fun H locs ls hP hD hS hl => lv_iload C.1 C.2.1 d (hl.2.2.2 8 _ rfl).1 (kk H locs ls hP hD hS hl)
theorem jr_is8 (C : jC p s m args meth c A D nL cc own tys) {o0 o1 o2 o3 o4 o5 o6 o7 : Option Value} {w : Option Value} {x : Int32} (d : decode cc pc = .ok (.istore 8, 2) ∧ pc + 2 = n) (kk : JJ p l e R s m args below meth c ce sl Q A D nL wd n (o0 :: o1 :: o2 :: o3 :: o4 :: o5 :: o6 :: o7 :: some (.int x) :: L) st) : JJ p l e R s m args below meth c ce sl Q A D nL wd pc (o0 :: o1 :: o2 :: o3 :: o4 :: o5 :: o6 :: o7 :: w :: L) (.int x :: st) := by
  obtain ⟨d, rfl⟩ := d
  exact fun H locs ls hP hD hS hl => lv_istore C.1 C.2.1 d (jl_has hl) (jl_lt hl (i := 8) (by simp)) rfl (fun ls2 h2 => kk H locs ls2 hP hD hS (jl_set (i := 8) (x := x) hl h2))
theorem jr_inc8 (C : jC p s m args meth c A D nL cc own tys) {o0 o1 o2 o3 o4 o5 o6 o7 : Option Value} {x : Nat} (d : decode cc pc = .ok (.iinc 8 1, 3) ∧ pc + 3 = n) (kk : JJ p l e R s m args below meth c ce sl Q A D nL wd n (o0 :: o1 :: o2 :: o3 :: o4 :: o5 :: o6 :: o7 :: some (.int (nI (x + 1))) :: L) st) : JJ p l e R s m args below meth c ce sl Q A D nL wd pc (o0 :: o1 :: o2 :: o3 :: o4 :: o5 :: o6 :: o7 :: some (.int (nI x)) :: L) st := by
  obtain ⟨d, rfl⟩ := d
  exact fun H locs ls hP hD hS hl => jl_iinc C.1 C.2.1 d hl rfl (show nI x + Int32.ofInt 1 = nI (x + 1) from nI_1 x) (fun ls2 h2 => kk H locs ls2 hP hD hS h2)
theorem jr_il9 (C : jC p s m args meth c A D nL cc own tys) {o0 o1 o2 o3 o4 o5 o6 o7 o8 : Option Value} {x : Int32} (d : decode cc pc = .ok (.iload 9, 2) ∧ pc + 2 = n) (kk : JJ p l e R s m args below meth c ce sl Q A D nL wd n (o0 :: o1 :: o2 :: o3 :: o4 :: o5 :: o6 :: o7 :: o8 :: some (.int x) :: L) (.int x :: st)) : JJ p l e R s m args below meth c ce sl Q A D nL wd pc (o0 :: o1 :: o2 :: o3 :: o4 :: o5 :: o6 :: o7 :: o8 :: some (.int x) :: L) st := by
  obtain ⟨d, rfl⟩ := d
  exact fun H locs ls hP hD hS hl => lv_iload C.1 C.2.1 d (hl.2.2.2 9 _ rfl).1 (kk H locs ls hP hD hS hl)
theorem jr_is9 (C : jC p s m args meth c A D nL cc own tys) {o0 o1 o2 o3 o4 o5 o6 o7 o8 : Option Value} {w : Option Value} {x : Int32} (d : decode cc pc = .ok (.istore 9, 2) ∧ pc + 2 = n) (kk : JJ p l e R s m args below meth c ce sl Q A D nL wd n (o0 :: o1 :: o2 :: o3 :: o4 :: o5 :: o6 :: o7 :: o8 :: some (.int x) :: L) st) : JJ p l e R s m args below meth c ce sl Q A D nL wd pc (o0 :: o1 :: o2 :: o3 :: o4 :: o5 :: o6 :: o7 :: o8 :: w :: L) (.int x :: st) := by
  obtain ⟨d, rfl⟩ := d
  exact fun H locs ls hP hD hS hl => lv_istore C.1 C.2.1 d (jl_has hl) (jl_lt hl (i := 9) (by simp)) rfl (fun ls2 h2 => kk H locs ls2 hP hD hS (jl_set (i := 9) (x := x) hl h2))
theorem jr_inc9 (C : jC p s m args meth c A D nL cc own tys) {o0 o1 o2 o3 o4 o5 o6 o7 o8 : Option Value} {x : Nat} (d : decode cc pc = .ok (.iinc 9 1, 3) ∧ pc + 3 = n) (kk : JJ p l e R s m args below meth c ce sl Q A D nL wd n (o0 :: o1 :: o2 :: o3 :: o4 :: o5 :: o6 :: o7 :: o8 :: some (.int (nI (x + 1))) :: L) st) : JJ p l e R s m args below meth c ce sl Q A D nL wd pc (o0 :: o1 :: o2 :: o3 :: o4 :: o5 :: o6 :: o7 :: o8 :: some (.int (nI x)) :: L) st := by
  obtain ⟨d, rfl⟩ := d
  exact fun H locs ls hP hD hS hl => jl_iinc C.1 C.2.1 d hl rfl (show nI x + Int32.ofInt 1 = nI (x + 1) from nI_1 x) (fun ls2 h2 => kk H locs ls2 hP hD hS h2)
theorem jr_il10 (C : jC p s m args meth c A D nL cc own tys) {o0 o1 o2 o3 o4 o5 o6 o7 o8 o9 : Option Value} {x : Int32} (d : decode cc pc = .ok (.iload 10, 2) ∧ pc + 2 = n) (kk : JJ p l e R s m args below meth c ce sl Q A D nL wd n (o0 :: o1 :: o2 :: o3 :: o4 :: o5 :: o6 :: o7 :: o8 :: o9 :: some (.int x) :: L) (.int x :: st)) : JJ p l e R s m args below meth c ce sl Q A D nL wd pc (o0 :: o1 :: o2 :: o3 :: o4 :: o5 :: o6 :: o7 :: o8 :: o9 :: some (.int x) :: L) st := by
  obtain ⟨d, rfl⟩ := d
  exact fun H locs ls hP hD hS hl => lv_iload C.1 C.2.1 d (hl.2.2.2 10 _ rfl).1 (kk H locs ls hP hD hS hl)
theorem jr_is10 (C : jC p s m args meth c A D nL cc own tys) {o0 o1 o2 o3 o4 o5 o6 o7 o8 o9 : Option Value} {w : Option Value} {x : Int32} (d : decode cc pc = .ok (.istore 10, 2) ∧ pc + 2 = n) (kk : JJ p l e R s m args below meth c ce sl Q A D nL wd n (o0 :: o1 :: o2 :: o3 :: o4 :: o5 :: o6 :: o7 :: o8 :: o9 :: some (.int x) :: L) st) : JJ p l e R s m args below meth c ce sl Q A D nL wd pc (o0 :: o1 :: o2 :: o3 :: o4 :: o5 :: o6 :: o7 :: o8 :: o9 :: w :: L) (.int x :: st) := by
  obtain ⟨d, rfl⟩ := d
  exact fun H locs ls hP hD hS hl => lv_istore C.1 C.2.1 d (jl_has hl) (jl_lt hl (i := 10) (by simp)) rfl (fun ls2 h2 => kk H locs ls2 hP hD hS (jl_set (i := 10) (x := x) hl h2))
theorem jr_inc10 (C : jC p s m args meth c A D nL cc own tys) {o0 o1 o2 o3 o4 o5 o6 o7 o8 o9 : Option Value} {x : Nat} (d : decode cc pc = .ok (.iinc 10 1, 3) ∧ pc + 3 = n) (kk : JJ p l e R s m args below meth c ce sl Q A D nL wd n (o0 :: o1 :: o2 :: o3 :: o4 :: o5 :: o6 :: o7 :: o8 :: o9 :: some (.int (nI (x + 1))) :: L) st) : JJ p l e R s m args below meth c ce sl Q A D nL wd pc (o0 :: o1 :: o2 :: o3 :: o4 :: o5 :: o6 :: o7 :: o8 :: o9 :: some (.int (nI x)) :: L) st := by
  obtain ⟨d, rfl⟩ := d
  exact fun H locs ls hP hD hS hl => jl_iinc C.1 C.2.1 d hl rfl (show nI x + Int32.ofInt 1 = nI (x + 1) from nI_1 x) (fun ls2 h2 => kk H locs ls2 hP hD hS h2)
theorem jr_il11 (C : jC p s m args meth c A D nL cc own tys) {o0 o1 o2 o3 o4 o5 o6 o7 o8 o9 o10 : Option Value} {x : Int32} (d : decode cc pc = .ok (.iload 11, 2) ∧ pc + 2 = n) (kk : JJ p l e R s m args below meth c ce sl Q A D nL wd n (o0 :: o1 :: o2 :: o3 :: o4 :: o5 :: o6 :: o7 :: o8 :: o9 :: o10 :: some (.int x) :: L) (.int x :: st)) : JJ p l e R s m args below meth c ce sl Q A D nL wd pc (o0 :: o1 :: o2 :: o3 :: o4 :: o5 :: o6 :: o7 :: o8 :: o9 :: o10 :: some (.int x) :: L) st := by
  obtain ⟨d, rfl⟩ := d
  exact fun H locs ls hP hD hS hl => lv_iload C.1 C.2.1 d (hl.2.2.2 11 _ rfl).1 (kk H locs ls hP hD hS hl)
theorem jr_is11 (C : jC p s m args meth c A D nL cc own tys) {o0 o1 o2 o3 o4 o5 o6 o7 o8 o9 o10 : Option Value} {w : Option Value} {x : Int32} (d : decode cc pc = .ok (.istore 11, 2) ∧ pc + 2 = n) (kk : JJ p l e R s m args below meth c ce sl Q A D nL wd n (o0 :: o1 :: o2 :: o3 :: o4 :: o5 :: o6 :: o7 :: o8 :: o9 :: o10 :: some (.int x) :: L) st) : JJ p l e R s m args below meth c ce sl Q A D nL wd pc (o0 :: o1 :: o2 :: o3 :: o4 :: o5 :: o6 :: o7 :: o8 :: o9 :: o10 :: w :: L) (.int x :: st) := by
  obtain ⟨d, rfl⟩ := d
  exact fun H locs ls hP hD hS hl => lv_istore C.1 C.2.1 d (jl_has hl) (jl_lt hl (i := 11) (by simp)) rfl (fun ls2 h2 => kk H locs ls2 hP hD hS (jl_set (i := 11) (x := x) hl h2))
theorem jr_inc11 (C : jC p s m args meth c A D nL cc own tys) {o0 o1 o2 o3 o4 o5 o6 o7 o8 o9 o10 : Option Value} {x : Nat} (d : decode cc pc = .ok (.iinc 11 1, 3) ∧ pc + 3 = n) (kk : JJ p l e R s m args below meth c ce sl Q A D nL wd n (o0 :: o1 :: o2 :: o3 :: o4 :: o5 :: o6 :: o7 :: o8 :: o9 :: o10 :: some (.int (nI (x + 1))) :: L) st) : JJ p l e R s m args below meth c ce sl Q A D nL wd pc (o0 :: o1 :: o2 :: o3 :: o4 :: o5 :: o6 :: o7 :: o8 :: o9 :: o10 :: some (.int (nI x)) :: L) st := by
  obtain ⟨d, rfl⟩ := d
  exact fun H locs ls hP hD hS hl => jl_iinc C.1 C.2.1 d hl rfl (show nI x + Int32.ofInt 1 = nI (x + 1) from nI_1 x) (fun ls2 h2 => kk H locs ls2 hP hD hS h2)
theorem jr_il12 (C : jC p s m args meth c A D nL cc own tys) {o0 o1 o2 o3 o4 o5 o6 o7 o8 o9 o10 o11 : Option Value} {x : Int32} (d : decode cc pc = .ok (.iload 12, 2) ∧ pc + 2 = n) (kk : JJ p l e R s m args below meth c ce sl Q A D nL wd n (o0 :: o1 :: o2 :: o3 :: o4 :: o5 :: o6 :: o7 :: o8 :: o9 :: o10 :: o11 :: some (.int x) :: L) (.int x :: st)) : JJ p l e R s m args below meth c ce sl Q A D nL wd pc (o0 :: o1 :: o2 :: o3 :: o4 :: o5 :: o6 :: o7 :: o8 :: o9 :: o10 :: o11 :: some (.int x) :: L) st := by
  obtain ⟨d, rfl⟩ := d
  exact fun H locs ls hP hD hS hl => lv_iload C.1 C.2.1 d (hl.2.2.2 12 _ rfl).1 (kk H locs ls hP hD hS hl)
theorem jr_is12 (C : jC p s m args meth c A D nL cc own tys) {o0 o1 o2 o3 o4 o5 o6 o7 o8 o9 o10 o11 : Option Value} {w : Option Value} {x : Int32} (d : decode cc pc = .ok (.istore 12, 2) ∧ pc + 2 = n) (kk : JJ p l e R s m args below meth c ce sl Q A D nL wd n (o0 :: o1 :: o2 :: o3 :: o4 :: o5 :: o6 :: o7 :: o8 :: o9 :: o10 :: o11 :: some (.int x) :: L) st) : JJ p l e R s m args below meth c ce sl Q A D nL wd pc (o0 :: o1 :: o2 :: o3 :: o4 :: o5 :: o6 :: o7 :: o8 :: o9 :: o10 :: o11 :: w :: L) (.int x :: st) := by
  obtain ⟨d, rfl⟩ := d
  exact fun H locs ls hP hD hS hl => lv_istore C.1 C.2.1 d (jl_has hl) (jl_lt hl (i := 12) (by simp)) rfl (fun ls2 h2 => kk H locs ls2 hP hD hS (jl_set (i := 12) (x := x) hl h2))
theorem jr_inc12 (C : jC p s m args meth c A D nL cc own tys) {o0 o1 o2 o3 o4 o5 o6 o7 o8 o9 o10 o11 : Option Value} {x : Nat} (d : decode cc pc = .ok (.iinc 12 1, 3) ∧ pc + 3 = n) (kk : JJ p l e R s m args below meth c ce sl Q A D nL wd n (o0 :: o1 :: o2 :: o3 :: o4 :: o5 :: o6 :: o7 :: o8 :: o9 :: o10 :: o11 :: some (.int (nI (x + 1))) :: L) st) : JJ p l e R s m args below meth c ce sl Q A D nL wd pc (o0 :: o1 :: o2 :: o3 :: o4 :: o5 :: o6 :: o7 :: o8 :: o9 :: o10 :: o11 :: some (.int (nI x)) :: L) st := by
  obtain ⟨d, rfl⟩ := d
  exact fun H locs ls hP hD hS hl => jl_iinc C.1 C.2.1 d hl rfl (show nI x + Int32.ofInt 1 = nI (x + 1) from nI_1 x) (fun ls2 h2 => kk H locs ls2 hP hD hS h2)
theorem jr_ic0 (C : jC p s m args meth c A D nL cc own tys) (d : decode cc pc = .ok (.iconst 0, 1) ∧ pc + 1 = n) (kk : JJ p l e R s m args below meth c ce sl Q A D nL wd n L (.int (nI 0) :: st)) : JJ p l e R s m args below meth c ce sl Q A D nL wd pc L st := by
  obtain ⟨d, rfl⟩ := d
  exact fun H locs ls hP hD hS hl => lv_iconst (v := nI 0) C.1 C.2.1 d (by decide) (kk H locs ls hP hD hS hl)
theorem jr_ic1 (C : jC p s m args meth c A D nL cc own tys) (d : decode cc pc = .ok (.iconst 1, 1) ∧ pc + 1 = n) (kk : JJ p l e R s m args below meth c ce sl Q A D nL wd n L (.int (nI 1) :: st)) : JJ p l e R s m args below meth c ce sl Q A D nL wd pc L st := by
  obtain ⟨d, rfl⟩ := d
  exact fun H locs ls hP hD hS hl => lv_iconst (v := nI 1) C.1 C.2.1 d (by decide) (kk H locs ls hP hD hS hl)
theorem jr_ic2 (C : jC p s m args meth c A D nL cc own tys) (d : decode cc pc = .ok (.iconst 2, 1) ∧ pc + 1 = n) (kk : JJ p l e R s m args below meth c ce sl Q A D nL wd n L (.int (nI 2) :: st)) : JJ p l e R s m args below meth c ce sl Q A D nL wd pc L st := by
  obtain ⟨d, rfl⟩ := d
  exact fun H locs ls hP hD hS hl => lv_iconst (v := nI 2) C.1 C.2.1 d (by decide) (kk H locs ls hP hD hS hl)
theorem jr_ic3 (C : jC p s m args meth c A D nL cc own tys) (d : decode cc pc = .ok (.iconst 3, 1) ∧ pc + 1 = n) (kk : JJ p l e R s m args below meth c ce sl Q A D nL wd n L (.int (nI 3) :: st)) : JJ p l e R s m args below meth c ce sl Q A D nL wd pc L st := by
  obtain ⟨d, rfl⟩ := d
  exact fun H locs ls hP hD hS hl => lv_iconst (v := nI 3) C.1 C.2.1 d (by decide) (kk H locs ls hP hD hS hl)
theorem jr_ic4 (C : jC p s m args meth c A D nL cc own tys) (d : decode cc pc = .ok (.iconst 4, 1) ∧ pc + 1 = n) (kk : JJ p l e R s m args below meth c ce sl Q A D nL wd n L (.int (nI 4) :: st)) : JJ p l e R s m args below meth c ce sl Q A D nL wd pc L st := by
  obtain ⟨d, rfl⟩ := d
  exact fun H locs ls hP hD hS hl => lv_iconst (v := nI 4) C.1 C.2.1 d (by decide) (kk H locs ls hP hD hS hl)
theorem jr_ic5 (C : jC p s m args meth c A D nL cc own tys) (d : decode cc pc = .ok (.iconst 5, 1) ∧ pc + 1 = n) (kk : JJ p l e R s m args below meth c ce sl Q A D nL wd n L (.int (nI 5) :: st)) : JJ p l e R s m args below meth c ce sl Q A D nL wd pc L st := by
  obtain ⟨d, rfl⟩ := d
  exact fun H locs ls hP hD hS hl => lv_iconst (v := nI 5) C.1 C.2.1 d (by decide) (kk H locs ls hP hD hS hl)
theorem jr_icm1 (C : jC p s m args meth c A D nL cc own tys) (d : decode cc pc = .ok (.iconst (-1), 1) ∧ pc + 1 = n) (kk : JJ p l e R s m args below meth c ce sl Q A D nL wd n L (.int (-1) :: st)) : JJ p l e R s m args below meth c ce sl Q A D nL wd pc L st := by
  obtain ⟨d, rfl⟩ := d
  exact fun H locs ls hP hD hS hl => lv_iconst (v := -1) C.1 C.2.1 d (by decide) (kk H locs ls hP hD hS hl)
theorem jr_bipush (C : jC p s m args meth c A D nL cc own tys) {z : Int} {v : Int32} (d : decode cc pc = .ok (.bipush z, 2) ∧ pc + 2 = n) (hv : (Int8.ofInt z).toInt32 = v) (kk : JJ p l e R s m args below meth c ce sl Q A D nL wd n L (.int v :: st)) : JJ p l e R s m args below meth c ce sl Q A D nL wd pc L st := by
  obtain ⟨d, rfl⟩ := d
  exact fun H locs ls hP hD hS hl => lv_bipush C.1 C.2.1 d hv (kk H locs ls hP hD hS hl)
theorem jr_sipush (C : jC p s m args meth c A D nL cc own tys) {z : Int} {v : Int32} (d : decode cc pc = .ok (.sipush z, 3) ∧ pc + 3 = n) (hv : (Int16.ofInt z).toInt32 = v) (kk : JJ p l e R s m args below meth c ce sl Q A D nL wd n L (.int v :: st)) : JJ p l e R s m args below meth c ce sl Q A D nL wd pc L st := by
  obtain ⟨d, rfl⟩ := d
  exact fun H locs ls hP hD hS hl => lv_sipush C.1 C.2.1 d hv (kk H locs ls hP hD hS hl)
theorem jr_goto (C : jC p s m args meth c A D nL cc own tys) {off : Int} {tgt : Nat} (d : decode cc pc = .ok (.goto off, 3) ∧ pc + 3 = n ∧ ((pc : Nat) : Int) + off = ((tgt : Nat) : Int)) (kk : JJ p l e R s m args below meth c ce sl Q A D nL wd tgt L st) : JJ p l e R s m args below meth c ce sl Q A D nL wd pc L st := by
  obtain ⟨d, rfl, ht⟩ := d
  exact fun H locs ls hP hD hS hl => lv_goto C.1 C.2.1 d ht (kk H locs ls hP hD hS hl)
theorem jr_iadd (C : jC p s m args meth c A D nL cc own tys) {a b : Nat} (d : decode cc pc = .ok (.iadd, 1) ∧ pc + 1 = n) (kk : JJ p l e R s m args below meth c ce sl Q A D nL wd n L (.int (nI (a + b)) :: st)) : JJ p l e R s m args below meth c ce sl Q A D nL wd pc L (.int (nI b) :: .int (nI a) :: st) := by
  obtain ⟨d, rfl⟩ := d
  exact fun H locs ls hP hD hS hl => lv_iadd C.1 C.2.1 d (by rw [nI_add]; exact kk H locs ls hP hD hS hl)
theorem jr_imul (C : jC p s m args meth c A D nL cc own tys) {a b : Nat} (d : decode cc pc = .ok (.imul, 1) ∧ pc + 1 = n) (kk : JJ p l e R s m args below meth c ce sl Q A D nL wd n L (.int (nI (a * b)) :: st)) : JJ p l e R s m args below meth c ce sl Q A D nL wd pc L (.int (nI b) :: .int (nI a) :: st) := by
  obtain ⟨d, rfl⟩ := d
  exact fun H locs ls hP hD hS hl => lv_imul C.1 C.2.1 d (by rw [pk_mul]; exact kk H locs ls hP hD hS hl)
theorem jr_isub (C : jC p s m args meth c A D nL cc own tys) {a b : Nat} (d : decode cc pc = .ok (.isub, 1) ∧ pc + 1 = n) (h : b ≤ a) (kk : JJ p l e R s m args below meth c ce sl Q A D nL wd n L (.int (nI (a - b)) :: st)) : JJ p l e R s m args below meth c ce sl Q A D nL wd pc L (.int (nI b) :: .int (nI a) :: st) := by
  obtain ⟨d, rfl⟩ := d
  exact fun H locs ls hP hD hS hl => lv_isub C.1 C.2.1 d (by rw [pk_sub h]; exact kk H locs ls hP hD hS hl)
theorem jr_i2s (C : jC p s m args meth c A D nL cc own tys) {a : Nat} (d : decode cc pc = .ok (.i2s, 1) ∧ pc + 1 = n) (h : a < 32768) (kk : JJ p l e R s m args below meth c ce sl Q A D nL wd n L (.int (nI a) :: st)) : JJ p l e R s m args below meth c ce sl Q A D nL wd pc L (.int (nI a) :: st) := by
  obtain ⟨d, rfl⟩ := d
  exact fun H locs ls hP hD hS hl => lv_i2s (v := nI a) C.1 C.2.1 d (ju_i2s a h) (kk H locs ls hP hD hS hl)
theorem jr_i2b (C : jC p s m args meth c A D nL cc own tys) {a : Nat} (d : decode cc pc = .ok (.i2b, 1) ∧ pc + 1 = n) (h : a < 128) (kk : JJ p l e R s m args below meth c ce sl Q A D nL wd n L (.int (nI a) :: st)) : JJ p l e R s m args below meth c ce sl Q A D nL wd pc L (.int (nI a) :: st) := by
  obtain ⟨d, rfl⟩ := d
  exact fun H locs ls hP hD hS hl => lv_i2b (v := nI a) C.1 C.2.1 d (ju_i2b a h) (kk H locs ls hP hD hS hl)
theorem jr_dup (C : jC p s m args meth c A D nL cc own tys) {v : Value} (d : decode cc pc = .ok (.dup, 1) ∧ pc + 1 = n) (h : v.category = 1) (kk : JJ p l e R s m args below meth c ce sl Q A D nL wd n L (v :: v :: st)) : JJ p l e R s m args below meth c ce sl Q A D nL wd pc L (v :: st) := by
  obtain ⟨d, rfl⟩ := d
  exact fun H locs ls hP hD hS hl => lv_dup C.1 C.2.1 d h (kk H locs ls hP hD hS hl)
theorem jr_dup2 (C : jC p s m args meth c A D nL cc own tys) {v w : Value} (d : decode cc pc = .ok (.dup2, 1) ∧ pc + 1 = n) (h : v.category = 1) (h2 : w.category = 1) (kk : JJ p l e R s m args below meth c ce sl Q A D nL wd n L (v :: w :: v :: w :: st)) : JJ p l e R s m args below meth c ce sl Q A D nL wd pc L (v :: w :: st) := by
  obtain ⟨d, rfl⟩ := d
  exact fun H locs ls hP hD hS hl => lv_dup2_11 C.1 C.2.1 d h h2 (kk H locs ls hP hD hS hl)
theorem jr_pop (C : jC p s m args meth c A D nL cc own tys) {v : Value} (d : decode cc pc = .ok (.pop, 1) ∧ pc + 1 = n) (h : v.category = 1) (kk : JJ p l e R s m args below meth c ce sl Q A D nL wd n L st) : JJ p l e R s m args below meth c ce sl Q A D nL wd pc L (v :: st) := by
  obtain ⟨d, rfl⟩ := d
  exact fun H locs ls hP hD hS hl => lv_pop C.1 C.2.1 d h (kk H locs ls hP hD hS hl)
theorem jr_ldc (C : jC p s m args meth c A D nL cc own tys) {v : Int32} {idx : Nat} (hw : Cond.constant own idx v ∈ lw_all) (d : decode cc pc = .ok (.ldc idx, 2) ∧ pc + 2 = n) (kk : JJ p l e R s m args below meth c ce sl Q A D nL wd n L (.int v :: st)) : JJ p l e R s m args below meth c ce sl Q A D nL wd pc L st := by
  obtain ⟨d, rfl⟩ := d
  exact fun H locs ls hP hD hS hl => lv_ldc C.1 C.2.1 C.2.2.2.1 (C.2.2.2.2.1 _ hw) d (kk H locs ls hP hD hS hl)
theorem jr_cmp_eq (C : jC p s m args meth c A D nL cc own tys) {x y : Int32} {off : Int} {tgt : Nat} (d : decode cc pc = .ok (.if_icmp .eq off, 3) ∧ pc + 3 = n ∧ ((pc : Nat) : Int) + off = ((tgt : Nat) : Int)) (kt : x = y → JJ p l e R s m args below meth c ce sl Q A D nL wd tgt L st) (kf : ¬ x = y → JJ p l e R s m args below meth c ce sl Q A D nL wd n L st) : JJ p l e R s m args below meth c ce sl Q A D nL wd pc L (.int y :: .int x :: st) := by
  obtain ⟨d, rfl, ht⟩ := d
  exact fun H locs ls hP hD hS hl => lv_icmp_eq C.1 C.2.1 d ht (fun h => kt h H locs ls hP hD hS hl) (fun h => kf h H locs ls hP hD hS hl)
theorem jr_cmpN_eq (C : jC p s m args meth c A D nL cc own tys) {a b : Nat} {off : Int} {tgt : Nat} (d : decode cc pc = .ok (.if_icmp .eq off, 3) ∧ pc + 3 = n ∧ ((pc : Nat) : Int) + off = ((tgt : Nat) : Int)) (ha : a < 2 ^ 31) (hb : b < 2 ^ 31) (kt : a = b → JJ p l e R s m args below meth c ce sl Q A D nL wd tgt L st) (kf : ¬ a = b → JJ p l e R s m args below meth c ce sl Q A D nL wd n L st) : JJ p l e R s m args below meth c ce sl Q A D nL wd pc L (.int (nI b) :: .int (nI a) :: st) :=
  jr_cmp_eq C d (fun h => kt ((nI_eq ha hb).1 h)) (fun h => kf (fun q => h ((nI_eq ha hb).2 q)))
theorem jr_if_eq (C : jC p s m args meth c A D nL cc own tys) {x : Int32} {off : Int} {tgt : Nat} (d : decode cc pc = .ok (.ifCond .eq off, 3) ∧ pc + 3 = n ∧ ((pc : Nat) : Int) + off = ((tgt : Nat) : Int)) (kt : x = 0 → JJ p l e R s m args below meth c ce sl Q A D nL wd tgt L st) (kf : ¬ x = 0 → JJ p l e R s m args below meth c ce sl Q A D nL wd n L st) : JJ p l e R s m args below meth c ce sl Q A D nL wd pc L (.int x :: st) := by
  obtain ⟨d, rfl, ht⟩ := d
  exact fun H locs ls hP hD hS hl => lv_if_eq C.1 C.2.1 d ht (fun h => kt h H locs ls hP hD hS hl) (fun h => kf h H locs ls hP hD hS hl)
theorem jr_ifN_eq (C : jC p s m args meth c A D nL cc own tys) {a : Nat} {off : Int} {tgt : Nat} (d : decode cc pc = .ok (.ifCond .eq off, 3) ∧ pc + 3 = n ∧ ((pc : Nat) : Int) + off = ((tgt : Nat) : Int)) (ha : a < 2 ^ 31) (kt : a = 0 → JJ p l e R s m args below meth c ce sl Q A D nL wd tgt L st) (kf : ¬ a = 0 → JJ p l e R s m args below meth c ce sl Q A D nL wd n L st) : JJ p l e R s m args below meth c ce sl Q A D nL wd pc L (.int (nI a) :: st) :=
  jr_if_eq C d (fun h => kt ((nI_eq ha (show 0 < 2 ^ 31 by decide)).1 h)) (fun h => kf (fun q => h ((nI_eq ha (show 0 < 2 ^ 31 by decide)).2 q)))
theorem jr_cmp_ne (C : jC p s m args meth c A D nL cc own tys) {x y : Int32} {off : Int} {tgt : Nat} (d : decode cc pc = .ok (.if_icmp .ne off, 3) ∧ pc + 3 = n ∧ ((pc : Nat) : Int) + off = ((tgt : Nat) : Int)) (kt : ¬ x = y → JJ p l e R s m args below meth c ce sl Q A D nL wd tgt L st) (kf : x = y → JJ p l e R s m args below meth c ce sl Q A D nL wd n L st) : JJ p l e R s m args below meth c ce sl Q A D nL wd pc L (.int y :: .int x :: st) := by
  obtain ⟨d, rfl, ht⟩ := d
  exact fun H locs ls hP hD hS hl => lv_icmp_ne C.1 C.2.1 d ht (fun h => kt h H locs ls hP hD hS hl) (fun h => kf h H locs ls hP hD hS hl)
theorem jr_cmpN_ne (C : jC p s m args meth c A D nL cc own tys) {a b : Nat} {off : Int} {tgt : Nat} (d : decode cc pc = .ok (.if_icmp .ne off, 3) ∧ pc + 3 = n ∧ ((pc : Nat) : Int) + off = ((tgt : Nat) : Int)) (ha : a < 2 ^ 31) (hb : b < 2 ^ 31) (kt : ¬ a = b → JJ p l e R s m args below meth c ce sl Q A D nL wd tgt L st) (kf : a = b → JJ p l e R s m args below meth c ce sl Q A D nL wd n L st) : JJ p l e R s m args below meth c ce sl Q A D nL wd pc L (.int (nI b) :: .int (nI a) :: st) :=
  jr_cmp_ne C d (fun h => kt (fun q => h (congrArg nI q))) (fun h => kf ((nI_eq ha hb).1 h))
theorem jr_if_ne (C : jC p s m args meth c A D nL cc own tys) {x : Int32} {off : Int} {tgt : Nat} (d : decode cc pc = .ok (.ifCond .ne off, 3) ∧ pc + 3 = n ∧ ((pc : Nat) : Int) + off = ((tgt : Nat) : Int)) (kt : ¬ x = 0 → JJ p l e R s m args below meth c ce sl Q A D nL wd tgt L st) (kf : x = 0 → JJ p l e R s m args below meth c ce sl Q A D nL wd n L st) : JJ p l e R s m args below meth c ce sl Q A D nL wd pc L (.int x :: st) := by
  obtain ⟨d, rfl, ht⟩ := d
  exact fun H locs ls hP hD hS hl => lv_if_ne C.1 C.2.1 d ht (fun h => kt h H locs ls hP hD hS hl) (fun h => kf h H locs ls hP hD hS hl)
theorem jr_ifN_ne (C : jC p s m args meth c A D nL cc own tys) {a : Nat} {off : Int} {tgt : Nat} (d : decode cc pc = .ok (.ifCond .ne off, 3) ∧ pc + 3 = n ∧ ((pc : Nat) : Int) + off = ((tgt : Nat) : Int)) (ha : a < 2 ^ 31) (kt : ¬ a = 0 → JJ p l e R s m args below meth c ce sl Q A D nL wd tgt L st) (kf : a = 0 → JJ p l e R s m args below meth c ce sl Q A D nL wd n L st) : JJ p l e R s m args below meth c ce sl Q A D nL wd pc L (.int (nI a) :: st) :=
  jr_if_ne C d (fun h => kt (fun q => h (by rw [q]; rfl))) (fun h => kf ((nI_eq ha (show 0 < 2 ^ 31 by decide)).1 h))
theorem jr_cmp_lt (C : jC p s m args meth c A D nL cc own tys) {x y : Int32} {off : Int} {tgt : Nat} (d : decode cc pc = .ok (.if_icmp .lt off, 3) ∧ pc + 3 = n ∧ ((pc : Nat) : Int) + off = ((tgt : Nat) : Int)) (kt : x < y → JJ p l e R s m args below meth c ce sl Q A D nL wd tgt L st) (kf : ¬ x < y → JJ p l e R s m args below meth c ce sl Q A D nL wd n L st) : JJ p l e R s m args below meth c ce sl Q A D nL wd pc L (.int y :: .int x :: st) := by
  obtain ⟨d, rfl, ht⟩ := d
  exact fun H locs ls hP hD hS hl => lv_icmp_lt C.1 C.2.1 d ht (fun h => kt h H locs ls hP hD hS hl) (fun h => kf h H locs ls hP hD hS hl)
theorem jr_cmpN_lt (C : jC p s m args meth c A D nL cc own tys) {a b : Nat} {off : Int} {tgt : Nat} (d : decode cc pc = .ok (.if_icmp .lt off, 3) ∧ pc + 3 = n ∧ ((pc : Nat) : Int) + off = ((tgt : Nat) : Int)) (ha : a < 2 ^ 31) (hb : b < 2 ^ 31) (kt : a < b → JJ p l e R s m args below meth c ce sl Q A D nL wd tgt L st) (kf : ¬ a < b → JJ p l e R s m args below meth c ce sl Q A D nL wd n L st) : JJ p l e R s m args below meth c ce sl Q A D nL wd pc L (.int (nI b) :: .int (nI a) :: st) :=
  jr_cmp_lt C d (fun h => kt ((nI_ltI ha hb).1 h)) (fun h => kf (fun q => h ((nI_ltI ha hb).2 q)))
theorem jr_if_lt (C : jC p s m args meth c A D nL cc own tys) {x : Int32} {off : Int} {tgt : Nat} (d : decode cc pc = .ok (.ifCond .lt off, 3) ∧ pc + 3 = n ∧ ((pc : Nat) : Int) + off = ((tgt : Nat) : Int)) (kt : x < 0 → JJ p l e R s m args below meth c ce sl Q A D nL wd tgt L st) (kf : ¬ x < 0 → JJ p l e R s m args below meth c ce sl Q A D nL wd n L st) : JJ p l e R s m args below meth c ce sl Q A D nL wd pc L (.int x :: st) := by
  obtain ⟨d, rfl, ht⟩ := d
  exact fun H locs ls hP hD hS hl => lv_if_lt C.1 C.2.1 d ht (fun h => kt h H locs ls hP hD hS hl) (fun h => kf h H locs ls hP hD hS hl)
theorem jr_ifN_lt (C : jC p s m args meth c A D nL cc own tys) {a : Nat} {off : Int} {tgt : Nat} (d : decode cc pc = .ok (.ifCond .lt off, 3) ∧ pc + 3 = n ∧ ((pc : Nat) : Int) + off = ((tgt : Nat) : Int)) (ha : a < 2 ^ 31) (kt : a < 0 → JJ p l e R s m args below meth c ce sl Q A D nL wd tgt L st) (kf : ¬ a < 0 → JJ p l e R s m args below meth c ce sl Q A D nL wd n L st) : JJ p l e R s m args below meth c ce sl Q A D nL wd pc L (.int (nI a) :: st) :=
  jr_if_lt C d (fun h => kt ((nI_ltI ha (show 0 < 2 ^ 31 by decide)).1 h)) (fun h => kf (fun q => h ((nI_ltI ha (show 0 < 2 ^ 31 by decide)).2 q)))
theorem jr_cmp_ge (C : jC p s m args meth c A D nL cc own tys) {x y : Int32} {off : Int} {tgt : Nat} (d : decode cc pc = .ok (.if_icmp .ge off, 3) ∧ pc + 3 = n ∧ ((pc : Nat) : Int) + off = ((tgt : Nat) : Int)) (kt : y ≤ x → JJ p l e R s m args below meth c ce sl Q A D nL wd tgt L st) (kf : ¬ y ≤ x → JJ p l e R s m args below meth c ce sl Q A D nL wd n L st) : JJ p l e R s m args below meth c ce sl Q A D nL wd pc L (.int y :: .int x :: st) := by
  obtain ⟨d, rfl, ht⟩ := d
  exact fun H locs ls hP hD hS hl => lv_icmp_ge C.1 C.2.1 d ht (fun h => kt h H locs ls hP hD hS hl) (fun h => kf h H locs ls hP hD hS hl)
theorem jr_cmpN_ge (C : jC p s m args meth c A D nL cc own tys) {a b : Nat} {off : Int} {tgt : Nat} (d : decode cc pc = .ok (.if_icmp .ge off, 3) ∧ pc + 3 = n ∧ ((pc : Nat) : Int) + off = ((tgt : Nat) : Int)) (ha : a < 2 ^ 31) (hb : b < 2 ^ 31) (kt : b ≤ a → JJ p l e R s m args below meth c ce sl Q A D nL wd tgt L st) (kf : ¬ b ≤ a → JJ p l e R s m args below meth c ce sl Q A D nL wd n L st) : JJ p l e R s m args below meth c ce sl Q A D nL wd pc L (.int (nI b) :: .int (nI a) :: st) :=
  jr_cmp_ge C d (fun h => kt ((nI_leI hb ha).1 h)) (fun h => kf (fun q => h ((nI_leI hb ha).2 q)))
theorem jr_if_ge (C : jC p s m args meth c A D nL cc own tys) {x : Int32} {off : Int} {tgt : Nat} (d : decode cc pc = .ok (.ifCond .ge off, 3) ∧ pc + 3 = n ∧ ((pc : Nat) : Int) + off = ((tgt : Nat) : Int)) (kt : 0 ≤ x → JJ p l e R s m args below meth c ce sl Q A D nL wd tgt L st) (kf : ¬ 0 ≤ x → JJ p l e R s m args below meth c ce sl Q A D nL wd n L st) : JJ p l e R s m args below meth c ce sl Q A D nL wd pc L (.int x :: st) := by
  obtain ⟨d, rfl, ht⟩ := d
  exact fun H locs ls hP hD hS hl => lv_if_ge C.1 C.2.1 d ht (fun h => kt h H locs ls hP hD hS hl) (fun h => kf h H locs ls hP hD hS hl)
theorem jr_ifN_ge (C : jC p s m args meth c A D nL cc own tys) {a : Nat} {off : Int} {tgt : Nat} (d : decode cc pc = .ok (.ifCond .ge off, 3) ∧ pc + 3 = n ∧ ((pc : Nat) : Int) + off = ((tgt : Nat) : Int)) (ha : a < 2 ^ 31) (kt : 0 ≤ a → JJ p l e R s m args below meth c ce sl Q A D nL wd tgt L st) (kf : ¬ 0 ≤ a → JJ p l e R s m args below meth c ce sl Q A D nL wd n L st) : JJ p l e R s m args below meth c ce sl Q A D nL wd pc L (.int (nI a) :: st) :=
  jr_if_ge C d (fun h => kt ((nI_leI (show 0 < 2 ^ 31 by decide) ha).1 h)) (fun h => kf (fun q => h ((nI_leI (show 0 < 2 ^ 31 by decide) ha).2 q)))
theorem jr_cmp_gt (C : jC p s m args meth c A D nL cc own tys) {x y : Int32} {off : Int} {tgt : Nat} (d : decode cc pc = .ok (.if_icmp .gt off, 3) ∧ pc + 3 = n ∧ ((pc : Nat) : Int) + off = ((tgt : Nat) : Int)) (kt : y < x → JJ p l e R s m args below meth c ce sl Q A D nL wd tgt L st) (kf : ¬ y < x → JJ p l e R s m args below meth c ce sl Q A D nL wd n L st) : JJ p l e R s m args below meth c ce sl Q A D nL wd pc L (.int y :: .int x :: st) := by
  obtain ⟨d, rfl, ht⟩ := d
  exact fun H locs ls hP hD hS hl => lv_icmp_gt C.1 C.2.1 d ht (fun h => kt h H locs ls hP hD hS hl) (fun h => kf h H locs ls hP hD hS hl)
theorem jr_cmpN_gt (C : jC p s m args meth c A D nL cc own tys) {a b : Nat} {off : Int} {tgt : Nat} (d : decode cc pc = .ok (.if_icmp .gt off, 3) ∧ pc + 3 = n ∧ ((pc : Nat) : Int) + off = ((tgt : Nat) : Int)) (ha : a < 2 ^ 31) (hb : b < 2 ^ 31) (kt : b < a → JJ p l e R s m args below meth c ce sl Q A D nL wd tgt L st) (kf : ¬ b < a → JJ p l e R s m args below meth c ce sl Q A D nL wd n L st) : JJ p l e R s m args below meth c ce sl Q A D nL wd pc L (.int (nI b) :: .int (nI a) :: st) :=
  jr_cmp_gt C d (fun h => kt ((nI_ltI hb ha).1 h)) (fun h => kf (fun q => h ((nI_ltI hb ha).2 q)))
theorem jr_if_gt (C : jC p s m args meth c A D nL cc own tys) {x : Int32} {off : Int} {tgt : Nat} (d : decode cc pc = .ok (.ifCond .gt off, 3) ∧ pc + 3 = n ∧ ((pc : Nat) : Int) + off = ((tgt : Nat) : Int)) (kt : 0 < x → JJ p l e R s m args below meth c ce sl Q A D nL wd tgt L st) (kf : ¬ 0 < x → JJ p l e R s m args below meth c ce sl Q A D nL wd n L st) : JJ p l e R s m args below meth c ce sl Q A D nL wd pc L (.int x :: st) := by
  obtain ⟨d, rfl, ht⟩ := d
  exact fun H locs ls hP hD hS hl => lv_if_gt C.1 C.2.1 d ht (fun h => kt h H locs ls hP hD hS hl) (fun h => kf h H locs ls hP hD hS hl)
theorem jr_ifN_gt (C : jC p s m args meth c A D nL cc own tys) {a : Nat} {off : Int} {tgt : Nat} (d : decode cc pc = .ok (.ifCond .gt off, 3) ∧ pc + 3 = n ∧ ((pc : Nat) : Int) + off = ((tgt : Nat) : Int)) (ha : a < 2 ^ 31) (kt : 0 < a → JJ p l e R s m args below meth c ce sl Q A D nL wd tgt L st) (kf : ¬ 0 < a → JJ p l e R s m args below meth c ce sl Q A D nL wd n L st) : JJ p l e R s m args below meth c ce sl Q A D nL wd pc L (.int (nI a) :: st) :=
  jr_if_gt C d (fun h => kt ((nI_ltI (show 0 < 2 ^ 31 by decide) ha).1 h)) (fun h => kf (fun q => h ((nI_ltI (show 0 < 2 ^ 31 by decide) ha).2 q)))
theorem jr_cmp_le (C : jC p s m args meth c A D nL cc own tys) {x y : Int32} {off : Int} {tgt : Nat} (d : decode cc pc = .ok (.if_icmp .le off, 3) ∧ pc + 3 = n ∧ ((pc : Nat) : Int) + off = ((tgt : Nat) : Int)) (kt : x ≤ y → JJ p l e R s m args below meth c ce sl Q A D nL wd tgt L st) (kf : ¬ x ≤ y → JJ p l e R s m args below meth c ce sl Q A D nL wd n L st) : JJ p l e R s m args below meth c ce sl Q A D nL wd pc L (.int y :: .int x :: st) := by
  obtain ⟨d, rfl, ht⟩ := d
  exact fun H locs ls hP hD hS hl => lv_icmp_le C.1 C.2.1 d ht (fun h => kt h H locs ls hP hD hS hl) (fun h => kf h H locs ls hP hD hS hl)
theorem jr_cmpN_le (C : jC p s m args meth c A D nL cc own tys) {a b : Nat} {off : Int} {tgt : Nat} (d : decode cc pc = .ok (.if_icmp .le off, 3) ∧ pc + 3 = n ∧ ((pc : Nat) : Int) + off = ((tgt : Nat) : Int)) (ha : a < 2 ^ 31) (hb : b < 2 ^ 31) (kt : a ≤ b → JJ p l e R s m args below meth c ce sl Q A D nL wd tgt L st) (kf : ¬ a ≤ b → JJ p l e R s m args below meth c ce sl Q A D nL wd n L st) : JJ p l e R s m args below meth c ce sl Q A D nL wd pc L (.int (nI b) :: .int (nI a) :: st) :=
  jr_cmp_le C d (fun h => kt ((nI_leI ha hb).1 h)) (fun h => kf (fun q => h ((nI_leI ha hb).2 q)))
theorem jr_if_le (C : jC p s m args meth c A D nL cc own tys) {x : Int32} {off : Int} {tgt : Nat} (d : decode cc pc = .ok (.ifCond .le off, 3) ∧ pc + 3 = n ∧ ((pc : Nat) : Int) + off = ((tgt : Nat) : Int)) (kt : x ≤ 0 → JJ p l e R s m args below meth c ce sl Q A D nL wd tgt L st) (kf : ¬ x ≤ 0 → JJ p l e R s m args below meth c ce sl Q A D nL wd n L st) : JJ p l e R s m args below meth c ce sl Q A D nL wd pc L (.int x :: st) := by
  obtain ⟨d, rfl, ht⟩ := d
  exact fun H locs ls hP hD hS hl => lv_if_le C.1 C.2.1 d ht (fun h => kt h H locs ls hP hD hS hl) (fun h => kf h H locs ls hP hD hS hl)
theorem jr_ifN_le (C : jC p s m args meth c A D nL cc own tys) {a : Nat} {off : Int} {tgt : Nat} (d : decode cc pc = .ok (.ifCond .le off, 3) ∧ pc + 3 = n ∧ ((pc : Nat) : Int) + off = ((tgt : Nat) : Int)) (ha : a < 2 ^ 31) (kt : a ≤ 0 → JJ p l e R s m args below meth c ce sl Q A D nL wd tgt L st) (kf : ¬ a ≤ 0 → JJ p l e R s m args below meth c ce sl Q A D nL wd n L st) : JJ p l e R s m args below meth c ce sl Q A D nL wd pc L (.int (nI a) :: st) :=
  jr_if_le C d (fun h => kt ((nI_leI ha (show 0 < 2 ^ 31 by decide)).1 h)) (fun h => kf (fun q => h ((nI_leI ha (show 0 < 2 ^ 31 by decide)).2 q)))
theorem jr_top {a v : Nat} (h : a = v) (kk : JJ p l e R s m args below meth c ce sl Q A D nL wd pc L (.int (nI v) :: st)) : JJ p l e R s m args below meth c ce sl Q A D nL wd pc L (.int (nI a) :: st) := by subst h; exact kk
theorem jr_topr {a v : Int32} (h : a = v) (kk : JJ p l e R s m args below meth c ce sl Q A D nL wd pc L (.int v :: st)) : JJ p l e R s m args below meth c ce sl Q A D nL wd pc L (.int a :: st) := by subst h; exact kk
theorem jr_wd {wd2 : va_W} (h : wd = wd2) (kk : JJ p l e R s m args below meth c ce sl Q A D nL wd2 pc L st) : JJ p l e R s m args below meth c ce sl Q A D nL wd pc L st := by subst h; exact kk
theorem jr_lo {L2 : List (Option Value)} (h : L = L2) (kk : JJ p l e R s m args below meth c ce sl Q A D nL wd pc L2 st) : JJ p l e R s m args below meth c ce sl Q A D nL wd pc L st := by subst h; exact kk
end JR
end
section
section JF
variable {p : Program} {l : Launch} {e : Env} {R : Room} {s : State} {m : MethodId} {args : Array Value} {below : List Frame} {meth : Method} {c : Code} {ce sl : Nat} {Q : State → Prop} {A : Nat → Prop} {g : jG} {nL : Nat} {pc n : Nat} {L : List (Option Value)} {st : List Value} {cc : ByteArray} {N : Nat → Nat → Nat} {K : Nat → Nat → Int32}
theorem jg_left (C : jC p s m args meth c A g.1 nL cc RX0 (jty g)) (d : decode cc pc = .ok (.getfield 7, 3) ∧ pc + 3 = n) (kk : JJ p l e R s m args below meth c ce sl Q A g.1 nL (jw g N K) n L (.ref (g.2.2.1 0) :: st)) : JJ p l e R s m args below meth c ce sl Q A g.1 nL (jw g N K) pc L (.ref g.2.1 :: st) := by
  obtain ⟨d, rfl⟩ := d
  exact fun H locs ls hP hD hS hl => va_get (D := g.1) (ci := 0) (v := .ref (g.2.2.1 0)) (C := RX0) (T := TX0) (N := 18) C.1 C.2.1 C.2.2.2.2.1 in_X0 C.2.2.2.1 C.2.2.2.2.2.1 hP 0 rfl rfl 0 (by decide) (C.2.2.2.2.1 _ q35) (fun _ h9 => h9) rfl d (kk H locs ls hP hD hS hl)
theorem jl_left (C : jC p s m args meth c A g.1 nL cc RX0 (jty g)) {i : Nat} (d : decode cc pc = .ok (.saload, 1) ∧ pc + 1 = n) (hi : i < 256) (kk : JJ p l e R s m args below meth c ce sl Q A g.1 nL (jw g N K) n L (.int (nI (N 0 i)) :: st)) : JJ p l e R s m args below meth c ce sl Q A g.1 nL (jw g N K) pc L (.int (nI i) :: .ref (g.2.2.1 0) :: st) := by
  obtain ⟨d, rfl⟩ := d
  have hc := nI_clamp (n := i) (by omega)
  exact fun H locs ls hP hD hS hl => va_sald C.1 C.2.1 C.2.2.2.2.2.1 hP 1 0 rfl rfl (vp_in_nI hi (by decide)) d (by rw [hc]; exact kk H locs ls hP hD hS hl)
theorem js_left (C : jC p s m args meth c A g.1 nL cc RX0 (jty g)) {i v : Nat} (d : decode cc pc = .ok (.sastore, 1) ∧ pc + 1 = n) (hi : i < 256) (hv : v < 32768) (kk : JJ p l e R s m args below meth c ce sl Q A g.1 nL (jw g (jup N 0 i v) K) n L st) : JJ p l e R s m args below meth c ce sl Q A g.1 nL (jw g N K) pc L (.int (nI v) :: .int (nI i) :: .ref (g.2.2.1 0) :: st) := by
  obtain ⟨d, rfl⟩ := d
  have hc := nI_clamp (n := i) (by omega)
  refine fun H locs ls hP hD hS hl => va_sast C.1 C.2.1 C.2.2.2.2.2.1 hP hD hS 1 0 rfl rfl (vp_in_nI hi (by decide)) d (fun H1 locs1 hP1 hD1 hS1 => ?_)
  rw [hc, ju_short hv] at hP1 hD1
  exact kk H1 locs1 ls hP1 hD1 hS1 hl
theorem jg_right (C : jC p s m args meth c A g.1 nL cc RX0 (jty g)) (d : decode cc pc = .ok (.getfield 13, 3) ∧ pc + 3 = n) (kk : JJ p l e R s m args below meth c ce sl Q A g.1 nL (jw g N K) n L (.ref (g.2.2.1 1) :: st)) : JJ p l e R s m args below meth c ce sl Q A g.1 nL (jw g N K) pc L (.ref g.2.1 :: st) := by
  obtain ⟨d, rfl⟩ := d
  exact fun H locs ls hP hD hS hl => va_get (D := g.1) (ci := 0) (v := .ref (g.2.2.1 1)) (C := RX0) (T := TX0) (N := 18) C.1 C.2.1 C.2.2.2.2.1 in_X0 C.2.2.2.1 C.2.2.2.2.2.1 hP 0 rfl rfl 1 (by decide) (C.2.2.2.2.1 _ q36) (fun _ h9 => h9) rfl d (kk H locs ls hP hD hS hl)
theorem jl_right (C : jC p s m args meth c A g.1 nL cc RX0 (jty g)) {i : Nat} (d : decode cc pc = .ok (.saload, 1) ∧ pc + 1 = n) (hi : i < 256) (kk : JJ p l e R s m args below meth c ce sl Q A g.1 nL (jw g N K) n L (.int (nI (N 1 i)) :: st)) : JJ p l e R s m args below meth c ce sl Q A g.1 nL (jw g N K) pc L (.int (nI i) :: .ref (g.2.2.1 1) :: st) := by
  obtain ⟨d, rfl⟩ := d
  have hc := nI_clamp (n := i) (by omega)
  exact fun H locs ls hP hD hS hl => va_sald C.1 C.2.1 C.2.2.2.2.2.1 hP 2 1 rfl rfl (vp_in_nI hi (by decide)) d (by rw [hc]; exact kk H locs ls hP hD hS hl)
theorem js_right (C : jC p s m args meth c A g.1 nL cc RX0 (jty g)) {i v : Nat} (d : decode cc pc = .ok (.sastore, 1) ∧ pc + 1 = n) (hi : i < 256) (hv : v < 32768) (kk : JJ p l e R s m args below meth c ce sl Q A g.1 nL (jw g (jup N 1 i v) K) n L st) : JJ p l e R s m args below meth c ce sl Q A g.1 nL (jw g N K) pc L (.int (nI v) :: .int (nI i) :: .ref (g.2.2.1 1) :: st) := by
  obtain ⟨d, rfl⟩ := d
  have hc := nI_clamp (n := i) (by omega)
  refine fun H locs ls hP hD hS hl => va_sast C.1 C.2.1 C.2.2.2.2.2.1 hP hD hS 2 1 rfl rfl (vp_in_nI hi (by decide)) d (fun H1 locs1 hP1 hD1 hS1 => ?_)
  rw [hc, ju_short hv] at hP1 hD1
  exact kk H1 locs1 ls hP1 hD1 hS1 hl
theorem jg_key (C : jC p s m args meth c A g.1 nL cc RX0 (jty g)) (d : decode cc pc = .ok (.getfield 16, 3) ∧ pc + 3 = n) (kk : JJ p l e R s m args below meth c ce sl Q A g.1 nL (jw g N K) n L (.ref (g.2.2.1 2) :: st)) : JJ p l e R s m args below meth c ce sl Q A g.1 nL (jw g N K) pc L (.ref g.2.1 :: st) := by
  obtain ⟨d, rfl⟩ := d
  exact fun H locs ls hP hD hS hl => va_get (D := g.1) (ci := 0) (v := .ref (g.2.2.1 2)) (C := RX0) (T := TX0) (N := 18) C.1 C.2.1 C.2.2.2.2.1 in_X0 C.2.2.2.1 C.2.2.2.2.2.1 hP 0 rfl rfl 2 (by decide) (C.2.2.2.2.1 _ q37) (fun _ h9 => h9) rfl d (kk H locs ls hP hD hS hl)
theorem jl_key (C : jC p s m args meth c A g.1 nL cc RX0 (jty g)) {i : Nat} (d : decode cc pc = .ok (.iaload, 1) ∧ pc + 1 = n) (hi : i < 256) (kk : JJ p l e R s m args below meth c ce sl Q A g.1 nL (jw g N K) n L (.int (K 2 i) :: st)) : JJ p l e R s m args below meth c ce sl Q A g.1 nL (jw g N K) pc L (.int (nI i) :: .ref (g.2.2.1 2) :: st) := by
  obtain ⟨d, rfl⟩ := d
  have hc := nI_clamp (n := i) (by omega)
  exact fun H locs ls hP hD hS hl => va_iald C.1 C.2.1 C.2.2.2.2.2.1 hP 3 2 rfl rfl (vp_in_nI hi (by decide)) d (by rw [hc]; exact kk H locs ls hP hD hS hl)
theorem js_key (C : jC p s m args meth c A g.1 nL cc RX0 (jty g)) {i : Nat} {x : Int32} (d : decode cc pc = .ok (.iastore, 1) ∧ pc + 1 = n) (hi : i < 256) (kk : JJ p l e R s m args below meth c ce sl Q A g.1 nL (jw g N (jup K 2 i x)) n L st) : JJ p l e R s m args below meth c ce sl Q A g.1 nL (jw g N K) pc L (.int x :: .int (nI i) :: .ref (g.2.2.1 2) :: st) := by
  obtain ⟨d, rfl⟩ := d
  have hc := nI_clamp (n := i) (by omega)
  refine fun H locs ls hP hD hS hl => va_iast C.1 C.2.1 C.2.2.2.2.2.1 hP hD hS 3 2 rfl rfl (vp_in_nI hi (by decide)) d (fun H1 locs1 hP1 hD1 hS1 => ?_)
  rw [hc] at hP1 hD1
  exact kk H1 locs1 ls hP1 hD1 hS1 hl
theorem jg_count (C : jC p s m args meth c A g.1 nL cc RX0 (jty g)) (d : decode cc pc = .ok (.getfield 20, 3) ∧ pc + 3 = n) (kk : JJ p l e R s m args below meth c ce sl Q A g.1 nL (jw g N K) n L (.ref (g.2.2.1 3) :: st)) : JJ p l e R s m args below meth c ce sl Q A g.1 nL (jw g N K) pc L (.ref g.2.1 :: st) := by
  obtain ⟨d, rfl⟩ := d
  exact fun H locs ls hP hD hS hl => va_get (D := g.1) (ci := 0) (v := .ref (g.2.2.1 3)) (C := RX0) (T := TX0) (N := 18) C.1 C.2.1 C.2.2.2.2.1 in_X0 C.2.2.2.1 C.2.2.2.2.2.1 hP 0 rfl rfl 3 (by decide) (C.2.2.2.2.1 _ q38) (fun _ h9 => h9) rfl d (kk H locs ls hP hD hS hl)
theorem jl_count (C : jC p s m args meth c A g.1 nL cc RX0 (jty g)) {i : Nat} (d : decode cc pc = .ok (.baload, 1) ∧ pc + 1 = n) (hi : i < 256) (kk : JJ p l e R s m args below meth c ce sl Q A g.1 nL (jw g N K) n L (.int (nI (N 3 i)) :: st)) : JJ p l e R s m args below meth c ce sl Q A g.1 nL (jw g N K) pc L (.int (nI i) :: .ref (g.2.2.1 3) :: st) := by
  obtain ⟨d, rfl⟩ := d
  have hc := nI_clamp (n := i) (by omega)
  exact fun H locs ls hP hD hS hl => va_bald C.1 C.2.1 C.2.2.2.2.2.1 hP 4 3 rfl rfl (vp_in_nI hi (by decide)) d (by rw [hc]; exact kk H locs ls hP hD hS hl)
theorem js_count (C : jC p s m args meth c A g.1 nL cc RX0 (jty g)) {i v : Nat} (d : decode cc pc = .ok (.bastore, 1) ∧ pc + 1 = n) (hi : i < 256) (hv : v < 128) (kk : JJ p l e R s m args below meth c ce sl Q A g.1 nL (jw g (jup N 3 i v) K) n L st) : JJ p l e R s m args below meth c ce sl Q A g.1 nL (jw g N K) pc L (.int (nI v) :: .int (nI i) :: .ref (g.2.2.1 3) :: st) := by
  obtain ⟨d, rfl⟩ := d
  have hc := nI_clamp (n := i) (by omega)
  refine fun H locs ls hP hD hS hl => va_bast C.1 C.2.1 C.2.2.2.2.2.1 hP hD hS 4 3 rfl rfl (vp_in_nI hi (by decide)) d (fun H1 locs1 hP1 hD1 hS1 => ?_)
  rw [hc, ju_byte hv] at hP1 hD1
  exact kk H1 locs1 ls hP1 hD1 hS1 hl
theorem jg_rootOf (C : jC p s m args meth c A g.1 nL cc RX0 (jty g)) (d : decode cc pc = .ok (.getfield 24, 3) ∧ pc + 3 = n) (kk : JJ p l e R s m args below meth c ce sl Q A g.1 nL (jw g N K) n L (.ref (g.2.2.1 4) :: st)) : JJ p l e R s m args below meth c ce sl Q A g.1 nL (jw g N K) pc L (.ref g.2.1 :: st) := by
  obtain ⟨d, rfl⟩ := d
  exact fun H locs ls hP hD hS hl => va_get (D := g.1) (ci := 0) (v := .ref (g.2.2.1 4)) (C := RX0) (T := TX0) (N := 18) C.1 C.2.1 C.2.2.2.2.1 in_X0 C.2.2.2.1 C.2.2.2.2.2.1 hP 0 rfl rfl 4 (by decide) (C.2.2.2.2.1 _ q39) (fun _ h9 => h9) rfl d (kk H locs ls hP hD hS hl)
theorem jl_rootOf (C : jC p s m args meth c A g.1 nL cc RX0 (jty g)) {i : Nat} (d : decode cc pc = .ok (.saload, 1) ∧ pc + 1 = n) (hi : i < 4) (kk : JJ p l e R s m args below meth c ce sl Q A g.1 nL (jw g N K) n L (.int (nI (N 4 i)) :: st)) : JJ p l e R s m args below meth c ce sl Q A g.1 nL (jw g N K) pc L (.int (nI i) :: .ref (g.2.2.1 4) :: st) := by
  obtain ⟨d, rfl⟩ := d
  have hc := nI_clamp (n := i) (by omega)
  exact fun H locs ls hP hD hS hl => va_sald C.1 C.2.1 C.2.2.2.2.2.1 hP 5 4 rfl rfl (vp_in_nI hi (by decide)) d (by rw [hc]; exact kk H locs ls hP hD hS hl)
theorem js_rootOf (C : jC p s m args meth c A g.1 nL cc RX0 (jty g)) {i v : Nat} (d : decode cc pc = .ok (.sastore, 1) ∧ pc + 1 = n) (hi : i < 4) (hv : v < 32768) (kk : JJ p l e R s m args below meth c ce sl Q A g.1 nL (jw g (jup N 4 i v) K) n L st) : JJ p l e R s m args below meth c ce sl Q A g.1 nL (jw g N K) pc L (.int (nI v) :: .int (nI i) :: .ref (g.2.2.1 4) :: st) := by
  obtain ⟨d, rfl⟩ := d
  have hc := nI_clamp (n := i) (by omega)
  refine fun H locs ls hP hD hS hl => va_sast C.1 C.2.1 C.2.2.2.2.2.1 hP hD hS 5 4 rfl rfl (vp_in_nI hi (by decide)) d (fun H1 locs1 hP1 hD1 hS1 => ?_)
  rw [hc, ju_short hv] at hP1 hD1
  exact kk H1 locs1 ls hP1 hD1 hS1 hl
theorem jg_freeCount (C : jC p s m args meth c A g.1 nL cc RX0 (jty g)) (d : decode cc pc = .ok (.getfield 52, 3) ∧ pc + 3 = n) (kk : JJ p l e R s m args below meth c ce sl Q A g.1 nL (jw g N K) n L (.int (nI (N 5 0)) :: st)) : JJ p l e R s m args below meth c ce sl Q A g.1 nL (jw g N K) pc L (.ref g.2.1 :: st) := by
  obtain ⟨d, rfl⟩ := d
  exact fun H locs ls hP hD hS hl => va_get (D := g.1) (ci := 0) (v := .int (nI (N 5 0))) (C := RX0) (T := TX0) (N := 18) C.1 C.2.1 C.2.2.2.2.1 in_X0 C.2.2.2.1 C.2.2.2.2.2.1 hP 0 rfl rfl 5 (by decide) (C.2.2.2.2.1 _ q40) (fun _ h9 => h9) rfl d (kk H locs ls hP hD hS hl)
theorem jp_freeCount (C : jC p s m args meth c A g.1 nL cc RX0 (jty g)) {v : Nat} (d : decode cc pc = .ok (.putfield 52, 3) ∧ pc + 3 = n) (kk : JJ p l e R s m args below meth c ce sl Q A g.1 nL (jw g (jup N 5 0 v) K) n L st) : JJ p l e R s m args below meth c ce sl Q A g.1 nL (jw g N K) pc L (.int (nI v) :: .ref g.2.1 :: st) := by
  obtain ⟨d, rfl⟩ := d
  exact fun H locs ls hP hD hS hl => va_put (D := g.1) (ci := 0) (v := .int (nI v)) (ty := .int) (C := RX0) (T := TX0) (N := 18) C.1 C.2.1 C.2.2.2.2.1 in_X0 tyX0 tyX0_ok nmX0 C.2.2.2.1 C.2.2.2.2.2.1 hP hD hS 0 rfl rfl 5 (by decide) (C.2.2.2.2.1 _ q40) (fun _ h9 => h9) rfl (by decide +kernel) rfl rfl (Nat.le_of_ble_eq_true rfl) d (fun H1 locs1 hP1 hD1 hS1 => kk H1 locs1 ls hP1 hD1 hS1 hl)
theorem jg_freeNodes (C : jC p s m args meth c A g.1 nL cc RX0 (jty g)) (d : decode cc pc = .ok (.getfield 27, 3) ∧ pc + 3 = n) (kk : JJ p l e R s m args below meth c ce sl Q A g.1 nL (jw g N K) n L (.ref (g.2.2.1 6) :: st)) : JJ p l e R s m args below meth c ce sl Q A g.1 nL (jw g N K) pc L (.ref g.2.1 :: st) := by
  obtain ⟨d, rfl⟩ := d
  exact fun H locs ls hP hD hS hl => va_get (D := g.1) (ci := 0) (v := .ref (g.2.2.1 6)) (C := RX0) (T := TX0) (N := 18) C.1 C.2.1 C.2.2.2.2.1 in_X0 C.2.2.2.1 C.2.2.2.2.2.1 hP 0 rfl rfl 6 (by decide) (C.2.2.2.2.1 _ q41) (fun _ h9 => h9) rfl d (kk H locs ls hP hD hS hl)
theorem jl_freeNodes (C : jC p s m args meth c A g.1 nL cc RX0 (jty g)) {i : Nat} (d : decode cc pc = .ok (.saload, 1) ∧ pc + 1 = n) (hi : i < 256) (kk : JJ p l e R s m args below meth c ce sl Q A g.1 nL (jw g N K) n L (.int (nI (N 6 i)) :: st)) : JJ p l e R s m args below meth c ce sl Q A g.1 nL (jw g N K) pc L (.int (nI i) :: .ref (g.2.2.1 6) :: st) := by
  obtain ⟨d, rfl⟩ := d
  have hc := nI_clamp (n := i) (by omega)
  exact fun H locs ls hP hD hS hl => va_sald C.1 C.2.1 C.2.2.2.2.2.1 hP 6 5 rfl rfl (vp_in_nI hi (by decide)) d (by rw [hc]; exact kk H locs ls hP hD hS hl)
theorem js_freeNodes (C : jC p s m args meth c A g.1 nL cc RX0 (jty g)) {i v : Nat} (d : decode cc pc = .ok (.sastore, 1) ∧ pc + 1 = n) (hi : i < 256) (hv : v < 32768) (kk : JJ p l e R s m args below meth c ce sl Q A g.1 nL (jw g (jup N 6 i v) K) n L st) : JJ p l e R s m args below meth c ce sl Q A g.1 nL (jw g N K) pc L (.int (nI v) :: .int (nI i) :: .ref (g.2.2.1 6) :: st) := by
  obtain ⟨d, rfl⟩ := d
  have hc := nI_clamp (n := i) (by omega)
  refine fun H locs ls hP hD hS hl => va_sast C.1 C.2.1 C.2.2.2.2.2.1 hP hD hS 6 5 rfl rfl (vp_in_nI hi (by decide)) d (fun H1 locs1 hP1 hD1 hS1 => ?_)
  rw [hc, ju_short hv] at hP1 hD1
  exact kk H1 locs1 ls hP1 hD1 hS1 hl
theorem jg_wayEnd (C : jC p s m args meth c A g.1 nL cc RX0 (jty g)) (d : decode cc pc = .ok (.getfield 112, 3) ∧ pc + 3 = n) (kk : JJ p l e R s m args below meth c ce sl Q A g.1 nL (jw g N K) n L (.int (nI (N 7 0)) :: st)) : JJ p l e R s m args below meth c ce sl Q A g.1 nL (jw g N K) pc L (.ref g.2.1 :: st) := by
  obtain ⟨d, rfl⟩ := d
  exact fun H locs ls hP hD hS hl => va_get (D := g.1) (ci := 0) (v := .int (nI (N 7 0))) (C := RX0) (T := TX0) (N := 18) C.1 C.2.1 C.2.2.2.2.1 in_X0 C.2.2.2.1 C.2.2.2.2.2.1 hP 0 rfl rfl 7 (by decide) (C.2.2.2.2.1 _ q42) (fun _ h9 => h9) rfl d (kk H locs ls hP hD hS hl)
theorem jp_wayEnd (C : jC p s m args meth c A g.1 nL cc RX0 (jty g)) {v : Nat} (d : decode cc pc = .ok (.putfield 112, 3) ∧ pc + 3 = n) (kk : JJ p l e R s m args below meth c ce sl Q A g.1 nL (jw g (jup N 7 0 v) K) n L st) : JJ p l e R s m args below meth c ce sl Q A g.1 nL (jw g N K) pc L (.int (nI v) :: .ref g.2.1 :: st) := by
  obtain ⟨d, rfl⟩ := d
  exact fun H locs ls hP hD hS hl => va_put (D := g.1) (ci := 0) (v := .int (nI v)) (ty := .int) (C := RX0) (T := TX0) (N := 18) C.1 C.2.1 C.2.2.2.2.1 in_X0 tyX0 tyX0_ok nmX0 C.2.2.2.1 C.2.2.2.2.2.1 hP hD hS 0 rfl rfl 7 (by decide) (C.2.2.2.2.1 _ q42) (fun _ h9 => h9) rfl (by decide +kernel) rfl rfl (Nat.le_of_ble_eq_true rfl) d (fun H1 locs1 hP1 hD1 hS1 => kk H1 locs1 ls hP1 hD1 hS1 hl)
theorem jg_way (C : jC p s m args meth c A g.1 nL cc RX0 (jty g)) (d : decode cc pc = .ok (.getfield 30, 3) ∧ pc + 3 = n) (kk : JJ p l e R s m args below meth c ce sl Q A g.1 nL (jw g N K) n L (.ref (g.2.2.1 8) :: st)) : JJ p l e R s m args below meth c ce sl Q A g.1 nL (jw g N K) pc L (.ref g.2.1 :: st) := by
  obtain ⟨d, rfl⟩ := d
  exact fun H locs ls hP hD hS hl => va_get (D := g.1) (ci := 0) (v := .ref (g.2.2.1 8)) (C := RX0) (T := TX0) (N := 18) C.1 C.2.1 C.2.2.2.2.1 in_X0 C.2.2.2.1 C.2.2.2.2.2.1 hP 0 rfl rfl 8 (by decide) (C.2.2.2.2.1 _ q43) (fun _ h9 => h9) rfl d (kk H locs ls hP hD hS hl)
theorem jl_way (C : jC p s m args meth c A g.1 nL cc RX0 (jty g)) {i : Nat} (d : decode cc pc = .ok (.saload, 1) ∧ pc + 1 = n) (hi : i < 64) (kk : JJ p l e R s m args below meth c ce sl Q A g.1 nL (jw g N K) n L (.int (nI (N 8 i)) :: st)) : JJ p l e R s m args below meth c ce sl Q A g.1 nL (jw g N K) pc L (.int (nI i) :: .ref (g.2.2.1 8) :: st) := by
  obtain ⟨d, rfl⟩ := d
  have hc := nI_clamp (n := i) (by omega)
  exact fun H locs ls hP hD hS hl => va_sald C.1 C.2.1 C.2.2.2.2.2.1 hP 7 6 rfl rfl (vp_in_nI hi (by decide)) d (by rw [hc]; exact kk H locs ls hP hD hS hl)
theorem js_way (C : jC p s m args meth c A g.1 nL cc RX0 (jty g)) {i v : Nat} (d : decode cc pc = .ok (.sastore, 1) ∧ pc + 1 = n) (hi : i < 64) (hv : v < 32768) (kk : JJ p l e R s m args below meth c ce sl Q A g.1 nL (jw g (jup N 8 i v) K) n L st) : JJ p l e R s m args below meth c ce sl Q A g.1 nL (jw g N K) pc L (.int (nI v) :: .int (nI i) :: .ref (g.2.2.1 8) :: st) := by
  obtain ⟨d, rfl⟩ := d
  have hc := nI_clamp (n := i) (by omega)
  refine fun H locs ls hP hD hS hl => va_sast C.1 C.2.1 C.2.2.2.2.2.1 hP hD hS 7 6 rfl rfl (vp_in_nI hi (by decide)) d (fun H1 locs1 hP1 hD1 hS1 => ?_)
  rw [hc, ju_short hv] at hP1 hD1
  exact kk H1 locs1 ls hP1 hD1 hS1 hl
theorem jg_wentRight (C : jC p s m args meth c A g.1 nL cc RX0 (jty g)) (d : decode cc pc = .ok (.getfield 33, 3) ∧ pc + 3 = n) (kk : JJ p l e R s m args below meth c ce sl Q A g.1 nL (jw g N K) n L (.ref (g.2.2.1 9) :: st)) : JJ p l e R s m args below meth c ce sl Q A g.1 nL (jw g N K) pc L (.ref g.2.1 :: st) := by
  obtain ⟨d, rfl⟩ := d
  exact fun H locs ls hP hD hS hl => va_get (D := g.1) (ci := 0) (v := .ref (g.2.2.1 9)) (C := RX0) (T := TX0) (N := 18) C.1 C.2.1 C.2.2.2.2.1 in_X0 C.2.2.2.1 C.2.2.2.2.2.1 hP 0 rfl rfl 9 (by decide) (C.2.2.2.2.1 _ q44) (fun _ h9 => h9) rfl d (kk H locs ls hP hD hS hl)
theorem jl_wentRight (C : jC p s m args meth c A g.1 nL cc RX0 (jty g)) {i : Nat} (d : decode cc pc = .ok (.baload, 1) ∧ pc + 1 = n) (hi : i < 64) (kk : JJ p l e R s m args below meth c ce sl Q A g.1 nL (jw g N K) n L (.int (nI (N 9 i)) :: st)) : JJ p l e R s m args below meth c ce sl Q A g.1 nL (jw g N K) pc L (.int (nI i) :: .ref (g.2.2.1 9) :: st) := by
  obtain ⟨d, rfl⟩ := d
  have hc := nI_clamp (n := i) (by omega)
  exact fun H locs ls hP hD hS hl => va_zald C.1 C.2.1 C.2.2.2.2.2.1 hP 8 7 rfl rfl (vp_in_nI hi (by decide)) d (by rw [hc]; exact kk H locs ls hP hD hS hl)
theorem js_wentRight (C : jC p s m args meth c A g.1 nL cc RX0 (jty g)) {i v : Nat} (d : decode cc pc = .ok (.bastore, 1) ∧ pc + 1 = n) (hi : i < 64) (hv : v < 2) (kk : JJ p l e R s m args below meth c ce sl Q A g.1 nL (jw g (jup N 9 i v) K) n L st) : JJ p l e R s m args below meth c ce sl Q A g.1 nL (jw g N K) pc L (.int (nI v) :: .int (nI i) :: .ref (g.2.2.1 9) :: st) := by
  obtain ⟨d, rfl⟩ := d
  have hc := nI_clamp (n := i) (by omega)
  refine fun H locs ls hP hD hS hl => va_zast C.1 C.2.1 C.2.2.2.2.2.1 hP hD hS 8 7 rfl rfl (vp_in_nI hi (by decide)) d (fun H1 locs1 hP1 hD1 hS1 => ?_)
  rw [hc, ju_bool hv] at hP1 hD1
  exact kk H1 locs1 ls hP1 hD1 hS1 hl
theorem jg_lowPart (C : jC p s m args meth c A g.1 nL cc RX0 (jty g)) (d : decode cc pc = .ok (.getfield 75, 3) ∧ pc + 3 = n) (kk : JJ p l e R s m args below meth c ce sl Q A g.1 nL (jw g N K) n L (.int (nI (N 10 0)) :: st)) : JJ p l e R s m args below meth c ce sl Q A g.1 nL (jw g N K) pc L (.ref g.2.1 :: st) := by
  obtain ⟨d, rfl⟩ := d
  exact fun H locs ls hP hD hS hl => va_get (D := g.1) (ci := 0) (v := .int (nI (N 10 0))) (C := RX0) (T := TX0) (N := 18) C.1 C.2.1 C.2.2.2.2.1 in_X0 C.2.2.2.1 C.2.2.2.2.2.1 hP 0 rfl rfl 10 (by decide) (C.2.2.2.2.1 _ q45) (fun _ h9 => h9) rfl d (kk H locs ls hP hD hS hl)
theorem jp_lowPart (C : jC p s m args meth c A g.1 nL cc RX0 (jty g)) {v : Nat} (d : decode cc pc = .ok (.putfield 75, 3) ∧ pc + 3 = n) (kk : JJ p l e R s m args below meth c ce sl Q A g.1 nL (jw g (jup N 10 0 v) K) n L st) : JJ p l e R s m args below meth c ce sl Q A g.1 nL (jw g N K) pc L (.int (nI v) :: .ref g.2.1 :: st) := by
  obtain ⟨d, rfl⟩ := d
  exact fun H locs ls hP hD hS hl => va_put (D := g.1) (ci := 0) (v := .int (nI v)) (ty := .int) (C := RX0) (T := TX0) (N := 18) C.1 C.2.1 C.2.2.2.2.1 in_X0 tyX0 tyX0_ok nmX0 C.2.2.2.1 C.2.2.2.2.2.1 hP hD hS 0 rfl rfl 10 (by decide) (C.2.2.2.2.1 _ q45) (fun _ h9 => h9) rfl (by decide +kernel) rfl rfl (Nat.le_of_ble_eq_true rfl) d (fun H1 locs1 hP1 hD1 hS1 => kk H1 locs1 ls hP1 hD1 hS1 hl)
theorem jg_highPart (C : jC p s m args meth c A g.1 nL cc RX0 (jty g)) (d : decode cc pc = .ok (.getfield 68, 3) ∧ pc + 3 = n) (kk : JJ p l e R s m args below meth c ce sl Q A g.1 nL (jw g N K) n L (.int (nI (N 11 0)) :: st)) : JJ p l e R s m args below meth c ce sl Q A g.1 nL (jw g N K) pc L (.ref g.2.1 :: st) := by
  obtain ⟨d, rfl⟩ := d
  exact fun H locs ls hP hD hS hl => va_get (D := g.1) (ci := 0) (v := .int (nI (N 11 0))) (C := RX0) (T := TX0) (N := 18) C.1 C.2.1 C.2.2.2.2.1 in_X0 C.2.2.2.1 C.2.2.2.2.2.1 hP 0 rfl rfl 11 (by decide) (C.2.2.2.2.1 _ q46) (fun _ h9 => h9) rfl d (kk H locs ls hP hD hS hl)
theorem jp_highPart (C : jC p s m args meth c A g.1 nL cc RX0 (jty g)) {v : Nat} (d : decode cc pc = .ok (.putfield 68, 3) ∧ pc + 3 = n) (kk : JJ p l e R s m args below meth c ce sl Q A g.1 nL (jw g (jup N 11 0 v) K) n L st) : JJ p l e R s m args below meth c ce sl Q A g.1 nL (jw g N K) pc L (.int (nI v) :: .ref g.2.1 :: st) := by
  obtain ⟨d, rfl⟩ := d
  exact fun H locs ls hP hD hS hl => va_put (D := g.1) (ci := 0) (v := .int (nI v)) (ty := .int) (C := RX0) (T := TX0) (N := 18) C.1 C.2.1 C.2.2.2.2.1 in_X0 tyX0 tyX0_ok nmX0 C.2.2.2.1 C.2.2.2.2.2.1 hP hD hS 0 rfl rfl 11 (by decide) (C.2.2.2.2.1 _ q46) (fun _ h9 => h9) rfl (by decide +kernel) rfl rfl (Nat.le_of_ble_eq_true rfl) d (fun H1 locs1 hP1 hD1 hS1 => kk H1 locs1 ls hP1 hD1 hS1 hl)
theorem jg_exact (C : jC p s m args meth c A g.1 nL cc RX0 (jty g)) (d : decode cc pc = .ok (.getfield 82, 3) ∧ pc + 3 = n) (kk : JJ p l e R s m args below meth c ce sl Q A g.1 nL (jw g N K) n L (.int (nI (N 12 0)) :: st)) : JJ p l e R s m args below meth c ce sl Q A g.1 nL (jw g N K) pc L (.ref g.2.1 :: st) := by
  obtain ⟨d, rfl⟩ := d
  exact fun H locs ls hP hD hS hl => va_get (D := g.1) (ci := 0) (v := .int (nI (N 12 0))) (C := RX0) (T := TX0) (N := 18) C.1 C.2.1 C.2.2.2.2.1 in_X0 C.2.2.2.1 C.2.2.2.2.2.1 hP 0 rfl rfl 12 (by decide) (C.2.2.2.2.1 _ q47) (fun _ h9 => h9) rfl d (kk H locs ls hP hD hS hl)
theorem jp_exact (C : jC p s m args meth c A g.1 nL cc RX0 (jty g)) {v : Nat} (d : decode cc pc = .ok (.putfield 82, 3) ∧ pc + 3 = n) (kk : JJ p l e R s m args below meth c ce sl Q A g.1 nL (jw g (jup N 12 0 v) K) n L st) : JJ p l e R s m args below meth c ce sl Q A g.1 nL (jw g N K) pc L (.int (nI v) :: .ref g.2.1 :: st) := by
  obtain ⟨d, rfl⟩ := d
  exact fun H locs ls hP hD hS hl => va_put (D := g.1) (ci := 0) (v := .int (nI v)) (ty := .int) (C := RX0) (T := TX0) (N := 18) C.1 C.2.1 C.2.2.2.2.1 in_X0 tyX0 tyX0_ok nmX0 C.2.2.2.1 C.2.2.2.2.2.1 hP hD hS 0 rfl rfl 12 (by decide) (C.2.2.2.2.1 _ q47) (fun _ h9 => h9) rfl (by decide +kernel) rfl rfl (Nat.le_of_ble_eq_true rfl) d (fun H1 locs1 hP1 hD1 hS1 => kk H1 locs1 ls hP1 hD1 hS1 hl)
theorem jg_frameNode (C : jC p s m args meth c A g.1 nL cc RX0 (jty g)) (d : decode cc pc = .ok (.getfield 37, 3) ∧ pc + 3 = n) (kk : JJ p l e R s m args below meth c ce sl Q A g.1 nL (jw g N K) n L (.ref (g.2.2.1 13) :: st)) : JJ p l e R s m args below meth c ce sl Q A g.1 nL (jw g N K) pc L (.ref g.2.1 :: st) := by
  obtain ⟨d, rfl⟩ := d
  exact fun H locs ls hP hD hS hl => va_get (D := g.1) (ci := 0) (v := .ref (g.2.2.1 13)) (C := RX0) (T := TX0) (N := 18) C.1 C.2.1 C.2.2.2.2.1 in_X0 C.2.2.2.1 C.2.2.2.2.2.1 hP 0 rfl rfl 13 (by decide) (C.2.2.2.2.1 _ q48) (fun _ h9 => h9) rfl d (kk H locs ls hP hD hS hl)
theorem jl_frameNode (C : jC p s m args meth c A g.1 nL cc RX0 (jty g)) {i : Nat} (d : decode cc pc = .ok (.saload, 1) ∧ pc + 1 = n) (hi : i < 32) (kk : JJ p l e R s m args below meth c ce sl Q A g.1 nL (jw g N K) n L (.int (nI (N 13 i)) :: st)) : JJ p l e R s m args below meth c ce sl Q A g.1 nL (jw g N K) pc L (.int (nI i) :: .ref (g.2.2.1 13) :: st) := by
  obtain ⟨d, rfl⟩ := d
  have hc := nI_clamp (n := i) (by omega)
  exact fun H locs ls hP hD hS hl => va_sald C.1 C.2.1 C.2.2.2.2.2.1 hP 9 8 rfl rfl (vp_in_nI hi (by decide)) d (by rw [hc]; exact kk H locs ls hP hD hS hl)
theorem js_frameNode (C : jC p s m args meth c A g.1 nL cc RX0 (jty g)) {i v : Nat} (d : decode cc pc = .ok (.sastore, 1) ∧ pc + 1 = n) (hi : i < 32) (hv : v < 32768) (kk : JJ p l e R s m args below meth c ce sl Q A g.1 nL (jw g (jup N 13 i v) K) n L st) : JJ p l e R s m args below meth c ce sl Q A g.1 nL (jw g N K) pc L (.int (nI v) :: .int (nI i) :: .ref (g.2.2.1 13) :: st) := by
  obtain ⟨d, rfl⟩ := d
  have hc := nI_clamp (n := i) (by omega)
  refine fun H locs ls hP hD hS hl => va_sast C.1 C.2.1 C.2.2.2.2.2.1 hP hD hS 9 8 rfl rfl (vp_in_nI hi (by decide)) d (fun H1 locs1 hP1 hD1 hS1 => ?_)
  rw [hc, ju_short hv] at hP1 hD1
  exact kk H1 locs1 ls hP1 hD1 hS1 hl
theorem jg_frameUpper (C : jC p s m args meth c A g.1 nL cc RX0 (jty g)) (d : decode cc pc = .ok (.getfield 40, 3) ∧ pc + 3 = n) (kk : JJ p l e R s m args below meth c ce sl Q A g.1 nL (jw g N K) n L (.ref (g.2.2.1 14) :: st)) : JJ p l e R s m args below meth c ce sl Q A g.1 nL (jw g N K) pc L (.ref g.2.1 :: st) := by
  obtain ⟨d, rfl⟩ := d
  exact fun H locs ls hP hD hS hl => va_get (D := g.1) (ci := 0) (v := .ref (g.2.2.1 14)) (C := RX0) (T := TX0) (N := 18) C.1 C.2.1 C.2.2.2.2.1 in_X0 C.2.2.2.1 C.2.2.2.2.2.1 hP 0 rfl rfl 14 (by decide) (C.2.2.2.2.1 _ q49) (fun _ h9 => h9) rfl d (kk H locs ls hP hD hS hl)
theorem jl_frameUpper (C : jC p s m args meth c A g.1 nL cc RX0 (jty g)) {i : Nat} (d : decode cc pc = .ok (.saload, 1) ∧ pc + 1 = n) (hi : i < 32) (kk : JJ p l e R s m args below meth c ce sl Q A g.1 nL (jw g N K) n L (.int (nI (N 14 i)) :: st)) : JJ p l e R s m args below meth c ce sl Q A g.1 nL (jw g N K) pc L (.int (nI i) :: .ref (g.2.2.1 14) :: st) := by
  obtain ⟨d, rfl⟩ := d
  have hc := nI_clamp (n := i) (by omega)
  exact fun H locs ls hP hD hS hl => va_sald C.1 C.2.1 C.2.2.2.2.2.1 hP 10 9 rfl rfl (vp_in_nI hi (by decide)) d (by rw [hc]; exact kk H locs ls hP hD hS hl)
theorem js_frameUpper (C : jC p s m args meth c A g.1 nL cc RX0 (jty g)) {i v : Nat} (d : decode cc pc = .ok (.sastore, 1) ∧ pc + 1 = n) (hi : i < 32) (hv : v < 32768) (kk : JJ p l e R s m args below meth c ce sl Q A g.1 nL (jw g (jup N 14 i v) K) n L st) : JJ p l e R s m args below meth c ce sl Q A g.1 nL (jw g N K) pc L (.int (nI v) :: .int (nI i) :: .ref (g.2.2.1 14) :: st) := by
  obtain ⟨d, rfl⟩ := d
  have hc := nI_clamp (n := i) (by omega)
  refine fun H locs ls hP hD hS hl => va_sast C.1 C.2.1 C.2.2.2.2.2.1 hP hD hS 10 9 rfl rfl (vp_in_nI hi (by decide)) d (fun H1 locs1 hP1 hD1 hS1 => ?_)
  rw [hc, ju_short hv] at hP1 hD1
  exact kk H1 locs1 ls hP1 hD1 hS1 hl
theorem jg_frameLower (C : jC p s m args meth c A g.1 nL cc RX0 (jty g)) (d : decode cc pc = .ok (.getfield 43, 3) ∧ pc + 3 = n) (kk : JJ p l e R s m args below meth c ce sl Q A g.1 nL (jw g N K) n L (.ref (g.2.2.1 15) :: st)) : JJ p l e R s m args below meth c ce sl Q A g.1 nL (jw g N K) pc L (.ref g.2.1 :: st) := by
  obtain ⟨d, rfl⟩ := d
  exact fun H locs ls hP hD hS hl => va_get (D := g.1) (ci := 0) (v := .ref (g.2.2.1 15)) (C := RX0) (T := TX0) (N := 18) C.1 C.2.1 C.2.2.2.2.1 in_X0 C.2.2.2.1 C.2.2.2.2.2.1 hP 0 rfl rfl 15 (by decide) (C.2.2.2.2.1 _ q50) (fun _ h9 => h9) rfl d (kk H locs ls hP hD hS hl)
theorem jl_frameLower (C : jC p s m args meth c A g.1 nL cc RX0 (jty g)) {i : Nat} (d : decode cc pc = .ok (.saload, 1) ∧ pc + 1 = n) (hi : i < 32) (kk : JJ p l e R s m args below meth c ce sl Q A g.1 nL (jw g N K) n L (.int (nI (N 15 i)) :: st)) : JJ p l e R s m args below meth c ce sl Q A g.1 nL (jw g N K) pc L (.int (nI i) :: .ref (g.2.2.1 15) :: st) := by
  obtain ⟨d, rfl⟩ := d
  have hc := nI_clamp (n := i) (by omega)
  exact fun H locs ls hP hD hS hl => va_sald C.1 C.2.1 C.2.2.2.2.2.1 hP 11 10 rfl rfl (vp_in_nI hi (by decide)) d (by rw [hc]; exact kk H locs ls hP hD hS hl)
theorem js_frameLower (C : jC p s m args meth c A g.1 nL cc RX0 (jty g)) {i v : Nat} (d : decode cc pc = .ok (.sastore, 1) ∧ pc + 1 = n) (hi : i < 32) (hv : v < 32768) (kk : JJ p l e R s m args below meth c ce sl Q A g.1 nL (jw g (jup N 15 i v) K) n L st) : JJ p l e R s m args below meth c ce sl Q A g.1 nL (jw g N K) pc L (.int (nI v) :: .int (nI i) :: .ref (g.2.2.1 15) :: st) := by
  obtain ⟨d, rfl⟩ := d
  have hc := nI_clamp (n := i) (by omega)
  refine fun H locs ls hP hD hS hl => va_sast C.1 C.2.1 C.2.2.2.2.2.1 hP hD hS 11 10 rfl rfl (vp_in_nI hi (by decide)) d (fun H1 locs1 hP1 hD1 hS1 => ?_)
  rw [hc, ju_short hv] at hP1 hD1
  exact kk H1 locs1 ls hP1 hD1 hS1 hl
theorem jg_frameBoth (C : jC p s m args meth c A g.1 nL cc RX0 (jty g)) (d : decode cc pc = .ok (.getfield 46, 3) ∧ pc + 3 = n) (kk : JJ p l e R s m args below meth c ce sl Q A g.1 nL (jw g N K) n L (.ref (g.2.2.1 16) :: st)) : JJ p l e R s m args below meth c ce sl Q A g.1 nL (jw g N K) pc L (.ref g.2.1 :: st) := by
  obtain ⟨d, rfl⟩ := d
  exact fun H locs ls hP hD hS hl => va_get (D := g.1) (ci := 0) (v := .ref (g.2.2.1 16)) (C := RX0) (T := TX0) (N := 18) C.1 C.2.1 C.2.2.2.2.1 in_X0 C.2.2.2.1 C.2.2.2.2.2.1 hP 0 rfl rfl 16 (by decide) (C.2.2.2.2.1 _ q51) (fun _ h9 => h9) rfl d (kk H locs ls hP hD hS hl)
theorem jl_frameBoth (C : jC p s m args meth c A g.1 nL cc RX0 (jty g)) {i : Nat} (d : decode cc pc = .ok (.baload, 1) ∧ pc + 1 = n) (hi : i < 32) (kk : JJ p l e R s m args below meth c ce sl Q A g.1 nL (jw g N K) n L (.int (nI (N 16 i)) :: st)) : JJ p l e R s m args below meth c ce sl Q A g.1 nL (jw g N K) pc L (.int (nI i) :: .ref (g.2.2.1 16) :: st) := by
  obtain ⟨d, rfl⟩ := d
  have hc := nI_clamp (n := i) (by omega)
  exact fun H locs ls hP hD hS hl => va_zald C.1 C.2.1 C.2.2.2.2.2.1 hP 12 11 rfl rfl (vp_in_nI hi (by decide)) d (by rw [hc]; exact kk H locs ls hP hD hS hl)
theorem js_frameBoth (C : jC p s m args meth c A g.1 nL cc RX0 (jty g)) {i v : Nat} (d : decode cc pc = .ok (.bastore, 1) ∧ pc + 1 = n) (hi : i < 32) (hv : v < 2) (kk : JJ p l e R s m args below meth c ce sl Q A g.1 nL (jw g (jup N 16 i v) K) n L st) : JJ p l e R s m args below meth c ce sl Q A g.1 nL (jw g N K) pc L (.int (nI v) :: .int (nI i) :: .ref (g.2.2.1 16) :: st) := by
  obtain ⟨d, rfl⟩ := d
  have hc := nI_clamp (n := i) (by omega)
  refine fun H locs ls hP hD hS hl => va_zast C.1 C.2.1 C.2.2.2.2.2.1 hP hD hS 12 11 rfl rfl (vp_in_nI hi (by decide)) d (fun H1 locs1 hP1 hD1 hS1 => ?_)
  rw [hc, ju_bool hv] at hP1 hD1
  exact kk H1 locs1 ls hP1 hD1 hS1 hl
theorem jg_frameSecond (C : jC p s m args meth c A g.1 nL cc RX0 (jty g)) (d : decode cc pc = .ok (.getfield 49, 3) ∧ pc + 3 = n) (kk : JJ p l e R s m args below meth c ce sl Q A g.1 nL (jw g N K) n L (.ref (g.2.2.1 17) :: st)) : JJ p l e R s m args below meth c ce sl Q A g.1 nL (jw g N K) pc L (.ref g.2.1 :: st) := by
  obtain ⟨d, rfl⟩ := d
  exact fun H locs ls hP hD hS hl => va_get (D := g.1) (ci := 0) (v := .ref (g.2.2.1 17)) (C := RX0) (T := TX0) (N := 18) C.1 C.2.1 C.2.2.2.2.1 in_X0 C.2.2.2.1 C.2.2.2.2.2.1 hP 0 rfl rfl 17 (by decide) (C.2.2.2.2.1 _ q52) (fun _ h9 => h9) rfl d (kk H locs ls hP hD hS hl)
theorem jl_frameSecond (C : jC p s m args meth c A g.1 nL cc RX0 (jty g)) {i : Nat} (d : decode cc pc = .ok (.baload, 1) ∧ pc + 1 = n) (hi : i < 32) (kk : JJ p l e R s m args below meth c ce sl Q A g.1 nL (jw g N K) n L (.int (nI (N 17 i)) :: st)) : JJ p l e R s m args below meth c ce sl Q A g.1 nL (jw g N K) pc L (.int (nI i) :: .ref (g.2.2.1 17) :: st) := by
  obtain ⟨d, rfl⟩ := d
  have hc := nI_clamp (n := i) (by omega)
  exact fun H locs ls hP hD hS hl => va_zald C.1 C.2.1 C.2.2.2.2.2.1 hP 13 12 rfl rfl (vp_in_nI hi (by decide)) d (by rw [hc]; exact kk H locs ls hP hD hS hl)
theorem js_frameSecond (C : jC p s m args meth c A g.1 nL cc RX0 (jty g)) {i v : Nat} (d : decode cc pc = .ok (.bastore, 1) ∧ pc + 1 = n) (hi : i < 32) (hv : v < 2) (kk : JJ p l e R s m args below meth c ce sl Q A g.1 nL (jw g (jup N 17 i v) K) n L st) : JJ p l e R s m args below meth c ce sl Q A g.1 nL (jw g N K) pc L (.int (nI v) :: .int (nI i) :: .ref (g.2.2.1 17) :: st) := by
  obtain ⟨d, rfl⟩ := d
  have hc := nI_clamp (n := i) (by omega)
  refine fun H locs ls hP hD hS hl => va_zast C.1 C.2.1 C.2.2.2.2.2.1 hP hD hS 13 12 rfl rfl (vp_in_nI hi (by decide)) d (fun H1 locs1 hP1 hD1 hS1 => ?_)
  rw [hc, ju_bool hv] at hP1 hD1
  exact kk H1 locs1 ls hP1 hD1 hS1 hl
theorem jg_mints (C : jC p s m args meth c A g.1 nL cc RX1 (mty g)) (d : decode cc pc = .ok (.getfield 7, 3) ∧ pc + 3 = n) (kk : JJ p l e R s m args below meth c ce sl Q A g.1 nL (mw g N K) n L (.ref (g.2.2.1 0) :: st)) : JJ p l e R s m args below meth c ce sl Q A g.1 nL (mw g N K) pc L (.ref g.2.1 :: st) := by
  obtain ⟨d, rfl⟩ := d
  exact fun H locs ls hP hD hS hl => va_get (D := g.1) (ci := 1) (v := .ref (g.2.2.1 0)) (C := RX1) (T := TX1) (N := 4) C.1 C.2.1 C.2.2.2.2.1 in_X1 C.2.2.2.1 C.2.2.2.2.2.1 hP 0 rfl rfl 0 (by decide) (C.2.2.2.2.1 _ q231) (fun _ h9 => h9) rfl d (kk H locs ls hP hD hS hl)
theorem jl_mints (C : jC p s m args meth c A g.1 nL cc RX1 (mty g)) {i : Nat} (d : decode cc pc = .ok (.iaload, 1) ∧ pc + 1 = n) (hi : i < 80) (kk : JJ p l e R s m args below meth c ce sl Q A g.1 nL (mw g N K) n L (.int (K 0 i) :: st)) : JJ p l e R s m args below meth c ce sl Q A g.1 nL (mw g N K) pc L (.int (nI i) :: .ref (g.2.2.1 0) :: st) := by
  obtain ⟨d, rfl⟩ := d
  have hc := nI_clamp (n := i) (by omega)
  exact fun H locs ls hP hD hS hl => va_iald C.1 C.2.1 C.2.2.2.2.2.1 hP 1 0 rfl rfl (vp_in_nI hi (by decide)) d (by rw [hc]; exact kk H locs ls hP hD hS hl)
theorem js_mints (C : jC p s m args meth c A g.1 nL cc RX1 (mty g)) {i : Nat} {x : Int32} (d : decode cc pc = .ok (.iastore, 1) ∧ pc + 1 = n) (hi : i < 80) (kk : JJ p l e R s m args below meth c ce sl Q A g.1 nL (mw g N (jup K 0 i x)) n L st) : JJ p l e R s m args below meth c ce sl Q A g.1 nL (mw g N K) pc L (.int x :: .int (nI i) :: .ref (g.2.2.1 0) :: st) := by
  obtain ⟨d, rfl⟩ := d
  have hc := nI_clamp (n := i) (by omega)
  refine fun H locs ls hP hD hS hl => va_iast C.1 C.2.1 C.2.2.2.2.2.1 hP hD hS 1 0 rfl rfl (vp_in_nI hi (by decide)) d (fun H1 locs1 hP1 hD1 hS1 => ?_)
  rw [hc] at hP1 hD1
  exact kk H1 locs1 ls hP1 hD1 hS1 hl
theorem jg_msizes (C : jC p s m args meth c A g.1 nL cc RX1 (mty g)) (d : decode cc pc = .ok (.getfield 13, 3) ∧ pc + 3 = n) (kk : JJ p l e R s m args below meth c ce sl Q A g.1 nL (mw g N K) n L (.ref (g.2.2.1 1) :: st)) : JJ p l e R s m args below meth c ce sl Q A g.1 nL (mw g N K) pc L (.ref g.2.1 :: st) := by
  obtain ⟨d, rfl⟩ := d
  exact fun H locs ls hP hD hS hl => va_get (D := g.1) (ci := 1) (v := .ref (g.2.2.1 1)) (C := RX1) (T := TX1) (N := 4) C.1 C.2.1 C.2.2.2.2.1 in_X1 C.2.2.2.1 C.2.2.2.2.2.1 hP 0 rfl rfl 1 (by decide) (C.2.2.2.2.1 _ q232) (fun _ h9 => h9) rfl d (kk H locs ls hP hD hS hl)
theorem jl_msizes (C : jC p s m args meth c A g.1 nL cc RX1 (mty g)) {i : Nat} (d : decode cc pc = .ok (.iaload, 1) ∧ pc + 1 = n) (hi : i < 4) (kk : JJ p l e R s m args below meth c ce sl Q A g.1 nL (mw g N K) n L (.int (nI (N 1 i)) :: st)) : JJ p l e R s m args below meth c ce sl Q A g.1 nL (mw g N K) pc L (.int (nI i) :: .ref (g.2.2.1 1) :: st) := by
  obtain ⟨d, rfl⟩ := d
  have hc := nI_clamp (n := i) (by omega)
  exact fun H locs ls hP hD hS hl => va_iald C.1 C.2.1 C.2.2.2.2.2.1 hP 2 1 rfl rfl (vp_in_nI hi (by decide)) d (by rw [hc]; exact kk H locs ls hP hD hS hl)
theorem js_msizes (C : jC p s m args meth c A g.1 nL cc RX1 (mty g)) {i v : Nat} (d : decode cc pc = .ok (.iastore, 1) ∧ pc + 1 = n) (hi : i < 4) (kk : JJ p l e R s m args below meth c ce sl Q A g.1 nL (mw g (jup N 1 i v) K) n L st) : JJ p l e R s m args below meth c ce sl Q A g.1 nL (mw g N K) pc L (.int (nI v) :: .int (nI i) :: .ref (g.2.2.1 1) :: st) := by
  obtain ⟨d, rfl⟩ := d
  have hc := nI_clamp (n := i) (by omega)
  refine fun H locs ls hP hD hS hl => va_iast C.1 C.2.1 C.2.2.2.2.2.1 hP hD hS 2 1 rfl rfl (vp_in_nI hi (by decide)) d (fun H1 locs1 hP1 hD1 hS1 => ?_)
  rw [hc, ju_int] at hP1 hD1
  exact kk H1 locs1 ls hP1 hD1 hS1 hl
theorem jg_mresult (C : jC p s m args meth c A g.1 nL cc RX1 (mty g)) (d : decode cc pc = .ok (.getfield 16, 3) ∧ pc + 3 = n) (kk : JJ p l e R s m args below meth c ce sl Q A g.1 nL (mw g N K) n L (.ref (g.2.2.1 2) :: st)) : JJ p l e R s m args below meth c ce sl Q A g.1 nL (mw g N K) pc L (.ref g.2.1 :: st) := by
  obtain ⟨d, rfl⟩ := d
  exact fun H locs ls hP hD hS hl => va_get (D := g.1) (ci := 1) (v := .ref (g.2.2.1 2)) (C := RX1) (T := TX1) (N := 4) C.1 C.2.1 C.2.2.2.2.1 in_X1 C.2.2.2.1 C.2.2.2.2.2.1 hP 0 rfl rfl 2 (by decide) (C.2.2.2.2.1 _ q233) (fun _ h9 => h9) rfl d (kk H locs ls hP hD hS hl)
theorem jl_mresult (C : jC p s m args meth c A g.1 nL cc RX1 (mty g)) {i : Nat} (d : decode cc pc = .ok (.iaload, 1) ∧ pc + 1 = n) (hi : i < 40) (kk : JJ p l e R s m args below meth c ce sl Q A g.1 nL (mw g N K) n L (.int (K 2 i) :: st)) : JJ p l e R s m args below meth c ce sl Q A g.1 nL (mw g N K) pc L (.int (nI i) :: .ref (g.2.2.1 2) :: st) := by
  obtain ⟨d, rfl⟩ := d
  have hc := nI_clamp (n := i) (by omega)
  exact fun H locs ls hP hD hS hl => va_iald C.1 C.2.1 C.2.2.2.2.2.1 hP 3 2 rfl rfl (vp_in_nI hi (by decide)) d (by rw [hc]; exact kk H locs ls hP hD hS hl)
theorem js_mresult (C : jC p s m args meth c A g.1 nL cc RX1 (mty g)) {i : Nat} {x : Int32} (d : decode cc pc = .ok (.iastore, 1) ∧ pc + 1 = n) (hi : i < 40) (kk : JJ p l e R s m args below meth c ce sl Q A g.1 nL (mw g N (jup K 2 i x)) n L st) : JJ p l e R s m args below meth c ce sl Q A g.1 nL (mw g N K) pc L (.int x :: .int (nI i) :: .ref (g.2.2.1 2) :: st) := by
  obtain ⟨d, rfl⟩ := d
  have hc := nI_clamp (n := i) (by omega)
  refine fun H locs ls hP hD hS hl => va_iast C.1 C.2.1 C.2.2.2.2.2.1 hP hD hS 3 2 rfl rfl (vp_in_nI hi (by decide)) d (fun H1 locs1 hP1 hD1 hS1 => ?_)
  rw [hc] at hP1 hD1
  exact kk H1 locs1 ls hP1 hD1 hS1 hl
theorem jg_mfound (C : jC p s m args meth c A g.1 nL cc RX1 (mty g)) (d : decode cc pc = .ok (.getfield 35, 3) ∧ pc + 3 = n) (kk : JJ p l e R s m args below meth c ce sl Q A g.1 nL (mw g N K) n L (.int (nI (N 3 0)) :: st)) : JJ p l e R s m args below meth c ce sl Q A g.1 nL (mw g N K) pc L (.ref g.2.1 :: st) := by
  obtain ⟨d, rfl⟩ := d
  exact fun H locs ls hP hD hS hl => va_get (D := g.1) (ci := 1) (v := .int (nI (N 3 0))) (C := RX1) (T := TX1) (N := 4) C.1 C.2.1 C.2.2.2.2.1 in_X1 C.2.2.2.1 C.2.2.2.2.2.1 hP 0 rfl rfl 3 (by decide) (C.2.2.2.2.1 _ q234) (fun _ h9 => h9) rfl d (kk H locs ls hP hD hS hl)
theorem jp_mfound (C : jC p s m args meth c A g.1 nL cc RX1 (mty g)) {v : Nat} (d : decode cc pc = .ok (.putfield 35, 3) ∧ pc + 3 = n) (kk : JJ p l e R s m args below meth c ce sl Q A g.1 nL (mw g (jup N 3 0 v) K) n L st) : JJ p l e R s m args below meth c ce sl Q A g.1 nL (mw g N K) pc L (.int (nI v) :: .ref g.2.1 :: st) := by
  obtain ⟨d, rfl⟩ := d
  exact fun H locs ls hP hD hS hl => va_put (D := g.1) (ci := 1) (v := .int (nI v)) (ty := .int) (C := RX1) (T := TX1) (N := 4) C.1 C.2.1 C.2.2.2.2.1 in_X1 tyX1 tyX1_ok nmX1 C.2.2.2.1 C.2.2.2.2.2.1 hP hD hS 0 rfl rfl 3 (by decide) (C.2.2.2.2.1 _ q234) (fun _ h9 => h9) rfl (by decide +kernel) rfl rfl (Nat.le_of_ble_eq_true rfl) d (fun H1 locs1 hP1 hD1 hS1 => kk H1 locs1 ls hP1 hD1 hS1 hl)
abbrev LX0_add : Nat := 5
abbrev LX0_isSet : Nat := 0
theorem jc_isSet (C : jC p s m args meth c A g.1 nL cc RX0 (jty g)) {v0 : Value} {post : Int32 → (Nat → Nat → Nat) → (Nat → Nat → Int32) → Prop} (d : decode cc pc = .ok (.invokevirtual 56, 3) ∧ pc + 3 = n) (hR : 0 + 1 ≤ R.frames ∧ 8 + (2 + 11) + 0 ≤ R.locals) (hst : (st.map fun v => v.category).sum ≤ 8) (hM : jI l jw jty yX0_isSet cX0_isSet 2 .boolean 0 [v0] N K post) (kk : ∀ r N1 K1, post r N1 K1 → JJ p l e R s m args below meth c 0 0 Q A g.1 nL (jw g N1 K1) n L (.int r :: st)) : JJ p l e R s m args below meth c 0 0 Q A g.1 nL (jw g N K) pc L (v0 :: .ref g.2.1 :: st) :=
  jcallI C (As := [v0]) (ci := 0) rfl hM (cwV 1 C.2.2.2.2.1 (lw_V q98 q100 qs0 q25 q101) rfl rfl rfl (by decide +kernel) hR) (by exact rfl) d hst kk
abbrev LX0_has : Nat := 1
theorem jc_has (C : jC p s m args meth c A g.1 nL cc RX0 (jty g)) {v0 v1 : Value} {post : Int32 → (Nat → Nat → Nat) → (Nat → Nat → Int32) → Prop} (d : decode cc pc = .ok (.invokevirtual 60, 3) ∧ pc + 3 = n) (hR : 1 + 1 ≤ R.frames ∧ 8 + (4 + 11) + 40 ≤ R.locals) (hst : (st.map fun v => v.category).sum ≤ 8) (hM : jI l jw jty yX0_has cX0_has 4 .boolean 1 [v0, v1] N K post) (kk : ∀ r N1 K1, post r N1 K1 → JJ p l e R s m args below meth c 0 0 Q A g.1 nL (jw g N1 K1) n L (.int r :: st)) : JJ p l e R s m args below meth c 0 0 Q A g.1 nL (jw g N K) pc L (v1 :: v0 :: .ref g.2.1 :: st) :=
  jcallI C (As := [v0, v1]) (ci := 0) rfl hM (cwV 2 C.2.2.2.2.1 (lw_V q102 q103 q104 q25 q105) rfl rfl rfl (by decide +kernel) hR) (by exact rfl) d hst kk
abbrev LX0_splitTree : Nat := 4
theorem jc_splitTree (C : jC p s m args meth c A g.1 nL cc RX0 (jty g)) {v0 v1 : Value} {post : (Nat → Nat → Nat) → (Nat → Nat → Int32) → Prop} (d : decode cc pc = .ok (.invokevirtual 64, 3) ∧ pc + 3 = n) (hR : 4 + 1 ≤ R.frames ∧ 8 + (8 + 11) + 160 ≤ R.locals) (hst : (st.map fun v => v.category).sum ≤ 8) (hM : jV l jw jty yX0_splitTree cX0_splitTree 8 4 [v0, v1] N K post) (kk : ∀ N1 K1, post N1 K1 → JJ p l e R s m args below meth c 0 0 Q A g.1 nL (jw g N1 K1) n L st) : JJ p l e R s m args below meth c 0 0 Q A g.1 nL (jw g N K) pc L (v1 :: v0 :: .ref g.2.1 :: st) :=
  jcallV C (As := [v0, v1]) (ci := 0) rfl hM (cwV 2 C.2.2.2.2.1 (lw_V q106 q108 qs1 q25 q109) rfl rfl rfl (by decide +kernel) hR) (by exact rfl) d hst kk
abbrev LX0_pushWay : Nat := 0
theorem jc_pushWay (C : jC p s m args meth c A g.1 nL cc RX0 (jty g)) {v0 v1 : Value} {post : (Nat → Nat → Nat) → (Nat → Nat → Int32) → Prop} (d : decode cc pc = .ok (.invokevirtual 115, 3) ∧ pc + 3 = n) (hR : 0 + 1 ≤ R.frames ∧ 8 + (3 + 11) + 0 ≤ R.locals) (hst : (st.map fun v => v.category).sum ≤ 8) (hM : jV l jw jty yX0_pushWay cX0_pushWay 3 0 [v0, v1] N K post) (kk : ∀ N1 K1, post N1 K1 → JJ p l e R s m args below meth c 0 0 Q A g.1 nL (jw g N1 K1) n L st) : JJ p l e R s m args below meth c 0 0 Q A g.1 nL (jw g N K) pc L (v1 :: v0 :: .ref g.2.1 :: st) :=
  jcallV C (As := [v0, v1]) (ci := 0) rfl hM (cwV 2 C.2.2.2.2.1 (lw_V q110 q112 qs2 q25 q113) rfl rfl rfl (by decide +kernel) hR) (by exact rfl) d hst kk
abbrev LX0_join : Nat := 3
theorem jc_join (C : jC p s m args meth c A g.1 nL cc RX0 (jty g)) {v0 v1 v2 : Value} {post : Int32 → (Nat → Nat → Nat) → (Nat → Nat → Int32) → Prop} (d : decode cc pc = .ok (.invokevirtual 78, 3) ∧ pc + 3 = n) (hR : 3 + 1 ≤ R.frames ∧ 8 + (11 + 11) + 120 ≤ R.locals) (hst : (st.map fun v => v.category).sum ≤ 8) (hM : jI l jw jty yX0_join cX0_join 11 .int 3 [v0, v1, v2] N K post) (kk : ∀ r N1 K1, post r N1 K1 → JJ p l e R s m args below meth c 0 0 Q A g.1 nL (jw g N1 K1) n L (.int r :: st)) : JJ p l e R s m args below meth c 0 0 Q A g.1 nL (jw g N K) pc L (v2 :: v1 :: v0 :: .ref g.2.1 :: st) :=
  jcallI C (As := [v0, v1, v2]) (ci := 0) rfl hM (cwV 3 C.2.2.2.2.1 (lw_V q114 q116 qs3 q25 q117) rfl rfl rfl (by decide +kernel) hR) (by exact rfl) d hst kk
abbrev LX0_weight : Nat := 0
theorem jc_weight (C : jC p s m args meth c A g.1 nL cc RX0 (jty g)) {v0 : Value} {post : Int32 → (Nat → Nat → Nat) → (Nat → Nat → Int32) → Prop} (d : decode cc pc = .ok (.invokevirtual 125, 3) ∧ pc + 3 = n) (hR : 0 + 1 ≤ R.frames ∧ 8 + (2 + 11) + 0 ≤ R.locals) (hst : (st.map fun v => v.category).sum ≤ 8) (hM : jI l jw jty yX0_weight cX0_weight 2 .int 0 [v0] N K post) (kk : ∀ r N1 K1, post r N1 K1 → JJ p l e R s m args below meth c 0 0 Q A g.1 nL (jw g N1 K1) n L (.int r :: st)) : JJ p l e R s m args below meth c 0 0 Q A g.1 nL (jw g N K) pc L (v0 :: .ref g.2.1 :: st) :=
  jcallI C (As := [v0]) (ci := 0) rfl hM (cwV 1 C.2.2.2.2.1 (lw_V q118 q120 qs4 q25 q121) rfl rfl rfl (by decide +kernel) hR) (by exact rfl) d hst kk
abbrev LX0_balanced : Nat := 2
theorem jc_balanced (C : jC p s m args meth c A g.1 nL cc RX0 (jty g)) {v0 : Value} {post : Int32 → (Nat → Nat → Nat) → (Nat → Nat → Int32) → Prop} (d : decode cc pc = .ok (.invokevirtual 134, 3) ∧ pc + 3 = n) (hR : 2 + 1 ≤ R.frames ∧ 8 + (4 + 11) + 80 ≤ R.locals) (hst : (st.map fun v => v.category).sum ≤ 8) (hM : jI l jw jty yX0_balanced cX0_balanced 4 .int 2 [v0] N K post) (kk : ∀ r N1 K1, post r N1 K1 → JJ p l e R s m args below meth c 0 0 Q A g.1 nL (jw g N1 K1) n L (.int r :: st)) : JJ p l e R s m args below meth c 0 0 Q A g.1 nL (jw g N K) pc L (v0 :: .ref g.2.1 :: st) :=
  jcallI C (As := [v0]) (ci := 0) rfl hM (cwV 1 C.2.2.2.2.1 (lw_V q122 q124 qs5 q25 q125) rfl rfl rfl (by decide +kernel) hR) (by exact rfl) d hst kk
abbrev LX0_update : Nat := 0
theorem jc_update (C : jC p s m args meth c A g.1 nL cc RX0 (jty g)) {v0 : Value} {post : (Nat → Nat → Nat) → (Nat → Nat → Int32) → Prop} (d : decode cc pc = .ok (.invokevirtual 122, 3) ∧ pc + 3 = n) (hR : 0 + 1 ≤ R.frames ∧ 8 + (2 + 11) + 0 ≤ R.locals) (hst : (st.map fun v => v.category).sum ≤ 8) (hM : jV l jw jty yX0_update cX0_update 2 0 [v0] N K post) (kk : ∀ N1 K1, post N1 K1 → JJ p l e R s m args below meth c 0 0 Q A g.1 nL (jw g N1 K1) n L st) : JJ p l e R s m args below meth c 0 0 Q A g.1 nL (jw g N K) pc L (v0 :: .ref g.2.1 :: st) :=
  jcallV C (As := [v0]) (ci := 0) rfl hM (cwV 1 C.2.2.2.2.1 (lw_V q126 q128 qs6 q25 q129) rfl rfl rfl (by decide +kernel) hR) (by exact rfl) d hst kk
abbrev LX0_rotatedRight : Nat := 1
theorem jc_rotatedRight (C : jC p s m args meth c A g.1 nL cc RX0 (jty g)) {v0 : Value} {post : Int32 → (Nat → Nat → Nat) → (Nat → Nat → Int32) → Prop} (d : decode cc pc = .ok (.invokevirtual 128, 3) ∧ pc + 3 = n) (hR : 1 + 1 ≤ R.frames ∧ 8 + (3 + 11) + 40 ≤ R.locals) (hst : (st.map fun v => v.category).sum ≤ 8) (hM : jI l jw jty yX0_rotatedRight cX0_rotatedRight 3 .int 1 [v0] N K post) (kk : ∀ r N1 K1, post r N1 K1 → JJ p l e R s m args below meth c 0 0 Q A g.1 nL (jw g N1 K1) n L (.int r :: st)) : JJ p l e R s m args below meth c 0 0 Q A g.1 nL (jw g N K) pc L (v0 :: .ref g.2.1 :: st) :=
  jcallI C (As := [v0]) (ci := 0) rfl hM (cwV 1 C.2.2.2.2.1 (lw_V q130 q132 qs7 q25 q133) rfl rfl rfl (by decide +kernel) hR) (by exact rfl) d hst kk
abbrev LX0_rotatedLeft : Nat := 1
theorem jc_rotatedLeft (C : jC p s m args meth c A g.1 nL cc RX0 (jty g)) {v0 : Value} {post : Int32 → (Nat → Nat → Nat) → (Nat → Nat → Int32) → Prop} (d : decode cc pc = .ok (.invokevirtual 131, 3) ∧ pc + 3 = n) (hR : 1 + 1 ≤ R.frames ∧ 8 + (3 + 11) + 40 ≤ R.locals) (hst : (st.map fun v => v.category).sum ≤ 8) (hM : jI l jw jty yX0_rotatedLeft cX0_rotatedLeft 3 .int 1 [v0] N K post) (kk : ∀ r N1 K1, post r N1 K1 → JJ p l e R s m args below meth c 0 0 Q A g.1 nL (jw g N1 K1) n L (.int r :: st)) : JJ p l e R s m args below meth c 0 0 Q A g.1 nL (jw g N K) pc L (v0 :: .ref g.2.1 :: st) :=
  jcallI C (As := [v0]) (ci := 0) rfl hM (cwV 1 C.2.2.2.2.1 (lw_V q134 q136 qs8 q25 q137) rfl rfl rfl (by decide +kernel) hR) (by exact rfl) d hst kk
abbrev LX0_newNode : Nat := 0
theorem jc_newNode (C : jC p s m args meth c A g.1 nL cc RX0 (jty g)) {v0 : Value} {post : Int32 → (Nat → Nat → Nat) → (Nat → Nat → Int32) → Prop} (d : decode cc pc = .ok (.invokevirtual 71, 3) ∧ pc + 3 = n) (hR : 0 + 1 ≤ R.frames ∧ 8 + (3 + 11) + 0 ≤ R.locals) (hst : (st.map fun v => v.category).sum ≤ 8) (hM : jI l jw jty yX0_newNode cX0_newNode 3 .int 0 [v0] N K post) (kk : ∀ r N1 K1, post r N1 K1 → JJ p l e R s m args below meth c 0 0 Q A g.1 nL (jw g N1 K1) n L (.int r :: st)) : JJ p l e R s m args below meth c 0 0 Q A g.1 nL (jw g N K) pc L (v0 :: .ref g.2.1 :: st) :=
  jcallI C (As := [v0]) (ci := 0) rfl hM (cwV 1 C.2.2.2.2.1 (lw_V q138 q140 qs9 q25 q141) rfl rfl rfl (by decide +kernel) hR) (by exact rfl) d hst kk
abbrev LX0_remove : Nat := 6
abbrev LX0_release : Nat := 0
theorem jc_release (C : jC p s m args meth c A g.1 nL cc RX0 (jty g)) {v0 : Value} {post : (Nat → Nat → Nat) → (Nat → Nat → Int32) → Prop} (d : decode cc pc = .ok (.invokevirtual 85, 3) ∧ pc + 3 = n) (hR : 0 + 1 ≤ R.frames ∧ 8 + (2 + 11) + 0 ≤ R.locals) (hst : (st.map fun v => v.category).sum ≤ 8) (hM : jV l jw jty yX0_release cX0_release 2 0 [v0] N K post) (kk : ∀ N1 K1, post N1 K1 → JJ p l e R s m args below meth c 0 0 Q A g.1 nL (jw g N1 K1) n L st) : JJ p l e R s m args below meth c 0 0 Q A g.1 nL (jw g N K) pc L (v0 :: .ref g.2.1 :: st) :=
  jcallV C (As := [v0]) (ci := 0) rfl hM (cwV 1 C.2.2.2.2.1 (lw_V q146 q148 qs10 q25 q149) rfl rfl rfl (by decide +kernel) hR) (by exact rfl) d hst kk
abbrev LX0_joinTwo : Nat := 5
theorem jc_joinTwo (C : jC p s m args meth c A g.1 nL cc RX0 (jty g)) {v0 v1 : Value} {post : Int32 → (Nat → Nat → Nat) → (Nat → Nat → Int32) → Prop} (d : decode cc pc = .ok (.invokevirtual 89, 3) ∧ pc + 3 = n) (hR : 5 + 1 ≤ R.frames ∧ 8 + (4 + 11) + 200 ≤ R.locals) (hst : (st.map fun v => v.category).sum ≤ 8) (hM : jI l jw jty yX0_joinTwo cX0_joinTwo 4 .int 5 [v0, v1] N K post) (kk : ∀ r N1 K1, post r N1 K1 → JJ p l e R s m args below meth c 0 0 Q A g.1 nL (jw g N1 K1) n L (.int r :: st)) : JJ p l e R s m args below meth c 0 0 Q A g.1 nL (jw g N K) pc L (v1 :: v0 :: .ref g.2.1 :: st) :=
  jcallI C (As := [v0, v1]) (ci := 0) rfl hM (cwV 2 C.2.2.2.2.1 (lw_V q150 q152 qs11 q25 q153) rfl rfl rfl (by decide +kernel) hR) (by exact rfl) d hst kk
abbrev LX0_size : Nat := 1
abbrev LX0_at : Nat := 1
abbrev LX0_rank : Nat := 1
theorem jc_rank (C : jC p s m args meth c A g.1 nL cc RX0 (jty g)) {v0 v1 : Value} {post : Int32 → (Nat → Nat → Nat) → (Nat → Nat → Int32) → Prop} (d : decode cc pc = .ok (.invokevirtual 109, 3) ∧ pc + 3 = n) (hR : 1 + 1 ≤ R.frames ∧ 8 + (5 + 11) + 40 ≤ R.locals) (hst : (st.map fun v => v.category).sum ≤ 8) (hM : jI l jw jty yX0_rank cX0_rank 5 .int 1 [v0, v1] N K post) (kk : ∀ r N1 K1, post r N1 K1 → JJ p l e R s m args below meth c 0 0 Q A g.1 nL (jw g N1 K1) n L (.int r :: st)) : JJ p l e R s m args below meth c 0 0 Q A g.1 nL (jw g N K) pc L (v1 :: v0 :: .ref g.2.1 :: st) :=
  jcallI C (As := [v0, v1]) (ci := 0) rfl hM (cwV 2 C.2.2.2.2.1 (lw_V q220 q164 q165 q25 q166) rfl rfl rfl (by decide +kernel) hR) (by exact rfl) d hst kk
abbrev LX0_combine : Nat := 9
abbrev LX0_copyOf : Nat := 2
theorem jc_copyOf (C : jC p s m args meth c A g.1 nL cc RX0 (jty g)) {v0 : Value} {post : Int32 → (Nat → Nat → Nat) → (Nat → Nat → Int32) → Prop} (d : decode cc pc = .ok (.invokevirtual 93, 3) ∧ pc + 3 = n) (hR : 2 + 1 ≤ R.frames ∧ 8 + (4 + 11) + 80 ≤ R.locals) (hst : (st.map fun v => v.category).sum ≤ 8) (hM : jI l jw jty yX0_copyOf cX0_copyOf 4 .int 2 [v0] N K post) (kk : ∀ r N1 K1, post r N1 K1 → JJ p l e R s m args below meth c 0 0 Q A g.1 nL (jw g N1 K1) n L (.int r :: st)) : JJ p l e R s m args below meth c 0 0 Q A g.1 nL (jw g N K) pc L (v0 :: .ref g.2.1 :: st) :=
  jcallI C (As := [v0]) (ci := 0) rfl hM (cwV 1 C.2.2.2.2.1 (lw_V q171 q173 qs12 q25 q174) rfl rfl rfl (by decide +kernel) hR) (by exact rfl) d hst kk
abbrev LX0_twin : Nat := 1
theorem jc_twin (C : jC p s m args meth c A g.1 nL cc RX0 (jty g)) {v0 : Value} {post : Int32 → (Nat → Nat → Nat) → (Nat → Nat → Int32) → Prop} (d : decode cc pc = .ok (.invokevirtual 119, 3) ∧ pc + 3 = n) (hR : 1 + 1 ≤ R.frames ∧ 8 + (3 + 11) + 40 ≤ R.locals) (hst : (st.map fun v => v.category).sum ≤ 8) (hM : jI l jw jty yX0_twin cX0_twin 3 .int 1 [v0] N K post) (kk : ∀ r N1 K1, post r N1 K1 → JJ p l e R s m args below meth c 0 0 Q A g.1 nL (jw g N1 K1) n L (.int r :: st)) : JJ p l e R s m args below meth c 0 0 Q A g.1 nL (jw g N K) pc L (v0 :: .ref g.2.1 :: st) :=
  jcallI C (As := [v0]) (ci := 0) rfl hM (cwV 1 C.2.2.2.2.1 (lw_V q175 q177 qs13 q25 q178) rfl rfl rfl (by decide +kernel) hR) (by exact rfl) d hst kk
abbrev LX0_combinedEither : Nat := 8
theorem jc_combinedEither (C : jC p s m args meth c A g.1 nL cc RX0 (jty g)) {v0 v1 v2 v3 : Value} {post : Int32 → (Nat → Nat → Nat) → (Nat → Nat → Int32) → Prop} (d : decode cc pc = .ok (.invokevirtual 96, 3) ∧ pc + 3 = n) (hR : 8 + 1 ≤ R.frames ∧ 8 + (9 + 11) + 320 ≤ R.locals) (hst : (st.map fun v => v.category).sum ≤ 8) (hM : jI l jw jty yX0_combinedEither cX0_combinedEither 9 .int 8 [v0, v1, v2, v3] N K post) (kk : ∀ r N1 K1, post r N1 K1 → JJ p l e R s m args below meth c 0 0 Q A g.1 nL (jw g N1 K1) n L (.int r :: st)) : JJ p l e R s m args below meth c 0 0 Q A g.1 nL (jw g N K) pc L (v3 :: v2 :: v1 :: v0 :: .ref g.2.1 :: st) :=
  jcallI C (As := [v0, v1, v2, v3]) (ci := 0) rfl hM (cwV 4 C.2.2.2.2.1 (lw_V q179 q181 qs14 q25 q182) rfl rfl rfl (by decide +kernel) hR) (by exact rfl) d hst kk
abbrev LX0_combined : Nat := 7
theorem jc_combined (C : jC p s m args meth c A g.1 nL cc RX0 (jty g)) {v0 v1 v2 : Value} {post : Int32 → (Nat → Nat → Nat) → (Nat → Nat → Int32) → Prop} (d : decode cc pc = .ok (.invokevirtual 100, 3) ∧ pc + 3 = n) (hR : 7 + 1 ≤ R.frames ∧ 8 + (10 + 11) + 280 ≤ R.locals) (hst : (st.map fun v => v.category).sum ≤ 8) (hM : jI l jw jty yX0_combined cX0_combined 10 .int 7 [v0, v1, v2] N K post) (kk : ∀ r N1 K1, post r N1 K1 → JJ p l e R s m args below meth c 0 0 Q A g.1 nL (jw g N1 K1) n L (.int r :: st)) : JJ p l e R s m args below meth c 0 0 Q A g.1 nL (jw g N K) pc L (v2 :: v1 :: v0 :: .ref g.2.1 :: st) :=
  jcallI C (As := [v0, v1, v2]) (ci := 0) rfl hM (cwV 3 C.2.2.2.2.1 (lw_V q183 q185 qs15 q25 q186) rfl rfl rfl (by decide +kernel) hR) (by exact rfl) d hst kk
abbrev LX0_withNothing : Nat := 2
theorem jc_withNothing (C : jC p s m args meth c A g.1 nL cc RX0 (jty g)) {v0 v1 v2 : Value} {post : Int32 → (Nat → Nat → Nat) → (Nat → Nat → Int32) → Prop} (d : decode cc pc = .ok (.invokevirtual 137, 3) ∧ pc + 3 = n) (hR : 2 + 1 ≤ R.frames ∧ 8 + (4 + 11) + 80 ≤ R.locals) (hst : (st.map fun v => v.category).sum ≤ 8) (hM : jI l jw jty yX0_withNothing cX0_withNothing 4 .int 2 [v0, v1, v2] N K post) (kk : ∀ r N1 K1, post r N1 K1 → JJ p l e R s m args below meth c 0 0 Q A g.1 nL (jw g N1 K1) n L (.int r :: st)) : JJ p l e R s m args below meth c 0 0 Q A g.1 nL (jw g N K) pc L (v2 :: v1 :: v0 :: .ref g.2.1 :: st) :=
  jcallI C (As := [v0, v1, v2]) (ci := 0) rfl hM (cwV 3 C.2.2.2.2.1 (lw_V q187 q189 qs16 q25 q190) rfl rfl rfl (by decide +kernel) hR) (by exact rfl) d hst kk
abbrev LX0_releaseTree : Nat := 1
theorem jc_releaseTree (C : jC p s m args meth c A g.1 nL cc RX0 (jty g)) {v0 : Value} {post : (Nat → Nat → Nat) → (Nat → Nat → Int32) → Prop} (d : decode cc pc = .ok (.invokevirtual 103, 3) ∧ pc + 3 = n) (hR : 1 + 1 ≤ R.frames ∧ 8 + (3 + 11) + 40 ≤ R.locals) (hst : (st.map fun v => v.category).sum ≤ 8) (hM : jV l jw jty yX0_releaseTree cX0_releaseTree 3 1 [v0] N K post) (kk : ∀ N1 K1, post N1 K1 → JJ p l e R s m args below meth c 0 0 Q A g.1 nL (jw g N1 K1) n L st) : JJ p l e R s m args below meth c 0 0 Q A g.1 nL (jw g N K) pc L (v0 :: .ref g.2.1 :: st) :=
  jcallV C (As := [v0]) (ci := 0) rfl hM (cwV 1 C.2.2.2.2.1 (lw_V q191 q193 qs17 q25 q194) rfl rfl rfl (by decide +kernel) hR) (by exact rfl) d hst kk
abbrev LX0_finished : Nat := 6
theorem jc_finished (C : jC p s m args meth c A g.1 nL cc RX0 (jty g)) {v0 v1 v2 : Value} {post : Int32 → (Nat → Nat → Nat) → (Nat → Nat → Int32) → Prop} (d : decode cc pc = .ok (.invokevirtual 140, 3) ∧ pc + 3 = n) (hR : 6 + 1 ≤ R.frames ∧ 8 + (6 + 11) + 240 ≤ R.locals) (hst : (st.map fun v => v.category).sum ≤ 8) (hM : jI l jw jty yX0_finished cX0_finished 6 .int 6 [v0, v1, v2] N K post) (kk : ∀ r N1 K1, post r N1 K1 → JJ p l e R s m args below meth c 0 0 Q A g.1 nL (jw g N1 K1) n L (.int r :: st)) : JJ p l e R s m args below meth c 0 0 Q A g.1 nL (jw g N K) pc L (v2 :: v1 :: v0 :: .ref g.2.1 :: st) :=
  jcallI C (As := [v0, v1, v2]) (ci := 0) rfl hM (cwV 3 C.2.2.2.2.1 (lw_V q195 q197 qs18 q25 q198) rfl rfl rfl (by decide +kernel) hR) (by exact rfl) d hst kk
abbrev LX0_split : Nat := 5
abbrev LX0_removeRange : Nat := 6
abbrev LX0_same : Nat := 9
abbrev LX0_within : Nat := 8
theorem jc_within (C : jC p s m args meth c A g.1 nL cc RX0 (jty g)) {v0 v1 : Value} {post : Int32 → (Nat → Nat → Nat) → (Nat → Nat → Int32) → Prop} (d : decode cc pc = .ok (.invokevirtual 106, 3) ∧ pc + 3 = n) (hR : 8 + 1 ≤ R.frames ∧ 8 + (7 + 11) + 320 ≤ R.locals) (hst : (st.map fun v => v.category).sum ≤ 8) (hM : jI l jw jty yX0_within cX0_within 7 .boolean 8 [v0, v1] N K post) (kk : ∀ r N1 K1, post r N1 K1 → JJ p l e R s m args below meth c 0 0 Q A g.1 nL (jw g N1 K1) n L (.int r :: st)) : JJ p l e R s m args below meth c 0 0 Q A g.1 nL (jw g N K) pc L (v1 :: v0 :: .ref g.2.1 :: st) :=
  jcallI C (As := [v0, v1]) (ci := 0) rfl hM (cwV 2 C.2.2.2.2.1 (lw_V q211 q212 q213 q25 q214) rfl rfl rfl (by decide +kernel) hR) (by exact rfl) d hst kk
abbrev LX0_ceiling : Nat := 2
abbrev LX0_clear : Nat := 2
abbrev LX1_add : Nat := 2
abbrev LX1_isSet : Nat := 0
theorem jc_misSet (C : jC p s m args meth c A g.1 nL cc RX1 (mty g)) {v0 : Value} {post : Int32 → (Nat → Nat → Nat) → (Nat → Nat → Int32) → Prop} (d : decode cc pc = .ok (.invokevirtual 19, 3) ∧ pc + 3 = n) (hR : 0 + 1 ≤ R.frames ∧ 8 + (2 + 11) + 0 ≤ R.locals) (hst : (st.map fun v => v.category).sum ≤ 8) (hM : jI l mw mty yX1_isSet cX1_isSet 2 .boolean 0 [v0] N K post) (kk : ∀ r N1 K1, post r N1 K1 → JJ p l e R s m args below meth c 0 0 Q A g.1 nL (mw g N1 K1) n L (.int r :: st)) : JJ p l e R s m args below meth c 0 0 Q A g.1 nL (mw g N K) pc L (v0 :: .ref g.2.1 :: st) :=
  jcallI C (As := [v0]) (ci := 1) rfl hM (cwV 1 C.2.2.2.2.1 (lw_V q248 q250 qs19 q26 q251) rfl rfl rfl (by decide +kernel) hR) (by exact rfl) d hst kk
abbrev LX1_has : Nat := 1
theorem jc_mhas (C : jC p s m args meth c A g.1 nL cc RX1 (mty g)) {v0 v1 : Value} {post : Int32 → (Nat → Nat → Nat) → (Nat → Nat → Int32) → Prop} (d : decode cc pc = .ok (.invokevirtual 23, 3) ∧ pc + 3 = n) (hR : 1 + 1 ≤ R.frames ∧ 8 + (4 + 11) + 40 ≤ R.locals) (hst : (st.map fun v => v.category).sum ≤ 8) (hM : jI l mw mty yX1_has cX1_has 4 .boolean 1 [v0, v1] N K post) (kk : ∀ r N1 K1, post r N1 K1 → JJ p l e R s m args below meth c 0 0 Q A g.1 nL (mw g N1 K1) n L (.int r :: st)) : JJ p l e R s m args below meth c 0 0 Q A g.1 nL (mw g N K) pc L (v1 :: v0 :: .ref g.2.1 :: st) :=
  jcallI C (As := [v0, v1]) (ci := 1) rfl hM (cwV 2 C.2.2.2.2.1 (lw_V q252 q253 q254 q26 q255) rfl rfl rfl (by decide +kernel) hR) (by exact rfl) d hst kk
abbrev LX1_remove : Nat := 2
abbrev LX1_removeRange : Nat := 1
theorem jc_mremoveRange (C : jC p s m args meth c A g.1 nL cc RX1 (mty g)) {v0 v1 v2 : Value} {post : Int32 → (Nat → Nat → Nat) → (Nat → Nat → Int32) → Prop} (d : decode cc pc = .ok (.invokevirtual 27, 3) ∧ pc + 3 = n) (hR : 1 + 1 ≤ R.frames ∧ 8 + (7 + 11) + 40 ≤ R.locals) (hst : (st.map fun v => v.category).sum ≤ 8) (hM : jI l mw mty yX1_removeRange cX1_removeRange 7 .int 1 [v0, v1, v2] N K post) (kk : ∀ r N1 K1, post r N1 K1 → JJ p l e R s m args below meth c 0 0 Q A g.1 nL (mw g N1 K1) n L (.int r :: st)) : JJ p l e R s m args below meth c 0 0 Q A g.1 nL (mw g N K) pc L (v2 :: v1 :: v0 :: .ref g.2.1 :: st) :=
  jcallI C (As := [v0, v1, v2]) (ci := 1) rfl hM (cwV 3 C.2.2.2.2.1 (lw_V q260 q261 q262 q26 q263) rfl rfl rfl (by decide +kernel) hR) (by exact rfl) d hst kk
abbrev LX1_size : Nat := 1
abbrev LX1_at : Nat := 2
abbrev LX1_rank : Nat := 1
theorem jc_mrank (C : jC p s m args meth c A g.1 nL cc RX1 (mty g)) {v0 v1 : Value} {post : Int32 → (Nat → Nat → Nat) → (Nat → Nat → Int32) → Prop} (d : decode cc pc = .ok (.invokevirtual 31, 3) ∧ pc + 3 = n) (hR : 1 + 1 ≤ R.frames ∧ 8 + (5 + 11) + 40 ≤ R.locals) (hst : (st.map fun v => v.category).sum ≤ 8) (hM : jI l mw mty yX1_rank cX1_rank 5 .int 1 [v0, v1] N K post) (kk : ∀ r N1 K1, post r N1 K1 → JJ p l e R s m args below meth c 0 0 Q A g.1 nL (mw g N1 K1) n L (.int r :: st)) : JJ p l e R s m args below meth c 0 0 Q A g.1 nL (mw g N K) pc L (v1 :: v0 :: .ref g.2.1 :: st) :=
  jcallI C (As := [v0, v1]) (ci := 1) rfl hM (cwV 2 C.2.2.2.2.1 (lw_V q273 q274 q275 q26 q276) rfl rfl rfl (by decide +kernel) hR) (by exact rfl) d hst kk
abbrev LX1_combine : Nat := 3
abbrev LX1_collect : Nat := 2
theorem jc_mcollect (C : jC p s m args meth c A g.1 nL cc RX1 (mty g)) {v0 v1 v2 v3 : Value} {post : (Nat → Nat → Nat) → (Nat → Nat → Int32) → Prop} (d : decode cc pc = .ok (.invokevirtual 46, 3) ∧ pc + 3 = n) (hR : 2 + 1 ≤ R.frames ∧ 8 + (9 + 11) + 80 ≤ R.locals) (hst : (st.map fun v => v.category).sum ≤ 8) (hM : jV l mw mty yX1_collect cX1_collect 9 2 [v0, v1, v2, v3] N K post) (kk : ∀ N1 K1, post N1 K1 → JJ p l e R s m args below meth c 0 0 Q A g.1 nL (mw g N1 K1) n L st) : JJ p l e R s m args below meth c 0 0 Q A g.1 nL (mw g N K) pc L (v3 :: v2 :: v1 :: v0 :: .ref g.2.1 :: st) :=
  jcallV C (As := [v0, v1, v2, v3]) (ci := 1) rfl hM (cwV 4 C.2.2.2.2.1 (lw_V q282 q284 qs20 q26 q285) rfl rfl rfl (by decide +kernel) hR) (by exact rfl) d hst kk
abbrev LX1_collected : Nat := 0
theorem jc_mcollected (C : jC p s m args meth c A g.1 nL cc RX1 (mty g)) {v0 : Value} {post : Int32 → (Nat → Nat → Nat) → (Nat → Nat → Int32) → Prop} (d : decode cc pc = .ok (.invokevirtual 39, 3) ∧ pc + 3 = n) (hR : 0 + 1 ≤ R.frames ∧ 8 + (3 + 11) + 0 ≤ R.locals) (hst : (st.map fun v => v.category).sum ≤ 8) (hM : jI l mw mty yX1_collected cX1_collected 3 .boolean 0 [v0] N K post) (kk : ∀ r N1 K1, post r N1 K1 → JJ p l e R s m args below meth c 0 0 Q A g.1 nL (mw g N1 K1) n L (.int r :: st)) : JJ p l e R s m args below meth c 0 0 Q A g.1 nL (mw g N K) pc L (v0 :: .ref g.2.1 :: st) :=
  jcallI C (As := [v0]) (ci := 1) rfl hM (cwV 1 C.2.2.2.2.1 (lw_V q286 q288 qs21 q26 q289) rfl rfl rfl (by decide +kernel) hR) (by exact rfl) d hst kk
abbrev LX1_belongs : Nat := 0
theorem jc_mbelongs (C : jC p s m args meth c A g.1 nL cc RX1 (mty g)) {v0 v1 v2 : Value} {post : Int32 → (Nat → Nat → Nat) → (Nat → Nat → Int32) → Prop} (d : decode cc pc = .ok (.invokevirtual 42, 3) ∧ pc + 3 = n) (hR : 0 + 1 ≤ R.frames ∧ 8 + (4 + 11) + 0 ≤ R.locals) (hst : (st.map fun v => v.category).sum ≤ 8) (hM : jI l mw mty yX1_belongs cX1_belongs 4 .boolean 0 [v0, v1, v2] N K post) (kk : ∀ r N1 K1, post r N1 K1 → JJ p l e R s m args below meth c 0 0 Q A g.1 nL (mw g N1 K1) n L (.int r :: st)) : JJ p l e R s m args below meth c 0 0 Q A g.1 nL (mw g N K) pc L (v2 :: v1 :: v0 :: .ref g.2.1 :: st) :=
  jcallI C (As := [v0, v1, v2]) (ci := 1) rfl hM (cwV 3 C.2.2.2.2.1 (lw_V q290 q292 qs22 q26 q293) rfl rfl rfl (by decide +kernel) hR) (by exact rfl) d hst kk
abbrev LX1_store : Nat := 0
theorem jc_mstore (C : jC p s m args meth c A g.1 nL cc RX1 (mty g)) {v0 : Value} {post : (Nat → Nat → Nat) → (Nat → Nat → Int32) → Prop} (d : decode cc pc = .ok (.invokevirtual 50, 3) ∧ pc + 3 = n) (hR : 0 + 1 ≤ R.frames ∧ 8 + (3 + 11) + 0 ≤ R.locals) (hst : (st.map fun v => v.category).sum ≤ 8) (hM : jV l mw mty yX1_store cX1_store 3 0 [v0] N K post) (kk : ∀ N1 K1, post N1 K1 → JJ p l e R s m args below meth c 0 0 Q A g.1 nL (mw g N1 K1) n L st) : JJ p l e R s m args below meth c 0 0 Q A g.1 nL (mw g N K) pc L (v0 :: .ref g.2.1 :: st) :=
  jcallV C (As := [v0]) (ci := 1) rfl hM (cwV 1 C.2.2.2.2.1 (lw_V q294 q296 qs23 q26 q297) rfl rfl rfl (by decide +kernel) hR) (by exact rfl) d hst kk
abbrev LX1_split : Nat := 2
abbrev LX1_same : Nat := 3
abbrev LX1_within : Nat := 2
theorem jc_mwithin (C : jC p s m args meth c A g.1 nL cc RX1 (mty g)) {v0 v1 : Value} {post : Int32 → (Nat → Nat → Nat) → (Nat → Nat → Int32) → Prop} (d : decode cc pc = .ok (.invokevirtual 55, 3) ∧ pc + 3 = n) (hR : 2 + 1 ≤ R.frames ∧ 8 + (4 + 11) + 80 ≤ R.locals) (hst : (st.map fun v => v.category).sum ≤ 8) (hM : jI l mw mty yX1_within cX1_within 4 .boolean 2 [v0, v1] N K post) (kk : ∀ r N1 K1, post r N1 K1 → JJ p l e R s m args below meth c 0 0 Q A g.1 nL (mw g N1 K1) n L (.int r :: st)) : JJ p l e R s m args below meth c 0 0 Q A g.1 nL (mw g N K) pc L (v1 :: v0 :: .ref g.2.1 :: st) :=
  jcallI C (As := [v0, v1]) (ci := 1) rfl hM (cwV 2 C.2.2.2.2.1 (lw_V q308 q309 q310 q26 q311) rfl rfl rfl (by decide +kernel) hR) (by exact rfl) d hst kk
abbrev LX1_ceiling : Nat := 2
abbrev LX1_clear : Nat := 1
end JF
end
section
/-! JoinTrees: the leaves: what each answers and does, in words of the cells -/
def jok (x : Int32) : Prop := ∃ s : Nat, s < 4 ∧ x = nI s
theorem jok_of {x : Int32} (h : ¬ x < 0) (h2 : ¬ nI 3 < x) : jok x := by
  obtain ⟨j, hj, e⟩ := nI_of2 (x := x) (M := nI 3) (n := 3) (by decide) h (Int32.not_lt.mp h2)
  exact ⟨j, by omega, e⟩
theorem jok_no {x : Int32} (h : x < 0 ∨ nI 3 < x) : ¬ jok x := by
  rintro ⟨s, hs, rfl⟩
  rcases h with h | h
  · exact nI_pos (by omega) h
  · exact nI_nlt (a := 3) (b := s) (by omega) (by omega) h
theorem m_isSet (l : Launch) (N : Nat → Nat → Nat) (K : Nat → Nat → Int32) (x : Int32) : jI l jw jty yX0_isSet cX0_isSet 2 .boolean 0 [.int x] N K (fun r N1 K1 => (∃ b, r = nI b ∧ (b = 1 ∧ jok x ∨ b = 0 ∧ ¬ jok x)) ∧ N1 = N ∧ K1 = K) := by
  refine jI_of (k := 0) (kN := 0) (L := fun g : jG => [some (.ref g.2.1), some (.int x)]) (by decide) (fun g => rfl) (fun g => rfl) (fun g => by simp [Value.category]) ?_
  intro g p e s m args below meth c A C hret
  refine jr_il1 C dX0_isSet_0 ?_
  refine jr_if_lt C dX0_isSet_1 (fun hc => ?_) (fun hc => ?_)
  · refine jr_ic0 C dX0_isSet_13 ?_
    exact jr_zret C hret dX0_isSet_14 (⟨by decide, ⟨0, rfl, Or.inr ⟨rfl, jok_no (Or.inl hc)⟩⟩, rfl, rfl⟩)
  · refine jr_il1 C dX0_isSet_4 ?_
    refine jr_ic3 C dX0_isSet_5 ?_
    refine jr_cmp_gt C dX0_isSet_6 (fun hd => ?_) (fun hd => ?_)
    · refine jr_ic0 C dX0_isSet_13 ?_
      exact jr_zret C hret dX0_isSet_14 (⟨by decide, ⟨0, rfl, Or.inr ⟨rfl, jok_no (Or.inr hd)⟩⟩, rfl, rfl⟩)
    · refine jr_ic1 C dX0_isSet_9 ?_
      refine jr_goto C dX0_isSet_10 ?_
      exact jr_zret C hret dX0_isSet_14 (⟨by decide, ⟨1, rfl, Or.inl ⟨rfl, jok_of hc hd⟩⟩, rfl, rfl⟩)
theorem m_weight (l : Launch) (N : Nat → Nat → Nat) (K : Nat → Nat → Int32) {a : Nat} (ha : a < 256) : jI l jw jty yX0_weight cX0_weight 2 .int 0 [.int (nI a)] N K (fun r N1 K1 => r = nI (N 3 a + 1) ∧ N1 = N ∧ K1 = K) := by
  refine jI_of (k := 0) (kN := 0) (L := fun g : jG => [some (.ref g.2.1), some (.int (nI a))]) (by decide) (fun g => rfl) (fun g => rfl) (fun g => by simp [Value.category]) ?_
  intro g p e s m args below meth c A C hret
  refine jr_al0 C dX0_weight_0 ?_
  refine jg_count C dX0_weight_1 ?_
  refine jr_il1 C dX0_weight_4 ?_
  refine jl_count C dX0_weight_5 (by omega) ?_
  refine jr_ic1 C dX0_weight_6 ?_
  refine jr_iadd C dX0_weight_7 ?_
  exact jr_iret C hret dX0_weight_8 (⟨rfl, rfl, rfl⟩)
theorem m_update (l : Launch) (N : Nat → Nat → Nat) (K : Nat → Nat → Int32) {a : Nat} (ha : a < 256) (h0 : N 0 a < 256) (h1 : N 1 a < 256) (hs : N 3 (N 0 a) + N 3 (N 1 a) + 1 < 128) : jV l jw jty yX0_update cX0_update 2 0 [.int (nI a)] N K (fun N1 K1 => N1 = jup N 3 a (N 3 (N 0 a) + N 3 (N 1 a) + 1) ∧ K1 = K) := by
  refine jV_of (k := 0) (kN := 0) (L := fun g : jG => [some (.ref g.2.1), some (.int (nI a))]) (by decide) (fun g => rfl) (fun g => rfl) (fun g => by simp [Value.category]) ?_
  intro g p e s m args below meth c A C hret
  refine jr_al0 C dX0_update_0 ?_
  refine jg_count C dX0_update_1 ?_
  refine jr_il1 C dX0_update_4 ?_
  refine jr_al0 C dX0_update_5 ?_
  refine jg_count C dX0_update_6 ?_
  refine jr_al0 C dX0_update_9 ?_
  refine jg_left C dX0_update_10 ?_
  refine jr_il1 C dX0_update_13 ?_
  refine jl_left C dX0_update_14 (by omega) ?_
  refine jl_count C dX0_update_15 (by omega) ?_
  refine jr_al0 C dX0_update_16 ?_
  refine jg_count C dX0_update_17 ?_
  refine jr_al0 C dX0_update_20 ?_
  refine jg_right C dX0_update_21 ?_
  refine jr_il1 C dX0_update_24 ?_
  refine jl_right C dX0_update_25 (by omega) ?_
  refine jl_count C dX0_update_26 (by omega) ?_
  refine jr_iadd C dX0_update_27 ?_
  refine jr_ic1 C dX0_update_28 ?_
  refine jr_iadd C dX0_update_29 ?_
  refine jr_i2b C dX0_update_30 (by omega) ?_
  refine js_count C dX0_update_31 (by omega) (by omega) ?_
  exact jr_vret C hret dX0_update_32 (⟨rfl, rfl⟩)
theorem m_pushWay (l : Launch) (N : Nat → Nat → Nat) (K : Nat → Nat → Int32) {a b : Nat} (ha : a < 32768) (hb : b < 2) (hw : N 7 0 < 64) : jV l jw jty yX0_pushWay cX0_pushWay 3 0 [.int (nI a), .int (nI b)] N K (fun N1 K1 => N1 = jup (jup (jup N 8 (N 7 0) a) 9 (N 7 0) b) 7 0 (N 7 0 + 1) ∧ K1 = K) := by
  refine jV_of (k := 0) (kN := 0) (L := fun g : jG => [some (.ref g.2.1), some (.int (nI a)), some (.int (nI b))]) (by decide) (fun g => rfl) (fun g => rfl) (fun g => by simp [Value.category]) ?_
  intro g p e s m args below meth c A C hret
  refine jr_al0 C dX0_pushWay_0 ?_
  refine jg_way C dX0_pushWay_1 ?_
  refine jr_al0 C dX0_pushWay_4 ?_
  refine jg_wayEnd C dX0_pushWay_5 ?_
  refine jr_il1 C dX0_pushWay_8 ?_
  refine jr_i2s C dX0_pushWay_9 (by omega) ?_
  refine js_way C dX0_pushWay_10 (by omega) (by omega) ?_
  refine jr_al0 C dX0_pushWay_11 ?_
  refine jg_wentRight C dX0_pushWay_12 ?_
  refine jr_al0 C dX0_pushWay_15 ?_
  refine jg_wayEnd C dX0_pushWay_16 ?_
  refine jr_top (v := N 7 0) (rfl) ?_
  refine jr_il2 C dX0_pushWay_19 ?_
  refine js_wentRight C dX0_pushWay_20 (by omega) (by omega) ?_
  refine jr_al0 C dX0_pushWay_21 ?_
  refine jr_dup C dX0_pushWay_22 rfl ?_
  refine jg_wayEnd C dX0_pushWay_23 ?_
  refine jr_top (v := N 7 0) (rfl) ?_
  refine jr_ic1 C dX0_pushWay_26 ?_
  refine jr_iadd C dX0_pushWay_27 ?_
  refine jp_wayEnd C dX0_pushWay_28 ?_
  exact jr_vret C hret dX0_pushWay_31 (⟨rfl, rfl⟩)
theorem m_newNode (l : Launch) (N : Nat → Nat → Nat) (K : Nat → Nat → Int32) (x : Int32) {f n : Nat} (hf : N 5 0 = f + 1) (hl : f < 256) (hn : N 6 f = n) (hb : n < 256) : jI l jw jty yX0_newNode cX0_newNode 3 .int 0 [.int x] N K (fun r N1 K1 => r = nI n ∧ N1 = jup (jup (jup (jup N 5 0 f) 0 n 0) 1 n 0) 3 n 1 ∧ K1 = jup K 2 n x) := by
  refine jI_of (k := 0) (kN := 1) (L := fun g : jG => [some (.ref g.2.1), some (.int x), none]) (by decide) (fun g => rfl) (fun g => rfl) (fun g => by simp [Value.category]) ?_
  intro g p e s m args below meth c A C hret
  refine jr_al0 C dX0_newNode_0 ?_
  refine jr_dup C dX0_newNode_1 rfl ?_
  refine jg_freeCount C dX0_newNode_2 ?_
  refine jr_ic1 C dX0_newNode_5 ?_
  refine jr_isub C dX0_newNode_6 (by omega) ?_
  refine jr_top (v := f) (by omega) ?_
  refine jp_freeCount C dX0_newNode_7 ?_
  refine jr_al0 C dX0_newNode_10 ?_
  refine jg_freeNodes C dX0_newNode_11 ?_
  refine jr_al0 C dX0_newNode_14 ?_
  refine jg_freeCount C dX0_newNode_15 ?_
  refine jr_top (v := f) (rfl) ?_
  refine jl_freeNodes C dX0_newNode_18 (by omega) ?_
  refine jr_top (v := n) (hn) ?_
  refine jr_is2 C dX0_newNode_19 ?_
  refine jr_al0 C dX0_newNode_20 ?_
  refine jg_key C dX0_newNode_21 ?_
  refine jr_il2 C dX0_newNode_24 ?_
  refine jr_il1 C dX0_newNode_25 ?_
  refine js_key C dX0_newNode_26 (by omega) ?_
  refine jr_al0 C dX0_newNode_27 ?_
  refine jg_left C dX0_newNode_28 ?_
  refine jr_il2 C dX0_newNode_31 ?_
  refine jr_ic0 C dX0_newNode_32 ?_
  refine js_left C dX0_newNode_33 (by omega) (by omega) ?_
  refine jr_al0 C dX0_newNode_34 ?_
  refine jg_right C dX0_newNode_35 ?_
  refine jr_il2 C dX0_newNode_38 ?_
  refine jr_ic0 C dX0_newNode_39 ?_
  refine js_right C dX0_newNode_40 (by omega) (by omega) ?_
  refine jr_al0 C dX0_newNode_41 ?_
  refine jg_count C dX0_newNode_42 ?_
  refine jr_il2 C dX0_newNode_45 ?_
  refine jr_ic1 C dX0_newNode_46 ?_
  refine js_count C dX0_newNode_47 (by omega) (by omega) ?_
  refine jr_il2 C dX0_newNode_48 ?_
  exact jr_iret C hret dX0_newNode_49 (⟨rfl, rfl, rfl⟩)
theorem m_release (l : Launch) (N : Nat → Nat → Nat) (K : Nat → Nat → Int32) {a : Nat} (ha : a < 256) (hl : N 5 0 < 256) : jV l jw jty yX0_release cX0_release 2 0 [.int (nI a)] N K (fun N1 K1 => (N1 = if a = 0 then N else jup (jup N 6 (N 5 0) a) 5 0 (N 5 0 + 1)) ∧ K1 = K) := by
  refine jV_of (k := 0) (kN := 0) (L := fun g : jG => [some (.ref g.2.1), some (.int (nI a))]) (by decide) (fun g => rfl) (fun g => rfl) (fun g => by simp [Value.category]) ?_
  intro g p e s m args below meth c A C hret
  refine jr_il1 C dX0_release_0 ?_
  refine jr_ifN_ne C dX0_release_1 (by omega) (fun hc => ?_) (fun hc => ?_)
  · refine jr_al0 C dX0_release_5 ?_
    refine jg_freeNodes C dX0_release_6 ?_
    refine jr_al0 C dX0_release_9 ?_
    refine jg_freeCount C dX0_release_10 ?_
    refine jr_il1 C dX0_release_13 ?_
    refine jr_i2s C dX0_release_14 (by omega) ?_
    refine js_freeNodes C dX0_release_15 (by omega) (by omega) ?_
    refine jr_al0 C dX0_release_16 ?_
    refine jr_dup C dX0_release_17 rfl ?_
    refine jg_freeCount C dX0_release_18 ?_
    refine jr_top (v := N 5 0) (rfl) ?_
    refine jr_ic1 C dX0_release_21 ?_
    refine jr_iadd C dX0_release_22 ?_
    refine jp_freeCount C dX0_release_23 ?_
    exact jr_vret C hret dX0_release_26 (⟨by rw [if_neg hc], rfl⟩)
  · exact jr_vret C hret dX0_release_4 (⟨by rw [if_pos hc], rfl⟩)
theorem m_twin (l : Launch) (N : Nat → Nat → Nat) (K : Nat → Nat → Int32) {a f n : Nat} (ha : a < 256) (hf : N 5 0 = f + 1) (hl : f < 256) (hn : N 6 f = n) (hb : n < 256) (hna : n ≠ a) (h0 : N 0 a < 32768) (h1 : N 1 a < 32768) (h3 : N 3 a < 128) : jI l jw jty yX0_twin cX0_twin 3 .int 1 [.int (nI a)] N K (fun r N1 K1 => r = nI n ∧ N1 = jup (jup (jup (jup N 5 0 f) 0 n (N 0 a)) 1 n (N 1 a)) 3 n (N 3 a) ∧ K1 = jup K 2 n (K 2 a)) := by
  have ja : ¬ a = n := fun q => hna q.symm
  refine jI_of (k := 1) (kN := 1) (L := fun g : jG => [some (.ref g.2.1), some (.int (nI a)), none]) (by decide) (fun g => rfl) (fun g => rfl) (fun g => by simp [Value.category]) ?_
  intro g p e s m args below meth c A C hret
  refine jr_al0 C dX0_twin_0 ?_
  refine jr_al0 C dX0_twin_1 ?_
  refine jg_key C dX0_twin_2 ?_
  refine jr_il1 C dX0_twin_5 ?_
  refine jl_key C dX0_twin_6 (by omega) ?_
  refine jc_newNode C dX0_twin_7 ⟨by decide, by decide⟩ (Nat.le_of_ble_eq_true rfl) (m_newNode l N K (K 2 a) hf hl hn hb) (fun r N1 K1 hp => ?_)
  obtain ⟨rfl, rfl, rfl⟩ := hp
  refine jr_is2 C dX0_twin_10 ?_
  refine jr_al0 C dX0_twin_11 ?_
  refine jg_left C dX0_twin_12 ?_
  refine jr_il2 C dX0_twin_15 ?_
  refine jr_al0 C dX0_twin_16 ?_
  refine jg_left C dX0_twin_17 ?_
  refine jr_il1 C dX0_twin_20 ?_
  refine jl_left C dX0_twin_21 (by omega) ?_
  refine jr_top (v := N 0 a) (by simp [jup_e, ja]) ?_
  refine js_left C dX0_twin_22 (by omega) (by omega) ?_
  refine jr_al0 C dX0_twin_23 ?_
  refine jg_right C dX0_twin_24 ?_
  refine jr_il2 C dX0_twin_27 ?_
  refine jr_al0 C dX0_twin_28 ?_
  refine jg_right C dX0_twin_29 ?_
  refine jr_il1 C dX0_twin_32 ?_
  refine jl_right C dX0_twin_33 (by omega) ?_
  refine jr_top (v := N 1 a) (by simp [jup_e, ja]) ?_
  refine js_right C dX0_twin_34 (by omega) (by omega) ?_
  refine jr_al0 C dX0_twin_35 ?_
  refine jg_count C dX0_twin_36 ?_
  refine jr_il2 C dX0_twin_39 ?_
  refine jr_al0 C dX0_twin_40 ?_
  refine jg_count C dX0_twin_41 ?_
  refine jr_il1 C dX0_twin_44 ?_
  refine jl_count C dX0_twin_45 (by omega) ?_
  refine jr_top (v := N 3 a) (by simp [jup_e, ja]) ?_
  refine js_count C dX0_twin_46 (by omega) (by omega) ?_
  refine jr_il2 C dX0_twin_47 ?_
  refine jr_iret C hret dX0_twin_48 ?_
  refine ⟨rfl, ?_, rfl⟩
  funext k j
  simp only [jup_e]
  grind
end
section
/-! trees: tr N n xs: at the node n stands a tree whose nodes, in order, are xs, each with its right count -/
def jT (N : Nat → Nat → Nat) : Nat → Nat → List Nat → Prop
  | 0, n, xs => n = 0 ∧ xs = []
  | d + 1, n, xs => (n = 0 ∧ xs = []) ∨ (0 < n ∧ n < 256 ∧ N 3 n = xs.length ∧ ∃ ys zs, xs = ys ++ n :: zs ∧ jT N d (N 0 n) ys ∧ jT N d (N 1 n) zs)
def tr (N : Nat → Nat → Nat) (n : Nat) (xs : List Nat) : Prop := ∃ d, jT N d n xs
theorem jT_succ {N : Nat → Nat → Nat} : ∀ {d n : Nat} {xs : List Nat}, jT N d n xs → jT N (d + 1) n xs := by
  intro d
  induction d with
  | zero => intro n xs h; exact Or.inl h
  | succ d ih =>
    intro n xs h
    rcases h with h | ⟨h1, h2, h3, ys, zs, h4, h5, h6⟩
    · exact Or.inl h
    · exact Or.inr ⟨h1, h2, h3, ys, zs, h4, ih h5, ih h6⟩
theorem jT_mono {N : Nat → Nat → Nat} {d d' n : Nat} {xs : List Nat} (hd : d ≤ d') (h : jT N d n xs) : jT N d' n xs := by
  induction hd with
  | refl => exact h
  | step _ ih => exact jT_succ ih
theorem tr_nil {N : Nat → Nat → Nat} : tr N 0 [] := ⟨0, rfl, rfl⟩
theorem tr_zero {N : Nat → Nat → Nat} {xs : List Nat} (h : tr N 0 xs) : xs = [] := by
  obtain ⟨d, h⟩ := h
  cases d with
  | zero => exact h.2
  | succ d =>
    rcases h with h | h
    · exact h.2
    · exact absurd h.1 (by omega)
theorem tr_node {N : Nat → Nat → Nat} {n : Nat} {xs : List Nat} (h : tr N n xs) (hn : n ≠ 0) : 0 < n ∧ n < 256 ∧ N 3 n = xs.length ∧ ∃ ys zs, xs = ys ++ n :: zs ∧ tr N (N 0 n) ys ∧ tr N (N 1 n) zs := by
  obtain ⟨d, h⟩ := h
  cases d with
  | zero => exact absurd h.1 hn
  | succ d =>
    rcases h with h | ⟨h1, h2, h3, ys, zs, h4, h5, h6⟩
    · exact absurd h.1 hn
    · exact ⟨h1, h2, h3, ys, zs, h4, ⟨d, h5⟩, ⟨d, h6⟩⟩
theorem tr_mk {N : Nat → Nat → Nat} {n : Nat} {ys zs : List Nat} (h0 : 0 < n) (h1 : n < 256) (h2 : N 3 n = ys.length + zs.length + 1) (hy : tr N (N 0 n) ys) (hz : tr N (N 1 n) zs) : tr N n (ys ++ n :: zs) := by
  obtain ⟨d1, hy⟩ := hy
  obtain ⟨d2, hz⟩ := hz
  refine ⟨max d1 d2 + 1, Or.inr ⟨h0, h1, ?_, ys, zs, rfl, jT_mono (Nat.le_max_left _ _) hy, jT_mono (Nat.le_max_right _ _) hz⟩⟩
  simp only [List.length_append, List.length_cons]
  omega
theorem tr_lt {N : Nat → Nat → Nat} {n : Nat} {xs : List Nat} (h : tr N n xs) : n < 256 := by
  by_cases hn : n = 0
  · omega
  · exact (tr_node h hn).2.1
theorem tr_emp {N : Nat → Nat → Nat} {n : Nat} (h : tr N n []) : n = 0 := by
  by_cases hn : n = 0
  · exact hn
  · obtain ⟨-, -, -, ys, zs, e, -⟩ := tr_node h hn
    exact absurd (congrArg List.length e) (by simp)
theorem tr_len {N : Nat → Nat → Nat} {n : Nat} {xs : List Nat} (h0 : N 3 0 = 0) (h : tr N n xs) : N 3 n = xs.length := by
  by_cases hn : n = 0
  · subst hn
    rw [tr_zero h, h0]
    rfl
  · exact (tr_node h hn).2.2.1
theorem jT_mem {N : Nat → Nat → Nat} : ∀ {d n : Nat} {xs : List Nat}, jT N d n xs → ∀ m ∈ xs, 0 < m ∧ m < 256 := by
  intro d
  induction d with
  | zero => intro n xs h m hm; rw [h.2] at hm; cases hm
  | succ d ih =>
    intro n xs h m hm
    rcases h with h | ⟨h1, h2, h3, ys, zs, h4, h5, h6⟩
    · rw [h.2] at hm; cases hm
    · rw [h4] at hm
      rcases List.mem_append.mp hm with hm | hm
      · exact ih h5 m hm
      · rcases List.mem_cons.mp hm with rfl | hm
        · exact ⟨h1, h2⟩
        · exact ih h6 m hm
theorem tr_mem {N : Nat → Nat → Nat} {n : Nat} {xs : List Nat} (h : tr N n xs) : ∀ m ∈ xs, 0 < m ∧ m < 256 := by
  obtain ⟨d, h⟩ := h
  exact jT_mem h
theorem jT_frame {N N' : Nat → Nat → Nat} : ∀ {d n : Nat} {xs : List Nat}, jT N d n xs → (∀ m ∈ xs, N' 0 m = N 0 m ∧ N' 1 m = N 1 m ∧ N' 3 m = N 3 m) → jT N' d n xs := by
  intro d
  induction d with
  | zero => intro n xs h _; exact h
  | succ d ih =>
    intro n xs h hf
    rcases h with h | ⟨h1, h2, h3, ys, zs, h4, h5, h6⟩
    · exact Or.inl h
    · subst h4
      obtain ⟨e0, e1, e3⟩ := hf n (by simp)
      refine Or.inr ⟨h1, h2, by rw [e3]; exact h3, ys, zs, rfl, ?_, ?_⟩
      · rw [e0]; exact ih h5 (fun m hm => hf m (by simp [hm]))
      · rw [e1]; exact ih h6 (fun m hm => hf m (by simp [hm]))
theorem tr_frame {N N' : Nat → Nat → Nat} {n : Nat} {xs : List Nat} (h : tr N n xs) (hf : ∀ m ∈ xs, N' 0 m = N 0 m ∧ N' 1 m = N 1 m ∧ N' 3 m = N 3 m) : tr N' n xs := by
  obtain ⟨d, h⟩ := h
  exact ⟨d, jT_frame h hf⟩
/-- the trees' arrays agree off xs -/
def ag (N N' : Nat → Nat → Nat) (xs : List Nat) : Prop := ∀ m, m ∉ xs → N' 0 m = N 0 m ∧ N' 1 m = N 1 m ∧ N' 3 m = N 3 m
/-- only the arrays (fields) ks changed -/
def sm (N N' : Nat → Nat → Nat) (ks : List Nat) : Prop := ∀ k, k ∉ ks → N' k = N k
theorem ag_rfl {N : Nat → Nat → Nat} {xs : List Nat} : ag N N xs := fun _ _ => ⟨rfl, rfl, rfl⟩
theorem ag_tr {N N' : Nat → Nat → Nat} {n : Nat} {xs ys : List Nat} (h : ag N N' xs) (ht : tr N n ys) (hd : ∀ m ∈ ys, m ∉ xs) : tr N' n ys := tr_frame ht (fun m hm => h m (hd m hm))
theorem ag_trans {N N1 N2 : Nat → Nat → Nat} {xs ys zs : List Nat} (h1 : ag N N1 xs) (h2 : ag N1 N2 ys) (s1 : ∀ m ∈ xs, m ∈ zs) (s2 : ∀ m ∈ ys, m ∈ zs) : ag N N2 zs := by
  intro m hm
  obtain ⟨a0, a1, a3⟩ := h1 m (fun q => hm (s1 m q))
  obtain ⟨b0, b1, b3⟩ := h2 m (fun q => hm (s2 m q))
  exact ⟨b0.trans a0, b1.trans a1, b3.trans a3⟩
theorem ag_sub {N N' : Nat → Nat → Nat} {xs ys : List Nat} (h : ag N N' xs) (s : ∀ m ∈ xs, m ∈ ys) : ag N N' ys := fun m hm => h m (fun q => hm (s m q))
theorem ag_jup {N : Nat → Nat → Nat} {k i v : Nat} {xs : List Nat} (h : i ∈ xs) : ag N (jup N k i v) xs := by
  intro m hm
  have hne : ¬ m = i := fun q => hm (q ▸ h)
  simp [jup_e, hne]
theorem ag_jupk {N : Nat → Nat → Nat} {k i v : Nat} {xs : List Nat} (h : k ≠ 0 ∧ k ≠ 1 ∧ k ≠ 3) : ag N (jup N k i v) xs := by
  intro m hm
  rw [jup_k (Ne.symm h.1), jup_k (Ne.symm h.2.1), jup_k (Ne.symm h.2.2)]
  exact ⟨rfl, rfl, rfl⟩
theorem sm_rfl {N : Nat → Nat → Nat} {ks : List Nat} : sm N N ks := fun _ _ => rfl
theorem sm_trans {N N1 N2 : Nat → Nat → Nat} {ks : List Nat} (h1 : sm N N1 ks) (h2 : sm N1 N2 ks) : sm N N2 ks := fun k hk => (h2 k hk).trans (h1 k hk)
theorem sm_sub {N N' : Nat → Nat → Nat} {ks js : List Nat} (h : sm N N' ks) (s : ∀ k ∈ ks, k ∈ js) : sm N N' js := fun k hk => h k (fun q => hk (s k q))
theorem sm_jup {N : Nat → Nat → Nat} {k i v : Nat} {ks : List Nat} (h : k ∈ ks) : sm N (jup N k i v) ks := fun k' hk => jup_k (fun q => hk (q ▸ h))
theorem ag_z {N N' : Nat → Nat → Nat} {xs : List Nat} (h : ag N N' xs) (h0 : N 3 0 = 0) (hx : ∀ m ∈ xs, 0 < m) : N' 3 0 = 0 := by
  rw [(h 0 (fun q => absurd (hx 0 q) (by omega))).2.2, h0]
/-- rotations -/
theorem rot_left {N N4 : Nat → Nat → Nat} {n r : Nat} {xs ys zs : List Nat} (h0 : N 3 0 = 0) (hn : 0 < n) (hn2 : n < 256) (hr : 0 < r) (hr2 : r < 256) (hx : tr N (N 0 n) xs) (hy : tr N (N 0 r) ys) (hz : tr N (N 1 r) zs) (hnd : (xs ++ n :: (ys ++ r :: zs)).Nodup)
    (ha : ag N N4 [n, r]) (e1 : N4 0 n = N 0 n) (e2 : N4 1 n = N 0 r) (e3 : N4 0 r = n) (e4 : N4 1 r = N 1 r) (e5 : N4 3 n = N 3 (N 0 n) + N 3 (N 0 r) + 1) (e6 : N4 3 r = N4 3 n + N 3 (N 1 r) + 1) : tr N4 r (xs ++ n :: (ys ++ r :: zs)) := by
  have dx : ∀ m ∈ xs, m ∉ [n, r] := by grind [List.nodup_append]
  have dy : ∀ m ∈ ys, m ∉ [n, r] := by grind [List.nodup_append]
  have dz : ∀ m ∈ zs, m ∉ [n, r] := by grind [List.nodup_append]
  have lx := tr_len h0 hx
  have ly := tr_len h0 hy
  have lz := tr_len h0 hz
  have t1 : tr N4 n (xs ++ n :: ys) := tr_mk hn hn2 (by omega) (by rw [e1]; exact ag_tr ha hx dx) (by rw [e2]; exact ag_tr ha hy dy)
  have t2 := tr_mk (N := N4) (n := r) (ys := xs ++ n :: ys) (zs := zs) hr hr2 (by simp; omega) (by rw [e3]; exact t1) (by rw [e4]; exact ag_tr ha hz dz)
  simpa using t2
theorem rot_right {N N4 : Nat → Nat → Nat} {n r : Nat} {xs ys zs : List Nat} (h0 : N 3 0 = 0) (hn : 0 < n) (hn2 : n < 256) (hr : 0 < r) (hr2 : r < 256) (hx : tr N (N 1 n) xs) (hy : tr N (N 1 r) ys) (hz : tr N (N 0 r) zs) (hnd : ((zs ++ r :: ys) ++ n :: xs).Nodup)
    (ha : ag N N4 [n, r]) (e1 : N4 1 n = N 1 n) (e2 : N4 0 n = N 1 r) (e3 : N4 1 r = n) (e4 : N4 0 r = N 0 r) (e5 : N4 3 n = N 3 (N 1 r) + N 3 (N 1 n) + 1) (e6 : N4 3 r = N 3 (N 0 r) + N4 3 n + 1) : tr N4 r ((zs ++ r :: ys) ++ n :: xs) := by
  have dx : ∀ m ∈ xs, m ∉ [n, r] := by grind [List.nodup_append]
  have dy : ∀ m ∈ ys, m ∉ [n, r] := by grind [List.nodup_append]
  have dz : ∀ m ∈ zs, m ∉ [n, r] := by grind [List.nodup_append]
  have lx := tr_len h0 hx
  have ly := tr_len h0 hy
  have lz := tr_len h0 hz
  have t1 : tr N4 n (ys ++ n :: xs) := tr_mk hn hn2 (by omega) (by rw [e2]; exact ag_tr ha hy dy) (by rw [e1]; exact ag_tr ha hx dx)
  have t2 := tr_mk (N := N4) (n := r) (ys := zs) (zs := ys ++ n :: xs) hr hr2 (by simp; omega) (by rw [e4]; exact ag_tr ha hz dz) (by rw [e3]; exact t1)
  simpa using t2
end
section
/-! rotations and balanced -/
theorem m_rotatedLeft (l : Launch) (N : Nat → Nat → Nat) (K : Nat → Nat → Int32) {n r : Nat} {xs ys zs : List Nat} (h0 : N 3 0 = 0) (hn : 0 < n) (hn2 : n < 256) (er : N 1 n = r) (hr : 0 < r) (hr2 : r < 256) (hx : tr N (N 0 n) xs) (hy : tr N (N 0 r) ys) (hz : tr N (N 1 r) zs) (hnd : (xs ++ n :: (ys ++ r :: zs)).Nodup) (hlen : (xs ++ n :: (ys ++ r :: zs)).length < 127) : jI l jw jty yX0_rotatedLeft cX0_rotatedLeft 3 .int 1 [.int (nI n)] N K (fun q N1 K1 => q = nI r ∧ tr N1 r (xs ++ n :: (ys ++ r :: zs)) ∧ ag N N1 [n, r] ∧ sm N N1 [0, 1, 3] ∧ K1 = K) := by
  have bx := tr_lt hx
  have b_y := tr_lt hy
  have bz := tr_lt hz
  have lx := tr_len h0 hx
  have ly := tr_len h0 hy
  have lz := tr_len h0 hz
  simp only [List.length_append, List.length_cons] at hlen
  have hnr : ¬ n = r := by grind [List.nodup_append]
  have hrn : ¬ r = n := fun q => hnr q.symm
  refine jI_of (k := 1) (kN := 1) (L := fun g : jG => [some (.ref g.2.1), some (.int (nI n)), none]) (by decide) (fun g => rfl) (fun g => rfl) (fun g => by simp [Value.category]) ?_
  intro g p e s m args below meth c A C hret
  refine jr_al0 C dX0_rotatedLeft_0 ?_
  refine jg_right C dX0_rotatedLeft_1 ?_
  refine jr_il1 C dX0_rotatedLeft_4 ?_
  refine jl_right C dX0_rotatedLeft_5 (by omega) ?_
  refine jr_top (v := r) (er) ?_
  refine jr_is2 C dX0_rotatedLeft_6 ?_
  refine jr_al0 C dX0_rotatedLeft_7 ?_
  refine jg_right C dX0_rotatedLeft_8 ?_
  refine jr_il1 C dX0_rotatedLeft_11 ?_
  refine jr_al0 C dX0_rotatedLeft_12 ?_
  refine jg_left C dX0_rotatedLeft_13 ?_
  refine jr_il2 C dX0_rotatedLeft_16 ?_
  refine jl_left C dX0_rotatedLeft_17 (by omega) ?_
  refine jr_top (v := N 0 r) (by simp [jup_e]) ?_
  refine js_right C dX0_rotatedLeft_18 (by omega) (by omega) ?_
  refine jr_al0 C dX0_rotatedLeft_19 ?_
  refine jg_left C dX0_rotatedLeft_20 ?_
  refine jr_il2 C dX0_rotatedLeft_23 ?_
  refine jr_il1 C dX0_rotatedLeft_24 ?_
  refine jr_i2s C dX0_rotatedLeft_25 (by omega) ?_
  refine js_left C dX0_rotatedLeft_26 (by omega) (by omega) ?_
  refine jr_al0 C dX0_rotatedLeft_27 ?_
  refine jr_il1 C dX0_rotatedLeft_28 ?_
  obtain ⟨N2, e2⟩ : ∃ N2, N2 = jup (jup N 1 n (N 0 r)) 0 r n := ⟨_, rfl⟩
  have a0 : N2 0 n = N 0 n := by rw [e2]; simp [jup_e, hnr]
  have a1 : N2 1 n = N 0 r := by rw [e2]; simp [jup_e]
  have a2 : N2 0 r = n := by rw [e2]; simp [jup_e]
  have a3 : N2 1 r = N 1 r := by rw [e2]; simp [jup_e, hrn]
  have a4 : N2 3 = N 3 := by rw [e2, jup_k (by decide), jup_k (by decide)]
  have g2 : ag N N2 [n, r] := by rw [e2]; exact ag_trans (ag_jup (xs := [n, r]) (by simp)) (ag_jup (xs := [n, r]) (by simp)) (fun _ h => h) (fun _ h => h)
  have s2 : sm N N2 [0, 1, 3] := by rw [e2]; exact sm_trans (sm_jup (by simp)) (sm_jup (by simp))
  rw [← e2]
  refine jc_update C dX0_rotatedLeft_29 ⟨by decide, by decide⟩ (Nat.le_of_ble_eq_true rfl) (m_update l N2 K hn2 (by omega) (by omega) (by rw [a0, a1, a4]; omega)) (fun N3 K1 hp => ?_)
  obtain ⟨e3, rfl⟩ := hp
  rw [a0, a1, a4] at e3
  have b0 : N3 0 = N2 0 := by rw [e3, jup_k (by decide)]
  have b1 : N3 1 = N2 1 := by rw [e3, jup_k (by decide)]
  have b2 : N3 3 n = N 3 (N 0 n) + N 3 (N 0 r) + 1 := by rw [e3, jup_s]
  have b3 : N3 3 (N 1 r) = N 3 (N 1 r) := by
    rw [e3, jup_n, a4]
    intro q
    by_cases hq : N 1 r = 0
    · omega
    · obtain ⟨-, -, -, us, vs, e, -⟩ := tr_node hz hq
      grind [List.nodup_append]
  have g3 : ag N N3 [n, r] := by rw [e3]; exact ag_trans g2 (ag_jup (xs := [n, r]) (by simp)) (fun _ h => h) (fun _ h => h)
  have s3 : sm N N3 [0, 1, 3] := by rw [e3]; exact sm_trans s2 (sm_jup (by simp))
  refine jr_al0 C dX0_rotatedLeft_32 ?_
  refine jr_il2 C dX0_rotatedLeft_33 ?_
  refine jc_update C dX0_rotatedLeft_34 ⟨by decide, by decide⟩ (Nat.le_of_ble_eq_true rfl) (m_update l N3 K1 hr2 (by rw [b0]; omega) (by rw [b1]; omega) (by rw [b0, b1, a2, a3, b2, b3]; omega)) (fun N4 K1 hp => ?_)
  obtain ⟨e4, rfl⟩ := hp
  rw [b0, b1, a2, a3, b3] at e4
  have g4 : ag N N4 [n, r] := by rw [e4]; exact ag_trans g3 (ag_jup (xs := [n, r]) (by simp)) (fun _ h => h) (fun _ h => h)
  refine jr_il2 C dX0_rotatedLeft_37 ?_
  refine jr_iret C hret dX0_rotatedLeft_38 ?_
  refine ⟨rfl, ?_, g4, by rw [e4]; exact sm_trans s3 (sm_jup (by simp)), rfl⟩
  exact rot_left h0 hn hn2 hr hr2 hx hy hz hnd g4 (by rw [e4, jup_k (by decide), b0, a0]) (by rw [e4, jup_k (by decide), b1, a1]) (by rw [e4, jup_k (by decide), b0, a2]) (by rw [e4, jup_k (by decide), b1, a3]) (by rw [e4, jup_n hnr, b2]) (by rw [e4, jup_s, jup_n hnr])
theorem m_rotatedRight (l : Launch) (N : Nat → Nat → Nat) (K : Nat → Nat → Int32) {n r : Nat} {xs ys zs : List Nat} (h0 : N 3 0 = 0) (hn : 0 < n) (hn2 : n < 256) (er : N 0 n = r) (hr : 0 < r) (hr2 : r < 256) (hx : tr N (N 1 n) xs) (hy : tr N (N 1 r) ys) (hz : tr N (N 0 r) zs) (hnd : ((zs ++ r :: ys) ++ n :: xs).Nodup) (hlen : ((zs ++ r :: ys) ++ n :: xs).length < 127) : jI l jw jty yX0_rotatedRight cX0_rotatedRight 3 .int 1 [.int (nI n)] N K (fun q N1 K1 => q = nI r ∧ tr N1 r ((zs ++ r :: ys) ++ n :: xs) ∧ ag N N1 [n, r] ∧ sm N N1 [0, 1, 3] ∧ K1 = K) := by
  have bx := tr_lt hx
  have b_y := tr_lt hy
  have bz := tr_lt hz
  have lx := tr_len h0 hx
  have ly := tr_len h0 hy
  have lz := tr_len h0 hz
  simp only [List.length_append, List.length_cons] at hlen
  have hnr : ¬ n = r := by grind [List.nodup_append]
  have hrn : ¬ r = n := fun q => hnr q.symm
  refine jI_of (k := 1) (kN := 1) (L := fun g : jG => [some (.ref g.2.1), some (.int (nI n)), none]) (by decide) (fun g => rfl) (fun g => rfl) (fun g => by simp [Value.category]) ?_
  intro g p e s m args below meth c A C hret
  refine jr_al0 C dX0_rotatedRight_0 ?_
  refine jg_left C dX0_rotatedRight_1 ?_
  refine jr_il1 C dX0_rotatedRight_4 ?_
  refine jl_left C dX0_rotatedRight_5 (by omega) ?_
  refine jr_top (v := r) (er) ?_
  refine jr_is2 C dX0_rotatedRight_6 ?_
  refine jr_al0 C dX0_rotatedRight_7 ?_
  refine jg_left C dX0_rotatedRight_8 ?_
  refine jr_il1 C dX0_rotatedRight_11 ?_
  refine jr_al0 C dX0_rotatedRight_12 ?_
  refine jg_right C dX0_rotatedRight_13 ?_
  refine jr_il2 C dX0_rotatedRight_16 ?_
  refine jl_right C dX0_rotatedRight_17 (by omega) ?_
  refine jr_top (v := N 1 r) (by simp [jup_e]) ?_
  refine js_left C dX0_rotatedRight_18 (by omega) (by omega) ?_
  refine jr_al0 C dX0_rotatedRight_19 ?_
  refine jg_right C dX0_rotatedRight_20 ?_
  refine jr_il2 C dX0_rotatedRight_23 ?_
  refine jr_il1 C dX0_rotatedRight_24 ?_
  refine jr_i2s C dX0_rotatedRight_25 (by omega) ?_
  refine js_right C dX0_rotatedRight_26 (by omega) (by omega) ?_
  refine jr_al0 C dX0_rotatedRight_27 ?_
  refine jr_il1 C dX0_rotatedRight_28 ?_
  obtain ⟨N2, e2⟩ : ∃ N2, N2 = jup (jup N 0 n (N 1 r)) 1 r n := ⟨_, rfl⟩
  have a0 : N2 1 n = N 1 n := by rw [e2]; simp [jup_e, hnr]
  have a1 : N2 0 n = N 1 r := by rw [e2]; simp [jup_e]
  have a2 : N2 1 r = n := by rw [e2]; simp [jup_e]
  have a3 : N2 0 r = N 0 r := by rw [e2]; simp [jup_e, hrn]
  have a4 : N2 3 = N 3 := by rw [e2, jup_k (by decide), jup_k (by decide)]
  have g2 : ag N N2 [n, r] := by rw [e2]; exact ag_trans (ag_jup (xs := [n, r]) (by simp)) (ag_jup (xs := [n, r]) (by simp)) (fun _ h => h) (fun _ h => h)
  have s2 : sm N N2 [0, 1, 3] := by rw [e2]; exact sm_trans (sm_jup (by simp)) (sm_jup (by simp))
  rw [← e2]
  refine jc_update C dX0_rotatedRight_29 ⟨by decide, by decide⟩ (Nat.le_of_ble_eq_true rfl) (m_update l N2 K hn2 (by omega) (by omega) (by rw [a0, a1, a4]; omega)) (fun N3 K1 hp => ?_)
  obtain ⟨e3, rfl⟩ := hp
  rw [a0, a1, a4] at e3
  have b0 : N3 0 = N2 0 := by rw [e3, jup_k (by decide)]
  have b1 : N3 1 = N2 1 := by rw [e3, jup_k (by decide)]
  have b2 : N3 3 n = N 3 (N 1 r) + N 3 (N 1 n) + 1 := by rw [e3, jup_s]
  have b3 : N3 3 (N 0 r) = N 3 (N 0 r) := by
    rw [e3, jup_n, a4]
    intro q
    by_cases hq : N 0 r = 0
    · omega
    · obtain ⟨-, -, -, us, vs, e, -⟩ := tr_node hz hq
      grind [List.nodup_append]
  have g3 : ag N N3 [n, r] := by rw [e3]; exact ag_trans g2 (ag_jup (xs := [n, r]) (by simp)) (fun _ h => h) (fun _ h => h)
  have s3 : sm N N3 [0, 1, 3] := by rw [e3]; exact sm_trans s2 (sm_jup (by simp))
  refine jr_al0 C dX0_rotatedRight_32 ?_
  refine jr_il2 C dX0_rotatedRight_33 ?_
  refine jc_update C dX0_rotatedRight_34 ⟨by decide, by decide⟩ (Nat.le_of_ble_eq_true rfl) (m_update l N3 K1 hr2 (by rw [b0]; omega) (by rw [b1]; omega) (by rw [b0, b1, a2, a3, b2, b3]; omega)) (fun N4 K1 hp => ?_)
  obtain ⟨e4, rfl⟩ := hp
  rw [b0, b1, a2, a3, b3] at e4
  have g4 : ag N N4 [n, r] := by rw [e4]; exact ag_trans g3 (ag_jup (xs := [n, r]) (by simp)) (fun _ h => h) (fun _ h => h)
  refine jr_il2 C dX0_rotatedRight_37 ?_
  refine jr_iret C hret dX0_rotatedRight_38 ?_
  refine ⟨rfl, ?_, g4, by rw [e4]; exact sm_trans s3 (sm_jup (by simp)), rfl⟩
  exact rot_right h0 hn hn2 hr hr2 hx hy hz hnd g4 (by rw [e4, jup_k (by decide), b1, a0]) (by rw [e4, jup_k (by decide), b0, a1]) (by rw [e4, jup_k (by decide), b1, a2]) (by rw [e4, jup_k (by decide), b0, a3]) (by rw [e4, jup_n hnr, b2]) (by rw [e4, jup_s, jup_n hnr])
end
section
/-- what balanced and join leave: a tree with the nodes zs, nothing else touched -/
def P_tree (N : Nat → Nat → Nat) (K : Nat → Nat → Int32) (zs : List Nat) : Int32 → (Nat → Nat → Nat) → (Nat → Nat → Int32) → Prop := fun r N1 K1 => ∃ t, r = nI t ∧ tr N1 t zs ∧ ag N N1 zs ∧ sm N N1 [0, 1, 3] ∧ K1 = K
theorem m_balanced (l : Launch) (N : Nat → Nat → Nat) (K : Nat → Nat → Int32) {n : Nat} {xs ys : List Nat} (h0 : N 3 0 = 0) (hn : 0 < n) (hn2 : n < 256) (hx : tr N (N 0 n) xs) (hy : tr N (N 1 n) ys) (hnd : (xs ++ n :: ys).Nodup) (hlen : (xs ++ n :: ys).length < 127) : jI l jw jty yX0_balanced cX0_balanced 4 .int 2 [.int (nI n)] N K (P_tree N K (xs ++ n :: ys)) := by
  have bx := tr_lt hx
  have b_y := tr_lt hy
  have lx := tr_len h0 hx
  have ly := tr_len h0 hy
  have hlen2 := hlen
  simp only [List.length_append, List.length_cons] at hlen2
  obtain ⟨a, ea⟩ : ∃ a, N 0 n = a := ⟨_, rfl⟩
  obtain ⟨b, eb⟩ : ∃ b, N 1 n = b := ⟨_, rfl⟩
  rw [ea] at hx bx lx
  rw [eb] at hy b_y ly
  refine jI_of (k := 2) (kN := 2) (L := fun g : jG => [some (.ref g.2.1), some (.int (nI n)), none, none]) (by decide) (fun g => rfl) (fun g => rfl) (fun g => by simp [Value.category]) ?_
  intro g p e s m args below meth c A C hret
  have tailL : ∀ N2 : Nat → Nat → Nat, N2 3 0 = 0 → tr N2 (N2 0 n) xs → tr N2 (N2 1 n) ys → ys ≠ [] → ag N N2 (xs ++ n :: ys) → sm N N2 [0, 1, 3] → JJ p l e (jrm 2) s m args below meth c 0 0 (jQI jw jty g A below args s (P_tree N K (xs ++ n :: ys))) A g.1 4 (jw g N2 K) 71 [some (.ref g.2.1), some (.int (nI n)), some (.int (nI a)), some (.int (nI b))] [] := by
    intro N2 z2 tx ty hne g2 s2
    have hq : N2 1 n ≠ 0 := fun q => hne (tr_zero (q ▸ ty))
    obtain ⟨q0, q1, -, us, vs, rfl, tu, tv⟩ := tr_node ty hq
    refine jr_al0 C dX0_balanced_71 ?_
    refine jr_il1 C dX0_balanced_72 ?_
    refine jc_rotatedLeft C dX0_balanced_73 ⟨by decide, by decide⟩ (Nat.le_of_ble_eq_true rfl) (m_rotatedLeft l N2 K z2 hn hn2 rfl q0 q1 tx tu tv hnd hlen) (fun r N3 K3 hp => ?_)
    obtain ⟨rfl, t3, g3, s3, rfl⟩ := hp
    refine jr_iret C hret dX0_balanced_76 ?_
    exact ⟨_, rfl, t3, ag_trans g2 g3 (fun _ h => h) (by simp), sm_trans s2 s3, rfl⟩
  have tailR : ∀ N2 : Nat → Nat → Nat, N2 3 0 = 0 → tr N2 (N2 0 n) xs → tr N2 (N2 1 n) ys → xs ≠ [] → ag N N2 (xs ++ n :: ys) → sm N N2 [0, 1, 3] → JJ p l e (jrm 2) s m args below meth c 0 0 (jQI jw jty g A below args s (P_tree N K (xs ++ n :: ys))) A g.1 4 (jw g N2 K) 129 [some (.ref g.2.1), some (.int (nI n)), some (.int (nI a)), some (.int (nI b))] [] := by
    intro N2 z2 tx ty hne g2 s2
    have hq : N2 0 n ≠ 0 := fun q => hne (tr_zero (q ▸ tx))
    obtain ⟨q0, q1, -, us, vs, rfl, tu, tv⟩ := tr_node tx hq
    refine jr_al0 C dX0_balanced_129 ?_
    refine jr_il1 C dX0_balanced_130 ?_
    refine jc_rotatedRight C dX0_balanced_131 ⟨by decide, by decide⟩ (Nat.le_of_ble_eq_true rfl) (m_rotatedRight l N2 K z2 hn hn2 rfl q0 q1 ty tv tu hnd hlen) (fun r N3 K3 hp => ?_)
    obtain ⟨rfl, t3, g3, s3, rfl⟩ := hp
    refine jr_iret C hret dX0_balanced_134 ?_
    exact ⟨_, rfl, t3, ag_trans g2 g3 (fun _ h => h) (by simp), sm_trans s2 s3, rfl⟩
  refine jr_al0 C dX0_balanced_0 ?_
  refine jr_il1 C dX0_balanced_1 ?_
  refine jc_update C dX0_balanced_2 ⟨by decide, by decide⟩ (Nat.le_of_ble_eq_true rfl) (m_update l N K hn2 (by omega) (by omega) (by rw [ea, eb]; omega)) (fun N1 K1 hp => ?_)
  obtain ⟨e1, rfl⟩ := hp
  rw [ea, eb, lx, ly] at e1
  have c0 : N1 0 = N 0 := by rw [e1, jup_k (by decide)]
  have c1 : N1 1 = N 1 := by rw [e1, jup_k (by decide)]
  have c3 : N1 3 n = xs.length + ys.length + 1 := by rw [e1, jup_s]
  have g1 : ag N N1 [n] := by rw [e1]; exact ag_jup (by simp)
  have s1 : sm N N1 [0, 1, 3] := by rw [e1]; exact sm_jup (by simp)
  have z1 : N1 3 0 = 0 := ag_z g1 h0 (by simp [hn])
  have dx : ∀ m ∈ xs, m ∉ [n] := by grind [List.nodup_append]
  have dy : ∀ m ∈ ys, m ∉ [n] := by grind [List.nodup_append]
  have tx := ag_tr g1 hx dx
  have ty := ag_tr g1 hy dy
  have g1' : ag N N1 (xs ++ n :: ys) := ag_sub g1 (by simp)
  have dxy : ∀ m ∈ ys, m ∉ xs := fun m hm q => (List.nodup_append.mp hnd).2.2 m q m (List.mem_cons_of_mem _ hm) rfl
  have hpos : ∀ m ∈ xs ++ n :: ys, 0 < m := by
    intro m hm
    rcases List.mem_append.mp hm with h | h
    · exact (tr_mem tx m h).1
    · rcases List.mem_cons.mp h with h | h
      · rw [h]; exact hn
      · exact (tr_mem ty m h).1
  have wx := tr_len z1 tx
  have wy := tr_len z1 ty
  refine jr_al0 C dX0_balanced_5 ?_
  refine jg_left C dX0_balanced_6 ?_
  refine jr_il1 C dX0_balanced_9 ?_
  refine jl_left C dX0_balanced_10 (by omega) ?_
  refine jr_top (v := a) (by rw [c0, ea]) ?_
  refine jr_is2 C dX0_balanced_11 ?_
  refine jr_al0 C dX0_balanced_12 ?_
  refine jg_right C dX0_balanced_13 ?_
  refine jr_il1 C dX0_balanced_16 ?_
  refine jl_right C dX0_balanced_17 (by omega) ?_
  refine jr_top (v := b) (by rw [c1, eb]) ?_
  refine jr_is3 C dX0_balanced_18 ?_
  refine jr_al0 C dX0_balanced_19 ?_
  refine jr_il3 C dX0_balanced_20 ?_
  refine jc_weight C dX0_balanced_21 ⟨by decide, by decide⟩ (Nat.le_of_ble_eq_true rfl) (m_weight l N1 K1 b_y) (fun r N2 K2 hp => ?_)
  obtain ⟨rfl, rfl, rfl⟩ := hp
  refine jr_ic3 C dX0_balanced_24 ?_
  refine jr_al0 C dX0_balanced_25 ?_
  refine jr_il2 C dX0_balanced_26 ?_
  refine jc_weight C dX0_balanced_27 ⟨by decide, by decide⟩ (Nat.le_of_ble_eq_true rfl) (m_weight l N2 K2 bx) (fun r N1 K1 hp => ?_)
  obtain ⟨rfl, rfl, rfl⟩ := hp
  rw [wx, wy]
  refine jr_imul C dX0_balanced_30 ?_
  refine jr_cmpN_le C dX0_balanced_31 (by omega) (by omega) (fun hc => ?_) (fun hc => ?_)
  · refine jr_al0 C dX0_balanced_77 ?_
    refine jr_il2 C dX0_balanced_78 ?_
    refine jc_weight C dX0_balanced_79 ⟨by decide, by decide⟩ (Nat.le_of_ble_eq_true rfl) (m_weight l N1 K1 bx) (fun r N2 K2 hp => ?_)
    obtain ⟨rfl, rfl, rfl⟩ := hp
    refine jr_ic3 C dX0_balanced_82 ?_
    refine jr_al0 C dX0_balanced_83 ?_
    refine jr_il3 C dX0_balanced_84 ?_
    refine jc_weight C dX0_balanced_85 ⟨by decide, by decide⟩ (Nat.le_of_ble_eq_true rfl) (m_weight l N2 K2 b_y) (fun r N1 K1 hp => ?_)
    obtain ⟨rfl, rfl, rfl⟩ := hp
    rw [wx, wy]
    refine jr_imul C dX0_balanced_88 ?_
    refine jr_cmpN_le C dX0_balanced_89 (by omega) (by omega) (fun hd => ?_) (fun hd => ?_)
    · refine jr_il1 C dX0_balanced_135 ?_
      refine jr_iret C hret dX0_balanced_136 ?_
      exact ⟨n, rfl, tr_mk hn hn2 c3 (by rw [c0, ea]; exact tx) (by rw [c1, eb]; exact ty), g1', s1, rfl⟩
    · have hne : xs ≠ [] := by rintro rfl; simp only [List.length_nil] at hd; omega
      have ha : a ≠ 0 := by intro q; subst q; exact hne (tr_zero tx)
      obtain ⟨q0, q1, -, us, vs, exs, tu, tv⟩ := tr_node tx ha
      have bu := tr_lt tu
      have bv := tr_lt tv
      have wu := tr_len z1 tu
      have wv := tr_len z1 tv
      have lxs : xs.length = us.length + vs.length + 1 := by rw [exs]; simp; omega
      refine jr_al0 C dX0_balanced_92 ?_
      refine jr_al0 C dX0_balanced_93 ?_
      refine jg_right C dX0_balanced_94 ?_
      refine jr_il2 C dX0_balanced_97 ?_
      refine jl_right C dX0_balanced_98 (by omega) ?_
      refine jc_weight C dX0_balanced_99 ⟨by decide, by decide⟩ (Nat.le_of_ble_eq_true rfl) (m_weight l N1 K1 bv) (fun r N2 K2 hp => ?_)
      obtain ⟨rfl, rfl, rfl⟩ := hp
      refine jr_ic2 C dX0_balanced_102 ?_
      refine jr_al0 C dX0_balanced_103 ?_
      refine jr_al0 C dX0_balanced_104 ?_
      refine jg_left C dX0_balanced_105 ?_
      refine jr_il2 C dX0_balanced_108 ?_
      refine jl_left C dX0_balanced_109 (by omega) ?_
      refine jc_weight C dX0_balanced_110 ⟨by decide, by decide⟩ (Nat.le_of_ble_eq_true rfl) (m_weight l N2 K2 bu) (fun r N1 K1 hp => ?_)
      obtain ⟨rfl, rfl, rfl⟩ := hp
      rw [wu, wv]
      refine jr_imul C dX0_balanced_113 ?_
      refine jr_cmpN_lt C dX0_balanced_114 (by omega) (by omega) (fun he => ?_) (fun he => ?_)
      · exact tailR N1 z1 (by rw [c0, ea]; exact tx) (by rw [c1, eb]; exact ty) hne g1' s1
      · have hq : N1 1 a ≠ 0 := by
          intro q
          have := tr_zero (q ▸ tv)
          subst this
          simp only [List.length_nil] at he
          omega
        obtain ⟨p0, p1, -, ps, qs, evs, tp, tq⟩ := tr_node tv hq
        have hnd2 : (us ++ a :: (ps ++ N1 1 a :: qs)).Nodup := by rw [← evs, ← exs]; exact (List.nodup_append.mp hnd).1
        have hlen3 : (us ++ a :: (ps ++ N1 1 a :: qs)).length < 127 := by rw [← evs, ← exs]; omega
        refine jr_al0 C dX0_balanced_117 ?_
        refine jg_left C dX0_balanced_118 ?_
        refine jr_il1 C dX0_balanced_121 ?_
        refine jr_al0 C dX0_balanced_122 ?_
        refine jr_il2 C dX0_balanced_123 ?_
        refine jc_rotatedLeft C dX0_balanced_124 ⟨by decide, by decide⟩ (Nat.le_of_ble_eq_true rfl) (m_rotatedLeft l N1 K1 z1 q0 q1 rfl p0 p1 tu tp tq hnd2 hlen3) (fun r N2 K2 hp => ?_)
        obtain ⟨rfl, t2, g2, s2, rfl⟩ := hp
        rw [← evs, ← exs] at t2
        have hmem : ∀ m ∈ [a, N1 1 a], m ∈ xs := by rw [exs, evs]; simp
        have hnx : n ∉ [a, N1 1 a] := fun q => dx n (hmem n q) (by simp)
        obtain ⟨d0, d1, d3⟩ := g2 n hnx
        refine jr_i2s C dX0_balanced_127 (by omega) ?_
        refine js_left C dX0_balanced_128 (by omega) (by omega) ?_
        have g3 : ag N2 (jup N2 0 n (N1 1 a)) [n] := ag_jup (by simp)
        have gg : ag N1 (jup N2 0 n (N1 1 a)) (xs ++ n :: ys) := ag_trans g2 g3 (fun m hm => List.mem_append_left _ (hmem m hm)) (by simp)
        refine tailR _ (ag_z gg z1 hpos) (by rw [jup_s]; exact ag_tr g3 t2 dx) ?_ hne (ag_trans g1' gg (fun _ h => h) (fun _ h => h)) (sm_trans s1 (sm_trans s2 (sm_jup (by simp))))
        rw [show jup N2 0 n (N1 1 a) 1 n = b by rw [jup_k (by decide), d1, c1, eb]]
        exact ag_tr g3 (ag_tr g2 ty (fun m hm q => dxy m hm (hmem m q))) dy
  · have hne : ys ≠ [] := by rintro rfl; simp only [List.length_nil] at hc; omega
    have hb : b ≠ 0 := by intro q; subst q; exact hne (tr_zero ty)
    obtain ⟨q0, q1, -, us, vs, eys, tu, tv⟩ := tr_node ty hb
    have bu := tr_lt tu
    have bv := tr_lt tv
    have wu := tr_len z1 tu
    have wv := tr_len z1 tv
    have lys : ys.length = us.length + vs.length + 1 := by rw [eys]; simp; omega
    refine jr_al0 C dX0_balanced_34 ?_
    refine jr_al0 C dX0_balanced_35 ?_
    refine jg_left C dX0_balanced_36 ?_
    refine jr_il3 C dX0_balanced_39 ?_
    refine jl_left C dX0_balanced_40 (by omega) ?_
    refine jc_weight C dX0_balanced_41 ⟨by decide, by decide⟩ (Nat.le_of_ble_eq_true rfl) (m_weight l N1 K1 bu) (fun r N2 K2 hp => ?_)
    obtain ⟨rfl, rfl, rfl⟩ := hp
    refine jr_ic2 C dX0_balanced_44 ?_
    refine jr_al0 C dX0_balanced_45 ?_
    refine jr_al0 C dX0_balanced_46 ?_
    refine jg_right C dX0_balanced_47 ?_
    refine jr_il3 C dX0_balanced_50 ?_
    refine jl_right C dX0_balanced_51 (by omega) ?_
    refine jc_weight C dX0_balanced_52 ⟨by decide, by decide⟩ (Nat.le_of_ble_eq_true rfl) (m_weight l N2 K2 bv) (fun r N1 K1 hp => ?_)
    obtain ⟨rfl, rfl, rfl⟩ := hp
    rw [wu, wv]
    refine jr_imul C dX0_balanced_55 ?_
    refine jr_cmpN_lt C dX0_balanced_56 (by omega) (by omega) (fun he => ?_) (fun he => ?_)
    · exact tailL N1 z1 (by rw [c0, ea]; exact tx) (by rw [c1, eb]; exact ty) hne g1' s1
    · have hq : N1 0 b ≠ 0 := by
        intro q
        have := tr_zero (q ▸ tu)
        subst this
        simp only [List.length_nil] at he
        omega
      obtain ⟨p0, p1, -, ps, qs, eus, tp, tq⟩ := tr_node tu hq
      have hnd2 : ((ps ++ N1 0 b :: qs) ++ b :: vs).Nodup := by rw [← eus, ← eys]; exact (List.nodup_cons.mp (List.nodup_append.mp hnd).2.1).2
      have hlen3 : ((ps ++ N1 0 b :: qs) ++ b :: vs).length < 127 := by rw [← eus, ← eys]; omega
      refine jr_al0 C dX0_balanced_59 ?_
      refine jg_right C dX0_balanced_60 ?_
      refine jr_il1 C dX0_balanced_63 ?_
      refine jr_al0 C dX0_balanced_64 ?_
      refine jr_il3 C dX0_balanced_65 ?_
      refine jc_rotatedRight C dX0_balanced_66 ⟨by decide, by decide⟩ (Nat.le_of_ble_eq_true rfl) (m_rotatedRight l N1 K1 z1 q0 q1 rfl p0 p1 tv tq tp hnd2 hlen3) (fun r N2 K2 hp => ?_)
      obtain ⟨rfl, t2, g2, s2, rfl⟩ := hp
      rw [← eus, ← eys] at t2
      have hmem : ∀ m ∈ [b, N1 0 b], m ∈ ys := by rw [eys, eus]; simp
      have hnx : n ∉ [b, N1 0 b] := fun q => dy n (hmem n q) (by simp)
      obtain ⟨d0, d1, d3⟩ := g2 n hnx
      refine jr_i2s C dX0_balanced_69 (by omega) ?_
      refine js_right C dX0_balanced_70 (by omega) (by omega) ?_
      have g3 : ag N2 (jup N2 1 n (N1 0 b)) [n] := ag_jup (by simp)
      have gg : ag N1 (jup N2 1 n (N1 0 b)) (xs ++ n :: ys) := ag_trans g2 g3 (fun m hm => List.mem_append_right _ (List.mem_cons_of_mem _ (hmem m hm))) (by simp)
      refine tailL _ (ag_z gg z1 hpos) ?_ (by rw [jup_s]; exact ag_tr g3 t2 dy) hne (ag_trans g1' gg (fun _ h => h) (fun _ h => h)) (sm_trans s1 (sm_trans s2 (sm_jup (by simp))))
      rw [show jup N2 1 n (N1 0 b) 0 n = a by rw [jup_k (by decide), d0, c0, ea]]
      exact ag_tr g3 (ag_tr g2 tx (fun m hm q => dxy m (hmem m q) hm)) dx
end
section
/-! ways: a way down a tree, the top of the way first: (node, went right, the nodes beside it) -/
abbrev jZ : Type := List (Nat × Nat × List Nat)
def plug : jZ → List Nat → List Nat
  | [], xs => xs
  | q :: Z, xs => plug Z (if q.2.1 = 0 then xs ++ q.1 :: q.2.2 else q.2.2 ++ q.1 :: xs)
def zn : jZ → List Nat
  | [] => []
  | q :: Z => (q.1 :: q.2.2) ++ zn Z
def stk (N : Nat → Nat → Nat) (w : Nat) : jZ → Prop
  | [] => True
  | q :: Z => N 8 (w + Z.length) = q.1 ∧ N 9 (w + Z.length) = q.2.1 ∧ q.2.1 < 2 ∧ 0 < q.1 ∧ q.1 < 256 ∧ tr N (if q.2.1 = 0 then N 1 q.1 else N 0 q.1) q.2.2 ∧ stk N w Z
theorem plug_perm : ∀ (Z : jZ) (xs : List Nat), (plug Z xs).Perm (xs ++ zn Z) := by
  intro Z
  induction Z with
  | nil => intro xs; simp [plug, zn]
  | cons q Z ih =>
    intro xs
    have h := ih (if q.2.1 = 0 then xs ++ q.1 :: q.2.2 else q.2.2 ++ q.1 :: xs)
    refine List.Perm.trans h ?_
    show List.Perm _ (xs ++ ((q.1 :: q.2.2) ++ zn Z))
    rw [← List.append_assoc]
    refine List.Perm.append_right _ ?_
    split
    · exact List.Perm.refl _
    · refine List.Perm.trans List.perm_middle ?_
      refine List.Perm.trans ?_ List.perm_middle.symm
      exact List.Perm.cons _ List.perm_append_comm
theorem plug_len (Z : jZ) (xs : List Nat) : (plug Z xs).length = xs.length + (zn Z).length := by
  rw [(plug_perm Z xs).length_eq, List.length_append]
theorem zn_len : ∀ (Z : jZ), Z.length ≤ (zn Z).length := by
  intro Z
  induction Z with
  | nil => simp [zn]
  | cons q Z ih => simp [zn]; omega
theorem plug_mem {Z : jZ} {xs : List Nat} {m : Nat} : m ∈ plug Z xs ↔ m ∈ xs ∨ m ∈ zn Z := by
  rw [(plug_perm Z xs).mem_iff, List.mem_append]
theorem plug_nd {Z : jZ} {xs : List Nat} (h : (plug Z xs).Nodup) : xs.Nodup ∧ (zn Z).Nodup ∧ ∀ m ∈ zn Z, m ∉ xs := by
  have h1 := (plug_perm Z xs).nodup_iff.mp h
  obtain ⟨a, b, c⟩ := List.nodup_append.mp h1
  exact ⟨a, b, fun m hm hx => c m hx m hm rfl⟩
theorem plug_r : ∀ (Z : jZ) (xs ys : List Nat), (∀ q ∈ Z, q.2.1 ≠ 0) → plug Z (xs ++ ys) = plug Z xs ++ ys := by
  intro Z
  induction Z with
  | nil => intro xs ys _; rfl
  | cons q Z ih =>
    intro xs ys h
    have hq := h q List.mem_cons_self
    simp only [plug, if_neg hq]
    rw [← ih _ _ (fun r hr => h r (List.mem_cons_of_mem _ hr))]
    simp
theorem plug_l : ∀ (Z : jZ) (xs ys : List Nat), (∀ q ∈ Z, q.2.1 = 0) → plug Z (ys ++ xs) = ys ++ plug Z xs := by
  intro Z
  induction Z with
  | nil => intro xs ys _; rfl
  | cons q Z ih =>
    intro xs ys h
    have hq := h q List.mem_cons_self
    simp only [plug, if_pos hq]
    rw [← ih _ _ (fun r hr => h r (List.mem_cons_of_mem _ hr))]
    simp
/-- the way below w stays -/
def low (N N' : Nat → Nat → Nat) (w : Nat) : Prop := ∀ i, i < w → N' 8 i = N 8 i ∧ N' 9 i = N 9 i
theorem low_rfl {N : Nat → Nat → Nat} {w : Nat} : low N N w := fun _ _ => ⟨rfl, rfl⟩
theorem low_trans {N N1 N2 : Nat → Nat → Nat} {w w1 w2 : Nat} (h1 : low N N1 w1) (h2 : low N1 N2 w2) (e1 : w ≤ w1) (e2 : w ≤ w2) : low N N2 w := by
  intro i hi
  obtain ⟨a, b⟩ := h1 i (by omega)
  obtain ⟨c, d⟩ := h2 i (by omega)
  exact ⟨c.trans a, d.trans b⟩
theorem low_sm {N N' : Nat → Nat → Nat} {w : Nat} {ks : List Nat} (h : sm N N' ks) (h8 : 8 ∉ ks) (h9 : 9 ∉ ks) : low N N' w := by
  intro i _
  rw [h 8 h8, h 9 h9]
  exact ⟨rfl, rfl⟩
theorem stk_ag {N N' : Nat → Nat → Nat} {w : Nat} {xs : List Nat} : ∀ {Z : jZ}, stk N w Z → ag N N' xs → (∀ m ∈ zn Z, m ∉ xs) → low N N' (w + Z.length) → stk N' w Z := by
  intro Z
  induction Z with
  | nil => intro _ _ _ _; trivial
  | cons q Z ih =>
    intro h ha hd hl
    obtain ⟨h1, h2, h3, h4, h5, h6, h7⟩ := h
    obtain ⟨l1, l2⟩ := hl (w + Z.length) (by simp)
    obtain ⟨a0, a1, -⟩ := ha q.1 (hd q.1 (by simp [zn]))
    refine ⟨l1.trans h1, l2.trans h2, h3, h4, h5, ?_, ih h7 ha (fun m hm => hd m (by simp [zn, hm])) (fun i hi => hl i (by simp only [List.length_cons]; omega))⟩
    rw [a0, a1]
    exact ag_tr ha h6 (fun m hm => hd m (by simp [zn, hm]))
theorem stk_push {N N' : Nat → Nat → Nat} {w p b : Nat} {ss : List Nat} {Z : jZ} (h : stk N w Z) (e : N' = jup (jup (jup N 8 (w + Z.length) p) 9 (w + Z.length) b) 7 0 (w + Z.length + 1)) (hb : b < 2) (h0 : 0 < p) (h1 : p < 256) (ht : tr N (if b = 0 then N 1 p else N 0 p) ss) : stk N' w ((p, b, ss) :: Z) ∧ N' 7 0 = w + (Z.length + 1) ∧ sm N N' [7, 8, 9] ∧ low N N' (w + Z.length) := by
  have hs : sm N N' [7, 8, 9] := by rw [e]; exact sm_trans (sm_jup (by simp)) (sm_trans (sm_jup (by simp)) (sm_jup (by simp)))
  have hl : low N N' (w + Z.length) := by
    intro i hi
    rw [e]
    have hne : ¬ i = w + Z.length := by omega
    simp [jup_e, hne]
  have ha : ag N N' [] := by
    intro m _
    rw [hs 0 (by simp), hs 1 (by simp), hs 3 (by simp)]
    exact ⟨rfl, rfl, rfl⟩
  refine ⟨⟨by rw [e]; simp [jup_e], by rw [e]; simp [jup_e], hb, h0, h1, ?_, stk_ag h ha (by simp) hl⟩, by rw [e]; simp [jup_e]; omega, hs, hl⟩
  rw [hs 0 (by simp), hs 1 (by simp)]
  exact ag_tr ha ht (by simp)
theorem sm_ag {N N' : Nat → Nat → Nat} {ks xs : List Nat} (h : sm N N' ks) (h0 : 0 ∉ ks) (h1 : 1 ∉ ks) (h3 : 3 ∉ ks) : ag N N' xs := by
  intro m _
  rw [h 0 h0, h 1 h1, h 3 h3]
  exact ⟨rfl, rfl, rfl⟩
end
section
/-- what join leaves -/
def P_join (N : Nat → Nat → Nat) (K : Nat → Nat → Int32) (zs : List Nat) : Int32 → (Nat → Nat → Nat) → (Nat → Nat → Int32) → Prop := fun r N1 K1 => ∃ t, r = nI t ∧ tr N1 t zs ∧ ag N N1 zs ∧ sm N N1 [0, 1, 3, 7, 8, 9] ∧ N1 7 0 = N 7 0 ∧ low N N1 (N 7 0) ∧ K1 = K
set_option maxHeartbeats 1000000 in
theorem m_join (l : Launch) (N : Nat → Nat → Nat) (K : Nat → Nat → Int32) {a mi b : Nat} {xs ys : List Nat} (h0 : N 3 0 = 0) (ta : tr N a xs) (tb : tr N b ys) (hm : 0 < mi) (hm2 : mi < 256) (hnd : (xs ++ mi :: ys).Nodup) (hlen : (xs ++ mi :: ys).length < 127) (hw1 : N 7 0 + xs.length ≤ 64) (hw2 : N 7 0 + ys.length ≤ 64) : jI l jw jty yX0_join cX0_join 11 .int 3 [.int (nI a), .int (nI mi), .int (nI b)] N K (P_join N K (xs ++ mi :: ys)) := by
  have ba := tr_lt ta
  have bb := tr_lt tb
  have la := tr_len h0 ta
  have lb := tr_len h0 tb
  have hlen2 := hlen
  simp only [List.length_append, List.length_cons] at hlen2
  obtain ⟨w, ew⟩ : ∃ w, N 7 0 = w := ⟨_, rfl⟩
  rw [ew] at hw1 hw2
  have hpos : ∀ q ∈ xs ++ mi :: ys, 0 < q := by
    intro q hq
    rcases List.mem_append.mp hq with h | h
    · exact (tr_mem ta q h).1
    · rcases List.mem_cons.mp h with h | h
      · rw [h]; exact hm
      · exact (tr_mem tb q h).1
  refine jI_of (k := 3) (kN := 7) (L := fun g : jG => [some (.ref g.2.1), some (.int (nI a)), some (.int (nI mi)), some (.int (nI b)), none, none, none, none, none, none, none]) (by decide) (fun g => rfl) (fun g => rfl) (fun g => by simp [Value.category]) ?_
  intro g p e s m args below meth c A C hret
  have up : ∀ (Z : jZ) (N2 : Nat → Nat → Nat) (t : Nat) (is : List Nat) (o4 o5 o7 o8 o10 : Option Value), N2 3 0 = 0 → tr N2 t is → stk N2 w Z → N2 7 0 = w + Z.length → w + Z.length ≤ 64 → plug Z is = xs ++ mi :: ys → ag N N2 (xs ++ mi :: ys) → sm N N2 [0, 1, 3, 7, 8, 9] → low N N2 w → JJ p l e (jrm 3) s m args below meth c 0 0 (jQI jw jty g A below args s (P_join N K (xs ++ mi :: ys))) A g.1 11 (jw g N2 K) 161 [some (.ref g.2.1), some (.int (nI a)), some (.int (nI mi)), some (.int (nI b)), o4, o5, some (.int (nI w)), o7, o8, some (.int (nI t)), o10] [] := by
    intro Z
    induction Z with
    | nil =>
      intro N2 t is o4 o5 o7 o8 o10 z2 tt hk h7 hle hpl g2 s2 l2
      refine jr_al0 C dX0_join_161 ?_
      refine jg_wayEnd C dX0_join_162 ?_
      refine jr_top (v := w) (by simpa using h7) ?_
      refine jr_il6 C dX0_join_165 ?_
      refine jr_cmpN_le C dX0_join_167 (by omega) (by omega) (fun hc => ?_) (fun hc => ?_)
      · refine jr_il9 C dX0_join_237 ?_
        refine jr_iret C hret dX0_join_239 ?_
        have hpl : is = xs ++ mi :: ys := hpl
        exact ⟨t, rfl, hpl ▸ tt, g2, s2, by rw [ew]; simpa using h7, by rw [ew]; exact l2, rfl⟩
      · exact absurd (Nat.le_refl w) hc
    | cons q Z ih =>
      intro N2 t is o4 o5 o7 o8 o10 z2 tt hk h7 hle hpl g2 s2 l2
      obtain ⟨pn, bq, ss⟩ := q
      obtain ⟨k1, k2, k3, k4, k5, k6, k7⟩ := hk
      dsimp only at k1 k2 k3 k4 k5 k6
      simp only [List.length_cons] at h7 hle
      have bt := tr_lt tt
      refine jr_al0 C dX0_join_161 ?_
      refine jg_wayEnd C dX0_join_162 ?_
      refine jr_top (v := w + (Z.length + 1)) (h7) ?_
      refine jr_il6 C dX0_join_165 ?_
      refine jr_cmpN_le C dX0_join_167 (by omega) (by omega) (fun hc => ?_) (fun hc => ?_)
      · exact absurd hc (by omega)
      refine jr_al0 C dX0_join_170 ?_
      refine jr_dup C dX0_join_171 rfl ?_
      refine jg_wayEnd C dX0_join_172 ?_
      refine jr_top (v := w + (Z.length + 1)) (h7) ?_
      refine jr_ic1 C dX0_join_175 ?_
      refine jr_isub C dX0_join_176 (by omega) ?_
      refine jr_top (v := w + Z.length) (by omega) ?_
      refine jp_wayEnd C dX0_join_177 ?_
      refine jr_al0 C dX0_join_180 ?_
      refine jg_way C dX0_join_181 ?_
      refine jr_al0 C dX0_join_184 ?_
      refine jg_wayEnd C dX0_join_185 ?_
      refine jr_top (v := w + Z.length) (by rw [jup_s]) ?_
      refine jl_way C dX0_join_188 (by omega) ?_
      refine jr_top (v := pn) (by rw [jup_k (by decide)]; exact k1) ?_
      refine jr_is10 C dX0_join_189 ?_
      refine jr_al0 C dX0_join_191 ?_
      refine jg_wentRight C dX0_join_192 ?_
      refine jr_al0 C dX0_join_195 ?_
      refine jg_wayEnd C dX0_join_196 ?_
      refine jr_top (v := w + Z.length) (by rw [jup_s]) ?_
      refine jl_wentRight C dX0_join_199 (by omega) ?_
      refine jr_top (v := bq) (by rw [jup_k (by decide)]; exact k2) ?_
      refine jr_ifN_eq C dX0_join_200 (by omega) (fun hb => ?_) (fun hb => ?_)
      · subst hb
        have hpl : plug Z (is ++ pn :: ss) = xs ++ mi :: ys := hpl
        have hn1 := plug_nd (hpl.symm ▸ hnd)
        have hl1 := plug_len Z (is ++ pn :: ss)
        rw [hpl] at hl1
        have k6 : tr N2 (N2 1 pn) ss := k6
        have hmem : ∀ q ∈ is ++ pn :: ss, q ∈ xs ++ mi :: ys := fun q hq => by rw [← hpl]; exact plug_mem.mpr (Or.inl hq)
        refine jr_al0 C dX0_join_216 ?_
        refine jg_left C dX0_join_217 ?_
        refine jr_il10 C dX0_join_220 ?_
        refine jr_il9 C dX0_join_222 ?_
        refine jr_i2s C dX0_join_224 (by omega) ?_
        refine js_left C dX0_join_225 (by omega) (by omega) ?_
        obtain ⟨N3, e3⟩ : ∃ N3, N3 = jup (jup N2 7 0 (w + Z.length)) 0 pn t := ⟨_, rfl⟩
        have g3 : ag N2 N3 [pn] := by rw [e3]; exact ag_trans (ag_jupk (xs := [pn]) (by decide)) (ag_jup (xs := [pn]) (by simp)) (fun _ h => h) (fun _ h => h)
        have z3 : N3 3 0 = 0 := ag_z g3 z2 (by simp [k4])
        have c0 : N3 0 pn = t := by rw [e3, jup_s]
        have c1 : N3 1 pn = N2 1 pn := by rw [e3, jup_k (by decide), jup_k (by decide)]
        have hi : ∀ q ∈ is, q ∉ [pn] := by intro q hq; have := (List.nodup_append.mp hn1.1).2.2 q hq pn (by simp); simpa using this
        have hs : ∀ q ∈ ss, q ∉ [pn] := by intro q hq; have := (List.nodup_cons.mp (List.nodup_append.mp hn1.1).2.1).1; intro h; simp at h; exact this (h ▸ hq)
        rw [← e3]
        refine jr_al0 C dX0_join_226 ?_
        refine jr_il10 C dX0_join_227 ?_
        refine jc_balanced C dX0_join_229 ⟨by decide, by decide⟩ (Nat.le_of_ble_eq_true rfl) (m_balanced l N3 K z3 k4 k5 (by rw [c0]; exact ag_tr g3 tt hi) (by rw [c1]; exact ag_tr g3 k6 hs) hn1.1 (by omega)) (fun r N4 K4 hp => ?_)
        obtain ⟨t4, rfl, tt4, g4, s4, rfl⟩ := hp
        refine jr_is9 C dX0_join_232 ?_
        refine jr_goto C dX0_join_234 ?_
        have g24 : ag N2 N4 (is ++ pn :: ss) := ag_trans g3 g4 (by simp) (fun _ h => h)
        have s24 : sm N2 N4 [0, 1, 3, 7] := sm_trans (by rw [e3]; exact sm_trans (sm_jup (by simp)) (sm_jup (by simp))) (sm_sub s4 (by simp))
        exact ih N4 t4 (is ++ pn :: ss) o4 o5 o7 o8 _ (ag_z g4 z3 (fun q hq => hpos q (hmem q hq))) tt4 (stk_ag k7 g24 hn1.2.2 (low_sm s24 (by decide) (by decide))) (by rw [s4 7 (by decide), e3, jup_k (by decide), jup_s]) (by omega) hpl (ag_trans g2 g24 (fun _ h => h) hmem) (sm_trans s2 (sm_sub s24 (by simp))) (low_trans l2 (low_sm (w := w) s24 (by decide) (by decide)) (Nat.le_refl _) (Nat.le_refl _))
      · have hpl : plug Z (if bq = 0 then is ++ pn :: ss else ss ++ pn :: is) = xs ++ mi :: ys := hpl
        rw [if_neg hb] at hpl k6
        have hn1 := plug_nd (hpl.symm ▸ hnd)
        have hl1 := plug_len Z (ss ++ pn :: is)
        rw [hpl] at hl1
        have hmem : ∀ q ∈ ss ++ pn :: is, q ∈ xs ++ mi :: ys := fun q hq => by rw [← hpl]; exact plug_mem.mpr (Or.inl hq)
        refine jr_al0 C dX0_join_203 ?_
        refine jg_right C dX0_join_204 ?_
        refine jr_il10 C dX0_join_207 ?_
        refine jr_il9 C dX0_join_209 ?_
        refine jr_i2s C dX0_join_211 (by omega) ?_
        refine js_right C dX0_join_212 (by omega) (by omega) ?_
        refine jr_goto C dX0_join_213 ?_
        obtain ⟨N3, e3⟩ : ∃ N3, N3 = jup (jup N2 7 0 (w + Z.length)) 1 pn t := ⟨_, rfl⟩
        have g3 : ag N2 N3 [pn] := by rw [e3]; exact ag_trans (ag_jupk (xs := [pn]) (by decide)) (ag_jup (xs := [pn]) (by simp)) (fun _ h => h) (fun _ h => h)
        have z3 : N3 3 0 = 0 := ag_z g3 z2 (by simp [k4])
        have c0 : N3 1 pn = t := by rw [e3, jup_s]
        have c1 : N3 0 pn = N2 0 pn := by rw [e3, jup_k (by decide), jup_k (by decide)]
        have hi : ∀ q ∈ ss, q ∉ [pn] := by intro q hq; have := (List.nodup_append.mp hn1.1).2.2 q hq pn (by simp); simpa using this
        have hs : ∀ q ∈ is, q ∉ [pn] := by intro q hq; have := (List.nodup_cons.mp (List.nodup_append.mp hn1.1).2.1).1; intro h; simp at h; exact this (h ▸ hq)
        rw [← e3]
        refine jr_al0 C dX0_join_226 ?_
        refine jr_il10 C dX0_join_227 ?_
        refine jc_balanced C dX0_join_229 ⟨by decide, by decide⟩ (Nat.le_of_ble_eq_true rfl) (m_balanced l N3 K z3 k4 k5 (by rw [c1]; exact ag_tr g3 k6 hi) (by rw [c0]; exact ag_tr g3 tt hs) hn1.1 (by omega)) (fun r N4 K4 hp => ?_)
        obtain ⟨t4, rfl, tt4, g4, s4, rfl⟩ := hp
        refine jr_is9 C dX0_join_232 ?_
        refine jr_goto C dX0_join_234 ?_
        have g24 : ag N2 N4 (ss ++ pn :: is) := ag_trans g3 g4 (by simp) (fun _ h => h)
        have s24 : sm N2 N4 [0, 1, 3, 7] := sm_trans (by rw [e3]; exact sm_trans (sm_jup (by simp)) (sm_jup (by simp))) (sm_sub s4 (by simp))
        exact ih N4 t4 (ss ++ pn :: is) o4 o5 o7 o8 _ (ag_z g4 z3 (fun q hq => hpos q (hmem q hq))) tt4 (stk_ag k7 g24 hn1.2.2 (low_sm s24 (by decide) (by decide))) (by rw [s4 7 (by decide), e3, jup_k (by decide), jup_s]) (by omega) hpl (ag_trans g2 g24 (fun _ h => h) hmem) (sm_trans s2 (sm_sub s24 (by simp))) (low_trans l2 (low_sm (w := w) s24 (by decide) (by decide)) (Nat.le_refl _) (Nat.le_refl _))
  have at136 : ∀ (Z : jZ) (N2 : Nat → Nat → Nat) (x y : Nat) (us vs : List Nat) (o7 o8 : Option Value), sm N N2 [7, 8, 9] → tr N2 x us → tr N2 y vs → stk N2 w Z → N2 7 0 = w + Z.length → w + Z.length ≤ 64 → plug Z (us ++ mi :: vs) = xs ++ mi :: ys → low N N2 w → JJ p l e (jrm 3) s m args below meth c 0 0 (jQI jw jty g A below args s (P_join N K (xs ++ mi :: ys))) A g.1 11 (jw g N2 K) 136 [some (.ref g.2.1), some (.int (nI a)), some (.int (nI mi)), some (.int (nI b)), some (.int (nI x)), some (.int (nI y)), some (.int (nI w)), o7, o8, none, none] [] := by
    intro Z N2 x y us vs o7 o8 s2 tx ty hk h7 hle hpl l2
    have bx := tr_lt tx
    have b_y := tr_lt ty
    have hn1 := plug_nd (hpl.symm ▸ hnd)
    have hl1 := plug_len Z (us ++ mi :: vs)
    rw [hpl] at hl1
    have z2 : N2 3 0 = 0 := by rw [s2 3 (by decide)]; exact h0
    have hmem : ∀ q ∈ us ++ mi :: vs, q ∈ xs ++ mi :: ys := fun q hq => by rw [← hpl]; exact plug_mem.mpr (Or.inl hq)
    refine jr_al0 C dX0_join_136 ?_
    refine jg_left C dX0_join_137 ?_
    refine jr_il2 C dX0_join_140 ?_
    refine jr_il4 C dX0_join_141 ?_
    refine jr_i2s C dX0_join_143 (by omega) ?_
    refine js_left C dX0_join_144 (by omega) (by omega) ?_
    refine jr_al0 C dX0_join_145 ?_
    refine jg_right C dX0_join_146 ?_
    refine jr_il2 C dX0_join_149 ?_
    refine jr_il5 C dX0_join_150 ?_
    refine jr_i2s C dX0_join_152 (by omega) ?_
    refine js_right C dX0_join_153 (by omega) (by omega) ?_
    refine jr_al0 C dX0_join_154 ?_
    refine jr_il2 C dX0_join_155 ?_
    obtain ⟨N3, e3⟩ : ∃ N3, N3 = jup (jup N2 0 mi x) 1 mi y := ⟨_, rfl⟩
    have g3 : ag N2 N3 [mi] := by rw [e3]; exact ag_trans (ag_jup (xs := [mi]) (by simp)) (ag_jup (xs := [mi]) (by simp)) (fun _ h => h) (fun _ h => h)
    have z3 : N3 3 0 = 0 := ag_z g3 z2 (by simp [hm])
    have c0 : N3 0 mi = x := by rw [e3, jup_k (by decide), jup_s]
    have c1 : N3 1 mi = y := by rw [e3, jup_s]
    have hi : ∀ q ∈ us, q ∉ [mi] := by intro q hq; have := (List.nodup_append.mp hn1.1).2.2 q hq mi (by simp); simpa using this
    have hs : ∀ q ∈ vs, q ∉ [mi] := by intro q hq; have := (List.nodup_cons.mp (List.nodup_append.mp hn1.1).2.1).1; intro h; simp at h; exact this (h ▸ hq)
    rw [← e3]
    refine jc_balanced C dX0_join_156 ⟨by decide, by decide⟩ (Nat.le_of_ble_eq_true rfl) (m_balanced l N3 K z3 hm hm2 (by rw [c0]; exact ag_tr g3 tx hi) (by rw [c1]; exact ag_tr g3 ty hs) hn1.1 (by omega)) (fun r N4 K4 hp => ?_)
    obtain ⟨t4, rfl, tt4, g4, s4, rfl⟩ := hp
    refine jr_is9 C dX0_join_159 ?_
    have g24 : ag N2 N4 (us ++ mi :: vs) := ag_trans g3 g4 (by simp) (fun _ h => h)
    have s24 : sm N2 N4 [0, 1, 3] := sm_trans (by rw [e3]; exact sm_trans (sm_jup (by simp)) (sm_jup (by simp))) s4
    exact up Z N4 t4 (us ++ mi :: vs) _ _ _ _ _ (ag_z g4 z3 (fun q hq => hpos q (hmem q hq))) tt4 (stk_ag hk g24 hn1.2.2 (low_sm s24 (by decide) (by decide))) (by rw [s24 7 (by decide)]; exact h7) hle hpl (ag_trans (sm_ag s2 (by decide) (by decide) (by decide)) g24 (fun _ h => h) hmem) (sm_trans (sm_sub s2 (by simp)) (sm_sub s24 (by simp))) (low_trans l2 (low_sm (w := w) s24 (by decide) (by decide)) (Nat.le_refl _) (Nat.le_refl _))
  have lp1 : ∀ (k : Nat) (Z : jZ) (N2 : Nat → Nat → Nat) (x : Nat) (us : List Nat), us.length < k → sm N N2 [7, 8, 9] → tr N2 x us → stk N2 w Z → N2 7 0 = w + Z.length → plug Z us = xs → (∀ q ∈ Z, q.2.1 ≠ 0) → low N N2 w → JJ p l e (jrm 3) s m args below meth c 0 0 (jQI jw jty g A below args s (P_join N K (xs ++ mi :: ys))) A g.1 11 (jw g N2 K) 56 [some (.ref g.2.1), some (.int (nI a)), some (.int (nI mi)), some (.int (nI b)), some (.int (nI x)), some (.int (nI b)), some (.int (nI w)), some (.int (nI 1)), some (.int (nI 0)), none, none] [] := by
    intro k
    induction k with
    | zero => intro Z N2 x us hk; omega
    | succ k ih =>
      intro Z N2 x us hk s2 tx hsk h7 hpl hdir l2
      have bx := tr_lt tx
      have z2 : N2 3 0 = 0 := by rw [s2 3 (by decide)]; exact h0
      have tb2 : tr N2 b ys := ag_tr (xs := []) (sm_ag s2 (by decide) (by decide) (by decide)) tb (by simp)
      have wx := tr_len z2 tx
      have wb := tr_len z2 tb2
      have hl1 := plug_len Z us
      rw [hpl] at hl1
      have hzl := zn_len Z
      refine jr_il7 C dX0_join_56 ?_
      refine jr_ifN_eq C dX0_join_58 (by omega) (fun hc => ?_) (fun hc => ?_)
      · exact absurd hc (by decide)
      refine jr_al0 C dX0_join_61 ?_
      refine jr_il4 C dX0_join_62 ?_
      refine jc_weight C dX0_join_64 ⟨by decide, by decide⟩ (Nat.le_of_ble_eq_true rfl) (m_weight l N2 K bx) (fun r N3 K3 hp => ?_)
      obtain ⟨rfl, rfl, rfl⟩ := hp
      refine jr_ic3 C dX0_join_67 ?_
      refine jr_al0 C dX0_join_68 ?_
      refine jr_il3 C dX0_join_69 ?_
      refine jc_weight C dX0_join_70 ⟨by decide, by decide⟩ (Nat.le_of_ble_eq_true rfl) (m_weight l N3 K3 bb) (fun r N2 K2 hp => ?_)
      obtain ⟨rfl, rfl, rfl⟩ := hp
      rw [wx, wb]
      refine jr_imul C dX0_join_73 ?_
      refine jr_cmpN_le C dX0_join_74 (by omega) (by omega) (fun hd => ?_) (fun hd => ?_)
      · refine jr_il8 C dX0_join_96 ?_
        refine jr_ifN_eq C dX0_join_98 (by omega) (fun he => ?_) (fun he => ?_)
        · refine at136 Z N2 x b us ys _ _ s2 tx tb2 hsk h7 (by omega) ?_ l2
          rw [plug_r Z us (mi :: ys) hdir, hpl]
        · exact absurd rfl he
      · have hx0 : x ≠ 0 := by
          rintro rfl
          rw [tr_zero tx] at hd
          simp only [List.length_nil] at hd
          omega
        obtain ⟨q0, q1, -, ps, rs, eus, tp, tq⟩ := tr_node tx hx0
        have lus : us.length = ps.length + rs.length + 1 := by rw [eus]; simp; omega
        refine jr_al0 C dX0_join_77 ?_
        refine jr_il4 C dX0_join_78 ?_
        refine jr_ic1 C dX0_join_80 ?_
        refine jc_pushWay C dX0_join_81 ⟨by decide, by decide⟩ (Nat.le_of_ble_eq_true rfl) (m_pushWay l N2 K2 (a := x) (b := 1) (by omega) (by decide) (by omega)) (fun N3 K3 hp => ?_)
        obtain ⟨e3, rfl⟩ := hp
        rw [h7] at e3
        obtain ⟨hsk3, h73, s3, l3⟩ := stk_push (ss := ps) hsk e3 (by decide) q0 q1 tp
        have brs := tr_lt tq
        refine jr_al0 C dX0_join_84 ?_
        refine jg_right C dX0_join_85 ?_
        refine jr_il4 C dX0_join_88 ?_
        refine jl_right C dX0_join_90 (by omega) ?_
        refine jr_top (v := N2 1 x) (by rw [s3 1 (by decide)]) ?_
        refine jr_is4 C dX0_join_91 ?_
        refine jr_goto C dX0_join_93 ?_
        refine ih ((x, 1, ps) :: Z) N3 (N2 1 x) rs (by omega) (sm_trans s2 s3) (ag_tr (xs := []) (sm_ag s3 (by decide) (by decide) (by decide)) tq (by simp)) hsk3 h73 ?_ ?_ (low_trans l2 l3 (Nat.le_refl _) (by omega))
        · show plug Z (ps ++ x :: rs) = xs
          rw [← eus]; exact hpl
        · intro q hq
          rcases List.mem_cons.mp hq with rfl | hq
          · exact Nat.one_ne_zero
          · exact hdir q hq
  have lp2 : ∀ (k : Nat) (Z : jZ) (N2 : Nat → Nat → Nat) (y : Nat) (vs : List Nat), vs.length < k → sm N N2 [7, 8, 9] → tr N2 y vs → stk N2 w Z → N2 7 0 = w + Z.length → plug Z vs = ys → (∀ q ∈ Z, q.2.1 = 0) → low N N2 w → JJ p l e (jrm 3) s m args below meth c 0 0 (jQI jw jty g A below args s (P_join N K (xs ++ mi :: ys))) A g.1 11 (jw g N2 K) 96 [some (.ref g.2.1), some (.int (nI a)), some (.int (nI mi)), some (.int (nI b)), some (.int (nI a)), some (.int (nI y)), some (.int (nI w)), some (.int (nI 0)), some (.int (nI 1)), none, none] [] := by
    intro k
    induction k with
    | zero => intro Z N2 y vs hk; omega
    | succ k ih =>
      intro Z N2 y vs hk s2 tx hsk h7 hpl hdir l2
      have bx := tr_lt tx
      have z2 : N2 3 0 = 0 := by rw [s2 3 (by decide)]; exact h0
      have ta2 : tr N2 a xs := ag_tr (xs := []) (sm_ag s2 (by decide) (by decide) (by decide)) ta (by simp)
      have wx := tr_len z2 tx
      have wb := tr_len z2 ta2
      have hl1 := plug_len Z vs
      rw [hpl] at hl1
      have hzl := zn_len Z
      refine jr_il8 C dX0_join_96 ?_
      refine jr_ifN_eq C dX0_join_98 (by omega) (fun hc => ?_) (fun hc => ?_)
      · exact absurd hc (by decide)
      refine jr_al0 C dX0_join_101 ?_
      refine jr_il5 C dX0_join_102 ?_
      refine jc_weight C dX0_join_104 ⟨by decide, by decide⟩ (Nat.le_of_ble_eq_true rfl) (m_weight l N2 K bx) (fun r N3 K3 hp => ?_)
      obtain ⟨rfl, rfl, rfl⟩ := hp
      refine jr_ic3 C dX0_join_107 ?_
      refine jr_al0 C dX0_join_108 ?_
      refine jr_il1 C dX0_join_109 ?_
      refine jc_weight C dX0_join_110 ⟨by decide, by decide⟩ (Nat.le_of_ble_eq_true rfl) (m_weight l N3 K3 ba) (fun r N2 K2 hp => ?_)
      obtain ⟨rfl, rfl, rfl⟩ := hp
      rw [wx, wb]
      refine jr_imul C dX0_join_113 ?_
      refine jr_cmpN_le C dX0_join_114 (by omega) (by omega) (fun hd => ?_) (fun hd => ?_)
      · refine at136 Z N2 a y xs vs _ _ s2 ta2 tx hsk h7 (by omega) ?_ l2
        have := plug_l Z vs (xs ++ [mi]) hdir
        rw [hpl] at this
        simpa using this
      · have hx0 : y ≠ 0 := by
          rintro rfl
          rw [tr_zero tx] at hd
          simp only [List.length_nil] at hd
          omega
        obtain ⟨q0, q1, -, ps, rs, eus, tp, tq⟩ := tr_node tx hx0
        have lus : vs.length = ps.length + rs.length + 1 := by rw [eus]; simp; omega
        refine jr_al0 C dX0_join_117 ?_
        refine jr_il5 C dX0_join_118 ?_
        refine jr_ic0 C dX0_join_120 ?_
        refine jc_pushWay C dX0_join_121 ⟨by decide, by decide⟩ (Nat.le_of_ble_eq_true rfl) (m_pushWay l N2 K2 (a := y) (b := 0) (by omega) (by decide) (by omega)) (fun N3 K3 hp => ?_)
        obtain ⟨e3, rfl⟩ := hp
        rw [h7] at e3
        obtain ⟨hsk3, h73, s3, l3⟩ := stk_push (ss := rs) hsk e3 (by decide) q0 q1 tq
        have brs := tr_lt tp
        refine jr_al0 C dX0_join_124 ?_
        refine jg_left C dX0_join_125 ?_
        refine jr_il5 C dX0_join_128 ?_
        refine jl_left C dX0_join_130 (by omega) ?_
        refine jr_top (v := N2 0 y) (by rw [s3 0 (by decide)]) ?_
        refine jr_is5 C dX0_join_131 ?_
        refine jr_goto C dX0_join_133 ?_
        refine ih ((y, 0, rs) :: Z) N3 (N2 0 y) ps (by omega) (sm_trans s2 s3) (ag_tr (xs := []) (sm_ag s3 (by decide) (by decide) (by decide)) tp (by simp)) hsk3 h73 ?_ ?_ (low_trans l2 l3 (Nat.le_refl _) (by omega))
        · show plug Z (ps ++ y :: rs) = ys
          rw [← eus]; exact hpl
        · intro q hq
          rcases List.mem_cons.mp hq with rfl | hq
          · rfl
          · exact hdir q hq
  have at54 : ∀ hF hS : Nat, hF < 2 → hS < 2 → (hF = 0 ∨ hS = 0) → JJ p l e (jrm 3) s m args below meth c 0 0 (jQI jw jty g A below args s (P_join N K (xs ++ mi :: ys))) A g.1 11 (jw g N K) 54 [some (.ref g.2.1), some (.int (nI a)), some (.int (nI mi)), some (.int (nI b)), some (.int (nI a)), some (.int (nI b)), some (.int (nI w)), some (.int (nI hF)), none, none, none] [.int (nI hS)] := by
    intro hF hS hF2 hS2 hor
    refine jr_is8 C dX0_join_54 ?_
    by_cases hF0 : hF = 0
    · subst hF0
      refine jr_il7 C dX0_join_56 ?_
      refine jr_ifN_eq C dX0_join_58 (by omega) (fun hc => ?_) (fun hc => ?_)
      · by_cases hS0 : hS = 0
        · subst hS0
          refine jr_il8 C dX0_join_96 ?_
          refine jr_ifN_eq C dX0_join_98 (by omega) (fun he => ?_) (fun he => ?_)
          · exact at136 [] N a b xs ys _ _ sm_rfl ta tb trivial (by simpa using ew) (by simp; omega) rfl low_rfl
          · exact absurd rfl he
        · have : hS = 1 := by omega
          subst this
          exact lp2 (ys.length + 1) [] N b ys (by omega) sm_rfl tb trivial (by simpa using ew) rfl (by simp) low_rfl
      · exact absurd rfl hc
    · have h1 : hF = 1 := by omega
      have h2 : hS = 0 := by omega
      subst h1
      subst h2
      exact lp1 (xs.length + 1) [] N a xs (by omega) sm_rfl ta trivial (by simpa using ew) rfl (by simp) low_rfl
  have at32 : ∀ hF : Nat, hF < 2 → (hF = 1 → 3 * (ys.length + 1) < xs.length + 1) → JJ p l e (jrm 3) s m args below meth c 0 0 (jQI jw jty g A below args s (P_join N K (xs ++ mi :: ys))) A g.1 11 (jw g N K) 32 [some (.ref g.2.1), some (.int (nI a)), some (.int (nI mi)), some (.int (nI b)), some (.int (nI a)), some (.int (nI b)), some (.int (nI w)), none, none, none, none] [.int (nI hF)] := by
    intro hF hF2 hh
    refine jr_is7 C dX0_join_32 ?_
    refine jr_al0 C dX0_join_34 ?_
    refine jr_il3 C dX0_join_35 ?_
    refine jc_weight C dX0_join_36 ⟨by decide, by decide⟩ (Nat.le_of_ble_eq_true rfl) (m_weight l N K bb) (fun r N2 K2 hp => ?_)
    obtain ⟨rfl, rfl, rfl⟩ := hp
    refine jr_ic3 C dX0_join_39 ?_
    refine jr_al0 C dX0_join_40 ?_
    refine jr_il1 C dX0_join_41 ?_
    refine jc_weight C dX0_join_42 ⟨by decide, by decide⟩ (Nat.le_of_ble_eq_true rfl) (m_weight l N2 K2 ba) (fun r N3 K3 hp => ?_)
    obtain ⟨rfl, rfl, rfl⟩ := hp
    rw [la, lb]
    refine jr_imul C dX0_join_45 ?_
    refine jr_cmpN_le C dX0_join_46 (by omega) (by omega) (fun hc => ?_) (fun hc => ?_)
    · refine jr_ic0 C dX0_join_53 ?_
      exact at54 hF 0 hF2 (by decide) (Or.inr rfl)
    · refine jr_ic1 C dX0_join_49 ?_
      refine jr_goto C dX0_join_50 ?_
      exact at54 hF 1 hF2 (by decide) (Or.inl (by omega))
  refine jr_il1 C dX0_join_0 ?_
  refine jr_is4 C dX0_join_1 ?_
  refine jr_il3 C dX0_join_3 ?_
  refine jr_is5 C dX0_join_4 ?_
  refine jr_al0 C dX0_join_6 ?_
  refine jg_wayEnd C dX0_join_7 ?_
  refine jr_top (v := w) (ew) ?_
  refine jr_is6 C dX0_join_10 ?_
  refine jr_al0 C dX0_join_12 ?_
  refine jr_il1 C dX0_join_13 ?_
  refine jc_weight C dX0_join_14 ⟨by decide, by decide⟩ (Nat.le_of_ble_eq_true rfl) (m_weight l N K ba) (fun r N2 K2 hp => ?_)
  obtain ⟨rfl, rfl, rfl⟩ := hp
  refine jr_ic3 C dX0_join_17 ?_
  refine jr_al0 C dX0_join_18 ?_
  refine jr_il3 C dX0_join_19 ?_
  refine jc_weight C dX0_join_20 ⟨by decide, by decide⟩ (Nat.le_of_ble_eq_true rfl) (m_weight l N2 K2 bb) (fun r N3 K3 hp => ?_)
  obtain ⟨rfl, rfl, rfl⟩ := hp
  rw [la, lb]
  refine jr_imul C dX0_join_23 ?_
  refine jr_cmpN_le C dX0_join_24 (by omega) (by omega) (fun hc => ?_) (fun hc => ?_)
  · refine jr_ic0 C dX0_join_31 ?_
    exact at32 0 (by decide) (by omega)
  · refine jr_ic1 C dX0_join_27 ?_
    refine jr_goto C dX0_join_28 ?_
    exact at32 1 (by decide) (by omega)
end
section
/-! splitTree -/
theorem ii_tr {a b c : Int32} (h : a < b) (h2 : b < c) : a < c := by
  rw [Int32.lt_iff_toInt_lt] at *; omega
theorem ii_le {a b : Int32} (h : a ≤ b) (hne : ¬ b = a) : a < b := by
  rw [Int32.lt_iff_toInt_lt]
  rw [Int32.le_iff_toInt_le] at h
  have : ¬ b.toInt = a.toInt := fun q => hne (Int32.toInt_inj.mp q)
  omega
theorem ii_nle {a b : Int32} (h : ¬ a ≤ b) : b < a := by
  rw [Int32.le_iff_toInt_le] at h
  rw [Int32.lt_iff_toInt_lt]; omega
theorem ii_irr {a : Int32} : ¬ a < a := by rw [Int32.lt_iff_toInt_lt]; omega
theorem ii_as {a b : Int32} (h : a < b) (h2 : b < a) : False := ii_irr (ii_tr h h2)
def srt (K : Nat → Nat → Int32) (xs : List Nat) : Prop := xs.Pairwise (fun a b => K 2 a < K 2 b)
theorem srt_app {K : Nat → Nat → Int32} {xs ys : List Nat} : srt K (xs ++ ys) ↔ srt K xs ∧ srt K ys ∧ ∀ a ∈ xs, ∀ b ∈ ys, K 2 a < K 2 b := List.pairwise_append
theorem srt_cons {K : Nat → Nat → Int32} {n : Nat} {ys : List Nat} : srt K (n :: ys) ↔ (∀ b ∈ ys, K 2 n < K 2 b) ∧ srt K ys := List.pairwise_cons
theorem srt_nd {K : Nat → Nat → Int32} {xs : List Nat} (h : srt K xs) : xs.Nodup := by
  refine List.Pairwise.imp ?_ h
  intro a b hab e
  subst e
  exact ii_irr hab
theorem srt_mid {K : Nat → Nat → Int32} {n : Nat} {xs ys : List Nat} (h : srt K (xs ++ n :: ys)) : srt K xs ∧ srt K ys ∧ (∀ a ∈ xs, K 2 a < K 2 n) ∧ (∀ b ∈ ys, K 2 n < K 2 b) ∧ ∀ a ∈ xs, ∀ b ∈ ys, K 2 a < K 2 b := by
  obtain ⟨h1, h2, h3⟩ := srt_app.mp h
  obtain ⟨h4, h5⟩ := srt_cons.mp h2
  exact ⟨h1, h5, fun a ha => h3 a ha n (by simp), h4, fun a ha b hb => h3 a ha b (by simp [hb])⟩
theorem plug_srt {K : Nat → Nat → Int32} : ∀ (Z : jZ) (xs : List Nat), srt K (plug Z xs) → srt K xs := by
  intro Z
  induction Z with
  | nil => intro xs h; exact h
  | cons q Z ih =>
    intro xs h
    have h := ih _ h
    split at h
    · exact (srt_app.mp h).1
    · exact (srt_mid h).2.1
/-- the way's sides lie below or above x -/
def zb (K : Nat → Nat → Int32) (x : Int32) (Z : jZ) : Prop := ∀ q ∈ Z, (q.2.1 = 0 → x < K 2 q.1 ∧ ∀ r ∈ q.2.2, x < K 2 r) ∧ (q.2.1 ≠ 0 → K 2 q.1 < x ∧ ∀ r ∈ q.2.2, K 2 r < x)
def P_split (N : Nat → Nat → Nat) (K : Nat → Nat → Int32) (xs : List Nat) (x : Int32) : (Nat → Nat → Nat) → (Nat → Nat → Int32) → Prop := fun N1 K1 => ∃ (us vs : List Nat), tr N1 (N1 10 0) us ∧ tr N1 (N1 11 0) vs ∧ (N1 12 0 = 0 ∧ xs = us ++ vs ∨ 0 < N1 12 0 ∧ N1 12 0 < 256 ∧ xs = us ++ N1 12 0 :: vs ∧ K 2 (N1 12 0) = x) ∧ (∀ q ∈ us, K 2 q < x) ∧ (∀ q ∈ vs, x < K 2 q) ∧ ag N N1 xs ∧ sm N N1 [0, 1, 3, 7, 8, 9, 10, 11, 12] ∧ N1 7 0 = 0 ∧ K1 = K
set_option maxHeartbeats 1000000 in
theorem m_splitTree (l : Launch) (N : Nat → Nat → Nat) (K : Nat → Nat → Int32) {a : Nat} {x : Int32} {xs : List Nat} (h0 : N 3 0 = 0) (ta : tr N a xs) (hs : srt K xs) (hlen : xs.length ≤ 64) : jV l jw jty yX0_splitTree cX0_splitTree 8 4 [.int (nI a), .int x] N K (P_split N K xs x) := by
  have ba := tr_lt ta
  have hnd := srt_nd hs
  have hpos : ∀ q ∈ xs, 0 < q := fun q hq => (tr_mem ta q hq).1
  have hlt : ∀ q ∈ xs, q < 256 := fun q hq => (tr_mem ta q hq).2
  refine jV_of (k := 4) (kN := 5) (L := fun g : jG => [some (.ref g.2.1), some (.int (nI a)), some (.int x), none, none, none, none, none]) (by decide) (fun g => rfl) (fun g => rfl) (fun g => by simp [Value.category]) ?_
  intro g p e s m args below meth c A C hret
  have upl : ∀ (n : Nat) (mid : List Nat), (n = 0 ∧ mid = [] ∨ 0 < n ∧ n < 256 ∧ mid = [n] ∧ K 2 n = x) → ∀ (Z : jZ) (N2 : Nat → Nat → Nat) (us vs : List Nat) (lo hi : Nat) (o6 o7 : Option Value), N2 3 0 = 0 → tr N2 lo us → tr N2 hi vs → stk N2 0 Z → N2 7 0 = Z.length → plug Z (us ++ mid ++ vs) = xs → (∀ q ∈ us, K 2 q < x) → (∀ q ∈ vs, x < K 2 q) → zb K x Z → ag N N2 xs → sm N N2 [0, 1, 3, 7, 8, 9] → JJ p l e (jrm 4) s m args below meth c 0 0 (jQV jw jty g A below args s (P_split N K xs x)) A g.1 8 (jw g N2 K) 101 [some (.ref g.2.1), some (.int (nI a)), some (.int x), some (.int (nI n)), some (.int (nI lo)), some (.int (nI hi)), o6, o7] [] := by
    intro n mid hmid Z
    induction Z with
    | nil =>
      intro N2 us vs lo hi o6 o7 z2 tl th hk h7 hpl hu hv hz g2 s2
      have hpl : us ++ mid ++ vs = xs := hpl
      have h7 : N2 7 0 = 0 := h7
      refine jr_al0 C dX0_splitTree_101 ?_
      refine jg_wayEnd C dX0_splitTree_102 ?_
      refine jr_top (v := 0) (h7) ?_
      refine jr_ifN_le C dX0_splitTree_105 (by omega) (fun hc => ?_) (fun hc => ?_)
      · refine jr_al0 C dX0_splitTree_189 ?_
        refine jr_il4 C dX0_splitTree_190 ?_
        refine jp_lowPart C dX0_splitTree_192 ?_
        refine jr_al0 C dX0_splitTree_195 ?_
        refine jr_il5 C dX0_splitTree_196 ?_
        refine jp_highPart C dX0_splitTree_198 ?_
        refine jr_al0 C dX0_splitTree_201 ?_
        refine jr_il3 C dX0_splitTree_202 ?_
        refine jp_exact C dX0_splitTree_203 ?_
        refine jr_il3 C dX0_splitTree_206 ?_
        refine jr_ifN_ne C dX0_splitTree_207 (by omega) (fun hd => ?_) (fun hd => ?_)
        · rcases hmid with ⟨hn, -⟩ | ⟨n0, n1, rfl, hkn⟩
          · exact absurd hn hd
          refine jr_al0 C dX0_splitTree_211 ?_
          refine jg_left C dX0_splitTree_212 ?_
          refine jr_il3 C dX0_splitTree_215 ?_
          refine jr_ic0 C dX0_splitTree_216 ?_
          refine js_left C dX0_splitTree_217 (by omega) (by omega) ?_
          refine jr_al0 C dX0_splitTree_218 ?_
          refine jg_right C dX0_splitTree_219 ?_
          refine jr_il3 C dX0_splitTree_222 ?_
          refine jr_ic0 C dX0_splitTree_223 ?_
          refine js_right C dX0_splitTree_224 (by omega) (by omega) ?_
          refine jr_al0 C dX0_splitTree_225 ?_
          refine jg_count C dX0_splitTree_226 ?_
          refine jr_il3 C dX0_splitTree_229 ?_
          refine jr_ic1 C dX0_splitTree_230 ?_
          refine js_count C dX0_splitTree_231 (by omega) (by omega) ?_
          refine jr_vret C hret dX0_splitTree_232 ?_
          obtain ⟨N3, e3⟩ : ∃ N3, N3 = jup (jup (jup N2 10 0 lo) 11 0 hi) 12 0 n := ⟨_, rfl⟩
          rw [← e3]
          obtain ⟨N4, e4⟩ : ∃ N4, N4 = jup (jup (jup N3 0 n 0) 1 n 0) 3 n 1 := ⟨_, rfl⟩
          rw [← e4]
          have hnx : n ∈ xs := by rw [← hpl]; simp
          have s3 : sm N2 N3 [10, 11, 12] := by rw [e3]; exact sm_trans (sm_jup (by simp)) (sm_trans (sm_jup (by simp)) (sm_jup (by simp)))
          have s4 : sm N3 N4 [0, 1, 3] := by rw [e4]; exact sm_trans (sm_jup (by simp)) (sm_trans (sm_jup (by simp)) (sm_jup (by simp)))
          have g4 : ag N3 N4 [n] := by rw [e4]; exact ag_trans (ag_trans (zs := [n]) (ag_jup (xs := [n]) (by simp)) (ag_jup (xs := [n]) (by simp)) (fun _ h => h) (fun _ h => h)) (ag_jup (xs := [n]) (by simp)) (fun _ h => h) (fun _ h => h)
          have g24 : ag N2 N4 [n] := ag_trans (sm_ag (xs := [n]) s3 (by decide) (by decide) (by decide)) g4 (fun _ h => h) (fun _ h => h)
          have f10 : N4 10 0 = lo := by rw [s4 10 (by decide), e3]; simp [jup_e]
          have f11 : N4 11 0 = hi := by rw [s4 11 (by decide), e3]; simp [jup_e]
          have f12 : N4 12 0 = n := by rw [s4 12 (by decide), e3]; simp [jup_e]
          have f7 : N4 7 0 = 0 := by rw [s4 7 (by decide), s3 7 (by decide), h7]
          have hd2 : (us ++ n :: vs).Nodup := by have := hnd; rw [← hpl] at this; simpa using this
          have hdu : ∀ q ∈ us, q ∉ [n] := by intro q hq; have := (List.nodup_append.mp hd2).2.2 q hq n (by simp); simpa using this
          have hdv : ∀ q ∈ vs, q ∉ [n] := by intro q hq; have := (List.nodup_cons.mp (List.nodup_append.mp hd2).2.1).1; intro h; simp at h; exact this (h ▸ hq)
          refine ⟨us, vs, by rw [f10]; exact ag_tr g24 tl hdu, by rw [f11]; exact ag_tr g24 th hdv, ?_, hu, hv, ag_trans g2 g24 (fun _ h => h) (by simp [hnx]), sm_trans (sm_sub s2 (by simp)) (sm_trans (sm_sub s3 (by simp)) (sm_sub s4 (by simp))), f7, rfl⟩
          rw [f12]
          exact Or.inr ⟨n0, n1, by rw [← hpl]; simp, hkn⟩
        · rcases hmid with ⟨-, rfl⟩ | ⟨n0, -⟩
          · refine jr_vret C hret dX0_splitTree_210 ?_
            obtain ⟨N3, e3⟩ : ∃ N3, N3 = jup (jup (jup N2 10 0 lo) 11 0 hi) 12 0 n := ⟨_, rfl⟩
            rw [← e3]
            have s3 : sm N2 N3 [10, 11, 12] := by rw [e3]; exact sm_trans (sm_jup (by simp)) (sm_trans (sm_jup (by simp)) (sm_jup (by simp)))
            have g3 : ag N2 N3 [] := sm_ag s3 (by decide) (by decide) (by decide)
            have f10 : N3 10 0 = lo := by rw [e3]; simp [jup_e]
            have f11 : N3 11 0 = hi := by rw [e3]; simp [jup_e]
            have f12 : N3 12 0 = 0 := by rw [e3]; simp [jup_e, hd]
            refine ⟨us, vs, by rw [f10]; exact ag_tr g3 tl (by simp), by rw [f11]; exact ag_tr g3 th (by simp), Or.inl ⟨f12, by rw [← hpl]; simp⟩, hu, hv, ag_trans g2 g3 (fun _ h => h) (by simp), sm_trans (sm_sub s2 (by simp)) (sm_sub s3 (by simp)), by rw [s3 7 (by decide), h7], rfl⟩
          · omega
      · exact absurd (Nat.le_refl 0) hc
    | cons q Z ih =>
      intro N2 us vs lo hi o6 o7 z2 tl th hk h7 hpl hu hv hz g2 s2
      obtain ⟨pn, bq, ss⟩ := q
      obtain ⟨k1, k2, k3, k4, k5, k6, k7⟩ := hk
      dsimp only at k1 k2 k3 k4 k5 k6
      rw [Nat.zero_add] at k1 k2
      simp only [List.length_cons] at h7
      have hq := hz (pn, bq, ss) List.mem_cons_self
      dsimp only at hq
      have hz2 : zb K x Z := fun q hq => hz q (List.mem_cons_of_mem _ hq)
      have hl0 := plug_len ((pn, bq, ss) :: Z) (us ++ mid ++ vs)
      rw [hpl] at hl0
      simp only [zn, List.length_append, List.length_cons] at hl0
      have hzl := zn_len Z
      have blo := tr_lt tl
      have bhi := tr_lt th
      refine jr_al0 C dX0_splitTree_101 ?_
      refine jg_wayEnd C dX0_splitTree_102 ?_
      refine jr_top (v := Z.length + 1) (h7) ?_
      refine jr_ifN_le C dX0_splitTree_105 (by omega) (fun hc => ?_) (fun hc => ?_)
      · exact absurd hc (by omega)
      refine jr_al0 C dX0_splitTree_108 ?_
      refine jg_way C dX0_splitTree_109 ?_
      refine jr_al0 C dX0_splitTree_112 ?_
      refine jg_wayEnd C dX0_splitTree_113 ?_
      refine jr_top (v := Z.length + 1) (h7) ?_
      refine jr_ic1 C dX0_splitTree_116 ?_
      refine jr_isub C dX0_splitTree_117 (by omega) ?_
      refine jr_top (v := Z.length) (by omega) ?_
      refine jl_way C dX0_splitTree_118 (by omega) ?_
      refine jr_top (v := pn) (k1) ?_
      refine jr_is6 C dX0_splitTree_119 ?_
      refine jr_al0 C dX0_splitTree_121 ?_
      refine jg_wentRight C dX0_splitTree_122 ?_
      refine jr_al0 C dX0_splitTree_125 ?_
      refine jg_wayEnd C dX0_splitTree_126 ?_
      refine jr_top (v := Z.length + 1) (h7) ?_
      refine jr_ic1 C dX0_splitTree_129 ?_
      refine jr_isub C dX0_splitTree_130 (by omega) ?_
      refine jr_top (v := Z.length) (by omega) ?_
      refine jl_wentRight C dX0_splitTree_131 (by omega) ?_
      refine jr_top (v := bq) (k2) ?_
      refine jr_is7 C dX0_splitTree_132 ?_
      refine jr_al0 C dX0_splitTree_134 ?_
      refine jr_dup C dX0_splitTree_135 rfl ?_
      refine jg_wayEnd C dX0_splitTree_136 ?_
      refine jr_top (v := Z.length + 1) (h7) ?_
      refine jr_ic1 C dX0_splitTree_139 ?_
      refine jr_isub C dX0_splitTree_140 (by omega) ?_
      refine jr_top (v := Z.length) (by omega) ?_
      refine jp_wayEnd C dX0_splitTree_141 ?_
      refine jr_il7 C dX0_splitTree_144 ?_
      have g3 : ag N2 (jup N2 7 0 Z.length) [] := ag_jupk (by decide)
      obtain ⟨N3, e3⟩ : ∃ N3, N3 = jup N2 7 0 Z.length := ⟨_, rfl⟩
      rw [← e3] at g3 ⊢
      have s3 : sm N2 N3 [7] := by rw [e3]; exact sm_jup (by simp)
      have f7 : N3 7 0 = Z.length := by rw [e3, jup_s]
      have z3 : N3 3 0 = 0 := by rw [s3 3 (by decide)]; exact z2
      have tl3 := ag_tr g3 tl (by simp)
      have th3 := ag_tr g3 th (by simp)
      have k6' := ag_tr g3 k6 (by simp)
      refine jr_ifN_eq C dX0_splitTree_146 (by omega) (fun hb => ?_) (fun hb => ?_)
      · subst hb
        have hpl : plug Z ((us ++ mid ++ vs) ++ pn :: ss) = xs := hpl
        have hn1 := plug_nd (hpl.symm ▸ hnd)
        have hd1 : (vs ++ pn :: ss).Nodup := by
          have := hn1.1
          rw [List.append_assoc] at this
          exact (List.nodup_append.mp this).2.1
        have hmem : ∀ q ∈ vs ++ pn :: ss, q ∈ xs := fun q hq => by
          rw [← hpl]; refine plug_mem.mpr (Or.inl ?_)
          rw [List.append_assoc]; exact List.mem_append_right _ hq
        have hdu : ∀ q ∈ us, q ∉ vs ++ pn :: ss := by
          intro q hq hq2
          have := hn1.1
          rw [List.append_assoc, List.append_assoc] at this
          exact (List.nodup_append.mp this).2.2 q hq q (List.mem_append_right _ hq2) rfl
        have hdz : ∀ q ∈ zn Z, q ∉ vs ++ pn :: ss := by
          intro q hq hq2
          refine hn1.2.2 q hq ?_
          rw [List.append_assoc]; exact List.mem_append_right _ hq2
        have b1 := tr_lt k6
        rw [if_pos rfl] at k6' b1
        refine jr_al0 C dX0_splitTree_169 ?_
        refine jr_il5 C dX0_splitTree_170 ?_
        refine jr_il6 C dX0_splitTree_172 ?_
        refine jr_al0 C dX0_splitTree_174 ?_
        refine jg_right C dX0_splitTree_175 ?_
        refine jr_il6 C dX0_splitTree_178 ?_
        refine jl_right C dX0_splitTree_180 (by omega) ?_
        refine jr_top (v := N2 1 pn) (by rw [s3 1 (by decide)]) ?_
        refine jc_join C dX0_splitTree_181 ⟨by decide, by decide⟩ (Nat.le_of_ble_eq_true rfl) (m_join l N3 K z3 th3 k6' k4 k5 hd1 (by simp; omega) (by rw [f7]; omega) (by rw [f7]; omega)) (fun r N4 K4 hp => ?_)
        obtain ⟨t, rfl, t4, g4, s4, f74, l4, rfl⟩ := hp
        rw [f7] at f74 l4
        refine jr_is5 C dX0_splitTree_184 ?_
        refine jr_goto C dX0_splitTree_186 ?_
        have g24 : ag N2 N4 (vs ++ pn :: ss) := ag_trans g3 g4 (by simp) (fun _ h => h)
        refine ih N4 us (vs ++ pn :: ss) lo t _ _ (ag_z g4 z3 (fun q hq => hpos q (hmem q hq))) (ag_tr g4 tl3 hdu) t4 (stk_ag k7 g24 hdz ?_) f74 ?_ hu ?_ hz2 (ag_trans g2 g24 (fun _ h => h) hmem) (sm_trans s2 (sm_trans (sm_sub s3 (by simp)) s4))
        · rw [Nat.zero_add]
          exact low_trans (low_sm (w := Z.length) s3 (by decide) (by decide)) l4 (Nat.le_refl _) (Nat.le_refl _)
        · rw [← hpl]; simp
        · intro q h
          rcases List.mem_append.mp h with h | h
          · exact hv q h
          · rcases List.mem_cons.mp h with rfl | h
            · exact (hq.1 rfl).1
            · exact (hq.1 rfl).2 q h
      · have hpl : plug Z (if bq = 0 then (us ++ mid ++ vs) ++ pn :: ss else ss ++ pn :: (us ++ mid ++ vs)) = xs := hpl
        rw [if_neg hb] at hpl k6 k6'
        have hn1 := plug_nd (hpl.symm ▸ hnd)
        have eqv : ss ++ pn :: (us ++ mid ++ vs) = (ss ++ pn :: us) ++ (mid ++ vs) := by simp
        rw [eqv] at hn1 hpl
        have hd1 : (ss ++ pn :: us).Nodup := (List.nodup_append.mp hn1.1).1
        have hmem : ∀ q ∈ ss ++ pn :: us, q ∈ xs := fun q hq => by
          rw [← hpl]; exact plug_mem.mpr (Or.inl (List.mem_append_left _ hq))
        have hdv : ∀ q ∈ vs, q ∉ ss ++ pn :: us := by
          intro q hq hq2
          exact (List.nodup_append.mp hn1.1).2.2 q hq2 q (List.mem_append_right _ hq) rfl
        have hdz : ∀ q ∈ zn Z, q ∉ ss ++ pn :: us := by
          intro q hq hq2
          exact hn1.2.2 q hq (List.mem_append_left _ hq2)
        have b1 := tr_lt k6
        refine jr_al0 C dX0_splitTree_149 ?_
        refine jr_al0 C dX0_splitTree_150 ?_
        refine jg_left C dX0_splitTree_151 ?_
        refine jr_il6 C dX0_splitTree_154 ?_
        refine jl_left C dX0_splitTree_156 (by omega) ?_
        refine jr_top (v := N2 0 pn) (by rw [s3 0 (by decide)]) ?_
        refine jr_il6 C dX0_splitTree_157 ?_
        refine jr_il4 C dX0_splitTree_159 ?_
        refine jc_join C dX0_splitTree_161 ⟨by decide, by decide⟩ (Nat.le_of_ble_eq_true rfl) (m_join l N3 K z3 k6' tl3 k4 k5 hd1 (by simp; omega) (by rw [f7]; omega) (by rw [f7]; omega)) (fun r N4 K4 hp => ?_)
        obtain ⟨t, rfl, t4, g4, s4, f74, l4, rfl⟩ := hp
        rw [f7] at f74 l4
        refine jr_is4 C dX0_splitTree_164 ?_
        refine jr_goto C dX0_splitTree_166 ?_
        refine jr_goto C dX0_splitTree_186 ?_
        have g24 : ag N2 N4 (ss ++ pn :: us) := ag_trans g3 g4 (by simp) (fun _ h => h)
        refine ih N4 (ss ++ pn :: us) vs t hi _ _ (ag_z g4 z3 (fun q hq => hpos q (hmem q hq))) t4 (ag_tr g4 th3 hdv) (stk_ag k7 g24 hdz ?_) f74 ?_ ?_ hv hz2 (ag_trans g2 g24 (fun _ h => h) hmem) (sm_trans s2 (sm_trans (sm_sub s3 (by simp)) s4))
        · rw [Nat.zero_add]
          exact low_trans (low_sm (w := Z.length) s3 (by decide) (by decide)) l4 (Nat.le_refl _) (Nat.le_refl _)
        · rw [← hpl]; simp
        · intro q h
          rcases List.mem_append.mp h with h | h
          · exact (hq.2 hb).2 q h
          · rcases List.mem_cons.mp h with rfl | h
            · exact (hq.2 hb).1
            · exact hu q h
  have dn : ∀ (k : Nat) (Z : jZ) (N2 : Nat → Nat → Nat) (n : Nat) (cs : List Nat) (o4 : Option Value), cs.length < k → sm N N2 [7, 8, 9] → tr N2 n cs → stk N2 0 Z → N2 7 0 = Z.length → plug Z cs = xs → zb K x Z → JJ p l e (jrm 4) s m args below meth c 0 0 (jQV jw jty g A below args s (P_split N K xs x)) A g.1 8 (jw g N2 K) 7 [some (.ref g.2.1), some (.int (nI a)), some (.int x), some (.int (nI n)), o4, none, none, none] [] := by
    intro k
    induction k with
    | zero => intro Z N2 n cs o4 hk; omega
    | succ k ih =>
      intro Z N2 n cs o4 hk s2 tn hsk h7 hpl hz
      have bn := tr_lt tn
      have z2 : N2 3 0 = 0 := by rw [s2 3 (by decide)]; exact h0
      have hcs := plug_srt (K := K) Z cs (hpl.symm ▸ hs)
      have hl1 := plug_len Z cs
      rw [hpl] at hl1
      have hzl := zn_len Z
      have g2 : ag N N2 xs := sm_ag s2 (by decide) (by decide) (by decide)
      refine jr_il3 C dX0_splitTree_7 ?_
      refine jr_ifN_eq C dX0_splitTree_8 (by omega) (fun hc => ?_) (fun hc => ?_)
      · subst hc
        have := tr_zero tn
        subst this
        refine jr_il3 C dX0_splitTree_69 ?_
        refine jr_ifN_ne C dX0_splitTree_70 (by omega) (fun hd => ?_) (fun hd => ?_)
        · exact absurd rfl hd
        refine jr_ic0 C dX0_splitTree_73 ?_
        refine jr_goto C dX0_splitTree_74 ?_
        refine jr_is4 C dX0_splitTree_83 ?_
        refine jr_il3 C dX0_splitTree_85 ?_
        refine jr_ifN_ne C dX0_splitTree_86 (by omega) (fun hd2 => ?_) (fun hd2 => ?_)
        · exact absurd rfl hd2
        refine jr_ic0 C dX0_splitTree_89 ?_
        refine jr_goto C dX0_splitTree_90 ?_
        refine jr_is5 C dX0_splitTree_99 ?_
        exact upl 0 [] (Or.inl ⟨rfl, rfl⟩) Z N2 [] [] 0 0 _ _ z2 tr_nil tr_nil hsk h7 hpl (by simp) (by simp) hz g2 (sm_sub s2 (by simp))
      · obtain ⟨q0, q1, -, ls, rs, ecs, tl, th⟩ := tr_node tn hc
        have bl := tr_lt tl
        have bh := tr_lt th
        have hm := srt_mid (ecs ▸ hcs)
        have lcs : cs.length = ls.length + rs.length + 1 := by rw [ecs]; simp; omega
        refine jr_al0 C dX0_splitTree_11 ?_
        refine jg_key C dX0_splitTree_12 ?_
        refine jr_il3 C dX0_splitTree_15 ?_
        refine jl_key C dX0_splitTree_16 (by omega) ?_
        refine jr_il2 C dX0_splitTree_17 ?_
        refine jr_cmp_eq C dX0_splitTree_18 (fun he => ?_) (fun he => ?_)
        · refine jr_il3 C dX0_splitTree_69 ?_
          refine jr_ifN_ne C dX0_splitTree_70 (by omega) (fun hd => ?_) (fun hd => ?_)
          · refine jr_al0 C dX0_splitTree_77 ?_
            refine jg_left C dX0_splitTree_78 ?_
            refine jr_il3 C dX0_splitTree_81 ?_
            refine jl_left C dX0_splitTree_82 (by omega) ?_
            refine jr_is4 C dX0_splitTree_83 ?_
            refine jr_il3 C dX0_splitTree_85 ?_
            refine jr_ifN_ne C dX0_splitTree_86 (by omega) (fun hd2 => ?_) (fun hd2 => ?_)
            · refine jr_al0 C dX0_splitTree_93 ?_
              refine jg_right C dX0_splitTree_94 ?_
              refine jr_il3 C dX0_splitTree_97 ?_
              refine jl_right C dX0_splitTree_98 (by omega) ?_
              refine jr_is5 C dX0_splitTree_99 ?_
              refine upl n [n] (Or.inr ⟨q0, q1, rfl, he⟩) Z N2 ls rs (N2 0 n) (N2 1 n) _ _ z2 tl th hsk h7 ?_ ?_ ?_ hz g2 (sm_sub s2 (by simp))
              · rw [← hpl, ecs]; simp
              · rw [← he]; exact hm.2.2.1
              · rw [← he]; exact hm.2.2.2.1
            · exact absurd hd2 hc
          · exact absurd hd hc
        · refine jr_al0 C dX0_splitTree_21 ?_
          refine jg_key C dX0_splitTree_22 ?_
          refine jr_il3 C dX0_splitTree_25 ?_
          refine jl_key C dX0_splitTree_26 (by omega) ?_
          refine jr_il2 C dX0_splitTree_27 ?_
          refine jr_cmp_ge C dX0_splitTree_28 (fun hd => ?_) (fun hd => ?_)
          · have hxn : x < K 2 n := ii_le hd he
            refine jr_ic0 C dX0_splitTree_35 ?_
            refine jr_is4 C dX0_splitTree_36 ?_
            refine jr_al0 C dX0_splitTree_38 ?_
            refine jr_il3 C dX0_splitTree_39 ?_
            refine jr_il4 C dX0_splitTree_40 ?_
            refine jc_pushWay C dX0_splitTree_42 ⟨by decide, by decide⟩ (Nat.le_of_ble_eq_true rfl) (m_pushWay l N2 K (a := n) (b := 0) (by omega) (by decide) (by omega)) (fun N3 K3 hp => ?_)
            obtain ⟨e3, rfl⟩ := hp
            have e3 : N3 = jup (jup (jup N2 8 (0 + Z.length) n) 9 (0 + Z.length) 0) 7 0 (0 + Z.length + 1) := by rw [e3, h7, Nat.zero_add]
            obtain ⟨hsk3, h73, s3, l3⟩ := stk_push (ss := rs) hsk e3 (by decide) q0 q1 th
            rw [Nat.zero_add] at h73
            refine jr_il4 C dX0_splitTree_45 ?_
            refine jr_ifN_eq C dX0_splitTree_47 (by omega) (fun hf => ?_) (fun hf => ?_)
            · refine jr_al0 C dX0_splitTree_59 ?_
              refine jg_left C dX0_splitTree_60 ?_
              refine jr_il3 C dX0_splitTree_63 ?_
              refine jl_left C dX0_splitTree_64 (by omega) ?_
              refine jr_top (v := N2 0 n) (by rw [s3 0 (by decide)]) ?_
              refine jr_is3 C dX0_splitTree_65 ?_
              refine jr_goto C dX0_splitTree_66 ?_
              refine ih ((n, 0, rs) :: Z) N3 (N2 0 n) ls _ (by omega) (sm_trans s2 s3) (ag_tr (xs := []) (sm_ag s3 (by decide) (by decide) (by decide)) tl (by simp)) hsk3 h73 ?_ ?_
              · show plug Z (ls ++ n :: rs) = xs
                rw [← ecs]; exact hpl
              · intro q hq
                rcases List.mem_cons.mp hq with rfl | hq
                · exact ⟨fun _ => ⟨hxn, fun r hr => ii_tr hxn (hm.2.2.2.1 r hr)⟩, fun h => absurd rfl h⟩
                · exact hz q hq
            · exact absurd rfl hf
          · have hxn : K 2 n < x := ii_nle hd
            refine jr_ic1 C dX0_splitTree_31 ?_
            refine jr_goto C dX0_splitTree_32 ?_
            refine jr_is4 C dX0_splitTree_36 ?_
            refine jr_al0 C dX0_splitTree_38 ?_
            refine jr_il3 C dX0_splitTree_39 ?_
            refine jr_il4 C dX0_splitTree_40 ?_
            refine jc_pushWay C dX0_splitTree_42 ⟨by decide, by decide⟩ (Nat.le_of_ble_eq_true rfl) (m_pushWay l N2 K (a := n) (b := 1) (by omega) (by decide) (by omega)) (fun N3 K3 hp => ?_)
            obtain ⟨e3, rfl⟩ := hp
            have e3 : N3 = jup (jup (jup N2 8 (0 + Z.length) n) 9 (0 + Z.length) 1) 7 0 (0 + Z.length + 1) := by rw [e3, h7, Nat.zero_add]
            obtain ⟨hsk3, h73, s3, l3⟩ := stk_push (ss := ls) hsk e3 (by decide) q0 q1 tl
            rw [Nat.zero_add] at h73
            refine jr_il4 C dX0_splitTree_45 ?_
            refine jr_ifN_eq C dX0_splitTree_47 (by omega) (fun hf => ?_) (fun hf => ?_)
            · exact absurd hf (by decide)
            · refine jr_al0 C dX0_splitTree_50 ?_
              refine jg_right C dX0_splitTree_51 ?_
              refine jr_il3 C dX0_splitTree_54 ?_
              refine jl_right C dX0_splitTree_55 (by omega) ?_
              refine jr_top (v := N2 1 n) (by rw [s3 1 (by decide)]) ?_
              refine jr_goto C dX0_splitTree_56 ?_
              refine jr_is3 C dX0_splitTree_65 ?_
              refine jr_goto C dX0_splitTree_66 ?_
              refine ih ((n, 1, ls) :: Z) N3 (N2 1 n) rs _ (by omega) (sm_trans s2 s3) (ag_tr (xs := []) (sm_ag s3 (by decide) (by decide) (by decide)) th (by simp)) hsk3 h73 ?_ ?_
              · show plug Z (ls ++ n :: rs) = xs
                rw [← ecs]; exact hpl
              · intro q hq
                rcases List.mem_cons.mp hq with rfl | hq
                · exact ⟨fun h => absurd h (by simp), fun _ => ⟨hxn, fun r hr => ii_tr (hm.2.2.1 r hr) hxn⟩⟩
                · exact hz q hq
  refine jr_il1 C dX0_splitTree_0 ?_
  refine jr_is3 C dX0_splitTree_1 ?_
  refine jr_al0 C dX0_splitTree_2 ?_
  refine jr_ic0 C dX0_splitTree_3 ?_
  refine jp_wayEnd C dX0_splitTree_4 ?_
  exact dn (xs.length + 1) [] (jup N 7 0 0) a xs none (by omega) (sm_jup (by simp)) (ag_tr (xs := []) (ag_jupk (by decide)) ta (by simp)) trivial (by rw [jup_s]; rfl) rfl (by intro q hq; cases hq)
end
section
/-! the free nodes; joinTwo, release, releaseTree, withNothing -/
def frs (N : Nat → Nat → Nat) : List Nat → Prop
  | [] => True
  | a :: fl => N 6 fl.length = a ∧ frs N fl
/-- the free nodes are fl, the top first -/
def free (N : Nat → Nat → Nat) (fl : List Nat) : Prop := N 5 0 = fl.length ∧ frs N fl
theorem frs_of {N N' : Nat → Nat → Nat} : ∀ {fl : List Nat}, frs N fl → (∀ i, i < fl.length → N' 6 i = N 6 i) → frs N' fl := by
  intro fl
  induction fl with
  | nil => intro _ _; trivial
  | cons a fl ih =>
    intro h he
    exact ⟨(he fl.length (by simp)).trans h.1, ih h.2 (fun i hi => he i (by simp only [List.length_cons]; omega))⟩
theorem free_sm {N N' : Nat → Nat → Nat} {fl ks : List Nat} (h : free N fl) (hs : sm N N' ks) (h5 : 5 ∉ ks) (h6 : 6 ∉ ks) : free N' fl := by
  refine ⟨by rw [hs 5 h5]; exact h.1, frs_of h.2 (fun i _ => by rw [hs 6 h6])⟩
theorem free_push {N : Nat → Nat → Nat} {fl : List Nat} {a : Nat} (h : free N fl) : free (jup (jup N 6 (N 5 0) a) 5 0 (N 5 0 + 1)) (a :: fl) := by
  refine ⟨by rw [jup_s, h.1]; simp, by rw [jup_k (by decide), h.1, jup_s], frs_of h.2 (fun i hi => ?_)⟩
  rw [jup_k (by decide), jup_n]
  rw [h.1]; omega
theorem free_pop {N N' : Nat → Nat → Nat} {fl : List Nat} {a : Nat} (h : free N (a :: fl)) (h5 : N' 5 0 = fl.length) (h6 : N' 6 = N 6) : free N' fl := ⟨h5, frs_of h.2.2 (fun i _ => by rw [h6])⟩
/-- a node, if it is one -/
def on (a : Nat) : List Nat := if a = 0 then [] else [a]
theorem on_0 : on 0 = [] := rfl
theorem on_p {a : Nat} (h : 0 < a) : on a = [a] := if_neg (by omega)
theorem m_rel (l : Launch) (N : Nat → Nat → Nat) (K : Nat → Nat → Int32) {a : Nat} {fl : List Nat} (ha : a < 256) (hf : free N fl) (hl : fl.length < 256) : jV l jw jty yX0_release cX0_release 2 0 [.int (nI a)] N K (fun N1 K1 => free N1 (on a ++ fl) ∧ sm N N1 [5, 6] ∧ K1 = K) := by
  have h5 : N 5 0 < 256 := by rw [hf.1]; exact hl
  refine jV_of (k := 0) (kN := 0) (L := fun g : jG => [some (.ref g.2.1), some (.int (nI a))]) (by decide) (fun g => rfl) (fun g => rfl) (fun g => by simp [Value.category]) ?_
  intro g p e s m args below meth c A C hret
  refine jr_il1 C dX0_release_0 ?_
  refine jr_ifN_ne C dX0_release_1 (by omega) (fun hc => ?_) (fun hc => ?_)
  · refine jr_al0 C dX0_release_5 ?_
    refine jg_freeNodes C dX0_release_6 ?_
    refine jr_al0 C dX0_release_9 ?_
    refine jg_freeCount C dX0_release_10 ?_
    refine jr_il1 C dX0_release_13 ?_
    refine jr_i2s C dX0_release_14 (by omega) ?_
    refine js_freeNodes C dX0_release_15 (by omega) (by omega) ?_
    refine jr_al0 C dX0_release_16 ?_
    refine jr_dup C dX0_release_17 rfl ?_
    refine jg_freeCount C dX0_release_18 ?_
    refine jr_top (v := N 5 0) (rfl) ?_
    refine jr_ic1 C dX0_release_21 ?_
    refine jr_iadd C dX0_release_22 ?_
    refine jp_freeCount C dX0_release_23 ?_
    refine jr_vret C hret dX0_release_26 ?_
    rw [on_p (by omega)]
    exact ⟨free_push hf, sm_trans (sm_jup (by simp)) (sm_jup (by simp)), rfl⟩
  · refine jr_vret C hret dX0_release_4 ?_
    subst hc
    exact ⟨hf, sm_rfl, rfl⟩
def P_two (N : Nat → Nat → Nat) (K : Nat → Nat → Int32) (zs : List Nat) : Int32 → (Nat → Nat → Nat) → (Nat → Nat → Int32) → Prop := fun r N1 K1 => ∃ t, r = nI t ∧ tr N1 t zs ∧ ag N N1 zs ∧ sm N N1 [0, 1, 3, 7, 8, 9, 10, 11, 12] ∧ K1 = K
theorem m_joinTwo (l : Launch) (N : Nat → Nat → Nat) (K : Nat → Nat → Int32) {a b : Nat} {xs ys : List Nat} (h0 : N 3 0 = 0) (ta : tr N a xs) (tb : tr N b ys) (hs : srt K xs) (hnd : (xs ++ ys).Nodup) (hl1 : xs.length ≤ 64) (hl2 : ys.length ≤ 62) : jI l jw jty yX0_joinTwo cX0_joinTwo 4 .int 5 [.int (nI a), .int (nI b)] N K (P_two N K (xs ++ ys)) := by
  have ba := tr_lt ta
  have bb := tr_lt tb
  have hpos : ∀ q ∈ xs, 0 < q := fun q hq => (tr_mem ta q hq).1
  refine jI_of (k := 5) (kN := 1) (L := fun g : jG => [some (.ref g.2.1), some (.int (nI a)), some (.int (nI b)), none]) (by decide) (fun g => rfl) (fun g => rfl) (fun g => by simp [Value.category]) ?_
  intro g p e s m args below meth c A C hret
  refine jr_il1 C dX0_joinTwo_0 ?_
  refine jr_ifN_ne C dX0_joinTwo_1 (by omega) (fun hc => ?_) (fun hc => ?_)
  · refine jr_il1 C dX0_joinTwo_6 ?_
    refine jr_is3 C dX0_joinTwo_7 ?_
    have lp : ∀ (k n : Nat) (ps cs : List Nat), cs.length < k → tr N n cs → n ≠ 0 → xs = ps ++ cs → JJ p l e (jrm 5) s m args below meth c 0 0 (jQI jw jty g A below args s (P_two N K (xs ++ ys))) A g.1 4 (jw g N K) 8 [some (.ref g.2.1), some (.int (nI a)), some (.int (nI b)), some (.int (nI n))] [] := by
      intro k
      induction k with
      | zero => intro n ps cs hk; omega
      | succ k ih =>
        intro n ps cs hk tn hn exs
        obtain ⟨q0, q1, -, ls, rs, ecs, tl, th⟩ := tr_node tn hn
        have bh := tr_lt th
        have lcs : cs.length = ls.length + rs.length + 1 := by rw [ecs]; simp; omega
        refine jr_al0 C dX0_joinTwo_8 ?_
        refine jg_right C dX0_joinTwo_9 ?_
        refine jr_il3 C dX0_joinTwo_12 ?_
        refine jl_right C dX0_joinTwo_13 (by omega) ?_
        refine jr_ifN_eq C dX0_joinTwo_14 (by omega) (fun hd => ?_) (fun hd => ?_)
        · have : rs = [] := tr_zero (hd ▸ th)
          subst this
          refine jr_al0 C dX0_joinTwo_27 ?_
          refine jr_il1 C dX0_joinTwo_28 ?_
          refine jr_al0 C dX0_joinTwo_29 ?_
          refine jg_key C dX0_joinTwo_30 ?_
          refine jr_il3 C dX0_joinTwo_33 ?_
          refine jl_key C dX0_joinTwo_34 (by omega) ?_
          refine jc_splitTree C dX0_joinTwo_35 ⟨by decide, by decide⟩ (Nat.le_of_ble_eq_true rfl) (m_splitTree l N K (x := K 2 n) h0 ta hs hl1) (fun N1 K1 hp => ?_)
          obtain ⟨us, vs, tu, tv, hor, hu, hv, g1, s1, f7, rfl⟩ := hp
          have hnx : n ∈ xs := by rw [exs, ecs]; simp
          have hmax : ∀ q ∈ xs, ¬ K1 2 n < K1 2 q := by
            intro q hq hlt
            have hs2 := hs
            rw [exs, ecs, ← List.append_assoc] at hs2
            rw [exs, ecs, ← List.append_assoc] at hq
            rcases List.mem_append.mp hq with h | h
            · exact ii_as hlt ((srt_mid hs2).2.2.1 q h)
            · simp at h
              subst h
              exact ii_irr hlt
          rcases hor with ⟨-, e⟩ | ⟨n0, n1, e, ek⟩
          · exfalso
            rw [e] at hnx
            rcases List.mem_append.mp hnx with h | h
            · exact ii_irr (hu n h)
            · exact ii_irr (hv n h)
          · have hvs : vs = [] := by
              cases vs with
              | nil => rfl
              | cons q vs =>
                exact absurd (hv q (by simp)) (hmax q (by rw [e]; simp))
            subst hvs
            have hxy : ∀ q ∈ ys, q ∉ xs := fun q hq h => (List.nodup_append.mp hnd).2.2 q h q hq rfl
            have hnd2 : (us ++ N1 12 0 :: ys).Nodup := by
              have := hnd
              rw [e] at this
              simpa using this
            have lxs : xs.length = us.length + 1 := by rw [e]; simp
            have exy : us ++ N1 12 0 :: ys = xs ++ ys := by rw [e]; simp
            refine jr_al0 C dX0_joinTwo_38 ?_
            refine jr_al0 C dX0_joinTwo_39 ?_
            refine jg_lowPart C dX0_joinTwo_40 ?_
            refine jr_al0 C dX0_joinTwo_43 ?_
            refine jg_exact C dX0_joinTwo_44 ?_
            refine jr_il2 C dX0_joinTwo_47 ?_
            refine jc_join C dX0_joinTwo_48 ⟨by decide, by decide⟩ (Nat.le_of_ble_eq_true rfl) (m_join l N1 K1 (ag_z g1 h0 hpos) tu (ag_tr g1 tb hxy) n0 n1 hnd2 (by simp; omega) (by rw [f7]; omega) (by rw [f7]; omega)) (fun r N2 K2 hp => ?_)
            obtain ⟨t, rfl, t2, g2, s2, f72, l2, rfl⟩ := hp
            rw [exy] at t2 g2
            refine jr_iret C hret dX0_joinTwo_51 ?_
            exact ⟨t, rfl, t2, ag_trans g1 g2 (fun q hq => List.mem_append_left _ hq) (fun _ h => h), sm_trans s1 (sm_sub s2 (by simp)), rfl⟩
        · refine jr_al0 C dX0_joinTwo_17 ?_
          refine jg_right C dX0_joinTwo_18 ?_
          refine jr_il3 C dX0_joinTwo_21 ?_
          refine jl_right C dX0_joinTwo_22 (by omega) ?_
          refine jr_is3 C dX0_joinTwo_23 ?_
          refine jr_goto C dX0_joinTwo_24 ?_
          exact ih (N 1 n) (ps ++ (ls ++ [n])) rs (by omega) th hd (by rw [exs, ecs]; simp)
    exact lp (xs.length + 1) a [] xs (by omega) ta hc rfl
  · subst hc
    have := tr_zero ta
    subst this
    refine jr_il2 C dX0_joinTwo_4 ?_
    refine jr_iret C hret dX0_joinTwo_5 ?_
    exact ⟨b, rfl, tb, ag_rfl, sm_rfl, rfl⟩
def P_rel (N : Nat → Nat → Nat) (K : Nat → Nat → Int32) (xs fl : List Nat) : (Nat → Nat → Nat) → (Nat → Nat → Int32) → Prop := fun N1 K1 => ∃ fl1, free N1 fl1 ∧ fl1.Perm (xs ++ fl) ∧ sm N N1 [5, 6, 7, 8, 9] ∧ K1 = K
theorem m_releaseTree (l : Launch) (N : Nat → Nat → Nat) (K : Nat → Nat → Int32) {a : Nat} {xs fl : List Nat} (ta : tr N a xs) (hf : free N fl) (hl : xs.length ≤ 63) (hl2 : fl.length + xs.length ≤ 255) : jV l jw jty yX0_releaseTree cX0_releaseTree 3 1 [.int (nI a)] N K (P_rel N K xs fl) := by
  have ba := tr_lt ta
  refine jV_of (k := 1) (kN := 1) (L := fun g : jG => [some (.ref g.2.1), some (.int (nI a)), none]) (by decide) (fun g => rfl) (fun g => rfl) (fun g => by simp [Value.category]) ?_
  intro g p e s m args below meth c A C hret
  have lp : ∀ (k : Nat) (cs : List Nat) (n : Nat) (N2 : Nat → Nat → Nat) (f2 : List Nat) (w : Nat) (o2 : Option Value), cs.length < k → tr N2 n cs → free N2 f2 → N2 7 0 = w + 1 → N2 8 w = n → w + cs.length + 1 ≤ 64 → f2.length + cs.length ≤ 255 →
      (∀ (N3 : Nat → Nat → Nat) (f3 : List Nat) (o3 : Option Value), sm N2 N3 [5, 6, 7, 8, 9] → free N3 f3 → f3.Perm (cs ++ f2) → N3 7 0 = w → low N2 N3 w → JJ p l e (jrm 1) s m args below meth c 0 0 (jQV jw jty g A below args s (P_rel N K xs fl)) A g.1 3 (jw g N3 K) 11 [some (.ref g.2.1), some (.int (nI a)), o3] []) →
      JJ p l e (jrm 1) s m args below meth c 0 0 (jQV jw jty g A below args s (P_rel N K xs fl)) A g.1 3 (jw g N2 K) 11 [some (.ref g.2.1), some (.int (nI a)), o2] [] := by
    intro k
    induction k with
    | zero => intro cs n N2 f2 w o2 hk; omega
    | succ k ih =>
      intro cs n N2 f2 w o2 hk tn hf2 h7 h8 hw hfl kk
      have bn := tr_lt tn
      refine jr_al0 C dX0_releaseTree_11 ?_
      refine jg_wayEnd C dX0_releaseTree_12 ?_
      refine jr_top (v := w + 1) (h7) ?_
      refine jr_ifN_le C dX0_releaseTree_15 (by omega) (fun hc => ?_) (fun hc => ?_)
      · exact absurd hc (by omega)
      refine jr_al0 C dX0_releaseTree_18 ?_
      refine jr_dup C dX0_releaseTree_19 rfl ?_
      refine jg_wayEnd C dX0_releaseTree_20 ?_
      refine jr_top (v := w + 1) (h7) ?_
      refine jr_ic1 C dX0_releaseTree_23 ?_
      refine jr_isub C dX0_releaseTree_24 (by omega) ?_
      refine jr_top (v := w) (by omega) ?_
      refine jp_wayEnd C dX0_releaseTree_25 ?_
      refine jr_al0 C dX0_releaseTree_28 ?_
      refine jg_way C dX0_releaseTree_29 ?_
      refine jr_al0 C dX0_releaseTree_32 ?_
      refine jg_wayEnd C dX0_releaseTree_33 ?_
      refine jr_top (v := w) (by rw [jup_s]) ?_
      refine jl_way C dX0_releaseTree_36 (by omega) ?_
      refine jr_top (v := n) (by rw [jup_k (by decide)]; exact h8) ?_
      refine jr_is2 C dX0_releaseTree_37 ?_
      refine jr_il2 C dX0_releaseTree_38 ?_
      obtain ⟨N3, e3⟩ : ∃ N3, N3 = jup N2 7 0 w := ⟨_, rfl⟩
      rw [← e3]
      have s3 : sm N2 N3 [7] := by rw [e3]; exact sm_jup (by simp)
      have f7 : N3 7 0 = w := by rw [e3, jup_s]
      have hf3 := free_sm hf2 s3 (by decide) (by decide)
      have t3 : tr N3 n cs := ag_tr (xs := []) (sm_ag s3 (by decide) (by decide) (by decide)) tn (by simp)
      refine jr_ifN_ne C dX0_releaseTree_39 (by omega) (fun hd => ?_) (fun hd => ?_)
      · obtain ⟨q0, q1, -, ls, rs, ecs, tl, th⟩ := tr_node t3 hd
        have bl := tr_lt tl
        have bh := tr_lt th
        have lcs : cs.length = ls.length + rs.length + 1 := by rw [ecs]; simp; omega
        refine jr_al0 C dX0_releaseTree_45 ?_
        refine jr_il2 C dX0_releaseTree_46 ?_
        refine jc_release C dX0_releaseTree_47 ⟨by decide, by decide⟩ (Nat.le_of_ble_eq_true rfl) (m_rel l N3 K q1 hf3 (by omega)) (fun N4 K4 hp => ?_)
        obtain ⟨hf4, s4, rfl⟩ := hp
        rw [on_p q0] at hf4
        refine jr_al0 C dX0_releaseTree_50 ?_
        refine jr_al0 C dX0_releaseTree_51 ?_
        refine jg_left C dX0_releaseTree_52 ?_
        refine jr_il2 C dX0_releaseTree_55 ?_
        refine jl_left C dX0_releaseTree_56 (by omega) ?_
        refine jr_top (v := N3 0 n) (by rw [s4 0 (by decide)]) ?_
        refine jr_ic0 C dX0_releaseTree_57 ?_
        refine jc_pushWay C dX0_releaseTree_58 ⟨by decide, by decide⟩ (Nat.le_of_ble_eq_true rfl) (m_pushWay l N4 K4 (a := N3 0 n) (b := 0) (by omega) (by decide) (by rw [s4 7 (by decide), f7]; omega)) (fun N5 K5 hp => ?_)
        obtain ⟨e5, rfl⟩ := hp
        rw [s4 7 (by decide), f7] at e5
        have s5 : sm N4 N5 [7, 8, 9] := by rw [e5]; exact sm_trans (sm_jup (by simp)) (sm_trans (sm_jup (by simp)) (sm_jup (by simp)))
        have a7 : N5 7 0 = w + 1 := by rw [e5, jup_s]
        have a8 : N5 8 w = N3 0 n := by rw [e5]; simp [jup_e]
        have l5 : low N4 N5 w := by
          intro i hi
          rw [e5]
          have hne : ¬ i = w := by omega
          simp [jup_e, hne]
        refine jr_al0 C dX0_releaseTree_61 ?_
        refine jr_al0 C dX0_releaseTree_62 ?_
        refine jg_right C dX0_releaseTree_63 ?_
        refine jr_il2 C dX0_releaseTree_66 ?_
        refine jl_right C dX0_releaseTree_67 (by omega) ?_
        refine jr_top (v := N3 1 n) (by rw [s5 1 (by decide), s4 1 (by decide)]) ?_
        refine jr_ic0 C dX0_releaseTree_68 ?_
        refine jc_pushWay C dX0_releaseTree_69 ⟨by decide, by decide⟩ (Nat.le_of_ble_eq_true rfl) (m_pushWay l N5 K5 (a := N3 1 n) (b := 0) (by omega) (by decide) (by rw [a7]; omega)) (fun N6 K6 hp => ?_)
        obtain ⟨e6, rfl⟩ := hp
        rw [a7] at e6
        have s6 : sm N5 N6 [7, 8, 9] := by rw [e6]; exact sm_trans (sm_jup (by simp)) (sm_trans (sm_jup (by simp)) (sm_jup (by simp)))
        have b7 : N6 7 0 = w + 1 + 1 := by rw [e6, jup_s]
        have b8 : N6 8 (w + 1) = N3 1 n := by rw [e6]; simp [jup_e]
        have b8' : N6 8 w = N3 0 n := by rw [e6]; simp [jup_e]; exact a8
        have l6 : low N5 N6 (w + 1) := by
          intro i hi
          rw [e6]
          have hne : ¬ i = w + 1 := by omega
          simp [jup_e, hne]
        have s36 : sm N3 N6 [5, 6, 7, 8, 9] := sm_trans (sm_sub s4 (by simp)) (sm_trans (sm_sub s5 (by simp)) (sm_sub s6 (by simp)))
        have hf6 : free N6 (n :: f2) := free_sm (free_sm hf4 s5 (by decide) (by decide)) s6 (by decide) (by decide)
        refine jr_goto C dX0_releaseTree_72 ?_
        refine ih rs (N3 1 n) N6 (n :: f2) (w + 1) _ (by omega) (ag_tr (xs := []) (sm_ag s36 (by decide) (by decide) (by decide)) th (by simp)) hf6 b7 b8 (by omega) (by simp only [List.length_cons]; omega) ?_
        intro N7 f7' o7 s7 hf7 p7 c7 l7
        have hl7 := p7.length_eq
        simp only [List.length_append, List.length_cons] at hl7
        have s37 : sm N3 N7 [5, 6, 7, 8, 9] := sm_trans s36 s7
        refine ih ls (N3 0 n) N7 f7' w _ (by omega) (ag_tr (xs := []) (sm_ag s37 (by decide) (by decide) (by decide)) tl (by simp)) hf7 c7 (by rw [(l7 w (by omega)).1]; exact b8') (by omega) (by omega) ?_
        intro N8 f8 o8 s8 hf8 p8 c8 l8
        refine kk N8 f8 o8 (sm_trans (sm_sub s3 (by simp)) (sm_trans s37 s8)) hf8 ?_ c8 ?_
        · rw [ecs]
          refine p8.trans ?_
          rw [List.append_assoc]
          refine List.Perm.append_left _ ?_
          refine p7.trans ?_
          exact List.perm_middle
        · refine low_trans (low_sm (w := w) s3 (by decide) (by decide)) ?_ (Nat.le_refl _) (Nat.le_refl _)
          refine low_trans (low_sm (w := w) s4 (by decide) (by decide)) ?_ (Nat.le_refl _) (Nat.le_refl _)
          refine low_trans l5 ?_ (Nat.le_refl _) (Nat.le_refl _)
          refine low_trans (w2 := w) l6 ?_ (by omega) (Nat.le_refl _)
          exact low_trans l7 l8 (by omega) (Nat.le_refl _)
      · subst hd
        have := tr_zero tn
        subst this
        refine jr_goto C dX0_releaseTree_42 ?_
        exact kk N3 f2 _ (sm_sub s3 (by simp)) hf3 (List.Perm.refl _) f7 (low_sm (w := w) s3 (by decide) (by decide))
  refine jr_al0 C dX0_releaseTree_0 ?_
  refine jr_ic0 C dX0_releaseTree_1 ?_
  refine jp_wayEnd C dX0_releaseTree_2 ?_
  refine jr_al0 C dX0_releaseTree_5 ?_
  refine jr_il1 C dX0_releaseTree_6 ?_
  refine jr_ic0 C dX0_releaseTree_7 ?_
  obtain ⟨N1, e1⟩ : ∃ N1, N1 = jup N 7 0 0 := ⟨_, rfl⟩
  rw [← e1]
  have s1 : sm N N1 [7] := by rw [e1]; exact sm_jup (by simp)
  have c7 : N1 7 0 = 0 := by rw [e1, jup_s]
  refine jc_pushWay C dX0_releaseTree_8 ⟨by decide, by decide⟩ (Nat.le_of_ble_eq_true rfl) (m_pushWay l N1 K (a := a) (b := 0) (by omega) (by decide) (by rw [c7]; omega)) (fun N2 K2 hp => ?_)
  obtain ⟨e2, rfl⟩ := hp
  rw [c7] at e2
  have s2 : sm N1 N2 [7, 8, 9] := by rw [e2]; exact sm_trans (sm_jup (by simp)) (sm_trans (sm_jup (by simp)) (sm_jup (by simp)))
  have s02 : sm N N2 [5, 6, 7, 8, 9] := sm_trans (sm_sub s1 (by simp)) (sm_sub s2 (by simp))
  have a7 : N2 7 0 = 0 + 1 := by rw [e2, jup_s]
  have a8 : N2 8 0 = a := by rw [e2]; simp [jup_e]
  refine lp (xs.length + 1) xs a N2 fl 0 _ (by omega) (ag_tr (xs := []) (sm_ag s02 (by decide) (by decide) (by decide)) ta (by simp)) (free_sm (free_sm hf s1 (by decide) (by decide)) s2 (by decide) (by decide)) a7 a8 (by omega) hl2 ?_
  intro N3 f3 o3 s3 hf3 p3 d7 l3
  refine jr_al0 C dX0_releaseTree_11 ?_
  refine jg_wayEnd C dX0_releaseTree_12 ?_
  refine jr_top (v := 0) (d7) ?_
  refine jr_ifN_le C dX0_releaseTree_15 (by omega) (fun hc => ?_) (fun hc => ?_)
  · refine jr_vret C hret dX0_releaseTree_75 ?_
    exact ⟨f3, hf3, p3, sm_trans s02 s3, rfl⟩
  · exact absurd (Nat.le_refl 0) hc
end
section
/-! withNothing, finished -/
def hk (K : Nat → Nat → Int32) (xs : List Nat) (k : Int32) : Prop := ∃ q ∈ xs, K 2 q = k
def bl (h : Nat) (p q : Prop) : Prop := (h = 0 ∧ (p ∨ q)) ∨ (h = 1 ∧ p ∧ q) ∨ (h = 2 ∧ p ∧ ¬ q)
/-- zs has, in order, the keys that belong to xs and ys combined as h says -/
def Res (K : Nat → Nat → Int32) (h : Nat) (xs ys zs : List Nat) : Prop := srt K zs ∧ ∀ k, hk K zs k ↔ bl h (hk K xs k) (hk K ys k)
theorem hk_nil {K : Nat → Nat → Int32} {k : Int32} : ¬ hk K [] k := by rintro ⟨q, hq, -⟩; cases hq
theorem hk_app {K : Nat → Nat → Int32} {xs ys : List Nat} {k : Int32} : hk K (xs ++ ys) k ↔ hk K xs k ∨ hk K ys k := by
  constructor
  · rintro ⟨q, hq, e⟩
    rcases List.mem_append.mp hq with h | h
    · exact Or.inl ⟨q, h, e⟩
    · exact Or.inr ⟨q, h, e⟩
  · rintro (⟨q, hq, e⟩ | ⟨q, hq, e⟩)
    · exact ⟨q, List.mem_append_left _ hq, e⟩
    · exact ⟨q, List.mem_append_right _ hq, e⟩
theorem hk_cons {K : Nat → Nat → Int32} {n : Nat} {ys : List Nat} {k : Int32} : hk K (n :: ys) k ↔ K 2 n = k ∨ hk K ys k := by
  constructor
  · rintro ⟨q, hq, e⟩
    rcases List.mem_cons.mp hq with h | h
    · exact Or.inl (h ▸ e)
    · exact Or.inr ⟨q, h, e⟩
  · rintro (e | ⟨q, hq, e⟩)
    · exact ⟨n, by simp, e⟩
    · exact ⟨q, List.mem_cons_of_mem _ hq, e⟩
theorem bl_or {h : Nat} {p q : Prop} (hb : bl h p q) : p ∨ q := by
  rcases hb with ⟨-, h⟩ | ⟨-, h, -⟩ | ⟨-, h, -⟩
  · exact h
  · exact Or.inl h
  · exact Or.inl h
/-- one step of combining: the first's root between -/
theorem res_step {K : Nat → Nat → Int32} {h x n : Nat} {ls rs us vs ms z1 z2 zm : List Nat} (hh : h < 3) (sx : srt K (ls ++ x :: rs)) (r1 : Res K h ls us z1) (r2 : Res K h rs vs z2) (hu : ∀ q ∈ us, K 2 q < K 2 x) (hv : ∀ q ∈ vs, K 2 x < K 2 q) (hm : ms = [] ∧ n = 0 ∨ (∃ e, ms = [e] ∧ K 2 e = K 2 x) ∧ n = 1) (hz : bl h True (n = 1) ∧ zm = [x] ∨ ¬ bl h True (n = 1) ∧ zm = []) : Res K h (ls ++ x :: rs) (us ++ (ms ++ vs)) (z1 ++ (zm ++ z2)) := by
  obtain ⟨sl, sr, hl, hr, hlr⟩ := srt_mid sx
  have k1 : ∀ q ∈ z1, K 2 q < K 2 x := by
    intro q hq
    rcases bl_or ((r1.2 (K 2 q)).mp ⟨q, hq, rfl⟩) with ⟨a, ha, e⟩ | ⟨a, ha, e⟩
    · rw [← e]; exact hl a ha
    · rw [← e]; exact hu a ha
  have k2 : ∀ q ∈ z2, K 2 x < K 2 q := by
    intro q hq
    rcases bl_or ((r2.2 (K 2 q)).mp ⟨q, hq, rfl⟩) with ⟨a, ha, e⟩ | ⟨a, ha, e⟩
    · rw [← e]; exact hr a ha
    · rw [← e]; exact hv a ha
  refine ⟨?_, ?_⟩
  · rcases hz with ⟨-, rfl⟩ | ⟨-, rfl⟩
    · refine srt_app.mpr ⟨r1.1, srt_cons.mpr ⟨k2, r2.1⟩, ?_⟩
      intro a ha b hb
      rcases List.mem_cons.mp hb with rfl | hb
      · exact k1 a ha
      · exact ii_tr (k1 a ha) (k2 b hb)
    · exact srt_app.mpr ⟨r1.1, r2.1, fun a ha b hb => ii_tr (k1 a ha) (k2 b hb)⟩
  · intro k
    have e1 := r1.2 k
    have e2 := r2.2 k
    have nl : hk K ls k → k < K 2 x := by rintro ⟨q, hq, rfl⟩; exact hl q hq
    have nu : hk K us k → k < K 2 x := by rintro ⟨q, hq, rfl⟩; exact hu q hq
    have nr : hk K rs k → K 2 x < k := by rintro ⟨q, hq, rfl⟩; exact hr q hq
    have nv : hk K vs k → K 2 x < k := by rintro ⟨q, hq, rfl⟩; exact hv q hq
    have nms : hk K ms k ↔ (n = 1 ∧ K 2 x = k) := by
      rcases hm with ⟨rfl, rfl⟩ | ⟨⟨e, rfl, he⟩, rfl⟩
      · exact ⟨fun h => absurd h hk_nil, fun h => absurd h.1 (by decide)⟩
      · rw [hk_cons, he]
        exact ⟨fun h => ⟨rfl, h.resolve_right hk_nil⟩, fun h => Or.inl h.2⟩
    have nzm : hk K zm k ↔ (bl h True (n = 1) ∧ K 2 x = k) := by
      rcases hz with ⟨h1, rfl⟩ | ⟨h1, rfl⟩
      · rw [hk_cons]
        exact ⟨fun h => ⟨h1, h.resolve_right hk_nil⟩, fun h => Or.inl h.2⟩
      · exact ⟨fun h => absurd h hk_nil, fun h => absurd h.1 h1⟩
    rw [hk_app, hk_app, hk_app, hk_app, hk_app, hk_cons, e1, e2, nms, nzm]
    have a1 : ¬ (k < K 2 x ∧ K 2 x < k) := fun h => ii_as h.1 h.2
    have a2 : k = K 2 x → ¬ k < K 2 x ∧ ¬ K 2 x < k := fun h => by rw [h]; exact ⟨ii_irr, ii_irr⟩
    have hh3 : h = 0 ∨ h = 1 ∨ h = 2 := by omega
    unfold bl
    grind
theorem res_none {K : Nat → Nat → Int32} {h : Nat} {xs ys : List Nat} (hx : xs = [] ∨ ys = []) (sx : srt K xs) (sy : srt K ys) : (h = 0 → xs = [] → Res K h xs ys ys) ∧ (h = 0 → ys = [] → Res K h xs ys xs) ∧ (h = 1 → Res K h xs ys []) ∧ (h = 2 → Res K h xs ys xs) := by
  refine ⟨?_, ?_, ?_, ?_⟩
  · rintro rfl rfl
    refine ⟨sy, fun k => ?_⟩
    have := @hk_nil K k
    unfold bl; grind
  · rintro rfl rfl
    refine ⟨sx, fun k => ?_⟩
    have := @hk_nil K k
    unfold bl; grind
  · rintro rfl
    refine ⟨List.Pairwise.nil, fun k => ?_⟩
    have := @hk_nil K k
    unfold bl
    rcases hx with rfl | rfl <;> grind
  · rintro rfl
    refine ⟨sx, fun k => ?_⟩
    have := @hk_nil K k
    unfold bl
    rcases hx with rfl | rfl <;> grind
def P_none (N : Nat → Nat → Nat) (K : Nat → Nat → Int32) (h : Nat) (xs ys fl : List Nat) : Int32 → (Nat → Nat → Nat) → (Nat → Nat → Int32) → Prop := fun r N1 K1 => ∃ t zs gs f1, r = nI t ∧ tr N1 t zs ∧ Res K h xs ys zs ∧ (zs ++ gs).Perm (xs ++ ys) ∧ f1.Perm (gs ++ fl) ∧ free N1 f1 ∧ sm N N1 [5, 6, 7, 8, 9] ∧ K1 = K
theorem m_withNothing (l : Launch) (N : Nat → Nat → Nat) (K : Nat → Nat → Int32) {h a b : Nat} {xs ys fl : List Nat} (hh : h < 3) (ta : tr N a xs) (tb : tr N b ys) (hab : a = 0 ∨ b = 0) (sx : srt K xs) (sy : srt K ys) (hf : free N fl) (hl1 : xs.length ≤ 63) (hl2 : ys.length ≤ 63) (hl3 : fl.length + xs.length + ys.length ≤ 255) : jI l jw jty yX0_withNothing cX0_withNothing 4 .int 2 [.int (nI h), .int (nI a), .int (nI b)] N K (P_none N K h xs ys fl) := by
  have ba := tr_lt ta
  have bb := tr_lt tb
  have hx : xs = [] ∨ ys = [] := by
    rcases hab with rfl | rfl
    · exact Or.inl (tr_zero ta)
    · exact Or.inr (tr_zero tb)
  obtain ⟨n1, n2, n3, n4⟩ := res_none (K := K) (h := h) hx sx sy
  refine jI_of (k := 2) (kN := 0) (L := fun g : jG => [some (.ref g.2.1), some (.int (nI h)), some (.int (nI a)), some (.int (nI b))]) (by decide) (fun g => rfl) (fun g => rfl) (fun g => by simp [Value.category]) ?_
  intro g p e s m args below meth c A C hret
  refine jr_il1 C dX0_withNothing_0 ?_
  refine jr_ifN_ne C dX0_withNothing_1 (by omega) (fun hc => ?_) (fun hc => ?_)
  · refine jr_al0 C dX0_withNothing_14 ?_
    refine jr_il3 C dX0_withNothing_15 ?_
    refine jc_releaseTree C dX0_withNothing_16 ⟨by decide, by decide⟩ (Nat.le_of_ble_eq_true rfl) (m_releaseTree l N K tb hf hl2 (by omega)) (fun N1 K1 hp => ?_)
    obtain ⟨f1, hf1, p1, s1, rfl⟩ := hp
    have ta1 : tr N1 a xs := ag_tr (xs := []) (sm_ag s1 (by decide) (by decide) (by decide)) ta (by simp)
    have hl4 := p1.length_eq
    simp only [List.length_append] at hl4
    refine jr_il1 C dX0_withNothing_19 ?_
    refine jr_ic2 C dX0_withNothing_20 ?_
    refine jr_cmpN_ne C dX0_withNothing_21 (by omega) (by omega) (fun hd => ?_) (fun hd => ?_)
    · have h1 : h = 1 := by omega
      refine jr_al0 C dX0_withNothing_26 ?_
      refine jr_il2 C dX0_withNothing_27 ?_
      refine jc_releaseTree C dX0_withNothing_28 ⟨by decide, by decide⟩ (Nat.le_of_ble_eq_true rfl) (m_releaseTree l N1 K1 ta1 hf1 hl1 (by omega)) (fun N2 K2 hp => ?_)
      obtain ⟨f2, hf2, p2, s2, rfl⟩ := hp
      refine jr_ic0 C dX0_withNothing_31 ?_
      refine jr_iret C hret dX0_withNothing_32 ?_
      refine ⟨0, [], xs ++ ys, f2, rfl, tr_nil, n3 h1, List.Perm.refl _, ?_, hf2, sm_trans s1 s2, rfl⟩
      rw [List.append_assoc]
      exact p2.trans (List.Perm.append_left _ p1)
    · refine jr_il2 C dX0_withNothing_24 ?_
      refine jr_iret C hret dX0_withNothing_25 ?_
      exact ⟨a, xs, ys, f1, rfl, ta1, n4 hd, List.Perm.refl _, p1, hf1, s1, rfl⟩
  · refine jr_il2 C dX0_withNothing_4 ?_
    refine jr_ifN_ne C dX0_withNothing_5 (by omega) (fun hd => ?_) (fun hd => ?_)
    · have hb : b = 0 := hab.resolve_left hd
      subst hb
      have := tr_zero tb
      subst this
      refine jr_il2 C dX0_withNothing_12 ?_
      refine jr_iret C hret dX0_withNothing_13 ?_
      exact ⟨a, xs, [], fl, rfl, ta, n2 hc rfl, List.Perm.refl _, List.Perm.refl _, hf, sm_rfl, rfl⟩
    · subst hd
      have := tr_zero ta
      subst this
      refine jr_il3 C dX0_withNothing_8 ?_
      refine jr_goto C dX0_withNothing_9 ?_
      refine jr_iret C hret dX0_withNothing_13 ?_
      exact ⟨b, ys, [], fl, rfl, tb, n1 hc rfl, by simp, List.Perm.refl _, hf, sm_rfl, rfl⟩
def P_fin (N : Nat → Nat → Nat) (K : Nat → Nat → Int32) (h bo n : Nat) (us vs fl : List Nat) : Int32 → (Nat → Nat → Nat) → (Nat → Nat → Int32) → Prop := fun r N1 K1 => ∃ t zm f1, r = nI t ∧ tr N1 t (us ++ (zm ++ vs)) ∧ (bl h True (bo = 1) ∧ zm = [n] ∧ f1 = fl ∨ ¬ bl h True (bo = 1) ∧ zm = [] ∧ f1 = n :: fl) ∧ free N1 f1 ∧ ag N N1 (us ++ n :: vs) ∧ sm N N1 [0, 1, 3, 5, 6, 7, 8, 9, 10, 11, 12] ∧ K1 = K
theorem m_finished (l : Launch) (N : Nat → Nat → Nat) (K : Nat → Nat → Int32) {h f n bo lo up : Nat} {us vs fl : List Nat} (hh : h < 3) (h0 : N 3 0 = 0) (hf32 : f < 32) (en : N 13 f = n) (eb : N 16 f = bo) (el : N 15 f = lo) (hb2 : bo < 2) (hn : 0 < n) (hn2 : n < 256) (tl : tr N lo us) (tu : tr N up vs) (su : srt K us) (hnd : (us ++ n :: vs).Nodup) (hf : free N fl) (hl1 : us.length ≤ 62) (hl2 : vs.length ≤ 62) (hl3 : fl.length < 256) : jI l jw jty yX0_finished cX0_finished 6 .int 6 [.int (nI h), .int (nI f), .int (nI up)] N K (P_fin N K h bo n us vs fl) := by
  have bl1 := tr_lt tl
  have bu1 := tr_lt tu
  refine jI_of (k := 6) (kN := 2) (L := fun g : jG => [some (.ref g.2.1), some (.int (nI h)), some (.int (nI f)), some (.int (nI up)), none, none]) (by decide) (fun g => rfl) (fun g => rfl) (fun g => by simp [Value.category]) ?_
  intro g p e s m args below meth c A C hret
  have at36 : ∀ b : Nat, b < 2 → (b = 1 ↔ bl h True (bo = 1)) → JJ p l e (jrm 6) s m args below meth c 0 0 (jQI jw jty g A below args s (P_fin N K h bo n us vs fl)) A g.1 6 (jw g N K) 36 [some (.ref g.2.1), some (.int (nI h)), some (.int (nI f)), some (.int (nI up)), some (.int (nI n)), none] [.int (nI b)] := by
    intro b hb hbl
    refine jr_is5 C dX0_finished_36 ?_
    refine jr_al0 C dX0_finished_38 ?_
    refine jr_ic0 C dX0_finished_39 ?_
    refine jp_wayEnd C dX0_finished_40 ?_
    obtain ⟨N1, e1⟩ : ∃ N1, N1 = jup N 7 0 0 := ⟨_, rfl⟩
    rw [← e1]
    have s1 : sm N N1 [7] := by rw [e1]; exact sm_jup (by simp)
    have c7 : N1 7 0 = 0 := by rw [e1, jup_s]
    have g1 : ag N N1 [] := sm_ag s1 (by decide) (by decide) (by decide)
    have z1 : N1 3 0 = 0 := by rw [s1 3 (by decide)]; exact h0
    have tl1 := ag_tr g1 tl (by simp)
    have tu1 := ag_tr g1 tu (by simp)
    have hf1 := free_sm hf s1 (by decide) (by decide)
    refine jr_il5 C dX0_finished_43 ?_
    refine jr_ifN_eq C dX0_finished_45 (by omega) (fun hc => ?_) (fun hc => ?_)
    · have hnb : ¬ bl h True (bo = 1) := fun q => by rw [hbl.mpr q] at hc; cases hc
      refine jr_al0 C dX0_finished_62 ?_
      refine jr_il4 C dX0_finished_63 ?_
      refine jc_release C dX0_finished_65 ⟨by decide, by decide⟩ (Nat.le_of_ble_eq_true rfl) (m_rel l N1 K hn2 hf1 hl3) (fun N2 K2 hp => ?_)
      obtain ⟨hf2, s2, rfl⟩ := hp
      rw [on_p hn] at hf2
      have g2 : ag N1 N2 [] := sm_ag s2 (by decide) (by decide) (by decide)
      have hnd2 : (us ++ vs).Nodup := List.Nodup.sublist (List.Sublist.append_left (List.sublist_cons_self n vs) us) hnd
      refine jr_al0 C dX0_finished_68 ?_
      refine jr_al0 C dX0_finished_69 ?_
      refine jg_frameLower C dX0_finished_70 ?_
      refine jr_il2 C dX0_finished_73 ?_
      refine jl_frameLower C dX0_finished_74 (by omega) ?_
      refine jr_top (v := lo) (by rw [s2 15 (by decide), s1 15 (by decide)]; exact el) ?_
      refine jr_il3 C dX0_finished_75 ?_
      refine jc_joinTwo C dX0_finished_76 ⟨by decide, by decide⟩ (Nat.le_of_ble_eq_true rfl) (m_joinTwo l N2 K2 (by rw [s2 3 (by decide)]; exact z1) (ag_tr g2 tl1 (by simp)) (ag_tr g2 tu1 (by simp)) su hnd2 (by omega) hl2) (fun r N3 K3 hp => ?_)
      obtain ⟨t, rfl, t3, g3, s3, rfl⟩ := hp
      refine jr_iret C hret dX0_finished_79 ?_
      refine ⟨t, [], n :: fl, rfl, t3, Or.inr ⟨hnb, rfl, rfl⟩, free_sm hf2 s3 (by decide) (by decide), ?_, sm_trans (sm_sub s1 (by simp)) (sm_trans (sm_sub s2 (by simp)) (sm_sub s3 (by simp))), rfl⟩
      refine ag_trans (ag_trans g1 g2 (zs := []) (by simp) (by simp)) g3 (by simp) ?_
      intro q hq
      rcases List.mem_append.mp hq with h | h
      · exact List.mem_append_left _ h
      · exact List.mem_append_right _ (List.mem_cons_of_mem _ h)
    · have hyb : bl h True (bo = 1) := hbl.mp (by omega)
      refine jr_al0 C dX0_finished_48 ?_
      refine jr_al0 C dX0_finished_49 ?_
      refine jg_frameLower C dX0_finished_50 ?_
      refine jr_il2 C dX0_finished_53 ?_
      refine jl_frameLower C dX0_finished_54 (by omega) ?_
      refine jr_top (v := lo) (by rw [s1 15 (by decide)]; exact el) ?_
      refine jr_il4 C dX0_finished_55 ?_
      refine jr_il3 C dX0_finished_57 ?_
      refine jc_join C dX0_finished_58 ⟨by decide, by decide⟩ (Nat.le_of_ble_eq_true rfl) (m_join l N1 K z1 tl1 tu1 hn hn2 hnd (by simp; omega) (by rw [c7]; omega) (by rw [c7]; omega)) (fun r N3 K3 hp => ?_)
      obtain ⟨t, rfl, t3, g3, s3, -, -, rfl⟩ := hp
      refine jr_iret C hret dX0_finished_61 ?_
      exact ⟨t, [n], fl, rfl, t3, Or.inl ⟨hyb, rfl, rfl⟩, free_sm hf1 s3 (by decide) (by decide), ag_trans g1 g3 (by simp) (fun _ h => h), sm_trans (sm_sub s1 (by simp)) (sm_sub s3 (by simp)), rfl⟩
  refine jr_al0 C dX0_finished_0 ?_
  refine jg_frameNode C dX0_finished_1 ?_
  refine jr_il2 C dX0_finished_4 ?_
  refine jl_frameNode C dX0_finished_5 (by omega) ?_
  refine jr_top (v := n) (en) ?_
  refine jr_is4 C dX0_finished_6 ?_
  refine jr_il1 C dX0_finished_8 ?_
  refine jr_ifN_eq C dX0_finished_9 (by omega) (fun hc => ?_) (fun hc => ?_)
  · refine jr_ic1 C dX0_finished_31 ?_
    refine jr_goto C dX0_finished_32 ?_
    refine at36 1 (by decide) ⟨fun _ => Or.inl ⟨hc, Or.inl trivial⟩, fun _ => rfl⟩
  · refine jr_al0 C dX0_finished_12 ?_
    refine jg_frameBoth C dX0_finished_13 ?_
    refine jr_il2 C dX0_finished_16 ?_
    refine jl_frameBoth C dX0_finished_17 (by omega) ?_
    refine jr_top (v := bo) (eb) ?_
    refine jr_il1 C dX0_finished_18 ?_
    refine jr_ic1 C dX0_finished_19 ?_
    refine jr_cmpN_ne C dX0_finished_20 (by omega) (by omega) (fun hd => ?_) (fun hd => ?_)
    · have h2 : h = 2 := by omega
      refine jr_ic0 C dX0_finished_27 ?_
      refine jr_cmpN_ne C dX0_finished_28 (by omega) (by omega) (fun he => ?_) (fun he => ?_)
      · refine jr_ic0 C dX0_finished_35 ?_
        exact at36 0 (by decide) ⟨fun q => absurd q (by decide), fun q => by simp only [bl, true_or, true_and, and_true] at q; omega⟩
      · refine jr_ic1 C dX0_finished_31 ?_
        refine jr_goto C dX0_finished_32 ?_
        exact at36 1 (by decide) ⟨fun _ => by simp only [bl, true_or, true_and, and_true]; omega, fun _ => rfl⟩
    · refine jr_ic1 C dX0_finished_23 ?_
      refine jr_goto C dX0_finished_24 ?_
      refine jr_cmpN_ne C dX0_finished_28 (by omega) (by omega) (fun he => ?_) (fun he => ?_)
      · refine jr_ic0 C dX0_finished_35 ?_
        exact at36 0 (by decide) ⟨fun q => absurd q (by decide), fun q => by simp only [bl, true_or, true_and, and_true] at q; omega⟩
      · refine jr_ic1 C dX0_finished_31 ?_
        refine jr_goto C dX0_finished_32 ?_
        exact at36 1 (by decide) ⟨fun _ => by simp only [bl, true_or, true_and, and_true]; omega, fun _ => rfl⟩
end
section
/-! combined -/
theorem nd_ct {l : List Nat} : l.Nodup ↔ ∀ a, l.count a ≤ 1 := List.nodup_iff_count
theorem pm_ct {l l2 : List Nat} : l.Perm l2 ↔ ∀ a, l.count a = l2.count a := List.perm_iff_count
theorem dj_of {A B : List Nat} (h : ∀ q, A.count q + B.count q ≤ 1) : ∀ r ∈ A, r ∉ B := by
  intro r h1 h2
  have a1 := List.count_pos_iff.mpr h1
  have a2 := List.count_pos_iff.mpr h2
  have := h r
  omega
theorem jr_dec4 {p : Program} {l : Launch} {e : Env} {R : Room} {s : State} {m : MethodId} {args : Array Value} {below : List Frame} {meth : Method} {c : Code} {ce sl : Nat} {Q : State → Prop} {A : Nat → Prop} {D : va_G} {nL : Nat} {wd : va_W} {pc n : Nat} {L : List (Option Value)} {st : List Value} {cc : ByteArray} {own : String} {tys : List (ClassId × FieldType)} (C : jC p s m args meth c A D nL cc own tys) {o0 o1 o2 o3 : Option Value} {x : Nat} (d : decode cc pc = .ok (.iinc 4 (-1), 3) ∧ pc + 3 = n) (kk : JJ p l e R s m args below meth c ce sl Q A D nL wd n (o0 :: o1 :: o2 :: o3 :: some (.int (nI x)) :: L) st) : JJ p l e R s m args below meth c ce sl Q A D nL wd pc (o0 :: o1 :: o2 :: o3 :: some (.int (nI (x + 1))) :: L) st := by
  obtain ⟨d, rfl⟩ := d
  exact fun H locs ls hP hD hS hl => jl_iinc C.1 C.2.1 d hl rfl (show nI (x + 1) + Int32.ofInt (-1) = nI x from pk_m1 x) (fun ls2 h2 => kk H locs ls2 hP hD hS h2)
def frm (N N' : Nat → Nat → Nat) (t : Nat) : Prop := ∀ i, i < t → N' 13 i = N 13 i ∧ N' 14 i = N 14 i ∧ N' 15 i = N 15 i ∧ N' 16 i = N 16 i ∧ N' 17 i = N 17 i
theorem frm_rfl {N : Nat → Nat → Nat} {t : Nat} : frm N N t := fun _ _ => ⟨rfl, rfl, rfl, rfl, rfl⟩
theorem frm_trans {N N1 N2 : Nat → Nat → Nat} {t t1 t2 : Nat} (h1 : frm N N1 t1) (h2 : frm N1 N2 t2) (e1 : t ≤ t1) (e2 : t ≤ t2) : frm N N2 t := by
  intro i hi
  obtain ⟨a1, a2, a3, a4, a5⟩ := h1 i (by omega)
  obtain ⟨b1, b2, b3, b4, b5⟩ := h2 i (by omega)
  exact ⟨b1.trans a1, b2.trans a2, b3.trans a3, b4.trans a4, b5.trans a5⟩
theorem frm_sm {N N' : Nat → Nat → Nat} {t : Nat} {ks : List Nat} (h : sm N N' ks) (h13 : 13 ∉ ks) (h14 : 14 ∉ ks) (h15 : 15 ∉ ks) (h16 : 16 ∉ ks) (h17 : 17 ∉ ks) : frm N N' t := by
  intro i _
  rw [h 13 h13, h 14 h14, h 15 h15, h 16 h16, h 17 h17]
  exact ⟨rfl, rfl, rfl, rfl, rfl⟩
theorem frm_jup {N : Nat → Nat → Nat} {k t v : Nat} : frm N (jup N k t v) t := by
  intro i hi
  have hne : ¬ i = t := by omega
  simp [jup_e, hne]
abbrev cks : List Nat := [0, 1, 3, 5, 6, 7, 8, 9, 10, 11, 12, 13, 14, 15, 16, 17]
def P_comb (N : Nat → Nat → Nat) (K : Nat → Nat → Int32) (h : Nat) (xs ys fl : List Nat) : Int32 → (Nat → Nat → Nat) → (Nat → Nat → Int32) → Prop := fun r N1 K1 => ∃ t zs gs f1, r = nI t ∧ tr N1 t zs ∧ Res K h xs ys zs ∧ (zs ++ gs).Perm (xs ++ ys) ∧ f1.Perm (gs ++ fl) ∧ free N1 f1 ∧ ag N N1 (xs ++ ys) ∧ sm N N1 cks ∧ N1 3 0 = 0 ∧ K1 = K
set_option maxHeartbeats 2000000 in
theorem m_combined (l : Launch) (N : Nat → Nat → Nat) (K : Nat → Nat → Int32) {h a b : Nat} {xs ys fl : List Nat} (hh : h < 3) (h0 : N 3 0 = 0) (ta : tr N a xs) (tb : tr N b ys) (sx : srt K xs) (sy : srt K ys) (hnd : (xs ++ ys ++ fl).Nodup) (hf : free N fl) (hl1 : xs.length ≤ 32) (hl2 : xs.length + ys.length ≤ 62) (hl3 : fl.length + xs.length + ys.length ≤ 255) : jI l jw jty yX0_combined cX0_combined 10 .int 7 [.int (nI h), .int (nI a), .int (nI b)] N K (P_comb N K h xs ys fl) := by
  refine jI_of (k := 7) (kN := 6) (L := fun g : jG => [some (.ref g.2.1), some (.int (nI h)), some (.int (nI a)), some (.int (nI b)), none, none, none, none, none, none]) (by decide) (fun g => rfl) (fun g => rfl) (fun g => by simp [Value.category]) ?_
  intro g p e s m args below meth c A C hret
  have rcc : ∀ (k : Nat) (cs ds : List Nat) (x y t : Nat) (N2 : Nat → Nat → Nat) (f2 : List Nat) (o7 o9 : Option Value), cs.length < k → N2 3 0 = 0 → tr N2 x cs → tr N2 y ds → srt K cs → srt K ds → (cs ++ ds ++ f2).Nodup → free N2 f2 → t + cs.length ≤ 32 → cs.length + ds.length ≤ 62 → f2.length + cs.length + ds.length ≤ 255 →
      (∀ (N3 : Nat → Nat → Nat) (z : Nat) (zs gs f3 : List Nat) (o5 o6 o9 : Option Value), N3 3 0 = 0 → tr N3 z zs → Res K h cs ds zs → (zs ++ gs).Perm (cs ++ ds) → f3.Perm (gs ++ f2) → free N3 f3 → ag N2 N3 (cs ++ ds) → frm N2 N3 t → sm N2 N3 cks → JJ p l e (jrm 7) s m args below meth c 0 0 (jQI jw jty g A below args s (P_comb N K h xs ys fl)) A g.1 10 (jw g N3 K) 15 [some (.ref g.2.1), some (.int (nI h)), some (.int (nI a)), some (.int (nI b)), some (.int (nI t)), o5, o6, some (.int (nI z)), some (.int (nI 0)), o9] []) →
      JJ p l e (jrm 7) s m args below meth c 0 0 (jQI jw jty g A below args s (P_comb N K h xs ys fl)) A g.1 10 (jw g N2 K) 15 [some (.ref g.2.1), some (.int (nI h)), some (.int (nI a)), some (.int (nI b)), some (.int (nI t)), some (.int (nI x)), some (.int (nI y)), o7, some (.int (nI 1)), o9] [] := by
    intro k
    induction k with
    | zero => intro cs ds x y t N2 f2 o7 o9 hk; omega
    | succ k ih =>
      intro cs ds x y t N2 f2 o7 o9 hk z2 tx ty sc sd hn2 hf2 ht hl hfl kk
      have bx := tr_lt tx
      have b_y := tr_lt ty
      have at131 : (x = 0 ∨ y = 0) → JJ p l e (jrm 7) s m args below meth c 0 0 (jQI jw jty g A below args s (P_comb N K h xs ys fl)) A g.1 10 (jw g N2 K) 131 [some (.ref g.2.1), some (.int (nI h)), some (.int (nI a)), some (.int (nI b)), some (.int (nI t)), some (.int (nI x)), some (.int (nI y)), o7, some (.int (nI 1)), o9] [] := by
        intro hxy
        refine jr_il8 C dX0_combined_131 ?_
        refine jr_ifN_eq C dX0_combined_133 (by omega) (fun hc => ?_) (fun hc => ?_)
        · exact absurd hc (by decide)
        refine jr_al0 C dX0_combined_136 ?_
        refine jr_il1 C dX0_combined_137 ?_
        refine jr_il5 C dX0_combined_138 ?_
        refine jr_il6 C dX0_combined_140 ?_
        refine jc_withNothing C dX0_combined_142 ⟨by decide, by decide⟩ (Nat.le_of_ble_eq_true rfl) (m_withNothing l N2 K hh tx ty hxy sc sd hf2 (by omega) (by omega) (by omega)) (fun r N3 K3 hp => ?_)
        obtain ⟨z, zs, gs, f3, rfl, t3, r3, p3, pf3, hf3, s3, rfl⟩ := hp
        refine jr_is7 C dX0_combined_145 ?_
        refine jr_ic0 C dX0_combined_147 ?_
        refine jr_is8 C dX0_combined_148 ?_
        refine jr_goto C dX0_combined_150 ?_
        exact kk N3 z zs gs f3 _ _ _ (by rw [s3 3 (by decide)]; exact z2) t3 r3 p3 pf3 hf3 (sm_ag s3 (by decide) (by decide) (by decide)) (frm_sm s3 (by decide) (by decide) (by decide) (by decide) (by decide)) (sm_sub s3 (by decide))
      refine jr_il8 C dX0_combined_15 ?_
      refine jr_ifN_ne C dX0_combined_17 (by omega) (fun hc => ?_) (fun hc => ?_)
      rotate_left
      · exact absurd hc (by decide)
      refine jr_il8 C dX0_combined_25 ?_
      refine jr_ifN_eq C dX0_combined_27 (by omega) (fun hc2 => ?_) (fun hc2 => ?_)
      · exact absurd hc2 (by decide)
      refine jr_il5 C dX0_combined_30 ?_
      refine jr_ifN_eq C dX0_combined_32 (by omega) (fun hx0 => ?_) (fun hx0 => ?_)
      · exact at131 (Or.inl hx0)
      refine jr_il6 C dX0_combined_35 ?_
      refine jr_ifN_eq C dX0_combined_37 (by omega) (fun hy0 => ?_) (fun hy0 => ?_)
      · exact at131 (Or.inr hy0)
      obtain ⟨q0, q1, -, ls, rs, ecs, tl, th⟩ := tr_node tx hx0
      have lcs : cs.length = ls.length + rs.length + 1 := by rw [ecs]; simp; omega
      refine jr_al0 C dX0_combined_40 ?_
      refine jr_il6 C dX0_combined_41 ?_
      refine jr_al0 C dX0_combined_43 ?_
      refine jg_key C dX0_combined_44 ?_
      refine jr_il5 C dX0_combined_47 ?_
      refine jl_key C dX0_combined_49 (by omega) ?_
      refine jc_splitTree C dX0_combined_50 ⟨by decide, by decide⟩ (Nat.le_of_ble_eq_true rfl) (m_splitTree l N2 K (x := K 2 x) z2 ty sd (by omega)) (fun N3 K3 hp => ?_)
      obtain ⟨us, vs, tu, tv, hor, hu, hv, g3, s3, f7, rfl⟩ := hp
      obtain ⟨lo, elo⟩ : ∃ lo, N3 10 0 = lo := ⟨_, rfl⟩
      obtain ⟨hi, ehi⟩ : ∃ hi, N3 11 0 = hi := ⟨_, rfl⟩
      obtain ⟨ex, eex⟩ : ∃ ex, N3 12 0 = ex := ⟨_, rfl⟩
      rw [elo] at tu
      rw [ehi] at tv
      rw [eex] at hor
      have eds : ds = us ++ (on ex ++ vs) := by
        rcases hor with ⟨e, e2⟩ | ⟨e, -, e2, -⟩
        · rw [e, e2]; rfl
        · rw [on_p e, e2]; rfl
      have bex : ex < 256 := by
        rcases hor with ⟨e, -⟩ | ⟨-, e, -⟩
        · omega
        · exact e
      have lds : ds.length = us.length + (on ex).length + vs.length := by rw [eds]; simp; omega
      have hcT : ∀ q, ls.count q + (if x == q then 1 else 0) + rs.count q + us.count q + (on ex).count q + vs.count q + f2.count q ≤ 1 := by
        intro q
        have := nd_ct.mp hn2 q
        rw [ecs, eds] at this
        simp only [List.count_append, List.count_cons] at this
        omega
      obtain ⟨sl, sr, hkl, hkr, hklr⟩ := srt_mid (ecs ▸ sc)
      have sd2 := sd
      rw [eds] at sd2
      have su := (srt_app.mp sd2).1
      have sv := (srt_app.mp (srt_app.mp sd2).2.1).2.1
      have blo := tr_lt tu
      have bhi := tr_lt tv
      have posd : ∀ q ∈ ds, 0 < q := fun q hq => (tr_mem ty q hq).1
      have z3 : N3 3 0 = 0 := ag_z g3 z2 posd
      have dxd : x ∉ ds := by
        intro hq
        have := nd_ct.mp hn2 x
        rw [ecs] at this
        have h1 := List.count_pos_iff.mpr hq
        simp only [List.count_append, List.count_cons, beq_self_eq_true, if_true] at this
        omega
      obtain ⟨gx0, gx1, gx3⟩ := g3 x dxd
      have tl3 : tr N3 (N3 0 x) ls := by
        rw [gx0]
        exact ag_tr g3 tl (by rw [eds]; exact dj_of (fun q => by have := hcT q; simp only [List.count_append]; omega))
      have th3 : tr N3 (N3 1 x) rs := by
        rw [gx1]
        exact ag_tr g3 th (by rw [eds]; exact dj_of (fun q => by have := hcT q; simp only [List.count_append]; omega))
      obtain ⟨xl, exl⟩ : ∃ xl, N3 0 x = xl := ⟨_, rfl⟩
      obtain ⟨xr, exr⟩ : ∃ xr, N3 1 x = xr := ⟨_, rfl⟩
      rw [exl] at tl3
      rw [exr] at th3
      have at93 : ∀ bo : Nat, bo < 2 → (bo = 0 ∧ ex = 0 ∨ bo = 1 ∧ ex ≠ 0) → JJ p l e (jrm 7) s m args below meth c 0 0 (jQI jw jty g A below args s (P_comb N K3 h xs ys fl)) A g.1 10 (jw g (jup (jup N3 13 t x) 14 t hi) K3) 93 [some (.ref g.2.1), some (.int (nI h)), some (.int (nI a)), some (.int (nI b)), some (.int (nI t)), some (.int (nI x)), some (.int (nI y)), o7, some (.int (nI 1)), o9] [.int (nI bo), .int (nI t), .ref (g.2.2.1 16)] := by
        intro bo hbo hbe
        refine js_frameBoth C dX0_combined_93 (by omega) (by omega) ?_
        refine jr_al0 C dX0_combined_94 ?_
        refine jg_frameSecond C dX0_combined_95 ?_
        refine jr_il4 C dX0_combined_98 ?_
        refine jr_ic0 C dX0_combined_100 ?_
        refine js_frameSecond C dX0_combined_101 (by omega) (by omega) ?_
        refine jr_al0 C dX0_combined_102 ?_
        refine jr_al0 C dX0_combined_103 ?_
        refine jg_exact C dX0_combined_104 ?_
        refine jr_top (v := ex) (by simp [jup_e]; exact eex) ?_
        obtain ⟨N4, e4⟩ : ∃ N4, N4 = jup (jup (jup (jup N3 13 t x) 14 t hi) 16 t bo) 17 t 0 := ⟨_, rfl⟩
        rw [← e4]
        have s4 : sm N3 N4 [13, 14, 16, 17] := by rw [e4]; exact sm_trans (sm_jup (by simp)) (sm_trans (sm_jup (by simp)) (sm_trans (sm_jup (by simp)) (sm_jup (by simp))))
        have fr4 : frm N3 N4 t := by rw [e4]; exact frm_trans frm_jup (frm_trans frm_jup (frm_trans frm_jup frm_jup (Nat.le_refl _) (Nat.le_refl _)) (Nat.le_refl _) (Nat.le_refl _)) (Nat.le_refl _) (Nat.le_refl _)
        have a13 : N4 13 t = x := by rw [e4]; simp [jup_e]
        have a14 : N4 14 t = hi := by rw [e4]; simp [jup_e]
        have a16 : N4 16 t = bo := by rw [e4]; simp [jup_e]
        have a17 : N4 17 t = 0 := by rw [e4]; simp [jup_e]
        have hf4 : free N4 f2 := free_sm (free_sm hf2 s3 (by decide) (by decide)) s4 (by decide) (by decide)
        refine jc_release C dX0_combined_107 ⟨by decide, by decide⟩ (Nat.le_of_ble_eq_true rfl) (m_rel l N4 K3 bex hf4 (by omega)) (fun N5 K5 hp => ?_)
        obtain ⟨hf5, s5, rfl⟩ := hp
        have s35 : sm N3 N5 [5, 6, 13, 14, 16, 17] := sm_trans (sm_sub s4 (by decide)) (sm_sub s5 (by decide))
        have g35 : ∀ zs, ag N3 N5 zs := fun zs => sm_ag s35 (by decide) (by decide) (by decide)
        have z5 : N5 3 0 = 0 := by rw [s35 3 (by decide)]; exact z3
        have fr5 : frm N2 N5 t := frm_trans (frm_sm (t := t) s3 (by decide) (by decide) (by decide) (by decide) (by decide)) (frm_trans fr4 (frm_sm (t := t) s5 (by decide) (by decide) (by decide) (by decide) (by decide)) (Nat.le_refl _) (Nat.le_refl _)) (Nat.le_refl _) (Nat.le_refl _)
        refine jr_inc4 C dX0_combined_110 ?_
        refine jr_al0 C dX0_combined_113 ?_
        refine jg_left C dX0_combined_114 ?_
        refine jr_il5 C dX0_combined_117 ?_
        refine jl_left C dX0_combined_119 (by omega) ?_
        refine jr_top (v := xl) (by rw [s35 0 (by decide)]; exact exl) ?_
        refine jr_is5 C dX0_combined_120 ?_
        refine jr_al0 C dX0_combined_122 ?_
        refine jg_lowPart C dX0_combined_123 ?_
        refine jr_top (v := lo) (by rw [s35 10 (by decide)]; exact elo) ?_
        refine jr_is6 C dX0_combined_126 ?_
        refine jr_goto C dX0_combined_128 ?_
        refine ih ls us xl lo (t + 1) N5 (on ex ++ f2) _ _ (by omega) z5 (ag_tr (g35 []) tl3 (by simp)) (ag_tr (g35 []) tu (by simp)) sl su ?_ hf5 (by omega) (by omega) (by simp only [List.length_append]; omega) ?_
        · rw [nd_ct]
          intro q
          have := hcT q
          simp only [List.count_append]
          omega
        intro N6 zl z1 gs1 f6 o5 o6 o9 z6 t6 r6 p6 pf6 hf6 g6 fr6 s6
        have hp6 : ∀ q, z1.count q + gs1.count q = ls.count q + us.count q ∧ f6.count q = gs1.count q + ((on ex).count q + f2.count q) := by
          intro q
          have h1 := pm_ct.mp p6 q
          have h2 := pm_ct.mp pf6 q
          simp only [List.count_append] at h1 h2
          exact ⟨h1, h2⟩
        have lp6 := p6.length_eq
        have lf6 := pf6.length_eq
        simp only [List.length_append] at lp6 lf6
        obtain ⟨b13, b14, b15, b16, b17⟩ := fr6 t (by omega)
        rw [s5 13 (by decide), a13] at b13
        rw [s5 14 (by decide), a14] at b14
        rw [s5 16 (by decide), a16] at b16
        rw [s5 17 (by decide), a17] at b17
        have bzl := tr_lt t6
        have dxl : x ∉ ls ++ us := by
          intro hq
          have := hcT x
          have h1 := List.count_pos_iff.mpr hq
          simp only [List.count_append, beq_self_eq_true, if_true] at this h1
          omega
        obtain ⟨hx0', hx1', hx3'⟩ := g6 x dxl
        have exr6 : N6 1 x = xr := by rw [hx1', s35 1 (by decide)]; exact exr
        refine jr_il8 C dX0_combined_15 ?_
        refine jr_ifN_ne C dX0_combined_17 (by omega) (fun hd1 => ?_) (fun hd1 => ?_)
        · exact absurd rfl hd1
        refine jr_il4 C dX0_combined_20 ?_
        refine jr_ifN_le C dX0_combined_22 (by omega) (fun hd2 => ?_) (fun hd2 => ?_)
        · exact absurd hd2 (by omega)
        refine jr_il8 C dX0_combined_25 ?_
        refine jr_ifN_eq C dX0_combined_27 (by omega) (fun hd3 => ?_) (fun hd3 => ?_)
        rotate_left
        · exact absurd rfl hd3
        refine jr_il8 C dX0_combined_131 ?_
        refine jr_ifN_eq C dX0_combined_133 (by omega) (fun hd4 => ?_) (fun hd4 => ?_)
        rotate_left
        · exact absurd rfl hd4
        refine jr_il4 C dX0_combined_153 ?_
        refine jr_ic1 C dX0_combined_155 ?_
        refine jr_isub C dX0_combined_156 (by omega) ?_
        refine jr_top (v := t) (by omega) ?_
        refine jr_is9 C dX0_combined_157 ?_
        refine jr_al0 C dX0_combined_159 ?_
        refine jg_frameSecond C dX0_combined_160 ?_
        refine jr_il9 C dX0_combined_163 ?_
        refine jl_frameSecond C dX0_combined_165 (by omega) ?_
        refine jr_top (v := 0) (b17) ?_
        refine jr_ifN_ne C dX0_combined_166 (by omega) (fun hd5 => ?_) (fun hd5 => ?_)
        · exact absurd rfl hd5
        have bxr := tr_lt th3
        refine jr_al0 C dX0_combined_169 ?_
        refine jg_frameLower C dX0_combined_170 ?_
        refine jr_il9 C dX0_combined_173 ?_
        refine jr_il7 C dX0_combined_175 ?_
        refine jr_i2s C dX0_combined_177 (by omega) ?_
        refine js_frameLower C dX0_combined_178 (by omega) (by omega) ?_
        refine jr_al0 C dX0_combined_179 ?_
        refine jg_frameSecond C dX0_combined_180 ?_
        refine jr_il9 C dX0_combined_183 ?_
        refine jr_ic1 C dX0_combined_185 ?_
        refine js_frameSecond C dX0_combined_186 (by omega) (by omega) ?_
        refine jr_al0 C dX0_combined_187 ?_
        refine jg_right C dX0_combined_188 ?_
        refine jr_al0 C dX0_combined_191 ?_
        refine jg_frameNode C dX0_combined_192 ?_
        refine jr_il9 C dX0_combined_195 ?_
        refine jl_frameNode C dX0_combined_197 (by omega) ?_
        refine jr_top (v := x) (by simp [jup_e]; exact b13) ?_
        refine jl_right C dX0_combined_198 (by omega) ?_
        refine jr_top (v := xr) (by simp [jup_e]; exact exr6) ?_
        refine jr_is5 C dX0_combined_199 ?_
        refine jr_al0 C dX0_combined_201 ?_
        refine jg_frameUpper C dX0_combined_202 ?_
        refine jr_il9 C dX0_combined_205 ?_
        refine jl_frameUpper C dX0_combined_207 (by omega) ?_
        refine jr_top (v := hi) (by simp [jup_e]; exact b14) ?_
        refine jr_is6 C dX0_combined_208 ?_
        refine jr_ic1 C dX0_combined_210 ?_
        refine jr_is8 C dX0_combined_211 ?_
        refine jr_goto C dX0_combined_213 ?_
        obtain ⟨N7, e7⟩ : ∃ N7, N7 = jup (jup N6 15 t zl) 17 t 1 := ⟨_, rfl⟩
        rw [← e7]
        have s7 : sm N6 N7 [15, 17] := by rw [e7]; exact sm_trans (sm_jup (by simp)) (sm_jup (by simp))
        have g7 : ∀ zs, ag N6 N7 zs := fun zs => sm_ag s7 (by decide) (by decide) (by decide)
        have fr7 : frm N6 N7 t := by rw [e7]; exact frm_trans frm_jup frm_jup (Nat.le_refl _) (Nat.le_refl _)
        have c13 : N7 13 t = x := by rw [s7 13 (by decide)]; exact b13
        have c15 : N7 15 t = zl := by rw [e7]; simp [jup_e]
        have c16 : N7 16 t = bo := by rw [s7 16 (by decide)]; exact b16
        have c17 : N7 17 t = 1 := by rw [e7]; simp [jup_e]
        have z7 : N7 3 0 = 0 := by rw [s7 3 (by decide)]; exact z6
        have g57 : ag N5 N7 (ls ++ us) := ag_trans g6 (g7 []) (fun _ h => h) (by simp)
        have th7 : tr N7 xr rs := ag_tr g57 (ag_tr (g35 []) th3 (by simp)) (dj_of (fun q => by have := hcT q; simp only [List.count_append]; omega))
        have tv7 : tr N7 hi vs := ag_tr g57 (ag_tr (g35 []) tv (by simp)) (dj_of (fun q => by have := hcT q; simp only [List.count_append]; omega))
        refine ih rs vs xr hi (t + 1) N7 f6 _ _ (by omega) z7 th7 tv7 sr sv ?_ (free_sm hf6 s7 (by decide) (by decide)) (by omega) (by omega) (by omega) ?_
        · rw [nd_ct]
          intro q
          have h1 := hcT q
          have h2 := hp6 q
          simp only [List.count_append]
          omega
        intro N8 zh z2' gs2 f8 o5 o6 o9 z8 t8 r8 p8 pf8 hf8 g8 fr8 s8
        have hp8 : ∀ q, z2'.count q + gs2.count q = rs.count q + vs.count q ∧ f8.count q = gs2.count q + f6.count q := by
          intro q
          have h1 := pm_ct.mp p8 q
          have h2 := pm_ct.mp pf8 q
          simp only [List.count_append] at h1 h2
          exact ⟨h1, h2⟩
        have lp8 := p8.length_eq
        have lf8 := pf8.length_eq
        simp only [List.length_append] at lp8 lf8
        obtain ⟨d13, d14, d15, d16, d17⟩ := fr8 t (by omega)
        rw [c13] at d13
        rw [c15] at d15
        rw [c16] at d16
        rw [c17] at d17
        have tz1 : tr N8 zl z1 := ag_tr g8 (ag_tr (g7 []) t6 (by simp)) (dj_of (fun q => by have h1 := hcT q; have h2 := hp6 q; simp only [List.count_append]; omega))
        have bzh := tr_lt t8
        have hnd8 : (z1 ++ x :: z2').Nodup := by
          rw [nd_ct]
          intro q
          have h1 := hcT q
          have h2 := hp6 q
          have h3 := hp8 q
          simp only [List.count_append, List.count_cons]
          omega
        refine jr_il8 C dX0_combined_15 ?_
        refine jr_ifN_ne C dX0_combined_17 (by omega) (fun hd1 => ?_) (fun hd1 => ?_)
        · exact absurd rfl hd1
        refine jr_il4 C dX0_combined_20 ?_
        refine jr_ifN_le C dX0_combined_22 (by omega) (fun hd2 => ?_) (fun hd2 => ?_)
        · exact absurd hd2 (by omega)
        refine jr_il8 C dX0_combined_25 ?_
        refine jr_ifN_eq C dX0_combined_27 (by omega) (fun hd3 => ?_) (fun hd3 => ?_)
        rotate_left
        · exact absurd rfl hd3
        refine jr_il8 C dX0_combined_131 ?_
        refine jr_ifN_eq C dX0_combined_133 (by omega) (fun hd4 => ?_) (fun hd4 => ?_)
        rotate_left
        · exact absurd rfl hd4
        refine jr_il4 C dX0_combined_153 ?_
        refine jr_ic1 C dX0_combined_155 ?_
        refine jr_isub C dX0_combined_156 (by omega) ?_
        refine jr_top (v := t) (by omega) ?_
        refine jr_is9 C dX0_combined_157 ?_
        refine jr_al0 C dX0_combined_159 ?_
        refine jg_frameSecond C dX0_combined_160 ?_
        refine jr_il9 C dX0_combined_163 ?_
        refine jl_frameSecond C dX0_combined_165 (by omega) ?_
        refine jr_top (v := 1) (d17) ?_
        refine jr_ifN_ne C dX0_combined_166 (by omega) (fun hd5 => ?_) (fun hd5 => ?_)
        rotate_left
        · exact absurd hd5 (by decide)
        refine jr_al0 C dX0_combined_216 ?_
        refine jr_il1 C dX0_combined_217 ?_
        refine jr_il9 C dX0_combined_218 ?_
        refine jr_il7 C dX0_combined_220 ?_
        refine jc_finished C dX0_combined_222 ⟨by decide, by decide⟩ (Nat.le_of_ble_eq_true rfl) (m_finished l N8 K5 (f := t) hh z8 (by omega) d13 d16 d15 hbo q0 q1 tz1 t8 r6.1 hnd8 hf8 (by omega) (by omega) (by omega)) (fun r N9 K9 hp => ?_)
        obtain ⟨z, zm, f9, rfl, t9, hz9, hf9, g9, s9, rfl⟩ := hp
        refine jr_is7 C dX0_combined_225 ?_
        refine jr_dec4 C dX0_combined_227 ?_
        refine jr_goto C dX0_combined_230 ?_
        have hfr : frm N2 N9 t := frm_trans fr5 (frm_trans fr6 (frm_trans fr7 (frm_trans fr8 (frm_sm (t := t) s9 (by decide) (by decide) (by decide) (by decide) (by decide)) (Nat.le_succ t) (Nat.le_refl _)) (Nat.le_refl _) (Nat.le_refl _)) (Nat.le_succ t) (Nat.le_refl _)) (Nat.le_refl _) (Nat.le_refl _)
        have hsm : sm N2 N9 cks := sm_trans (sm_sub s3 (by decide)) (sm_trans (sm_sub s35 (by decide)) (sm_trans s6 (sm_trans (sm_sub s7 (by decide)) (sm_trans s8 (sm_sub s9 (by decide))))))
        have hmem : ∀ q ∈ z1 ++ x :: z2', q ∈ cs ++ ds := by
          intro q hq
          have h1 := List.count_pos_iff.mpr hq
          have h2 := hp6 q
          have h3 := hp8 q
          refine List.count_pos_iff.mp ?_
          rw [ecs, eds]
          simp only [List.count_append, List.count_cons] at h1 ⊢
          omega
        have g29 : ag N2 N9 (cs ++ ds) := by
          refine ag_trans g3 ?_ (fun q hq => List.mem_append_right _ hq) (fun _ h => h)
          refine ag_trans (g35 []) ?_ (by simp) (fun _ h => h)
          refine ag_trans g57 ?_ ?_ (fun _ h => h)
          · refine ag_trans g8 g9 ?_ hmem
            intro q hq
            rw [ecs, eds]
            rcases List.mem_append.mp hq with h | h <;> simp [h]
          · intro q hq
            rw [ecs, eds]
            rcases List.mem_append.mp hq with h | h <;> simp [h]
        have hres : Res K9 h cs ds (z1 ++ (zm ++ z2')) := by
          rw [ecs, eds]
          refine res_step (n := bo) hh (ecs ▸ sc) r6 r8 hu hv ?_ ?_
          · rcases hor with ⟨e, -⟩ | ⟨e, -, -, ek⟩
            · exact Or.inl ⟨by rw [e]; rfl, by omega⟩
            · exact Or.inr ⟨⟨ex, on_p e, ek⟩, by omega⟩
          · rcases hz9 with ⟨h1, h2, -⟩ | ⟨h1, h2, -⟩
            · exact Or.inl ⟨h1, h2⟩
            · exact Or.inr ⟨h1, h2⟩
        have z9 : N9 3 0 = 0 := by
          refine ag_z g9 z8 ?_
          intro q hq
          rcases List.mem_append.mp hq with h | h
          · exact (tr_mem tz1 q h).1
          · rcases List.mem_cons.mp h with h | h
            · rw [h]; exact q0
            · exact (tr_mem t8 q h).1
        rcases hz9 with ⟨-, e1, e2⟩ | ⟨-, e1, e2⟩
        · refine kk N9 z (z1 ++ (zm ++ z2')) (gs1 ++ gs2 ++ on ex) f9 _ _ _ z9 t9 hres ?_ ?_ hf9 g29 hfr hsm
          · rw [pm_ct]
            intro q
            have h2 := hp6 q
            have h3 := hp8 q
            rw [ecs, eds, e1]
            simp only [List.count_append, List.count_cons, List.count_nil]
            omega
          · rw [pm_ct]
            intro q
            have h2 := hp6 q
            have h3 := hp8 q
            rw [e2]
            simp only [List.count_append]
            omega
        · refine kk N9 z (z1 ++ (zm ++ z2')) (x :: (gs1 ++ gs2 ++ on ex)) f9 _ _ _ z9 t9 hres ?_ ?_ hf9 g29 hfr hsm
          · rw [pm_ct]
            intro q
            have h2 := hp6 q
            have h3 := hp8 q
            rw [ecs, eds, e1]
            simp only [List.count_append, List.count_cons, List.count_nil]
            omega
          · rw [pm_ct]
            intro q
            have h2 := hp6 q
            have h3 := hp8 q
            rw [e2]
            simp only [List.count_append, List.count_cons]
            omega
      refine jr_al0 C dX0_combined_53 ?_
      refine jg_frameNode C dX0_combined_54 ?_
      refine jr_il4 C dX0_combined_57 ?_
      refine jr_il5 C dX0_combined_59 ?_
      refine jr_i2s C dX0_combined_61 (by omega) ?_
      refine js_frameNode C dX0_combined_62 (by omega) (by omega) ?_
      refine jr_al0 C dX0_combined_63 ?_
      refine jg_frameUpper C dX0_combined_64 ?_
      refine jr_il4 C dX0_combined_67 ?_
      refine jr_al0 C dX0_combined_69 ?_
      refine jg_highPart C dX0_combined_70 ?_
      refine jr_top (v := hi) (by simp [jup_e]; exact ehi) ?_
      refine jr_i2s C dX0_combined_73 (by omega) ?_
      refine js_frameUpper C dX0_combined_74 (by omega) (by omega) ?_
      refine jr_al0 C dX0_combined_75 ?_
      refine jg_frameBoth C dX0_combined_76 ?_
      refine jr_il4 C dX0_combined_79 ?_
      refine jr_al0 C dX0_combined_81 ?_
      refine jg_exact C dX0_combined_82 ?_
      refine jr_top (v := ex) (by simp [jup_e]; exact eex) ?_
      refine jr_ifN_eq C dX0_combined_85 (by omega) (fun he => ?_) (fun he => ?_)
      · refine jr_ic0 C dX0_combined_92 ?_
        exact at93 0 (by decide) (Or.inl ⟨rfl, he⟩)
      · refine jr_ic1 C dX0_combined_88 ?_
        refine jr_goto C dX0_combined_89 ?_
        exact at93 1 (by decide) (Or.inr ⟨rfl, he⟩)
  refine jr_ic0 C dX0_combined_0 ?_
  refine jr_is4 C dX0_combined_1 ?_
  refine jr_il2 C dX0_combined_3 ?_
  refine jr_is5 C dX0_combined_4 ?_
  refine jr_il3 C dX0_combined_6 ?_
  refine jr_is6 C dX0_combined_7 ?_
  refine jr_ic0 C dX0_combined_9 ?_
  refine jr_is7 C dX0_combined_10 ?_
  refine jr_ic1 C dX0_combined_12 ?_
  refine jr_is8 C dX0_combined_13 ?_
  refine rcc (xs.length + 1) xs ys a b 0 N fl _ _ (by omega) h0 ta tb sx sy hnd hf (by omega) hl2 hl3 ?_
  intro N3 z zs gs f3 o5 o6 o9 z3 t3 r3 p3 pf3 hf3 g3 fr3 s3
  refine jr_il8 C dX0_combined_15 ?_
  refine jr_ifN_ne C dX0_combined_17 (by omega) (fun hc => ?_) (fun hc => ?_)
  · exact absurd rfl hc
  refine jr_il4 C dX0_combined_20 ?_
  refine jr_ifN_le C dX0_combined_22 (by omega) (fun hd => ?_) (fun hd => ?_)
  · refine jr_il7 C dX0_combined_233 ?_
    refine jr_iret C hret dX0_combined_235 ?_
    exact ⟨z, zs, gs, f3, rfl, t3, r3, p3, pf3, hf3, g3, s3, z3, rfl⟩
  · exact absurd (Nat.le_refl 0) hd
end
section
/-! copyOf -/
/-- one copy: what twin leaves, over the free nodes -/
theorem twin_of {N N1 : Nat → Nat → Nat} {K K1 : Nat → Nat → Int32} {a c : Nat} {f1 : List Nat} (hf : free N (c :: f1)) (e1 : N1 = jup (jup (jup (jup N 5 0 f1.length) 0 c (N 0 a)) 1 c (N 1 a)) 3 c (N 3 a)) (k1 : K1 = jup K 2 c (K 2 a)) : free N1 f1 ∧ N1 0 c = N 0 a ∧ N1 1 c = N 1 a ∧ N1 3 c = N 3 a ∧ ag N N1 [c] ∧ sm N N1 [0, 1, 3, 5] ∧ K1 2 c = K 2 a ∧ (∀ q, q ≠ c → K1 2 q = K 2 q) := by
  have s1 : sm N N1 [0, 1, 3, 5] := by rw [e1]; exact sm_trans (sm_jup (by simp)) (sm_trans (sm_jup (by simp)) (sm_trans (sm_jup (by simp)) (sm_jup (by simp))))
  refine ⟨free_pop hf (by rw [e1]; simp [jup_e]) (s1 6 (by decide)), by rw [e1]; simp [jup_e], by rw [e1]; simp [jup_e], by rw [e1]; simp [jup_e], ?_, s1, by rw [k1, jup_s], fun q hq => by rw [k1, jup_n hq]⟩
  rw [e1]
  intro q hq
  have hne : ¬ q = c := by simpa using hq
  simp [jup_e, hne]
def P_copy (N : Nat → Nat → Nat) (K : Nat → Nat → Int32) (xs fl : List Nat) : Int32 → (Nat → Nat → Nat) → (Nat → Nat → Int32) → Prop := fun r N1 K1 => ∃ t ys f1, r = nI t ∧ tr N1 t ys ∧ ys.map (K1 2) = xs.map (K 2) ∧ (ys ++ f1).Perm fl ∧ free N1 f1 ∧ ag N N1 fl ∧ (∀ q, q ∉ fl → K1 2 q = K 2 q) ∧ sm N N1 [0, 1, 3, 5, 7, 8, 9]
theorem cp_push {N N' : Nat → Nat → Nat} {w p : Nat} (h7 : N 7 0 = w) (e : N' = jup (jup (jup N 8 (N 7 0) p) 9 (N 7 0) 0) 7 0 (N 7 0 + 1)) : N' 7 0 = w + 1 ∧ N' 8 w = p ∧ sm N N' [7, 8, 9] ∧ low N N' w := by
  rw [h7] at e
  refine ⟨by rw [e, jup_s], by rw [e]; simp [jup_e], by rw [e]; exact sm_trans (sm_jup (by simp)) (sm_trans (sm_jup (by simp)) (sm_jup (by simp))), ?_⟩
  intro i hi
  rw [e]
  have hne : ¬ i = w := by omega
  simp [jup_e, hne]
theorem map_len {α : Type} {f g : Nat → α} {xs ys : List Nat} (h : xs.map f = ys.map g) : xs.length = ys.length := by
  have := congrArg List.length h
  simpa using this
theorem map_ag {K K1 : Nat → Nat → Int32} {xs : List Nat} (h : ∀ q ∈ xs, K1 2 q = K 2 q) : xs.map (K1 2) = xs.map (K 2) := List.map_congr_left h
set_option maxHeartbeats 2000000 in
theorem m_copyOf (l : Launch) (N : Nat → Nat → Nat) (K : Nat → Nat → Int32) {a : Nat} {xs fl : List Nat} (h0 : N 3 0 = 0) (ta : tr N a xs) (hf : free N fl) (hnd : fl.Nodup) (hb : ∀ q ∈ fl, 0 < q ∧ q < 256) (hd : ∀ q ∈ fl, q ∉ xs) (hl1 : xs.length ≤ fl.length) (hl2 : xs.length ≤ 63) (hl3 : fl.length ≤ 255) : jI l jw jty yX0_copyOf cX0_copyOf 4 .int 2 [.int (nI a)] N K (P_copy N K xs fl) := by
  have ba := tr_lt ta
  refine jI_of (k := 2) (kN := 2) (L := fun g : jG => [some (.ref g.2.1), some (.int (nI a)), none, none]) (by decide) (fun g => rfl) (fun g => rfl) (fun g => by simp [Value.category]) ?_
  intro g p e s m args below meth c A C hret
  have lp : ∀ (k : Nat) (ls rs : List Nat) (pn cp : Nat) (N2 : Nat → Nat → Nat) (K2 : Nat → Nat → Int32) (f2 : List Nat) (w : Nat) (o3 : Option Value), ls.length + rs.length < k → N2 3 0 = 0 → 0 < pn → pn < 256 → tr N2 (N2 0 pn) ls → tr N2 (N2 1 pn) rs → N2 3 pn = ls.length + rs.length + 1 → free N2 f2 → f2.Nodup → (∀ q ∈ f2, 0 < q ∧ q < 256 ∧ q ≠ pn ∧ q ∉ ls ∧ q ∉ rs) → pn ∉ ls → pn ∉ rs → ls.length + rs.length ≤ f2.length → f2.length ≤ 255 → N2 7 0 = w + 1 → N2 8 w = pn → w + ls.length + rs.length + 1 ≤ 64 →
      (∀ (N3 : Nat → Nat → Nat) (K3 : Nat → Nat → Int32) (ls3 rs3 f3 : List Nat) (o3 : Option Value), tr N3 (N3 0 pn) ls3 → tr N3 (N3 1 pn) rs3 → N3 3 pn = ls.length + rs.length + 1 → ls3.map (K3 2) = ls.map (K2 2) → rs3.map (K3 2) = rs.map (K2 2) → (ls3 ++ rs3 ++ f3).Perm f2 → free N3 f3 → ag N2 N3 (pn :: f2) → (∀ q, q ∉ f2 → K3 2 q = K2 2 q) → sm N2 N3 [0, 1, 3, 5, 7, 8, 9] → N3 7 0 = w → low N2 N3 w → JJ p l e (jrm 2) s m args below meth c 0 0 (jQI jw jty g A below args s (P_copy N K xs fl)) A g.1 4 (jw g N3 K3) 23 [some (.ref g.2.1), some (.int (nI a)), some (.int (nI cp)), o3] []) →
      JJ p l e (jrm 2) s m args below meth c 0 0 (jQI jw jty g A below args s (P_copy N K xs fl)) A g.1 4 (jw g N2 K2) 23 [some (.ref g.2.1), some (.int (nI a)), some (.int (nI cp)), o3] [] := by
    intro k
    induction k with
    | zero => intro ls rs pn cp N2 K2 f2 w o3 hk; omega
    | succ k ih =>
      intro ls rs pn cp N2 K2 f2 w o3 hk z2 p0 p1 tl th c2 hf2 nd2 hb2 pl pr hfl hfl2 h7 h8 hw kk
      -- the right side, from 87, with the way as high as v
      have at87 : ∀ (N4 : Nat → Nat → Nat) (K4 : Nat → Nat → Int32) (f4 : List Nat) (v : Nat), N4 3 0 = 0 → tr N4 (N4 1 pn) rs → free N4 f4 → f4.Nodup → (∀ q ∈ f4, 0 < q ∧ q < 256 ∧ q ≠ pn ∧ q ∉ rs) → rs.length ≤ f4.length → f4.length ≤ 255 → N4 7 0 = v → v + rs.length ≤ 64 →
          (∀ (N5 : Nat → Nat → Nat) (K5 : Nat → Nat → Int32) (rs5 f5 : List Nat) (o3 : Option Value), tr N5 (N5 1 pn) rs5 → N5 0 pn = N4 0 pn → N5 3 pn = N4 3 pn → rs5.map (K5 2) = rs.map (K4 2) → (rs5 ++ f5).Perm f4 → free N5 f5 → ag N4 N5 (pn :: f4) → (∀ q, q ∉ f4 → K5 2 q = K4 2 q) → sm N4 N5 [0, 1, 3, 5, 7, 8, 9] → N5 7 0 = v → low N4 N5 v → JJ p l e (jrm 2) s m args below meth c 0 0 (jQI jw jty g A below args s (P_copy N K xs fl)) A g.1 4 (jw g N5 K5) 23 [some (.ref g.2.1), some (.int (nI a)), some (.int (nI cp)), o3] []) →
          JJ p l e (jrm 2) s m args below meth c 0 0 (jQI jw jty g A below args s (P_copy N K xs fl)) A g.1 4 (jw g N4 K4) 87 [some (.ref g.2.1), some (.int (nI a)), some (.int (nI cp)), some (.int (nI pn))] [] := by
        intro N4 K4 f4 v z4 t4 hf4 nd4 hb4 hfl4 hfl4' h74 hv kk4
        have br := tr_lt t4
        refine jr_al0 C dX0_copyOf_87 ?_
        refine jg_right C dX0_copyOf_88 ?_
        refine jr_il3 C dX0_copyOf_91 ?_
        refine jl_right C dX0_copyOf_92 (by omega) ?_
        refine jr_ifN_eq C dX0_copyOf_93 (by omega) (fun hc => ?_) (fun hc => ?_)
        · have : rs = [] := tr_zero (hc ▸ t4)
          subst this
          refine jr_goto C dX0_copyOf_124 ?_
          exact kk4 N4 K4 [] f4 _ (by rw [hc]; exact tr_nil) rfl rfl rfl (List.Perm.refl _) hf4 ag_rfl (fun _ _ => rfl) sm_rfl h74 low_rfl
        · obtain ⟨q0, q1, c4, r1, r2, ers, tr1, tr2⟩ := tr_node t4 hc
          obtain ⟨rn, ern⟩ : ∃ rn, N4 1 pn = rn := ⟨_, rfl⟩
          rw [ern] at hc q0 q1 c4 ers tr1 tr2 br
          have lrs : rs.length = r1.length + r2.length + 1 := by rw [ers]; simp; omega
          have b1 := tr_lt tr1
          have b2 := tr_lt tr2
          cases f4 with
          | nil => simp only [List.length_nil] at hfl4; omega
          | cons c f5 =>
            obtain ⟨x0, x1, x2, x3⟩ := hb4 c (by simp)
            simp only [List.length_cons] at hfl4 hfl4'
            have hcr : c ≠ rn := by intro q; apply x3; rw [ers, q]; simp
            have hprn : rn ≠ pn := by
              rintro rfl
              exact pr (by rw [ers]; simp)
            refine jr_al0 C dX0_copyOf_96 ?_
            refine jg_right C dX0_copyOf_97 ?_
            refine jr_il3 C dX0_copyOf_100 ?_
            refine jr_al0 C dX0_copyOf_101 ?_
            refine jr_al0 C dX0_copyOf_102 ?_
            refine jg_right C dX0_copyOf_103 ?_
            refine jr_il3 C dX0_copyOf_106 ?_
            refine jl_right C dX0_copyOf_107 (by omega) ?_
            refine jr_top (v := rn) (ern) ?_
            refine jc_twin C dX0_copyOf_108 ⟨by decide, by decide⟩ (Nat.le_of_ble_eq_true rfl) (m_twin l N4 K4 (a := rn) (f := f5.length) q1 (by rw [hf4.1]; simp) (by omega) hf4.2.1 x1 hcr (by omega) (by omega) (by rw [c4]; omega)) (fun r N5 K5 hp => ?_)
            obtain ⟨rfl, e5, k5⟩ := hp
            obtain ⟨hf5, u0, u1, u3, g5, s5, kc, ko⟩ := twin_of hf4 e5 k5
            refine jr_i2s C dX0_copyOf_111 (by omega) ?_
            refine js_right C dX0_copyOf_112 (by omega) (by omega) ?_
            obtain ⟨N6, e6⟩ : ∃ N6, N6 = jup N5 1 pn c := ⟨_, rfl⟩
            rw [← e6]
            have s6 : sm N5 N6 [1] := by rw [e6]; exact sm_jup (by simp)
            have g6 : ag N5 N6 [pn] := by rw [e6]; exact ag_jup (by simp)
            have a1 : N6 1 pn = c := by rw [e6, jup_s]
            have h76 : N6 7 0 = v := by rw [s6 7 (by decide), s5 7 (by decide)]; exact h74
            refine jr_al0 C dX0_copyOf_113 ?_
            refine jr_al0 C dX0_copyOf_114 ?_
            refine jg_right C dX0_copyOf_115 ?_
            refine jr_il3 C dX0_copyOf_118 ?_
            refine jl_right C dX0_copyOf_119 (by omega) ?_
            refine jr_top (v := c) (a1) ?_
            refine jr_ic0 C dX0_copyOf_120 ?_
            refine jc_pushWay C dX0_copyOf_121 ⟨by decide, by decide⟩ (Nat.le_of_ble_eq_true rfl) (m_pushWay l N6 K5 (a := c) (b := 0) (by omega) (by decide) (by rw [h76]; omega)) (fun N7 K7 hp => ?_)
            obtain ⟨e7, rfl⟩ := hp
            obtain ⟨h77, h87, s7, l7⟩ := cp_push h76 e7
            have hcn : c ∉ [pn] := by simpa using x2
            have hpc : pn ∉ [c] := by simp; exact fun q => x2 q.symm
            obtain ⟨v0, v1, v3⟩ := g6 c hcn
            obtain ⟨y0, y1, y3⟩ := g5 pn hpc
            have s47 : sm N4 N7 [0, 1, 3, 5, 7, 8, 9] := sm_trans (sm_sub s5 (by decide)) (sm_trans (sm_sub s6 (by decide)) (sm_sub s7 (by decide)))
            have g47 : ag N4 N7 [c, pn] := ag_trans g5 (ag_trans g6 (sm_ag (xs := [pn]) s7 (by decide) (by decide) (by decide)) (zs := [pn]) (fun _ h => h) (fun _ h => h)) (by simp) (by simp)
            have z7 : N7 3 0 = 0 := ag_z g47 z4 (by simp [x0, p0])
            have w0 : N7 0 c = N4 0 rn := by rw [s7 0 (by decide), v0, u0]
            have w1 : N7 1 c = N4 1 rn := by rw [s7 1 (by decide), v1, u1]
            have w3 : N7 3 c = r1.length + r2.length + 1 := by rw [s7 3 (by decide), v3, u3, c4, lrs]
            have xr1 : ∀ q ∈ r1, q ≠ c ∧ q ≠ pn := fun q hq => ⟨fun e => x3 (by rw [ers, ← e]; simp [hq]), fun e => pr (by rw [ers, ← e]; simp [hq])⟩
            have xr2 : ∀ q ∈ r2, q ≠ c ∧ q ≠ pn := fun q hq => ⟨fun e => x3 (by rw [ers, ← e]; simp [hq]), fun e => pr (by rw [ers, ← e]; simp [hq])⟩
            have t71 : tr N7 (N7 0 c) r1 := by rw [w0]; exact ag_tr g47 tr1 (fun q hq => by simp; exact xr1 q hq)
            have t72 : tr N7 (N7 1 c) r2 := by rw [w1]; exact ag_tr g47 tr2 (fun q hq => by simp; exact xr2 q hq)
            have nd5 := (List.nodup_cons.mp nd4)
            refine jr_goto C dX0_copyOf_124 ?_
            refine ih r1 r2 c cp N7 K7 f5 v _ (by omega) z7 x0 x1 t71 t72 w3 (free_sm (free_sm hf5 s6 (by decide) (by decide)) s7 (by decide) (by decide)) nd5.2 ?_ (fun h => (xr1 c h).1 rfl) (fun h => (xr2 c h).1 rfl) (by omega) (by omega) h77 h87 (by omega) ?_
            · intro q hq
              obtain ⟨b0, b1, b2, b3⟩ := hb4 q (List.mem_cons_of_mem _ hq)
              refine ⟨b0, b1, fun e => nd5.1 (e ▸ hq), fun h => b3 (by rw [ers]; simp [h]), fun h => b3 (by rw [ers]; simp [h])⟩
            intro N8 K8 l8 r8 f8 o8 t81 t82 c8 m81 m82 p8 hf8 g8 ko8 s8 h78 low8
            have hpf : pn ∉ c :: f5 := fun h => (hb4 pn h).2.2.1 rfl
            obtain ⟨i0, i1, i3⟩ := g8 pn hpf
            have j1 : N8 1 pn = c := by rw [i1, s7 1 (by decide), a1]
            have j0 : N8 0 pn = N4 0 pn := by rw [i0, s7 0 (by decide), s6 0 (by decide), y0]
            have j3 : N8 3 pn = N4 3 pn := by rw [i3, s7 3 (by decide), s6 3 (by decide), y3]
            have ml1 := map_len m81
            have ml2 := map_len m82
            refine kk4 N8 K8 (l8 ++ c :: r8) f8 o8 (by rw [j1]; exact tr_mk x0 x1 (by rw [c8]; omega) t81 t82) j0 j3 ?_ ?_ hf8 ?_ ?_ (sm_trans s47 s8) h78 ?_
            · have hkc : K8 2 c = K4 2 rn := by rw [ko8 c nd5.1, kc]
              rw [ers, List.map_append, List.map_cons, List.map_append, List.map_cons, m81, m82, hkc]
              rw [map_ag (K := K4) (K1 := K7) (xs := r1) (fun q hq => ko q (xr1 q hq).1), map_ag (K := K4) (K1 := K7) (xs := r2) (fun q hq => ko q (xr2 q hq).1)]
            · rw [pm_ct]
              intro q
              have := pm_ct.mp p8 q
              simp only [List.count_append, List.count_cons] at this ⊢
              omega
            · refine ag_trans g47 g8 ?_ ?_
              · simp
              · intro q hq; exact List.mem_cons_of_mem _ hq
            · intro q hq
              have h1 : q ≠ c := fun e => hq (by rw [e]; simp)
              rw [ko8 q (fun h => hq (List.mem_cons_of_mem _ h)), ko q h1]
            · refine low_trans (low_sm (w := v) s5 (by decide) (by decide)) ?_ (Nat.le_refl _) (Nat.le_refl _)
              refine low_trans (low_sm (w := v) s6 (by decide) (by decide)) ?_ (Nat.le_refl _) (Nat.le_refl _)
              exact low_trans l7 low8 (Nat.le_refl _) (Nat.le_refl _)
      have bl := tr_lt tl
      refine jr_al0 C dX0_copyOf_23 ?_
      refine jg_wayEnd C dX0_copyOf_24 ?_
      refine jr_top (v := w + 1) (h7) ?_
      refine jr_ifN_le C dX0_copyOf_27 (by omega) (fun hc => ?_) (fun hc => ?_)
      · exact absurd hc (by omega)
      refine jr_al0 C dX0_copyOf_30 ?_
      refine jr_dup C dX0_copyOf_31 rfl ?_
      refine jg_wayEnd C dX0_copyOf_32 ?_
      refine jr_top (v := w + 1) (h7) ?_
      refine jr_ic1 C dX0_copyOf_35 ?_
      refine jr_isub C dX0_copyOf_36 (by omega) ?_
      refine jr_top (v := w) (by omega) ?_
      refine jp_wayEnd C dX0_copyOf_37 ?_
      refine jr_al0 C dX0_copyOf_40 ?_
      refine jg_way C dX0_copyOf_41 ?_
      refine jr_al0 C dX0_copyOf_44 ?_
      refine jg_wayEnd C dX0_copyOf_45 ?_
      refine jr_top (v := w) (by rw [jup_s]) ?_
      refine jl_way C dX0_copyOf_48 (by omega) ?_
      refine jr_top (v := pn) (by rw [jup_k (by decide)]; exact h8) ?_
      refine jr_is3 C dX0_copyOf_49 ?_
      refine jr_al0 C dX0_copyOf_50 ?_
      refine jg_left C dX0_copyOf_51 ?_
      refine jr_il3 C dX0_copyOf_54 ?_
      refine jl_left C dX0_copyOf_55 (by omega) ?_
      refine jr_top (v := N2 0 pn) (by rw [jup_k (by decide)]) ?_
      obtain ⟨N3, e3⟩ : ∃ N3, N3 = jup N2 7 0 w := ⟨_, rfl⟩
      rw [← e3]
      have s3 : sm N2 N3 [7] := by rw [e3]; exact sm_jup (by simp)
      have f7 : N3 7 0 = w := by rw [e3, jup_s]
      have hf3 := free_sm hf2 s3 (by decide) (by decide)
      have g3 : ∀ zs, ag N2 N3 zs := fun zs => sm_ag s3 (by decide) (by decide) (by decide)
      have z3 : N3 3 0 = 0 := by rw [s3 3 (by decide)]; exact z2
      have th3 : tr N3 (N3 1 pn) rs := by rw [s3 1 (by decide)]; exact ag_tr (g3 []) th (by simp)
      refine jr_ifN_eq C dX0_copyOf_56 (by omega) (fun hz => ?_) (fun hz => ?_)
      · have : ls = [] := tr_zero (hz ▸ tl)
        subst this
        refine at87 N3 K2 f2 w z3 th3 hf3 nd2 (fun q hq => ⟨(hb2 q hq).1, (hb2 q hq).2.1, (hb2 q hq).2.2.1, (hb2 q hq).2.2.2.2⟩) (by simpa using hfl) hfl2 f7 (by simp only [List.length_nil] at hw; omega) ?_
        intro N5 K5 rs5 f5 o5 t5 i0 i3 m5 p5 hf5 g5 k5 s5 h75 l5
        refine kk N5 K5 [] rs5 f5 o5 (by rw [i0, s3 0 (by decide), hz]; exact tr_nil) t5 (by rw [i3, s3 3 (by decide)]; exact c2) rfl m5 p5 hf5 (ag_trans (g3 []) g5 (by simp) (fun _ h => h)) k5 (sm_trans (sm_sub s3 (by decide)) s5) h75 (low_trans (low_sm (w := w) s3 (by decide) (by decide)) l5 (Nat.le_refl _) (Nat.le_refl _))
      · obtain ⟨q0, q1, c4, l1, l2, els, tl1, tl2⟩ := tr_node tl hz
        obtain ⟨ln, eln⟩ : ∃ ln, N2 0 pn = ln := ⟨_, rfl⟩
        rw [eln] at hz q0 q1 c4 els tl1 tl2 bl
        have lls : ls.length = l1.length + l2.length + 1 := by rw [els]; simp; omega
        have b1 := tr_lt tl1
        have b2 := tr_lt tl2
        cases f2 with
        | nil => simp only [List.length_nil] at hfl; omega
        | cons c f4 =>
          obtain ⟨x0, x1, x2, x3, x4⟩ := hb2 c (by simp)
          simp only [List.length_cons] at hfl hfl2
          have hcl : c ≠ ln := by intro q; apply x3; rw [els, q]; simp
          refine jr_al0 C dX0_copyOf_59 ?_
          refine jg_left C dX0_copyOf_60 ?_
          refine jr_il3 C dX0_copyOf_63 ?_
          refine jr_al0 C dX0_copyOf_64 ?_
          refine jr_al0 C dX0_copyOf_65 ?_
          refine jg_left C dX0_copyOf_66 ?_
          refine jr_il3 C dX0_copyOf_69 ?_
          refine jl_left C dX0_copyOf_70 (by omega) ?_
          refine jr_top (v := ln) (by rw [s3 0 (by decide)]; exact eln) ?_
          refine jc_twin C dX0_copyOf_71 ⟨by decide, by decide⟩ (Nat.le_of_ble_eq_true rfl) (m_twin l N3 K2 (a := ln) (f := f4.length) q1 (by rw [hf3.1]; simp) (by omega) hf3.2.1 x1 hcl (by rw [s3 0 (by decide)]; omega) (by rw [s3 1 (by decide)]; omega) (by rw [s3 3 (by decide), c4]; omega)) (fun r N5 K5 hp => ?_)
          obtain ⟨rfl, e5, k5⟩ := hp
          obtain ⟨hf5, u0, u1, u3, g5, s5, kc, ko⟩ := twin_of hf3 e5 k5
          refine jr_i2s C dX0_copyOf_74 (by omega) ?_
          refine js_left C dX0_copyOf_75 (by omega) (by omega) ?_
          obtain ⟨N6, e6⟩ : ∃ N6, N6 = jup N5 0 pn c := ⟨_, rfl⟩
          rw [← e6]
          have s6 : sm N5 N6 [0] := by rw [e6]; exact sm_jup (by simp)
          have g6 : ag N5 N6 [pn] := by rw [e6]; exact ag_jup (by simp)
          have a0 : N6 0 pn = c := by rw [e6, jup_s]
          have h76 : N6 7 0 = w := by rw [s6 7 (by decide), s5 7 (by decide)]; exact f7
          refine jr_al0 C dX0_copyOf_76 ?_
          refine jr_al0 C dX0_copyOf_77 ?_
          refine jg_left C dX0_copyOf_78 ?_
          refine jr_il3 C dX0_copyOf_81 ?_
          refine jl_left C dX0_copyOf_82 (by omega) ?_
          refine jr_top (v := c) (a0) ?_
          refine jr_ic0 C dX0_copyOf_83 ?_
          refine jc_pushWay C dX0_copyOf_84 ⟨by decide, by decide⟩ (Nat.le_of_ble_eq_true rfl) (m_pushWay l N6 K5 (a := c) (b := 0) (by omega) (by decide) (by rw [h76]; omega)) (fun N7 K7 hp => ?_)
          obtain ⟨e7, rfl⟩ := hp
          obtain ⟨h77, h87, s7, low7⟩ := cp_push h76 e7
          have hcn : c ∉ [pn] := by simpa using x2
          have hpc : pn ∉ [c] := by simp; exact fun q => x2 q.symm
          obtain ⟨v0, v1, v3⟩ := g6 c hcn
          obtain ⟨y0, y1, y3⟩ := g5 pn hpc
          have s37 : sm N3 N7 [0, 1, 3, 5, 7, 8, 9] := sm_trans (sm_sub s5 (by decide)) (sm_trans (sm_sub s6 (by decide)) (sm_sub s7 (by decide)))
          have g37 : ag N3 N7 [c, pn] := ag_trans g5 (ag_trans g6 (sm_ag (xs := [pn]) s7 (by decide) (by decide) (by decide)) (zs := [pn]) (fun _ h => h) (fun _ h => h)) (by simp) (by simp)
          have g27 : ag N2 N7 [c, pn] := ag_trans (g3 []) g37 (by simp) (fun _ h => h)
          have z7 : N7 3 0 = 0 := ag_z g37 z3 (by simp [x0, p0])
          have w0 : N7 0 c = N2 0 ln := by rw [s7 0 (by decide), v0, u0, s3 0 (by decide)]
          have w1 : N7 1 c = N2 1 ln := by rw [s7 1 (by decide), v1, u1, s3 1 (by decide)]
          have w3 : N7 3 c = l1.length + l2.length + 1 := by rw [s7 3 (by decide), v3, u3, s3 3 (by decide), c4, lls]
          have j0 : N7 0 pn = c := by rw [s7 0 (by decide), a0]
          have j1 : N7 1 pn = N2 1 pn := by rw [s7 1 (by decide), s6 1 (by decide), y1, s3 1 (by decide)]
          have j3 : N7 3 pn = N2 3 pn := by rw [s7 3 (by decide), s6 3 (by decide), y3, s3 3 (by decide)]
          have xl1 : ∀ q ∈ l1, q ≠ c ∧ q ≠ pn := fun q hq => ⟨fun e => x3 (by rw [els, ← e]; simp [hq]), fun e => pl (by rw [els, ← e]; simp [hq])⟩
          have xl2 : ∀ q ∈ l2, q ≠ c ∧ q ≠ pn := fun q hq => ⟨fun e => x3 (by rw [els, ← e]; simp [hq]), fun e => pl (by rw [els, ← e]; simp [hq])⟩
          have xrs : ∀ q ∈ rs, q ≠ c ∧ q ≠ pn := fun q hq => ⟨fun e => x4 (e ▸ hq), fun e => pr (e ▸ hq)⟩
          have t7r : tr N7 (N7 1 pn) rs := by rw [j1]; exact ag_tr g27 th (fun q hq => by simp; exact xrs q hq)
          have nd5 := (List.nodup_cons.mp nd2)
          have hf7 : free N7 f4 := free_sm (free_sm hf5 s6 (by decide) (by decide)) s7 (by decide) (by decide)
          refine at87 N7 K7 f4 (w + 1) z7 t7r hf7 nd5.2 ?_ (by omega) (by omega) h77 (by omega) ?_
          · intro q hq
            obtain ⟨b0, b1, b2, b3, b4⟩ := hb2 q (List.mem_cons_of_mem _ hq)
            exact ⟨b0, b1, b2, b4⟩
          intro N8 K8 rs8 f8 o8 t8 i0 i3 m8 p8 hf8 g8 ko8 s8 h78 low8
          have hcf : c ∉ pn :: f4 := by
            intro h
            rcases List.mem_cons.mp h with h | h
            · exact x2 h
            · exact nd5.1 h
          obtain ⟨d0, d1, d3⟩ := g8 c hcf
          have lp8 := p8.length_eq
          simp only [List.length_append] at lp8
          have mr8 := map_len m8
          have sub8 : ∀ q ∈ f8, q ∈ f4 := fun q hq => p8.subset (List.mem_append_right _ hq)
          have subr8 : ∀ q ∈ rs8, q ∈ f4 := fun q hq => p8.subset (List.mem_append_left _ hq)
          have ndp := p8.nodup_iff.mpr nd5.2
          have ndf8 := (List.nodup_append.mp ndp).2.1
          have xl1f : ∀ q ∈ l1, q ∉ pn :: f4 := by
            intro q hq h
            rcases List.mem_cons.mp h with h | h
            · exact (xl1 q hq).2 h
            · exact (hb2 q (List.mem_cons_of_mem _ h)).2.2.2.1 (by rw [els]; simp [hq])
          have xl2f : ∀ q ∈ l2, q ∉ pn :: f4 := by
            intro q hq h
            rcases List.mem_cons.mp h with h | h
            · exact (xl2 q hq).2 h
            · exact (hb2 q (List.mem_cons_of_mem _ h)).2.2.2.1 (by rw [els]; simp [hq])
          have t81 : tr N8 (N8 0 c) l1 := by rw [d0, w0]; exact ag_tr g8 (ag_tr g27 tl1 (fun q hq => by simp; exact xl1 q hq)) xl1f
          have t82 : tr N8 (N8 1 c) l2 := by rw [d1, w1]; exact ag_tr g8 (ag_tr g27 tl2 (fun q hq => by simp; exact xl2 q hq)) xl2f
          refine ih l1 l2 c cp N8 K8 f8 w o8 (by omega) ?_ x0 x1 t81 t82 (by rw [d3, w3]) hf8 ndf8 ?_ (fun h => (xl1 c h).1 rfl) (fun h => (xl2 c h).1 rfl) (by omega) (by omega) h78 (by rw [(low8 w (by omega)).1]; exact h87) (by omega) ?_
          · refine ag_z g8 z7 ?_
            intro q hq
            rcases List.mem_cons.mp hq with h | h
            · rw [h]; exact p0
            · exact (hb2 q (List.mem_cons_of_mem _ h)).1
          · intro q hq
            obtain ⟨b0, b1, b2, b3, b4⟩ := hb2 q (List.mem_cons_of_mem _ (sub8 q hq))
            exact ⟨b0, b1, fun e => nd5.1 (e ▸ sub8 q hq), fun h => b3 (by rw [els]; simp [h]), fun h => b3 (by rw [els]; simp [h])⟩
          intro N9 K9 l9 r9 f9 o9 t91 t92 c9 m91 m92 p9 hf9 g9 ko9 s9 h79 low9
          have hpf8 : pn ∉ c :: f8 := by
            intro h
            rcases List.mem_cons.mp h with h | h
            · exact x2 h.symm
            · exact (hb2 pn (List.mem_cons_of_mem _ (sub8 pn h))).2.2.1 rfl
          obtain ⟨k0, k1, k3⟩ := g9 pn hpf8
          have ml1 := map_len m91
          have ml2 := map_len m92
          have n0 : N9 0 pn = c := by rw [k0, i0, j0]
          have n3 : N9 3 pn = ls.length + rs.length + 1 := by rw [k3, i3, j3]; exact c2
          have dr8 : ∀ q ∈ rs8, q ∉ c :: f8 := by
            intro q hq h
            rcases List.mem_cons.mp h with h | h
            · exact nd5.1 (h ▸ subr8 q hq)
            · exact (List.nodup_append.mp ndp).2.2 q hq q h rfl
          refine kk N9 K9 (l9 ++ c :: r9) rs8 f9 o9 (by rw [n0]; exact tr_mk x0 x1 (by rw [c9]; omega) t91 t92) (by rw [k1]; exact ag_tr g9 t8 dr8) n3 ?_ ?_ ?_ hf9 ?_ ?_ (sm_trans (sm_sub s3 (by decide)) (sm_trans s37 (sm_trans s8 s9))) h79 ?_
          · have hkc : K9 2 c = K2 2 ln := by
              rw [ko9 c (fun h => nd5.1 (sub8 c h)), ko8 c nd5.1, kc]
            rw [els, List.map_append, List.map_cons, List.map_append, List.map_cons, m91, m92, hkc]
            rw [map_ag (K := K2) (K1 := K8) (xs := l1) (fun q hq => by rw [ko8 q (fun h => xl1f q hq (List.mem_cons_of_mem _ h)), ko q (xl1 q hq).1]), map_ag (K := K2) (K1 := K8) (xs := l2) (fun q hq => by rw [ko8 q (fun h => xl2f q hq (List.mem_cons_of_mem _ h)), ko q (xl2 q hq).1])]
          · rw [map_ag (K := K8) (K1 := K9) (xs := rs8) (fun q hq => ko9 q (fun h => dr8 q hq (List.mem_cons_of_mem _ h))), m8]
            exact map_ag (fun q hq => ko q (xrs q hq).1)
          · rw [pm_ct]
            intro q
            have h1 := pm_ct.mp p8 q
            have h2 := pm_ct.mp p9 q
            simp only [List.count_append, List.count_cons] at h1 h2 ⊢
            omega
          · refine ag_trans g27 (ag_trans g8 g9 (zs := pn :: c :: f4) ?_ ?_) ?_ (fun _ h => h)
            · intro q hq
              rcases List.mem_cons.mp hq with h | h
              · simp [h]
              · simp [h]
            · intro q hq
              rcases List.mem_cons.mp hq with h | h
              · simp [h]
              · simp [sub8 q h]
            · intro q hq
              simp at hq ⊢
              rcases hq with h | h
              · exact Or.inr (Or.inl h)
              · exact Or.inl h
          · intro q hq
            have h1 : q ≠ c := fun e => hq (by rw [e]; simp)
            have h2 : q ∉ f4 := fun h => hq (List.mem_cons_of_mem _ h)
            rw [ko9 q (fun h => h2 (sub8 q h)), ko8 q h2, ko q h1]
          · refine low_trans (low_sm (w := w) s3 (by decide) (by decide)) ?_ (Nat.le_refl _) (Nat.le_refl _)
            refine low_trans (low_sm (w := w) s5 (by decide) (by decide)) ?_ (Nat.le_refl _) (Nat.le_refl _)
            refine low_trans (low_sm (w := w) s6 (by decide) (by decide)) ?_ (Nat.le_refl _) (Nat.le_refl _)
            refine low_trans low7 ?_ (Nat.le_refl _) (Nat.le_refl _)
            exact low_trans low8 low9 (by omega) (Nat.le_refl _)
  refine jr_il1 C dX0_copyOf_0 ?_
  refine jr_ifN_ne C dX0_copyOf_1 (by omega) (fun hc => ?_) (fun hc => ?_)
  · obtain ⟨q0, q1, c4, l1, l2, exs, tl1, tl2⟩ := tr_node ta hc
    have b1 := tr_lt tl1
    have b2 := tr_lt tl2
    have lxs : xs.length = l1.length + l2.length + 1 := by rw [exs]; simp; omega
    cases fl with
    | nil => simp only [List.length_nil] at hl1; omega
    | cons c f1 =>
      obtain ⟨x0, x1⟩ := hb c (by simp)
      have x3 := hd c (by simp)
      simp only [List.length_cons] at hl1 hl3
      have hca : c ≠ a := by intro q; apply x3; rw [exs, q]; simp
      refine jr_al0 C dX0_copyOf_6 ?_
      refine jr_il1 C dX0_copyOf_7 ?_
      refine jc_twin C dX0_copyOf_8 ⟨by decide, by decide⟩ (Nat.le_of_ble_eq_true rfl) (m_twin l N K (a := a) (f := f1.length) q1 (by rw [hf.1]; simp) (by omega) hf.2.1 x1 hca (by omega) (by omega) (by rw [c4]; omega)) (fun r N5 K5 hp => ?_)
      obtain ⟨rfl, e5, k5⟩ := hp
      obtain ⟨hf5, u0, u1, u3, g5, s5, kc, ko⟩ := twin_of hf e5 k5
      refine jr_is2 C dX0_copyOf_11 ?_
      refine jr_al0 C dX0_copyOf_12 ?_
      refine jr_ic0 C dX0_copyOf_13 ?_
      refine jp_wayEnd C dX0_copyOf_14 ?_
      refine jr_al0 C dX0_copyOf_17 ?_
      refine jr_il2 C dX0_copyOf_18 ?_
      refine jr_ic0 C dX0_copyOf_19 ?_
      obtain ⟨N6, e6⟩ : ∃ N6, N6 = jup N5 7 0 0 := ⟨_, rfl⟩
      rw [← e6]
      have s6 : sm N5 N6 [7] := by rw [e6]; exact sm_jup (by simp)
      have h76 : N6 7 0 = 0 := by rw [e6, jup_s]
      refine jc_pushWay C dX0_copyOf_20 ⟨by decide, by decide⟩ (Nat.le_of_ble_eq_true rfl) (m_pushWay l N6 K5 (a := c) (b := 0) (by omega) (by decide) (by rw [h76]; omega)) (fun N7 K7 hp => ?_)
      obtain ⟨e7, rfl⟩ := hp
      obtain ⟨h77, h87, s7, low7⟩ := cp_push h76 e7
      have s57 : sm N5 N7 [7, 8, 9] := sm_trans (sm_sub s6 (by decide)) s7
      have g57 : ∀ zs, ag N5 N7 zs := fun zs => sm_ag s57 (by decide) (by decide) (by decide)
      have g7 : ag N N7 [c] := ag_trans g5 (g57 []) (fun _ h => h) (by simp)
      have s07 : sm N N7 [0, 1, 3, 5, 7, 8, 9] := sm_trans (sm_sub s5 (by decide)) (sm_sub s57 (by decide))
      have xl1 : ∀ q ∈ l1, q ∉ [c] := fun q hq h => x3 (by simp at h; rw [exs, ← h]; simp [hq])
      have xl2 : ∀ q ∈ l2, q ∉ [c] := fun q hq h => x3 (by simp at h; rw [exs, ← h]; simp [hq])
      have nd1 := List.nodup_cons.mp hnd
      refine lp (xs.length + 1) l1 l2 c c N7 K7 f1 0 none (by omega) (ag_z g7 h0 (by simp [x0])) x0 x1 (by rw [s57 0 (by decide), u0]; exact ag_tr g7 tl1 xl1) (by rw [s57 1 (by decide), u1]; exact ag_tr g7 tl2 xl2) (by rw [s57 3 (by decide), u3, c4, lxs]) (free_sm hf5 s57 (by decide) (by decide)) nd1.2 ?_ (fun h => xl1 c h (by simp)) (fun h => xl2 c h (by simp)) (by omega) (by omega) h77 h87 (by omega) ?_
      · intro q hq
        have hb1 := hb q (List.mem_cons_of_mem _ hq)
        have hd1 := hd q (List.mem_cons_of_mem _ hq)
        exact ⟨hb1.1, hb1.2, fun e => nd1.1 (e ▸ hq), fun h => hd1 (by rw [exs]; simp [h]), fun h => hd1 (by rw [exs]; simp [h])⟩
      intro N8 K8 l8 r8 f8 o8 t81 t82 c8 m81 m82 p8 hf8 g8 ko8 s8 h78 low8
      have ml1 := map_len m81
      have ml2 := map_len m82
      refine jr_al0 C dX0_copyOf_23 ?_
      refine jg_wayEnd C dX0_copyOf_24 ?_
      refine jr_top (v := 0) (h78) ?_
      refine jr_ifN_le C dX0_copyOf_27 (by omega) (fun hz => ?_) (fun hz => ?_)
      · refine jr_il2 C dX0_copyOf_127 ?_
        refine jr_iret C hret dX0_copyOf_128 ?_
        refine ⟨c, l8 ++ c :: r8, f8, rfl, tr_mk x0 x1 (by rw [c8]; omega) t81 t82, ?_, ?_, hf8, ?_, ?_, sm_trans s07 s8⟩
        · have hkc : K8 2 c = K 2 a := by rw [ko8 c nd1.1, kc]
          rw [exs, List.map_append, List.map_cons, List.map_append, List.map_cons, m81, m82, hkc]
          rw [map_ag (K := K) (K1 := K7) (xs := l1) (fun q hq => ko q (fun e => xl1 q hq (by simp [e]))), map_ag (K := K) (K1 := K7) (xs := l2) (fun q hq => ko q (fun e => xl2 q hq (by simp [e])))]
        · rw [pm_ct]
          intro q
          have h1 := pm_ct.mp p8 q
          simp only [List.count_append, List.count_cons] at h1 ⊢
          omega
        · exact ag_trans g7 g8 (by simp) (fun _ h => h)
        · intro q hq
          have h1 : q ≠ c := fun e => hq (by rw [e]; simp)
          rw [ko8 q (fun h => hq (List.mem_cons_of_mem _ h)), ko q h1]
      · exact absurd (Nat.le_refl 0) hz
  · subst hc
    have := tr_zero ta
    subst this
    refine jr_ic0 C dX0_copyOf_4 ?_
    refine jr_iret C hret dX0_copyOf_5 ?_
    exact ⟨0, [], fl, rfl, tr_nil, rfl, List.Perm.refl _, hf, ag_rfl, fun _ _ => rfl, sm_rfl⟩
end
section
/-! what both sides must answer: sets as predicates, one for each number below 4 -/
abbrev jP : Type := Nat → Int32 → Prop
noncomputable def cd (p : Int32 → Prop) : Nat := @dite Nat (∃ L : List Int32, L.Nodup ∧ ∀ k, k ∈ L ↔ p k) (Classical.propDecidable _) (fun h => (Classical.choose h).length) (fun _ => 0)
theorem cd_of {p : Int32 → Prop} {L : List Int32} (h1 : L.Nodup) (h2 : ∀ k, k ∈ L ↔ p k) : cd p = L.length := by
  have h : ∃ L : List Int32, L.Nodup ∧ ∀ k, k ∈ L ↔ p k := ⟨L, h1, h2⟩
  unfold cd
  rw [dif_pos h]
  have hs := Classical.choose_spec h
  exact ((List.perm_ext_iff_of_nodup hs.1 h1).mpr (fun k => (hs.2 k).trans (h2 k).symm)).length_eq
def A_add (P : jP) (s x r : Int32) (P1 : jP) : Prop := (¬ jok s ∧ r = -1 ∧ P1 = P) ∨ ∃ i, i < 4 ∧ s = nI i ∧ ((P i x ∧ r = nI 0 ∧ P1 = P) ∨ (¬ P i x ∧ 20 ≤ cd (P i) ∧ r = -2 ∧ P1 = P) ∨ (¬ P i x ∧ ¬ 20 ≤ cd (P i) ∧ r = nI 1 ∧ P1 = va_up P i (fun k => P i k ∨ k = x)))
def A_rr (P : jP) (s lo hi r : Int32) (P1 : jP) : Prop := (¬ jok s ∧ r = -1 ∧ P1 = P) ∨ ∃ i, i < 4 ∧ s = nI i ∧ P1 = va_up P i (fun k => P i k ∧ ¬ (lo ≤ k ∧ k ≤ hi)) ∧ r = nI (cd (P i) - cd (fun k => P i k ∧ ¬ (lo ≤ k ∧ k ≤ hi)))
def A_has (P : jP) (s x r : Int32) : Prop := ((∃ i, i < 4 ∧ s = nI i ∧ P i x) ∧ r = nI 1) ∨ (¬ (∃ i, i < 4 ∧ s = nI i ∧ P i x) ∧ r = nI 0)
def A_size (P : jP) (s r : Int32) : Prop := (¬ jok s ∧ r = -1) ∨ ∃ i, i < 4 ∧ s = nI i ∧ r = nI (cd (P i))
def A_at (P : jP) (s k r : Int32) : Prop := (∃ i, i < 4 ∧ s = nI i ∧ P i r ∧ k = nI (cd (fun y => P i y ∧ y < r))) ∨ (¬ (∃ i e, i < 4 ∧ s = nI i ∧ P i e ∧ k = nI (cd (fun y => P i y ∧ y < e))) ∧ r = nI 0)
def A_rank (P : jP) (s x r : Int32) : Prop := (¬ jok s ∧ r = -1) ∨ ∃ i, i < 4 ∧ s = nI i ∧ r = nI (cd (fun y => P i y ∧ y < x))
def A_ceil (P : jP) (s x r : Int32) : Prop := (¬ jok s ∧ r = -1) ∨ ∃ i, i < 4 ∧ s = nI i ∧ ((cd (fun y => P i y ∧ y < x) < cd (P i) ∧ r = nI (cd (fun y => P i y ∧ y < x))) ∨ (¬ cd (fun y => P i y ∧ y < x) < cd (P i) ∧ r = -3))
def A_clear (P : jP) (s r : Int32) (P1 : jP) : Prop := (¬ jok s ∧ r = -1 ∧ P1 = P) ∨ ∃ i, i < 4 ∧ s = nI i ∧ r = nI (cd (P i)) ∧ P1 = va_up P i (fun _ => False)
def A_split (P : jP) (s x d r : Int32) (P1 : jP) : Prop := (¬ (jok s ∧ jok d) ∧ r = -1 ∧ P1 = P) ∨ ∃ i j, i < 4 ∧ j < 4 ∧ s = nI i ∧ d = nI j ∧ P1 = va_up (va_up P i (fun k => P i k ∧ k < x)) j (fun k => P i k ∧ ¬ k < x) ∧ r = nI (cd (fun k => P i k ∧ ¬ k < x))
def bl4 (h : Nat) (p q : Prop) : Prop := (h = 0 ∧ (p ∨ q)) ∨ (h = 1 ∧ p ∧ q) ∨ (h = 2 ∧ p ∧ ¬ q) ∨ (h = 3 ∧ ((p ∧ ¬ q) ∨ (q ∧ ¬ p)))
def A_comb (P : jP) (how d a b r : Int32) (P1 : jP) : Prop := (¬ (jok how ∧ jok d ∧ jok a ∧ jok b) ∧ r = -1 ∧ P1 = P) ∨ ∃ h j i1 i2, h < 4 ∧ j < 4 ∧ i1 < 4 ∧ i2 < 4 ∧ how = nI h ∧ d = nI j ∧ a = nI i1 ∧ b = nI i2 ∧ ((20 < cd (fun k => bl4 h (P i1 k) (P i2 k)) ∧ r = -2 ∧ P1 = P) ∨ (¬ 20 < cd (fun k => bl4 h (P i1 k) (P i2 k)) ∧ r = nI (cd (fun k => bl4 h (P i1 k) (P i2 k))) ∧ P1 = va_up P j (fun k => bl4 h (P i1 k) (P i2 k))))
def wi (P : jP) (a b : Int32) : Prop := ∃ i j, i < 4 ∧ j < 4 ∧ a = nI i ∧ b = nI j ∧ ∀ k, P i k → P j k
def A_wi (P : jP) (a b r : Int32) : Prop := (wi P a b ∧ r = nI 1) ∨ (¬ wi P a b ∧ r = nI 0)
def A_same (P : jP) (a b r : Int32) : Prop := ((wi P a b ∧ wi P b a) ∧ r = nI 1) ∨ (¬ (wi P a b ∧ wi P b a) ∧ r = nI 0)
theorem nI4 {i j : Nat} (hi : i < 4) (hj : j < 4) (h : nI i = nI j) : i = j := (nI_eq (by omega) (by omega)).mp h
theorem jok_n {i : Nat} (hi : i < 4) : jok (nI i) := ⟨i, hi, rfl⟩
/-! ===== the component's own state ===== -/
def ct (xs : Nat → List Nat) (fl : List Nat) (q : Nat) : Nat := (xs 0).count q + (xs 1).count q + (xs 2).count q + (xs 3).count q + fl.count q
def ln (xs : Nat → List Nat) (fl : List Nat) : Nat := (xs 0).length + (xs 1).length + (xs 2).length + (xs 3).length + fl.length
theorem c4 {i : Nat} (h : i < 4) : i = 0 ∨ i = 1 ∨ i = 2 ∨ i = 3 := by omega
theorem ct_up {xs : Nat → List Nat} {fl f1 zs : List Nat} {i q : Nat} (hi : i < 4) : ct (va_up xs i zs) f1 q + (xs i).count q + fl.count q = ct xs fl q + zs.count q + f1.count q := by
  rcases c4 hi with rfl | rfl | rfl | rfl <;> simp [ct, va_up] <;> omega
theorem ln_up {xs : Nat → List Nat} {fl f1 zs : List Nat} {i : Nat} (hi : i < 4) : ln (va_up xs i zs) f1 + (xs i).length + fl.length = ln xs fl + zs.length + f1.length := by
  rcases c4 hi with rfl | rfl | rfl | rfl <;> simp [ln, va_up] <;> omega
theorem ct_1 {xs : Nat → List Nat} {fl : List Nat} {i q : Nat} (hi : i < 4) : (xs i).count q + fl.count q ≤ ct xs fl q := by
  rcases c4 hi with rfl | rfl | rfl | rfl <;> simp [ct] <;> omega
theorem ct_2 {xs : Nat → List Nat} {fl : List Nat} {i j q : Nat} (hi : i < 4) (hj : j < 4) (h : i ≠ j) : (xs i).count q + (xs j).count q + fl.count q ≤ ct xs fl q := by
  rcases c4 hi with rfl | rfl | rfl | rfl <;> rcases c4 hj with rfl | rfl | rfl | rfl <;> simp [ct] at h ⊢ <;> omega
theorem ln_1 {xs : Nat → List Nat} {fl : List Nat} {i : Nat} (hi : i < 4) : (xs i).length + fl.length ≤ ln xs fl := by
  rcases c4 hi with rfl | rfl | rfl | rfl <;> simp [ln] <;> omega
def JInv (N : Nat → Nat → Nat) (K : Nat → Nat → Int32) (xs : Nat → List Nat) (fl : List Nat) : Prop :=
  N 3 0 = 0 ∧ (∀ i, i < 4 → tr N (N 4 i) (xs i) ∧ srt K (xs i) ∧ (xs i).length ≤ 20) ∧ free N fl ∧ (∀ q ∈ fl, 0 < q ∧ q < 256) ∧ (∀ q, ct xs fl q ≤ 1) ∧ ln xs fl = 255
theorem JInv.fl_nd {N : Nat → Nat → Nat} {K : Nat → Nat → Int32} {xs : Nat → List Nat} {fl : List Nat} (h : JInv N K xs fl) : fl.Nodup := nd_ct.mpr (fun q => by have := h.2.2.2.2.1 q; unfold ct at this; omega)
theorem JInv.dj {N : Nat → Nat → Nat} {K : Nat → Nat → Int32} {xs : Nat → List Nat} {fl : List Nat} (h : JInv N K xs fl) {i : Nat} (hi : i < 4) : ∀ q ∈ fl, q ∉ xs i := dj_of (fun q => by have h1 := h.2.2.2.2.1 q; have h2 := ct_1 (xs := xs) (fl := fl) (q := q) hi; omega)
theorem JInv.dj2 {N : Nat → Nat → Nat} {K : Nat → Nat → Int32} {xs : Nat → List Nat} {fl : List Nat} (h : JInv N K xs fl) {i j : Nat} (hi : i < 4) (hj : j < 4) (hne : j ≠ i) : ∀ q ∈ xs j, q ∉ xs i ++ fl := dj_of (fun q => by have h1 := h.2.2.2.2.1 q; have h2 := ct_2 (xs := xs) (fl := fl) (q := q) hj hi hne; simp only [List.count_append]; omega)
theorem JInv.len {N : Nat → Nat → Nat} {K : Nat → Nat → Int32} {xs : Nat → List Nat} {fl : List Nat} (h : JInv N K xs fl) : fl.length ≤ 255 ∧ 175 ≤ fl.length := by
  have h1 := h.2.2.2.2.2
  have a0 := (h.2.1 0 (by decide)).2.2
  have a1 := (h.2.1 1 (by decide)).2.2
  have a2 := (h.2.1 2 (by decide)).2.2
  have a3 := (h.2.1 3 (by decide)).2.2
  unfold ln at h1
  omega
theorem srt_ag {K K1 : Nat → Nat → Int32} {xs : List Nat} (h : srt K xs) (he : ∀ q ∈ xs, K1 2 q = K 2 q) : srt K1 xs := by
  unfold srt at *
  refine List.Pairwise.imp_of_mem ?_ h
  intro a b ha hb hab
  rw [he a ha, he b hb]
  exact hab
theorem hk_ag {K K1 : Nat → Nat → Int32} {xs : List Nat} {k : Int32} (he : ∀ q ∈ xs, K1 2 q = K 2 q) : hk K1 xs k ↔ hk K xs k := by
  constructor
  · rintro ⟨q, hq, e⟩; exact ⟨q, hq, (he q hq).symm.trans e⟩
  · rintro ⟨q, hq, e⟩; exact ⟨q, hq, (he q hq).trans e⟩
/-- one set gets new nodes -/
theorem JInv.set {N N1 : Nat → Nat → Nat} {K K1 : Nat → Nat → Int32} {xs : Nat → List Nat} {fl f1 zs : List Nat} (h : JInv N K xs fl) {i : Nat} (hi : i < 4) (e4 : ∀ j, j < 4 → j ≠ i → N1 4 j = N 4 j) (tz : tr N1 (N1 4 i) zs) (sz : srt K1 zs) (lz : zs.length ≤ 20) (hf : free N1 f1) (hp : (zs ++ f1).Perm (xs i ++ fl)) (hg : ag N N1 (xs i ++ fl)) (hK : ∀ q, q ∉ fl → K1 2 q = K 2 q) : JInv N1 K1 (va_up xs i zs) f1 := by
  obtain ⟨z0, hx, hf0, hb, hc, hl⟩ := h
  have hpos : ∀ q ∈ xs i ++ fl, 0 < q ∧ q < 256 := by
    intro q hq
    rcases List.mem_append.mp hq with h | h
    · exact tr_mem (hx i hi).1 q h
    · exact hb q h
  refine ⟨ag_z hg z0 (fun q hq => (hpos q hq).1), ?_, hf, ?_, ?_, ?_⟩
  · intro j hj
    by_cases hji : j = i
    · subst hji
      have : va_up xs j zs j = zs := by simp [va_up]
      rw [this]
      exact ⟨tz, sz, lz⟩
    · have e : va_up xs i zs j = xs j := by simp [va_up, hji]
      rw [e, e4 j hj hji]
      have hd := JInv.dj2 ⟨z0, hx, hf0, hb, hc, hl⟩ hi hj hji
      obtain ⟨t1, s1, l1⟩ := hx j hj
      exact ⟨ag_tr hg t1 hd, srt_ag s1 (fun q hq => hK q (fun h => hd q hq (List.mem_append_right _ h))), l1⟩
  · intro q hq
    exact hpos q (hp.subset (List.mem_append_right _ hq))
  · intro q
    have h1 := ct_up (xs := xs) (fl := fl) (f1 := f1) (zs := zs) (q := q) hi
    have h2 := pm_ct.mp hp q
    have h3 := hc q
    simp only [List.count_append] at h2
    omega
  · have h1 := ln_up (xs := xs) (fl := fl) (f1 := f1) (zs := zs) hi
    have h2 := hp.length_eq
    simp only [List.length_append] at h2
    omega
/-- no set changes; the free nodes are the same ones -/
theorem JInv.same {N N1 : Nat → Nat → Nat} {K K1 : Nat → Nat → Int32} {xs : Nat → List Nat} {fl f1 : List Nat} (h : JInv N K xs fl) (e4 : N1 4 = N 4) (hf : free N1 f1) (hp : f1.Perm fl) (hg : ag N N1 fl) (hK : ∀ q, q ∉ fl → K1 2 q = K 2 q) : JInv N1 K1 xs f1 := by
  obtain ⟨z0, hx, hf0, hb, hc, hl⟩ := h
  refine ⟨ag_z hg z0 (fun q hq => (hb q hq).1), ?_, hf, fun q hq => hb q (hp.subset hq), ?_, ?_⟩
  · intro j hj
    have hd : ∀ q ∈ xs j, q ∉ fl := fun q hq h => JInv.dj ⟨z0, hx, hf0, hb, hc, hl⟩ hj q h hq
    obtain ⟨t1, s1, l1⟩ := hx j hj
    rw [e4]
    exact ⟨ag_tr hg t1 hd, srt_ag s1 (fun q hq => hK q (hd q hq)), l1⟩
  · intro q
    have h1 := pm_ct.mp hp q
    have h2 := hc q
    unfold ct at *
    omega
  · have h1 := hp.length_eq
    unfold ln at *
    omega
def JRep (N : Nat → Nat → Nat) (K : Nat → Nat → Int32) (P : jP) : Prop := ∃ xs fl, JInv N K xs fl ∧ ∀ i, i < 4 → ∀ k, hk K (xs i) k ↔ P i k
theorem srt_keys {K : Nat → Nat → Int32} {xs : List Nat} (h : srt K xs) : (xs.map (K 2)).Nodup := by
  unfold List.Nodup
  rw [List.pairwise_map]
  refine List.Pairwise.imp ?_ h
  intro a b hab e
  rw [e] at hab
  exact ii_irr hab
theorem hk_map {K : Nat → Nat → Int32} {xs : List Nat} {k : Int32} : k ∈ xs.map (K 2) ↔ hk K xs k := List.mem_map
theorem cd_srt {K : Nat → Nat → Int32} {xs : List Nat} (h : srt K xs) {p : Int32 → Prop} (hp : ∀ k, hk K xs k ↔ p k) : cd p = xs.length := by
  rw [cd_of (srt_keys h) (fun k => hk_map.trans (hp k)), List.length_map]
end
section
/-! JoinTrees: has, size, at, rank, ceiling -/
/-- a weaker end -/
theorem jI_post {l : Launch} {wf : jG → (Nat → Nat → Nat) → (Nat → Nat → Int32) → va_W} {tf : jG → List (ClassId × FieldType)} {y : MethodName} {cc : ByteArray} {mL : Nat} {r : FieldType} {k : Nat} {as : List Value} {N : Nat → Nat → Nat} {K : Nat → Nat → Int32} {post post2 : Int32 → (Nat → Nat → Nat) → (Nat → Nat → Int32) → Prop} (hM : jI l wf tf y cc mL r k as N K post) (h : ∀ r N1 K1, post r N1 K1 → post2 r N1 K1) : jI l wf tf y cc mL r k as N K post2 := by
  intro g sz p e ha hc hk s m args below h1 h2 h3 h4
  obtain ⟨n, o, w1, w2, w3, ⟨⟨r0, u, e0, hp, hB⟩, hF⟩, hL⟩ := hM g sz p e ha hc hk s m args below h1 h2 h3 h4
  exact ⟨n, o, w1, w2, w3, ⟨⟨r0, u, e0, h r0 u.1 u.2 hp, hB⟩, hF⟩, hL⟩
def rk (K : Nat → Nat → Int32) (xs : List Nat) (x : Int32) : Nat := xs.countP (fun q => decide (K 2 q < x))
theorem rk_app {K : Nat → Nat → Int32} {xs ys : List Nat} {x : Int32} : rk K (xs ++ ys) x = rk K xs x + rk K ys x := List.countP_append
theorem rk_all {K : Nat → Nat → Int32} {xs : List Nat} {x : Int32} (h : ∀ q ∈ xs, K 2 q < x) : rk K xs x = xs.length := List.countP_eq_length.mpr (fun q hq => by simpa using h q hq)
theorem rk_none {K : Nat → Nat → Int32} {xs : List Nat} {x : Int32} (h : ∀ q ∈ xs, ¬ K 2 q < x) : rk K xs x = 0 := List.countP_eq_zero.mpr (fun q hq => by simpa using h q hq)
theorem rk_le {K : Nat → Nat → Int32} {xs : List Nat} {x : Int32} : rk K xs x ≤ xs.length := List.countP_le_length
theorem rk_cons {K : Nat → Nat → Int32} {xs : List Nat} {n : Nat} {x : Int32} : rk K (n :: xs) x = rk K xs x + (if K 2 n < x then 1 else 0) := by
  unfold rk
  rw [List.countP_cons]
  simp
theorem rk_cd {K : Nat → Nat → Int32} {xs : List Nat} (h : srt K xs) {p : Int32 → Prop} (hp : ∀ k, hk K xs k ↔ p k) (x : Int32) : cd (fun y => p y ∧ y < x) = rk K xs x := by
  have hs : srt K (xs.filter (fun q => decide (K 2 q < x))) := List.Pairwise.sublist List.filter_sublist h
  rw [cd_srt hs (p := fun y => p y ∧ y < x), rk, List.countP_eq_length_filter]
  intro k
  rw [← hp k]
  constructor
  · rintro ⟨q, hq, rfl⟩
    obtain ⟨h1, h2⟩ := List.mem_filter.mp hq
    exact ⟨⟨q, h1, rfl⟩, by simpa using h2⟩
  · rintro ⟨⟨q, hq, rfl⟩, h2⟩
    exact ⟨q, List.mem_filter.mpr ⟨hq, by simpa using h2⟩, rfl⟩
theorem rk_at {K : Nat → Nat → Int32} : ∀ {xs : List Nat} {j q : Nat}, srt K xs → xs[j]? = some q → rk K xs (K 2 q) = j := by
  intro xs
  induction xs with
  | nil => intro j q _ h; simp at h
  | cons n xs ih =>
    intro j q hs h
    obtain ⟨h1, h2⟩ := srt_cons.mp hs
    cases j with
    | zero =>
      rw [List.getElem?_cons_zero] at h
      cases h
      rw [rk_cons, if_neg ii_irr, rk_none (fun q hq hlt => ii_as hlt (h1 q hq))]
    | succ j =>
      rw [List.getElem?_cons_succ] at h
      rw [rk_cons, if_pos (h1 q (List.mem_of_getElem? h)), ih h2 h]
def P_has (N : Nat → Nat → Nat) (K : Nat → Nat → Int32) (xs : Nat → List Nat) (s x : Int32) : Int32 → (Nat → Nat → Nat) → (Nat → Nat → Int32) → Prop := fun r N1 K1 => (∃ b, r = nI b ∧ (b = 1 ∧ (∃ i, i < 4 ∧ s = nI i ∧ hk K (xs i) x) ∨ b = 0 ∧ ¬ (∃ i, i < 4 ∧ s = nI i ∧ hk K (xs i) x))) ∧ N1 = N ∧ K1 = K
theorem m_has (l : Launch) (N : Nat → Nat → Nat) (K : Nat → Nat → Int32) {xs : Nat → List Nat} {fl : List Nat} (hI : JInv N K xs fl) (s0 x : Int32) : jI l jw jty yX0_has cX0_has 4 .boolean 1 [.int s0, .int x] N K (P_has N K xs s0 x) := by
  refine jI_of (k := 1) (kN := 1) (L := fun g : jG => [some (.ref g.2.1), some (.int s0), some (.int x), none]) (by decide) (fun g => rfl) (fun g => rfl) (fun g => by simp [Value.category]) ?_
  intro g p e s m args below meth c A C hret
  refine jr_al0 C dX0_has_0 ?_
  refine jr_il1 C dX0_has_1 ?_
  refine jc_isSet C dX0_has_2 ⟨by decide, by decide⟩ (Nat.le_of_ble_eq_true rfl) (m_isSet l N K s0) (fun r N1 K1 hp => ?_)
  obtain ⟨⟨b, rfl, hb⟩, rfl, rfl⟩ := hp
  refine jr_ifN_ne C dX0_has_5 (by omega) (fun hc => ?_) (fun hc => ?_)
  · have hj : jok s0 := by
      rcases hb with ⟨-, h⟩ | ⟨h, -⟩
      · exact h
      · exact absurd h hc
    obtain ⟨i, hi, rfl⟩ := hj
    obtain ⟨ti, si, li⟩ := hI.2.1 i hi
    have bt := tr_lt ti
    have ex : ∀ q : Prop, (hk K1 (xs i) x ↔ q) → ((∃ j, j < 4 ∧ nI i = nI j ∧ hk K1 (xs j) x) ↔ q) := by
      intro q hq
      refine Iff.trans ⟨?_, fun h => ⟨i, hi, rfl, h⟩⟩ hq
      rintro ⟨j, hj, e, h⟩
      rw [nI4 hi hj e]
      exact h
    have lp : ∀ (k n : Nat) (cs : List Nat), cs.length < k → tr N1 n cs → srt K1 cs → (hk K1 (xs i) x ↔ hk K1 cs x) → JJ p l e (jrm 1) s m args below meth c 0 0 (jQI jw jty g A below args s (P_has N1 K1 xs (nI i) x)) A g.1 4 (jw g N1 K1) 17 [some (.ref g.2.1), some (.int (nI i)), some (.int x), some (.int (nI n))] [] := by
      intro k
      induction k with
      | zero => intro n cs hk; omega
      | succ k ih =>
        intro n cs hlt tn sc hkk
        have bn := tr_lt tn
        refine jr_il3 C dX0_has_17 ?_
        refine jr_ifN_eq C dX0_has_18 (by omega) (fun hz => ?_) (fun hz => ?_)
        · subst hz
          have := tr_zero tn
          subst this
          refine jr_il3 C dX0_has_60 ?_
          refine jr_ifN_eq C dX0_has_61 (by omega) (fun hz2 => ?_) (fun hz2 => ?_)
          · refine jr_ic0 C dX0_has_68 ?_
            refine jr_zret C hret dX0_has_69 ?_
            exact ⟨by decide, ⟨0, rfl, Or.inr ⟨rfl, fun h => hk_nil (hkk.mp ((ex _ Iff.rfl).mp h))⟩⟩, rfl, rfl⟩
          · exact absurd rfl hz2
        · obtain ⟨q0, q1, -, ls, rs, ecs, tl, th⟩ := tr_node tn hz
          have hm := srt_mid (ecs ▸ sc)
          have lcs : cs.length = ls.length + rs.length + 1 := by rw [ecs]; simp; omega
          refine jr_al0 C dX0_has_21 ?_
          refine jg_key C dX0_has_22 ?_
          refine jr_il3 C dX0_has_25 ?_
          refine jl_key C dX0_has_26 (by omega) ?_
          refine jr_il2 C dX0_has_27 ?_
          refine jr_cmp_eq C dX0_has_28 (fun he => ?_) (fun he => ?_)
          · refine jr_il3 C dX0_has_60 ?_
            refine jr_ifN_eq C dX0_has_61 (by omega) (fun hz2 => ?_) (fun hz2 => ?_)
            · exact absurd hz2 hz
            · refine jr_ic1 C dX0_has_64 ?_
              refine jr_goto C dX0_has_65 ?_
              refine jr_zret C hret dX0_has_69 ?_
              exact ⟨by decide, ⟨1, rfl, Or.inl ⟨rfl, (ex _ hkk).mpr ⟨n, by rw [ecs]; simp, he⟩⟩⟩, rfl, rfl⟩
          · refine jr_il2 C dX0_has_31 ?_
            refine jr_al0 C dX0_has_32 ?_
            refine jg_key C dX0_has_33 ?_
            refine jr_il3 C dX0_has_36 ?_
            refine jl_key C dX0_has_37 (by omega) ?_
            refine jr_cmp_ge C dX0_has_38 (fun hd => ?_) (fun hd => ?_)
            · refine jr_al0 C dX0_has_50 ?_
              refine jg_right C dX0_has_51 ?_
              refine jr_il3 C dX0_has_54 ?_
              refine jl_right C dX0_has_55 (by omega) ?_
              refine jr_is3 C dX0_has_56 ?_
              refine jr_goto C dX0_has_57 ?_
              refine ih _ rs (by omega) th hm.2.1 (hkk.trans ?_)
              rw [ecs, hk_app, hk_cons]
              have hlt2 : K1 2 n < x := ii_le hd (fun q => he q.symm)
              refine ⟨?_, fun h => Or.inr (Or.inr h)⟩
              rintro (⟨q, hq, e⟩ | e | h)
              · exact absurd (e ▸ hm.2.2.1 q hq) (fun h => ii_as h hlt2)
              · exact absurd e he
              · exact h
            · refine jr_al0 C dX0_has_41 ?_
              refine jg_left C dX0_has_42 ?_
              refine jr_il3 C dX0_has_45 ?_
              refine jl_left C dX0_has_46 (by omega) ?_
              refine jr_goto C dX0_has_47 ?_
              refine jr_is3 C dX0_has_56 ?_
              refine jr_goto C dX0_has_57 ?_
              refine ih _ ls (by omega) tl hm.1 (hkk.trans ?_)
              rw [ecs, hk_app, hk_cons]
              have hlt2 : x < K1 2 n := ii_nle hd
              refine ⟨?_, fun h => Or.inl h⟩
              rintro (h | e | ⟨q, hq, e⟩)
              · exact h
              · exact absurd e he
              · exact absurd (e ▸ hm.2.2.2.1 q hq) (fun h => ii_as h hlt2)
    refine jr_al0 C dX0_has_10 ?_
    refine jg_rootOf C dX0_has_11 ?_
    refine jr_il1 C dX0_has_14 ?_
    refine jl_rootOf C dX0_has_15 (by omega) ?_
    refine jr_is3 C dX0_has_16 ?_
    exact lp ((xs i).length + 1) _ (xs i) (by omega) ti si Iff.rfl
  · have hj : ¬ jok s0 := by
      rcases hb with ⟨h, -⟩ | ⟨-, h⟩
      · omega
      · exact h
    refine jr_ic0 C dX0_has_8 ?_
    refine jr_zret C hret dX0_has_9 ?_
    exact ⟨by decide, ⟨0, rfl, Or.inr ⟨rfl, fun ⟨i, hi, e, _⟩ => hj ⟨i, hi, e⟩⟩⟩, rfl, rfl⟩
theorem c_has (l : Launch) (N : Nat → Nat → Nat) (K : Nat → Nat → Int32) {P : jP} (hR : JRep N K P) (s0 x : Int32) : jI l jw jty yX0_has cX0_has 4 .boolean 1 [.int s0, .int x] N K (fun r N1 K1 => A_has P s0 x r ∧ JRep N1 K1 P) := by
  obtain ⟨xs, fl, hI, hP⟩ := hR
  refine jI_post (m_has l N K hI s0 x) ?_
  rintro r N1 K1 ⟨⟨b, rfl, hb⟩, rfl, rfl⟩
  refine ⟨?_, xs, fl, hI, hP⟩
  have e : (∃ i, i < 4 ∧ s0 = nI i ∧ hk K1 (xs i) x) ↔ (∃ i, i < 4 ∧ s0 = nI i ∧ P i x) := by
    constructor
    · rintro ⟨i, hi, e, h⟩; exact ⟨i, hi, e, (hP i hi x).mp h⟩
    · rintro ⟨i, hi, e, h⟩; exact ⟨i, hi, e, (hP i hi x).mpr h⟩
  rcases hb with ⟨rfl, h⟩ | ⟨rfl, h⟩
  · exact Or.inl ⟨e.mp h, rfl⟩
  · exact Or.inr ⟨fun q => h (e.mpr q), rfl⟩
theorem c_size (l : Launch) (N : Nat → Nat → Nat) (K : Nat → Nat → Int32) {P : jP} (hR : JRep N K P) (s0 : Int32) : jI l jw jty yX0_size cX0_size 2 .int 1 [.int s0] N K (fun r N1 K1 => A_size P s0 r ∧ JRep N1 K1 P) := by
  obtain ⟨xs, fl, hI, hP⟩ := hR
  refine jI_of (k := 1) (kN := 0) (L := fun g : jG => [some (.ref g.2.1), some (.int s0)]) (by decide) (fun g => rfl) (fun g => rfl) (fun g => by simp [Value.category]) ?_
  intro g p e s m args below meth c A C hret
  refine jr_al0 C dX0_size_0 ?_
  refine jr_il1 C dX0_size_1 ?_
  refine jc_isSet C dX0_size_2 ⟨by decide, by decide⟩ (Nat.le_of_ble_eq_true rfl) (m_isSet l N K s0) (fun r N1 K1 hp => ?_)
  obtain ⟨⟨b, rfl, hb⟩, rfl, rfl⟩ := hp
  refine jr_ifN_eq C dX0_size_5 (by omega) (fun hc => ?_) (fun hc => ?_)
  · have hj : ¬ jok s0 := by
      rcases hb with ⟨h, -⟩ | ⟨-, h⟩
      · omega
      · exact h
    refine jr_icm1 C dX0_size_22 ?_
    refine jr_iret C hret dX0_size_23 ?_
    exact ⟨Or.inl ⟨hj, rfl⟩, xs, fl, hI, hP⟩
  · have hj : jok s0 := by
      rcases hb with ⟨-, h⟩ | ⟨h, -⟩
      · exact h
      · exact absurd h hc
    obtain ⟨i, hi, rfl⟩ := hj
    obtain ⟨ti, si, li⟩ := hI.2.1 i hi
    have bt := tr_lt ti
    refine jr_al0 C dX0_size_8 ?_
    refine jg_count C dX0_size_9 ?_
    refine jr_al0 C dX0_size_12 ?_
    refine jg_rootOf C dX0_size_13 ?_
    refine jr_il1 C dX0_size_16 ?_
    refine jl_rootOf C dX0_size_17 (by omega) ?_
    refine jl_count C dX0_size_18 (by omega) ?_
    refine jr_goto C dX0_size_19 ?_
    refine jr_iret C hret dX0_size_23 ?_
    refine ⟨Or.inr ⟨i, hi, rfl, ?_⟩, xs, fl, hI, hP⟩
    rw [cd_srt si (hP i hi), tr_len hI.1 ti]
def P_rank (N : Nat → Nat → Nat) (K : Nat → Nat → Int32) (xs : Nat → List Nat) (s x : Int32) : Int32 → (Nat → Nat → Nat) → (Nat → Nat → Int32) → Prop := fun r N1 K1 => (¬ jok s ∧ r = -1 ∨ ∃ i, i < 4 ∧ s = nI i ∧ r = nI (rk K (xs i) x)) ∧ N1 = N ∧ K1 = K
theorem m_rank (l : Launch) (N : Nat → Nat → Nat) (K : Nat → Nat → Int32) {xs : Nat → List Nat} {fl : List Nat} (hI : JInv N K xs fl) (s0 x : Int32) : jI l jw jty yX0_rank cX0_rank 5 .int 1 [.int s0, .int x] N K (P_rank N K xs s0 x) := by
  refine jI_of (k := 1) (kN := 2) (L := fun g : jG => [some (.ref g.2.1), some (.int s0), some (.int x), none, none]) (by decide) (fun g => rfl) (fun g => rfl) (fun g => by simp [Value.category]) ?_
  intro g p e s m args below meth c A C hret
  refine jr_al0 C dX0_rank_0 ?_
  refine jr_il1 C dX0_rank_1 ?_
  refine jc_isSet C dX0_rank_2 ⟨by decide, by decide⟩ (Nat.le_of_ble_eq_true rfl) (m_isSet l N K s0) (fun r N1 K1 hp => ?_)
  obtain ⟨⟨b, rfl, hb⟩, rfl, rfl⟩ := hp
  refine jr_ifN_ne C dX0_rank_5 (by omega) (fun hc => ?_) (fun hc => ?_)
  · have hj : jok s0 := by
      rcases hb with ⟨-, h⟩ | ⟨h, -⟩
      · exact h
      · exact absurd h hc
    obtain ⟨i, hi, rfl⟩ := hj
    obtain ⟨ti, si, li⟩ := hI.2.1 i hi
    have bt := tr_lt ti
    have lp : ∀ (k n a : Nat) (cs : List Nat), cs.length < k → tr N1 n cs → srt K1 cs → rk K1 (xs i) x = a + rk K1 cs x → a + cs.length ≤ 20 → JJ p l e (jrm 1) s m args below meth c 0 0 (jQI jw jty g A below args s (P_rank N1 K1 xs (nI i) x)) A g.1 5 (jw g N1 K1) 20 [some (.ref g.2.1), some (.int (nI i)), some (.int x), some (.int (nI n)), some (.int (nI a))] [] := by
      intro k
      induction k with
      | zero => intro n a cs hk; omega
      | succ k ih =>
        intro n a cs hlt tn sc hrk hle
        have bn := tr_lt tn
        refine jr_il3 C dX0_rank_20 ?_
        refine jr_ifN_eq C dX0_rank_21 (by omega) (fun hz => ?_) (fun hz => ?_)
        · subst hz
          have := tr_zero tn
          subst this
          refine jr_il4 C dX0_rank_72 ?_
          refine jr_iret C hret dX0_rank_74 ?_
          exact ⟨Or.inr ⟨i, hi, rfl, by rw [hrk]; rfl⟩, rfl, rfl⟩
        · obtain ⟨q0, q1, -, ls, rs, ecs, tl, th⟩ := tr_node tn hz
          have hm := srt_mid (ecs ▸ sc)
          have lcs : cs.length = ls.length + rs.length + 1 := by rw [ecs]; simp; omega
          have bl := tr_lt tl
          have ll := tr_len hI.1 tl
          refine jr_al0 C dX0_rank_24 ?_
          refine jg_key C dX0_rank_25 ?_
          refine jr_il3 C dX0_rank_28 ?_
          refine jl_key C dX0_rank_29 (by omega) ?_
          refine jr_il2 C dX0_rank_30 ?_
          refine jr_cmp_ge C dX0_rank_31 (fun hd => ?_) (fun hd => ?_)
          · refine jr_al0 C dX0_rank_62 ?_
            refine jg_left C dX0_rank_63 ?_
            refine jr_il3 C dX0_rank_66 ?_
            refine jl_left C dX0_rank_67 (by omega) ?_
            refine jr_is3 C dX0_rank_68 ?_
            refine jr_goto C dX0_rank_69 ?_
            refine ih _ a ls (by omega) tl hm.1 ?_ (by omega)
            have h1 : ∀ q ∈ n :: rs, ¬ K1 2 q < x := by
              intro q hq hlt
              have hxn : ¬ K1 2 n < x := Int32.not_lt.mpr hd
              rcases List.mem_cons.mp hq with rfl | hq
              · exact hxn hlt
              · exact hxn (ii_tr (hm.2.2.2.1 q hq) hlt)
            rw [hrk, ecs, rk_app, rk_none h1]
            rfl
          · have hnx : K1 2 n < x := ii_nle hd
            refine jr_il4 C dX0_rank_34 ?_
            refine jr_al0 C dX0_rank_36 ?_
            refine jg_count C dX0_rank_37 ?_
            refine jr_al0 C dX0_rank_40 ?_
            refine jg_left C dX0_rank_41 ?_
            refine jr_il3 C dX0_rank_44 ?_
            refine jl_left C dX0_rank_45 (by omega) ?_
            refine jl_count C dX0_rank_46 (by omega) ?_
            refine jr_ic1 C dX0_rank_47 ?_
            refine jr_iadd C dX0_rank_48 ?_
            refine jr_iadd C dX0_rank_49 ?_
            refine jr_top (v := a + (ls.length + 1)) (by rw [ll]) ?_
            refine jr_is4 C dX0_rank_50 ?_
            refine jr_al0 C dX0_rank_52 ?_
            refine jg_right C dX0_rank_53 ?_
            refine jr_il3 C dX0_rank_56 ?_
            refine jl_right C dX0_rank_57 (by omega) ?_
            refine jr_is3 C dX0_rank_58 ?_
            refine jr_goto C dX0_rank_59 ?_
            refine ih _ (a + (ls.length + 1)) rs (by omega) th hm.2.1 ?_ (by omega)
            rw [hrk, ecs, rk_app, rk_cons, if_pos hnx, rk_all (fun q hq => ii_tr (hm.2.2.1 q hq) hnx)]
            omega
    refine jr_al0 C dX0_rank_10 ?_
    refine jg_rootOf C dX0_rank_11 ?_
    refine jr_il1 C dX0_rank_14 ?_
    refine jl_rootOf C dX0_rank_15 (by omega) ?_
    refine jr_is3 C dX0_rank_16 ?_
    refine jr_ic0 C dX0_rank_17 ?_
    refine jr_is4 C dX0_rank_18 ?_
    exact lp ((xs i).length + 1) _ 0 (xs i) (by omega) ti si (by omega) (by omega)
  · have hj : ¬ jok s0 := by
      rcases hb with ⟨h, -⟩ | ⟨-, h⟩
      · omega
      · exact h
    refine jr_icm1 C dX0_rank_8 ?_
    refine jr_iret C hret dX0_rank_9 ?_
    exact ⟨Or.inl ⟨hj, rfl⟩, rfl, rfl⟩
theorem c_rank (l : Launch) (N : Nat → Nat → Nat) (K : Nat → Nat → Int32) {P : jP} (hR : JRep N K P) (s0 x : Int32) : jI l jw jty yX0_rank cX0_rank 5 .int 1 [.int s0, .int x] N K (fun r N1 K1 => A_rank P s0 x r ∧ JRep N1 K1 P) := by
  obtain ⟨xs, fl, hI, hP⟩ := hR
  refine jI_post (m_rank l N K hI s0 x) ?_
  rintro r N1 K1 ⟨hr, rfl, rfl⟩
  refine ⟨?_, xs, fl, hI, hP⟩
  rcases hr with h | ⟨i, hi, e, h⟩
  · exact Or.inl h
  · exact Or.inr ⟨i, hi, e, by rw [rk_cd (hI.2.1 i hi).2.1 (hP i hi)]; exact h⟩
theorem c_ceiling (l : Launch) (N : Nat → Nat → Nat) (K : Nat → Nat → Int32) {P : jP} (hR : JRep N K P) (s0 x : Int32) : jI l jw jty yX0_ceiling cX0_ceiling 4 .int 2 [.int s0, .int x] N K (fun r N1 K1 => A_ceil P s0 x r ∧ JRep N1 K1 P) := by
  obtain ⟨xs, fl, hI, hP⟩ := hR
  refine jI_of (k := 2) (kN := 1) (L := fun g : jG => [some (.ref g.2.1), some (.int s0), some (.int x), none]) (by decide) (fun g => rfl) (fun g => rfl) (fun g => by simp [Value.category]) ?_
  intro g p e s m args below meth c A C hret
  refine jr_al0 C dX0_ceiling_0 ?_
  refine jr_il1 C dX0_ceiling_1 ?_
  refine jc_isSet C dX0_ceiling_2 ⟨by decide, by decide⟩ (Nat.le_of_ble_eq_true rfl) (m_isSet l N K s0) (fun r N1 K1 hp => ?_)
  obtain ⟨⟨b, rfl, hb⟩, rfl, rfl⟩ := hp
  refine jr_ifN_ne C dX0_ceiling_5 (by omega) (fun hc => ?_) (fun hc => ?_)
  · have hj : jok s0 := by
      rcases hb with ⟨-, h⟩ | ⟨h, -⟩
      · exact h
      · exact absurd h hc
    obtain ⟨i, hi, rfl⟩ := hj
    obtain ⟨ti, si, li⟩ := hI.2.1 i hi
    have bt := tr_lt ti
    have lt := tr_len hI.1 ti
    have hle := rk_le (K := K1) (xs := xs i) (x := x)
    refine jr_al0 C dX0_ceiling_10 ?_
    refine jr_il1 C dX0_ceiling_11 ?_
    refine jr_il2 C dX0_ceiling_12 ?_
    refine jc_rank C dX0_ceiling_13 ⟨by decide, by decide⟩ (Nat.le_of_ble_eq_true rfl) (m_rank l N1 K1 hI (nI i) x) (fun r N2 K2 hp => ?_)
    obtain ⟨hr, rfl, rfl⟩ := hp
    have hr : r = nI (rk K2 (xs i) x) := by
      rcases hr with ⟨h, -⟩ | ⟨j, hj, e, h⟩
      · exact absurd (jok_n hi) h
      · rw [nI4 hi hj e]; exact h
    subst hr
    refine jr_is3 C dX0_ceiling_16 ?_
    refine jr_il3 C dX0_ceiling_17 ?_
    refine jr_al0 C dX0_ceiling_18 ?_
    refine jg_count C dX0_ceiling_19 ?_
    refine jr_al0 C dX0_ceiling_22 ?_
    refine jg_rootOf C dX0_ceiling_23 ?_
    refine jr_il1 C dX0_ceiling_26 ?_
    refine jl_rootOf C dX0_ceiling_27 (by omega) ?_
    refine jl_count C dX0_ceiling_28 (by omega) ?_
    rw [lt]
    refine jr_cmpN_ge C dX0_ceiling_29 (by omega) (by omega) (fun hd => ?_) (fun hd => ?_)
    · refine jr_bipush (v := -3) C dX0_ceiling_36 (by decide) ?_
      refine jr_iret C hret dX0_ceiling_38 ?_
      refine ⟨Or.inr ⟨i, hi, rfl, Or.inr ⟨?_, rfl⟩⟩, xs, fl, hI, hP⟩
      rw [rk_cd si (hP i hi), cd_srt si (hP i hi)]
      omega
    · refine jr_il3 C dX0_ceiling_32 ?_
      refine jr_goto C dX0_ceiling_33 ?_
      refine jr_iret C hret dX0_ceiling_38 ?_
      refine ⟨Or.inr ⟨i, hi, rfl, Or.inl ⟨?_, ?_⟩⟩, xs, fl, hI, hP⟩
      · rw [rk_cd si (hP i hi), cd_srt si (hP i hi)]
        omega
      · rw [rk_cd si (hP i hi)]
  · have hj : ¬ jok s0 := by
      rcases hb with ⟨h, -⟩ | ⟨-, h⟩
      · omega
      · exact h
    refine jr_icm1 C dX0_ceiling_8 ?_
    refine jr_iret C hret dX0_ceiling_9 ?_
    exact ⟨Or.inl ⟨hj, rfl⟩, xs, fl, hI, hP⟩
theorem c_at (l : Launch) (N : Nat → Nat → Nat) (K : Nat → Nat → Int32) {P : jP} (hR : JRep N K P) (s0 x : Int32) : jI l jw jty yX0_at cX0_at 5 .int 1 [.int s0, .int x] N K (fun r N1 K1 => A_at P s0 x r ∧ JRep N1 K1 P) := by
  obtain ⟨xs, fl, hI, hP⟩ := hR
  have hno : (∀ i, i < 4 → s0 = nI i → ∀ j, j < (xs i).length → x ≠ nI j) → ¬ (∃ i e, i < 4 ∧ s0 = nI i ∧ P i e ∧ x = nI (cd (fun y => P i y ∧ y < e))) := by
    rintro h ⟨i, e, hi, hs, hPe, hx⟩
    obtain ⟨q, hq, rfl⟩ := (hP i hi e).mpr hPe
    obtain ⟨j, hj⟩ := List.getElem?_of_mem hq
    rw [rk_cd (hI.2.1 i hi).2.1 (hP i hi), rk_at (hI.2.1 i hi).2.1 hj] at hx
    exact h i hi hs j (List.getElem?_eq_some_iff.mp hj).1 hx
  refine jI_of (k := 1) (kN := 2) (L := fun g : jG => [some (.ref g.2.1), some (.int s0), some (.int x), none, none]) (by decide) (fun g => rfl) (fun g => rfl) (fun g => by simp [Value.category]) ?_
  intro g p e s m args below meth c A C hret
  refine jr_al0 C dX0_at_0 ?_
  refine jr_il1 C dX0_at_1 ?_
  refine jc_isSet C dX0_at_2 ⟨by decide, by decide⟩ (Nat.le_of_ble_eq_true rfl) (m_isSet l N K s0) (fun r N1 K1 hp => ?_)
  obtain ⟨⟨b, rfl, hb⟩, rfl, rfl⟩ := hp
  refine jr_ifN_eq C dX0_at_5 (by omega) (fun hc => ?_) (fun hc => ?_)
  · have hj : ¬ jok s0 := by
      rcases hb with ⟨h, -⟩ | ⟨-, h⟩
      · omega
      · exact h
    refine jr_ic0 C dX0_at_27 ?_
    refine jr_iret C hret dX0_at_28 ?_
    exact ⟨Or.inr ⟨hno (fun i hi e => absurd ⟨i, hi, e⟩ hj), rfl⟩, xs, fl, hI, hP⟩
  · have hj : jok s0 := by
      rcases hb with ⟨-, h⟩ | ⟨h, -⟩
      · exact h
      · exact absurd h hc
    obtain ⟨i, hi, rfl⟩ := hj
    obtain ⟨ti, si, li⟩ := hI.2.1 i hi
    have bt := tr_lt ti
    have lt := tr_len hI.1 ti
    have hno2 : (∀ j, j < (xs i).length → x ≠ nI j) → ¬ (∃ i_1 e, i_1 < 4 ∧ nI i = nI i_1 ∧ P i_1 e ∧ x = nI (cd (fun y => P i_1 y ∧ y < e))) := fun h => hno (fun i2 hi2 e2 => by rw [← nI4 hi hi2 e2]; exact h)
    refine jr_il2 C dX0_at_8 ?_
    refine jr_if_lt C dX0_at_9 (fun hn => ?_) (fun hn => ?_)
    · refine jr_ic0 C dX0_at_27 ?_
      refine jr_iret C hret dX0_at_28 ?_
      exact ⟨Or.inr ⟨hno2 (fun j hj e => nI_pos (n := j) (by omega) (e ▸ hn)), rfl⟩, xs, fl, hI, hP⟩
    · obtain ⟨j, hj31, rfl⟩ := nI_of hn
      refine jr_il2 C dX0_at_12 ?_
      refine jr_al0 C dX0_at_13 ?_
      refine jg_count C dX0_at_14 ?_
      refine jr_al0 C dX0_at_17 ?_
      refine jg_rootOf C dX0_at_18 ?_
      refine jr_il1 C dX0_at_21 ?_
      refine jl_rootOf C dX0_at_22 (by omega) ?_
      refine jl_count C dX0_at_23 (by omega) ?_
      rw [lt]
      refine jr_cmpN_lt C dX0_at_24 (by omega) (by omega) (fun hd => ?_) (fun hd => ?_)
      · have hget : (xs i)[j]? = some (xs i)[j] := List.getElem?_eq_getElem hd
        have lp : ∀ (k n a : Nat) (cs : List Nat), cs.length < k → tr N1 n cs → srt K1 cs → (xs i)[j]? = cs[a]? → a < cs.length → cs.length ≤ 20 → JJ p l e (jrm 1) s m args below meth c 0 0 (jQI jw jty g A below args s (fun r N1 K1 => A_at P (nI i) (nI j) r ∧ JRep N1 K1 P)) A g.1 5 (jw g N1 K1) 39 [some (.ref g.2.1), some (.int (nI i)), some (.int (nI j)), some (.int (nI n)), some (.int (nI a))] [] := by
          intro k
          induction k with
          | zero => intro n a cs hk; omega
          | succ k ih =>
            intro n a cs hlt tn sc hga ha ha20
            have hz : n ≠ 0 := by
              rintro rfl
              rw [tr_zero tn] at ha
              simp at ha
            obtain ⟨q0, q1, -, ls, rs, ecs, tl, th⟩ := tr_node tn hz
            have hm := srt_mid (ecs ▸ sc)
            have lcs : cs.length = ls.length + rs.length + 1 := by rw [ecs]; simp; omega
            have bl := tr_lt tl
            have ll := tr_len hI.1 tl
            refine jr_il4 C dX0_at_39 ?_
            refine jr_al0 C dX0_at_41 ?_
            refine jg_count C dX0_at_42 ?_
            refine jr_al0 C dX0_at_45 ?_
            refine jg_left C dX0_at_46 ?_
            refine jr_il3 C dX0_at_49 ?_
            refine jl_left C dX0_at_50 (by omega) ?_
            refine jl_count C dX0_at_51 (by omega) ?_
            rw [ll]
            refine jr_cmpN_eq C dX0_at_52 (by omega) (by omega) (fun he => ?_) (fun he => ?_)
            · refine jr_al0 C dX0_at_109 ?_
              refine jg_key C dX0_at_110 ?_
              refine jr_il3 C dX0_at_113 ?_
              refine jl_key C dX0_at_114 (by omega) ?_
              refine jr_iret C hret dX0_at_115 ?_
              have hq : (xs i)[j]? = some n := by rw [hga, ecs, he]; simp
              refine ⟨Or.inl ⟨i, hi, rfl, (hP i hi _).mp ⟨n, List.mem_of_getElem? hq, rfl⟩, ?_⟩, xs, fl, hI, hP⟩
              rw [rk_cd si (hP i hi), rk_at si hq]
            · refine jr_il4 C dX0_at_55 ?_
              refine jr_al0 C dX0_at_57 ?_
              refine jg_count C dX0_at_58 ?_
              refine jr_al0 C dX0_at_61 ?_
              refine jg_left C dX0_at_62 ?_
              refine jr_il3 C dX0_at_65 ?_
              refine jl_left C dX0_at_66 (by omega) ?_
              refine jl_count C dX0_at_67 (by omega) ?_
              rw [ll]
              refine jr_cmpN_ge C dX0_at_68 (by omega) (by omega) (fun hf => ?_) (fun hf => ?_)
              · refine jr_il4 C dX0_at_81 ?_
                refine jr_al0 C dX0_at_83 ?_
                refine jg_count C dX0_at_84 ?_
                refine jr_al0 C dX0_at_87 ?_
                refine jg_left C dX0_at_88 ?_
                refine jr_il3 C dX0_at_91 ?_
                refine jl_left C dX0_at_92 (by omega) ?_
                refine jl_count C dX0_at_93 (by omega) ?_
                refine jr_ic1 C dX0_at_94 ?_
                refine jr_iadd C dX0_at_95 ?_
                refine jr_top (v := ls.length + 1) (by rw [ll]) ?_
                refine jr_isub C dX0_at_96 (by omega) ?_
                refine jr_top (v := a - (ls.length + 1)) (rfl) ?_
                refine jr_is4 C dX0_at_97 ?_
                refine jr_al0 C dX0_at_99 ?_
                refine jg_right C dX0_at_100 ?_
                refine jr_il3 C dX0_at_103 ?_
                refine jl_right C dX0_at_104 (by omega) ?_
                refine jr_is3 C dX0_at_105 ?_
                refine jr_goto C dX0_at_106 ?_
                refine ih _ (a - (ls.length + 1)) rs (by omega) th hm.2.1 ?_ (by omega) (by omega)
                rw [hga, ecs, List.getElem?_append_right (by omega)]
                have : a - ls.length = (a - (ls.length + 1)) + 1 := by omega
                rw [this, List.getElem?_cons_succ]
              · refine jr_al0 C dX0_at_71 ?_
                refine jg_left C dX0_at_72 ?_
                refine jr_il3 C dX0_at_75 ?_
                refine jl_left C dX0_at_76 (by omega) ?_
                refine jr_is3 C dX0_at_77 ?_
                refine jr_goto C dX0_at_78 ?_
                refine ih _ a ls (by omega) tl hm.1 ?_ (by omega) (by omega)
                rw [hga, ecs, List.getElem?_append_left (by omega)]
        refine jr_al0 C dX0_at_29 ?_
        refine jg_rootOf C dX0_at_30 ?_
        refine jr_il1 C dX0_at_33 ?_
        refine jl_rootOf C dX0_at_34 (by omega) ?_
        refine jr_is3 C dX0_at_35 ?_
        refine jr_il2 C dX0_at_36 ?_
        refine jr_is4 C dX0_at_37 ?_
        exact lp ((xs i).length + 1) _ j (xs i) (by omega) ti si rfl hd li
      · refine jr_ic0 C dX0_at_27 ?_
        refine jr_iret C hret dX0_at_28 ?_
        exact ⟨Or.inr ⟨hno2 (fun j2 hj2 e => by rw [nI_eq (by omega) (by omega)] at e; omega), rfl⟩, xs, fl, hI, hP⟩
end
section
/-! JoinTrees: add, remove, removeRange, clear, split -/
theorem rep_set {N N1 : Nat → Nat → Nat} {K K1 : Nat → Nat → Int32} {xs : Nat → List Nat} {fl f1 zs : List Nat} {P : jP} {p : Int32 → Prop} (h : JInv N K xs fl) (hP : ∀ i, i < 4 → ∀ k, hk K (xs i) k ↔ P i k) {i : Nat} (h1 : JInv N1 K1 (va_up xs i zs) f1) (hK : ∀ q, q ∉ fl → K1 2 q = K 2 q) (hp : ∀ k, hk K1 zs k ↔ p k) : JRep N1 K1 (va_up P i p) := by
  refine ⟨_, _, h1, ?_⟩
  intro j hj k
  by_cases hji : j = i
  · subst hji
    simp only [va_up, if_true]
    exact hp k
  · simp only [va_up, if_neg hji]
    rw [← hP j hj k]
    exact hk_ag (fun q hq => hK q (fun hf => h.dj hj q hf hq))
theorem JInv.set2 {N N1 : Nat → Nat → Nat} {K : Nat → Nat → Int32} {xs : Nat → List Nat} {fl f1 zi zj : List Nat} (h : JInv N K xs fl) {i j : Nat} (hi : i < 4) (hj : j < 4) (hne : j ≠ i) (e4 : ∀ k, k < 4 → k ≠ i → k ≠ j → N1 4 k = N 4 k) (ti : tr N1 (N1 4 i) zi) (si : srt K zi) (li : zi.length ≤ 20) (tj : tr N1 (N1 4 j) zj) (sj : srt K zj) (lj : zj.length ≤ 20) (hf : free N1 f1) (hp : (zi ++ (zj ++ f1)).Perm (xs i ++ (xs j ++ fl))) (hg : ag N N1 (xs i ++ (xs j ++ fl))) : JInv N1 K (va_up (va_up xs i zi) j zj) f1 := by
  obtain ⟨z0, hx, hf0, hb, hc, hl⟩ := h
  have hpos : ∀ q ∈ xs i ++ (xs j ++ fl), 0 < q ∧ q < 256 := by
    intro q hq
    rcases List.mem_append.mp hq with h | h
    · exact tr_mem (hx i hi).1 q h
    · rcases List.mem_append.mp h with h | h
      · exact tr_mem (hx j hj).1 q h
      · exact hb q h
  have hne2 : i ≠ j := fun e => hne e.symm
  refine ⟨ag_z hg z0 (fun q hq => (hpos q hq).1), ?_, hf, ?_, ?_, ?_⟩
  · intro k hk
    by_cases hkj : k = j
    · subst hkj
      simp only [va_up, if_true]
      exact ⟨tj, sj, lj⟩
    · by_cases hki : k = i
      · subst hki
        simp only [va_up, if_neg hkj, if_true]
        exact ⟨ti, si, li⟩
      · simp only [va_up, if_neg hkj, if_neg hki]
        rw [e4 k hk hki hkj]
        obtain ⟨t1, s1, l1⟩ := hx k hk
        refine ⟨ag_tr hg t1 ?_, s1, l1⟩
        intro q hq hq2
        have J0 : JInv N K xs fl := ⟨z0, hx, hf0, hb, hc, hl⟩
        rcases List.mem_append.mp hq2 with h | h
        · exact J0.dj2 hi hk hki q hq (List.mem_append_left _ h)
        · rcases List.mem_append.mp h with h | h
          · exact J0.dj2 hj hk hkj q hq (List.mem_append_left _ h)
          · exact J0.dj hk q h hq
  · intro q hq
    exact hpos q (hp.subset (List.mem_append_right _ (List.mem_append_right _ hq)))
  · intro q
    have h1 := ct_up (xs := va_up xs i zi) (fl := fl) (f1 := f1) (zs := zj) (q := q) hj
    have h1b := ct_up (xs := xs) (fl := fl) (f1 := fl) (zs := zi) (q := q) hi
    have h2 := pm_ct.mp hp q
    have h3 := hc q
    have e : va_up xs i zi j = xs j := by simp [va_up, hne]
    rw [e] at h1
    simp only [List.count_append] at h2
    omega
  · have h1 := ln_up (xs := va_up xs i zi) (fl := fl) (f1 := f1) (zs := zj) hj
    have h1b := ln_up (xs := xs) (fl := fl) (f1 := fl) (zs := zi) hi
    have h2 := hp.length_eq
    have e : va_up xs i zi j = xs j := by simp [va_up, hne]
    rw [e] at h1
    simp only [List.length_append] at h2
    omega
theorem vu_same {P : jP} {i : Nat} {p : Int32 → Prop} (h : ∀ k, p k ↔ P i k) : va_up P i p = P := by
  funext j
  unfold va_up
  by_cases hji : j = i
  · rw [if_pos hji, hji]
    funext k
    exact propext (h k)
  · rw [if_neg hji]
theorem c_add (l : Launch) (N : Nat → Nat → Nat) (K : Nat → Nat → Int32) {P : jP} (hR : JRep N K P) (s0 x : Int32) : jI l jw jty yX0_add cX0_add 5 .int 5 [.int s0, .int x] N K (fun r N1 K1 => ∃ P1, A_add P s0 x r P1 ∧ JRep N1 K1 P1) := by
  obtain ⟨xs, fl, hI, hP⟩ := hR
  refine jI_of (k := 5) (kN := 2) (L := fun g : jG => [some (.ref g.2.1), some (.int s0), some (.int x), none, none]) (by decide) (fun g => rfl) (fun g => rfl) (fun g => by simp [Value.category]) ?_
  intro g p e s m args below meth c A C hret
  refine jr_al0 C dX0_add_0 ?_
  refine jr_il1 C dX0_add_1 ?_
  refine jc_isSet C dX0_add_2 ⟨by decide, by decide⟩ (Nat.le_of_ble_eq_true rfl) (m_isSet l N K s0) (fun r N1 K1 hp => ?_)
  obtain ⟨⟨b, rfl, hb⟩, rfl, rfl⟩ := hp
  refine jr_ifN_ne C dX0_add_5 (by omega) (fun hc => ?_) (fun hc => ?_)
  rotate_left
  · have hj : ¬ jok s0 := by
      rcases hb with ⟨h, -⟩ | ⟨-, h⟩
      · omega
      · exact h
    refine jr_icm1 C dX0_add_8 ?_
    refine jr_iret C hret dX0_add_9 ?_
    exact ⟨P, Or.inl ⟨hj, rfl, rfl⟩, xs, fl, hI, hP⟩
  have hj : jok s0 := by
    rcases hb with ⟨-, h⟩ | ⟨h, -⟩
    · exact h
    · exact absurd h hc
  obtain ⟨i, hi, rfl⟩ := hj
  obtain ⟨ti, si, li⟩ := hI.2.1 i hi
  have bt := tr_lt ti
  have lt := tr_len hI.1 ti
  refine jr_al0 C dX0_add_10 ?_
  refine jr_il1 C dX0_add_11 ?_
  refine jr_il2 C dX0_add_12 ?_
  refine jc_has C dX0_add_13 ⟨by decide, by decide⟩ (Nat.le_of_ble_eq_true rfl) (m_has l N1 K1 hI (nI i) x) (fun r N2 K2 hp => ?_)
  obtain ⟨⟨b2, rfl, hb2⟩, rfl, rfl⟩ := hp
  refine jr_ifN_eq C dX0_add_16 (by omega) (fun hd => ?_) (fun hd => ?_)
  rotate_left
  · have hk1 : P i x := by
      rcases hb2 with ⟨-, j, hj, e, h⟩ | ⟨h, -⟩
      · rw [nI4 hi hj e]; exact (hP j hj x).mp h
      · exact absurd h hd
    refine jr_ic0 C dX0_add_19 ?_
    refine jr_iret C hret dX0_add_20 ?_
    exact ⟨P, Or.inr ⟨i, hi, rfl, Or.inl ⟨hk1, rfl, rfl⟩⟩, xs, fl, hI, hP⟩
  have hnk : ¬ hk K2 (xs i) x := by
    rcases hb2 with ⟨h, -⟩ | ⟨-, h⟩
    · omega
    · exact fun q => h ⟨i, hi, rfl, q⟩
  have hnP : ¬ P i x := fun q => hnk ((hP i hi x).mpr q)
  refine jr_al0 C dX0_add_21 ?_
  refine jg_count C dX0_add_22 ?_
  refine jr_al0 C dX0_add_25 ?_
  refine jg_rootOf C dX0_add_26 ?_
  refine jr_il1 C dX0_add_29 ?_
  refine jl_rootOf C dX0_add_30 (by omega) ?_
  refine jl_count C dX0_add_31 (by omega) ?_
  refine jr_bipush (v := nI 20) C dX0_add_32 (by decide) ?_
  rw [lt]
  refine jr_cmpN_lt C dX0_add_34 (by omega) (by omega) (fun he => ?_) (fun he => ?_)
  rotate_left
  · refine jr_bipush (v := -2) C dX0_add_37 (by decide) ?_
    refine jr_iret C hret dX0_add_39 ?_
    exact ⟨P, Or.inr ⟨i, hi, rfl, Or.inr (Or.inl ⟨hnP, by rw [cd_srt si (hP i hi)]; omega, rfl, rfl⟩)⟩, xs, fl, hI, hP⟩
  refine jr_al0 C dX0_add_40 ?_
  refine jr_al0 C dX0_add_41 ?_
  refine jg_rootOf C dX0_add_42 ?_
  refine jr_il1 C dX0_add_45 ?_
  refine jl_rootOf C dX0_add_46 (by omega) ?_
  refine jr_il2 C dX0_add_47 ?_
  refine jc_splitTree C dX0_add_48 ⟨by decide, by decide⟩ (Nat.le_of_ble_eq_true rfl) (m_splitTree l N2 K2 (x := x) hI.1 ti si (by omega)) (fun N3 K3 hp => ?_)
  obtain ⟨us, vs, tu, tv, hor, hu, hv, g3, s3, f7, rfl⟩ := hp
  have exs : xs i = us ++ vs := by
    rcases hor with ⟨-, e⟩ | ⟨n0, -, e, ek⟩
    · exact e
    · exact absurd ⟨N3 12 0, by rw [e]; simp, ek⟩ hnk
  have hlen := hI.len
  have hfnd := hI.fl_nd
  have hdj := hI.dj hi
  cases fl with
  | nil => simp only [List.length_nil] at hlen; omega
  | cons cn f1 =>
    obtain ⟨x0, x1⟩ := hI.2.2.2.1 cn (by simp)
    simp only [List.length_cons] at hlen
    have hf3 := free_sm hI.2.2.1 s3 (by decide) (by decide)
    have lxs : (xs i).length = us.length + vs.length := by rw [exs]; simp
    have bhi := tr_lt tv
    have blo := tr_lt tu
    have z3 : N3 3 0 = 0 := ag_z g3 hI.1 (fun q hq => (tr_mem ti q hq).1)
    refine jr_al0 C dX0_add_51 ?_
    refine jg_highPart C dX0_add_52 ?_
    refine jr_is3 C dX0_add_55 ?_
    refine jr_al0 C dX0_add_56 ?_
    refine jr_il2 C dX0_add_57 ?_
    refine jc_newNode C dX0_add_58 ⟨by decide, by decide⟩ (Nat.le_of_ble_eq_true rfl) (m_newNode l N3 K3 x (f := f1.length) (n := cn) (by rw [hf3.1]; simp) (by omega) hf3.2.1 x1) (fun r N4 K4 hp => ?_)
    obtain ⟨rfl, e4, k4⟩ := hp
    have s4 : sm N3 N4 [0, 1, 3, 5] := by rw [e4]; exact sm_trans (sm_jup (by simp)) (sm_trans (sm_jup (by simp)) (sm_trans (sm_jup (by simp)) (sm_jup (by simp))))
    have g4 : ag N3 N4 [cn] := by
      rw [e4]
      intro q hq
      have hne : ¬ q = cn := by simpa using hq
      simp [jup_e, hne]
    have hf4 : free N4 f1 := free_pop hf3 (by rw [e4]; simp [jup_e]) (s4 6 (by decide))
    have hcx : cn ∉ xs i := hdj cn (by simp)
    have du : ∀ q ∈ us, q ∉ [cn] := fun q hq h => hcx (by simp at h; rw [exs, ← h]; simp [hq])
    have dv : ∀ q ∈ vs, q ∉ [cn] := fun q hq h => hcx (by simp at h; rw [exs, ← h]; simp [hq])
    have z4 : N4 3 0 = 0 := ag_z g4 z3 (by simp [x0])
    have hndx := srt_nd si
    have hnd2 : (us ++ cn :: vs).Nodup := by
      rw [nd_ct]
      intro q
      have h1 := nd_ct.mp hndx q
      rw [exs] at h1
      simp only [List.count_append, List.count_cons] at h1 ⊢
      by_cases hq : cn = q
      · subst hq
        have h2 : (us ++ vs).count cn = 0 := List.count_eq_zero.mpr (exs ▸ hcx)
        simp only [List.count_append] at h2
        simp
        omega
      · simp [hq]
        omega
    have f74 : N4 7 0 = 0 := by rw [s4 7 (by decide)]; exact f7
    refine jr_is4 C dX0_add_61 ?_
    refine jr_al0 C dX0_add_63 ?_
    refine jg_rootOf C dX0_add_64 ?_
    refine jr_il1 C dX0_add_67 ?_
    refine jr_al0 C dX0_add_68 ?_
    refine jr_al0 C dX0_add_69 ?_
    refine jg_lowPart C dX0_add_70 ?_
    refine jr_top (v := N3 10 0) (by rw [s4 10 (by decide)]) ?_
    refine jr_il4 C dX0_add_73 ?_
    refine jr_il3 C dX0_add_75 ?_
    refine jc_join C dX0_add_76 ⟨by decide, by decide⟩ (Nat.le_of_ble_eq_true rfl) (m_join l N4 K4 z4 (ag_tr g4 tu du) (ag_tr g4 tv dv) x0 x1 hnd2 (by simp; omega) (by rw [f74]; omega) (by rw [f74]; omega)) (fun r N5 K5 hp => ?_)
    obtain ⟨t, rfl, t5, g5, s5, -, -, rfl⟩ := hp
    have b5 := tr_lt t5
    refine jr_i2s C dX0_add_79 (by omega) ?_
    refine js_rootOf C dX0_add_80 (by omega) (by omega) ?_
    refine jr_ic1 C dX0_add_81 ?_
    refine jr_iret C hret dX0_add_82 ?_
    refine ⟨_, Or.inr ⟨i, hi, rfl, Or.inr (Or.inr ⟨hnP, by rw [cd_srt si (hP i hi)]; omega, rfl, rfl⟩)⟩, ?_⟩
    have s25 : sm N2 N5 [0, 1, 3, 5, 7, 8, 9, 10, 11, 12] := sm_trans (sm_sub s3 (by decide)) (sm_trans (sm_sub s4 (by decide)) (sm_sub s5 (by decide)))
    have hK5 : ∀ q, q ∉ cn :: f1 → K5 2 q = K3 2 q := fun q hq => by rw [k4]; exact jup_n (fun e => hq (by rw [e]; simp))
    have hKu : ∀ q ∈ us, K5 2 q = K3 2 q := fun q hq => by rw [k4]; exact jup_n (fun e => du q hq (by simp [e]))
    have hKv : ∀ q ∈ vs, K5 2 q = K3 2 q := fun q hq => by rw [k4]; exact jup_n (fun e => dv q hq (by simp [e]))
    have hKc : K5 2 cn = x := by rw [k4, jup_s]
    have six : srt K3 (us ++ vs) := exs ▸ si
    have sz : srt K5 (us ++ cn :: vs) := by
      obtain ⟨a1, a2, a3⟩ := srt_app.mp six
      refine srt_app.mpr ⟨srt_ag a1 hKu, srt_cons.mpr ⟨fun q hq => by rw [hKc, hKv q hq]; exact hv q hq, srt_ag a2 hKv⟩, ?_⟩
      intro a ha q hq
      rcases List.mem_cons.mp hq with rfl | hq
      · rw [hKc, hKu a ha]; exact hu a ha
      · rw [hKu a ha, hKv q hq]; exact a3 a ha q hq
    have hset : JInv (jup N5 4 i t) K5 (va_up xs i (us ++ cn :: vs)) f1 := by
      refine hI.set hi ?_ ?_ sz (by simp; omega) (free_sm (free_sm hf4 s5 (by decide) (by decide)) (sm_jup (ks := [4]) (by simp)) (by decide) (by decide)) ?_ ?_ hK5
      · intro j hj hji
        rw [jup_n hji, s25 4 (by decide)]
      · rw [jup_s]
        exact ag_tr (xs := []) (ag_jupk (by decide)) t5 (by simp)
      · rw [exs, pm_ct]
        intro q
        simp only [List.count_append, List.count_cons]
        omega
      · refine ag_trans g3 ?_ (fun q hq => List.mem_append_left _ hq) (fun _ h => h)
        refine ag_trans g4 ?_ (by simp) (fun _ h => h)
        refine ag_trans g5 (ag_jupk (xs := []) (by decide)) ?_ (by simp)
        intro q hq
        rw [exs]
        rcases List.mem_append.mp hq with h | h
        · simp [h]
        · rcases List.mem_cons.mp h with h | h
          · simp [h]
          · simp [h]
    refine rep_set hI hP hset hK5 ?_
    intro k
    rw [hk_app, hk_cons, hKc, hk_ag hKu, hk_ag hKv, ← hP i hi k, exs, hk_app]
    constructor
    · rintro (h | h | h)
      · exact Or.inl (Or.inl h)
      · exact Or.inr h.symm
      · exact Or.inl (Or.inr h)
    · rintro ((h | h) | h)
      · exact Or.inl h
      · exact Or.inr (Or.inr h)
      · exact Or.inr (Or.inl h.symm)
theorem i_sing {x k : Int32} : (x ≤ k ∧ k ≤ x) ↔ k = x := by
  rw [Int32.le_iff_toInt_le, Int32.le_iff_toInt_le, ← Int32.toInt_inj]
  omega
theorem c_remove (l : Launch) (N : Nat → Nat → Nat) (K : Nat → Nat → Int32) {P : jP} (hR : JRep N K P) (s0 x : Int32) : jI l jw jty yX0_remove cX0_remove 4 .int 6 [.int s0, .int x] N K (fun r N1 K1 => ∃ P1, A_rr P s0 x x r P1 ∧ JRep N1 K1 P1) := by
  obtain ⟨xs, fl, hI, hP⟩ := hR
  refine jI_of (k := 6) (kN := 1) (L := fun g : jG => [some (.ref g.2.1), some (.int s0), some (.int x), none]) (by decide) (fun g => rfl) (fun g => rfl) (fun g => by simp [Value.category]) ?_
  intro g p e s m args below meth c A C hret
  refine jr_al0 C dX0_remove_0 ?_
  refine jr_il1 C dX0_remove_1 ?_
  refine jc_isSet C dX0_remove_2 ⟨by decide, by decide⟩ (Nat.le_of_ble_eq_true rfl) (m_isSet l N K s0) (fun r N1 K1 hp => ?_)
  obtain ⟨⟨b, rfl, hb⟩, rfl, rfl⟩ := hp
  refine jr_ifN_ne C dX0_remove_5 (by omega) (fun hc => ?_) (fun hc => ?_)
  rotate_left
  · have hj : ¬ jok s0 := by
      rcases hb with ⟨h, -⟩ | ⟨-, h⟩
      · omega
      · exact h
    refine jr_icm1 C dX0_remove_8 ?_
    refine jr_iret C hret dX0_remove_9 ?_
    exact ⟨P, Or.inl ⟨hj, rfl, rfl⟩, xs, fl, hI, hP⟩
  have hj : jok s0 := by
    rcases hb with ⟨-, h⟩ | ⟨h, -⟩
    · exact h
    · exact absurd h hc
  obtain ⟨i, hi, rfl⟩ := hj
  obtain ⟨ti, si, li⟩ := hI.2.1 i hi
  have bt := tr_lt ti
  have lt := tr_len hI.1 ti
  refine jr_al0 C dX0_remove_10 ?_
  refine jr_il1 C dX0_remove_11 ?_
  refine jr_il2 C dX0_remove_12 ?_
  refine jc_has C dX0_remove_13 ⟨by decide, by decide⟩ (Nat.le_of_ble_eq_true rfl) (m_has l N1 K1 hI (nI i) x) (fun r N2 K2 hp => ?_)
  obtain ⟨⟨b2, rfl, hb2⟩, rfl, rfl⟩ := hp
  refine jr_ifN_ne C dX0_remove_16 (by omega) (fun hd => ?_) (fun hd => ?_)
  rotate_left
  · have hnk : ¬ hk K2 (xs i) x := by
      rcases hb2 with ⟨h, -⟩ | ⟨-, h⟩
      · omega
      · exact fun q => h ⟨i, hi, rfl, q⟩
    have hnP : ¬ P i x := fun q => hnk ((hP i hi x).mpr q)
    have hsame : ∀ k, (P i k ∧ ¬ (x ≤ k ∧ k ≤ x)) ↔ P i k := by
      intro k
      rw [i_sing]
      exact ⟨fun h => h.1, fun h => ⟨h, fun e => hnP (e ▸ h)⟩⟩
    refine jr_ic0 C dX0_remove_19 ?_
    refine jr_iret C hret dX0_remove_20 ?_
    refine ⟨P, Or.inr ⟨i, hi, rfl, (vu_same hsame).symm, ?_⟩, xs, fl, hI, hP⟩
    rw [show (fun k => P i k ∧ ¬ (x ≤ k ∧ k ≤ x)) = P i from funext (fun k => propext (hsame k)), Nat.sub_self]
  have hk1 : hk K2 (xs i) x := by
    rcases hb2 with ⟨-, j, hj, e, h⟩ | ⟨h, -⟩
    · rw [nI4 hi hj e]; exact h
    · exact absurd h hd
  refine jr_al0 C dX0_remove_21 ?_
  refine jr_al0 C dX0_remove_22 ?_
  refine jg_rootOf C dX0_remove_23 ?_
  refine jr_il1 C dX0_remove_26 ?_
  refine jl_rootOf C dX0_remove_27 (by omega) ?_
  refine jr_il2 C dX0_remove_28 ?_
  refine jc_splitTree C dX0_remove_29 ⟨by decide, by decide⟩ (Nat.le_of_ble_eq_true rfl) (m_splitTree l N2 K2 (x := x) hI.1 ti si (by omega)) (fun N3 K3 hp => ?_)
  obtain ⟨us, vs, tu, tv, hor, hu, hv, g3, s3, f7, rfl⟩ := hp
  obtain ⟨ex, eex⟩ : ∃ ex, N3 12 0 = ex := ⟨_, rfl⟩
  rw [eex] at hor
  obtain ⟨n0, n1, exs, ek⟩ : 0 < ex ∧ ex < 256 ∧ xs i = us ++ ex :: vs ∧ K3 2 ex = x := by
    rcases hor with ⟨-, e⟩ | h
    · exfalso
      rw [e, hk_app] at hk1
      rcases hk1 with ⟨q, hq, e⟩ | ⟨q, hq, e⟩
      · exact ii_irr (e ▸ hu q hq)
      · exact ii_irr (e ▸ hv q hq)
    · exact h
  have hlen := hI.len
  have hf3 := free_sm hI.2.2.1 s3 (by decide) (by decide)
  have lxs : (xs i).length = us.length + vs.length + 1 := by rw [exs]; simp; omega
  have bhi := tr_lt tv
  have blo := tr_lt tu
  have z3 : N3 3 0 = 0 := ag_z g3 hI.1 (fun q hq => (tr_mem ti q hq).1)
  have hm := srt_mid (exs ▸ si)
  refine jr_al0 C dX0_remove_32 ?_
  refine jg_highPart C dX0_remove_33 ?_
  refine jr_is3 C dX0_remove_36 ?_
  refine jr_al0 C dX0_remove_37 ?_
  refine jr_al0 C dX0_remove_38 ?_
  refine jg_exact C dX0_remove_39 ?_
  refine jr_top (v := ex) (eex) ?_
  refine jc_release C dX0_remove_42 ⟨by decide, by decide⟩ (Nat.le_of_ble_eq_true rfl) (m_rel l N3 K3 n1 hf3 (by omega)) (fun N4 K4 hp => ?_)
  obtain ⟨hf4, s4, rfl⟩ := hp
  rw [on_p n0] at hf4
  have g4 : ∀ zs, ag N3 N4 zs := fun zs => sm_ag s4 (by decide) (by decide) (by decide)
  have hndx := srt_nd si
  have hnd2 : (us ++ vs).Nodup := List.Nodup.sublist (List.Sublist.append_left (List.sublist_cons_self ex vs) us) (exs ▸ hndx)
  refine jr_al0 C dX0_remove_45 ?_
  refine jg_rootOf C dX0_remove_46 ?_
  refine jr_il1 C dX0_remove_49 ?_
  refine jr_al0 C dX0_remove_50 ?_
  refine jr_al0 C dX0_remove_51 ?_
  refine jg_lowPart C dX0_remove_52 ?_
  refine jr_top (v := N3 10 0) (by rw [s4 10 (by decide)]) ?_
  refine jr_il3 C dX0_remove_55 ?_
  refine jc_joinTwo C dX0_remove_56 ⟨by decide, by decide⟩ (Nat.le_of_ble_eq_true rfl) (m_joinTwo l N4 K4 (by rw [s4 3 (by decide)]; exact z3) (ag_tr (g4 []) tu (by simp)) (ag_tr (g4 []) tv (by simp)) hm.1 hnd2 (by omega) (by omega)) (fun r N5 K5 hp => ?_)
  obtain ⟨t, rfl, t5, g5, s5, rfl⟩ := hp
  have b5 := tr_lt t5
  refine jr_i2s C dX0_remove_59 (by omega) ?_
  refine js_rootOf C dX0_remove_60 (by omega) (by omega) ?_
  refine jr_ic1 C dX0_remove_61 ?_
  refine jr_iret C hret dX0_remove_62 ?_
  have s25 : sm N2 N5 [0, 1, 3, 5, 6, 7, 8, 9, 10, 11, 12] := sm_trans (sm_sub s3 (by decide)) (sm_trans (sm_sub s4 (by decide)) (sm_sub s5 (by decide)))
  have sz : srt K5 (us ++ vs) := srt_app.mpr ⟨hm.1, hm.2.1, hm.2.2.2.2⟩
  have hkz : ∀ k, hk K5 (us ++ vs) k ↔ (P i k ∧ ¬ (x ≤ k ∧ k ≤ x)) := by
    intro k
    rw [i_sing, ← hP i hi k, exs, hk_app, hk_app, hk_cons, ek]
    constructor
    · rintro (⟨q, hq, rfl⟩ | ⟨q, hq, rfl⟩)
      · exact ⟨Or.inl ⟨q, hq, rfl⟩, fun e => ii_irr (e ▸ hu q hq)⟩
      · exact ⟨Or.inr (Or.inr ⟨q, hq, rfl⟩), fun e => ii_irr (e ▸ hv q hq)⟩
    · rintro ⟨h | h | h, hne⟩
      · exact Or.inl h
      · exact absurd h.symm hne
      · exact Or.inr h
  refine ⟨_, Or.inr ⟨i, hi, rfl, rfl, ?_⟩, ?_⟩
  · rw [cd_srt si (hP i hi), cd_srt sz hkz, List.length_append]
    congr 1
    omega
  have hset : JInv (jup N5 4 i t) K5 (va_up xs i (us ++ vs)) (ex :: fl) := by
    refine hI.set hi ?_ ?_ sz (by simp; omega) (free_sm (free_sm hf4 s5 (by decide) (by decide)) (sm_jup (ks := [4]) (by simp)) (by decide) (by decide)) ?_ ?_ (fun _ _ => rfl)
    · intro j hj hji
      rw [jup_n hji, s25 4 (by decide)]
    · rw [jup_s]
      exact ag_tr (xs := []) (ag_jupk (by decide)) t5 (by simp)
    · rw [exs, pm_ct]
      intro q
      simp only [List.count_append, List.count_cons]
      omega
    · refine ag_trans g3 ?_ (fun q hq => List.mem_append_left _ hq) (fun _ h => h)
      refine ag_trans (g4 []) ?_ (by simp) (fun _ h => h)
      refine ag_trans g5 (ag_jupk (xs := []) (by decide)) ?_ (by simp)
      intro q hq
      rw [exs]
      rcases List.mem_append.mp hq with h | h
      · simp [h]
      · simp [h]
  exact rep_set hI hP hset (fun _ _ => rfl) hkz
theorem c_clear (l : Launch) (N : Nat → Nat → Nat) (K : Nat → Nat → Int32) {P : jP} (hR : JRep N K P) (s0 : Int32) : jI l jw jty yX0_clear cX0_clear 3 .int 2 [.int s0] N K (fun r N1 K1 => ∃ P1, A_clear P s0 r P1 ∧ JRep N1 K1 P1) := by
  obtain ⟨xs, fl, hI, hP⟩ := hR
  refine jI_of (k := 2) (kN := 1) (L := fun g : jG => [some (.ref g.2.1), some (.int s0), none]) (by decide) (fun g => rfl) (fun g => rfl) (fun g => by simp [Value.category]) ?_
  intro g p e s m args below meth c A C hret
  refine jr_al0 C dX0_clear_0 ?_
  refine jr_il1 C dX0_clear_1 ?_
  refine jc_isSet C dX0_clear_2 ⟨by decide, by decide⟩ (Nat.le_of_ble_eq_true rfl) (m_isSet l N K s0) (fun r N1 K1 hp => ?_)
  obtain ⟨⟨b, rfl, hb⟩, rfl, rfl⟩ := hp
  refine jr_ifN_ne C dX0_clear_5 (by omega) (fun hc => ?_) (fun hc => ?_)
  rotate_left
  · have hj : ¬ jok s0 := by
      rcases hb with ⟨h, -⟩ | ⟨-, h⟩
      · omega
      · exact h
    refine jr_icm1 C dX0_clear_8 ?_
    refine jr_iret C hret dX0_clear_9 ?_
    exact ⟨P, Or.inl ⟨hj, rfl, rfl⟩, xs, fl, hI, hP⟩
  have hj : jok s0 := by
    rcases hb with ⟨-, h⟩ | ⟨h, -⟩
    · exact h
    · exact absurd h hc
  obtain ⟨i, hi, rfl⟩ := hj
  obtain ⟨ti, si, li⟩ := hI.2.1 i hi
  have bt := tr_lt ti
  have lt := tr_len hI.1 ti
  have hlen := hI.len
  have hln := ln_1 (xs := xs) (fl := fl) hi
  rw [hI.2.2.2.2.2] at hln
  refine jr_al0 C dX0_clear_10 ?_
  refine jg_count C dX0_clear_11 ?_
  refine jr_al0 C dX0_clear_14 ?_
  refine jg_rootOf C dX0_clear_15 ?_
  refine jr_il1 C dX0_clear_18 ?_
  refine jl_rootOf C dX0_clear_19 (by omega) ?_
  refine jl_count C dX0_clear_20 (by omega) ?_
  refine jr_is2 C dX0_clear_21 ?_
  refine jr_al0 C dX0_clear_22 ?_
  refine jr_al0 C dX0_clear_23 ?_
  refine jg_rootOf C dX0_clear_24 ?_
  refine jr_il1 C dX0_clear_27 ?_
  refine jl_rootOf C dX0_clear_28 (by omega) ?_
  refine jc_releaseTree C dX0_clear_29 ⟨by decide, by decide⟩ (Nat.le_of_ble_eq_true rfl) (m_releaseTree l N1 K1 ti hI.2.2.1 (by omega) (by omega)) (fun N2 K2 hp => ?_)
  obtain ⟨f2, hf2, p2, s2, rfl⟩ := hp
  refine jr_al0 C dX0_clear_32 ?_
  refine jg_rootOf C dX0_clear_33 ?_
  refine jr_il1 C dX0_clear_36 ?_
  refine jr_ic0 C dX0_clear_37 ?_
  refine js_rootOf C dX0_clear_38 (by omega) (by omega) ?_
  refine jr_il2 C dX0_clear_39 ?_
  refine jr_iret C hret dX0_clear_40 ?_
  have hkz : ∀ k, hk K2 [] k ↔ False := fun k => ⟨fun h => hk_nil h, fun h => h.elim⟩
  refine ⟨_, Or.inr ⟨i, hi, rfl, by rw [cd_srt si (hP i hi), lt], rfl⟩, ?_⟩
  have hset : JInv (jup N2 4 i 0) K2 (va_up xs i []) f2 := by
    refine hI.set hi ?_ ?_ List.Pairwise.nil (by simp) (free_sm hf2 (sm_jup (ks := [4]) (by simp)) (by decide) (by decide)) p2 ?_ (fun _ _ => rfl)
    · intro j hj hji
      rw [jup_n hji, s2 4 (by decide)]
    · rw [jup_s]
      exact tr_nil
    · exact ag_trans (sm_ag (xs := []) s2 (by decide) (by decide) (by decide)) (ag_jupk (xs := []) (by decide)) (by simp) (by simp)
  exact rep_set hI hP hset (fun _ _ => rfl) hkz
end
section
/-! JoinTrees: removeRange, split -/
theorem on_len (a : Nat) : (on a).length ≤ 1 := by
  unfold on
  split <;> simp
theorem c_removeRange (l : Launch) (N : Nat → Nat → Nat) (K : Nat → Nat → Int32) {P : jP} (hR : JRep N K P) (s0 x y : Int32) : jI l jw jty yX0_removeRange cX0_removeRange 8 .int 6 [.int s0, .int x, .int y] N K (fun r N1 K1 => ∃ P1, A_rr P s0 x y r P1 ∧ JRep N1 K1 P1) := by
  obtain ⟨xs, fl, hI, hP⟩ := hR
  refine jI_of (k := 6) (kN := 4) (L := fun g : jG => [some (.ref g.2.1), some (.int s0), some (.int x), some (.int y), none, none, none, none]) (by decide) (fun g => rfl) (fun g => rfl) (fun g => by simp [Value.category]) ?_
  intro g p e s m args below meth c A C hret
  refine jr_al0 C dX0_removeRange_0 ?_
  refine jr_il1 C dX0_removeRange_1 ?_
  refine jc_isSet C dX0_removeRange_2 ⟨by decide, by decide⟩ (Nat.le_of_ble_eq_true rfl) (m_isSet l N K s0) (fun r N1 K1 hp => ?_)
  obtain ⟨⟨b, rfl, hb⟩, rfl, rfl⟩ := hp
  refine jr_ifN_ne C dX0_removeRange_5 (by omega) (fun hc => ?_) (fun hc => ?_)
  rotate_left
  · have hj : ¬ jok s0 := by
      rcases hb with ⟨h, -⟩ | ⟨-, h⟩
      · omega
      · exact h
    refine jr_icm1 C dX0_removeRange_8 ?_
    refine jr_iret C hret dX0_removeRange_9 ?_
    exact ⟨P, Or.inl ⟨hj, rfl, rfl⟩, xs, fl, hI, hP⟩
  have hj : jok s0 := by
    rcases hb with ⟨-, h⟩ | ⟨h, -⟩
    · exact h
    · exact absurd h hc
  obtain ⟨i, hi, rfl⟩ := hj
  obtain ⟨ti, si, li⟩ := hI.2.1 i hi
  have bt := tr_lt ti
  have lt := tr_len hI.1 ti
  refine jr_il2 C dX0_removeRange_10 ?_
  refine jr_il3 C dX0_removeRange_11 ?_
  refine jr_cmp_le C dX0_removeRange_12 (fun hd => ?_) (fun hd => ?_)
  rotate_left
  · have hsame : ∀ k, (P i k ∧ ¬ (x ≤ k ∧ k ≤ y)) ↔ P i k := by
      intro k
      refine ⟨fun h => h.1, fun h => ⟨h, fun e => hd ?_⟩⟩
      rw [Int32.le_iff_toInt_le] at e ⊢
      rw [Int32.le_iff_toInt_le] at e
      omega
    refine jr_ic0 C dX0_removeRange_15 ?_
    refine jr_iret C hret dX0_removeRange_16 ?_
    refine ⟨P, Or.inr ⟨i, hi, rfl, (vu_same hsame).symm, ?_⟩, xs, fl, hI, hP⟩
    rw [show (fun k => P i k ∧ ¬ (x ≤ k ∧ k ≤ y)) = P i from funext (fun k => propext (hsame k)), Nat.sub_self]
  refine jr_al0 C dX0_removeRange_17 ?_
  refine jg_count C dX0_removeRange_18 ?_
  refine jr_al0 C dX0_removeRange_21 ?_
  refine jg_rootOf C dX0_removeRange_22 ?_
  refine jr_il1 C dX0_removeRange_25 ?_
  refine jl_rootOf C dX0_removeRange_26 (by omega) ?_
  refine jl_count C dX0_removeRange_27 (by omega) ?_
  refine jr_top (v := (xs i).length) (lt) ?_
  refine jr_is4 C dX0_removeRange_28 ?_
  refine jr_al0 C dX0_removeRange_30 ?_
  refine jr_al0 C dX0_removeRange_31 ?_
  refine jg_rootOf C dX0_removeRange_32 ?_
  refine jr_il1 C dX0_removeRange_35 ?_
  refine jl_rootOf C dX0_removeRange_36 (by omega) ?_
  refine jr_il2 C dX0_removeRange_37 ?_
  refine jc_splitTree C dX0_removeRange_38 ⟨by decide, by decide⟩ (Nat.le_of_ble_eq_true rfl) (m_splitTree l N1 K1 (x := x) hI.1 ti si (by omega)) (fun N2 K2 hp => ?_)
  obtain ⟨us, ws, tu, tw, hor, hu, hw, g2, s2, f7, rfl⟩ := hp
  obtain ⟨lo, elo⟩ : ∃ lo, N2 10 0 = lo := ⟨_, rfl⟩
  obtain ⟨wn, ewn⟩ : ∃ wn, N2 11 0 = wn := ⟨_, rfl⟩
  obtain ⟨ex, eex⟩ : ∃ ex, N2 12 0 = ex := ⟨_, rfl⟩
  rw [elo] at tu
  rw [ewn] at tw
  rw [eex] at hor
  have exs : xs i = us ++ (on ex ++ ws) := by
    rcases hor with ⟨e, e2⟩ | ⟨e, -, e2, -⟩
    · rw [e, e2]; rfl
    · rw [on_p e, e2]; rfl
  have hex : ∀ q ∈ on ex, K2 2 q = x := by
    rcases hor with ⟨e, -⟩ | ⟨e, -, -, ek⟩
    · rw [e]; intro q hq; cases hq
    · rw [on_p e]; intro q hq; simp at hq; rw [hq]; exact ek
  have bex : ex < 256 := by
    rcases hor with ⟨e, -⟩ | ⟨-, e, -⟩
    · omega
    · exact e
  have hlen := hI.len
  have hf2 := free_sm hI.2.2.1 s2 (by decide) (by decide)
  have hol := on_len ex
  have lxs : (xs i).length = us.length + (on ex).length + ws.length := by rw [exs]; simp; omega
  have blo := tr_lt tu
  have bwn := tr_lt tw
  have z2 : N2 3 0 = 0 := ag_z g2 hI.1 (fun q hq => (tr_mem ti q hq).1)
  have six : srt K2 (us ++ (on ex ++ ws)) := exs ▸ si
  have su := (srt_app.mp six).1
  have sw := (srt_app.mp (srt_app.mp six).2.1).2.1
  have hcT : ∀ q, us.count q + (on ex).count q + ws.count q + fl.count q ≤ 1 := by
    intro q
    have h1 := hI.2.2.2.2.1 q
    have h2 := ct_1 (xs := xs) (fl := fl) (q := q) hi
    rw [exs] at h2
    simp only [List.count_append] at h2
    omega
  have hln := ln_1 (xs := xs) (fl := fl) hi
  rw [hI.2.2.2.2.2] at hln
  refine jr_al0 C dX0_removeRange_41 ?_
  refine jg_lowPart C dX0_removeRange_42 ?_
  refine jr_top (v := lo) (elo) ?_
  refine jr_is5 C dX0_removeRange_45 ?_
  refine jr_al0 C dX0_removeRange_47 ?_
  refine jg_highPart C dX0_removeRange_48 ?_
  refine jr_top (v := wn) (ewn) ?_
  refine jr_is6 C dX0_removeRange_51 ?_
  refine jr_al0 C dX0_removeRange_53 ?_
  refine jr_al0 C dX0_removeRange_54 ?_
  refine jg_exact C dX0_removeRange_55 ?_
  refine jr_top (v := ex) (eex) ?_
  refine jc_release C dX0_removeRange_58 ⟨by decide, by decide⟩ (Nat.le_of_ble_eq_true rfl) (m_rel l N2 K2 bex hf2 (by omega)) (fun N3 K3 hp => ?_)
  obtain ⟨hf3, s3, rfl⟩ := hp
  have g3 : ∀ zs, ag N2 N3 zs := fun zs => sm_ag s3 (by decide) (by decide) (by decide)
  have z3 : N3 3 0 = 0 := by rw [s3 3 (by decide)]; exact z2
  refine jr_al0 C dX0_removeRange_61 ?_
  refine jr_il6 C dX0_removeRange_62 ?_
  refine jr_il3 C dX0_removeRange_64 ?_
  refine jc_splitTree C dX0_removeRange_65 ⟨by decide, by decide⟩ (Nat.le_of_ble_eq_true rfl) (m_splitTree l N3 K3 (x := y) z3 (ag_tr (g3 []) tw (by simp)) sw (by omega)) (fun N4 K4 hp => ?_)
  obtain ⟨ms, vs, tm, tv, hor2, hm, hv, g4, s4, f74, rfl⟩ := hp
  obtain ⟨mn, emn⟩ : ∃ mn, N4 10 0 = mn := ⟨_, rfl⟩
  obtain ⟨up, eup⟩ : ∃ up, N4 11 0 = up := ⟨_, rfl⟩
  obtain ⟨ey, eey⟩ : ∃ ey, N4 12 0 = ey := ⟨_, rfl⟩
  rw [emn] at tm
  rw [eup] at tv
  rw [eey] at hor2
  have ews : ws = ms ++ (on ey ++ vs) := by
    rcases hor2 with ⟨e, e2⟩ | ⟨e, -, e2, -⟩
    · rw [e, e2]; rfl
    · rw [on_p e, e2]; rfl
  have hey : ∀ q ∈ on ey, K4 2 q = y := by
    rcases hor2 with ⟨e, -⟩ | ⟨e, -, -, ek⟩
    · rw [e]; intro q hq; cases hq
    · rw [on_p e]; intro q hq; simp at hq; rw [hq]; exact ek
  have bey : ey < 256 := by
    rcases hor2 with ⟨e, -⟩ | ⟨-, e, -⟩
    · omega
    · exact e
  have hol2 := on_len ey
  have lws : ws.length = ms.length + (on ey).length + vs.length := by rw [ews]; simp; omega
  have bmn := tr_lt tm
  have bup := tr_lt tv
  have z4 : N4 3 0 = 0 := ag_z g4 z3 (fun q hq => (tr_mem tw q hq).1)
  have swx : srt K4 (ms ++ (on ey ++ vs)) := ews ▸ sw
  have sv := (srt_app.mp (srt_app.mp swx).2.1).2.1
  have hf4 := free_sm hf3 s4 (by decide) (by decide)
  have hcT2 : ∀ q, us.count q + (on ex).count q + (ms.count q + ((on ey).count q + vs.count q)) + fl.count q ≤ 1 := by
    intro q
    have h1 := hcT q
    rw [ews] at h1
    simp only [List.count_append] at h1
    omega
  have tu4 : tr N4 lo us := ag_tr g4 (ag_tr (g3 []) tu (by simp)) (dj_of (fun q => by have := hcT q; omega))
  refine jr_al0 C dX0_removeRange_68 ?_
  refine jg_highPart C dX0_removeRange_69 ?_
  refine jr_top (v := up) (eup) ?_
  refine jr_is7 C dX0_removeRange_72 ?_
  refine jr_al0 C dX0_removeRange_74 ?_
  refine jr_al0 C dX0_removeRange_75 ?_
  refine jg_exact C dX0_removeRange_76 ?_
  refine jr_top (v := ey) (eey) ?_
  refine jc_release C dX0_removeRange_79 ⟨by decide, by decide⟩ (Nat.le_of_ble_eq_true rfl) (m_rel l N4 K4 bey hf4 (by simp only [List.length_append]; omega)) (fun N5 K5 hp => ?_)
  obtain ⟨hf5, s5, rfl⟩ := hp
  have g5 : ∀ zs, ag N4 N5 zs := fun zs => sm_ag s5 (by decide) (by decide) (by decide)
  refine jr_al0 C dX0_removeRange_82 ?_
  refine jr_al0 C dX0_removeRange_83 ?_
  refine jg_lowPart C dX0_removeRange_84 ?_
  refine jr_top (v := mn) (by rw [s5 10 (by decide)]; exact emn) ?_
  refine jc_releaseTree C dX0_removeRange_87 ⟨by decide, by decide⟩ (Nat.le_of_ble_eq_true rfl) (m_releaseTree l N5 K5 (ag_tr (g5 []) tm (by simp)) hf5 (by omega) (by simp only [List.length_append]; omega)) (fun N6 K6 hp => ?_)
  obtain ⟨f6, hf6, p6, s6, rfl⟩ := hp
  have g6 : ∀ zs, ag N5 N6 zs := fun zs => sm_ag s6 (by decide) (by decide) (by decide)
  have g46 : ∀ zs, ag N4 N6 zs := fun zs => ag_trans (g5 []) (g6 []) (by simp) (by simp)
  have z6 : N6 3 0 = 0 := by rw [s6 3 (by decide), s5 3 (by decide)]; exact z4
  have hnd2 : (us ++ vs).Nodup := by
    rw [nd_ct]
    intro q
    have := hcT2 q
    simp only [List.count_append]
    omega
  refine jr_al0 C dX0_removeRange_90 ?_
  refine jg_rootOf C dX0_removeRange_91 ?_
  refine jr_il1 C dX0_removeRange_94 ?_
  refine jr_al0 C dX0_removeRange_95 ?_
  refine jr_il5 C dX0_removeRange_96 ?_
  refine jr_il7 C dX0_removeRange_98 ?_
  refine jc_joinTwo C dX0_removeRange_100 ⟨by decide, by decide⟩ (Nat.le_of_ble_eq_true rfl) (m_joinTwo l N6 K6 z6 (ag_tr (g46 []) tu4 (by simp)) (ag_tr (g46 []) tv (by simp)) su hnd2 (by omega) (by omega)) (fun r N7 K7 hp => ?_)
  obtain ⟨t, rfl, t7, g7, s7, rfl⟩ := hp
  have b7 := tr_lt t7
  have z7 : N7 3 0 = 0 := by
    refine ag_z g7 z6 (fun q hq => ?_)
    rcases List.mem_append.mp hq with h | h
    · exact (tr_mem tu q h).1
    · exact (tr_mem tv q h).1
  have l7 := tr_len z7 t7
  rw [List.length_append] at l7
  have hle : us.length + vs.length ≤ (xs i).length := by omega
  refine jr_i2s C dX0_removeRange_103 (by omega) ?_
  refine js_rootOf C dX0_removeRange_104 (by omega) (by omega) ?_
  refine jr_il4 C dX0_removeRange_105 ?_
  refine jr_al0 C dX0_removeRange_107 ?_
  refine jg_count C dX0_removeRange_108 ?_
  refine jr_al0 C dX0_removeRange_111 ?_
  refine jg_rootOf C dX0_removeRange_112 ?_
  refine jr_il1 C dX0_removeRange_115 ?_
  refine jl_rootOf C dX0_removeRange_116 (by omega) ?_
  refine jr_top (v := t) (by rw [jup_s]) ?_
  refine jl_count C dX0_removeRange_117 (by omega) ?_
  refine jr_top (v := us.length + vs.length) (by rw [jup_k (by decide)]; exact l7) ?_
  refine jr_isub C dX0_removeRange_118 (by omega) ?_
  refine jr_iret C hret dX0_removeRange_119 ?_
  have s17 : sm N1 N7 [0, 1, 3, 5, 6, 7, 8, 9, 10, 11, 12] := sm_trans (sm_sub s2 (by decide)) (sm_trans (sm_sub s3 (by decide)) (sm_trans (sm_sub s4 (by decide)) (sm_trans (sm_sub s5 (by decide)) (sm_trans (sm_sub s6 (by decide)) (sm_sub s7 (by decide))))))
  have hxy : ∀ q ∈ us, ∀ r ∈ vs, K7 2 q < K7 2 r := by
    intro q hq r hr
    exact (srt_app.mp six).2.2 q hq r (by rw [ews]; simp [hr])
  have sz : srt K7 (us ++ vs) := srt_app.mpr ⟨su, sv, hxy⟩
  have hkz : ∀ k, hk K7 (us ++ vs) k ↔ (P i k ∧ ¬ (x ≤ k ∧ k ≤ y)) := by
    intro k
    rw [← hP i hi k, exs, ews]
    simp only [hk_app]
    have a1 : hk K7 us k → k < x := by rintro ⟨q, hq, rfl⟩; exact hu q hq
    have a2 : hk K7 (on ex) k → k = x := by rintro ⟨q, hq, rfl⟩; exact hex q hq
    have a3 : hk K7 ms k → x < k ∧ k < y := by rintro ⟨q, hq, rfl⟩; exact ⟨hw q (by rw [ews]; simp [hq]), hm q hq⟩
    have a4 : hk K7 (on ey) k → k = y := by rintro ⟨q, hq, rfl⟩; exact hey q hq
    have a5 : hk K7 vs k → y < k := by rintro ⟨q, hq, rfl⟩; exact hv q hq
    simp only [Int32.lt_iff_toInt_lt, Int32.le_iff_toInt_le, ← Int32.toInt_inj] at a1 a2 a3 a4 a5 hd ⊢
    constructor
    · rintro (h | h)
      · exact ⟨Or.inl h, by have := a1 h; omega⟩
      · exact ⟨Or.inr (Or.inr (Or.inr (Or.inr h))), by have := a5 h; omega⟩
    · rintro ⟨h | h | h | h | h, hn⟩
      · exact Or.inl h
      · exact absurd (by have := a2 h; omega) hn
      · exact absurd (by have := a3 h; omega) hn
      · exact absurd (by have := a4 h; omega) hn
      · exact Or.inr h
  refine ⟨_, Or.inr ⟨i, hi, rfl, rfl, ?_⟩, ?_⟩
  · rw [cd_srt si (hP i hi), cd_srt sz hkz, List.length_append]
  have hset : JInv (jup N7 4 i t) K7 (va_up xs i (us ++ vs)) f6 := by
    refine hI.set hi ?_ ?_ sz (by simp; omega) (free_sm (free_sm hf6 s7 (by decide) (by decide)) (sm_jup (ks := [4]) (by simp)) (by decide) (by decide)) ?_ ?_ (fun _ _ => rfl)
    · intro j hj hji
      rw [jup_n hji, s17 4 (by decide)]
    · rw [jup_s]
      exact ag_tr (xs := []) (ag_jupk (by decide)) t7 (by simp)
    · rw [exs, ews, pm_ct]
      intro q
      have h1 := pm_ct.mp p6 q
      simp only [List.count_append] at h1 ⊢
      omega
    · refine ag_trans g2 ?_ (fun q hq => List.mem_append_left _ hq) (fun _ h => h)
      refine ag_trans (g3 []) ?_ (by simp) (fun _ h => h)
      refine ag_trans g4 ?_ (fun q hq => by rw [exs]; simp [hq]) (fun _ h => h)
      refine ag_trans (g46 []) ?_ (by simp) (fun _ h => h)
      refine ag_trans g7 (ag_jupk (xs := []) (by decide)) ?_ (by simp)
      intro q hq
      rw [exs, ews]
      rcases List.mem_append.mp hq with h | h
      · simp [h]
      · simp [h]
  exact rep_set hI hP hset (fun _ _ => rfl) hkz
theorem c_split (l : Launch) (N : Nat → Nat → Nat) (K : Nat → Nat → Int32) {P : jP} (hR : JRep N K P) (s0 x d0 : Int32) : jI l jw jty yX0_split cX0_split 6 .int 5 [.int s0, .int x, .int d0] N K (fun r N1 K1 => ∃ P1, A_split P s0 x d0 r P1 ∧ JRep N1 K1 P1) := by
  obtain ⟨xs, fl, hI, hP⟩ := hR
  refine jI_of (k := 5) (kN := 2) (L := fun g : jG => [some (.ref g.2.1), some (.int s0), some (.int x), some (.int d0), none, none]) (by decide) (fun g => rfl) (fun g => rfl) (fun g => by simp [Value.category]) ?_
  intro g p e s m args below meth c A C hret
  refine jr_al0 C dX0_split_0 ?_
  refine jr_il1 C dX0_split_1 ?_
  refine jc_isSet C dX0_split_2 ⟨by decide, by decide⟩ (Nat.le_of_ble_eq_true rfl) (m_isSet l N K s0) (fun r N1 K1 hp => ?_)
  obtain ⟨⟨b, rfl, hb⟩, rfl, rfl⟩ := hp
  refine jr_ifN_eq C dX0_split_5 (by omega) (fun hc => ?_) (fun hc => ?_)
  · have hj : ¬ jok s0 := by
      rcases hb with ⟨h, -⟩ | ⟨-, h⟩
      · omega
      · exact h
    refine jr_icm1 C dX0_split_16 ?_
    refine jr_iret C hret dX0_split_17 ?_
    exact ⟨P, Or.inl ⟨fun h => hj h.1, rfl, rfl⟩, xs, fl, hI, hP⟩
  have hj : jok s0 := by
    rcases hb with ⟨-, h⟩ | ⟨h, -⟩
    · exact h
    · exact absurd h hc
  refine jr_al0 C dX0_split_8 ?_
  refine jr_il3 C dX0_split_9 ?_
  refine jc_isSet C dX0_split_10 ⟨by decide, by decide⟩ (Nat.le_of_ble_eq_true rfl) (m_isSet l N1 K1 d0) (fun r N2 K2 hp => ?_)
  obtain ⟨⟨b2, rfl, hb2⟩, rfl, rfl⟩ := hp
  refine jr_ifN_ne C dX0_split_13 (by omega) (fun hc2 => ?_) (fun hc2 => ?_)
  rotate_left
  · have hj : ¬ jok d0 := by
      rcases hb2 with ⟨h, -⟩ | ⟨-, h⟩
      · omega
      · exact h
    refine jr_icm1 C dX0_split_16 ?_
    refine jr_iret C hret dX0_split_17 ?_
    exact ⟨P, Or.inl ⟨fun h => hj h.2, rfl, rfl⟩, xs, fl, hI, hP⟩
  have hj2 : jok d0 := by
    rcases hb2 with ⟨-, h⟩ | ⟨h, -⟩
    · exact h
    · exact absurd h hc2
  obtain ⟨i, hi, rfl⟩ := hj
  obtain ⟨j, hjj, rfl⟩ := hj2
  obtain ⟨ti, si, li⟩ := hI.2.1 i hi
  obtain ⟨tj, sj, lj⟩ := hI.2.1 j hjj
  have bt := tr_lt ti
  have btj := tr_lt tj
  have hlen := hI.len
  refine jr_al0 C dX0_split_18 ?_
  refine jr_al0 C dX0_split_19 ?_
  refine jg_rootOf C dX0_split_20 ?_
  refine jr_il1 C dX0_split_23 ?_
  refine jl_rootOf C dX0_split_24 (by omega) ?_
  refine jr_il2 C dX0_split_25 ?_
  refine jc_splitTree C dX0_split_26 ⟨by decide, by decide⟩ (Nat.le_of_ble_eq_true rfl) (m_splitTree l N2 K2 (x := x) hI.1 ti si (by omega)) (fun N3 K3 hp => ?_)
  obtain ⟨us, vs, tu, tv, hor, hu, hv, g3, s3, f7, rfl⟩ := hp
  obtain ⟨lo, elo⟩ : ∃ lo, N3 10 0 = lo := ⟨_, rfl⟩
  obtain ⟨hn, ehn⟩ : ∃ hn, N3 11 0 = hn := ⟨_, rfl⟩
  obtain ⟨ex, eex⟩ : ∃ ex, N3 12 0 = ex := ⟨_, rfl⟩
  rw [elo] at tu
  rw [ehn] at tv
  rw [eex] at hor
  have exs : xs i = us ++ (on ex ++ vs) := by
    rcases hor with ⟨e, e2⟩ | ⟨e, -, e2, -⟩
    · rw [e, e2]; rfl
    · rw [on_p e, e2]; rfl
  have hex : ∀ q ∈ on ex, K3 2 q = x := by
    rcases hor with ⟨e, -⟩ | ⟨e, -, -, ek⟩
    · rw [e]; intro q hq; cases hq
    · rw [on_p e]; intro q hq; simp at hq; rw [hq]; exact ek
  have bex : ex < 256 := by
    rcases hor with ⟨e, -⟩ | ⟨-, e, -⟩
    · omega
    · exact e
  have hol := on_len ex
  have lxs : (xs i).length = us.length + (on ex).length + vs.length := by rw [exs]; simp; omega
  have blo := tr_lt tu
  have bhn := tr_lt tv
  have z3 : N3 3 0 = 0 := ag_z g3 hI.1 (fun q hq => (tr_mem ti q hq).1)
  have six : srt K3 (us ++ (on ex ++ vs)) := exs ▸ si
  have su := (srt_app.mp six).1
  have sup := (srt_app.mp six).2.1
  have hndx := srt_nd six
  have hf3 := free_sm hI.2.2.1 s3 (by decide) (by decide)
  have hcT : ∀ q, us.count q + ((on ex).count q + vs.count q) + fl.count q ≤ 1 := by
    intro q
    have h1 := hI.2.2.2.2.1 q
    have h2 := ct_1 (xs := xs) (fl := fl) (q := q) hi
    rw [exs] at h2
    simp only [List.count_append] at h2
    omega
  have hkl : ∀ k, hk K3 us k ↔ (P i k ∧ k < x) := by
    intro k
    rw [← hP i hi k, exs]
    simp only [hk_app]
    have a1 : hk K3 us k → k < x := by rintro ⟨q, hq, rfl⟩; exact hu q hq
    have a2 : hk K3 (on ex) k → k = x := by rintro ⟨q, hq, rfl⟩; exact hex q hq
    have a5 : hk K3 vs k → x < k := by rintro ⟨q, hq, rfl⟩; exact hv q hq
    constructor
    · intro h; exact ⟨Or.inl h, a1 h⟩
    · rintro ⟨h | h | h, hk⟩
      · exact h
      · exact absurd (a2 h ▸ hk) ii_irr
      · exact absurd (a5 h) (fun q => ii_as q hk)
  have hkh : ∀ k, hk K3 (on ex ++ vs) k ↔ (P i k ∧ ¬ k < x) := by
    intro k
    rw [← hP i hi k, exs]
    simp only [hk_app]
    have a1 : hk K3 us k → k < x := by rintro ⟨q, hq, rfl⟩; exact hu q hq
    have a2 : hk K3 (on ex) k → k = x := by rintro ⟨q, hq, rfl⟩; exact hex q hq
    have a5 : hk K3 vs k → x < k := by rintro ⟨q, hq, rfl⟩; exact hv q hq
    constructor
    · rintro (h | h)
      · exact ⟨Or.inr (Or.inl h), by rw [a2 h]; exact ii_irr⟩
      · exact ⟨Or.inr (Or.inr h), fun q => ii_as q (a5 h)⟩
    · rintro ⟨h | h | h, hk⟩
      · exact absurd (a1 h) hk
      · exact Or.inl h
      · exact Or.inr h
  have at61 : ∀ (N4 : Nat → Nat → Nat) (up : Nat), N4 3 0 = 0 → tr N4 lo us → tr N4 up (on ex ++ vs) → ag N3 N4 (on ex ++ vs) → sm N3 N4 [0, 1, 3, 7, 8, 9] → JJ p l e (jrm 5) s m args below meth c 0 0 (jQI jw jty g A below args s (fun r N1 K1 => ∃ P1, A_split P (nI i) x (nI j) r P1 ∧ JRep N1 K1 P1)) A g.1 6 (jw g N4 K3) 61 [some (.ref g.2.1), some (.int (nI i)), some (.int x), some (.int (nI j)), some (.int (nI lo)), some (.int (nI up))] [] := by
    intro N4 up z4 tl4 tu4 g4 s4
    have bup := tr_lt tu4
    have s24 : sm N2 N4 [0, 1, 3, 7, 8, 9, 10, 11, 12] := sm_trans s3 (sm_sub s4 (by decide))
    have g24 : ag N2 N4 (xs i) := ag_trans g3 g4 (fun _ h => h) (fun q hq => by rw [exs]; exact List.mem_append_right _ hq)
    have hf4 := free_sm hf3 s4 (by decide) (by decide)
    obtain ⟨N5, e5⟩ : ∃ N5, N5 = jup N4 4 i lo := ⟨_, rfl⟩
    have g5 : ∀ zs, ag N4 N5 zs := fun zs => by rw [e5]; exact ag_jupk (by decide)
    have s5 : sm N4 N5 [4] := by rw [e5]; exact sm_jup (by simp)
    by_cases hij : j = i
    · subst hij
      have hln := ln_1 (xs := xs) (fl := fl) hi
      rw [hI.2.2.2.2.2] at hln
      refine jr_al0 C dX0_split_61 ?_
      refine jg_rootOf C dX0_split_62 ?_
      refine jr_il1 C dX0_split_65 ?_
      refine jr_il4 C dX0_split_66 ?_
      refine jr_i2s C dX0_split_68 (by omega) ?_
      refine js_rootOf C dX0_split_69 (by omega) (by omega) ?_
      refine jr_al0 C dX0_split_70 ?_
      refine jr_al0 C dX0_split_71 ?_
      refine jg_rootOf C dX0_split_72 ?_
      refine jr_il3 C dX0_split_75 ?_
      refine jl_rootOf C dX0_split_76 (by omega) ?_
      refine jr_top (v := lo) (by rw [jup_s]) ?_
      rw [← e5]
      refine jc_releaseTree C dX0_split_77 ⟨by decide, by decide⟩ (Nat.le_of_ble_eq_true rfl) (m_releaseTree l N5 K3 (ag_tr (g5 []) tl4 (by simp)) (free_sm hf4 s5 (by decide) (by decide)) (by omega) (by omega)) (fun N6 K6 hp => ?_)
      obtain ⟨f6, hf6, p6, s6, rfl⟩ := hp
      have g6 : ∀ zs, ag N5 N6 zs := fun zs => sm_ag s6 (by decide) (by decide) (by decide)
      have g46 : ∀ zs, ag N4 N6 zs := fun zs => ag_trans (g5 []) (g6 []) (by simp) (by simp)
      have z6 : N6 3 0 = 0 := by rw [s6 3 (by decide), s5 3 (by decide)]; exact z4
      have t6 := ag_tr (g46 []) tu4 (by simp)
      have l6 := tr_len z6 t6
      refine jr_al0 C dX0_split_80 ?_
      refine jg_rootOf C dX0_split_81 ?_
      refine jr_il3 C dX0_split_84 ?_
      refine jr_il5 C dX0_split_85 ?_
      refine jr_i2s C dX0_split_87 (by omega) ?_
      refine js_rootOf C dX0_split_88 (by omega) (by omega) ?_
      refine jr_al0 C dX0_split_89 ?_
      refine jg_count C dX0_split_90 ?_
      refine jr_il5 C dX0_split_93 ?_
      refine jl_count C dX0_split_95 (by omega) ?_
      refine jr_top (v := (on ex ++ vs).length) (by rw [jup_k (by decide)]; exact l6) ?_
      refine jr_iret C hret dX0_split_96 ?_
      refine ⟨_, Or.inr ⟨j, j, hi, hi, rfl, rfl, rfl, ?_⟩, ?_⟩
      · rw [cd_srt sup hkh]
      have hset : JInv (jup N6 4 j up) K6 (va_up xs j (on ex ++ vs)) f6 := by
        refine hI.set hi ?_ ?_ sup (by simp; omega) (free_sm hf6 (sm_jup (ks := [4]) (by simp)) (by decide) (by decide)) ?_ ?_ (fun _ _ => rfl)
        · intro k hk hkj
          rw [jup_n hkj, s6 4 (by decide), e5, jup_n hkj, s24 4 (by decide)]
        · rw [jup_s]
          exact ag_tr (xs := []) (ag_jupk (by decide)) t6 (by simp)
        · rw [exs, pm_ct]
          intro q
          have h1 := pm_ct.mp p6 q
          simp only [List.count_append] at h1 ⊢
          omega
        · refine ag_trans g24 (ag_trans (g46 []) (ag_jupk (xs := []) (by decide)) (zs := []) (by simp) (by simp)) (fun q hq => List.mem_append_left _ hq) (by simp)
      have h9 := rep_set hI hP hset (fun _ _ => rfl) hkh
      have : va_up (va_up P j (fun k => P j k ∧ k < x)) j (fun k => P j k ∧ ¬ k < x) = va_up P j (fun k => P j k ∧ ¬ k < x) := bx_uu _ _ _ _
      rw [this]
      exact h9
    · have hne : i ≠ j := fun e => hij e.symm
      have tj2 : tr N2 (N2 4 j) (xs j) := tj
      have tj4 : tr N4 (N2 4 j) (xs j) := ag_tr g24 tj2 (fun q hq h => hI.dj2 hi hjj hij q hq (List.mem_append_left _ h))
      have hln : (xs j).length + fl.length ≤ 255 := by have := ln_1 (xs := xs) (fl := fl) hjj; rw [hI.2.2.2.2.2] at this; exact this
      refine jr_al0 C dX0_split_61 ?_
      refine jg_rootOf C dX0_split_62 ?_
      refine jr_il1 C dX0_split_65 ?_
      refine jr_il4 C dX0_split_66 ?_
      refine jr_i2s C dX0_split_68 (by omega) ?_
      refine js_rootOf C dX0_split_69 (by omega) (by omega) ?_
      refine jr_al0 C dX0_split_70 ?_
      refine jr_al0 C dX0_split_71 ?_
      refine jg_rootOf C dX0_split_72 ?_
      refine jr_il3 C dX0_split_75 ?_
      refine jl_rootOf C dX0_split_76 (by omega) ?_
      refine jr_top (v := N2 4 j) (by rw [jup_n hij, s24 4 (by decide)]) ?_
      rw [← e5]
      refine jc_releaseTree C dX0_split_77 ⟨by decide, by decide⟩ (Nat.le_of_ble_eq_true rfl) (m_releaseTree l N5 K3 (ag_tr (g5 []) tj4 (by simp)) (free_sm hf4 s5 (by decide) (by decide)) (by omega) (by omega)) (fun N6 K6 hp => ?_)
      obtain ⟨f6, hf6, p6, s6, rfl⟩ := hp
      have g6 : ∀ zs, ag N5 N6 zs := fun zs => sm_ag s6 (by decide) (by decide) (by decide)
      have g46 : ∀ zs, ag N4 N6 zs := fun zs => ag_trans (g5 []) (g6 []) (by simp) (by simp)
      have z6 : N6 3 0 = 0 := by rw [s6 3 (by decide), s5 3 (by decide)]; exact z4
      have t6 := ag_tr (g46 []) tu4 (by simp)
      have tl6 := ag_tr (g46 []) tl4 (by simp)
      have l6 := tr_len z6 t6
      refine jr_al0 C dX0_split_80 ?_
      refine jg_rootOf C dX0_split_81 ?_
      refine jr_il3 C dX0_split_84 ?_
      refine jr_il5 C dX0_split_85 ?_
      refine jr_i2s C dX0_split_87 (by omega) ?_
      refine js_rootOf C dX0_split_88 (by omega) (by omega) ?_
      refine jr_al0 C dX0_split_89 ?_
      refine jg_count C dX0_split_90 ?_
      refine jr_il5 C dX0_split_93 ?_
      refine jl_count C dX0_split_95 (by omega) ?_
      refine jr_top (v := (on ex ++ vs).length) (by rw [jup_k (by decide)]; exact l6) ?_
      refine jr_iret C hret dX0_split_96 ?_
      refine ⟨_, Or.inr ⟨i, j, hi, hjj, rfl, rfl, rfl, ?_⟩, ?_⟩
      · rw [cd_srt sup hkh]
      have hset : JInv (jup N6 4 j up) K6 (va_up (va_up xs i us) j (on ex ++ vs)) f6 := by
        refine hI.set2 hi hjj hij ?_ ?_ su (by omega) ?_ sup (by simp; omega) (free_sm hf6 (sm_jup (ks := [4]) (by simp)) (by decide) (by decide)) ?_ ?_
        · intro k hk hki hkj
          rw [jup_n hkj, s6 4 (by decide), e5, jup_n hki, s24 4 (by decide)]
        · rw [jup_n hne, s6 4 (by decide), e5, jup_s]
          exact ag_tr (xs := []) (ag_jupk (by decide)) tl6 (by simp)
        · rw [jup_s]
          exact ag_tr (xs := []) (ag_jupk (by decide)) t6 (by simp)
        · rw [exs, pm_ct]
          intro q
          have h1 := pm_ct.mp p6 q
          simp only [List.count_append] at h1 ⊢
          omega
        · refine ag_trans g24 (ag_trans (g46 []) (ag_jupk (xs := []) (by decide)) (zs := []) (by simp) (by simp)) (fun q hq => List.mem_append_left _ hq) (by simp)
      refine ⟨_, _, hset, ?_⟩
      intro k hk kk
      by_cases hkj : k = j
      · subst hkj
        simp only [va_up, if_true]
        exact hkh kk
      · by_cases hki : k = i
        · subst hki
          simp only [va_up, if_neg hkj, if_true]
          exact hkl kk
        · simp only [va_up, if_neg hkj, if_neg hki]
          exact hP k hk kk
  refine jr_al0 C dX0_split_29 ?_
  refine jg_lowPart C dX0_split_30 ?_
  refine jr_top (v := lo) (elo) ?_
  refine jr_is4 C dX0_split_33 ?_
  refine jr_al0 C dX0_split_35 ?_
  refine jg_highPart C dX0_split_36 ?_
  refine jr_top (v := hn) (ehn) ?_
  refine jr_is5 C dX0_split_39 ?_
  refine jr_al0 C dX0_split_41 ?_
  refine jg_exact C dX0_split_42 ?_
  refine jr_top (v := ex) (eex) ?_
  refine jr_ifN_eq C dX0_split_45 (by omega) (fun hz => ?_) (fun hz => ?_)
  · subst hz
    exact at61 N3 hn z3 tu tv ag_rfl sm_rfl
  · have hx0 : 0 < ex := by omega
    have hnd2 : ([] ++ ex :: vs).Nodup := by
      have := (List.nodup_append.mp hndx).2.1
      rw [on_p hx0] at this
      exact this
    refine jr_al0 C dX0_split_48 ?_
    refine jr_ic0 C dX0_split_49 ?_
    refine jr_al0 C dX0_split_50 ?_
    refine jg_exact C dX0_split_51 ?_
    refine jr_top (v := ex) (eex) ?_
    refine jr_il5 C dX0_split_54 ?_
    refine jc_join C dX0_split_56 ⟨by decide, by decide⟩ (Nat.le_of_ble_eq_true rfl) (m_join l N3 K3 (a := 0) (mi := ex) (b := hn) (xs := []) (ys := vs) z3 tr_nil tv hx0 bex hnd2 (by simp; omega) (by rw [f7]; simp) (by rw [f7]; omega)) (fun r N4 K4 hp => ?_)
    obtain ⟨t, rfl, t4, g4, s4, -, -, rfl⟩ := hp
    refine jr_is5 C dX0_split_59 ?_
    have eon : on ex ++ vs = [] ++ ex :: vs := by rw [on_p hx0]; rfl
    refine at61 N4 t (ag_z g4 z3 ?_) (ag_tr g4 tu ?_) (eon ▸ t4) (eon ▸ g4) s4
    · intro q hq
      rcases List.mem_cons.mp hq with h | h
      · rw [h]; exact hx0
      · exact (tr_mem tv q h).1
    · rw [← eon]
      exact dj_of (fun q => by have := hcT q; simp only [List.count_append]; omega)
end
section
/-! JoinTrees: combinedEither, combine, within, same -/
/-- the sets stand as they stood (N0 K0), of the nodes free then 'held' are in hand and f are free still -/
def WS (N0 : Nat → Nat → Nat) (K0 : Nat → Nat → Int32) (fl : List Nat) (N : Nat → Nat → Nat) (K : Nat → Nat → Int32) (held f : List Nat) : Prop := N 3 0 = 0 ∧ N 4 = N0 4 ∧ ag N0 N fl ∧ (∀ q, q ∉ fl → K 2 q = K0 2 q) ∧ free N f ∧ (held ++ f).Perm fl
section WSS
variable {N0 N N1 : Nat → Nat → Nat} {K0 K K1 : Nat → Nat → Int32} {xs : Nat → List Nat} {fl held f : List Nat}
theorem WS.start (hI : JInv N0 K0 xs fl) : WS N0 K0 fl N0 K0 [] fl := ⟨hI.1, rfl, ag_rfl, fun _ _ => rfl, hI.2.2.1, List.Perm.refl _⟩
theorem WS.set (hI : JInv N0 K0 xs fl) (h : WS N0 K0 fl N K held f) {i : Nat} (hi : i < 4) : tr N (N 4 i) (xs i) ∧ srt K (xs i) ∧ (xs i).length ≤ 20 ∧ (∀ k, hk K (xs i) k ↔ hk K0 (xs i) k) := by
  obtain ⟨-, e4, hg, hK, -, -⟩ := h
  obtain ⟨t1, s1, l1⟩ := hI.2.1 i hi
  have hd : ∀ q ∈ xs i, q ∉ fl := fun q hq h => hI.dj hi q h hq
  have hk1 : ∀ q ∈ xs i, K 2 q = K0 2 q := fun q hq => hK q (hd q hq)
  rw [e4]
  exact ⟨ag_tr hg t1 hd, srt_ag s1 hk1, l1, fun k => hk_ag hk1⟩
theorem WS.len (hI : JInv N0 K0 xs fl) (h : WS N0 K0 fl N K held f) : held.length + f.length = fl.length := by
  have := h.2.2.2.2.2.length_eq
  rw [List.length_append] at this
  exact this
theorem WS.ctT (hI : JInv N0 K0 xs fl) (h : WS N0 K0 fl N K held f) (q : Nat) : held.count q + f.count q ≤ 1 := by
  have h1 := pm_ct.mp h.2.2.2.2.2 q
  have h2 := nd_ct.mp hI.fl_nd q
  rw [List.count_append] at h1
  omega
theorem WS.sub (h : WS N0 K0 fl N K held f) : (∀ q ∈ held, q ∈ fl) ∧ ∀ q ∈ f, q ∈ fl := ⟨fun q hq => h.2.2.2.2.2.subset (List.mem_append_left _ hq), fun q hq => h.2.2.2.2.2.subset (List.mem_append_right _ hq)⟩
end WSS
theorem m_copyW (l : Launch) {N0 N : Nat → Nat → Nat} {K0 K : Nat → Nat → Int32} {xs : Nat → List Nat} {fl held f : List Nat} (hI : JInv N0 K0 xs fl) (hW : WS N0 K0 fl N K held f) {i : Nat} (hi : i < 4) (hl : 20 ≤ f.length) : jI l jw jty yX0_copyOf cX0_copyOf 4 .int 2 [.int (nI (N 4 i))] N K (fun r N1 K1 => ∃ t ys f1, r = nI t ∧ tr N1 t ys ∧ srt K1 ys ∧ (∀ k, hk K1 ys k ↔ hk K0 (xs i) k) ∧ ys.length = (xs i).length ∧ WS N0 K0 fl N1 K1 (ys ++ held) f1 ∧ ag N N1 f ∧ (∀ q, q ∉ f → K1 2 q = K 2 q) ∧ f.length = ys.length + f1.length) := by
  obtain ⟨ti, si, li, hki⟩ := hW.set hI hi
  have hlen := hW.len hI
  have hfl := hI.len
  have hsub := hW.sub
  have hnd : f.Nodup := nd_ct.mpr (fun q => by have := hW.ctT hI q; omega)
  refine jI_post (m_copyOf l N K hW.1 ti hW.2.2.2.2.1 hnd (fun q hq => hI.2.2.2.1 q (hsub.2 q hq)) (fun q hq => hI.dj hi q (hsub.2 q hq)) (by omega) (by omega) (by omega)) ?_
  rintro r N1 K1 ⟨t, ys, f1, rfl, t1, m1, p1, hf1, g1, k1, s1⟩
  obtain ⟨w1, w2, w3, w4, w5, w6⟩ := hW
  have ml := map_len m1
  have hpl := p1.length_eq
  rw [List.length_append] at hpl
  refine ⟨t, ys, f1, rfl, t1, ?_, ?_, ml, ⟨?_, ?_, ?_, ?_, hf1, ?_⟩, g1, k1, by omega⟩
  · have h1 : (xs i).map (K 2) |>.Pairwise (· < ·) := List.pairwise_map.mpr si
    rw [← m1] at h1
    exact List.pairwise_map.mp h1
  · intro k
    rw [← hki k, ← hk_map, ← hk_map, m1]
  · exact ag_z g1 w1 (fun q hq => (hI.2.2.2.1 q (hsub.2 q hq)).1)
  · rw [s1 4 (by decide)]; exact w2
  · exact ag_trans w3 g1 (fun _ h => h) hsub.2
  · intro q hq
    rw [k1 q (fun h => hq (hsub.2 q h)), w4 q hq]
  · refine List.Perm.trans ?_ w6
    rw [pm_ct]
    intro q
    have h1 := pm_ct.mp p1 q
    simp only [List.count_append] at h1 ⊢
    omega
theorem m_combW (l : Launch) {N0 N : Nat → Nat → Nat} {K0 K : Nat → Nat → Int32} {xs : Nat → List Nat} {fl held f A B rest : List Nat} (hI : JInv N0 K0 xs fl) (hW : WS N0 K0 fl N K held f) {h a b : Nat} (hh : h < 3) (ta : tr N a A) (tb : tr N b B) (sa : srt K A) (sb : srt K B) (hp : held.Perm (A ++ B ++ rest)) (hl1 : A.length ≤ 32) (hl2 : A.length + B.length ≤ 62) : jI l jw jty yX0_combined cX0_combined 10 .int 7 [.int (nI h), .int (nI a), .int (nI b)] N K (fun r N1 K1 => ∃ t zs f1, r = nI t ∧ tr N1 t zs ∧ Res K h A B zs ∧ WS N0 K0 fl N1 K1 (zs ++ rest) f1 ∧ ag N N1 (A ++ B) ∧ K1 = K ∧ zs.length ≤ A.length + B.length) := by
  have hlen := hW.len hI
  have hfl := hI.len
  have hsub := hW.sub
  have hpl := hp.length_eq
  simp only [List.length_append] at hpl
  have hnd : (A ++ B ++ f).Nodup := by
    rw [nd_ct]
    intro q
    have h1 := hW.ctT hI q
    have h2 := pm_ct.mp hp q
    simp only [List.count_append] at h2 ⊢
    omega
  refine jI_post (m_combined l N K hh hW.1 ta tb sa sb hnd hW.2.2.2.2.1 hl1 hl2 (by omega)) ?_
  rintro r N1 K1 ⟨t, zs, gs, f1, rfl, t1, r1, p1, pf, hf1, g1, s1, z1, rfl⟩
  obtain ⟨w1, w2, w3, w4, w5, w6⟩ := hW
  have hpz := p1.length_eq
  simp only [List.length_append] at hpz
  refine ⟨t, zs, f1, rfl, t1, r1, ⟨z1, ?_, ?_, w4, hf1, ?_⟩, g1, rfl, by omega⟩
  · rw [s1 4 (by decide)]; exact w2
  · refine ag_trans w3 g1 (fun _ h => h) (fun q hq => hsub.1 q (hp.symm.subset (List.mem_append_left _ hq)))
  · refine List.Perm.trans ?_ w6
    rw [pm_ct]
    intro q
    have h1 := pm_ct.mp p1 q
    have h2 := pm_ct.mp pf q
    have h3 := pm_ct.mp hp q
    simp only [List.count_append] at h1 h2 h3 ⊢
    omega
theorem res_le {K : Nat → Nat → Int32} {A B zs : List Nat} (h : Res K 2 A B zs) : zs.length ≤ A.length := by
  have h1 := srt_keys h.1
  have h2 : (zs.map (K 2)).length ≤ (A.map (K 2)).length := by
    refine List.Nodup.length_le_of_subset h1 ?_
    intro k hk1
    have := (h.2 k).mp (hk_map.mp hk1)
    unfold bl at this
    refine hk_map.mpr ?_
    rcases this with ⟨e, -⟩ | ⟨e, -⟩ | ⟨-, h, -⟩
    · cases e
    · cases e
    · exact h
  simpa using h2
theorem bl_ag {h : Nat} {p q p' q' : Prop} (e1 : p ↔ p') (e2 : q ↔ q') : bl h p q ↔ bl h p' q' := by
  unfold bl
  rw [e1, e2]
def P_eith (N0 : Nat → Nat → Nat) (K0 : Nat → Nat → Int32) (fl : List Nat) (p : Int32 → Prop) : Int32 → (Nat → Nat → Nat) → (Nat → Nat → Int32) → Prop := fun r N1 K1 => ∃ t zs f1, r = nI t ∧ tr N1 t zs ∧ srt K1 zs ∧ (∀ k, hk K1 zs k ↔ p k) ∧ WS N0 K0 fl N1 K1 zs f1 ∧ zs.length ≤ 40
theorem m_either (l : Launch) {N0 N : Nat → Nat → Nat} {K0 K : Nat → Nat → Int32} {xs : Nat → List Nat} {fl f A B : List Nat} (hI : JInv N0 K0 xs fl) (hW : WS N0 K0 fl N K (A ++ B) f) {i j a b : Nat} (hi : i < 4) (hj : j < 4) (ta : tr N a A) (tb : tr N b B) (sa : srt K A) (sb : srt K B) (ha : ∀ k, hk K A k ↔ hk K0 (xs i) k) (hb : ∀ k, hk K B k ↔ hk K0 (xs j) k) (hla : A.length ≤ 20) (hlb : B.length ≤ 20) : jI l jw jty yX0_combinedEither cX0_combinedEither 9 .int 8 [.int (nI i), .int (nI j), .int (nI a), .int (nI b)] N K (P_eith N0 K0 fl (fun k => (hk K0 (xs i) k ∧ ¬ hk K0 (xs j) k) ∨ (hk K0 (xs j) k ∧ ¬ hk K0 (xs i) k))) := by
  have ba := tr_lt ta
  have bb := tr_lt tb
  have hfl := hI.len
  refine jI_of (k := 8) (kN := 4) (L := fun g : jG => [some (.ref g.2.1), some (.int (nI i)), some (.int (nI j)), some (.int (nI a)), some (.int (nI b)), none, none, none, none]) (by decide) (fun g => rfl) (fun g => rfl) (fun g => by simp [Value.category]) ?_
  intro g p e s m args below meth c A C hret
  refine jr_al0 C dX0_combinedEither_0 ?_
  refine jr_ic2 C dX0_combinedEither_1 ?_
  refine jr_il3 C dX0_combinedEither_2 ?_
  refine jr_il4 C dX0_combinedEither_3 ?_
  refine jc_combined C dX0_combinedEither_5 ⟨by decide, by decide⟩ (Nat.le_of_ble_eq_true rfl) (m_combW l hI hW (h := 2) (rest := []) (by decide) ta tb sa sb (by simp) (by omega) (by omega)) (fun r N1 K1 hp => ?_)
  obtain ⟨t1, z1, f1, rfl, tt1, r1, W1, g1, rfl, lz1⟩ := hp
  rw [List.append_nil] at W1
  have lz1 := res_le r1
  have hl1 := W1.len hI
  obtain ⟨ti1, -, li, -⟩ := W1.set hI hi
  obtain ⟨tj1, -, lj, -⟩ := W1.set hI hj
  have b1 := tr_lt tt1
  refine jr_is5 C dX0_combinedEither_8 ?_
  refine jr_al0 C dX0_combinedEither_10 ?_
  refine jr_al0 C dX0_combinedEither_11 ?_
  refine jg_rootOf C dX0_combinedEither_12 ?_
  refine jr_il1 C dX0_combinedEither_15 ?_
  refine jl_rootOf C dX0_combinedEither_16 (by omega) ?_
  refine jc_copyOf C dX0_combinedEither_17 ⟨by decide, by decide⟩ (Nat.le_of_ble_eq_true rfl) (m_copyW l hI W1 hi (by omega)) (fun r N2 K2 hp => ?_)
  obtain ⟨t2, y2, f2, rfl, tt2, s2, h2, ll2, W2, g2, k2, lf2⟩ := hp
  have d12 : ∀ q ∈ z1, q ∉ f1 := dj_of (fun q => by have := W1.ctT hI q; omega)
  have tz2 := ag_tr g2 tt1 d12
  have sz2 : srt K2 z1 := srt_ag r1.1 (fun q hq => k2 q (d12 q hq))
  have hz2 : ∀ k, hk K2 z1 k ↔ hk K1 z1 k := fun k => hk_ag (fun q hq => k2 q (d12 q hq))
  have e42 : N2 4 j = N1 4 j := by rw [W2.2.1, W1.2.1]
  have bt2 := tr_lt tt2
  obtain ⟨tj2, -, -, -⟩ := W2.set hI hj
  have btj2 := tr_lt tj2
  refine jr_is6 C dX0_combinedEither_20 ?_
  refine jr_al0 C dX0_combinedEither_22 ?_
  refine jr_al0 C dX0_combinedEither_23 ?_
  refine jg_rootOf C dX0_combinedEither_24 ?_
  refine jr_il2 C dX0_combinedEither_27 ?_
  refine jl_rootOf C dX0_combinedEither_28 (by omega) ?_
  refine jc_copyOf C dX0_combinedEither_29 ⟨by decide, by decide⟩ (Nat.le_of_ble_eq_true rfl) (m_copyW l hI W2 hj (by omega)) (fun r N3 K3 hp => ?_)
  obtain ⟨t3, y3, f3, rfl, tt3, s3, h3, ll3, W3, g3, k3, lf3⟩ := hp
  have c2 := fun q => W2.ctT hI q
  simp only [List.count_append] at c2
  have d13 : ∀ q ∈ z1, q ∉ f2 := dj_of (fun q => by have := c2 q; omega)
  have d23 : ∀ q ∈ y2, q ∉ f2 := dj_of (fun q => by have := c2 q; omega)
  have tz3 := ag_tr g3 tz2 d13
  have ty3 := ag_tr g3 tt2 d23
  have sz3 : srt K3 z1 := srt_ag sz2 (fun q hq => k3 q (d13 q hq))
  have sy3 : srt K3 y2 := srt_ag s2 (fun q hq => k3 q (d23 q hq))
  have hz3 : ∀ k, hk K3 z1 k ↔ hk K1 z1 k := fun k => (hk_ag (fun q hq => k3 q (d13 q hq))).trans (hz2 k)
  have hy3 : ∀ k, hk K3 y2 k ↔ hk K0 (xs i) k := fun k => (hk_ag (fun q hq => k3 q (d23 q hq))).trans (h2 k)
  have bt3 := tr_lt tt3
  refine jr_is7 C dX0_combinedEither_32 ?_
  refine jr_al0 C dX0_combinedEither_34 ?_
  refine jr_ic2 C dX0_combinedEither_35 ?_
  refine jr_il7 C dX0_combinedEither_36 ?_
  refine jr_il6 C dX0_combinedEither_38 ?_
  refine jc_combined C dX0_combinedEither_40 ⟨by decide, by decide⟩ (Nat.le_of_ble_eq_true rfl) (m_combW l hI W3 (h := 2) (A := y3) (B := y2) (rest := z1) (by decide) tt3 ty3 s3 sy3 (by rw [List.append_assoc]) (by omega) (by omega)) (fun r N4 K4 hp => ?_)
  obtain ⟨t4, z4, f4, rfl, tt4, r4, W4, g4, rfl, lz4⟩ := hp
  have lz4 := res_le r4
  have c3 := fun q => W3.ctT hI q
  simp only [List.count_append] at c3
  have tz4 := ag_tr g4 tz3 (dj_of (fun q => by have := c3 q; simp only [List.count_append]; omega))
  have bt4 := tr_lt tt4
  refine jr_is8 C dX0_combinedEither_43 ?_
  refine jr_al0 C dX0_combinedEither_45 ?_
  refine jr_ic0 C dX0_combinedEither_46 ?_
  refine jr_il5 C dX0_combinedEither_47 ?_
  refine jr_il8 C dX0_combinedEither_49 ?_
  refine jc_combined C dX0_combinedEither_51 ⟨by decide, by decide⟩ (Nat.le_of_ble_eq_true rfl) (m_combW l hI W4 (h := 0) (A := z1) (B := z4) (rest := []) (by decide) tz4 tt4 sz3 r4.1 (by rw [List.append_nil]; exact List.perm_append_comm) (by omega) (by omega)) (fun r N5 K5 hp => ?_)
  obtain ⟨t5, z5, f5, rfl, tt5, r5, W5, g5, rfl, lz5⟩ := hp
  rw [List.append_nil] at W5
  refine jr_iret C hret dX0_combinedEither_54 ?_
  refine ⟨t5, z5, f5, rfl, tt5, r5.1, ?_, W5, by omega⟩
  intro k
  rw [r5.2 k]
  have e1 := r1.2 k
  have e4 := r4.2 k
  rw [hz3 k, e1, e4, ha k, hb k, h3 k, hy3 k]
  unfold bl
  simp
def P_combine (P : jP) (how d a b : Int32) : Int32 → (Nat → Nat → Nat) → (Nat → Nat → Int32) → Prop := fun r N1 K1 => ∃ P1, A_comb P how d a b r P1 ∧ JRep N1 K1 P1
theorem c_combine (l : Launch) (N : Nat → Nat → Nat) (K : Nat → Nat → Int32) {P : jP} (hR : JRep N K P) (how d0 a0 b0 : Int32) : jI l jw jty yX0_combine cX0_combine 8 .int 9 [.int how, .int d0, .int a0, .int b0] N K (P_combine P how d0 a0 b0) := by
  obtain ⟨xs, fl, hI, hP⟩ := hR
  refine jI_of (k := 9) (kN := 3) (L := fun g : jG => [some (.ref g.2.1), some (.int how), some (.int d0), some (.int a0), some (.int b0), none, none, none]) (by decide) (fun g => rfl) (fun g => rfl) (fun g => by simp [Value.category]) ?_
  intro g p e s m args below meth c A C hret
  have bad : ¬ (jok how ∧ jok d0 ∧ jok a0 ∧ jok b0) → JJ p l e (jrm 9) s m args below meth c 0 0 (jQI jw jty g A below args s (P_combine P how d0 a0 b0)) A g.1 8 (jw g N K) 34 [some (.ref g.2.1), some (.int how), some (.int d0), some (.int a0), some (.int b0), none, none, none] [] := by
    intro hbad
    refine jr_icm1 C dX0_combine_34 ?_
    refine jr_iret C hret dX0_combine_35 ?_
    exact ⟨P, Or.inl ⟨hbad, rfl, rfl⟩, xs, fl, hI, hP⟩
  refine jr_il1 C dX0_combine_0 ?_
  refine jr_if_lt C dX0_combine_1 (fun hc => ?_) (fun hc => ?_)
  · exact bad (fun h => jok_no (Or.inl hc) h.1)
  refine jr_il1 C dX0_combine_4 ?_
  refine jr_ic3 C dX0_combine_5 ?_
  refine jr_cmp_gt C dX0_combine_6 (fun hc2 => ?_) (fun hc2 => ?_)
  · exact bad (fun h => jok_no (Or.inr hc2) h.1)
  have hjh : jok how := jok_of hc hc2
  refine jr_al0 C dX0_combine_9 ?_
  refine jr_il2 C dX0_combine_10 ?_
  refine jc_isSet C dX0_combine_11 ⟨by decide, by decide⟩ (Nat.le_of_ble_eq_true rfl) (m_isSet l N K d0) (fun r N1 K1 hp => ?_)
  obtain ⟨⟨b, rfl, hb⟩, rfl, rfl⟩ := hp
  refine jr_ifN_eq C dX0_combine_14 (by omega) (fun hc3 => ?_) (fun hc3 => ?_)
  · refine bad (fun h => ?_)
    rcases hb with ⟨h1, -⟩ | ⟨-, h1⟩
    · omega
    · exact h1 h.2.1
  have hjd : jok d0 := by
    rcases hb with ⟨-, h⟩ | ⟨h, -⟩
    · exact h
    · exact absurd h hc3
  refine jr_al0 C dX0_combine_17 ?_
  refine jr_il3 C dX0_combine_18 ?_
  refine jc_isSet C dX0_combine_19 ⟨by decide, by decide⟩ (Nat.le_of_ble_eq_true rfl) (m_isSet l N1 K1 a0) (fun r N2 K2 hp => ?_)
  obtain ⟨⟨b, rfl, hb⟩, rfl, rfl⟩ := hp
  refine jr_ifN_eq C dX0_combine_22 (by omega) (fun hc4 => ?_) (fun hc4 => ?_)
  · refine bad (fun h => ?_)
    rcases hb with ⟨h1, -⟩ | ⟨-, h1⟩
    · omega
    · exact h1 h.2.2.1
  have hja : jok a0 := by
    rcases hb with ⟨-, h⟩ | ⟨h, -⟩
    · exact h
    · exact absurd h hc4
  refine jr_al0 C dX0_combine_25 ?_
  refine jr_il4 C dX0_combine_26 ?_
  refine jc_isSet C dX0_combine_28 ⟨by decide, by decide⟩ (Nat.le_of_ble_eq_true rfl) (m_isSet l N2 K2 b0) (fun r N3 K3 hp => ?_)
  obtain ⟨⟨b, rfl, hb⟩, rfl, rfl⟩ := hp
  refine jr_ifN_ne C dX0_combine_31 (by omega) (fun hc5 => ?_) (fun hc5 => ?_)
  rotate_left
  · refine bad (fun h => ?_)
    rcases hb with ⟨h1, -⟩ | ⟨-, h1⟩
    · omega
    · exact h1 h.2.2.2
  have hjb : jok b0 := by
    rcases hb with ⟨-, h⟩ | ⟨h, -⟩
    · exact h
    · exact absurd h hc5
  clear bad
  obtain ⟨h, hh, rfl⟩ := hjh
  obtain ⟨j, hj, rfl⟩ := hjd
  obtain ⟨i1, hi1, rfl⟩ := hja
  obtain ⟨i2, hi2, rfl⟩ := hjb
  have W0 := WS.start hI
  have hfl := hI.len
  obtain ⟨t1, s1, l1⟩ := hI.2.1 i1 hi1
  obtain ⟨t2, s2, l2⟩ := hI.2.1 i2 hi2
  obtain ⟨tj, sj, lj⟩ := hI.2.1 j hj
  have bt1 := tr_lt t1
  have bt2 := tr_lt t2
  have btj := tr_lt tj
  have at89 : ∀ (N6 : Nat → Nat → Nat) (K6 : Nat → Nat → Int32) (t : Nat) (zs f6 : List Nat) (o5 o6 : Option Value), tr N6 t zs → srt K6 zs → (∀ k, hk K6 zs k ↔ bl4 h (P i1 k) (P i2 k)) → WS N3 K3 fl N6 K6 zs f6 → zs.length ≤ 40 → JJ p l e (jrm 9) s m args below meth c 0 0 (jQI jw jty g A below args s (P_combine P (nI h) (nI j) (nI i1) (nI i2))) A g.1 8 (jw g N6 K6) 89 [some (.ref g.2.1), some (.int (nI h)), some (.int (nI j)), some (.int (nI i1)), some (.int (nI i2)), o5, o6, none] [.int (nI t)] := by
    intro N6 K6 t zs f6 o5 o6 tt sz hz W6 lz
    have bt := tr_lt tt
    have lt := tr_len W6.1 tt
    have hcd := cd_srt sz hz
    have hl6 := W6.len hI
    refine jr_is7 C dX0_combine_89 ?_
    refine jr_al0 C dX0_combine_91 ?_
    refine jg_count C dX0_combine_92 ?_
    refine jr_il7 C dX0_combine_95 ?_
    refine jl_count C dX0_combine_97 (by omega) ?_
    refine jr_bipush (v := nI 20) C dX0_combine_98 (by decide) ?_
    rw [lt]
    refine jr_cmpN_le C dX0_combine_100 (by omega) (by omega) (fun hd => ?_) (fun hd => ?_)
    rotate_left
    · refine jr_al0 C dX0_combine_103 ?_
      refine jr_il7 C dX0_combine_104 ?_
      refine jc_releaseTree C dX0_combine_106 ⟨by decide, by decide⟩ (Nat.le_of_ble_eq_true rfl) (m_releaseTree l N6 K6 tt W6.2.2.2.2.1 (by omega) (by omega)) (fun N7 K7 hp => ?_)
      obtain ⟨f7, hf7, p7, s7, rfl⟩ := hp
      refine jr_bipush (v := -2) C dX0_combine_109 (by decide) ?_
      refine jr_iret C hret dX0_combine_111 ?_
      refine ⟨P, Or.inr ⟨h, j, i1, i2, hh, hj, hi1, hi2, rfl, rfl, rfl, rfl, Or.inl ⟨by rw [hcd]; omega, rfl, rfl⟩⟩, xs, f7, ?_, ?_⟩
      · obtain ⟨w1, w2, w3, w4, w5, w6⟩ := W6
        exact hI.same (by rw [s7 4 (by decide)]; exact w2) hf7 (p7.trans w6) (ag_trans w3 (sm_ag (xs := []) s7 (by decide) (by decide) (by decide)) (fun _ h => h) (by simp)) w4
      · intro i hi k
        rw [← hP i hi k]
        exact hk_ag (fun q hq => W6.2.2.2.1 q (fun hf => hI.dj hi q hf hq))
    · obtain ⟨tj6, sj6, -, hkj6⟩ := W6.set hI hj
      have btj6 := tr_lt tj6
      have hln := ln_1 (xs := xs) (fl := fl) hj
      rw [hI.2.2.2.2.2] at hln
      refine jr_al0 C dX0_combine_112 ?_
      refine jr_al0 C dX0_combine_113 ?_
      refine jg_rootOf C dX0_combine_114 ?_
      refine jr_il2 C dX0_combine_117 ?_
      refine jl_rootOf C dX0_combine_118 (by omega) ?_
      refine jc_releaseTree C dX0_combine_119 ⟨by decide, by decide⟩ (Nat.le_of_ble_eq_true rfl) (m_releaseTree l N6 K6 tj6 W6.2.2.2.2.1 (by omega) (by omega)) (fun N7 K7 hp => ?_)
      obtain ⟨f7, hf7, p7, s7, rfl⟩ := hp
      refine jr_al0 C dX0_combine_122 ?_
      refine jg_rootOf C dX0_combine_123 ?_
      refine jr_il2 C dX0_combine_126 ?_
      refine jr_il7 C dX0_combine_127 ?_
      refine jr_i2s C dX0_combine_129 (by omega) ?_
      refine js_rootOf C dX0_combine_130 (by omega) (by omega) ?_
      refine jr_al0 C dX0_combine_131 ?_
      refine jg_count C dX0_combine_132 ?_
      refine jr_il7 C dX0_combine_135 ?_
      refine jl_count C dX0_combine_137 (by omega) ?_
      refine jr_top (v := zs.length) (by rw [jup_k (by decide), s7 3 (by decide)]; exact lt) ?_
      refine jr_iret C hret dX0_combine_138 ?_
      obtain ⟨w1, w2, w3, w4, w5, w6⟩ := W6
      refine ⟨_, Or.inr ⟨h, j, i1, i2, hh, hj, hi1, hi2, rfl, rfl, rfl, rfl, Or.inr ⟨by rw [hcd]; omega, by rw [hcd], rfl⟩⟩, ?_⟩
      have g7 : ∀ q, ag N6 N7 q := fun q => sm_ag s7 (by decide) (by decide) (by decide)
      have hset : JInv (jup N7 4 j t) K7 (va_up xs j zs) f7 := by
        refine hI.set hj ?_ ?_ sz (by omega) (free_sm hf7 (sm_jup (ks := [4]) (by simp)) (by decide) (by decide)) ?_ ?_ w4
        · intro k hk hkj
          rw [jup_n hkj, s7 4 (by decide), w2]
        · rw [jup_s]
          exact ag_tr (xs := []) (ag_jupk (by decide)) (ag_tr (g7 []) tt (by simp)) (by simp)
        · rw [pm_ct]
          intro q
          have h1 := pm_ct.mp p7 q
          have h2 := pm_ct.mp w6 q
          simp only [List.count_append] at h1 h2 ⊢
          omega
        · refine ag_trans w3 (ag_trans (g7 []) (ag_jupk (xs := []) (by decide)) (zs := []) (by simp) (by simp)) (fun q hq => List.mem_append_right _ hq) (by simp)
      exact rep_set hI hP hset w4 hz
  refine jr_al0 C dX0_combine_36 ?_
  refine jr_al0 C dX0_combine_37 ?_
  refine jg_rootOf C dX0_combine_38 ?_
  refine jr_il3 C dX0_combine_41 ?_
  refine jl_rootOf C dX0_combine_42 (by omega) ?_
  refine jc_copyOf C dX0_combine_43 ⟨by decide, by decide⟩ (Nat.le_of_ble_eq_true rfl) (m_copyW l hI W0 hi1 (by omega)) (fun r N4 K4 hp => ?_)
  obtain ⟨ta, Ax, f4, rfl, tta, sa, ha, la, W4, g4, k4, lf4⟩ := hp
  rw [List.append_nil] at W4
  obtain ⟨t24, -, -, -⟩ := W4.set hI hi2
  have bt24 := tr_lt t24
  refine jr_is5 C dX0_combine_46 ?_
  refine jr_al0 C dX0_combine_48 ?_
  refine jr_al0 C dX0_combine_49 ?_
  refine jg_rootOf C dX0_combine_50 ?_
  refine jr_il4 C dX0_combine_53 ?_
  refine jl_rootOf C dX0_combine_55 (by omega) ?_
  refine jc_copyOf C dX0_combine_56 ⟨by decide, by decide⟩ (Nat.le_of_ble_eq_true rfl) (m_copyW l hI W4 hi2 (by omega)) (fun r N5 K5 hp => ?_)
  obtain ⟨tb, B, f5, rfl, ttb, sb, hb', lb, W5, g5, k5, lf5⟩ := hp
  have dA : ∀ q ∈ Ax, q ∉ f4 := dj_of (fun q => by have := W4.ctT hI q; omega)
  have tta5 := ag_tr g5 tta dA
  have sa5 : srt K5 Ax := srt_ag sa (fun q hq => k5 q (dA q hq))
  have ha5 : ∀ k, hk K5 Ax k ↔ hk K3 (xs i1) k := fun k => (hk_ag (fun q hq => k5 q (dA q hq))).trans (ha k)
  have bta := tr_lt tta5
  have btb := tr_lt ttb
  have W5' : WS N3 K3 fl N5 K5 (Ax ++ B) f5 := by
    obtain ⟨w1, w2, w3, w4, w5, w6⟩ := W5
    refine ⟨w1, w2, w3, w4, w5, List.Perm.trans ?_ w6⟩
    exact List.Perm.append_right _ List.perm_append_comm
  refine jr_is6 C dX0_combine_59 ?_
  refine jr_il1 C dX0_combine_61 ?_
  refine jr_ic3 C dX0_combine_62 ?_
  refine jr_cmpN_ne C dX0_combine_63 (by omega) (by omega) (fun he => ?_) (fun he => ?_)
  · refine jr_al0 C dX0_combine_80 ?_
    refine jr_il1 C dX0_combine_81 ?_
    refine jr_il5 C dX0_combine_82 ?_
    refine jr_il6 C dX0_combine_84 ?_
    refine jc_combined C dX0_combine_86 ⟨by decide, by decide⟩ (Nat.le_of_ble_eq_true rfl) (m_combW l hI W5' (h := h) (rest := []) (by omega) tta5 ttb sa5 sb (by simp) (by omega) (by omega)) (fun r N6 K6 hp => ?_)
    obtain ⟨t6, z6, f6, rfl, tt6, r6, W6, g6, rfl, lz6⟩ := hp
    rw [List.append_nil] at W6
    refine at89 N6 K6 t6 z6 f6 _ _ tt6 r6.1 ?_ W6 (by omega)
    intro k
    rw [r6.2 k, ha5 k, hb' k, hP i1 hi1 k, hP i2 hi2 k]
    unfold bl bl4
    have : ¬ h = 3 := he
    simp [this]
  · subst he
    refine jr_al0 C dX0_combine_66 ?_
    refine jr_il3 C dX0_combine_67 ?_
    refine jr_il4 C dX0_combine_68 ?_
    refine jr_il5 C dX0_combine_70 ?_
    refine jr_il6 C dX0_combine_72 ?_
    refine jc_combinedEither C dX0_combine_74 ⟨by decide, by decide⟩ (Nat.le_of_ble_eq_true rfl) (m_either l hI W5' hi1 hi2 tta5 ttb sa5 sb ha5 hb' (by omega) (by omega)) (fun r N6 K6 hp => ?_)
    obtain ⟨t6, z6, f6, rfl, tt6, s6, h6, W6, lz6⟩ := hp
    refine jr_goto C dX0_combine_77 ?_
    refine at89 N6 K6 t6 z6 f6 _ _ tt6 s6 ?_ W6 (by omega)
    intro k
    rw [h6 k]
    dsimp only
    rw [hP i1 hi1 k, hP i2 hi2 k]
    unfold bl4
    simp
theorem c_within (l : Launch) (N : Nat → Nat → Nat) (K : Nat → Nat → Int32) {P : jP} (hR : JRep N K P) (a0 b0 : Int32) : jI l jw jty yX0_within cX0_within 7 .boolean 8 [.int a0, .int b0] N K (fun r N1 K1 => A_wi P a0 b0 r ∧ JRep N1 K1 P) := by
  obtain ⟨xs, fl, hI, hP⟩ := hR
  refine jI_of (k := 8) (kN := 4) (L := fun g : jG => [some (.ref g.2.1), some (.int a0), some (.int b0), none, none, none, none]) (by decide) (fun g => rfl) (fun g => rfl) (fun g => by simp [Value.category]) ?_
  intro g p e s m args below meth c A C hret
  refine jr_al0 C dX0_within_0 ?_
  refine jr_il1 C dX0_within_1 ?_
  refine jc_isSet C dX0_within_2 ⟨by decide, by decide⟩ (Nat.le_of_ble_eq_true rfl) (m_isSet l N K a0) (fun r N1 K1 hp => ?_)
  obtain ⟨⟨b, rfl, hb⟩, rfl, rfl⟩ := hp
  refine jr_ifN_eq C dX0_within_5 (by omega) (fun hc => ?_) (fun hc => ?_)
  · have hj : ¬ jok a0 := by
      rcases hb with ⟨h, -⟩ | ⟨-, h⟩
      · omega
      · exact h
    refine jr_ic0 C dX0_within_16 ?_
    refine jr_zret C hret dX0_within_17 ?_
    exact ⟨by decide, Or.inr ⟨fun ⟨i, j, hi, hj2, e, _⟩ => hj ⟨i, hi, e⟩, rfl⟩, xs, fl, hI, hP⟩
  have hja : jok a0 := by
    rcases hb with ⟨-, h⟩ | ⟨h, -⟩
    · exact h
    · exact absurd h hc
  refine jr_al0 C dX0_within_8 ?_
  refine jr_il2 C dX0_within_9 ?_
  refine jc_isSet C dX0_within_10 ⟨by decide, by decide⟩ (Nat.le_of_ble_eq_true rfl) (m_isSet l N1 K1 b0) (fun r N2 K2 hp => ?_)
  obtain ⟨⟨b2, rfl, hb2⟩, rfl, rfl⟩ := hp
  refine jr_ifN_ne C dX0_within_13 (by omega) (fun hc2 => ?_) (fun hc2 => ?_)
  rotate_left
  · have hj : ¬ jok b0 := by
      rcases hb2 with ⟨h, -⟩ | ⟨-, h⟩
      · omega
      · exact h
    refine jr_ic0 C dX0_within_16 ?_
    refine jr_zret C hret dX0_within_17 ?_
    exact ⟨by decide, Or.inr ⟨fun ⟨i, j, hi, hj2, e, e2, _⟩ => hj ⟨j, hj2, e2⟩, rfl⟩, xs, fl, hI, hP⟩
  have hjb : jok b0 := by
    rcases hb2 with ⟨-, h⟩ | ⟨h, -⟩
    · exact h
    · exact absurd h hc2
  obtain ⟨i1, hi1, rfl⟩ := hja
  obtain ⟨i2, hi2, rfl⟩ := hjb
  have W0 := WS.start hI
  have hfl := hI.len
  obtain ⟨t1, s1, l1⟩ := hI.2.1 i1 hi1
  obtain ⟨t2, s2, l2⟩ := hI.2.1 i2 hi2
  have bt1 := tr_lt t1
  have bt2 := tr_lt t2
  refine jr_al0 C dX0_within_18 ?_
  refine jr_al0 C dX0_within_19 ?_
  refine jg_rootOf C dX0_within_20 ?_
  refine jr_il1 C dX0_within_23 ?_
  refine jl_rootOf C dX0_within_24 (by omega) ?_
  refine jc_copyOf C dX0_within_25 ⟨by decide, by decide⟩ (Nat.le_of_ble_eq_true rfl) (m_copyW l hI W0 hi1 (by omega)) (fun r N4 K4 hp => ?_)
  obtain ⟨ta, Ax, f4, rfl, tta, sa, ha, la, W4, g4, k4, lf4⟩ := hp
  rw [List.append_nil] at W4
  obtain ⟨t24, -, -, -⟩ := W4.set hI hi2
  have bt24 := tr_lt t24
  refine jr_is3 C dX0_within_28 ?_
  refine jr_al0 C dX0_within_29 ?_
  refine jr_al0 C dX0_within_30 ?_
  refine jg_rootOf C dX0_within_31 ?_
  refine jr_il2 C dX0_within_34 ?_
  refine jl_rootOf C dX0_within_35 (by omega) ?_
  refine jc_copyOf C dX0_within_36 ⟨by decide, by decide⟩ (Nat.le_of_ble_eq_true rfl) (m_copyW l hI W4 hi2 (by omega)) (fun r N5 K5 hp => ?_)
  obtain ⟨tb, B, f5, rfl, ttb, sb, hb', lb, W5, g5, k5, lf5⟩ := hp
  have dA : ∀ q ∈ Ax, q ∉ f4 := dj_of (fun q => by have := W4.ctT hI q; omega)
  have tta5 := ag_tr g5 tta dA
  have sa5 : srt K5 Ax := srt_ag sa (fun q hq => k5 q (dA q hq))
  have ha5 : ∀ k, hk K5 Ax k ↔ hk K2 (xs i1) k := fun k => (hk_ag (fun q hq => k5 q (dA q hq))).trans (ha k)
  have bta := tr_lt tta5
  have btb := tr_lt ttb
  refine jr_is4 C dX0_within_39 ?_
  refine jr_al0 C dX0_within_41 ?_
  refine jr_ic2 C dX0_within_42 ?_
  refine jr_il3 C dX0_within_43 ?_
  refine jr_il4 C dX0_within_44 ?_
  refine jc_combined C dX0_within_46 ⟨by decide, by decide⟩ (Nat.le_of_ble_eq_true rfl) (m_combW l hI W5 (h := 2) (A := Ax) (B := B) (rest := []) (by decide) tta5 ttb sa5 sb (by rw [List.append_nil]; exact List.perm_append_comm) (by omega) (by omega)) (fun r N6 K6 hp => ?_)
  obtain ⟨t6, z6, f6, rfl, tt6, r6, W6, g6, rfl, lz6⟩ := hp
  rw [List.append_nil] at W6
  have bt6 := tr_lt tt6
  have hl6 := W6.len hI
  have hres : ∀ k, hk K6 z6 k ↔ (P i1 k ∧ ¬ P i2 k) := by
    intro k
    rw [r6.2 k, ha5 k, hb' k, hP i1 hi1 k, hP i2 hi2 k]
    unfold bl
    simp
  have at61 : ∀ b, b < 2 → (b = 1 ↔ t6 = 0) → JJ p l e (jrm 8) s m args below meth c 0 0 (jQI jw jty g A below args s (fun r N1 K1 => A_wi P (nI i1) (nI i2) r ∧ JRep N1 K1 P)) A g.1 7 (jw g N6 K6) 61 [some (.ref g.2.1), some (.int (nI i1)), some (.int (nI i2)), some (.int (nI ta)), some (.int (nI tb)), some (.int (nI t6)), none] [.int (nI b)] := by
    intro b hb2 hbt
    refine jr_is6 C dX0_within_61 ?_
    refine jr_al0 C dX0_within_63 ?_
    refine jr_il5 C dX0_within_64 ?_
    refine jc_releaseTree C dX0_within_66 ⟨by decide, by decide⟩ (Nat.le_of_ble_eq_true rfl) (m_releaseTree l N6 K6 tt6 W6.2.2.2.2.1 (by omega) (by omega)) (fun N7 K7 hp => ?_)
    obtain ⟨f7, hf7, p7, s7, rfl⟩ := hp
    refine jr_il6 C dX0_within_69 ?_
    refine jr_zret C hret dX0_within_71 ?_
    refine ⟨hb2, ?_, xs, f7, ?_, ?_⟩
    · have hwi : wi P (nI i1) (nI i2) ↔ t6 = 0 := by
        constructor
        · rintro ⟨a, b, ha, hb, e1, e2, hall⟩
          rw [← nI4 hi1 ha e1, ← nI4 hi2 hb e2] at hall
          cases z6 with
          | nil => exact tr_emp tt6
          | cons q z6 =>
            have := (hres (K7 2 q)).mp ⟨q, by simp, rfl⟩
            exact absurd (hall _ this.1) this.2
        · intro e
          have : z6 = [] := tr_zero (e ▸ tt6)
          subst this
          refine ⟨i1, i2, hi1, hi2, rfl, rfl, fun k hk1 => ?_⟩
          by_cases h2 : P i2 k
          · exact h2
          · exact absurd ((hres k).mpr ⟨hk1, h2⟩) hk_nil
      by_cases hb1 : b = 1
      · exact Or.inl ⟨hwi.mpr (hbt.mp hb1), by rw [hb1]⟩
      · exact Or.inr ⟨fun h => hb1 (hbt.mpr (hwi.mp h)), by rw [show b = 0 by omega]⟩
    · obtain ⟨w1, w2, w3, w4, w5, w6⟩ := W6
      exact hI.same (by rw [s7 4 (by decide)]; exact w2) hf7 (p7.trans w6) (ag_trans w3 (sm_ag (xs := []) s7 (by decide) (by decide) (by decide)) (fun _ h => h) (by simp)) w4
    · intro i hi k
      rw [← hP i hi k]
      exact hk_ag (fun q hq => W6.2.2.2.1 q (fun hf => hI.dj hi q hf hq))
  refine jr_is5 C dX0_within_49 ?_
  refine jr_il5 C dX0_within_51 ?_
  refine jr_ifN_ne C dX0_within_53 (by omega) (fun he => ?_) (fun he => ?_)
  · refine jr_ic0 C dX0_within_60 ?_
    exact at61 0 (by decide) ⟨fun h => absurd h (by decide), fun h => absurd h he⟩
  · refine jr_ic1 C dX0_within_56 ?_
    refine jr_goto C dX0_within_57 ?_
    exact at61 1 (by decide) ⟨fun _ => he, fun _ => rfl⟩
theorem c_same (l : Launch) (N : Nat → Nat → Nat) (K : Nat → Nat → Int32) {P : jP} (hR : JRep N K P) (a0 b0 : Int32) : jI l jw jty yX0_same cX0_same 3 .boolean 9 [.int a0, .int b0] N K (fun r N1 K1 => A_same P a0 b0 r ∧ JRep N1 K1 P) := by
  refine jI_of (k := 9) (kN := 0) (L := fun g : jG => [some (.ref g.2.1), some (.int a0), some (.int b0)]) (by decide) (fun g => rfl) (fun g => rfl) (fun g => by simp [Value.category]) ?_
  intro g p e s m args below meth c A C hret
  refine jr_al0 C dX0_same_0 ?_
  refine jr_il1 C dX0_same_1 ?_
  refine jr_il2 C dX0_same_2 ?_
  refine jc_within C dX0_same_3 ⟨by decide, by decide⟩ (Nat.le_of_ble_eq_true rfl) (c_within l N K hR a0 b0) (fun r N1 K1 hp => ?_)
  obtain ⟨h1, hR1⟩ := hp
  rcases h1 with ⟨h1, rfl⟩ | ⟨h1, rfl⟩
  · refine jr_ifN_eq C dX0_same_6 (by omega) (fun hc => ?_) (fun hc => ?_)
    · exact absurd hc (by decide)
    refine jr_al0 C dX0_same_9 ?_
    refine jr_il2 C dX0_same_10 ?_
    refine jr_il1 C dX0_same_11 ?_
    refine jc_within C dX0_same_12 ⟨by decide, by decide⟩ (Nat.le_of_ble_eq_true rfl) (c_within l N1 K1 hR1 b0 a0) (fun r N2 K2 hp => ?_)
    obtain ⟨h2, hR2⟩ := hp
    rcases h2 with ⟨h2, rfl⟩ | ⟨h2, rfl⟩
    · refine jr_ifN_eq C dX0_same_15 (by omega) (fun hd => ?_) (fun hd => ?_)
      · exact absurd hd (by decide)
      refine jr_ic1 C dX0_same_18 ?_
      refine jr_goto C dX0_same_19 ?_
      refine jr_zret C hret dX0_same_23 ?_
      exact ⟨by decide, Or.inl ⟨⟨h1, h2⟩, rfl⟩, hR2⟩
    · refine jr_ifN_eq C dX0_same_15 (by omega) (fun hd => ?_) (fun hd => ?_)
      · refine jr_ic0 C dX0_same_22 ?_
        refine jr_zret C hret dX0_same_23 ?_
        exact ⟨by decide, Or.inr ⟨fun h => h2 h.2, rfl⟩, hR2⟩
      · exact absurd rfl hd
  · refine jr_ifN_eq C dX0_same_6 (by omega) (fun hc => ?_) (fun hc => ?_)
    · refine jr_ic0 C dX0_same_22 ?_
      refine jr_zret C hret dX0_same_23 ?_
      exact ⟨by decide, Or.inr ⟨fun h => h1 h.1, rfl⟩, hR1⟩
    · exact absurd rfl hc
end
section
/-! JoinTreesModel: its state, its leaves -/
def ml (K : Nat → Nat → Int32) (i n : Nat) : List Int32 := (List.range n).map (fun j => K 0 (i * 20 + j))
def rl (K : Nat → Nat → Int32) (n : Nat) : List Int32 := (List.range n).map (fun j => K 2 j)
theorem ml_succ {K : Nat → Nat → Int32} {i n : Nat} : ml K i (n + 1) = ml K i n ++ [K 0 (i * 20 + n)] := by simp [ml, List.range_succ]
theorem rl_succ {K : Nat → Nat → Int32} {n : Nat} : rl K (n + 1) = rl K n ++ [K 2 n] := by simp [rl, List.range_succ]
theorem ml_len {K : Nat → Nat → Int32} {i n : Nat} : (ml K i n).length = n := by simp [ml]
theorem rl_len {K : Nat → Nat → Int32} {n : Nat} : (rl K n).length = n := by simp [rl]
theorem ml_mem {K : Nat → Nat → Int32} {i n : Nat} {k : Int32} : k ∈ ml K i n ↔ ∃ j, j < n ∧ K 0 (i * 20 + j) = k := by simp [ml]
theorem rl_mem {K : Nat → Nat → Int32} {n : Nat} {k : Int32} : k ∈ rl K n ↔ ∃ j, j < n ∧ K 2 j = k := by simp [rl]
theorem ml_cg {K K1 : Nat → Nat → Int32} {i n : Nat} (h : ∀ j, j < n → K1 0 (i * 20 + j) = K 0 (i * 20 + j)) : ml K1 i n = ml K i n := List.map_congr_left (fun j hj => h j (List.mem_range.mp hj))
theorem rl_cg {K K1 : Nat → Nat → Int32} {n : Nat} (h : ∀ j, j < n → K1 2 j = K 2 j) : rl K1 n = rl K n := List.map_congr_left (fun j hj => h j (List.mem_range.mp hj))
def MInv (N : Nat → Nat → Nat) (K : Nat → Nat → Int32) (P : jP) : Prop := ∀ i, i < 4 → N 1 i ≤ 20 ∧ (ml K i (N 1 i)).Nodup ∧ ∀ k, k ∈ ml K i (N 1 i) ↔ P i k
theorem MInv.card {N : Nat → Nat → Nat} {K : Nat → Nat → Int32} {P : jP} (h : MInv N K P) {i : Nat} (hi : i < 4) : cd (P i) = N 1 i := by
  rw [cd_of (h i hi).2.1 (h i hi).2.2, ml_len]
theorem MInv.set {N N1 : Nat → Nat → Nat} {K K1 : Nat → Nat → Int32} {P : jP} (h : MInv N K P) {i n : Nat} (hi : i < 4) (e1 : ∀ j, j ≠ i → N1 1 j = N 1 j) (en : N1 1 i = n) (hn : n ≤ 20) (hK : ∀ q, q < i * 20 ∨ i * 20 + 20 ≤ q → K1 0 q = K 0 q) {p : Int32 → Prop} (hnd : (ml K1 i n).Nodup) (hp : ∀ k, k ∈ ml K1 i n ↔ p k) : MInv N1 K1 (va_up P i p) := by
  intro j hj
  by_cases hji : j = i
  · subst hji
    rw [en]
    simp only [va_up, if_true]
    exact ⟨hn, hnd, hp⟩
  · rw [e1 j hji]
    simp only [va_up, if_neg hji]
    obtain ⟨a, b, c⟩ := h j hj
    have e : ml K1 j (N 1 j) = ml K j (N 1 j) := ml_cg (fun t ht => hK _ (by omega))
    rw [e]
    exact ⟨a, b, c⟩
theorem MInv.keep {N N1 : Nat → Nat → Nat} {K K1 : Nat → Nat → Int32} {P : jP} (h : MInv N K P) (e1 : N1 1 = N 1) (e0 : K1 0 = K 0) : MInv N1 K1 P := by
  intro j hj
  rw [e1]
  have e : ml K1 j (N 1 j) = ml K j (N 1 j) := ml_cg (fun t ht => by rw [e0])
  rw [e]
  exact h j hj
theorem jok_of4 {x : Int32} (h : ¬ x < 0) (h2 : ¬ nI 4 ≤ x) : jok x := by
  refine jok_of h ?_
  intro q
  apply h2
  rw [Int32.le_iff_toInt_le]
  rw [Int32.lt_iff_toInt_lt] at q
  have a : (nI 3).toInt = 3 := by decide
  have b : (nI 4).toInt = 4 := by decide
  omega
theorem jok_no4 {x : Int32} (h : x < 0 ∨ nI 4 ≤ x) : ¬ jok x := by
  refine jok_no ?_
  rcases h with h | h
  · exact Or.inl h
  · right
    rw [Int32.lt_iff_toInt_lt]
    rw [Int32.le_iff_toInt_le] at h
    have a : (nI 3).toInt = 3 := by decide
    have b : (nI 4).toInt = 4 := by decide
    omega
theorem mm_isSet (l : Launch) (N : Nat → Nat → Nat) (K : Nat → Nat → Int32) (x : Int32) : jI l mw mty yX1_isSet cX1_isSet 2 .boolean 0 [.int x] N K (fun r N1 K1 => ((jok x ∧ r = nI 1) ∨ (¬ jok x ∧ r = nI 0)) ∧ N1 = N ∧ K1 = K) := by
  refine jI_of (k := 0) (kN := 0) (L := fun g : jG => [some (.ref g.2.1), some (.int x)]) (by decide) (fun g => rfl) (fun g => rfl) (fun g => by simp [Value.category]) ?_
  intro g p e s m args below meth c A C hret
  refine jr_il1 C dX1_isSet_0 ?_
  refine jr_if_lt C dX1_isSet_1 (fun hc => ?_) (fun hc => ?_)
  · refine jr_ic0 C dX1_isSet_13 ?_
    exact jr_zret C hret dX1_isSet_14 (⟨by decide, Or.inr ⟨jok_no4 (Or.inl hc), rfl⟩, rfl, rfl⟩)
  · refine jr_il1 C dX1_isSet_4 ?_
    refine jr_ic4 C dX1_isSet_5 ?_
    refine jr_cmp_ge C dX1_isSet_6 (fun hd => ?_) (fun hd => ?_)
    · refine jr_ic0 C dX1_isSet_13 ?_
      exact jr_zret C hret dX1_isSet_14 (⟨by decide, Or.inr ⟨jok_no4 (Or.inr hd), rfl⟩, rfl, rfl⟩)
    · refine jr_ic1 C dX1_isSet_9 ?_
      refine jr_goto C dX1_isSet_10 ?_
      exact jr_zret C hret dX1_isSet_14 (⟨by decide, Or.inl ⟨jok_of4 hc hd, rfl⟩, rfl, rfl⟩)
def Q_has (N : Nat → Nat → Nat) (K : Nat → Nat → Int32) (P : jP) (s x : Int32) : Int32 → (Nat → Nat → Nat) → (Nat → Nat → Int32) → Prop := fun r N1 K1 => A_has P s x r ∧ N1 = N ∧ K1 = K
theorem mm_has (l : Launch) (N : Nat → Nat → Nat) (K : Nat → Nat → Int32) {P : jP} (hI : MInv N K P) (s0 x : Int32) : jI l mw mty yX1_has cX1_has 4 .boolean 1 [.int s0, .int x] N K (Q_has N K P s0 x) := by
  refine jI_of (k := 1) (kN := 1) (L := fun g : jG => [some (.ref g.2.1), some (.int s0), some (.int x), none]) (by decide) (fun g => rfl) (fun g => rfl) (fun g => by simp [Value.category]) ?_
  intro g p e s m args below meth c A C hret
  by_cases hj : jok s0
  · obtain ⟨i, hi, rfl⟩ := hj
    obtain ⟨hn, hnd, hP⟩ := hI i hi
    have lp : ∀ (k j : Nat), N 1 i < j + k → j ≤ N 1 i → (∀ t, t < j → K 0 (i * 20 + t) ≠ x) → JJ p l e (jrm 1) s m args below meth c 0 0 (jQI mw mty g A below args s (Q_has N K P (nI i) x)) A g.1 4 (mw g N K) 2 [some (.ref g.2.1), some (.int (nI i)), some (.int x), some (.int (nI j))] [] := by
      intro k
      induction k with
      | zero => intro j h1 h2; omega
      | succ k ih =>
        intro j h1 h2 hno
        refine jr_al0 C dX1_has_2 ?_
        refine jr_il1 C dX1_has_3 ?_
        refine jc_misSet C dX1_has_4 ⟨by decide, by decide⟩ (Nat.le_of_ble_eq_true rfl) (mm_isSet l N K (nI i)) (fun r N1 K1 hp => ?_)
        obtain ⟨hb, rfl, rfl⟩ := hp
        rcases hb with ⟨-, rfl⟩ | ⟨h, -⟩
        rotate_left
        · exact absurd (jok_n hi) h
        refine jr_ifN_eq C dX1_has_7 (by omega) (fun hc => ?_) (fun hc => ?_)
        · exact absurd hc (by decide)
        refine jr_il3 C dX1_has_10 ?_
        refine jr_al0 C dX1_has_11 ?_
        refine jg_msizes C dX1_has_12 ?_
        refine jr_il1 C dX1_has_15 ?_
        refine jl_msizes C dX1_has_16 (by omega) ?_
        refine jr_cmpN_ge C dX1_has_17 (by omega) (by omega) (fun hd => ?_) (fun hd => ?_)
        · refine jr_ic0 C dX1_has_43 ?_
          refine jr_zret C hret dX1_has_44 ?_
          refine ⟨by decide, Or.inr ⟨?_, rfl⟩, rfl, rfl⟩
          rintro ⟨i2, hi2, e, hPx⟩
          rw [← nI4 hi hi2 e] at hPx
          obtain ⟨t, ht, e2⟩ := ml_mem.mp ((hP x).mpr hPx)
          exact hno t (by omega) e2
        · refine jr_al0 C dX1_has_20 ?_
          refine jg_mints C dX1_has_21 ?_
          refine jr_il1 C dX1_has_24 ?_
          refine jr_bipush (v := nI 20) C dX1_has_25 (by decide) ?_
          refine jr_imul C dX1_has_27 ?_
          refine jr_il3 C dX1_has_28 ?_
          refine jr_iadd C dX1_has_29 ?_
          refine jl_mints C dX1_has_30 (by omega) ?_
          refine jr_il2 C dX1_has_31 ?_
          refine jr_cmp_ne C dX1_has_32 (fun he => ?_) (fun he => ?_)
          · refine jr_inc3 C dX1_has_37 ?_
            refine jr_goto C dX1_has_40 ?_
            refine ih (j + 1) (by omega) (by omega) ?_
            intro t ht
            by_cases htj : t = j
            · rw [htj]; exact he
            · exact hno t (by omega)
          · refine jr_ic1 C dX1_has_35 ?_
            refine jr_zret C hret dX1_has_36 ?_
            exact ⟨by decide, Or.inl ⟨⟨i, hi, rfl, (hP x).mp (ml_mem.mpr ⟨j, by omega, he⟩)⟩, rfl⟩, rfl, rfl⟩
    refine jr_ic0 C dX1_has_0 ?_
    refine jr_is3 C dX1_has_1 ?_
    exact lp (N 1 i + 1) 0 (by omega) (by omega) (fun t ht => by omega)
  · refine jr_ic0 C dX1_has_0 ?_
    refine jr_is3 C dX1_has_1 ?_
    refine jr_al0 C dX1_has_2 ?_
    refine jr_il1 C dX1_has_3 ?_
    refine jc_misSet C dX1_has_4 ⟨by decide, by decide⟩ (Nat.le_of_ble_eq_true rfl) (mm_isSet l N K s0) (fun r N1 K1 hp => ?_)
    obtain ⟨hb, rfl, rfl⟩ := hp
    rcases hb with ⟨h, -⟩ | ⟨-, rfl⟩
    · exact absurd h hj
    refine jr_ifN_eq C dX1_has_7 (by omega) (fun hc => ?_) (fun hc => ?_)
    rotate_left
    · exact absurd rfl hc
    refine jr_ic0 C dX1_has_43 ?_
    refine jr_zret C hret dX1_has_44 ?_
    exact ⟨by decide, Or.inr ⟨fun ⟨i, hi, e, _⟩ => hj ⟨i, hi, e⟩, rfl⟩, rfl, rfl⟩
theorem mm_size (l : Launch) (N : Nat → Nat → Nat) (K : Nat → Nat → Int32) {P : jP} (hI : MInv N K P) (s0 : Int32) : jI l mw mty yX1_size cX1_size 2 .int 1 [.int s0] N K (fun r N1 K1 => A_size P s0 r ∧ MInv N1 K1 P) := by
  refine jI_of (k := 1) (kN := 0) (L := fun g : jG => [some (.ref g.2.1), some (.int s0)]) (by decide) (fun g => rfl) (fun g => rfl) (fun g => by simp [Value.category]) ?_
  intro g p e s m args below meth c A C hret
  refine jr_al0 C dX1_size_0 ?_
  refine jr_il1 C dX1_size_1 ?_
  refine jc_misSet C dX1_size_2 ⟨by decide, by decide⟩ (Nat.le_of_ble_eq_true rfl) (mm_isSet l N K s0) (fun r N1 K1 hp => ?_)
  obtain ⟨hb, rfl, rfl⟩ := hp
  rcases hb with ⟨⟨i, hi, rfl⟩, rfl⟩ | ⟨h, rfl⟩
  · refine jr_ifN_eq C dX1_size_5 (by omega) (fun hc => ?_) (fun hc => ?_)
    · exact absurd hc (by decide)
    refine jr_al0 C dX1_size_8 ?_
    refine jg_msizes C dX1_size_9 ?_
    refine jr_il1 C dX1_size_12 ?_
    refine jl_msizes C dX1_size_13 (by omega) ?_
    refine jr_goto C dX1_size_14 ?_
    refine jr_iret C hret dX1_size_18 ?_
    exact ⟨Or.inr ⟨i, hi, rfl, by rw [hI.card hi]⟩, hI⟩
  · refine jr_ifN_eq C dX1_size_5 (by omega) (fun hc => ?_) (fun hc => ?_)
    rotate_left
    · exact absurd rfl hc
    refine jr_icm1 C dX1_size_17 ?_
    refine jr_iret C hret dX1_size_18 ?_
    exact ⟨Or.inl ⟨h, rfl⟩, hI⟩
/-- how many of the first n are smaller -/
def mk_ (K : Nat → Nat → Int32) (i n : Nat) (x : Int32) : Nat := (ml K i n).countP (fun e => decide (e < x))
theorem mk_succ {K : Nat → Nat → Int32} {i n : Nat} {x : Int32} : mk_ K i (n + 1) x = mk_ K i n x + (if K 0 (i * 20 + n) < x then 1 else 0) := by
  unfold mk_
  rw [ml_succ, List.countP_append, List.countP_cons, List.countP_nil]
  simp
theorem mk_le {K : Nat → Nat → Int32} {i n : Nat} {x : Int32} : mk_ K i n x ≤ n := by
  have := @List.countP_le_length _ (fun e => decide (e < x)) (ml K i n)
  rw [ml_len] at this
  exact this
theorem MInv.rk {N : Nat → Nat → Nat} {K : Nat → Nat → Int32} {P : jP} (h : MInv N K P) {i : Nat} (hi : i < 4) (x : Int32) : cd (fun y => P i y ∧ y < x) = mk_ K i (N 1 i) x := by
  obtain ⟨hn, hnd, hP⟩ := h i hi
  rw [cd_of (L := (ml K i (N 1 i)).filter (fun e => decide (e < x))) (List.Nodup.sublist List.filter_sublist hnd), mk_, List.countP_eq_length_filter]
  intro k
  rw [List.mem_filter, hP k]
  simp
theorem mm_rank (l : Launch) (N : Nat → Nat → Nat) (K : Nat → Nat → Int32) {P : jP} (hI : MInv N K P) (s0 x : Int32) : jI l mw mty yX1_rank cX1_rank 5 .int 1 [.int s0, .int x] N K (fun r N1 K1 => A_rank P s0 x r ∧ N1 = N ∧ K1 = K) := by
  refine jI_of (k := 1) (kN := 2) (L := fun g : jG => [some (.ref g.2.1), some (.int s0), some (.int x), none, none]) (by decide) (fun g => rfl) (fun g => rfl) (fun g => by simp [Value.category]) ?_
  intro g p e s m args below meth c A C hret
  refine jr_al0 C dX1_rank_0 ?_
  refine jr_il1 C dX1_rank_1 ?_
  refine jc_misSet C dX1_rank_2 ⟨by decide, by decide⟩ (Nat.le_of_ble_eq_true rfl) (mm_isSet l N K s0) (fun r N1 K1 hp => ?_)
  obtain ⟨hb, rfl, rfl⟩ := hp
  rcases hb with ⟨⟨i, hi, rfl⟩, rfl⟩ | ⟨h, rfl⟩
  · obtain ⟨hn, hnd, hP⟩ := hI i hi
    refine jr_ifN_ne C dX1_rank_5 (by omega) (fun hc => ?_) (fun hc => ?_)
    rotate_left
    · exact absurd hc (by decide)
    have lp : ∀ (k j : Nat), N1 1 i < j + k → j ≤ N1 1 i → JJ p l e (jrm 1) s m args below meth c 0 0 (jQI mw mty g A below args s (fun r N2 K2 => A_rank P (nI i) x r ∧ N2 = N1 ∧ K2 = K1)) A g.1 5 (mw g N1 K1) 15 [some (.ref g.2.1), some (.int (nI i)), some (.int x), some (.int (nI (mk_ K1 i j x))), some (.int (nI j))] [] := by
      intro k
      induction k with
      | zero => intro j h1 h2; omega
      | succ k ih =>
        intro j h1 h2
        have hle := mk_le (K := K1) (i := i) (n := j) (x := x)
        refine jr_il4 C dX1_rank_15 ?_
        refine jr_al0 C dX1_rank_17 ?_
        refine jg_msizes C dX1_rank_18 ?_
        refine jr_il1 C dX1_rank_21 ?_
        refine jl_msizes C dX1_rank_22 (by omega) ?_
        refine jr_cmpN_ge C dX1_rank_23 (by omega) (by omega) (fun hd => ?_) (fun hd => ?_)
        · refine jr_il3 C dX1_rank_51 ?_
          refine jr_iret C hret dX1_rank_52 ?_
          have : j = N1 1 i := by omega
          exact ⟨Or.inr ⟨i, hi, rfl, by rw [hI.rk hi, this]⟩, rfl, rfl⟩
        · refine jr_al0 C dX1_rank_26 ?_
          refine jg_mints C dX1_rank_27 ?_
          refine jr_il1 C dX1_rank_30 ?_
          refine jr_bipush (v := nI 20) C dX1_rank_31 (by decide) ?_
          refine jr_imul C dX1_rank_33 ?_
          refine jr_il4 C dX1_rank_34 ?_
          refine jr_iadd C dX1_rank_36 ?_
          refine jl_mints C dX1_rank_37 (by omega) ?_
          refine jr_il2 C dX1_rank_38 ?_
          refine jr_cmp_ge C dX1_rank_39 (fun he => ?_) (fun he => ?_)
          · refine jr_inc4 C dX1_rank_45 ?_
            refine jr_goto C dX1_rank_48 ?_
            refine jr_lo (by rw [show mk_ K1 i j x = mk_ K1 i (j + 1) x by rw [mk_succ, if_neg (Int32.not_lt.mpr he), Nat.add_zero]]) (ih (j + 1) (by omega) (by omega))
          · refine jr_inc3 C dX1_rank_42 ?_
            refine jr_inc4 C dX1_rank_45 ?_
            refine jr_goto C dX1_rank_48 ?_
            refine jr_lo (by rw [show mk_ K1 i j x + 1 = mk_ K1 i (j + 1) x by rw [mk_succ, if_pos (ii_nle he)]]) (ih (j + 1) (by omega) (by omega))
    refine jr_ic0 C dX1_rank_10 ?_
    refine jr_is3 C dX1_rank_11 ?_
    refine jr_ic0 C dX1_rank_12 ?_
    refine jr_is4 C dX1_rank_13 ?_
    exact lp (N1 1 i + 1) 0 (by omega) (by omega)
  · refine jr_ifN_ne C dX1_rank_5 (by omega) (fun hc => ?_) (fun hc => ?_)
    · exact absurd rfl hc
    refine jr_icm1 C dX1_rank_8 ?_
    refine jr_iret C hret dX1_rank_9 ?_
    exact ⟨Or.inl ⟨h, rfl⟩, rfl, rfl⟩
theorem mm_at (l : Launch) (N : Nat → Nat → Nat) (K : Nat → Nat → Int32) {P : jP} (hI : MInv N K P) (s0 x : Int32) : jI l mw mty yX1_at cX1_at 4 .int 2 [.int s0, .int x] N K (fun r N1 K1 => A_at P s0 x r ∧ MInv N1 K1 P) := by
  refine jI_of (k := 2) (kN := 1) (L := fun g : jG => [some (.ref g.2.1), some (.int s0), some (.int x), none]) (by decide) (fun g => rfl) (fun g => rfl) (fun g => by simp [Value.category]) ?_
  intro g p e s m args below meth c A C hret
  by_cases hj : jok s0
  · obtain ⟨i, hi, rfl⟩ := hj
    obtain ⟨hn, hnd, hP⟩ := hI i hi
    have lp : ∀ (k j : Nat), N 1 i < j + k → j ≤ N 1 i → (∀ t, t < j → x ≠ nI (cd (fun y => P i y ∧ y < K 0 (i * 20 + t)))) → JJ p l e (jrm 2) s m args below meth c 0 0 (jQI mw mty g A below args s (fun r N1 K1 => A_at P (nI i) x r ∧ MInv N1 K1 P)) A g.1 4 (mw g N K) 2 [some (.ref g.2.1), some (.int (nI i)), some (.int x), some (.int (nI j))] [] := by
      intro k
      induction k with
      | zero => intro j h1 h2; omega
      | succ k ih =>
        intro j h1 h2 hno
        refine jr_al0 C dX1_at_2 ?_
        refine jr_il1 C dX1_at_3 ?_
        refine jc_misSet C dX1_at_4 ⟨by decide, by decide⟩ (Nat.le_of_ble_eq_true rfl) (mm_isSet l N K (nI i)) (fun r N1 K1 hp => ?_)
        obtain ⟨hb, rfl, rfl⟩ := hp
        rcases hb with ⟨-, rfl⟩ | ⟨h, -⟩
        rotate_left
        · exact absurd (jok_n hi) h
        refine jr_ifN_eq C dX1_at_7 (by omega) (fun hc => ?_) (fun hc => ?_)
        · exact absurd hc (by decide)
        refine jr_il3 C dX1_at_10 ?_
        refine jr_al0 C dX1_at_11 ?_
        refine jg_msizes C dX1_at_12 ?_
        refine jr_il1 C dX1_at_15 ?_
        refine jl_msizes C dX1_at_16 (by omega) ?_
        refine jr_cmpN_ge C dX1_at_17 (by omega) (by omega) (fun hd => ?_) (fun hd => ?_)
        · refine jr_ic0 C dX1_at_58 ?_
          refine jr_iret C hret dX1_at_59 ?_
          refine ⟨Or.inr ⟨?_, rfl⟩, hI⟩
          rintro ⟨i2, e2, hi2, e, hPx, hx⟩
          rw [← nI4 hi hi2 e] at hPx hx
          obtain ⟨t, ht, et⟩ := ml_mem.mp ((hP e2).mpr hPx)
          rw [← et] at hx
          exact hno t (by omega) hx
        · have hPe : P i (K1 0 (i * 20 + j)) := (hP _).mp (ml_mem.mpr ⟨j, by omega, rfl⟩)
          refine jr_al0 C dX1_at_20 ?_
          refine jr_il1 C dX1_at_21 ?_
          refine jr_al0 C dX1_at_22 ?_
          refine jg_mints C dX1_at_23 ?_
          refine jr_il1 C dX1_at_26 ?_
          refine jr_bipush (v := nI 20) C dX1_at_27 (by decide) ?_
          refine jr_imul C dX1_at_29 ?_
          refine jr_il3 C dX1_at_30 ?_
          refine jr_iadd C dX1_at_31 ?_
          refine jl_mints C dX1_at_32 (by omega) ?_
          refine jc_mrank C dX1_at_33 ⟨by decide, by decide⟩ (Nat.le_of_ble_eq_true rfl) (mm_rank l N1 K1 hI (nI i) (K1 0 (i * 20 + j))) (fun r N2 K2 hp => ?_)
          obtain ⟨hr, rfl, rfl⟩ := hp
          have hr : r = nI (cd (fun y => P i y ∧ y < K2 0 (i * 20 + j))) := by
            rcases hr with ⟨h, -⟩ | ⟨i2, hi2, e, h⟩
            · exact absurd (jok_n hi) h
            · rw [nI4 hi hi2 e]
              rw [← nI4 hi hi2 e] at h ⊢
              exact h
          subst hr
          refine jr_il2 C dX1_at_36 ?_
          refine jr_cmp_ne C dX1_at_37 (fun he => ?_) (fun he => ?_)
          · refine jr_inc3 C dX1_at_52 ?_
            refine jr_goto C dX1_at_55 ?_
            refine ih (j + 1) (by omega) (by omega) ?_
            intro t ht
            by_cases htj : t = j
            · rw [htj]; exact fun q => he q.symm
            · exact hno t (by omega)
          · refine jr_al0 C dX1_at_40 ?_
            refine jg_mints C dX1_at_41 ?_
            refine jr_il1 C dX1_at_44 ?_
            refine jr_bipush (v := nI 20) C dX1_at_45 (by decide) ?_
            refine jr_imul C dX1_at_47 ?_
            refine jr_il3 C dX1_at_48 ?_
            refine jr_iadd C dX1_at_49 ?_
            refine jl_mints C dX1_at_50 (by omega) ?_
            refine jr_iret C hret dX1_at_51 ?_
            exact ⟨Or.inl ⟨i, hi, rfl, hPe, he.symm⟩, hI⟩
    refine jr_ic0 C dX1_at_0 ?_
    refine jr_is3 C dX1_at_1 ?_
    exact lp (N 1 i + 1) 0 (by omega) (by omega) (fun t ht => by omega)
  · refine jr_ic0 C dX1_at_0 ?_
    refine jr_is3 C dX1_at_1 ?_
    refine jr_al0 C dX1_at_2 ?_
    refine jr_il1 C dX1_at_3 ?_
    refine jc_misSet C dX1_at_4 ⟨by decide, by decide⟩ (Nat.le_of_ble_eq_true rfl) (mm_isSet l N K s0) (fun r N1 K1 hp => ?_)
    obtain ⟨hb, rfl, rfl⟩ := hp
    rcases hb with ⟨h, -⟩ | ⟨-, rfl⟩
    · exact absurd h hj
    refine jr_ifN_eq C dX1_at_7 (by omega) (fun hc => ?_) (fun hc => ?_)
    rotate_left
    · exact absurd rfl hc
    refine jr_ic0 C dX1_at_58 ?_
    refine jr_iret C hret dX1_at_59 ?_
    exact ⟨Or.inr ⟨fun ⟨i, _, hi, e, _⟩ => hj ⟨i, hi, e⟩, rfl⟩, hI⟩
theorem mm_ceiling (l : Launch) (N : Nat → Nat → Nat) (K : Nat → Nat → Int32) {P : jP} (hI : MInv N K P) (s0 x : Int32) : jI l mw mty yX1_ceiling cX1_ceiling 4 .int 2 [.int s0, .int x] N K (fun r N1 K1 => A_ceil P s0 x r ∧ MInv N1 K1 P) := by
  refine jI_of (k := 2) (kN := 1) (L := fun g : jG => [some (.ref g.2.1), some (.int s0), some (.int x), none]) (by decide) (fun g => rfl) (fun g => rfl) (fun g => by simp [Value.category]) ?_
  intro g p e s m args below meth c A C hret
  refine jr_al0 C dX1_ceiling_0 ?_
  refine jr_il1 C dX1_ceiling_1 ?_
  refine jc_misSet C dX1_ceiling_2 ⟨by decide, by decide⟩ (Nat.le_of_ble_eq_true rfl) (mm_isSet l N K s0) (fun r N1 K1 hp => ?_)
  obtain ⟨hb, rfl, rfl⟩ := hp
  rcases hb with ⟨⟨i, hi, rfl⟩, rfl⟩ | ⟨h, rfl⟩
  · obtain ⟨hn, hnd, hP⟩ := hI i hi
    refine jr_ifN_ne C dX1_ceiling_5 (by omega) (fun hc => ?_) (fun hc => ?_)
    rotate_left
    · exact absurd hc (by decide)
    refine jr_al0 C dX1_ceiling_10 ?_
    refine jr_il1 C dX1_ceiling_11 ?_
    refine jr_il2 C dX1_ceiling_12 ?_
    refine jc_mrank C dX1_ceiling_13 ⟨by decide, by decide⟩ (Nat.le_of_ble_eq_true rfl) (mm_rank l N1 K1 hI (nI i) x) (fun r N2 K2 hp => ?_)
    obtain ⟨hr, rfl, rfl⟩ := hp
    have hle := mk_le (K := K2) (i := i) (n := N2 1 i) (x := x)
    have hr : r = nI (mk_ K2 i (N2 1 i) x) := by
      rcases hr with ⟨h, -⟩ | ⟨i2, hi2, e, h⟩
      · exact absurd (jok_n hi) h
      · rw [← nI4 hi hi2 e, hI.rk hi] at h
        exact h
    subst hr
    refine jr_is3 C dX1_ceiling_16 ?_
    refine jr_il3 C dX1_ceiling_17 ?_
    refine jr_al0 C dX1_ceiling_18 ?_
    refine jg_msizes C dX1_ceiling_19 ?_
    refine jr_il1 C dX1_ceiling_22 ?_
    refine jl_msizes C dX1_ceiling_23 (by omega) ?_
    refine jr_cmpN_ge C dX1_ceiling_24 (by omega) (by omega) (fun hd => ?_) (fun hd => ?_)
    · refine jr_bipush (v := -3) C dX1_ceiling_31 (by decide) ?_
      refine jr_iret C hret dX1_ceiling_33 ?_
      exact ⟨Or.inr ⟨i, hi, rfl, Or.inr ⟨by rw [hI.rk hi, hI.card hi]; omega, rfl⟩⟩, hI⟩
    · refine jr_il3 C dX1_ceiling_27 ?_
      refine jr_goto C dX1_ceiling_28 ?_
      refine jr_iret C hret dX1_ceiling_33 ?_
      exact ⟨Or.inr ⟨i, hi, rfl, Or.inl ⟨by rw [hI.rk hi, hI.card hi]; omega, by rw [hI.rk hi]⟩⟩, hI⟩
  · refine jr_ifN_ne C dX1_ceiling_5 (by omega) (fun hc => ?_) (fun hc => ?_)
    · exact absurd rfl hc
    refine jr_icm1 C dX1_ceiling_8 ?_
    refine jr_iret C hret dX1_ceiling_9 ?_
    exact ⟨Or.inl ⟨h, rfl⟩, hI⟩
theorem mm_clear (l : Launch) (N : Nat → Nat → Nat) (K : Nat → Nat → Int32) {P : jP} (hI : MInv N K P) (s0 : Int32) : jI l mw mty yX1_clear cX1_clear 3 .int 1 [.int s0] N K (fun r N1 K1 => ∃ P1, A_clear P s0 r P1 ∧ MInv N1 K1 P1) := by
  refine jI_of (k := 1) (kN := 1) (L := fun g : jG => [some (.ref g.2.1), some (.int s0), none]) (by decide) (fun g => rfl) (fun g => rfl) (fun g => by simp [Value.category]) ?_
  intro g p e s m args below meth c A C hret
  refine jr_al0 C dX1_clear_0 ?_
  refine jr_il1 C dX1_clear_1 ?_
  refine jc_misSet C dX1_clear_2 ⟨by decide, by decide⟩ (Nat.le_of_ble_eq_true rfl) (mm_isSet l N K s0) (fun r N1 K1 hp => ?_)
  obtain ⟨hb, rfl, rfl⟩ := hp
  rcases hb with ⟨⟨i, hi, rfl⟩, rfl⟩ | ⟨h, rfl⟩
  · refine jr_ifN_ne C dX1_clear_5 (by omega) (fun hc => ?_) (fun hc => ?_)
    rotate_left
    · exact absurd hc (by decide)
    refine jr_al0 C dX1_clear_10 ?_
    refine jg_msizes C dX1_clear_11 ?_
    refine jr_il1 C dX1_clear_14 ?_
    refine jl_msizes C dX1_clear_15 (by omega) ?_
    refine jr_is2 C dX1_clear_16 ?_
    refine jr_al0 C dX1_clear_17 ?_
    refine jg_msizes C dX1_clear_18 ?_
    refine jr_il1 C dX1_clear_21 ?_
    refine jr_ic0 C dX1_clear_22 ?_
    refine js_msizes C dX1_clear_23 (by omega) ?_
    refine jr_il2 C dX1_clear_24 ?_
    refine jr_iret C hret dX1_clear_25 ?_
    refine ⟨_, Or.inr ⟨i, hi, rfl, by rw [hI.card hi], rfl⟩, hI.set hi (fun j hj => jup_n hj) jup_s (by decide) (fun _ _ => rfl) ?_ ?_⟩
    · exact List.Pairwise.nil
    · intro k
      simp [ml]
  · refine jr_ifN_ne C dX1_clear_5 (by omega) (fun hc => ?_) (fun hc => ?_)
    · exact absurd rfl hc
    refine jr_icm1 C dX1_clear_8 ?_
    refine jr_iret C hret dX1_clear_9 ?_
    exact ⟨P, Or.inl ⟨h, rfl, rfl⟩, hI⟩
theorem mm_within (l : Launch) (N : Nat → Nat → Nat) (K : Nat → Nat → Int32) {P : jP} (hI : MInv N K P) (a0 b0 : Int32) : jI l mw mty yX1_within cX1_within 4 .boolean 2 [.int a0, .int b0] N K (fun r N1 K1 => A_wi P a0 b0 r ∧ MInv N1 K1 P) := by
  refine jI_of (k := 2) (kN := 1) (L := fun g : jG => [some (.ref g.2.1), some (.int a0), some (.int b0), none]) (by decide) (fun g => rfl) (fun g => rfl) (fun g => by simp [Value.category]) ?_
  intro g p e s m args below meth c A C hret
  refine jr_al0 C dX1_within_0 ?_
  refine jr_il1 C dX1_within_1 ?_
  refine jc_misSet C dX1_within_2 ⟨by decide, by decide⟩ (Nat.le_of_ble_eq_true rfl) (mm_isSet l N K a0) (fun r N1 K1 hp => ?_)
  obtain ⟨hb, rfl, rfl⟩ := hp
  rcases hb with ⟨⟨i, hi, rfl⟩, rfl⟩ | ⟨h, rfl⟩
  rotate_left
  · refine jr_ifN_eq C dX1_within_5 (by omega) (fun hc => ?_) (fun hc => ?_)
    rotate_left
    · exact absurd rfl hc
    refine jr_ic0 C dX1_within_16 ?_
    refine jr_zret C hret dX1_within_17 ?_
    exact ⟨by decide, Or.inr ⟨fun ⟨i, j, hi, hj2, e, _⟩ => h ⟨i, hi, e⟩, rfl⟩, hI⟩
  refine jr_ifN_eq C dX1_within_5 (by omega) (fun hc => ?_) (fun hc => ?_)
  · exact absurd hc (by decide)
  refine jr_al0 C dX1_within_8 ?_
  refine jr_il2 C dX1_within_9 ?_
  refine jc_misSet C dX1_within_10 ⟨by decide, by decide⟩ (Nat.le_of_ble_eq_true rfl) (mm_isSet l N1 K1 b0) (fun r N2 K2 hp => ?_)
  obtain ⟨hb, rfl, rfl⟩ := hp
  rcases hb with ⟨⟨j, hj, rfl⟩, rfl⟩ | ⟨h, rfl⟩
  rotate_left
  · refine jr_ifN_ne C dX1_within_13 (by omega) (fun hd => ?_) (fun hd => ?_)
    · exact absurd rfl hd
    refine jr_ic0 C dX1_within_16 ?_
    refine jr_zret C hret dX1_within_17 ?_
    exact ⟨by decide, Or.inr ⟨fun ⟨i, j, hi, hj2, e, e2, _⟩ => h ⟨j, hj2, e2⟩, rfl⟩, hI⟩
  refine jr_ifN_ne C dX1_within_13 (by omega) (fun hd => ?_) (fun hd => ?_)
  rotate_left
  · exact absurd hd (by decide)
  obtain ⟨hn, hnd, hP⟩ := hI i hi
  have lp : ∀ (k t : Nat), N2 1 i < t + k → t ≤ N2 1 i → (∀ q, q < t → P j (K2 0 (i * 20 + q))) → JJ p l e (jrm 2) s m args below meth c 0 0 (jQI mw mty g A below args s (fun r N1 K1 => A_wi P (nI i) (nI j) r ∧ MInv N1 K1 P)) A g.1 4 (mw g N2 K2) 20 [some (.ref g.2.1), some (.int (nI i)), some (.int (nI j)), some (.int (nI t))] [] := by
    intro k
    induction k with
    | zero => intro t h1 h2; omega
    | succ k ih =>
      intro t h1 h2 hall
      refine jr_il3 C dX1_within_20 ?_
      refine jr_al0 C dX1_within_21 ?_
      refine jg_msizes C dX1_within_22 ?_
      refine jr_il1 C dX1_within_25 ?_
      refine jl_msizes C dX1_within_26 (by omega) ?_
      refine jr_cmpN_ge C dX1_within_27 (by omega) (by omega) (fun he => ?_) (fun he => ?_)
      · refine jr_ic1 C dX1_within_57 ?_
        refine jr_zret C hret dX1_within_58 ?_
        refine ⟨by decide, Or.inl ⟨⟨i, j, hi, hj, rfl, rfl, ?_⟩, rfl⟩, hI⟩
        intro k2 hk2
        obtain ⟨q, hq, e⟩ := ml_mem.mp ((hP k2).mpr hk2)
        rw [← e]
        exact hall q (by omega)
      · refine jr_al0 C dX1_within_30 ?_
        refine jr_il2 C dX1_within_31 ?_
        refine jr_al0 C dX1_within_32 ?_
        refine jg_mints C dX1_within_33 ?_
        refine jr_il1 C dX1_within_36 ?_
        refine jr_bipush (v := nI 20) C dX1_within_37 (by decide) ?_
        refine jr_imul C dX1_within_39 ?_
        refine jr_il3 C dX1_within_40 ?_
        refine jr_iadd C dX1_within_41 ?_
        refine jl_mints C dX1_within_42 (by omega) ?_
        refine jc_mhas C dX1_within_43 ⟨by decide, by decide⟩ (Nat.le_of_ble_eq_true rfl) (mm_has l N2 K2 hI (nI j) (K2 0 (i * 20 + t))) (fun r N3 K3 hp => ?_)
        obtain ⟨hr, rfl, rfl⟩ := hp
        rcases hr with ⟨⟨j2, hj2, e, hPx⟩, rfl⟩ | ⟨hno, rfl⟩
        · refine jr_ifN_ne C dX1_within_46 (by omega) (fun hf => ?_) (fun hf => ?_)
          rotate_left
          · exact absurd hf (by decide)
          refine jr_inc3 C dX1_within_51 ?_
          refine jr_goto C dX1_within_54 ?_
          refine ih (t + 1) (by omega) (by omega) ?_
          intro q hq
          by_cases hqt : q = t
          · rw [hqt, nI4 hj hj2 e]; exact hPx
          · exact hall q (by omega)
        · refine jr_ifN_ne C dX1_within_46 (by omega) (fun hf => ?_) (fun hf => ?_)
          · exact absurd rfl hf
          refine jr_ic0 C dX1_within_49 ?_
          refine jr_zret C hret dX1_within_50 ?_
          refine ⟨by decide, Or.inr ⟨?_, rfl⟩, hI⟩
          rintro ⟨i2, j2, hi2, hj2, e1, e2, hall2⟩
          rw [← nI4 hi hi2 e1, ← nI4 hj hj2 e2] at hall2
          exact hno ⟨j, hj, rfl, hall2 _ ((hP _).mp (ml_mem.mpr ⟨t, by omega, rfl⟩))⟩
  refine jr_ic0 C dX1_within_18 ?_
  refine jr_is3 C dX1_within_19 ?_
  exact lp (N2 1 i + 1) 0 (by omega) (by omega) (fun q hq => by omega)
theorem mm_same (l : Launch) (N : Nat → Nat → Nat) (K : Nat → Nat → Int32) {P : jP} (hR : MInv N K P) (a0 b0 : Int32) : jI l mw mty yX1_same cX1_same 3 .boolean 3 [.int a0, .int b0] N K (fun r N1 K1 => A_same P a0 b0 r ∧ MInv N1 K1 P) := by
  refine jI_of (k := 3) (kN := 0) (L := fun g : jG => [some (.ref g.2.1), some (.int a0), some (.int b0)]) (by decide) (fun g => rfl) (fun g => rfl) (fun g => by simp [Value.category]) ?_
  intro g p e s m args below meth c A C hret
  refine jr_al0 C dX1_same_0 ?_
  refine jr_il1 C dX1_same_1 ?_
  refine jr_il2 C dX1_same_2 ?_
  refine jc_mwithin C dX1_same_3 ⟨by decide, by decide⟩ (Nat.le_of_ble_eq_true rfl) (mm_within l N K hR a0 b0) (fun r N1 K1 hp => ?_)
  obtain ⟨h1, hR1⟩ := hp
  rcases h1 with ⟨h1, rfl⟩ | ⟨h1, rfl⟩
  · refine jr_ifN_eq C dX1_same_6 (by omega) (fun hc => ?_) (fun hc => ?_)
    · exact absurd hc (by decide)
    refine jr_al0 C dX1_same_9 ?_
    refine jr_il2 C dX1_same_10 ?_
    refine jr_il1 C dX1_same_11 ?_
    refine jc_mwithin C dX1_same_12 ⟨by decide, by decide⟩ (Nat.le_of_ble_eq_true rfl) (mm_within l N1 K1 hR1 b0 a0) (fun r N2 K2 hp => ?_)
    obtain ⟨h2, hR2⟩ := hp
    rcases h2 with ⟨h2, rfl⟩ | ⟨h2, rfl⟩
    · refine jr_ifN_eq C dX1_same_15 (by omega) (fun hd => ?_) (fun hd => ?_)
      · exact absurd hd (by decide)
      refine jr_ic1 C dX1_same_18 ?_
      refine jr_goto C dX1_same_19 ?_
      refine jr_zret C hret dX1_same_23 ?_
      exact ⟨by decide, Or.inl ⟨⟨h1, h2⟩, rfl⟩, hR2⟩
    · refine jr_ifN_eq C dX1_same_15 (by omega) (fun hd => ?_) (fun hd => ?_)
      · refine jr_ic0 C dX1_same_22 ?_
        refine jr_zret C hret dX1_same_23 ?_
        exact ⟨by decide, Or.inr ⟨fun h => h2 h.2, rfl⟩, hR2⟩
      · exact absurd rfl hd
  · refine jr_ifN_eq C dX1_same_6 (by omega) (fun hc => ?_) (fun hc => ?_)
    · refine jr_ic0 C dX1_same_22 ?_
      refine jr_zret C hret dX1_same_23 ?_
      exact ⟨by decide, Or.inr ⟨fun h => h1 h.1, rfl⟩, hR1⟩
    · exact absurd rfl hc
theorem mm_add (l : Launch) (N : Nat → Nat → Nat) (K : Nat → Nat → Int32) {P : jP} (hI : MInv N K P) (s0 x : Int32) : jI l mw mty yX1_add cX1_add 3 .int 2 [.int s0, .int x] N K (fun r N1 K1 => ∃ P1, A_add P s0 x r P1 ∧ MInv N1 K1 P1) := by
  refine jI_of (k := 2) (kN := 0) (L := fun g : jG => [some (.ref g.2.1), some (.int s0), some (.int x)]) (by decide) (fun g => rfl) (fun g => rfl) (fun g => by simp [Value.category]) ?_
  intro g p e s m args below meth c A C hret
  refine jr_al0 C dX1_add_0 ?_
  refine jr_il1 C dX1_add_1 ?_
  refine jc_misSet C dX1_add_2 ⟨by decide, by decide⟩ (Nat.le_of_ble_eq_true rfl) (mm_isSet l N K s0) (fun r N1 K1 hp => ?_)
  obtain ⟨hb, rfl, rfl⟩ := hp
  rcases hb with ⟨⟨i, hi, rfl⟩, rfl⟩ | ⟨h, rfl⟩
  rotate_left
  · refine jr_ifN_ne C dX1_add_5 (by omega) (fun hc => ?_) (fun hc => ?_)
    · exact absurd rfl hc
    refine jr_icm1 C dX1_add_8 ?_
    refine jr_iret C hret dX1_add_9 ?_
    exact ⟨P, Or.inl ⟨h, rfl, rfl⟩, hI⟩
  refine jr_ifN_ne C dX1_add_5 (by omega) (fun hc => ?_) (fun hc => ?_)
  rotate_left
  · exact absurd hc (by decide)
  obtain ⟨hn, hnd, hP⟩ := hI i hi
  refine jr_al0 C dX1_add_10 ?_
  refine jr_il1 C dX1_add_11 ?_
  refine jr_il2 C dX1_add_12 ?_
  refine jc_mhas C dX1_add_13 ⟨by decide, by decide⟩ (Nat.le_of_ble_eq_true rfl) (mm_has l N1 K1 hI (nI i) x) (fun r N2 K2 hp => ?_)
  obtain ⟨hr, rfl, rfl⟩ := hp
  rcases hr with ⟨⟨j2, hj2, e, hPx⟩, rfl⟩ | ⟨hno, rfl⟩
  · rw [← nI4 hi hj2 e] at hPx
    refine jr_ifN_eq C dX1_add_16 (by omega) (fun hd => ?_) (fun hd => ?_)
    · exact absurd hd (by decide)
    refine jr_ic0 C dX1_add_19 ?_
    refine jr_iret C hret dX1_add_20 ?_
    exact ⟨P, Or.inr ⟨i, hi, rfl, Or.inl ⟨hPx, rfl, rfl⟩⟩, hI⟩
  · have hnP : ¬ P i x := fun q => hno ⟨i, hi, rfl, q⟩
    refine jr_ifN_eq C dX1_add_16 (by omega) (fun hd => ?_) (fun hd => ?_)
    rotate_left
    · exact absurd rfl hd
    refine jr_al0 C dX1_add_21 ?_
    refine jg_msizes C dX1_add_22 ?_
    refine jr_il1 C dX1_add_25 ?_
    refine jl_msizes C dX1_add_26 (by omega) ?_
    refine jr_bipush (v := nI 20) C dX1_add_27 (by decide) ?_
    refine jr_cmpN_ne C dX1_add_29 (by omega) (by omega) (fun he => ?_) (fun he => ?_)
    · have hlt : N2 1 i < 20 := by omega
      refine jr_al0 C dX1_add_35 ?_
      refine jg_mints C dX1_add_36 ?_
      refine jr_il1 C dX1_add_39 ?_
      refine jr_bipush (v := nI 20) C dX1_add_40 (by decide) ?_
      refine jr_imul C dX1_add_42 ?_
      refine jr_al0 C dX1_add_43 ?_
      refine jg_msizes C dX1_add_44 ?_
      refine jr_il1 C dX1_add_47 ?_
      refine jl_msizes C dX1_add_48 (by omega) ?_
      refine jr_iadd C dX1_add_49 ?_
      refine jr_il2 C dX1_add_50 ?_
      refine js_mints C dX1_add_51 (by omega) ?_
      refine jr_al0 C dX1_add_52 ?_
      refine jg_msizes C dX1_add_53 ?_
      refine jr_il1 C dX1_add_56 ?_
      refine jr_dup2 C dX1_add_57 rfl rfl ?_
      refine jl_msizes C dX1_add_58 (by omega) ?_
      refine jr_ic1 C dX1_add_59 ?_
      refine jr_iadd C dX1_add_60 ?_
      refine js_msizes C dX1_add_61 (by omega) ?_
      refine jr_ic1 C dX1_add_62 ?_
      refine jr_iret C hret dX1_add_63 ?_
      have hlist : ml (jup K2 0 (i * 20 + N2 1 i) x) i (N2 1 i + 1) = ml K2 i (N2 1 i) ++ [x] := by
        rw [ml_succ, jup_s]
        congr 1
        exact ml_cg (fun j hj => jup_n (by omega))
      refine ⟨_, Or.inr ⟨i, hi, rfl, Or.inr (Or.inr ⟨hnP, by rw [hI.card hi]; omega, rfl, rfl⟩)⟩, hI.set hi (fun j hj => jup_n hj) jup_s (by omega) (fun q hq => jup_n (by omega)) ?_ ?_⟩
      · rw [hlist]
        refine List.nodup_append.mpr ⟨hnd, by simp, ?_⟩
        intro a ha b hb e
        simp at hb
        exact hnP ((hP x).mp (by rw [← hb, ← e]; exact ha))
      · intro k
        rw [hlist, List.mem_append, hP k]
        simp
    · refine jr_bipush (v := -2) C dX1_add_32 (by decide) ?_
      refine jr_iret C hret dX1_add_34 ?_
      exact ⟨P, Or.inr ⟨i, hi, rfl, Or.inr (Or.inl ⟨hnP, by rw [hI.card hi]; omega, rfl, rfl⟩)⟩, hI⟩
end
section
/-! JoinTreesModel: removeRange, remove, store, collected, belongs, collect, split, combine -/
theorem mm_removeRange (l : Launch) (N : Nat → Nat → Nat) (K : Nat → Nat → Int32) {P : jP} (hI : MInv N K P) (s0 x y : Int32) : jI l mw mty yX1_removeRange cX1_removeRange 7 .int 1 [.int s0, .int x, .int y] N K (fun r N1 K1 => ∃ P1, A_rr P s0 x y r P1 ∧ MInv N1 K1 P1 ∧ sm N N1 [1] ∧ K1 2 = K 2) := by
  refine jI_of (k := 1) (kN := 3) (L := fun g : jG => [some (.ref g.2.1), some (.int s0), some (.int x), some (.int y), none, none, none]) (by decide) (fun g => rfl) (fun g => rfl) (fun g => by simp [Value.category]) ?_
  intro g p e s m args below meth c A C hret
  refine jr_al0 C dX1_removeRange_0 ?_
  refine jr_il1 C dX1_removeRange_1 ?_
  refine jc_misSet C dX1_removeRange_2 ⟨by decide, by decide⟩ (Nat.le_of_ble_eq_true rfl) (mm_isSet l N K s0) (fun r N1 K1 hp => ?_)
  obtain ⟨hb, rfl, rfl⟩ := hp
  rcases hb with ⟨⟨i, hi, rfl⟩, rfl⟩ | ⟨h, rfl⟩
  rotate_left
  · refine jr_ifN_ne C dX1_removeRange_5 (by omega) (fun hc => ?_) (fun hc => ?_)
    · exact absurd rfl hc
    refine jr_icm1 C dX1_removeRange_8 ?_
    refine jr_iret C hret dX1_removeRange_9 ?_
    exact ⟨P, Or.inl ⟨h, rfl, rfl⟩, hI, sm_rfl, rfl⟩
  refine jr_ifN_ne C dX1_removeRange_5 (by omega) (fun hc => ?_) (fun hc => ?_)
  rotate_left
  · exact absurd hc (by decide)
  obtain ⟨hn, hnd, hP⟩ := hI i hi
  obtain ⟨pp, epp⟩ : ∃ pp : Int32 → Bool, pp = fun e => decide (¬ (x ≤ e ∧ e ≤ y)) := ⟨_, rfl⟩
  have hpp : ∀ e, pp e = true ↔ ¬ (x ≤ e ∧ e ≤ y) := fun e => by rw [epp]; exact decide_eq_true_iff
  have lp : ∀ (k j n : Nat) (K2 : Nat → Nat → Int32) (o6 : Option Value), N1 1 i < j + k → j ≤ N1 1 i → n ≤ j → ml K2 i n = (ml K1 i j).filter pp → (∀ q, q < i * 20 ∨ i * 20 + j ≤ q → K2 0 q = K1 0 q) → K2 2 = K1 2 → JJ p l e (jrm 1) s m args below meth c 0 0 (jQI mw mty g A below args s (fun r N2 K2 => ∃ P1, A_rr P (nI i) x y r P1 ∧ MInv N2 K2 P1 ∧ sm N1 N2 [1] ∧ K2 2 = K1 2)) A g.1 7 (mw g N1 K2) 16 [some (.ref g.2.1), some (.int (nI i)), some (.int x), some (.int y), some (.int (nI n)), some (.int (nI j)), o6] [] := by
    intro k
    induction k with
    | zero => intro j n K2 o6 h1 h2; omega
    | succ k ih =>
      intro j n K2 o6 h1 h2 hnj hml hK hK2
      refine jr_il5 C dX1_removeRange_16 ?_
      refine jr_al0 C dX1_removeRange_18 ?_
      refine jg_msizes C dX1_removeRange_19 ?_
      refine jr_il1 C dX1_removeRange_22 ?_
      refine jl_msizes C dX1_removeRange_23 (by omega) ?_
      refine jr_cmpN_ge C dX1_removeRange_24 (by omega) (by omega) (fun hd => ?_) (fun hd => ?_)
      · have hje : j = N1 1 i := by omega
        subst hje
        refine jr_al0 C dX1_removeRange_76 ?_
        refine jg_msizes C dX1_removeRange_77 ?_
        refine jr_il1 C dX1_removeRange_80 ?_
        refine jl_msizes C dX1_removeRange_81 (by omega) ?_
        refine jr_il4 C dX1_removeRange_82 ?_
        refine jr_isub C dX1_removeRange_84 (by omega) ?_
        refine jr_is5 C dX1_removeRange_85 ?_
        refine jr_al0 C dX1_removeRange_87 ?_
        refine jg_msizes C dX1_removeRange_88 ?_
        refine jr_il1 C dX1_removeRange_91 ?_
        refine jr_il4 C dX1_removeRange_92 ?_
        refine js_msizes C dX1_removeRange_94 (by omega) ?_
        refine jr_il5 C dX1_removeRange_95 ?_
        refine jr_iret C hret dX1_removeRange_97 ?_
        have hset : MInv (jup N1 1 i n) K2 (va_up P i (fun k => P i k ∧ ¬ (x ≤ k ∧ k ≤ y))) := by
          refine hI.set hi (fun j hj => jup_n hj) jup_s (by omega) (fun q hq => hK q (by omega)) ?_ ?_
          · rw [hml]
            exact List.Nodup.sublist List.filter_sublist hnd
          · intro k
            rw [hml, List.mem_filter, hP k, hpp k]
        refine ⟨_, Or.inr ⟨i, hi, rfl, rfl, ?_⟩, hset, sm_jup (by simp), hK2⟩
        have h1 := hset.card hi
        rw [jup_s] at h1
        simp only [va_up, if_true] at h1
        rw [h1, hI.card hi]
      · have hKj : K2 0 (i * 20 + j) = K1 0 (i * 20 + j) := hK _ (by omega)
        have keep : JJ p l e (jrm 1) s m args below meth c 0 0 (jQI mw mty g A below args s (fun r N2 K2 => ∃ P1, A_rr P (nI i) x y r P1 ∧ MInv N2 K2 P1 ∧ sm N1 N2 [1] ∧ K2 2 = K1 2)) A g.1 7 (mw g N1 K2) 53 [some (.ref g.2.1), some (.int (nI i)), some (.int x), some (.int y), some (.int (nI n)), some (.int (nI j)), some (.int (K2 0 (i * 20 + j)))] [] ∨ ¬ pp (K1 0 (i * 20 + j)) = true := by
          by_cases hp : pp (K1 0 (i * 20 + j)) = true
          · left
            refine jr_al0 C dX1_removeRange_53 ?_
            refine jg_mints C dX1_removeRange_54 ?_
            refine jr_il1 C dX1_removeRange_57 ?_
            refine jr_bipush (v := nI 20) C dX1_removeRange_58 (by decide) ?_
            refine jr_imul C dX1_removeRange_60 ?_
            refine jr_il4 C dX1_removeRange_61 ?_
            refine jr_iadd C dX1_removeRange_63 ?_
            refine jr_il6 C dX1_removeRange_64 ?_
            refine js_mints C dX1_removeRange_66 (by omega) ?_
            refine jr_inc4 C dX1_removeRange_67 ?_
            refine jr_inc5 C dX1_removeRange_70 ?_
            refine jr_goto C dX1_removeRange_73 ?_
            refine ih (j + 1) (n + 1) (jup K2 0 (i * 20 + n) (K2 0 (i * 20 + j))) _ (by omega) (by omega) (by omega) ?_ ?_ ?_
            · rw [ml_succ, jup_s, ml_succ, List.filter_append, ← hml, hKj]
              congr 1
              · exact ml_cg (fun t ht => jup_n (by omega))
              · simp [hp]
            · intro q hq
              rw [jup_n (by omega)]
              exact hK q (by omega)
            · rw [jup_k (by decide)]
              exact hK2
          · exact Or.inr hp
        refine jr_al0 C dX1_removeRange_27 ?_
        refine jg_mints C dX1_removeRange_28 ?_
        refine jr_il1 C dX1_removeRange_31 ?_
        refine jr_bipush (v := nI 20) C dX1_removeRange_32 (by decide) ?_
        refine jr_imul C dX1_removeRange_34 ?_
        refine jr_il5 C dX1_removeRange_35 ?_
        refine jr_iadd C dX1_removeRange_37 ?_
        refine jl_mints C dX1_removeRange_38 (by omega) ?_
        refine jr_is6 C dX1_removeRange_39 ?_
        refine jr_il6 C dX1_removeRange_41 ?_
        refine jr_il2 C dX1_removeRange_43 ?_
        refine jr_cmp_lt C dX1_removeRange_44 (fun he => ?_) (fun he => ?_)
        · rcases keep with h | h
          · exact h
          · refine absurd ((hpp _).mpr ?_) h
            rw [← hKj]
            intro q
            exact ii_irr (show x < x by
              rw [Int32.lt_iff_toInt_lt] at he ⊢
              have := Int32.le_iff_toInt_le.mp q.1
              omega)
        · refine jr_il6 C dX1_removeRange_47 ?_
          refine jr_il3 C dX1_removeRange_49 ?_
          refine jr_cmp_le C dX1_removeRange_50 (fun hf => ?_) (fun hf => ?_)
          · have hnp : ¬ pp (K1 0 (i * 20 + j)) = true := by
              rw [hpp, ← hKj]
              exact fun q => q ⟨Int32.not_lt.mp he, hf⟩
            refine jr_inc5 C dX1_removeRange_70 ?_
            refine jr_goto C dX1_removeRange_73 ?_
            refine ih (j + 1) n K2 _ (by omega) (by omega) (by omega) ?_ (fun q hq => hK q (by omega)) hK2
            rw [ml_succ, List.filter_append, ← hml]
            simp [hnp]
          · rcases keep with h | h
            · exact h
            · refine absurd ((hpp _).mpr ?_) h
              rw [← hKj]
              exact fun q => hf q.2
  refine jr_ic0 C dX1_removeRange_10 ?_
  refine jr_is4 C dX1_removeRange_11 ?_
  refine jr_ic0 C dX1_removeRange_13 ?_
  refine jr_is5 C dX1_removeRange_14 ?_
  exact lp (N1 1 i + 1) 0 0 K1 _ (by omega) (by omega) (by omega) rfl (fun _ _ => rfl) rfl
theorem mm_remove (l : Launch) (N : Nat → Nat → Nat) (K : Nat → Nat → Int32) {P : jP} (hI : MInv N K P) (s0 x : Int32) : jI l mw mty yX1_remove cX1_remove 3 .int 2 [.int s0, .int x] N K (fun r N1 K1 => ∃ P1, A_rr P s0 x x r P1 ∧ MInv N1 K1 P1) := by
  refine jI_of (k := 2) (kN := 0) (L := fun g : jG => [some (.ref g.2.1), some (.int s0), some (.int x)]) (by decide) (fun g => rfl) (fun g => rfl) (fun g => by simp [Value.category]) ?_
  intro g p e s m args below meth c A C hret
  refine jr_al0 C dX1_remove_0 ?_
  refine jr_il1 C dX1_remove_1 ?_
  refine jr_il2 C dX1_remove_2 ?_
  refine jr_il2 C dX1_remove_3 ?_
  refine jc_mremoveRange C dX1_remove_4 ⟨by decide, by decide⟩ (Nat.le_of_ble_eq_true rfl) (mm_removeRange l N K hI s0 x x) (fun r N1 K1 hp => ?_)
  obtain ⟨P1, h1, h2, -⟩ := hp
  refine jr_iret C hret dX1_remove_7 ?_
  exact ⟨P1, h1, h2⟩
theorem mm_store (l : Launch) (N : Nat → Nat → Nat) (K : Nat → Nat → Int32) {i n : Nat} (hi : i < 4) (en : N 3 0 = n) (hn : n ≤ 20) : jV l mw mty yX1_store cX1_store 3 0 [.int (nI i)] N K (fun N1 K1 => N1 = jup N 1 i n ∧ K1 2 = K 2 ∧ (∀ q, q < i * 20 ∨ i * 20 + 20 ≤ q → K1 0 q = K 0 q) ∧ ml K1 i n = rl K n) := by
  refine jV_of (k := 0) (kN := 1) (L := fun g : jG => [some (.ref g.2.1), some (.int (nI i)), none]) (by decide) (fun g => rfl) (fun g => rfl) (fun g => by simp [Value.category]) ?_
  intro g p e s m args below meth c A C hret
  have lp : ∀ (k j : Nat) (K2 : Nat → Nat → Int32), n < j + k → j ≤ n → ml K2 i j = rl K j → (∀ q, q < i * 20 ∨ i * 20 + 20 ≤ q → K2 0 q = K 0 q) → K2 2 = K 2 → JJ p l e (jrm 0) s m args below meth c 0 0 (jQV mw mty g A below args s (fun N1 K1 => N1 = jup N 1 i n ∧ K1 2 = K 2 ∧ (∀ q, q < i * 20 ∨ i * 20 + 20 ≤ q → K1 0 q = K 0 q) ∧ ml K1 i n = rl K n)) A g.1 3 (mw g N K2) 2 [some (.ref g.2.1), some (.int (nI i)), some (.int (nI j))] [] := by
    intro k
    induction k with
    | zero => intro j K2 h1 h2; omega
    | succ k ih =>
      intro j K2 h1 h2 hml hK hK2
      refine jr_il2 C dX1_store_2 ?_
      refine jr_al0 C dX1_store_3 ?_
      refine jg_mfound C dX1_store_4 ?_
      refine jr_top (v := n) (en) ?_
      refine jr_cmpN_ge C dX1_store_7 (by omega) (by omega) (fun hc => ?_) (fun hc => ?_)
      · have : j = n := by omega
        subst this
        refine jr_al0 C dX1_store_33 ?_
        refine jg_msizes C dX1_store_34 ?_
        refine jr_il1 C dX1_store_37 ?_
        refine jr_al0 C dX1_store_38 ?_
        refine jg_mfound C dX1_store_39 ?_
        refine jr_top (v := j) (en) ?_
        refine js_msizes C dX1_store_42 (by omega) ?_
        refine jr_vret C hret dX1_store_43 ?_
        exact ⟨rfl, hK2, hK, hml⟩
      · refine jr_al0 C dX1_store_10 ?_
        refine jg_mints C dX1_store_11 ?_
        refine jr_il1 C dX1_store_14 ?_
        refine jr_bipush (v := nI 20) C dX1_store_15 (by decide) ?_
        refine jr_imul C dX1_store_17 ?_
        refine jr_il2 C dX1_store_18 ?_
        refine jr_iadd C dX1_store_19 ?_
        refine jr_al0 C dX1_store_20 ?_
        refine jg_mresult C dX1_store_21 ?_
        refine jr_il2 C dX1_store_24 ?_
        refine jl_mresult C dX1_store_25 (by omega) ?_
        refine js_mints C dX1_store_26 (by omega) ?_
        refine jr_inc2 C dX1_store_27 ?_
        refine jr_goto C dX1_store_30 ?_
        refine ih (j + 1) _ (by omega) (by omega) ?_ ?_ ?_
        · rw [ml_succ, jup_s, rl_succ, ← hml, hK2]
          congr 1
          exact ml_cg (fun t ht => jup_n (by omega))
        · intro q hq
          rw [jup_n (by omega)]
          exact hK q hq
        · rw [jup_k (by decide)]
          exact hK2
  refine jr_ic0 C dX1_store_0 ?_
  refine jr_is2 C dX1_store_1 ?_
  exact lp (n + 1) 0 K (by omega) (by omega) rfl (fun _ _ => rfl) rfl
theorem mm_collected (l : Launch) (N : Nat → Nat → Nat) (K : Nat → Nat → Int32) (x : Int32) (hn : N 3 0 ≤ 40) : jI l mw mty yX1_collected cX1_collected 3 .boolean 0 [.int x] N K (fun r N1 K1 => ((x ∈ rl K (N 3 0) ∧ r = nI 1) ∨ (x ∉ rl K (N 3 0) ∧ r = nI 0)) ∧ N1 = N ∧ K1 = K) := by
  refine jI_of (k := 0) (kN := 1) (L := fun g : jG => [some (.ref g.2.1), some (.int x), none]) (by decide) (fun g => rfl) (fun g => rfl) (fun g => by simp [Value.category]) ?_
  intro g p e s m args below meth c A C hret
  have lp : ∀ (k j : Nat), N 3 0 < j + k → j ≤ N 3 0 → (∀ t, t < j → K 2 t ≠ x) → JJ p l e (jrm 0) s m args below meth c 0 0 (jQI mw mty g A below args s (fun r N1 K1 => ((x ∈ rl K (N 3 0) ∧ r = nI 1) ∨ (x ∉ rl K (N 3 0) ∧ r = nI 0)) ∧ N1 = N ∧ K1 = K)) A g.1 3 (mw g N K) 2 [some (.ref g.2.1), some (.int x), some (.int (nI j))] [] := by
    intro k
    induction k with
    | zero => intro j h1 h2; omega
    | succ k ih =>
      intro j h1 h2 hno
      refine jr_il2 C dX1_collected_2 ?_
      refine jr_al0 C dX1_collected_3 ?_
      refine jg_mfound C dX1_collected_4 ?_
      refine jr_cmpN_ge C dX1_collected_7 (by omega) (by omega) (fun hc => ?_) (fun hc => ?_)
      · refine jr_ic0 C dX1_collected_28 ?_
        refine jr_zret C hret dX1_collected_29 ?_
        refine ⟨by decide, Or.inr ⟨?_, rfl⟩, rfl, rfl⟩
        intro h
        obtain ⟨t, ht, e⟩ := rl_mem.mp h
        exact hno t (by omega) e
      · refine jr_al0 C dX1_collected_10 ?_
        refine jg_mresult C dX1_collected_11 ?_
        refine jr_il2 C dX1_collected_14 ?_
        refine jl_mresult C dX1_collected_15 (by omega) ?_
        refine jr_il1 C dX1_collected_16 ?_
        refine jr_cmp_ne C dX1_collected_17 (fun he => ?_) (fun he => ?_)
        · refine jr_inc2 C dX1_collected_22 ?_
          refine jr_goto C dX1_collected_25 ?_
          refine ih (j + 1) (by omega) (by omega) ?_
          intro t ht
          by_cases htj : t = j
          · rw [htj]; exact he
          · exact hno t (by omega)
        · refine jr_ic1 C dX1_collected_20 ?_
          refine jr_zret C hret dX1_collected_21 ?_
          exact ⟨by decide, Or.inl ⟨rl_mem.mpr ⟨j, by omega, he⟩, rfl⟩, rfl, rfl⟩
  refine jr_ic0 C dX1_collected_0 ?_
  refine jr_is2 C dX1_collected_1 ?_
  exact lp (N 3 0 + 1) 0 (by omega) (by omega) (fun t ht => by omega)
theorem mm_belongs (l : Launch) (N : Nat → Nat → Nat) (K : Nat → Nat → Int32) {h a b : Nat} (hh : h < 4) (ha : a < 2) (hb : b < 2) : jI l mw mty yX1_belongs cX1_belongs 4 .boolean 0 [.int (nI h), .int (nI a), .int (nI b)] N K (fun r N1 K1 => ((bl4 h (a = 1) (b = 1) ∧ r = nI 1) ∨ (¬ bl4 h (a = 1) (b = 1) ∧ r = nI 0)) ∧ N1 = N ∧ K1 = K) := by
  refine jI_of (k := 0) (kN := 0) (L := fun g : jG => [some (.ref g.2.1), some (.int (nI h)), some (.int (nI a)), some (.int (nI b))]) (by decide) (fun g => rfl) (fun g => rfl) (fun g => by simp [Value.category]) ?_
  intro g p e s m args below meth c A C hret
  refine jr_il1 C dX1_belongs_0 ?_
  refine jr_ifN_ne C dX1_belongs_1 (by omega) (fun h1 => ?_) (fun h1 => ?_)
  · refine jr_il1 C dX1_belongs_18 ?_
    refine jr_ic1 C dX1_belongs_19 ?_
    refine jr_cmpN_ne C dX1_belongs_20 (by omega) (by omega) (fun h2 => ?_) (fun h2 => ?_)
    · refine jr_il1 C dX1_belongs_37 ?_
      refine jr_ic2 C dX1_belongs_38 ?_
      refine jr_cmpN_ne C dX1_belongs_39 (by omega) (by omega) (fun h3 => ?_) (fun h3 => ?_)
      · refine jr_il2 C dX1_belongs_58 ?_
        refine jr_il3 C dX1_belongs_59 ?_
        refine jr_cmpN_eq C dX1_belongs_60 (by omega) (by omega) (fun h4 => ?_) (fun h4 => ?_)
        · refine jr_ic0 C dX1_belongs_67 ?_
          refine jr_zret C hret dX1_belongs_68 ?_
          exact ⟨by decide, Or.inr ⟨by unfold bl4; omega, rfl⟩, rfl, rfl⟩
        · refine jr_ic1 C dX1_belongs_63 ?_
          refine jr_goto C dX1_belongs_64 ?_
          refine jr_zret C hret dX1_belongs_68 ?_
          exact ⟨by decide, Or.inl ⟨by unfold bl4; omega, rfl⟩, rfl, rfl⟩
      · refine jr_il2 C dX1_belongs_42 ?_
        refine jr_ifN_eq C dX1_belongs_43 (by omega) (fun h4 => ?_) (fun h4 => ?_)
        · refine jr_ic0 C dX1_belongs_54 ?_
          refine jr_goto C dX1_belongs_55 ?_
          refine jr_zret C hret dX1_belongs_68 ?_
          exact ⟨by decide, Or.inr ⟨by unfold bl4; omega, rfl⟩, rfl, rfl⟩
        · refine jr_il3 C dX1_belongs_46 ?_
          refine jr_ifN_ne C dX1_belongs_47 (by omega) (fun h5 => ?_) (fun h5 => ?_)
          · refine jr_ic0 C dX1_belongs_54 ?_
            refine jr_goto C dX1_belongs_55 ?_
            refine jr_zret C hret dX1_belongs_68 ?_
            exact ⟨by decide, Or.inr ⟨by unfold bl4; omega, rfl⟩, rfl, rfl⟩
          · refine jr_ic1 C dX1_belongs_50 ?_
            refine jr_goto C dX1_belongs_51 ?_
            refine jr_zret C hret dX1_belongs_68 ?_
            exact ⟨by decide, Or.inl ⟨by unfold bl4; omega, rfl⟩, rfl, rfl⟩
    · refine jr_il2 C dX1_belongs_23 ?_
      refine jr_ifN_eq C dX1_belongs_24 (by omega) (fun h4 => ?_) (fun h4 => ?_)
      · refine jr_ic0 C dX1_belongs_35 ?_
        refine jr_zret C hret dX1_belongs_36 ?_
        exact ⟨by decide, Or.inr ⟨by unfold bl4; omega, rfl⟩, rfl, rfl⟩
      · refine jr_il3 C dX1_belongs_27 ?_
        refine jr_ifN_eq C dX1_belongs_28 (by omega) (fun h5 => ?_) (fun h5 => ?_)
        · refine jr_ic0 C dX1_belongs_35 ?_
          refine jr_zret C hret dX1_belongs_36 ?_
          exact ⟨by decide, Or.inr ⟨by unfold bl4; omega, rfl⟩, rfl, rfl⟩
        · refine jr_ic1 C dX1_belongs_31 ?_
          refine jr_goto C dX1_belongs_32 ?_
          refine jr_zret C hret dX1_belongs_36 ?_
          exact ⟨by decide, Or.inl ⟨by unfold bl4; omega, rfl⟩, rfl, rfl⟩
  · refine jr_il2 C dX1_belongs_4 ?_
    refine jr_ifN_ne C dX1_belongs_5 (by omega) (fun h4 => ?_) (fun h4 => ?_)
    · refine jr_ic1 C dX1_belongs_12 ?_
      refine jr_goto C dX1_belongs_13 ?_
      refine jr_zret C hret dX1_belongs_17 ?_
      exact ⟨by decide, Or.inl ⟨by unfold bl4; omega, rfl⟩, rfl, rfl⟩
    · refine jr_il3 C dX1_belongs_8 ?_
      refine jr_ifN_eq C dX1_belongs_9 (by omega) (fun h5 => ?_) (fun h5 => ?_)
      · refine jr_ic0 C dX1_belongs_16 ?_
        refine jr_zret C hret dX1_belongs_17 ?_
        exact ⟨by decide, Or.inr ⟨by unfold bl4; omega, rfl⟩, rfl, rfl⟩
      · refine jr_ic1 C dX1_belongs_12 ?_
        refine jr_goto C dX1_belongs_13 ?_
        refine jr_zret C hret dX1_belongs_17 ?_
        exact ⟨by decide, Or.inl ⟨by unfold bl4; omega, rfl⟩, rfl, rfl⟩
/-- what is collected so far: no int twice, all from the two sets -/
def MR (N : Nat → Nat → Nat) (K : Nat → Nat → Int32) (p : Int32 → Prop) : Prop := (rl K (N 3 0)).Nodup ∧ ∀ k, k ∈ rl K (N 3 0) ↔ p k
theorem has_b {P : jP} {i : Nat} {x r : Int32} (hi : i < 4) (h : A_has P (nI i) x r) : ∃ b, b < 2 ∧ r = nI b ∧ (b = 1 ↔ P i x) := by
  rcases h with ⟨⟨j, hj, e, hP⟩, rfl⟩ | ⟨hno, rfl⟩
  · exact ⟨1, by decide, rfl, fun _ => by rw [nI4 hi hj e]; exact hP, fun _ => rfl⟩
  · exact ⟨0, by decide, rfl, fun h => absurd h (by decide), fun h => absurd ⟨i, hi, rfl, h⟩ hno⟩
theorem nd_union {L A B : List Int32} (h : L.Nodup) (hs : ∀ k ∈ L, k ∈ A ∨ k ∈ B) : L.length ≤ A.length + B.length := by
  have := List.Nodup.length_le_of_subset (l₂ := A ++ B) h (fun k hk => by rw [List.mem_append]; exact hs k hk)
  rwa [List.length_append] at this
theorem mm_collect (l : Launch) (N : Nat → Nat → Nat) (K : Nat → Nat → Int32) {P : jP} (hI : MInv N K P) {f h a b : Nat} (hf : f < 4) (hh : h < 4) (ha : a < 4) (hb : b < 4) {p0 : Int32 → Prop} (hR : MR N K p0) (hp0 : ∀ k, p0 k → P a k ∨ P b k) (hfab : f = a ∨ f = b) : jV l mw mty yX1_collect cX1_collect 9 2 [.int (nI f), .int (nI h), .int (nI a), .int (nI b)] N K (fun N1 K1 => MInv N1 K1 P ∧ MR N1 K1 (fun k => p0 k ∨ (P f k ∧ bl4 h (P a k) (P b k))) ∧ N1 1 = N 1) := by
  obtain ⟨hn, hnd, hP⟩ := hI f hf
  obtain ⟨hna, hnda, hPa⟩ := hI a ha
  obtain ⟨hnb, hndb, hPb⟩ := hI b hb
  refine jV_of (k := 2) (kN := 4) (L := fun g : jG => [some (.ref g.2.1), some (.int (nI f)), some (.int (nI h)), some (.int (nI a)), some (.int (nI b)), none, none, none, none]) (by decide) (fun g => rfl) (fun g => rfl) (fun g => by simp [Value.category]) ?_
  intro g p e s m args below meth c A C hret
  have lp : ∀ (k j : Nat) (N2 : Nat → Nat → Nat) (K2 : Nat → Nat → Int32) (o6 o7 o8 : Option Value), N 1 f < j + k → j ≤ N 1 f → N2 1 = N 1 → K2 0 = K 0 → MR N2 K2 (fun k => p0 k ∨ (k ∈ ml K f j ∧ bl4 h (P a k) (P b k))) → JJ p l e (jrm 2) s m args below meth c 0 0 (jQV mw mty g A below args s (fun N1 K1 => MInv N1 K1 P ∧ MR N1 K1 (fun k => p0 k ∨ (P f k ∧ bl4 h (P a k) (P b k))) ∧ N1 1 = N 1)) A g.1 9 (mw g N2 K2) 3 [some (.ref g.2.1), some (.int (nI f)), some (.int (nI h)), some (.int (nI a)), some (.int (nI b)), some (.int (nI j)), o6, o7, o8] [] := by
    intro k
    induction k with
    | zero => intro j N2 K2 o6 o7 o8 h1 h2; omega
    | succ k ih =>
      intro j N2 K2 o6 o7 o8 h1 h2 e1 e0 hR2
      have hI2 : MInv N2 K2 P := hI.keep e1 e0
      have hlen : N2 3 0 ≤ 40 := by
        have h3 := nd_union hR2.1 (A := ml K a (N 1 a)) (B := ml K b (N 1 b)) (fun k hk => by
          rw [hPa k, hPb k]
          rcases (hR2.2 k).mp hk with h | ⟨h, -⟩
          · exact hp0 k h
          · have : P f k := (hP k).mp (by obtain ⟨t, ht, e⟩ := ml_mem.mp h; exact ml_mem.mpr ⟨t, by omega, e⟩)
            rcases hfab with rfl | rfl
            · exact Or.inl this
            · exact Or.inr this)
        rw [rl_len, ml_len, ml_len] at h3
        omega
      refine jr_il5 C dX1_collect_3 ?_
      refine jr_al0 C dX1_collect_5 ?_
      refine jg_msizes C dX1_collect_6 ?_
      refine jr_il1 C dX1_collect_9 ?_
      refine jl_msizes C dX1_collect_10 (by omega) ?_
      refine jr_top (v := N 1 f) (by rw [e1]) ?_
      refine jr_cmpN_ge C dX1_collect_11 (by omega) (by omega) (fun hc => ?_) (fun hc => ?_)
      · have hj : j = N 1 f := by omega
        subst hj
        refine jr_vret C hret dX1_collect_95 ?_
        refine ⟨hI2, ⟨hR2.1, fun k => ?_⟩, e1⟩
        rw [hR2.2 k]
        dsimp only
        rw [hP k]
      · obtain ⟨x, ex⟩ : ∃ x, K 0 (f * 20 + j) = x := ⟨_, rfl⟩
        have hPx : P f x := (hP x).mp (ml_mem.mpr ⟨j, by omega, ex⟩)
        refine jr_al0 C dX1_collect_14 ?_
        refine jg_mints C dX1_collect_15 ?_
        refine jr_il1 C dX1_collect_18 ?_
        refine jr_bipush (v := nI 20) C dX1_collect_19 (by decide) ?_
        refine jr_imul C dX1_collect_21 ?_
        refine jr_il5 C dX1_collect_22 ?_
        refine jr_iadd C dX1_collect_24 ?_
        refine jl_mints C dX1_collect_25 (by omega) ?_
        refine jr_topr (v := x) (by rw [e0]; exact ex) ?_
        refine jr_is6 C dX1_collect_26 ?_
        refine jr_al0 C dX1_collect_28 ?_
        refine jr_il3 C dX1_collect_29 ?_
        refine jr_il6 C dX1_collect_30 ?_
        refine jc_mhas C dX1_collect_32 ⟨by decide, by decide⟩ (Nat.le_of_ble_eq_true rfl) (mm_has l N2 K2 hI2 (nI a) x) (fun r N3 K3 hp => ?_)
        obtain ⟨hr, rfl, rfl⟩ := hp
        obtain ⟨b1, hb1, rfl, hba⟩ := has_b ha hr
        refine jr_is7 C dX1_collect_35 ?_
        refine jr_al0 C dX1_collect_37 ?_
        refine jr_il4 C dX1_collect_38 ?_
        refine jr_il6 C dX1_collect_40 ?_
        refine jc_mhas C dX1_collect_42 ⟨by decide, by decide⟩ (Nat.le_of_ble_eq_true rfl) (mm_has l N3 K3 hI2 (nI b) x) (fun r N2 K2 hp => ?_)
        obtain ⟨hr, rfl, rfl⟩ := hp
        obtain ⟨b2, hb2, rfl, hbb⟩ := has_b hb hr
        have hbl : bl4 h (b1 = 1) (b2 = 1) ↔ bl4 h (P a x) (P b x) := by unfold bl4; rw [hba, hbb]
        refine jr_is8 C dX1_collect_45 ?_
        refine jr_al0 C dX1_collect_47 ?_
        refine jr_il6 C dX1_collect_48 ?_
        refine jc_mcollected C dX1_collect_50 ⟨by decide, by decide⟩ (Nat.le_of_ble_eq_true rfl) (mm_collected l N2 K2 x hlen) (fun r N3 K3 hp => ?_)
        obtain ⟨hr, rfl, rfl⟩ := hp
        have skip : (∀ k, ((p0 k ∨ (k ∈ ml K f (j + 1) ∧ bl4 h (P a k) (P b k))) ↔ (p0 k ∨ (k ∈ ml K f j ∧ bl4 h (P a k) (P b k))))) → JJ p l e (jrm 2) s m args below meth c 0 0 (jQV mw mty g A below args s (fun N1 K1 => MInv N1 K1 P ∧ MR N1 K1 (fun k => p0 k ∨ (P f k ∧ bl4 h (P a k) (P b k))) ∧ N1 1 = N 1)) A g.1 9 (mw g N3 K3) 89 [some (.ref g.2.1), some (.int (nI f)), some (.int (nI h)), some (.int (nI a)), some (.int (nI b)), some (.int (nI j)), some (.int x), some (.int (nI b1)), some (.int (nI b2))] [] := by
          intro hsk
          refine jr_inc5 C dX1_collect_89 ?_
          refine jr_goto C dX1_collect_92 ?_
          refine ih (j + 1) N3 K3 _ _ _ (by omega) (by omega) e1 e0 ⟨hR2.1, fun k => ?_⟩
          rw [hR2.2 k]
          exact (hsk k).symm
        rcases hr with ⟨hin, rfl⟩ | ⟨hnin, rfl⟩
        · refine jr_ifN_ne C dX1_collect_53 (by omega) (fun hd => ?_) (fun hd => ?_)
          rotate_left
          · exact absurd hd (by decide)
          refine skip (fun k => ?_)
          have hx := (hR2.2 x).mp hin
          rw [ml_succ, List.mem_append, List.mem_singleton, ex]
          constructor
          · rintro (h | ⟨h | h, h2⟩)
            · exact Or.inl h
            · exact Or.inr ⟨h, h2⟩
            · rw [h]; exact hx
          · rintro (h | ⟨h, h2⟩)
            · exact Or.inl h
            · exact Or.inr ⟨Or.inl h, h2⟩
        · refine jr_ifN_ne C dX1_collect_53 (by omega) (fun hd => ?_) (fun hd => ?_)
          · exact absurd rfl hd
          refine jr_al0 C dX1_collect_56 ?_
          refine jr_il2 C dX1_collect_57 ?_
          refine jr_il7 C dX1_collect_58 ?_
          refine jr_il8 C dX1_collect_60 ?_
          refine jc_mbelongs C dX1_collect_62 ⟨by decide, by decide⟩ (Nat.le_of_ble_eq_true rfl) (mm_belongs l N3 K3 hh hb1 hb2) (fun r N2 K2 hp => ?_)
          obtain ⟨hr, rfl, rfl⟩ := hp
          rw [hbl] at hr
          rcases hr with ⟨hbe, rfl⟩ | ⟨hnb2, rfl⟩
          · refine jr_ifN_eq C dX1_collect_65 (by omega) (fun he => ?_) (fun he => ?_)
            · exact absurd he (by decide)
            have hnew : (rl K2 (N2 3 0) ++ [x]).Nodup := by
              refine List.nodup_append.mpr ⟨hR2.1, by simp, ?_⟩
              intro u hu v hv e
              simp at hv
              exact hnin (by rw [← hv, ← e]; exact hu)
            have hlen2 : N2 3 0 < 40 := by
              have h3 := nd_union hnew (A := ml K a (N 1 a)) (B := ml K b (N 1 b)) (fun k hk => by
                rw [hPa k, hPb k]
                have hfk : P f k → P a k ∨ P b k := by
                  intro h
                  rcases hfab with rfl | rfl
                  · exact Or.inl h
                  · exact Or.inr h
                rcases List.mem_append.mp hk with hk | hk
                · rcases (hR2.2 k).mp hk with h | ⟨h, -⟩
                  · exact hp0 k h
                  · exact hfk ((hP k).mp (by obtain ⟨t, ht, e⟩ := ml_mem.mp h; exact ml_mem.mpr ⟨t, by omega, e⟩))
                · simp at hk
                  exact hfk (by rw [hk]; exact hPx))
              rw [List.length_append, rl_len, ml_len, ml_len] at h3
              simp at h3
              omega
            refine jr_al0 C dX1_collect_68 ?_
            refine jg_mresult C dX1_collect_69 ?_
            refine jr_al0 C dX1_collect_72 ?_
            refine jg_mfound C dX1_collect_73 ?_
            refine jr_il6 C dX1_collect_76 ?_
            refine js_mresult C dX1_collect_78 (by omega) ?_
            refine jr_al0 C dX1_collect_79 ?_
            refine jr_dup C dX1_collect_80 rfl ?_
            refine jg_mfound C dX1_collect_81 ?_
            refine jr_ic1 C dX1_collect_84 ?_
            refine jr_iadd C dX1_collect_85 ?_
            refine jp_mfound C dX1_collect_86 ?_
            refine jr_inc5 C dX1_collect_89 ?_
            refine jr_goto C dX1_collect_92 ?_
            have hrl : rl (jup K2 2 (N2 3 0) x) (N2 3 0 + 1) = rl K2 (N2 3 0) ++ [x] := by
              rw [rl_succ, jup_s]
              congr 1
              exact rl_cg (fun t ht => jup_n (by omega))
            refine ih (j + 1) _ _ _ _ _ (by omega) (by omega) (by rw [jup_k (by decide)]; exact e1) (by rw [jup_k (by decide)]; exact e0) ?_
            unfold MR
            rw [jup_s, hrl]
            refine ⟨hnew, fun k => ?_⟩
            rw [List.mem_append, hR2.2 k, List.mem_singleton]
            dsimp only
            rw [ml_succ, List.mem_append, List.mem_singleton, ex]
            constructor
            · rintro ((h | ⟨h, h2⟩) | h)
              · exact Or.inl h
              · exact Or.inr ⟨Or.inl h, h2⟩
              · exact Or.inr ⟨Or.inr h, by rw [h]; exact hbe⟩
            · rintro (h | ⟨h | h, h2⟩)
              · exact Or.inl (Or.inl h)
              · exact Or.inl (Or.inr ⟨h, h2⟩)
              · exact Or.inr h
          · refine jr_ifN_eq C dX1_collect_65 (by omega) (fun he => ?_) (fun he => ?_)
            rotate_left
            · exact absurd rfl he
            refine skip (fun k => ?_)
            rw [ml_succ, List.mem_append, List.mem_singleton, ex]
            constructor
            · rintro (h | ⟨h | h, h2⟩)
              · exact Or.inl h
              · exact Or.inr ⟨h, h2⟩
              · exact absurd (h ▸ h2) hnb2
            · rintro (h | ⟨h, h2⟩)
              · exact Or.inl h
              · exact Or.inr ⟨Or.inl h, h2⟩
  refine jr_ic0 C dX1_collect_0 ?_
  refine jr_is5 C dX1_collect_1 ?_
  refine lp (N 1 f + 1) 0 N K _ _ _ (by omega) (by omega) rfl rfl ⟨hR.1, fun k => ?_⟩
  rw [hR.2 k]
  simp [ml]
end
section
/-! JoinTreesModel: split, combine -/
theorem i_max (k : Int32) : k ≤ 2147483647 := by
  rw [Int32.le_iff_toInt_le]
  have := k.toInt_lt
  have e : (2147483647 : Int32).toInt = 2147483647 := by decide
  omega
theorem mm_split (l : Launch) (N : Nat → Nat → Nat) (K : Nat → Nat → Int32) {P : jP} (hI : MInv N K P) (s0 x d0 : Int32) : jI l mw mty yX1_split cX1_split 5 .int 2 [.int s0, .int x, .int d0] N K (fun r N1 K1 => ∃ P1, A_split P s0 x d0 r P1 ∧ MInv N1 K1 P1) := by
  refine jI_of (k := 2) (kN := 1) (L := fun g : jG => [some (.ref g.2.1), some (.int s0), some (.int x), some (.int d0), none]) (by decide) (fun g => rfl) (fun g => rfl) (fun g => by simp [Value.category]) ?_
  intro g p e s m args below meth c A C hret
  refine jr_al0 C dX1_split_0 ?_
  refine jr_il1 C dX1_split_1 ?_
  refine jc_misSet C dX1_split_2 ⟨by decide, by decide⟩ (Nat.le_of_ble_eq_true rfl) (mm_isSet l N K s0) (fun r N1 K1 hp => ?_)
  obtain ⟨hb, rfl, rfl⟩ := hp
  rcases hb with ⟨⟨i, hi, rfl⟩, rfl⟩ | ⟨h, rfl⟩
  rotate_left
  · refine jr_ifN_eq C dX1_split_5 (by omega) (fun hc => ?_) (fun hc => ?_)
    rotate_left
    · exact absurd rfl hc
    refine jr_icm1 C dX1_split_16 ?_
    refine jr_iret C hret dX1_split_17 ?_
    exact ⟨P, Or.inl ⟨fun q => h q.1, rfl, rfl⟩, hI⟩
  refine jr_ifN_eq C dX1_split_5 (by omega) (fun hc => ?_) (fun hc => ?_)
  · exact absurd hc (by decide)
  refine jr_al0 C dX1_split_8 ?_
  refine jr_il3 C dX1_split_9 ?_
  refine jc_misSet C dX1_split_10 ⟨by decide, by decide⟩ (Nat.le_of_ble_eq_true rfl) (mm_isSet l N1 K1 d0) (fun r N2 K2 hp => ?_)
  obtain ⟨hb, rfl, rfl⟩ := hp
  rcases hb with ⟨⟨j, hj, rfl⟩, rfl⟩ | ⟨h, rfl⟩
  rotate_left
  · refine jr_ifN_ne C dX1_split_13 (by omega) (fun hd => ?_) (fun hd => ?_)
    · exact absurd rfl hd
    refine jr_icm1 C dX1_split_16 ?_
    refine jr_iret C hret dX1_split_17 ?_
    exact ⟨P, Or.inl ⟨fun q => h q.2, rfl, rfl⟩, hI⟩
  refine jr_ifN_ne C dX1_split_13 (by omega) (fun hd => ?_) (fun hd => ?_)
  rotate_left
  · exact absurd hd (by decide)
  obtain ⟨hn, hnd, hP⟩ := hI i hi
  obtain ⟨pp, epp⟩ : ∃ pp : Int32 → Bool, pp = fun e => decide (¬ e < x) := ⟨_, rfl⟩
  have hpp : ∀ e, pp e = true ↔ ¬ e < x := fun e => by rw [epp]; exact decide_eq_true_iff
  have lp : ∀ (k t : Nat) (N3 : Nat → Nat → Nat) (K3 : Nat → Nat → Int32), N2 1 i < t + k → t ≤ N2 1 i → N3 1 = N2 1 → K3 0 = K2 0 → rl K3 (N3 3 0) = (ml K2 i t).filter pp → JJ p l e (jrm 2) s m args below meth c 0 0 (jQI mw mty g A below args s (fun r N1 K1 => ∃ P1, A_split P (nI i) x (nI j) r P1 ∧ MInv N1 K1 P1)) A g.1 5 (mw g N3 K3) 26 [some (.ref g.2.1), some (.int (nI i)), some (.int x), some (.int (nI j)), some (.int (nI t))] [] := by
    intro k
    induction k with
    | zero => intro t N3 K3 h1 h2; omega
    | succ k ih =>
      intro t N3 K3 h1 h2 e1 e0 hrl
      have hlen : N3 3 0 ≤ t := by
        have h3 := congrArg List.length hrl
        rw [rl_len] at h3
        rw [h3]
        exact Nat.le_trans (List.length_filter_le _ _) (by rw [ml_len]; exact Nat.le_refl _)
      refine jr_il4 C dX1_split_26 ?_
      refine jr_al0 C dX1_split_28 ?_
      refine jg_msizes C dX1_split_29 ?_
      refine jr_il1 C dX1_split_32 ?_
      refine jl_msizes C dX1_split_33 (by omega) ?_
      refine jr_top (v := N2 1 i) (by rw [e1]) ?_
      refine jr_cmpN_ge C dX1_split_34 (by omega) (by omega) (fun he => ?_) (fun he => ?_)
      · have ht : t = N2 1 i := by omega
        subst ht
        have hI3 : MInv N3 K3 P := hI.keep e1 e0
        have hnr : (rl K3 (N3 3 0)).Nodup := by rw [hrl]; exact List.Nodup.sublist List.filter_sublist hnd
        have hmr : ∀ k, k ∈ rl K3 (N3 3 0) ↔ (P i k ∧ ¬ k < x) := by
          intro k
          rw [hrl, List.mem_filter, hP k, hpp k]
        have hcd := cd_of hnr hmr
        rw [rl_len] at hcd
        refine jr_al0 C dX1_split_90 ?_
        refine jr_il1 C dX1_split_91 ?_
        refine jr_il2 C dX1_split_92 ?_
        refine jr_ldc C q302 dX1_split_93 ?_
        refine jc_mremoveRange C dX1_split_95 ⟨by decide, by decide⟩ (Nat.le_of_ble_eq_true rfl) (mm_removeRange l N3 K3 hI3 (nI i) x 2147483647) (fun r N4 K4 hp => ?_)
        obtain ⟨P1, hA, hI4, s4, k4⟩ := hp
        have hP1 : P1 = va_up P i (fun k => P i k ∧ k < x) := by
          rcases hA with ⟨h, -⟩ | ⟨i2, hi2, e, h, -⟩
          · exact absurd (jok_n hi) h
          · rw [h, ← nI4 hi hi2 e]
            congr 1
            funext k
            refine propext ⟨fun q => ⟨q.1, ?_⟩, fun q => ⟨q.1, fun h => ?_⟩⟩
            · refine ii_nle (fun h => q.2 ⟨h, i_max k⟩)
            · exact Int32.not_lt.mpr h.1 q.2
        refine jr_pop C dX1_split_98 rfl ?_
        refine jr_al0 C dX1_split_99 ?_
        refine jr_il3 C dX1_split_100 ?_
        refine jc_mstore C dX1_split_101 ⟨by decide, by decide⟩ (Nat.le_of_ble_eq_true rfl) (mm_store l N4 K4 hj (n := N3 3 0) (by rw [s4 3 (by decide)]) (by omega)) (fun N5 K5 hp => ?_)
        obtain ⟨e5, k5, k50, hml5⟩ := hp
        have hrl4 : rl K4 (N3 3 0) = rl K3 (N3 3 0) := rl_cg (fun q _ => by rw [k4])
        rw [hrl4] at hml5
        refine jr_al0 C dX1_split_104 ?_
        refine jg_mfound C dX1_split_105 ?_
        refine jr_top (v := N3 3 0) (by rw [e5, jup_k (by decide), s4 3 (by decide)]) ?_
        refine jr_iret C hret dX1_split_108 ?_
        refine ⟨_, Or.inr ⟨i, j, hi, hj, rfl, rfl, rfl, by rw [hcd]⟩, ?_⟩
        rw [← hP1]
        refine hI4.set hj (fun q hq => by rw [e5, jup_n hq]) (by rw [e5, jup_s]) (by omega) k50 ?_ ?_
        · rw [hml5]; exact hnr
        · intro k; rw [hml5]; exact hmr k
      · have hKt : K3 0 (i * 20 + t) = K2 0 (i * 20 + t) := by rw [e0]
        refine jr_al0 C dX1_split_37 ?_
        refine jg_mints C dX1_split_38 ?_
        refine jr_il1 C dX1_split_41 ?_
        refine jr_bipush (v := nI 20) C dX1_split_42 (by decide) ?_
        refine jr_imul C dX1_split_44 ?_
        refine jr_il4 C dX1_split_45 ?_
        refine jr_iadd C dX1_split_47 ?_
        refine jl_mints C dX1_split_48 (by omega) ?_
        refine jr_il2 C dX1_split_49 ?_
        refine jr_cmp_lt C dX1_split_50 (fun hf => ?_) (fun hf => ?_)
        · have hnp : ¬ pp (K2 0 (i * 20 + t)) = true := by
            rw [hpp, ← hKt]
            exact fun q => q hf
          refine jr_inc4 C dX1_split_84 ?_
          refine jr_goto C dX1_split_87 ?_
          refine ih (t + 1) N3 K3 (by omega) (by omega) e1 e0 ?_
          rw [ml_succ, List.filter_append, ← hrl]
          simp [hnp]
        · have hyp : pp (K2 0 (i * 20 + t)) = true := by
            rw [hpp, ← hKt]
            exact hf
          refine jr_al0 C dX1_split_53 ?_
          refine jg_mresult C dX1_split_54 ?_
          refine jr_al0 C dX1_split_57 ?_
          refine jg_mfound C dX1_split_58 ?_
          refine jr_al0 C dX1_split_61 ?_
          refine jg_mints C dX1_split_62 ?_
          refine jr_il1 C dX1_split_65 ?_
          refine jr_bipush (v := nI 20) C dX1_split_66 (by decide) ?_
          refine jr_imul C dX1_split_68 ?_
          refine jr_il4 C dX1_split_69 ?_
          refine jr_iadd C dX1_split_71 ?_
          refine jl_mints C dX1_split_72 (by omega) ?_
          refine js_mresult C dX1_split_73 (by omega) ?_
          refine jr_al0 C dX1_split_74 ?_
          refine jr_dup C dX1_split_75 rfl ?_
          refine jg_mfound C dX1_split_76 ?_
          refine jr_ic1 C dX1_split_79 ?_
          refine jr_iadd C dX1_split_80 ?_
          refine jp_mfound C dX1_split_81 ?_
          refine jr_inc4 C dX1_split_84 ?_
          refine jr_goto C dX1_split_87 ?_
          refine ih (t + 1) _ _ (by omega) (by omega) (by rw [jup_k (by decide)]; exact e1) (by rw [jup_k (by decide)]; exact e0) ?_
          rw [jup_s, rl_succ, jup_s, ml_succ, List.filter_append, ← hrl, hKt]
          congr 1
          · exact rl_cg (fun q hq => jup_n (by omega))
          · simp [hyp]
  refine jr_al0 C dX1_split_18 ?_
  refine jr_ic0 C dX1_split_19 ?_
  refine jp_mfound C dX1_split_20 ?_
  refine jr_ic0 C dX1_split_23 ?_
  refine jr_is4 C dX1_split_24 ?_
  refine lp (N2 1 i + 1) 0 _ K2 (by omega) (by omega) (by rw [jup_k (by decide)]) rfl ?_
  rw [jup_s]
  rfl
theorem mm_combine (l : Launch) (N : Nat → Nat → Nat) (K : Nat → Nat → Int32) {P : jP} (hI : MInv N K P) (how d0 a0 b0 : Int32) : jI l mw mty yX1_combine cX1_combine 5 .int 3 [.int how, .int d0, .int a0, .int b0] N K (fun r N1 K1 => ∃ P1, A_comb P how d0 a0 b0 r P1 ∧ MInv N1 K1 P1) := by
  refine jI_of (k := 3) (kN := 0) (L := fun g : jG => [some (.ref g.2.1), some (.int how), some (.int d0), some (.int a0), some (.int b0)]) (by decide) (fun g => rfl) (fun g => rfl) (fun g => by simp [Value.category]) ?_
  intro g p e s m args below meth c A C hret
  have bad : ¬ (jok how ∧ jok d0 ∧ jok a0 ∧ jok b0) → JJ p l e (jrm 3) s m args below meth c 0 0 (jQI mw mty g A below args s (fun r N1 K1 => ∃ P1, A_comb P how d0 a0 b0 r P1 ∧ MInv N1 K1 P1)) A g.1 5 (mw g N K) 34 [some (.ref g.2.1), some (.int how), some (.int d0), some (.int a0), some (.int b0)] [] := by
    intro hbad
    refine jr_icm1 C dX1_combine_34 ?_
    refine jr_iret C hret dX1_combine_35 ?_
    exact ⟨P, Or.inl ⟨hbad, rfl, rfl⟩, hI⟩
  refine jr_il1 C dX1_combine_0 ?_
  refine jr_if_lt C dX1_combine_1 (fun hc => ?_) (fun hc => ?_)
  · exact bad (fun h => jok_no (Or.inl hc) h.1)
  refine jr_il1 C dX1_combine_4 ?_
  refine jr_ic3 C dX1_combine_5 ?_
  refine jr_cmp_gt C dX1_combine_6 (fun hc2 => ?_) (fun hc2 => ?_)
  · exact bad (fun h => jok_no (Or.inr hc2) h.1)
  have hjh : jok how := jok_of hc hc2
  refine jr_al0 C dX1_combine_9 ?_
  refine jr_il2 C dX1_combine_10 ?_
  refine jc_misSet C dX1_combine_11 ⟨by decide, by decide⟩ (Nat.le_of_ble_eq_true rfl) (mm_isSet l N K d0) (fun r N1 K1 hp => ?_)
  obtain ⟨hb, rfl, rfl⟩ := hp
  rcases hb with ⟨hjd, rfl⟩ | ⟨hbd, rfl⟩
  rotate_left
  · refine jr_ifN_eq C dX1_combine_14 (by omega) (fun hd => ?_) (fun hd => ?_)
    rotate_left
    · exact absurd rfl hd
    exact bad (fun h => hbd h.2.1)
  refine jr_ifN_eq C dX1_combine_14 (by omega) (fun hd => ?_) (fun hd => ?_)
  · exact absurd hd (by decide)
  refine jr_al0 C dX1_combine_17 ?_
  refine jr_il3 C dX1_combine_18 ?_
  refine jc_misSet C dX1_combine_19 ⟨by decide, by decide⟩ (Nat.le_of_ble_eq_true rfl) (mm_isSet l N1 K1 a0) (fun r N2 K2 hp => ?_)
  obtain ⟨hb, rfl, rfl⟩ := hp
  rcases hb with ⟨hja, rfl⟩ | ⟨hbd, rfl⟩
  rotate_left
  · refine jr_ifN_eq C dX1_combine_22 (by omega) (fun hd2 => ?_) (fun hd2 => ?_)
    rotate_left
    · exact absurd rfl hd2
    exact bad (fun h => hbd h.2.2.1)
  refine jr_ifN_eq C dX1_combine_22 (by omega) (fun hd2 => ?_) (fun hd2 => ?_)
  · exact absurd hd2 (by decide)
  refine jr_al0 C dX1_combine_25 ?_
  refine jr_il4 C dX1_combine_26 ?_
  refine jc_misSet C dX1_combine_28 ⟨by decide, by decide⟩ (Nat.le_of_ble_eq_true rfl) (mm_isSet l N2 K2 b0) (fun r N3 K3 hp => ?_)
  obtain ⟨hb, rfl, rfl⟩ := hp
  rcases hb with ⟨hjb, rfl⟩ | ⟨hbd, rfl⟩
  rotate_left
  · refine jr_ifN_ne C dX1_combine_31 (by omega) (fun hd3 => ?_) (fun hd3 => ?_)
    · exact absurd rfl hd3
    exact bad (fun h => hbd h.2.2.2)
  refine jr_ifN_ne C dX1_combine_31 (by omega) (fun hd3 => ?_) (fun hd3 => ?_)
  rotate_left
  · exact absurd hd3 (by decide)
  clear bad
  obtain ⟨h, hh, rfl⟩ := hjh
  obtain ⟨j, hj, rfl⟩ := hjd
  obtain ⟨i1, hi1, rfl⟩ := hja
  obtain ⟨i2, hi2, rfl⟩ := hjb
  obtain ⟨hn1, hnd1, hP1⟩ := hI i1 hi1
  obtain ⟨hn2, hnd2, hP2⟩ := hI i2 hi2
  refine jr_al0 C dX1_combine_36 ?_
  refine jr_ic0 C dX1_combine_37 ?_
  refine jp_mfound C dX1_combine_38 ?_
  refine jr_al0 C dX1_combine_41 ?_
  refine jr_il3 C dX1_combine_42 ?_
  refine jr_il1 C dX1_combine_43 ?_
  refine jr_il3 C dX1_combine_44 ?_
  refine jr_il4 C dX1_combine_45 ?_
  have hI4 : MInv (jup N3 3 0 0) K3 P := hI.keep (by rw [jup_k (by decide)]) rfl
  have hR4 : MR (jup N3 3 0 0) K3 (fun _ => False) := by
    unfold MR
    rw [jup_s]
    exact ⟨List.Pairwise.nil, fun k => by simp [rl]⟩
  refine jc_mcollect C dX1_combine_47 ⟨by decide, by decide⟩ (Nat.le_of_ble_eq_true rfl) (mm_collect l (jup N3 3 0 0) K3 hI4 hi1 hh hi1 hi2 hR4 (fun k h => h.elim) (Or.inl rfl)) (fun N5 K5 hp => ?_)
  obtain ⟨hI5, hR5, e5⟩ := hp
  refine jr_al0 C dX1_combine_50 ?_
  refine jr_il4 C dX1_combine_51 ?_
  refine jr_il1 C dX1_combine_53 ?_
  refine jr_il3 C dX1_combine_54 ?_
  refine jr_il4 C dX1_combine_55 ?_
  refine jc_mcollect C dX1_combine_57 ⟨by decide, by decide⟩ (Nat.le_of_ble_eq_true rfl) (mm_collect l N5 K5 hI5 hi2 hh hi1 hi2 hR5 (fun k h => h.elim (fun h => h.elim) (fun h => Or.inl h.1)) (Or.inr rfl)) (fun N6 K6 hp => ?_)
  obtain ⟨hI6, hR6, e6⟩ := hp
  have hmem : ∀ k, k ∈ rl K6 (N6 3 0) ↔ bl4 h (P i1 k) (P i2 k) := by
    intro k
    rw [hR6.2 k]
    constructor
    · rintro ((h | ⟨-, h⟩) | ⟨-, h⟩)
      · exact h.elim
      · exact h
      · exact h
    · intro hbl
      by_cases h1 : P i1 k
      · exact Or.inl (Or.inr ⟨h1, hbl⟩)
      · refine Or.inr ⟨?_, hbl⟩
        rcases hbl with ⟨-, h | h⟩ | ⟨-, h, -⟩ | ⟨-, h, -⟩ | ⟨-, ⟨h, -⟩ | ⟨h, -⟩⟩
        · exact absurd h h1
        · exact h
        · exact absurd h h1
        · exact absurd h h1
        · exact absurd h h1
        · exact h
  have hcd := cd_of hR6.1 hmem
  rw [rl_len] at hcd
  have hlen : N6 3 0 ≤ 40 := by
    have h3 := nd_union hR6.1 (A := ml K3 i1 (N3 1 i1)) (B := ml K3 i2 (N3 1 i2)) (fun k hk => by
      rw [hP1 k, hP2 k]
      rcases (hmem k).mp hk with ⟨-, h⟩ | ⟨-, h, -⟩ | ⟨-, h, -⟩ | ⟨-, ⟨h, -⟩ | ⟨h, -⟩⟩
      · exact h
      · exact Or.inl h
      · exact Or.inl h
      · exact Or.inl h
      · exact Or.inr h)
    rw [rl_len, ml_len, ml_len] at h3
    omega
  refine jr_al0 C dX1_combine_60 ?_
  refine jg_mfound C dX1_combine_61 ?_
  refine jr_bipush (v := nI 20) C dX1_combine_64 (by decide) ?_
  refine jr_cmpN_le C dX1_combine_66 (by omega) (by omega) (fun he => ?_) (fun he => ?_)
  · refine jr_al0 C dX1_combine_72 ?_
    refine jr_il2 C dX1_combine_73 ?_
    refine jc_mstore C dX1_combine_74 ⟨by decide, by decide⟩ (Nat.le_of_ble_eq_true rfl) (mm_store l N6 K6 hj (n := N6 3 0) rfl (by omega)) (fun N7 K7 hp => ?_)
    obtain ⟨e7, k7, k70, hml7⟩ := hp
    refine jr_al0 C dX1_combine_77 ?_
    refine jg_mfound C dX1_combine_78 ?_
    refine jr_top (v := N6 3 0) (by rw [e7, jup_k (by decide)]) ?_
    refine jr_iret C hret dX1_combine_81 ?_
    refine ⟨_, Or.inr ⟨h, j, i1, i2, hh, hj, hi1, hi2, rfl, rfl, rfl, rfl, Or.inr ⟨by rw [hcd]; omega, by rw [hcd], rfl⟩⟩, ?_⟩
    refine hI6.set hj (fun q hq => by rw [e7, jup_n hq]) (by rw [e7, jup_s]) (by omega) k70 ?_ ?_
    · rw [hml7]; exact hR6.1
    · intro k; rw [hml7]; exact hmem k
  · refine jr_bipush (v := -2) C dX1_combine_69 (by decide) ?_
    refine jr_iret C hret dX1_combine_71 ?_
    exact ⟨P, Or.inr ⟨h, j, i1, i2, hh, hj, hi1, hi2, rfl, rfl, rfl, rfl, Or.inl ⟨by rw [hcd]; omega, rfl, rfl⟩⟩, hI6⟩
end
section
/-! the constructors -/
section JIN
variable {p : Program} {l : Launch} {e : Env} {R : Room} {s : State} {m : MethodId} {args : Array Value} {below : List Frame} {meth : Method} {c : Code} {ce sl : Nat} {Q : State → Prop} {A : Nat → Prop} {D : va_G} {nL : Nat} {pc n n1 : Nat} {L : List (Option Value)} {st : List Value} {cc : ByteArray} {own : String} {tys : List (ClassId × FieldType)}
theorem ji_step (C : jC p s m args meth c A D nL cc own tys) (hin2 : meth.name = "<init>") {Cn : String} {T : u_T} {NF ci idx k : Nat} (hin : ∀ w ∈ u_ws Cn T NF, w ∈ lw_all) (ty0 : Nat → FieldType) (hty : ∀ k, k < NF → parseFieldDescriptor (T k).2.2.1 = some (ty0 k)) (hnm : ∀ a, a < NF → ∀ b, b < NF → a ≠ b → (T a).2.1 ≠ (T b).2.1) (hc : jcl[ci]? = some (Cn, T, NF)) (hk : k < NF) (hlink : Cond.fieldLink own idx Cn (T k).2.1 (T k).2.2.1 ∈ lw_all) (hT1 : (T k).1 = Cn) (hfin : (T k).2.2.2 = true) (hdecl : (T k).1 = own)
    {at_ : ArrayType} {ty : FieldType} (harr : Cond.arrayClass ty ∈ lw_all) (hty1 : newarray.typeOf at_ = ty) (hdv : defaultValue ty = .int 0) (hd : parseFieldDescriptor (T k).2.2.1 = some (.array ty)) {len : Nat} (hlen : len < 2 ^ 31) (hcb : len * componentBytes ty ≤ 536870912) (hcells : ce + 1 ≤ R.cells) (hslots : sl + len ≤ R.slots) {a0 : Nat} {fs : List Value} {rest : va_W} (hlf : k < fs.length)
    (d1 : decode cc pc = .ok (.newarray at_, 2) ∧ pc + 2 = n1) (d2 : decode cc n1 = .ok (.putfield idx, 3) ∧ n1 + 3 = n)
    (kk : ∀ (q : Nat) (cA : ClassId), jC p s m args meth c A D nL cc own (tys ++ [(cA, ty)]) → JJ p l e R s m args below meth c (ce + 1) (sl + len) Q A D nL ((a0, .inr (ci, fs.set k (.ref q))) :: (rest ++ [(q, .inl (cA, len, .inl (fun _ => 0)))])) n L st) :
    JJ p l e R s m args below meth c ce sl Q A D nL ((a0, .inr (ci, fs)) :: rest) pc L (.int (nI len) :: .ref a0 :: st) := by
  obtain ⟨d1, rfl⟩ := d1
  obtain ⟨d2, rfl⟩ := d2
  obtain ⟨hx, hb, hml, hown, hts, hK, hlk, hA⟩ := C
  subst hty1
  intro H locs ls hP hD hS hl
  refine va_newa (a0 := (len, .inl (fun _ => 0))) (N' := len) hx hb (hts _ harr) rfl hK hP hD hS hA (fun cA => by rw [hdv]; rfl) (nI_pos hlen) (nI_clamp hlen) hcb hcells hslots d1 (fun q cA H1 hK1 hP1 hD1 hS1 => ?_)
  refine va_putF (D := D) (ci := ci) (v := .ref q) (ty := .array (newarray.typeOf at_)) (C := Cn) (T := T) (N := NF) hx hb hts hin ty0 hty hnm hown hK1 hP1 hD1 hS1 0 rfl hc k hk (hts _ hlink) (fun _ h9 => hT1 ▸ h9) hfin hin2 hdecl hd rfl rfl hlf d2 (fun H2 locs2 hP2 hD2 hS2 => ?_)
  exact kk q cA ⟨hx, hb, hml, hown, hts, hK1, hlk, hA⟩ H2 locs2 ls hP2 hD2 hS2 hl
theorem ji_obj (C : jC p s m args meth c A D nL cc own tys) {wd : va_W} {idx a : Nat} (hlink : Cond.methodLink own idx Lib.objectInit ∈ lw_all) (d : decode cc pc = .ok (.invokespecial idx, 3) ∧ pc + 3 = n) (hf : 1 ≤ R.frames) (hlo : (st.map fun v => v.category).sum + 12 ≤ R.locals) (kk : JJ p l e R s m args below meth c ce sl Q A D nL wd n L st) : JJ p l e R s m args below meth c ce sl Q A D nL wd pc L (.ref a :: st) := by
  obtain ⟨d, rfl⟩ := d
  obtain ⟨hx, hb, hml, hown, hts, hK, hlk, hA⟩ := C
  intro H locs ls hP hD hS hl
  refine W.objInit hx hb hown (hts _ hlink) (hts _ q33) (hts _ q34) rfl (by rw [hml]; exact hl.1) rfl d hf ?_ (kk H locs ls hP hD hS hl)
  have h0 : (F0 m pc ls (Value.ref a :: st)).monitorRoom = 0 := rfl
  rw [h0]
  omega
end JIN
theorem jr_dec1 {p : Program} {l : Launch} {e : Env} {R : Room} {s : State} {m : MethodId} {args : Array Value} {below : List Frame} {meth : Method} {c : Code} {ce sl : Nat} {Q : State → Prop} {A : Nat → Prop} {D : va_G} {nL : Nat} {wd : va_W} {pc n : Nat} {L : List (Option Value)} {st : List Value} {cc : ByteArray} {own : String} {tys : List (ClassId × FieldType)} (C : jC p s m args meth c A D nL cc own tys) {o0 : Option Value} {x : Nat} (d : decode cc pc = .ok (.iinc 1 (-1), 3) ∧ pc + 3 = n) (kk : JJ p l e R s m args below meth c ce sl Q A D nL wd n (o0 :: some (.int (nI x)) :: L) st) : JJ p l e R s m args below meth c ce sl Q A D nL wd pc (o0 :: some (.int (nI (x + 1))) :: L) st := by
  obtain ⟨d, rfl⟩ := d
  exact fun H locs ls hP hD hS hl => jl_iinc C.1 C.2.1 d hl rfl (show nI (x + 1) + Int32.ofInt (-1) = nI x from pk_m1 x) (fun ls2 h2 => kk H locs ls2 hP hD hS h2)
abbrev jU : Type := (Nat → Nat) × (Nat → ClassId) × (Nat → Nat → Nat) × (Nat → Nat → Int32)
def df0 : List Value := [.null, .null, .null, .null, .null, .int 0, .null, .int 0, .null, .null, .int 0, .int 0, .int 0, .null, .null, .null, .null, .null]
def df1 : List Value := [.null, .null, .null, .int 0]
def rI0 : Room := { frames := 1, cells := 13, slots := 1572, locals := 40 }
def rI1 : Room := { frames := 1, cells := 3, slots := 124, locals := 40 }
theorem rng_free {N : Nat → Nat → Nat} {n : Nat} (hn : n + 1 ≤ 255) (hf : free N (List.range' (n + 2) (255 - (n + 1)))) : free (jup (jup N 6 (N 5 0) (n + 1)) 5 0 (N 5 0 + 1)) (List.range' (n + 1) (255 - n)) := by
  have h1 := free_push (a := n + 1) hf
  have e : List.range' (n + 1) (255 - n) = (n + 1) :: List.range' (n + 2) (255 - (n + 1)) := by
    rw [show 255 - n = (255 - (n + 1)) + 1 by omega, List.range'_succ]
  rw [e]
  exact h1
theorem JInv.init {N : Nat → Nat → Nat} {K : Nat → Nat → Int32} (h0 : N 3 0 = 0) (h4 : ∀ i, N 4 i = 0) (hf : free N (List.range' 1 255)) : JRep N K (fun _ _ => False) := by
  refine ⟨fun _ => [], List.range' 1 255, ⟨h0, fun i hi => ?_, hf, fun q hq => ?_, fun q => ?_, ?_⟩, fun i hi k => ⟨fun h => hk_nil h, fun h => h.elim⟩⟩
  · rw [h4 i]
    exact ⟨tr_nil, List.Pairwise.nil, by simp⟩
  · rw [List.mem_range'_1] at hq
    omega
  · have := nd_ct.mp (List.nodup_range' (s := 1) (n := 255)) q
    simp only [ct, List.count_nil, Nat.zero_add]
    exact this
  · simp only [ln, List.length_nil, Nat.zero_add, List.length_range']
set_option maxRecDepth 100000 in
set_option maxHeartbeats 4000000 in
theorem metX0_init (l : Launch) (D : va_G) (h0 sz : Nat) : Met l yX0_init (ws_ yX0_init cX0_init 2 none) rI0 (va_Pc [.ref h0] (fun U => U.heap.size = sz ∧ va_P D jcl [(h0, .inr (0, df0))] U.heap ∧ va_K D jcl [] U ∧ va_D (fun _ => True) [(h0, .inr (0, df0))])) (va_Qv (fun (u : jU) => JRep u.2.2.1 u.2.2.2 (fun _ _ => False)) (fun u t => va_P D jcl (jw (D, h0, u.1, u.2.1) u.2.2.1 u.2.2.2) t.heap ∧ va_K D jcl (jty (D, h0, u.1, u.2.1)) t ∧ va_D (va_A [(h0, .inr (0, df0))] sz) (jw (D, h0, u.1, u.2.1) u.2.2.1 u.2.2.2)) (va_A [(h0, .inr (0, df0))] sz)) 13 1572 (va_A [(h0, .inr (0, df0))] sz) := by
  refine Met.ofW (cc := cX0_init) (maxL := 2) (ret := none) (by decide) rfl ?_
  intro p e s m args below meth c s₁ B hml hv
  obtain ⟨rfl, hsz, hP, hK, hD0⟩ := hv
  have hts := atoms_spec (ws := ws_ yX0_init cX0_init 2 none) B.pre
  have hts : ∀ w ∈ lw_all, w.before _ s = true := fun w h => hts w (List.mem_cons_of_mem _ h)
  have hown : s.vm.findClass RX0 = some m.cls := findClass_of_methodNamed B.named
  have hin : meth.name = "<init>" := (name_of_methodNamed B.named B.method).1
  have hr := B.returns
  have hlk := B.notSynchronized
  subst hsz
  have hD := hD0.self (sz := s.heap.size)
  generalize hAe : va_A [(h0, .inr (0, df0))] s.heap.size = A at hD ⊢
  have hA : ∀ q : Nat, s.heap.size ≤ q → A q := fun q h => by rw [← hAe]; exact Or.inr h
  have hl := jl_entry [Value.ref h0] (n := 2) (k := 1) (by simp [Value.category]) rfl
  rw [lg_entry_eq]
  have C : jC p s m ([Value.ref h0] : List Value).toArray meth c A D 2 cX0_init RX0 [] := ⟨B.exec, B.bytes, hml, hown, hts, hK, hlk, hA⟩
  have hend : ∀ (u : jU) (H : Heap) (locs : List Loc) (ls : Array Slot), JRep u.2.2.1 u.2.2.2 (fun _ _ => False) → va_P D jcl (jw (D, h0, u.1, u.2.1) u.2.2.1 u.2.2.2) H → va_K D jcl (jty (D, h0, u.1, u.2.1)) s → va_D A (jw (D, h0, u.1, u.2.1) u.2.2.1 u.2.2.2) → va_S A s.heap H locs → W p l e (headSpec (ws_ yX0_init cX0_init 2 none) rI0).room s m ([Value.ref h0] : List Value).toArray below meth c H locs 13 1572 (MQ below (va_Qv (fun (u : jU) => JRep u.2.2.1 u.2.2.2 (fun _ _ => False)) (fun u t => va_P D jcl (jw (D, h0, u.1, u.2.1) u.2.2.1 u.2.2.2) t.heap ∧ va_K D jcl (jty (D, h0, u.1, u.2.1)) t ∧ va_D A (jw (D, h0, u.1, u.2.1) u.2.2.1 u.2.2.2)) A) ([Value.ref h0] : List Value).toArray s 13 1572 A) (F0 m 147 ls []) := by
    intro u H locs ls hpost hP hK hD hS
    exact W.vret B.exec B.bytes hr (fun t ht hW => ⟨⟨u, rfl, hpost, by rw [ht]; exact hP, va_K.moved hW.alike hK, hD⟩, hS.F ht⟩) hS.2.2 dX0_init_147.1 hlk
  suffices J0 : JJ p l e rI0 s m ([Value.ref h0] : List Value).toArray below meth c 0 0 (MQ below (va_Qv (fun (u : jU) => JRep u.2.2.1 u.2.2.2 (fun _ _ => False)) (fun u t => va_P D jcl (jw (D, h0, u.1, u.2.1) u.2.2.1 u.2.2.2) t.heap ∧ va_K D jcl (jty (D, h0, u.1, u.2.1)) t ∧ va_D A (jw (D, h0, u.1, u.2.1) u.2.2.1 u.2.2.2)) A) ([Value.ref h0] : List Value).toArray s 13 1572 A) A D 2 [(h0, .inr (0, df0))] 0 ([Value.ref h0].map some ++ List.replicate 1 none) [] from J0 s.heap [] _ hP hD va_S.rf hl
  refine jr_lo (L2 := [some (.ref h0), none]) rfl ?_
  refine jr_al0 C dX0_init_0 ?_
  refine ji_obj C q32 dX0_init_1 (by decide) (by decide) ?_
  refine jr_al0 C dX0_init_4 ?_
  refine jr_sipush (v := nI 256) C dX0_init_5 (by decide) ?_
  refine ji_step (ty := .short) (k := 0) C hin in_X0 tyX0 tyX0_ok nmX0 (ci := 0) rfl (by decide) q35 rfl rfl rfl q90 rfl rfl (by decide +kernel) (by decide) (by decide) (by decide) (by decide) (Nat.le_of_ble_eq_true rfl) dX0_init_8 dX0_init_10 (fun a0 c0 C => ?_)
  refine jr_al0 C dX0_init_13 ?_
  refine jr_sipush (v := nI 256) C dX0_init_14 (by decide) ?_
  refine ji_step (ty := .short) (k := 1) C hin in_X0 tyX0 tyX0_ok nmX0 (ci := 0) rfl (by decide) q36 rfl rfl rfl q90 rfl rfl (by decide +kernel) (by decide) (by decide) (by decide) (by decide) (Nat.le_of_ble_eq_true rfl) dX0_init_17 dX0_init_19 (fun a1 c1 C => ?_)
  refine jr_al0 C dX0_init_22 ?_
  refine jr_sipush (v := nI 256) C dX0_init_23 (by decide) ?_
  refine ji_step (ty := .int) (k := 2) C hin in_X0 tyX0 tyX0_ok nmX0 (ci := 0) rfl (by decide) q37 rfl rfl rfl q91 rfl rfl (by decide +kernel) (by decide) (by decide) (by decide) (by decide) (Nat.le_of_ble_eq_true rfl) dX0_init_26 dX0_init_28 (fun a2 c2 C => ?_)
  refine jr_al0 C dX0_init_31 ?_
  refine jr_sipush (v := nI 256) C dX0_init_32 (by decide) ?_
  refine ji_step (ty := .byte) (k := 3) C hin in_X0 tyX0 tyX0_ok nmX0 (ci := 0) rfl (by decide) q38 rfl rfl rfl q92 rfl rfl (by decide +kernel) (by decide) (by decide) (by decide) (by decide) (Nat.le_of_ble_eq_true rfl) dX0_init_35 dX0_init_37 (fun a3 c3 C => ?_)
  refine jr_al0 C dX0_init_40 ?_
  refine jr_ic4 C dX0_init_41 ?_
  refine ji_step (ty := .short) (k := 4) C hin in_X0 tyX0 tyX0_ok nmX0 (ci := 0) rfl (by decide) q39 rfl rfl rfl q90 rfl rfl (by decide +kernel) (by decide) (by decide) (by decide) (by decide) (Nat.le_of_ble_eq_true rfl) dX0_init_42 dX0_init_44 (fun a4 c4 C => ?_)
  refine jr_al0 C dX0_init_47 ?_
  refine jr_sipush (v := nI 256) C dX0_init_48 (by decide) ?_
  refine ji_step (ty := .short) (k := 6) C hin in_X0 tyX0 tyX0_ok nmX0 (ci := 0) rfl (by decide) q41 rfl rfl rfl q90 rfl rfl (by decide +kernel) (by decide) (by decide) (by decide) (by decide) (Nat.le_of_ble_eq_true rfl) dX0_init_51 dX0_init_53 (fun a6 c6 C => ?_)
  refine jr_al0 C dX0_init_56 ?_
  refine jr_bipush (v := nI 64) C dX0_init_57 (by decide) ?_
  refine ji_step (ty := .short) (k := 8) C hin in_X0 tyX0 tyX0_ok nmX0 (ci := 0) rfl (by decide) q43 rfl rfl rfl q90 rfl rfl (by decide +kernel) (by decide) (by decide) (by decide) (by decide) (Nat.le_of_ble_eq_true rfl) dX0_init_59 dX0_init_61 (fun a8 c8 C => ?_)
  refine jr_al0 C dX0_init_64 ?_
  refine jr_bipush (v := nI 64) C dX0_init_65 (by decide) ?_
  refine ji_step (ty := .boolean) (k := 9) C hin in_X0 tyX0 tyX0_ok nmX0 (ci := 0) rfl (by decide) q44 rfl rfl rfl q93 rfl rfl (by decide +kernel) (by decide) (by decide) (by decide) (by decide) (Nat.le_of_ble_eq_true rfl) dX0_init_67 dX0_init_69 (fun a9 c9 C => ?_)
  refine jr_al0 C dX0_init_72 ?_
  refine jr_bipush (v := nI 32) C dX0_init_73 (by decide) ?_
  refine ji_step (ty := .short) (k := 13) C hin in_X0 tyX0 tyX0_ok nmX0 (ci := 0) rfl (by decide) q48 rfl rfl rfl q90 rfl rfl (by decide +kernel) (by decide) (by decide) (by decide) (by decide) (Nat.le_of_ble_eq_true rfl) dX0_init_75 dX0_init_77 (fun a13 c13 C => ?_)
  refine jr_al0 C dX0_init_80 ?_
  refine jr_bipush (v := nI 32) C dX0_init_81 (by decide) ?_
  refine ji_step (ty := .short) (k := 14) C hin in_X0 tyX0 tyX0_ok nmX0 (ci := 0) rfl (by decide) q49 rfl rfl rfl q90 rfl rfl (by decide +kernel) (by decide) (by decide) (by decide) (by decide) (Nat.le_of_ble_eq_true rfl) dX0_init_83 dX0_init_85 (fun a14 c14 C => ?_)
  refine jr_al0 C dX0_init_88 ?_
  refine jr_bipush (v := nI 32) C dX0_init_89 (by decide) ?_
  refine ji_step (ty := .short) (k := 15) C hin in_X0 tyX0 tyX0_ok nmX0 (ci := 0) rfl (by decide) q50 rfl rfl rfl q90 rfl rfl (by decide +kernel) (by decide) (by decide) (by decide) (by decide) (Nat.le_of_ble_eq_true rfl) dX0_init_91 dX0_init_93 (fun a15 c15 C => ?_)
  refine jr_al0 C dX0_init_96 ?_
  refine jr_bipush (v := nI 32) C dX0_init_97 (by decide) ?_
  refine ji_step (ty := .boolean) (k := 16) C hin in_X0 tyX0 tyX0_ok nmX0 (ci := 0) rfl (by decide) q51 rfl rfl rfl q93 rfl rfl (by decide +kernel) (by decide) (by decide) (by decide) (by decide) (Nat.le_of_ble_eq_true rfl) dX0_init_99 dX0_init_101 (fun a16 c16 C => ?_)
  refine jr_al0 C dX0_init_104 ?_
  refine jr_bipush (v := nI 32) C dX0_init_105 (by decide) ?_
  refine ji_step (ty := .boolean) (k := 17) C hin in_X0 tyX0 tyX0_ok nmX0 (ci := 0) rfl (by decide) q52 rfl rfl rfl q93 rfl rfl (by decide +kernel) (by decide) (by decide) (by decide) (by decide) (Nat.le_of_ble_eq_true rfl) dX0_init_107 dX0_init_109 (fun a17 c17 C => ?_)
  obtain ⟨g, eg⟩ : ∃ g : jG, g = (D, h0, (fun k => [a0, a1, a2, a3, a4, 0, a6, 0, a8, a9, 0, 0, 0, a13, a14, a15, a16, a17].getD k 0), (fun k => [c0, c1, c2, c3, c4, c0, c6, c0, c8, c9, c0, c0, c0, c13, c14, c15, c16, c17].getD k c0)) := ⟨_, rfl⟩
  have eD : g.1 = D := by rw [eg]
  have eh : g.2.1 = h0 := by rw [eg]
  refine jr_wd (wd2 := jw g (fun _ _ => 0) (fun _ _ => 0)) (by rw [eg]; rfl) ?_
  have Cg : jC p s m ([Value.ref h0] : List Value).toArray meth c A g.1 2 cX0_init RX0 (jty g) := by rw [eg]; exact C
  subst eD
  subst eh
  have C := Cg
  have lp : ∀ (n : Nat) (N : Nat → Nat → Nat), n ≤ 255 → sm (fun _ _ => 0) N [5, 6] → free N (List.range' (n + 1) (255 - n)) → JJ p l e rI0 s m ([Value.ref g.2.1] : List Value).toArray below meth c 13 1572 (MQ below (va_Qv (fun (u : jU) => JRep u.2.2.1 u.2.2.2 (fun _ _ => False)) (fun u t => va_P g.1 jcl (jw (g.1, g.2.1, u.1, u.2.1) u.2.2.1 u.2.2.2) t.heap ∧ va_K g.1 jcl (jty (g.1, g.2.1, u.1, u.2.1)) t ∧ va_D A (jw (g.1, g.2.1, u.1, u.2.1) u.2.2.1 u.2.2.2)) A) ([Value.ref g.2.1] : List Value).toArray s 13 1572 A) A g.1 2 (jw g N (fun _ _ => 0)) 116 [some (.ref g.2.1), some (.int (nI n))] [] := by
    intro n
    induction n with
    | zero =>
      intro N hn hs hf
      refine jr_il1 C dX0_init_116 ?_
      refine jr_ifN_le C dX0_init_117 (by omega) (fun hc => ?_) (fun hc => ?_)
      rotate_left
      · exact absurd (Nat.le_refl 0) hc
      intro H locs ls hP hD hS hl
      exact hend (g.2.2.1, g.2.2.2, N, (fun _ _ => 0)) H locs ls (JInv.init (show N 3 0 = 0 by rw [hs 3 (by decide)]) (fun i => show N 4 i = 0 by rw [hs 4 (by decide)]) hf) hP C.2.2.2.2.2.1 hD hS
    | succ n ih =>
      intro N hn hs hf
      have hf5 : N 5 0 < 256 := by rw [hf.1]; simp; omega
      refine jr_il1 C dX0_init_116 ?_
      refine jr_ifN_le C dX0_init_117 (by omega) (fun hc => ?_) (fun hc => ?_)
      · exact absurd hc (by omega)
      refine jr_al0 C dX0_init_120 ?_
      refine jg_freeNodes C dX0_init_121 ?_
      refine jr_al0 C dX0_init_124 ?_
      refine jg_freeCount C dX0_init_125 ?_
      refine jr_il1 C dX0_init_128 ?_
      refine jr_i2s C dX0_init_129 (by omega) ?_
      refine js_freeNodes C dX0_init_130 (by omega) (by omega) ?_
      refine jr_al0 C dX0_init_131 ?_
      refine jr_dup C dX0_init_132 rfl ?_
      refine jg_freeCount C dX0_init_133 ?_
      refine jr_top (v := N 5 0) (rfl) ?_
      refine jr_ic1 C dX0_init_136 ?_
      refine jr_iadd C dX0_init_137 ?_
      refine jp_freeCount C dX0_init_138 ?_
      refine jr_dec1 C dX0_init_141 ?_
      refine jr_goto C dX0_init_144 ?_
      exact ih _ (by omega) (sm_trans hs (sm_trans (sm_jup (by simp)) (sm_jup (by simp)))) (rng_free hn hf)
  refine jr_sipush (v := nI 255) C dX0_init_112 (by decide) ?_
  refine jr_is1 C dX0_init_115 ?_
  exact lp 255 _ (by decide) sm_rfl ⟨rfl, trivial⟩
set_option maxRecDepth 100000 in
set_option maxHeartbeats 4000000 in
theorem metX1_init (l : Launch) (D : va_G) (h0 sz : Nat) : Met l yX1_init (ws_ yX1_init cX1_init 1 none) rI1 (va_Pc [.ref h0] (fun U => U.heap.size = sz ∧ va_P D jcl [(h0, .inr (1, df1))] U.heap ∧ va_K D jcl [] U ∧ va_D (fun _ => True) [(h0, .inr (1, df1))])) (va_Qv (fun (u : jU) => MInv u.2.2.1 u.2.2.2 (fun _ _ => False)) (fun u t => va_P D jcl (mw (D, h0, u.1, u.2.1) u.2.2.1 u.2.2.2) t.heap ∧ va_K D jcl (mty (D, h0, u.1, u.2.1)) t ∧ va_D (va_A [(h0, .inr (1, df1))] sz) (mw (D, h0, u.1, u.2.1) u.2.2.1 u.2.2.2)) (va_A [(h0, .inr (1, df1))] sz)) 3 124 (va_A [(h0, .inr (1, df1))] sz) := by
  refine Met.ofW (cc := cX1_init) (maxL := 1) (ret := none) (by decide) rfl ?_
  intro p e s m args below meth c s₁ B hml hv
  obtain ⟨rfl, hsz, hP, hK, hD0⟩ := hv
  have hts := atoms_spec (ws := ws_ yX1_init cX1_init 1 none) B.pre
  have hts : ∀ w ∈ lw_all, w.before _ s = true := fun w h => hts w (List.mem_cons_of_mem _ h)
  have hown : s.vm.findClass RX1 = some m.cls := findClass_of_methodNamed B.named
  have hin : meth.name = "<init>" := (name_of_methodNamed B.named B.method).1
  have hr := B.returns
  have hlk := B.notSynchronized
  subst hsz
  have hD := hD0.self (sz := s.heap.size)
  generalize hAe : va_A [(h0, .inr (1, df1))] s.heap.size = A at hD ⊢
  have hA : ∀ q : Nat, s.heap.size ≤ q → A q := fun q h => by rw [← hAe]; exact Or.inr h
  have hl := jl_entry [Value.ref h0] (n := 1) (k := 0) (by simp [Value.category]) rfl
  rw [lg_entry_eq]
  have C : jC p s m ([Value.ref h0] : List Value).toArray meth c A D 1 cX1_init RX1 [] := ⟨B.exec, B.bytes, hml, hown, hts, hK, hlk, hA⟩
  have hend : ∀ (u : jU) (H : Heap) (locs : List Loc) (ls : Array Slot), MInv u.2.2.1 u.2.2.2 (fun _ _ => False) → va_P D jcl (mw (D, h0, u.1, u.2.1) u.2.2.1 u.2.2.2) H → va_K D jcl (mty (D, h0, u.1, u.2.1)) s → va_D A (mw (D, h0, u.1, u.2.1) u.2.2.1 u.2.2.2) → va_S A s.heap H locs → W p l e (headSpec (ws_ yX1_init cX1_init 1 none) rI1).room s m ([Value.ref h0] : List Value).toArray below meth c H locs 3 124 (MQ below (va_Qv (fun (u : jU) => MInv u.2.2.1 u.2.2.2 (fun _ _ => False)) (fun u t => va_P D jcl (mw (D, h0, u.1, u.2.1) u.2.2.1 u.2.2.2) t.heap ∧ va_K D jcl (mty (D, h0, u.1, u.2.1)) t ∧ va_D A (mw (D, h0, u.1, u.2.1) u.2.2.1 u.2.2.2)) A) ([Value.ref h0] : List Value).toArray s 3 124 A) (F0 m 27 ls []) := by
    intro u H locs ls hpost hP hK hD hS
    exact W.vret B.exec B.bytes hr (fun t ht hW => ⟨⟨u, rfl, hpost, by rw [ht]; exact hP, va_K.moved hW.alike hK, hD⟩, hS.F ht⟩) hS.2.2 dX1_init_27.1 hlk
  suffices J0 : JJ p l e rI1 s m ([Value.ref h0] : List Value).toArray below meth c 0 0 (MQ below (va_Qv (fun (u : jU) => MInv u.2.2.1 u.2.2.2 (fun _ _ => False)) (fun u t => va_P D jcl (mw (D, h0, u.1, u.2.1) u.2.2.1 u.2.2.2) t.heap ∧ va_K D jcl (mty (D, h0, u.1, u.2.1)) t ∧ va_D A (mw (D, h0, u.1, u.2.1) u.2.2.1 u.2.2.2)) A) ([Value.ref h0] : List Value).toArray s 3 124 A) A D 1 [(h0, .inr (1, df1))] 0 ([Value.ref h0].map some ++ List.replicate 0 none) [] from J0 s.heap [] _ hP hD va_S.rf hl
  refine jr_lo (L2 := [some (.ref h0)]) rfl ?_
  refine jr_al0 C dX1_init_0 ?_
  refine ji_obj C q230 dX1_init_1 (by decide) (by decide) ?_
  refine jr_al0 C dX1_init_4 ?_
  refine jr_bipush (v := nI 80) C dX1_init_5 (by decide) ?_
  refine ji_step (ty := .int) (k := 0) C hin in_X1 tyX1 tyX1_ok nmX1 (ci := 1) rfl (by decide) q231 rfl rfl rfl q91 rfl rfl (by decide +kernel) (by decide) (by decide) (by decide) (by decide) (Nat.le_of_ble_eq_true rfl) dX1_init_7 dX1_init_9 (fun a0 c0 C => ?_)
  refine jr_al0 C dX1_init_12 ?_
  refine jr_ic4 C dX1_init_13 ?_
  refine ji_step (ty := .int) (k := 1) C hin in_X1 tyX1 tyX1_ok nmX1 (ci := 1) rfl (by decide) q232 rfl rfl rfl q91 rfl rfl (by decide +kernel) (by decide) (by decide) (by decide) (by decide) (Nat.le_of_ble_eq_true rfl) dX1_init_14 dX1_init_16 (fun a1 c1 C => ?_)
  refine jr_al0 C dX1_init_19 ?_
  refine jr_bipush (v := nI 40) C dX1_init_20 (by decide) ?_
  refine ji_step (ty := .int) (k := 2) C hin in_X1 tyX1 tyX1_ok nmX1 (ci := 1) rfl (by decide) q233 rfl rfl rfl q91 rfl rfl (by decide +kernel) (by decide) (by decide) (by decide) (by decide) (Nat.le_of_ble_eq_true rfl) dX1_init_22 dX1_init_24 (fun a2 c2 C => ?_)
  obtain ⟨g, eg⟩ : ∃ g : jG, g = (D, h0, (fun k => [a0, a1, a2, 0].getD k 0), (fun k => [c0, c1, c2, c0].getD k c0)) := ⟨_, rfl⟩
  have eD : g.1 = D := by rw [eg]
  have eh : g.2.1 = h0 := by rw [eg]
  refine jr_wd (wd2 := mw g (fun _ _ => 0) (fun _ _ => 0)) (by rw [eg]; rfl) ?_
  have Cg : jC p s m ([Value.ref h0] : List Value).toArray meth c A g.1 1 cX1_init RX1 (mty g) := by rw [eg]; exact C
  subst eD
  subst eh
  have C := Cg
  intro H locs ls hP hD hS hl
  refine hend (g.2.2.1, g.2.2.2, (fun _ _ => 0), (fun _ _ => 0)) H locs ls ?_ hP C.2.2.2.2.2.1 hD hS
  intro i hi
  refine ⟨Nat.zero_le _, List.Pairwise.nil, fun k => ?_⟩
  simp [ml]
end
section
/-! rows for the law's own walk: its world is the component's and the model's side by side -/
section JLR
variable {p : Program} {l : Launch} {e : Env} {R : Room} {s : State} {m : MethodId} {args : Array Value} {below : List Frame} {meth : Method} {c : Code} {ce sl : Nat} {Q : State → Prop} {A : Nat → Prop} {D : va_G} {nL : Nat} {wd : va_W} {pc n : Nat} {L : List (Option Value)} {st : List Value} {cc : ByteArray} {own : String} {tys : List (ClassId × FieldType)}
theorem jr_al1 (C : jC p s m args meth c A D nL cc own tys) {o0 : Option Value} {a : Nat} (d : decode cc pc = .ok (.aload_n 1, 1) ∧ pc + 1 = n) (kk : JJ p l e R s m args below meth c ce sl Q A D nL wd n (o0 :: some (.ref a) :: L) (.ref a :: st)) : JJ p l e R s m args below meth c ce sl Q A D nL wd pc (o0 :: some (.ref a) :: L) st := by
  obtain ⟨d, rfl⟩ := d
  exact fun H locs ls hP hD hS hl => lv_aload_n C.1 C.2.1 d rfl (hl.2.2.2 1 _ rfl).1 (kk H locs ls hP hD hS hl)
theorem jr_al2 (C : jC p s m args meth c A D nL cc own tys) {o0 o1 : Option Value} {a : Nat} (d : decode cc pc = .ok (.aload_n 2, 1) ∧ pc + 1 = n) (kk : JJ p l e R s m args below meth c ce sl Q A D nL wd n (o0 :: o1 :: some (.ref a) :: L) (.ref a :: st)) : JJ p l e R s m args below meth c ce sl Q A D nL wd pc (o0 :: o1 :: some (.ref a) :: L) st := by
  obtain ⟨d, rfl⟩ := d
  exact fun H locs ls hP hD hS hl => lv_aload_n C.1 C.2.1 d rfl (hl.2.2.2 2 _ rfl).1 (kk H locs ls hP hD hS hl)
theorem jr_as1 (C : jC p s m args meth c A D nL cc own tys) {o0 w : Option Value} {a : Nat} (d : decode cc pc = .ok (.astore_n 1, 1) ∧ pc + 1 = n) (kk : JJ p l e R s m args below meth c ce sl Q A D nL wd n (o0 :: some (.ref a) :: L) st) : JJ p l e R s m args below meth c ce sl Q A D nL wd pc (o0 :: w :: L) (.ref a :: st) := by
  obtain ⟨d, rfl⟩ := d
  exact fun H locs ls hP hD hS hl => lv_astore_n C.1 C.2.1 d rfl (jl_has hl) (jl_lt hl (i := 1) (by simp)) rfl (fun ls2 h2 => kk H locs ls2 hP hD hS (jl_setV (i := 1) (v := .ref a) rfl hl h2))
theorem jr_as2 (C : jC p s m args meth c A D nL cc own tys) {o0 o1 w : Option Value} {a : Nat} (d : decode cc pc = .ok (.astore_n 2, 1) ∧ pc + 1 = n) (kk : JJ p l e R s m args below meth c ce sl Q A D nL wd n (o0 :: o1 :: some (.ref a) :: L) st) : JJ p l e R s m args below meth c ce sl Q A D nL wd pc (o0 :: o1 :: w :: L) (.ref a :: st) := by
  obtain ⟨d, rfl⟩ := d
  exact fun H locs ls hP hD hS hl => lv_astore_n C.1 C.2.1 d rfl (jl_has hl) (jl_lt hl (i := 2) (by simp)) rfl (fun ls2 h2 => kk H locs ls2 hP hD hS (jl_setV (i := 2) (v := .ref a) rfl hl h2))
theorem jr_slen (C : jC p s m args meth c A D nL cc own tys) {b LL : Nat} {xs : Nat → Int32} (hX : va_X b LL xs s s.heap) (hbl : b < s.heap.size) (hbA : ¬ A b) (d : decode cc pc = .ok (.arraylength, 1) ∧ pc + 1 = n) (kk : JJ p l e R s m args below meth c ce sl Q A D nL wd n L (.int (nI LL) :: st)) : JJ p l e R s m args below meth c ce sl Q A D nL wd pc L (.ref b :: st) := by
  obtain ⟨d, rfl⟩ := d
  exact fun H locs ls hP hD hS hl => va_slen C.1 C.2.1 hX hbl hbA hS d (kk H locs ls hP hD hS hl)
theorem jr_sld (C : jC p s m args meth c A D nL cc own tys) {b LL k : Nat} {xs : Nat → Int32} (hX : va_X b LL xs s s.heap) (hbl : b < s.heap.size) (hbA : ¬ A b) (d : decode cc pc = .ok (.iaload, 1) ∧ pc + 1 = n) (hk : k < LL) (hL : LL < 2 ^ 31) (kk : JJ p l e R s m args below meth c ce sl Q A D nL wd n L (.int (xs k) :: st)) : JJ p l e R s m args below meth c ce sl Q A D nL wd pc L (.int (nI k) :: .ref b :: st) := by
  obtain ⟨d, rfl⟩ := d
  have hc := nI_clamp (n := k) (by omega)
  exact fun H locs ls hP hD hS hl => va_sld C.1 C.2.1 hX hbl hbA hS (vp_in_nI hk hL) d (by rw [hc]; exact kk H locs ls hP hD hS hl)
theorem jr_isubR (C : jC p s m args meth c A D nL cc own tys) {x y : Int32} (d : decode cc pc = .ok (.isub, 1) ∧ pc + 1 = n) (kk : JJ p l e R s m args below meth c ce sl Q A D nL wd n L (.int (x - y) :: st)) : JJ p l e R s m args below meth c ce sl Q A D nL wd pc L (.int y :: .int x :: st) := by
  obtain ⟨d, rfl⟩ := d
  exact fun H locs ls hP hD hS hl => lv_isub C.1 C.2.1 d (kk H locs ls hP hD hS hl)
theorem jr_iandR (C : jC p s m args meth c A D nL cc own tys) {x y : Int32} (d : decode cc pc = .ok (.iand, 1) ∧ pc + 1 = n) (kk : JJ p l e R s m args below meth c ce sl Q A D nL wd n L (.int (x &&& y) :: st)) : JJ p l e R s m args below meth c ce sl Q A D nL wd pc L (.int y :: .int x :: st) := by
  obtain ⟨d, rfl⟩ := d
  exact fun H locs ls hP hD hS hl => lv_iand C.1 C.2.1 d (kk H locs ls hP hD hS hl)
theorem jr_tin (C : jC p s m args meth c A D nL cc own tys) {dflt lo hi : Int} {offs : Array Int} {len tgt : Nat} {x : Int32} {off : Int} (d : decode cc pc = .ok (.tableswitch dflt lo hi offs, len) ∧ pc + len = n) (h1 : ¬ x.toInt < lo) (h2 : ¬ hi < x.toInt) (ho : offs[(x.toInt - lo).toNat]? = some off) (ht : (pc : Int) + off = (tgt : Int)) (kk : JJ p l e R s m args below meth c ce sl Q A D nL wd tgt L st) : JJ p l e R s m args below meth c ce sl Q A D nL wd pc L (.int x :: st) :=
  fun H locs ls hP hD hS hl => lv_tableIn C.1 C.2.1 d.1 h1 h2 ho ht (kk H locs ls hP hD hS hl)
theorem jr_tout (C : jC p s m args meth c A D nL cc own tys) {dflt lo hi : Int} {offs : Array Int} {len tgt : Nat} {x : Int32} (d : decode cc pc = .ok (.tableswitch dflt lo hi offs, len) ∧ pc + len = n) (h : x.toInt < lo ∨ hi < x.toInt) (ht : (pc : Int) + dflt = (tgt : Int)) (kk : JJ p l e R s m args below meth c ce sl Q A D nL wd tgt L st) : JJ p l e R s m args below meth c ce sl Q A D nL wd pc L (.int x :: st) :=
  fun H locs ls hP hD hS hl => lv_tableOut C.1 C.2.1 d.1 h ht (kk H locs ls hP hD hS hl)
theorem jr_inc3_5 (C : jC p s m args meth c A D nL cc own tys) {o0 o1 o2 : Option Value} {x : Nat} (d : decode cc pc = .ok (.iinc 3 5, 3) ∧ pc + 3 = n) (kk : JJ p l e R s m args below meth c ce sl Q A D nL wd n (o0 :: o1 :: o2 :: some (.int (nI (x + 5))) :: L) st) : JJ p l e R s m args below meth c ce sl Q A D nL wd pc (o0 :: o1 :: o2 :: some (.int (nI x)) :: L) st := by
  obtain ⟨d, rfl⟩ := d
  exact fun H locs ls hP hD hS hl => jl_iinc C.1 C.2.1 d hl rfl (show nI x + Int32.ofInt 5 = nI (x + 5) from nI_add x 5) (fun ls2 h2 => kk H locs ls2 hP hD hS h2)
end JLR
/-! two worlds side by side -/
section FRS
variable {D : va_G} {cl : List vw_C} {A : Nat → Prop} {a b a1 b1 : va_W} {H H1 : Heap}
theorem fr_at {w1 w2 : va_W} {k : Nat} {q : Nat × va_E} (h : (w1 ++ w2)[k]? = some q) : w1[k]? = some q ∨ ∃ j, w2[j]? = some q ∧ k = w1.length + j := by
  by_cases hl : k < w1.length
  · rw [List.getElem?_append_left hl] at h
    exact Or.inl h
  · rw [List.getElem?_append_right (by omega)] at h
    exact Or.inr ⟨k - w1.length, h, by omega⟩
theorem fr_l {w1 w2 : va_W} {k : Nat} {q : Nat × va_E} (h : w1[k]? = some q) : (w1 ++ w2)[k]? = some q := by
  rw [List.getElem?_append_left (List.getElem?_eq_some_iff.mp h).1]; exact h
theorem fr_r {w1 w2 : va_W} {k : Nat} {q : Nat × va_E} (h : w2[k]? = some q) : (w1 ++ w2)[w1.length + k]? = some q := by
  rw [List.getElem?_append_right (by omega), Nat.add_sub_cancel_left]; exact h
theorem fr_P (hP : va_P D cl (a ++ b) H) : va_P D cl a H ∧ va_P D cl b H := ⟨fun k q h => hP k q (fr_l h), fun k q h => hP _ q (fr_r h)⟩
theorem fr_D (hD : va_D A (a ++ b)) : va_D A a ∧ va_D A b ∧ ∀ (i j : Nat) (x y : Nat × va_E), a[i]? = some x → b[j]? = some y → x.1 ≠ y.1 := by
  refine ⟨⟨fun i j x y hi hj h => hD.1 i j x y (fr_l hi) (fr_l hj) h, fun k q h => hD.2 k q (fr_l h)⟩, ⟨fun i j x y hi hj h => ?_, fun k q h => hD.2 _ q (fr_r h)⟩, fun i j x y hi hj h => ?_⟩
  · have := hD.1 _ _ x y (fr_r hi) (fr_r hj) h
    omega
  · have := hD.1 _ _ x y (fr_l hi) (fr_r hj) h
    have hl := (List.getElem?_eq_some_iff.mp hi).1
    omega
theorem fr_apart {w : va_W} (hP : va_P D cl b H) (hx : ∀ (i j : Nat) (x y : Nat × va_E), w[i]? = some x → b[j]? = some y → x.1 ≠ y.1) : ∀ (k : Nat) (q : Nat × va_E), b[k]? = some q → q.1 < H.size ∧ ¬ va_A w H.size q.1 := by
  intro k q h
  have hl := (hP k q h).lt
  refine ⟨hl, ?_⟩
  rintro (⟨i, e, hi⟩ | h2)
  · exact hx i k _ q hi h rfl
  · omega
theorem fr_left (hP : va_P D cl (a ++ b) H) (hD : va_D A (a ++ b)) (hk : ∀ q : Nat, q < H.size → ¬ va_A a H.size q → H1[q]? = H[q]?) (hF : ∀ q, va_A a H.size q → A q) (hP1 : va_P D cl a1 H1) (hD1 : va_D (va_A a H.size) a1) : va_P D cl (a1 ++ b) H1 ∧ va_D A (a1 ++ b) := by
  obtain ⟨-, pb⟩ := fr_P hP
  obtain ⟨-, db, dx⟩ := fr_D hD
  have hap := fr_apart pb dx
  refine ⟨va_P.app hP1 (fun k q h => (pb k q h).kept (hk q.1 (hap k q h).1 (hap k q h).2)), va_D.app (hD1.weaken (fun _ _ _ h => hF _ h)) db (fun i j x y hi hj h => ?_)⟩
  exact (hap j y hj).2 (by rw [← h]; exact hD1.2 i x hi)
theorem fr_right (hP : va_P D cl (a ++ b) H) (hD : va_D A (a ++ b)) (hk : ∀ q : Nat, q < H.size → ¬ va_A b H.size q → H1[q]? = H[q]?) (hF : ∀ q, va_A b H.size q → A q) (hP1 : va_P D cl b1 H1) (hD1 : va_D (va_A b H.size) b1) : va_P D cl (a ++ b1) H1 ∧ va_D A (a ++ b1) := by
  obtain ⟨pa, -⟩ := fr_P hP
  obtain ⟨da, -, dx⟩ := fr_D hD
  have hap := fr_apart pa (w := b) (fun i j x y hi hj h => dx j i y x hj hi h.symm)
  refine ⟨va_P.app (fun k q h => (pa k q h).kept (hk q.1 (hap k q h).1 (hap k q h).2)) hP1, va_D.app da (hD1.weaken (fun _ _ _ h => hF _ h)) (fun i j x y hi hj h => ?_)⟩
  exact (hap i x hi).2 (by rw [h]; exact hD1.2 j y hj)
theorem fr_K {t1 t2 : List (ClassId × FieldType)} {U : State} (h : va_K D cl (t1 ++ t2) U) : va_K D cl t1 U ∧ va_K D cl t2 U := by
  refine ⟨⟨h.1, fun k q hk => h.2 k q ?_⟩, ⟨h.1, fun k q hk => h.2 (t1.length + k) q ?_⟩⟩
  · rw [List.getElem?_append_left (List.getElem?_eq_some_iff.mp hk).1]; exact hk
  · rw [List.getElem?_append_right (by omega), Nat.add_sub_cancel_left]; exact hk
end FRS
section LCL
variable {p : Program} {l : Launch} {e : Env} {R : Room} {s : State} {m : MethodId} {args : Array Value} {below : List Frame} {meth : Method} {c : Code} {ce sl : Nat} {Q : State → Prop} {A : Nat → Prop} {g : jG} {nL : Nat} {pc n : Nat} {L : List (Option Value)} {st : List Value} {cc : ByteArray} {own : String} {wf : jG → (Nat → Nat → Nat) → (Nat → Nat → Int32) → va_W} {tf : jG → List (ClassId × FieldType)} {tb : List (ClassId × FieldType)} {wb : va_W} {N : Nat → Nat → Nat} {K : Nat → Nat → Int32} {y : MethodName} {bytes : ByteArray} {mL k idx ci : Nat} {r : FieldType} {As : List Value} {q : vw_C} {fs : List Value}
theorem lcL {post : Int32 → (Nat → Nat → Nat) → (Nat → Nat → Int32) → Prop} (C : jC p s m args meth c A g.1 nL cc own (tf g ++ tb)) (hw : jcl[ci]? = some q) (hM : jI l wf tf y bytes mL r k As N K post) (cw : CallW R s args own q.1 idx y bytes mL (some r) (ws_ y bytes mL (some r)) (jrm k) 0 0 As.length) (he : (wf g N K)[0]? = some (g.2.1, .inr (ci, fs))) (d : decode cc pc = .ok (.invokevirtual idx, 3) ∧ pc + 3 = n) (hst : (st.map fun v => v.category).sum ≤ 8) (hce : ce ≤ R.cells ∧ sl ≤ R.slots)
    (kk : ∀ r N1 K1, post r N1 K1 → JJ p l e R s m args below meth c ce sl Q A g.1 nL (wf g N1 K1 ++ wb) n L (.int r :: st)) : JJ p l e R s m args below meth c ce sl Q A g.1 nL (wf g N K ++ wb) pc L (As.reverse ++ .ref g.2.1 :: st) := by
  obtain ⟨d, rfl⟩ := d
  obtain ⟨hx, hb, hml, hown, hts, hK0, hlk, hA⟩ := C
  obtain ⟨hK, -⟩ := fr_K hK0
  intro H locs ls hP0 hD0 hS hl
  obtain ⟨hP, -⟩ := fr_P hP0
  obtain ⟨hD, -, -⟩ := fr_D hD0
  have hFc : ∀ q, va_A (wf g N K) H.size q → A q := by
    rintro q (⟨k, e, h⟩ | h)
    · exact hD.2 k _ h
    · exact hA q (Nat.le_trans hS.1 h)
  refine va_calli (va_runV (As := As) (rest := st) ⟨hx, hb, hml, hown, hts⟩ (hM g H.size) cw ⟨fun a U g' mk q => by obtain ⟨q0, q1, qP, qK, qD⟩ := q; exact ⟨q0, q1, qP, va_K.moved (u := U) (U := U.calling g' mk a) (Vm.Alike.refl U.vm) qK, qD⟩, va_recv hK hP (ci := ci) (q0 := 0) hw he, fun U hU hW => ⟨rfl, by rw [hU], by rw [hU]; exact hP, va_K.moved hW.alike hK, hD.weaken (fun _ _ _ _ => trivial)⟩⟩ rfl rfl hl.1 rfl (lv_room hst) d hce) hS (fun q _ h => hFc q h) hFc (fun r u t H1 locs ht hvm hw1 hB hz1 hk1 hS => ?_)
  obtain ⟨hP1, hK1, hD1⟩ := hB
  rw [ht] at hP1
  obtain ⟨hP2, hD2⟩ := fr_left hP0 hD0 hk1 hFc hP1 hD1
  exact kk r u.1 u.2 hw1 H1 locs ls hP2 hD2 hS hl
theorem lcR {post : Int32 → (Nat → Nat → Nat) → (Nat → Nat → Int32) → Prop} (C : jC p s m args meth c A g.1 nL cc own (tb ++ tf g)) (hw : jcl[ci]? = some q) (hM : jI l wf tf y bytes mL r k As N K post) (cw : CallW R s args own q.1 idx y bytes mL (some r) (ws_ y bytes mL (some r)) (jrm k) 0 0 As.length) (he : (wf g N K)[0]? = some (g.2.1, .inr (ci, fs))) (d : decode cc pc = .ok (.invokevirtual idx, 3) ∧ pc + 3 = n) (hst : (st.map fun v => v.category).sum ≤ 8) (hce : ce ≤ R.cells ∧ sl ≤ R.slots)
    (kk : ∀ r N1 K1, post r N1 K1 → JJ p l e R s m args below meth c ce sl Q A g.1 nL (wb ++ wf g N1 K1) n L (.int r :: st)) : JJ p l e R s m args below meth c ce sl Q A g.1 nL (wb ++ wf g N K) pc L (As.reverse ++ .ref g.2.1 :: st) := by
  obtain ⟨d, rfl⟩ := d
  obtain ⟨hx, hb, hml, hown, hts, hK0, hlk, hA⟩ := C
  obtain ⟨-, hK⟩ := fr_K hK0
  intro H locs ls hP0 hD0 hS hl
  obtain ⟨-, hP⟩ := fr_P hP0
  obtain ⟨-, hD, -⟩ := fr_D hD0
  have hFc : ∀ q, va_A (wf g N K) H.size q → A q := by
    rintro q (⟨k, e, h⟩ | h)
    · exact hD.2 k _ h
    · exact hA q (Nat.le_trans hS.1 h)
  refine va_calli (va_runV (As := As) (rest := st) ⟨hx, hb, hml, hown, hts⟩ (hM g H.size) cw ⟨fun a U g' mk q => by obtain ⟨q0, q1, qP, qK, qD⟩ := q; exact ⟨q0, q1, qP, va_K.moved (u := U) (U := U.calling g' mk a) (Vm.Alike.refl U.vm) qK, qD⟩, va_recv hK hP (ci := ci) (q0 := 0) hw he, fun U hU hW => ⟨rfl, by rw [hU], by rw [hU]; exact hP, va_K.moved hW.alike hK, hD.weaken (fun _ _ _ _ => trivial)⟩⟩ rfl rfl hl.1 rfl (lv_room hst) d hce) hS (fun q _ h => hFc q h) hFc (fun r u t H1 locs ht hvm hw1 hB hz1 hk1 hS => ?_)
  obtain ⟨hP1, hK1, hD1⟩ := hB
  rw [ht] at hP1
  obtain ⟨hP2, hD2⟩ := fr_right hP0 hD0 hk1 hFc hP1 hD1
  exact kk r u.1 u.2 hw1 H1 locs ls hP2 hD2 hS hl
end LCL
/-! both sides answer alike: what is asked determines the answer -/
theorem D_add {P P1 P2 : jP} {s x r1 r2 : Int32} (h1 : A_add P s x r1 P1) (h2 : A_add P s x r2 P2) : r1 = r2 ∧ P1 = P2 := by
  rcases h1 with ⟨a, rfl, rfl⟩ | ⟨i, hi, rfl, h1⟩ <;> rcases h2 with ⟨b, rfl, rfl⟩ | ⟨j, hj, e, h2⟩
  · exact ⟨rfl, rfl⟩
  · exact absurd ⟨j, hj, e⟩ a
  · exact absurd (jok_n hi) b
  · have := nI4 hi hj e
    subst this
    rcases h1 with ⟨a1, rfl, rfl⟩ | ⟨a1, a2, rfl, rfl⟩ | ⟨a1, a2, rfl, rfl⟩ <;> rcases h2 with ⟨b1, rfl, rfl⟩ | ⟨b1, b2, rfl, rfl⟩ | ⟨b1, b2, rfl, rfl⟩ <;> first | exact ⟨rfl, rfl⟩ | contradiction
theorem D_rr {P P1 P2 : jP} {s x y r1 r2 : Int32} (h1 : A_rr P s x y r1 P1) (h2 : A_rr P s x y r2 P2) : r1 = r2 ∧ P1 = P2 := by
  rcases h1 with ⟨a, rfl, rfl⟩ | ⟨i, hi, rfl, e1, e2⟩ <;> rcases h2 with ⟨b, rfl, rfl⟩ | ⟨j, hj, e, f1, f2⟩
  · exact ⟨rfl, rfl⟩
  · exact absurd ⟨j, hj, e⟩ a
  · exact absurd (jok_n hi) b
  · have := nI4 hi hj e
    subst this
    exact ⟨e2.trans f2.symm, e1.trans f1.symm⟩
theorem D_has {P : jP} {s x r1 r2 : Int32} (h1 : A_has P s x r1) (h2 : A_has P s x r2) : r1 = r2 := by
  rcases h1 with ⟨a, rfl⟩ | ⟨a, rfl⟩ <;> rcases h2 with ⟨b, rfl⟩ | ⟨b, rfl⟩ <;> first | rfl | contradiction
theorem D_size {P : jP} {s r1 r2 : Int32} (h1 : A_size P s r1) (h2 : A_size P s r2) : r1 = r2 := by
  rcases h1 with ⟨a, rfl⟩ | ⟨i, hi, rfl, e1⟩ <;> rcases h2 with ⟨b, rfl⟩ | ⟨j, hj, e, f1⟩
  · rfl
  · exact absurd ⟨j, hj, e⟩ a
  · exact absurd (jok_n hi) b
  · have := nI4 hi hj e
    subst this
    exact e1.trans f1.symm
theorem D_rank {P : jP} {s x r1 r2 : Int32} (h1 : A_rank P s x r1) (h2 : A_rank P s x r2) : r1 = r2 := by
  rcases h1 with ⟨a, rfl⟩ | ⟨i, hi, rfl, e1⟩ <;> rcases h2 with ⟨b, rfl⟩ | ⟨j, hj, e, f1⟩
  · rfl
  · exact absurd ⟨j, hj, e⟩ a
  · exact absurd (jok_n hi) b
  · have := nI4 hi hj e
    subst this
    exact e1.trans f1.symm
theorem D_ceil {P : jP} {s x r1 r2 : Int32} (h1 : A_ceil P s x r1) (h2 : A_ceil P s x r2) : r1 = r2 := by
  rcases h1 with ⟨a, rfl⟩ | ⟨i, hi, rfl, e1⟩ <;> rcases h2 with ⟨b, rfl⟩ | ⟨j, hj, e, f1⟩
  · rfl
  · exact absurd ⟨j, hj, e⟩ a
  · exact absurd (jok_n hi) b
  · have := nI4 hi hj e
    subst this
    rcases e1 with ⟨a, rfl⟩ | ⟨a, rfl⟩ <;> rcases f1 with ⟨b, rfl⟩ | ⟨b, rfl⟩ <;> first | rfl | contradiction
theorem D_clear {P P1 P2 : jP} {s r1 r2 : Int32} (h1 : A_clear P s r1 P1) (h2 : A_clear P s r2 P2) : r1 = r2 ∧ P1 = P2 := by
  rcases h1 with ⟨a, rfl, rfl⟩ | ⟨i, hi, rfl, e1, e2⟩ <;> rcases h2 with ⟨b, rfl, rfl⟩ | ⟨j, hj, e, f1, f2⟩
  · exact ⟨rfl, rfl⟩
  · exact absurd ⟨j, hj, e⟩ a
  · exact absurd (jok_n hi) b
  · have := nI4 hi hj e
    subst this
    exact ⟨e1.trans f1.symm, e2.trans f2.symm⟩
theorem D_split {P P1 P2 : jP} {s x d r1 r2 : Int32} (h1 : A_split P s x d r1 P1) (h2 : A_split P s x d r2 P2) : r1 = r2 ∧ P1 = P2 := by
  rcases h1 with ⟨a, rfl, rfl⟩ | ⟨i, i2, hi, hi2, rfl, rfl, e1, e2⟩ <;> rcases h2 with ⟨b, rfl, rfl⟩ | ⟨j, j2, hj, hj2, e, e', f1, f2⟩
  · exact ⟨rfl, rfl⟩
  · exact absurd ⟨⟨j, hj, e⟩, ⟨j2, hj2, e'⟩⟩ a
  · exact absurd ⟨jok_n hi, jok_n hi2⟩ b
  · have := nI4 hi hj e
    subst this
    have := nI4 hi2 hj2 e'
    subst this
    exact ⟨e2.trans f2.symm, e1.trans f1.symm⟩
theorem D_comb {P P1 P2 : jP} {w d a b r1 r2 : Int32} (h1 : A_comb P w d a b r1 P1) (h2 : A_comb P w d a b r2 P2) : r1 = r2 ∧ P1 = P2 := by
  rcases h1 with ⟨n1, rfl, rfl⟩ | ⟨h, j, i1, i2, hh, hj, hi1, hi2, rfl, rfl, rfl, rfl, e1⟩ <;> rcases h2 with ⟨n2, rfl, rfl⟩ | ⟨h', j', i1', i2', hh', hj', hi1', hi2', q1, q2, q3, q4, f1⟩
  · exact ⟨rfl, rfl⟩
  · exact absurd ⟨⟨h', hh', q1⟩, ⟨j', hj', q2⟩, ⟨i1', hi1', q3⟩, ⟨i2', hi2', q4⟩⟩ n1
  · exact absurd ⟨jok_n hh, jok_n hj, jok_n hi1, jok_n hi2⟩ n2
  · have := nI4 hh hh' q1
    subst this
    have := nI4 hj hj' q2
    subst this
    have := nI4 hi1 hi1' q3
    subst this
    have := nI4 hi2 hi2' q4
    subst this
    rcases e1 with ⟨a1, rfl, rfl⟩ | ⟨a1, rfl, rfl⟩ <;> rcases f1 with ⟨b1, rfl, rfl⟩ | ⟨b1, rfl, rfl⟩ <;> first | exact ⟨rfl, rfl⟩ | contradiction
theorem D_wi {P : jP} {a b r1 r2 : Int32} (h1 : A_wi P a b r1) (h2 : A_wi P a b r2) : r1 = r2 := by
  rcases h1 with ⟨a, rfl⟩ | ⟨a, rfl⟩ <;> rcases h2 with ⟨b, rfl⟩ | ⟨b, rfl⟩ <;> first | rfl | contradiction
theorem D_same {P : jP} {a b r1 r2 : Int32} (h1 : A_same P a b r1) (h2 : A_same P a b r2) : r1 = r2 := by
  rcases h1 with ⟨a, rfl⟩ | ⟨a, rfl⟩ <;> rcases h2 with ⟨b, rfl⟩ | ⟨b, rfl⟩ <;> first | rfl | contradiction
theorem D_at {N : Nat → Nat → Nat} {K : Nat → Nat → Int32} {P : jP} (hI : MInv N K P) {s k r1 r2 : Int32} (h1 : A_at P s k r1) (h2 : A_at P s k r2) : r1 = r2 := by
  rcases h1 with ⟨i, hi, rfl, hP1, e1⟩ | ⟨n1, rfl⟩ <;> rcases h2 with ⟨j, hj, e, hP2, e2⟩ | ⟨n2, rfl⟩
  · have := nI4 hi hj e
    subst this
    rw [e1, hI.rk hi, hI.rk hi] at e2
    have l1 := mk_le (K := K) (i := i) (n := N 1 i) (x := r1)
    have l2 := mk_le (K := K) (i := i) (n := N 1 i) (x := r2)
    obtain ⟨hn, hnd, hP⟩ := hI i hi
    have e3 := (nI_eq (by omega) (by omega)).mp e2
    have mono : ∀ u v, P i u → u < v → mk_ K i (N 1 i) u < mk_ K i (N 1 i) v := by
      intro u v hu huv
      have hum := (hP u).mpr hu
      unfold mk_
      have hsub : ∀ e, (decide (e < u)) = true → (decide (e < v)) = true := by
        intro e he
        simp only [decide_eq_true_eq] at he ⊢
        exact ii_tr he huv
      obtain ⟨A, B, hAB⟩ := List.append_of_mem hum
      rw [hAB, List.countP_append, List.countP_append, List.countP_cons, List.countP_cons]
      have hA := List.countP_mono_left (l := A) (p := fun e => decide (e < u)) (q := fun e => decide (e < v)) (fun e _ => hsub e)
      have hB := List.countP_mono_left (l := B) (p := fun e => decide (e < u)) (q := fun e => decide (e < v)) (fun e _ => hsub e)
      have c1 : (decide (u < u)) = false := decide_eq_false ii_irr
      have c2 : (decide (u < v)) = true := decide_eq_true huv
      simp only [c1, c2, if_true]
      simp
      omega
    rcases (show r1 < r2 ∨ r1 = r2 ∨ r2 < r1 by
      rw [Int32.lt_iff_toInt_lt, Int32.lt_iff_toInt_lt, ← Int32.toInt_inj]; omega) with h | h | h
    · have := mono r1 r2 hP1 h
      omega
    · exact h
    · have := mono r2 r1 hP2 h
      omega
  · exact absurd ⟨i, r1, hi, rfl, hP1, e1⟩ n2
  · exact absurd ⟨j, r2, hj, e, hP2, e2⟩ n1
  · rfl
/-- the classes, known at the claim's start -/
theorem law_K {s0 : State} {b0 : Addr} (ht0 : ∀ w ∈ lw_tbl, w.before #[Value.ref b0] s0 = true) : ∃ D : va_G, va_K D jcl [] s0 := by
  obtain ⟨c0_, iS0, hKn0⟩ := u_known (C := RX0) (T := TX0) (N := 18) (n := 18) ht0 (fun w h => lw_all_tbl (in_X0 w h)) (ht0 _ (lw_all_tbl q28))
  obtain ⟨c1_, iS1, hKn1⟩ := u_known (C := RX1) (T := TX1) (N := 4) (n := 4) ht0 (fun w h => lw_all_tbl (in_X1 w h)) (ht0 _ (lw_all_tbl q226))
  refine ⟨(fun k => if k = 0 then c0_ else c1_, fun k => if k = 0 then iS0 else iS1), ?_, fun k q hk => by simp at hk⟩
  intro k q hq
  match k, hq with
  | 0, hq => cases hq; exact hKn0
  | 1, hq => cases hq; exact hKn1
  | k + 2, hq => simp [jcl] at hq
def R_law : String := "JoinTreesLaw"
section LX
variable {p : Program} {l : Launch} {e : Env} {R : Room} {s : State} {m : MethodId} {args : Array Value} {below : List Frame} {meth : Method} {c : Code} {ce sl : Nat} {Q : State → Prop} {A : Nat → Prop} {g : jG} {nL : Nat} {pc n : Nat} {L : List (Option Value)} {st : List Value} {cc : ByteArray} {tb : List (ClassId × FieldType)} {wb : va_W} {N : Nat → Nat → Nat} {K : Nat → Nat → Int32}
theorem lc_add (C : jC p s m args meth c A g.1 nL cc R_law (jty g ++ tb)) {v0 v1 : Value} {post : Int32 → (Nat → Nat → Nat) → (Nat → Nat → Int32) → Prop} (d : decode cc pc = .ok (.invokevirtual 13, 3) ∧ pc + 3 = n) (hR : 5 + 1 ≤ R.frames ∧ 8 + (5 + 11) + 200 ≤ R.locals) (hst : (st.map fun v => v.category).sum ≤ 8) (hce : ce ≤ R.cells ∧ sl ≤ R.slots) (hM : jI l jw jty yX0_add cX0_add 5 .int 5 [v0, v1] N K post) (kk : ∀ r N1 K1, post r N1 K1 → JJ p l e R s m args below meth c ce sl Q A g.1 nL (jw g N1 K1 ++ wb) n L (.int r :: st)) : JJ p l e R s m args below meth c ce sl Q A g.1 nL (jw g N K ++ wb) pc L (v1 :: v0 :: .ref g.2.1 :: st) :=
  lcL C (As := [v0, v1]) (ci := 0) rfl hM (cwV 2 C.2.2.2.2.1 (lw_V q94 q95 q96 q25 q97) rfl rfl rfl (by decide +kernel) hR) (by exact rfl) d hst hce kk
theorem lc_has (C : jC p s m args meth c A g.1 nL cc R_law (jty g ++ tb)) {v0 v1 : Value} {post : Int32 → (Nat → Nat → Nat) → (Nat → Nat → Int32) → Prop} (d : decode cc pc = .ok (.invokevirtual 22, 3) ∧ pc + 3 = n) (hR : 1 + 1 ≤ R.frames ∧ 8 + (4 + 11) + 40 ≤ R.locals) (hst : (st.map fun v => v.category).sum ≤ 8) (hce : ce ≤ R.cells ∧ sl ≤ R.slots) (hM : jI l jw jty yX0_has cX0_has 4 .boolean 1 [v0, v1] N K post) (kk : ∀ r N1 K1, post r N1 K1 → JJ p l e R s m args below meth c ce sl Q A g.1 nL (jw g N1 K1 ++ wb) n L (.int r :: st)) : JJ p l e R s m args below meth c ce sl Q A g.1 nL (jw g N K ++ wb) pc L (v1 :: v0 :: .ref g.2.1 :: st) :=
  lcL C (As := [v0, v1]) (ci := 0) rfl hM (cwV 2 C.2.2.2.2.1 (lw_V q154 q103 q104 q25 q105) rfl rfl rfl (by decide +kernel) hR) (by exact rfl) d hst hce kk
theorem lc_remove (C : jC p s m args meth c A g.1 nL cc R_law (jty g ++ tb)) {v0 v1 : Value} {post : Int32 → (Nat → Nat → Nat) → (Nat → Nat → Int32) → Prop} (d : decode cc pc = .ok (.invokevirtual 18, 3) ∧ pc + 3 = n) (hR : 6 + 1 ≤ R.frames ∧ 8 + (4 + 11) + 240 ≤ R.locals) (hst : (st.map fun v => v.category).sum ≤ 8) (hce : ce ≤ R.cells ∧ sl ≤ R.slots) (hM : jI l jw jty yX0_remove cX0_remove 4 .int 6 [v0, v1] N K post) (kk : ∀ r N1 K1, post r N1 K1 → JJ p l e R s m args below meth c ce sl Q A g.1 nL (jw g N1 K1 ++ wb) n L (.int r :: st)) : JJ p l e R s m args below meth c ce sl Q A g.1 nL (jw g N K ++ wb) pc L (v1 :: v0 :: .ref g.2.1 :: st) :=
  lcL C (As := [v0, v1]) (ci := 0) rfl hM (cwV 2 C.2.2.2.2.1 (lw_V q142 q143 q144 q25 q145) rfl rfl rfl (by decide +kernel) hR) (by exact rfl) d hst hce kk
theorem lc_size (C : jC p s m args meth c A g.1 nL cc R_law (jty g ++ tb)) {v0 : Value} {post : Int32 → (Nat → Nat → Nat) → (Nat → Nat → Int32) → Prop} (d : decode cc pc = .ok (.invokevirtual 27, 3) ∧ pc + 3 = n) (hR : 1 + 1 ≤ R.frames ∧ 8 + (2 + 11) + 40 ≤ R.locals) (hst : (st.map fun v => v.category).sum ≤ 8) (hce : ce ≤ R.cells ∧ sl ≤ R.slots) (hM : jI l jw jty yX0_size cX0_size 2 .int 1 [v0] N K post) (kk : ∀ r N1 K1, post r N1 K1 → JJ p l e R s m args below meth c ce sl Q A g.1 nL (jw g N1 K1 ++ wb) n L (.int r :: st)) : JJ p l e R s m args below meth c ce sl Q A g.1 nL (jw g N K ++ wb) pc L (v0 :: .ref g.2.1 :: st) :=
  lcL C (As := [v0]) (ci := 0) rfl hM (cwV 1 C.2.2.2.2.1 (lw_V q155 q156 q157 q25 q158) rfl rfl rfl (by decide +kernel) hR) (by exact rfl) d hst hce kk
theorem lc_at (C : jC p s m args meth c A g.1 nL cc R_law (jty g ++ tb)) {v0 v1 : Value} {post : Int32 → (Nat → Nat → Nat) → (Nat → Nat → Int32) → Prop} (d : decode cc pc = .ok (.invokevirtual 32, 3) ∧ pc + 3 = n) (hR : 1 + 1 ≤ R.frames ∧ 8 + (5 + 11) + 40 ≤ R.locals) (hst : (st.map fun v => v.category).sum ≤ 8) (hce : ce ≤ R.cells ∧ sl ≤ R.slots) (hM : jI l jw jty yX0_at cX0_at 5 .int 1 [v0, v1] N K post) (kk : ∀ r N1 K1, post r N1 K1 → JJ p l e R s m args below meth c ce sl Q A g.1 nL (jw g N1 K1 ++ wb) n L (.int r :: st)) : JJ p l e R s m args below meth c ce sl Q A g.1 nL (jw g N K ++ wb) pc L (v1 :: v0 :: .ref g.2.1 :: st) :=
  lcL C (As := [v0, v1]) (ci := 0) rfl hM (cwV 2 C.2.2.2.2.1 (lw_V q159 q160 q161 q25 q162) rfl rfl rfl (by decide +kernel) hR) (by exact rfl) d hst hce kk
theorem lc_rank (C : jC p s m args meth c A g.1 nL cc R_law (jty g ++ tb)) {v0 v1 : Value} {post : Int32 → (Nat → Nat → Nat) → (Nat → Nat → Int32) → Prop} (d : decode cc pc = .ok (.invokevirtual 36, 3) ∧ pc + 3 = n) (hR : 1 + 1 ≤ R.frames ∧ 8 + (5 + 11) + 40 ≤ R.locals) (hst : (st.map fun v => v.category).sum ≤ 8) (hce : ce ≤ R.cells ∧ sl ≤ R.slots) (hM : jI l jw jty yX0_rank cX0_rank 5 .int 1 [v0, v1] N K post) (kk : ∀ r N1 K1, post r N1 K1 → JJ p l e R s m args below meth c ce sl Q A g.1 nL (jw g N1 K1 ++ wb) n L (.int r :: st)) : JJ p l e R s m args below meth c ce sl Q A g.1 nL (jw g N K ++ wb) pc L (v1 :: v0 :: .ref g.2.1 :: st) :=
  lcL C (As := [v0, v1]) (ci := 0) rfl hM (cwV 2 C.2.2.2.2.1 (lw_V q163 q164 q165 q25 q166) rfl rfl rfl (by decide +kernel) hR) (by exact rfl) d hst hce kk
theorem lc_combine (C : jC p s m args meth c A g.1 nL cc R_law (jty g ++ tb)) {v0 v1 v2 v3 : Value} {post : Int32 → (Nat → Nat → Nat) → (Nat → Nat → Int32) → Prop} (d : decode cc pc = .ok (.invokevirtual 40, 3) ∧ pc + 3 = n) (hR : 9 + 1 ≤ R.frames ∧ 8 + (8 + 11) + 360 ≤ R.locals) (hst : (st.map fun v => v.category).sum ≤ 8) (hce : ce ≤ R.cells ∧ sl ≤ R.slots) (hM : jI l jw jty yX0_combine cX0_combine 8 .int 9 [v0, v1, v2, v3] N K post) (kk : ∀ r N1 K1, post r N1 K1 → JJ p l e R s m args below meth c ce sl Q A g.1 nL (jw g N1 K1 ++ wb) n L (.int r :: st)) : JJ p l e R s m args below meth c ce sl Q A g.1 nL (jw g N K ++ wb) pc L (v3 :: v2 :: v1 :: v0 :: .ref g.2.1 :: st) :=
  lcL C (As := [v0, v1, v2, v3]) (ci := 0) rfl hM (cwV 4 C.2.2.2.2.1 (lw_V q167 q168 q169 q25 q170) rfl rfl rfl (by decide +kernel) hR) (by exact rfl) d hst hce kk
theorem lc_split (C : jC p s m args meth c A g.1 nL cc R_law (jty g ++ tb)) {v0 v1 v2 : Value} {post : Int32 → (Nat → Nat → Nat) → (Nat → Nat → Int32) → Prop} (d : decode cc pc = .ok (.invokevirtual 45, 3) ∧ pc + 3 = n) (hR : 5 + 1 ≤ R.frames ∧ 8 + (6 + 11) + 200 ≤ R.locals) (hst : (st.map fun v => v.category).sum ≤ 8) (hce : ce ≤ R.cells ∧ sl ≤ R.slots) (hM : jI l jw jty yX0_split cX0_split 6 .int 5 [v0, v1, v2] N K post) (kk : ∀ r N1 K1, post r N1 K1 → JJ p l e R s m args below meth c ce sl Q A g.1 nL (jw g N1 K1 ++ wb) n L (.int r :: st)) : JJ p l e R s m args below meth c ce sl Q A g.1 nL (jw g N K ++ wb) pc L (v2 :: v1 :: v0 :: .ref g.2.1 :: st) :=
  lcL C (As := [v0, v1, v2]) (ci := 0) rfl hM (cwV 3 C.2.2.2.2.1 (lw_V q199 q200 q201 q25 q202) rfl rfl rfl (by decide +kernel) hR) (by exact rfl) d hst hce kk
theorem lc_removeRange (C : jC p s m args meth c A g.1 nL cc R_law (jty g ++ tb)) {v0 v1 v2 : Value} {post : Int32 → (Nat → Nat → Nat) → (Nat → Nat → Int32) → Prop} (d : decode cc pc = .ok (.invokevirtual 50, 3) ∧ pc + 3 = n) (hR : 6 + 1 ≤ R.frames ∧ 8 + (8 + 11) + 240 ≤ R.locals) (hst : (st.map fun v => v.category).sum ≤ 8) (hce : ce ≤ R.cells ∧ sl ≤ R.slots) (hM : jI l jw jty yX0_removeRange cX0_removeRange 8 .int 6 [v0, v1, v2] N K post) (kk : ∀ r N1 K1, post r N1 K1 → JJ p l e R s m args below meth c ce sl Q A g.1 nL (jw g N1 K1 ++ wb) n L (.int r :: st)) : JJ p l e R s m args below meth c ce sl Q A g.1 nL (jw g N K ++ wb) pc L (v2 :: v1 :: v0 :: .ref g.2.1 :: st) :=
  lcL C (As := [v0, v1, v2]) (ci := 0) rfl hM (cwV 3 C.2.2.2.2.1 (lw_V q203 q204 q205 q25 q206) rfl rfl rfl (by decide +kernel) hR) (by exact rfl) d hst hce kk
theorem lc_same (C : jC p s m args meth c A g.1 nL cc R_law (jty g ++ tb)) {v0 v1 : Value} {post : Int32 → (Nat → Nat → Nat) → (Nat → Nat → Int32) → Prop} (d : decode cc pc = .ok (.invokevirtual 54, 3) ∧ pc + 3 = n) (hR : 9 + 1 ≤ R.frames ∧ 8 + (3 + 11) + 360 ≤ R.locals) (hst : (st.map fun v => v.category).sum ≤ 8) (hce : ce ≤ R.cells ∧ sl ≤ R.slots) (hM : jI l jw jty yX0_same cX0_same 3 .boolean 9 [v0, v1] N K post) (kk : ∀ r N1 K1, post r N1 K1 → JJ p l e R s m args below meth c ce sl Q A g.1 nL (jw g N1 K1 ++ wb) n L (.int r :: st)) : JJ p l e R s m args below meth c ce sl Q A g.1 nL (jw g N K ++ wb) pc L (v1 :: v0 :: .ref g.2.1 :: st) :=
  lcL C (As := [v0, v1]) (ci := 0) rfl hM (cwV 2 C.2.2.2.2.1 (lw_V q207 q208 q209 q25 q210) rfl rfl rfl (by decide +kernel) hR) (by exact rfl) d hst hce kk
theorem lc_within (C : jC p s m args meth c A g.1 nL cc R_law (jty g ++ tb)) {v0 v1 : Value} {post : Int32 → (Nat → Nat → Nat) → (Nat → Nat → Int32) → Prop} (d : decode cc pc = .ok (.invokevirtual 58, 3) ∧ pc + 3 = n) (hR : 8 + 1 ≤ R.frames ∧ 8 + (7 + 11) + 320 ≤ R.locals) (hst : (st.map fun v => v.category).sum ≤ 8) (hce : ce ≤ R.cells ∧ sl ≤ R.slots) (hM : jI l jw jty yX0_within cX0_within 7 .boolean 8 [v0, v1] N K post) (kk : ∀ r N1 K1, post r N1 K1 → JJ p l e R s m args below meth c ce sl Q A g.1 nL (jw g N1 K1 ++ wb) n L (.int r :: st)) : JJ p l e R s m args below meth c ce sl Q A g.1 nL (jw g N K ++ wb) pc L (v1 :: v0 :: .ref g.2.1 :: st) :=
  lcL C (As := [v0, v1]) (ci := 0) rfl hM (cwV 2 C.2.2.2.2.1 (lw_V q215 q212 q213 q25 q214) rfl rfl rfl (by decide +kernel) hR) (by exact rfl) d hst hce kk
theorem lc_ceiling (C : jC p s m args meth c A g.1 nL cc R_law (jty g ++ tb)) {v0 v1 : Value} {post : Int32 → (Nat → Nat → Nat) → (Nat → Nat → Int32) → Prop} (d : decode cc pc = .ok (.invokevirtual 62, 3) ∧ pc + 3 = n) (hR : 2 + 1 ≤ R.frames ∧ 8 + (4 + 11) + 80 ≤ R.locals) (hst : (st.map fun v => v.category).sum ≤ 8) (hce : ce ≤ R.cells ∧ sl ≤ R.slots) (hM : jI l jw jty yX0_ceiling cX0_ceiling 4 .int 2 [v0, v1] N K post) (kk : ∀ r N1 K1, post r N1 K1 → JJ p l e R s m args below meth c ce sl Q A g.1 nL (jw g N1 K1 ++ wb) n L (.int r :: st)) : JJ p l e R s m args below meth c ce sl Q A g.1 nL (jw g N K ++ wb) pc L (v1 :: v0 :: .ref g.2.1 :: st) :=
  lcL C (As := [v0, v1]) (ci := 0) rfl hM (cwV 2 C.2.2.2.2.1 (lw_V q216 q217 q218 q25 q219) rfl rfl rfl (by decide +kernel) hR) (by exact rfl) d hst hce kk
theorem lc_clear (C : jC p s m args meth c A g.1 nL cc R_law (jty g ++ tb)) {v0 : Value} {post : Int32 → (Nat → Nat → Nat) → (Nat → Nat → Int32) → Prop} (d : decode cc pc = .ok (.invokevirtual 66, 3) ∧ pc + 3 = n) (hR : 2 + 1 ≤ R.frames ∧ 8 + (3 + 11) + 80 ≤ R.locals) (hst : (st.map fun v => v.category).sum ≤ 8) (hce : ce ≤ R.cells ∧ sl ≤ R.slots) (hM : jI l jw jty yX0_clear cX0_clear 3 .int 2 [v0] N K post) (kk : ∀ r N1 K1, post r N1 K1 → JJ p l e R s m args below meth c ce sl Q A g.1 nL (jw g N1 K1 ++ wb) n L (.int r :: st)) : JJ p l e R s m args below meth c ce sl Q A g.1 nL (jw g N K ++ wb) pc L (v0 :: .ref g.2.1 :: st) :=
  lcL C (As := [v0]) (ci := 0) rfl hM (cwV 1 C.2.2.2.2.1 (lw_V q221 q222 q223 q25 q224) rfl rfl rfl (by decide +kernel) hR) (by exact rfl) d hst hce kk
theorem lc_madd (C : jC p s m args meth c A g.1 nL cc R_law (tb ++ mty g)) {v0 v1 : Value} {post : Int32 → (Nat → Nat → Nat) → (Nat → Nat → Int32) → Prop} (d : decode cc pc = .ok (.invokevirtual 17, 3) ∧ pc + 3 = n) (hR : 2 + 1 ≤ R.frames ∧ 8 + (3 + 11) + 80 ≤ R.locals) (hst : (st.map fun v => v.category).sum ≤ 8) (hce : ce ≤ R.cells ∧ sl ≤ R.slots) (hM : jI l mw mty yX1_add cX1_add 3 .int 2 [v0, v1] N K post) (kk : ∀ r N1 K1, post r N1 K1 → JJ p l e R s m args below meth c ce sl Q A g.1 nL (wb ++ mw g N1 K1) n L (.int r :: st)) : JJ p l e R s m args below meth c ce sl Q A g.1 nL (wb ++ mw g N K) pc L (v1 :: v0 :: .ref g.2.1 :: st) :=
  lcR C (As := [v0, v1]) (ci := 1) rfl hM (cwV 2 C.2.2.2.2.1 (lw_V q244 q245 q246 q26 q247) rfl rfl rfl (by decide +kernel) hR) (by exact rfl) d hst hce kk
theorem lc_mhas (C : jC p s m args meth c A g.1 nL cc R_law (tb ++ mty g)) {v0 v1 : Value} {post : Int32 → (Nat → Nat → Nat) → (Nat → Nat → Int32) → Prop} (d : decode cc pc = .ok (.invokevirtual 26, 3) ∧ pc + 3 = n) (hR : 1 + 1 ≤ R.frames ∧ 8 + (4 + 11) + 40 ≤ R.locals) (hst : (st.map fun v => v.category).sum ≤ 8) (hce : ce ≤ R.cells ∧ sl ≤ R.slots) (hM : jI l mw mty yX1_has cX1_has 4 .boolean 1 [v0, v1] N K post) (kk : ∀ r N1 K1, post r N1 K1 → JJ p l e R s m args below meth c ce sl Q A g.1 nL (wb ++ mw g N1 K1) n L (.int r :: st)) : JJ p l e R s m args below meth c ce sl Q A g.1 nL (wb ++ mw g N K) pc L (v1 :: v0 :: .ref g.2.1 :: st) :=
  lcR C (As := [v0, v1]) (ci := 1) rfl hM (cwV 2 C.2.2.2.2.1 (lw_V q264 q253 q254 q26 q255) rfl rfl rfl (by decide +kernel) hR) (by exact rfl) d hst hce kk
theorem lc_mremove (C : jC p s m args meth c A g.1 nL cc R_law (tb ++ mty g)) {v0 v1 : Value} {post : Int32 → (Nat → Nat → Nat) → (Nat → Nat → Int32) → Prop} (d : decode cc pc = .ok (.invokevirtual 21, 3) ∧ pc + 3 = n) (hR : 2 + 1 ≤ R.frames ∧ 8 + (3 + 11) + 80 ≤ R.locals) (hst : (st.map fun v => v.category).sum ≤ 8) (hce : ce ≤ R.cells ∧ sl ≤ R.slots) (hM : jI l mw mty yX1_remove cX1_remove 3 .int 2 [v0, v1] N K post) (kk : ∀ r N1 K1, post r N1 K1 → JJ p l e R s m args below meth c ce sl Q A g.1 nL (wb ++ mw g N1 K1) n L (.int r :: st)) : JJ p l e R s m args below meth c ce sl Q A g.1 nL (wb ++ mw g N K) pc L (v1 :: v0 :: .ref g.2.1 :: st) :=
  lcR C (As := [v0, v1]) (ci := 1) rfl hM (cwV 2 C.2.2.2.2.1 (lw_V q256 q257 q258 q26 q259) rfl rfl rfl (by decide +kernel) hR) (by exact rfl) d hst hce kk
theorem lc_mremoveRange (C : jC p s m args meth c A g.1 nL cc R_law (tb ++ mty g)) {v0 v1 v2 : Value} {post : Int32 → (Nat → Nat → Nat) → (Nat → Nat → Int32) → Prop} (d : decode cc pc = .ok (.invokevirtual 53, 3) ∧ pc + 3 = n) (hR : 1 + 1 ≤ R.frames ∧ 8 + (7 + 11) + 40 ≤ R.locals) (hst : (st.map fun v => v.category).sum ≤ 8) (hce : ce ≤ R.cells ∧ sl ≤ R.slots) (hM : jI l mw mty yX1_removeRange cX1_removeRange 7 .int 1 [v0, v1, v2] N K post) (kk : ∀ r N1 K1, post r N1 K1 → JJ p l e R s m args below meth c ce sl Q A g.1 nL (wb ++ mw g N1 K1) n L (.int r :: st)) : JJ p l e R s m args below meth c ce sl Q A g.1 nL (wb ++ mw g N K) pc L (v2 :: v1 :: v0 :: .ref g.2.1 :: st) :=
  lcR C (As := [v0, v1, v2]) (ci := 1) rfl hM (cwV 3 C.2.2.2.2.1 (lw_V q303 q261 q262 q26 q263) rfl rfl rfl (by decide +kernel) hR) (by exact rfl) d hst hce kk
theorem lc_msize (C : jC p s m args meth c A g.1 nL cc R_law (tb ++ mty g)) {v0 : Value} {post : Int32 → (Nat → Nat → Nat) → (Nat → Nat → Int32) → Prop} (d : decode cc pc = .ok (.invokevirtual 31, 3) ∧ pc + 3 = n) (hR : 1 + 1 ≤ R.frames ∧ 8 + (2 + 11) + 40 ≤ R.locals) (hst : (st.map fun v => v.category).sum ≤ 8) (hce : ce ≤ R.cells ∧ sl ≤ R.slots) (hM : jI l mw mty yX1_size cX1_size 2 .int 1 [v0] N K post) (kk : ∀ r N1 K1, post r N1 K1 → JJ p l e R s m args below meth c ce sl Q A g.1 nL (wb ++ mw g N1 K1) n L (.int r :: st)) : JJ p l e R s m args below meth c ce sl Q A g.1 nL (wb ++ mw g N K) pc L (v0 :: .ref g.2.1 :: st) :=
  lcR C (As := [v0]) (ci := 1) rfl hM (cwV 1 C.2.2.2.2.1 (lw_V q265 q266 q267 q26 q268) rfl rfl rfl (by decide +kernel) hR) (by exact rfl) d hst hce kk
theorem lc_mat (C : jC p s m args meth c A g.1 nL cc R_law (tb ++ mty g)) {v0 v1 : Value} {post : Int32 → (Nat → Nat → Nat) → (Nat → Nat → Int32) → Prop} (d : decode cc pc = .ok (.invokevirtual 35, 3) ∧ pc + 3 = n) (hR : 2 + 1 ≤ R.frames ∧ 8 + (4 + 11) + 80 ≤ R.locals) (hst : (st.map fun v => v.category).sum ≤ 8) (hce : ce ≤ R.cells ∧ sl ≤ R.slots) (hM : jI l mw mty yX1_at cX1_at 4 .int 2 [v0, v1] N K post) (kk : ∀ r N1 K1, post r N1 K1 → JJ p l e R s m args below meth c ce sl Q A g.1 nL (wb ++ mw g N1 K1) n L (.int r :: st)) : JJ p l e R s m args below meth c ce sl Q A g.1 nL (wb ++ mw g N K) pc L (v1 :: v0 :: .ref g.2.1 :: st) :=
  lcR C (As := [v0, v1]) (ci := 1) rfl hM (cwV 2 C.2.2.2.2.1 (lw_V q269 q270 q271 q26 q272) rfl rfl rfl (by decide +kernel) hR) (by exact rfl) d hst hce kk
theorem lc_mrank (C : jC p s m args meth c A g.1 nL cc R_law (tb ++ mty g)) {v0 v1 : Value} {post : Int32 → (Nat → Nat → Nat) → (Nat → Nat → Int32) → Prop} (d : decode cc pc = .ok (.invokevirtual 39, 3) ∧ pc + 3 = n) (hR : 1 + 1 ≤ R.frames ∧ 8 + (5 + 11) + 40 ≤ R.locals) (hst : (st.map fun v => v.category).sum ≤ 8) (hce : ce ≤ R.cells ∧ sl ≤ R.slots) (hM : jI l mw mty yX1_rank cX1_rank 5 .int 1 [v0, v1] N K post) (kk : ∀ r N1 K1, post r N1 K1 → JJ p l e R s m args below meth c ce sl Q A g.1 nL (wb ++ mw g N1 K1) n L (.int r :: st)) : JJ p l e R s m args below meth c ce sl Q A g.1 nL (wb ++ mw g N K) pc L (v1 :: v0 :: .ref g.2.1 :: st) :=
  lcR C (As := [v0, v1]) (ci := 1) rfl hM (cwV 2 C.2.2.2.2.1 (lw_V q277 q274 q275 q26 q276) rfl rfl rfl (by decide +kernel) hR) (by exact rfl) d hst hce kk
theorem lc_mcombine (C : jC p s m args meth c A g.1 nL cc R_law (tb ++ mty g)) {v0 v1 v2 v3 : Value} {post : Int32 → (Nat → Nat → Nat) → (Nat → Nat → Int32) → Prop} (d : decode cc pc = .ok (.invokevirtual 44, 3) ∧ pc + 3 = n) (hR : 3 + 1 ≤ R.frames ∧ 8 + (5 + 11) + 120 ≤ R.locals) (hst : (st.map fun v => v.category).sum ≤ 8) (hce : ce ≤ R.cells ∧ sl ≤ R.slots) (hM : jI l mw mty yX1_combine cX1_combine 5 .int 3 [v0, v1, v2, v3] N K post) (kk : ∀ r N1 K1, post r N1 K1 → JJ p l e R s m args below meth c ce sl Q A g.1 nL (wb ++ mw g N1 K1) n L (.int r :: st)) : JJ p l e R s m args below meth c ce sl Q A g.1 nL (wb ++ mw g N K) pc L (v3 :: v2 :: v1 :: v0 :: .ref g.2.1 :: st) :=
  lcR C (As := [v0, v1, v2, v3]) (ci := 1) rfl hM (cwV 4 C.2.2.2.2.1 (lw_V q278 q279 q280 q26 q281) rfl rfl rfl (by decide +kernel) hR) (by exact rfl) d hst hce kk
theorem lc_msplit (C : jC p s m args meth c A g.1 nL cc R_law (tb ++ mty g)) {v0 v1 v2 : Value} {post : Int32 → (Nat → Nat → Nat) → (Nat → Nat → Int32) → Prop} (d : decode cc pc = .ok (.invokevirtual 49, 3) ∧ pc + 3 = n) (hR : 2 + 1 ≤ R.frames ∧ 8 + (5 + 11) + 80 ≤ R.locals) (hst : (st.map fun v => v.category).sum ≤ 8) (hce : ce ≤ R.cells ∧ sl ≤ R.slots) (hM : jI l mw mty yX1_split cX1_split 5 .int 2 [v0, v1, v2] N K post) (kk : ∀ r N1 K1, post r N1 K1 → JJ p l e R s m args below meth c ce sl Q A g.1 nL (wb ++ mw g N1 K1) n L (.int r :: st)) : JJ p l e R s m args below meth c ce sl Q A g.1 nL (wb ++ mw g N K) pc L (v2 :: v1 :: v0 :: .ref g.2.1 :: st) :=
  lcR C (As := [v0, v1, v2]) (ci := 1) rfl hM (cwV 3 C.2.2.2.2.1 (lw_V q298 q299 q300 q26 q301) rfl rfl rfl (by decide +kernel) hR) (by exact rfl) d hst hce kk
theorem lc_msame (C : jC p s m args meth c A g.1 nL cc R_law (tb ++ mty g)) {v0 v1 : Value} {post : Int32 → (Nat → Nat → Nat) → (Nat → Nat → Int32) → Prop} (d : decode cc pc = .ok (.invokevirtual 57, 3) ∧ pc + 3 = n) (hR : 3 + 1 ≤ R.frames ∧ 8 + (3 + 11) + 120 ≤ R.locals) (hst : (st.map fun v => v.category).sum ≤ 8) (hce : ce ≤ R.cells ∧ sl ≤ R.slots) (hM : jI l mw mty yX1_same cX1_same 3 .boolean 3 [v0, v1] N K post) (kk : ∀ r N1 K1, post r N1 K1 → JJ p l e R s m args below meth c ce sl Q A g.1 nL (wb ++ mw g N1 K1) n L (.int r :: st)) : JJ p l e R s m args below meth c ce sl Q A g.1 nL (wb ++ mw g N K) pc L (v1 :: v0 :: .ref g.2.1 :: st) :=
  lcR C (As := [v0, v1]) (ci := 1) rfl hM (cwV 2 C.2.2.2.2.1 (lw_V q304 q305 q306 q26 q307) rfl rfl rfl (by decide +kernel) hR) (by exact rfl) d hst hce kk
theorem lc_mwithin (C : jC p s m args meth c A g.1 nL cc R_law (tb ++ mty g)) {v0 v1 : Value} {post : Int32 → (Nat → Nat → Nat) → (Nat → Nat → Int32) → Prop} (d : decode cc pc = .ok (.invokevirtual 61, 3) ∧ pc + 3 = n) (hR : 2 + 1 ≤ R.frames ∧ 8 + (4 + 11) + 80 ≤ R.locals) (hst : (st.map fun v => v.category).sum ≤ 8) (hce : ce ≤ R.cells ∧ sl ≤ R.slots) (hM : jI l mw mty yX1_within cX1_within 4 .boolean 2 [v0, v1] N K post) (kk : ∀ r N1 K1, post r N1 K1 → JJ p l e R s m args below meth c ce sl Q A g.1 nL (wb ++ mw g N1 K1) n L (.int r :: st)) : JJ p l e R s m args below meth c ce sl Q A g.1 nL (wb ++ mw g N K) pc L (v1 :: v0 :: .ref g.2.1 :: st) :=
  lcR C (As := [v0, v1]) (ci := 1) rfl hM (cwV 2 C.2.2.2.2.1 (lw_V q312 q309 q310 q26 q311) rfl rfl rfl (by decide +kernel) hR) (by exact rfl) d hst hce kk
theorem lc_mceiling (C : jC p s m args meth c A g.1 nL cc R_law (tb ++ mty g)) {v0 v1 : Value} {post : Int32 → (Nat → Nat → Nat) → (Nat → Nat → Int32) → Prop} (d : decode cc pc = .ok (.invokevirtual 65, 3) ∧ pc + 3 = n) (hR : 2 + 1 ≤ R.frames ∧ 8 + (4 + 11) + 80 ≤ R.locals) (hst : (st.map fun v => v.category).sum ≤ 8) (hce : ce ≤ R.cells ∧ sl ≤ R.slots) (hM : jI l mw mty yX1_ceiling cX1_ceiling 4 .int 2 [v0, v1] N K post) (kk : ∀ r N1 K1, post r N1 K1 → JJ p l e R s m args below meth c ce sl Q A g.1 nL (wb ++ mw g N1 K1) n L (.int r :: st)) : JJ p l e R s m args below meth c ce sl Q A g.1 nL (wb ++ mw g N K) pc L (v1 :: v0 :: .ref g.2.1 :: st) :=
  lcR C (As := [v0, v1]) (ci := 1) rfl hM (cwV 2 C.2.2.2.2.1 (lw_V q313 q314 q315 q26 q316) rfl rfl rfl (by decide +kernel) hR) (by exact rfl) d hst hce kk
theorem lc_mclear (C : jC p s m args meth c A g.1 nL cc R_law (tb ++ mty g)) {v0 : Value} {post : Int32 → (Nat → Nat → Nat) → (Nat → Nat → Int32) → Prop} (d : decode cc pc = .ok (.invokevirtual 69, 3) ∧ pc + 3 = n) (hR : 1 + 1 ≤ R.frames ∧ 8 + (3 + 11) + 40 ≤ R.locals) (hst : (st.map fun v => v.category).sum ≤ 8) (hce : ce ≤ R.cells ∧ sl ≤ R.slots) (hM : jI l mw mty yX1_clear cX1_clear 3 .int 1 [v0] N K post) (kk : ∀ r N1 K1, post r N1 K1 → JJ p l e R s m args below meth c ce sl Q A g.1 nL (wb ++ mw g N1 K1) n L (.int r :: st)) : JJ p l e R s m args below meth c ce sl Q A g.1 nL (wb ++ mw g N K) pc L (v0 :: .ref g.2.1 :: st) :=
  lcR C (As := [v0]) (ci := 1) rfl hM (cwV 1 C.2.2.2.2.1 (lw_V q317 q318 q319 q26 q320) rfl rfl rfl (by decide +kernel) hR) (by exact rfl) d hst hce kk
end LX
end
section
/-! THE CLAIM OUT OF ONE WALK OF THE LAW'S BODY. Your part is whole_start (and what it stands on); all else here is the same for every law, but numbers. -/
def lw_P (b : Addr) (xs : List Int32) (args : Array Value) (s : State) : Prop := args = #[.ref b] ∧ s.IntsAt b xs ∧ xs.length ≤ 320 ∧ (Jvm.Cond.and given_1 narrow_1).before args s = true
def lw_Q (_ : Array Value) (s : State) (o : Outcome) (t : State) : Prop := o = .returned (some (.int 1)) ∧ Framed s o t [] 600000 7290000
def lw_Z (below : List Frame) (a : Array Value) (s : State) : State → Prop := fun t => ∃ o, t.status = .running ∧ Ended t below o ∧ lw_Q a s o t
/-- the law's own end, with 1 on the stack, nothing written that was there before, its room as the claim has it -/
theorem lw_ret {p : Program} {l : Launch} {e : Env} {s : State} {m : MethodId} {below : List Frame} {meth : Method} {c : Code} {b : Nat} (hx : p.tables.exec = Jvm.exec) (hb : c.code = code) (hr : meth.sig.returnType = ret) (hlocks : meth.locks = false) {pc : Nat} {H : Heap} {ls : Array Slot} (hdg : decode code pc = .ok (.ireturn, 1)) : W p l e room_1 s m #[Value.ref b] below meth c H [] 600000 7290000 (lw_Z below #[Value.ref b] s) (F0 m pc ls [.int 1]) := by
  intro T hT X
  obtain ⟨fs, hret, hrun, hended, hW, hframe⟩ := X.leave (v := some (.int 1)) (hlocks := hlocks) (fun h => by rw [hr] at h; cases h)
  have hmeth' : T.vm.method? m = some meth := X.method'
  refine ⟨T.setFrames fs, ?_, .returned (some (.int 1)), hrun, hended, rfl, ⟨_, rfl⟩, hW, hframe⟩
  jvm_step X.here [X.here.top, hx, hb, hdg, hmeth', hr, ret, narrow_b1]
  (try refine ⟨rfl, ?_⟩); (try refine ⟨rfl, ?_⟩)
  first | (intro acts; rw [hret _ acts rfl rfl rfl]) | rw [hret _ _ rfl rfl rfl]
  exact Steps.refl _
/-- what holds at the law's entry: the machine, the code, the tables' words (any of lw_tbl by 'hts w (by decide +kernel)'), the script of L ints xs at the cell b, what the Statement gives of the start (any of its parts by flat_of_before) -/
def lw_At (p : Program) (s : State) (m : MethodId) (meth : Method) (c : Code) (b L : Nat) (xs : Nat → Int32) : Prop :=
  p.tables.exec = Jvm.exec ∧ c.code = code ∧ meth.sig.returnType = ret ∧ c.maxLocals = 4 ∧ s.vm.findClass R_law = some m.cls ∧ (∀ w ∈ lw_tbl, w.before #[Value.ref b] s = true) ∧ va_X b L xs s s.heap ∧ b < s.heap.size ∧ meth.locks = false ∧ (Jvm.Cond.and given_1 narrow_1).before #[Value.ref b] s = true
/-- the law's end: true -/
theorem law_end {p : Program} {l : Launch} {e : Env} {s : State} {m : MethodId} {below : List Frame} {meth : Method} {c : Code} {A : Nat → Prop} {D : va_G} {b : Nat} {tys : List (ClassId × FieldType)} {wd : va_W} {L : List (Option Value)} (hr : meth.sig.returnType = ret) (hAs : ∀ q, A q → s.heap.size ≤ q) (C : jC p s m #[Value.ref b] meth c A D 4 cL_law R_law tys) : JJ p l e room_1 s m #[Value.ref b] below meth c 18 1718 (lw_Z below #[Value.ref b] s) A D 4 wd 555 L [] := by
  refine jr_ic1 C dL_law_555 ?_
  refine jr_topr (v := 1) (by decide) ?_
  intro H locs ls hP hD hS hl
  refine va_forget (fun q hq => hAs _ (hS.2.2 q hq)) ?_
  refine W.widen (k := 600000) (n := 7290000) (by decide) (by decide) ?_
  exact lw_ret C.1 C.2.1 hr C.2.2.2.2.2.2.1 dL_law_556.1
set_option maxHeartbeats 4000000 in
/-- the law's loop at its head, i ints read -/
theorem law_loop {p : Program} {l : Launch} {e : Env} {s : State} {m : MethodId} {below : List Frame} {meth : Method} {c : Code} {A : Nat → Prop} {D : va_G} {b LL : Nat} {xs : Nat → Int32} {gx gm : Nat × (Nat → Nat) × (Nat → ClassId)} (hLL : LL ≤ 320) (hX : va_X b LL xs s s.heap) (hbl : b < s.heap.size) (hbA : ¬ A b) (hAs : ∀ q, A q → s.heap.size ≤ q) (hr : meth.sig.returnType = ret) (C : jC p s m #[Value.ref b] meth c A D 4 cL_law R_law (jty (D, gx) ++ mty (D, gm))) :
    ∀ (k i : Nat) (N : Nat → Nat → Nat) (K : Nat → Nat → Int32) (N2 : Nat → Nat → Nat) (K2 : Nat → Nat → Int32) (P : jP), LL < i + k → i ≤ 325 → JRep N K P → MInv N2 K2 P → JJ p l e room_1 s m #[Value.ref b] below meth c 18 1718 (lw_Z below #[Value.ref b] s) A D 4 (jw (D, gx) N K ++ mw (D, gm) N2 K2) 18 [some (.ref b), some (.ref gx.1), some (.ref gm.1), some (.int (nI i))] [] := by
  intro k
  induction k with
  | zero =>
    intro i N K N2 K2 P h1 h2 hR hM
    -- the script is read
    refine jr_il3 C dL_law_18 ?_
    refine jr_al0 C dL_law_19 ?_
    refine jr_slen C hX hbl hbA dL_law_20 ?_
    refine jr_ic5 C dL_law_21 ?_
    refine jr_isubR C dL_law_22 ?_
    refine jr_cmp_gt C dL_law_23 (fun hc => ?_) (fun hc => ?_)
    · exact law_end hr hAs C
    · exfalso
      apply hc
      rw [Int32.lt_iff_toInt_lt, pk_sub_toInt (by omega) (by omega), nI_toInt (by omega)]
      omega
  | succ k ih =>
    intro i N K N2 K2 P h1 h2 hR hM
    refine jr_il3 C dL_law_18 ?_
    refine jr_al0 C dL_law_19 ?_
    refine jr_slen C hX hbl hbA dL_law_20 ?_
    refine jr_ic5 C dL_law_21 ?_
    refine jr_isubR C dL_law_22 ?_
    refine jr_cmp_gt C dL_law_23 (fun hc => ?_) (fun hc => ?_)
    · exact law_end hr hAs C
    have hi5 : i + 5 ≤ LL := by
      rw [Int32.lt_iff_toInt_lt, pk_sub_toInt (by omega) (by omega), nI_toInt (by omega)] at hc
      omega
    have next : ∀ (N : Nat → Nat → Nat) (K : Nat → Nat → Int32) (N2 : Nat → Nat → Nat) (K2 : Nat → Nat → Int32) (P : jP), JRep N K P → MInv N2 K2 P → JJ p l e room_1 s m #[Value.ref b] below meth c 18 1718 (lw_Z below #[Value.ref b] s) A D 4 (jw (D, gx) N K ++ mw (D, gm) N2 K2) 549 [some (.ref b), some (.ref gx.1), some (.ref gm.1), some (.int (nI i))] [] := by
      intro N K N2 K2 P hR hM
      refine jr_inc3_5 C dL_law_549 ?_
      refine jr_goto C dL_law_552 ?_
      exact ih (i + 5) N K N2 K2 P (by omega) (by omega) hR hM
    refine jr_al0 C dL_law_26 ?_
    refine jr_il3 C dL_law_27 ?_
    refine jr_sld C hX hbl hbA dL_law_28 (by omega) (by omega) ?_
    refine jr_bipush (v := nI 15) C dL_law_29 (by decide) ?_
    refine jr_iandR C dL_law_31 ?_
    obtain ⟨j, hj, ej⟩ := pk_andE (xs i) (m := nI 15) 4 (by decide)
    refine jr_topr ej ?_
    rcases (show j = 0 ∨ j = 1 ∨ j = 2 ∨ j = 3 ∨ j = 4 ∨ j = 5 ∨ j = 6 ∨ j = 7 ∨ j = 8 ∨ j = 9 ∨ j = 10 ∨ j = 11 ∨ j = 12 ∨ 12 < j by omega) with rfl | rfl | rfl | rfl | rfl | rfl | rfl | rfl | rfl | rfl | rfl | rfl | rfl | hj12
    · refine jr_tin (tgt := 100) C dL_law_32 (by decide) (by decide) rfl (by decide) ?_
      refine jr_al1 C dL_law_100 ?_
      refine jr_al0 C dL_law_101 ?_
      refine jr_il3 C dL_law_102 ?_
      refine jr_ic1 C dL_law_103 ?_
      refine jr_iadd C dL_law_104 ?_
      refine jr_sld C hX hbl hbA dL_law_105 (by omega) (by omega) ?_
      refine jr_al0 C dL_law_106 ?_
      refine jr_il3 C dL_law_107 ?_
      refine jr_ic2 C dL_law_108 ?_
      refine jr_iadd C dL_law_109 ?_
      refine jr_sld C hX hbl hbA dL_law_110 (by omega) (by omega) ?_
      refine lc_add (g := (D, gx)) C dL_law_111 ⟨by decide, by decide⟩ (Nat.le_of_ble_eq_true rfl) ⟨by decide, by decide⟩ (c_add l N K hR _ _) (fun r1 N1 K1 h1 => ?_)
      refine jr_al2 C dL_law_114 ?_
      refine jr_al0 C dL_law_115 ?_
      refine jr_il3 C dL_law_116 ?_
      refine jr_ic1 C dL_law_117 ?_
      refine jr_iadd C dL_law_118 ?_
      refine jr_sld C hX hbl hbA dL_law_119 (by omega) (by omega) ?_
      refine jr_al0 C dL_law_120 ?_
      refine jr_il3 C dL_law_121 ?_
      refine jr_ic2 C dL_law_122 ?_
      refine jr_iadd C dL_law_123 ?_
      refine jr_sld C hX hbl hbA dL_law_124 (by omega) (by omega) ?_
      refine lc_madd (g := (D, gm)) C dL_law_125 ⟨by decide, by decide⟩ (Nat.le_of_ble_eq_true rfl) ⟨by decide, by decide⟩ (mm_add l N2 K2 hM _ _) (fun r2 N3 K3 h2 => ?_)
      obtain ⟨P1, a1, hR1⟩ := h1
      obtain ⟨P2, a2, hM1⟩ := h2
      obtain ⟨rfl, rfl⟩ := D_add a1 a2
      refine jr_cmp_eq C dL_law_128 (fun _ => ?_) (fun h => absurd rfl h)
      exact next _ _ _ _ _ hR1 hM1
    · refine jr_tin (tgt := 133) C dL_law_32 (by decide) (by decide) rfl (by decide) ?_
      refine jr_al1 C dL_law_133 ?_
      refine jr_al0 C dL_law_134 ?_
      refine jr_il3 C dL_law_135 ?_
      refine jr_ic1 C dL_law_136 ?_
      refine jr_iadd C dL_law_137 ?_
      refine jr_sld C hX hbl hbA dL_law_138 (by omega) (by omega) ?_
      refine jr_al0 C dL_law_139 ?_
      refine jr_il3 C dL_law_140 ?_
      refine jr_ic2 C dL_law_141 ?_
      refine jr_iadd C dL_law_142 ?_
      refine jr_sld C hX hbl hbA dL_law_143 (by omega) (by omega) ?_
      refine lc_remove (g := (D, gx)) C dL_law_144 ⟨by decide, by decide⟩ (Nat.le_of_ble_eq_true rfl) ⟨by decide, by decide⟩ (c_remove l N K hR _ _) (fun r1 N1 K1 h1 => ?_)
      refine jr_al2 C dL_law_147 ?_
      refine jr_al0 C dL_law_148 ?_
      refine jr_il3 C dL_law_149 ?_
      refine jr_ic1 C dL_law_150 ?_
      refine jr_iadd C dL_law_151 ?_
      refine jr_sld C hX hbl hbA dL_law_152 (by omega) (by omega) ?_
      refine jr_al0 C dL_law_153 ?_
      refine jr_il3 C dL_law_154 ?_
      refine jr_ic2 C dL_law_155 ?_
      refine jr_iadd C dL_law_156 ?_
      refine jr_sld C hX hbl hbA dL_law_157 (by omega) (by omega) ?_
      refine lc_mremove (g := (D, gm)) C dL_law_158 ⟨by decide, by decide⟩ (Nat.le_of_ble_eq_true rfl) ⟨by decide, by decide⟩ (mm_remove l N2 K2 hM _ _) (fun r2 N3 K3 h2 => ?_)
      obtain ⟨P1, a1, hR1⟩ := h1
      obtain ⟨P2, a2, hM1⟩ := h2
      obtain ⟨rfl, rfl⟩ := D_rr a1 a2
      refine jr_cmp_eq C dL_law_161 (fun _ => ?_) (fun h => absurd rfl h)
      exact next _ _ _ _ _ hR1 hM1
    · refine jr_tin (tgt := 166) C dL_law_32 (by decide) (by decide) rfl (by decide) ?_
      refine jr_al1 C dL_law_166 ?_
      refine jr_al0 C dL_law_167 ?_
      refine jr_il3 C dL_law_168 ?_
      refine jr_ic1 C dL_law_169 ?_
      refine jr_iadd C dL_law_170 ?_
      refine jr_sld C hX hbl hbA dL_law_171 (by omega) (by omega) ?_
      refine jr_al0 C dL_law_172 ?_
      refine jr_il3 C dL_law_173 ?_
      refine jr_ic2 C dL_law_174 ?_
      refine jr_iadd C dL_law_175 ?_
      refine jr_sld C hX hbl hbA dL_law_176 (by omega) (by omega) ?_
      refine lc_has (g := (D, gx)) C dL_law_177 ⟨by decide, by decide⟩ (Nat.le_of_ble_eq_true rfl) ⟨by decide, by decide⟩ (c_has l N K hR _ _) (fun r1 N1 K1 h1 => ?_)
      refine jr_al2 C dL_law_180 ?_
      refine jr_al0 C dL_law_181 ?_
      refine jr_il3 C dL_law_182 ?_
      refine jr_ic1 C dL_law_183 ?_
      refine jr_iadd C dL_law_184 ?_
      refine jr_sld C hX hbl hbA dL_law_185 (by omega) (by omega) ?_
      refine jr_al0 C dL_law_186 ?_
      refine jr_il3 C dL_law_187 ?_
      refine jr_ic2 C dL_law_188 ?_
      refine jr_iadd C dL_law_189 ?_
      refine jr_sld C hX hbl hbA dL_law_190 (by omega) (by omega) ?_
      refine lc_mhas (g := (D, gm)) C dL_law_191 ⟨by decide, by decide⟩ (Nat.le_of_ble_eq_true rfl) ⟨by decide, by decide⟩ (mm_has l N2 K2 hM _ _) (fun r2 N3 K3 h2 => ?_)
      obtain ⟨a1, hR1⟩ := h1
      obtain ⟨a2, rfl, rfl⟩ := h2
      have hM1 := hM
      have er := D_has a1 a2
      subst er
      refine jr_cmp_eq C dL_law_194 (fun _ => ?_) (fun h => absurd rfl h)
      exact next _ _ _ _ _ hR1 hM1
    · refine jr_tin (tgt := 199) C dL_law_32 (by decide) (by decide) rfl (by decide) ?_
      refine jr_al1 C dL_law_199 ?_
      refine jr_al0 C dL_law_200 ?_
      refine jr_il3 C dL_law_201 ?_
      refine jr_ic1 C dL_law_202 ?_
      refine jr_iadd C dL_law_203 ?_
      refine jr_sld C hX hbl hbA dL_law_204 (by omega) (by omega) ?_
      refine lc_size (g := (D, gx)) C dL_law_205 ⟨by decide, by decide⟩ (Nat.le_of_ble_eq_true rfl) ⟨by decide, by decide⟩ (c_size l N K hR _) (fun r1 N1 K1 h1 => ?_)
      refine jr_al2 C dL_law_208 ?_
      refine jr_al0 C dL_law_209 ?_
      refine jr_il3 C dL_law_210 ?_
      refine jr_ic1 C dL_law_211 ?_
      refine jr_iadd C dL_law_212 ?_
      refine jr_sld C hX hbl hbA dL_law_213 (by omega) (by omega) ?_
      refine lc_msize (g := (D, gm)) C dL_law_214 ⟨by decide, by decide⟩ (Nat.le_of_ble_eq_true rfl) ⟨by decide, by decide⟩ (mm_size l N2 K2 hM _) (fun r2 N3 K3 h2 => ?_)
      obtain ⟨a1, hR1⟩ := h1
      obtain ⟨a2, hM1⟩ := h2
      have er := D_size a1 a2
      subst er
      refine jr_cmp_eq C dL_law_217 (fun _ => ?_) (fun h => absurd rfl h)
      exact next _ _ _ _ _ hR1 hM1
    · refine jr_tin (tgt := 222) C dL_law_32 (by decide) (by decide) rfl (by decide) ?_
      refine jr_al1 C dL_law_222 ?_
      refine jr_al0 C dL_law_223 ?_
      refine jr_il3 C dL_law_224 ?_
      refine jr_ic1 C dL_law_225 ?_
      refine jr_iadd C dL_law_226 ?_
      refine jr_sld C hX hbl hbA dL_law_227 (by omega) (by omega) ?_
      refine jr_al0 C dL_law_228 ?_
      refine jr_il3 C dL_law_229 ?_
      refine jr_ic2 C dL_law_230 ?_
      refine jr_iadd C dL_law_231 ?_
      refine jr_sld C hX hbl hbA dL_law_232 (by omega) (by omega) ?_
      refine lc_at (g := (D, gx)) C dL_law_233 ⟨by decide, by decide⟩ (Nat.le_of_ble_eq_true rfl) ⟨by decide, by decide⟩ (c_at l N K hR _ _) (fun r1 N1 K1 h1 => ?_)
      refine jr_al2 C dL_law_236 ?_
      refine jr_al0 C dL_law_237 ?_
      refine jr_il3 C dL_law_238 ?_
      refine jr_ic1 C dL_law_239 ?_
      refine jr_iadd C dL_law_240 ?_
      refine jr_sld C hX hbl hbA dL_law_241 (by omega) (by omega) ?_
      refine jr_al0 C dL_law_242 ?_
      refine jr_il3 C dL_law_243 ?_
      refine jr_ic2 C dL_law_244 ?_
      refine jr_iadd C dL_law_245 ?_
      refine jr_sld C hX hbl hbA dL_law_246 (by omega) (by omega) ?_
      refine lc_mat (g := (D, gm)) C dL_law_247 ⟨by decide, by decide⟩ (Nat.le_of_ble_eq_true rfl) ⟨by decide, by decide⟩ (mm_at l N2 K2 hM _ _) (fun r2 N3 K3 h2 => ?_)
      obtain ⟨a1, hR1⟩ := h1
      obtain ⟨a2, hM1⟩ := h2
      have er := D_at hM a1 a2
      subst er
      refine jr_cmp_eq C dL_law_250 (fun _ => ?_) (fun h => absurd rfl h)
      exact next _ _ _ _ _ hR1 hM1
    · refine jr_tin (tgt := 255) C dL_law_32 (by decide) (by decide) rfl (by decide) ?_
      refine jr_al1 C dL_law_255 ?_
      refine jr_al0 C dL_law_256 ?_
      refine jr_il3 C dL_law_257 ?_
      refine jr_ic1 C dL_law_258 ?_
      refine jr_iadd C dL_law_259 ?_
      refine jr_sld C hX hbl hbA dL_law_260 (by omega) (by omega) ?_
      refine jr_al0 C dL_law_261 ?_
      refine jr_il3 C dL_law_262 ?_
      refine jr_ic2 C dL_law_263 ?_
      refine jr_iadd C dL_law_264 ?_
      refine jr_sld C hX hbl hbA dL_law_265 (by omega) (by omega) ?_
      refine lc_rank (g := (D, gx)) C dL_law_266 ⟨by decide, by decide⟩ (Nat.le_of_ble_eq_true rfl) ⟨by decide, by decide⟩ (c_rank l N K hR _ _) (fun r1 N1 K1 h1 => ?_)
      refine jr_al2 C dL_law_269 ?_
      refine jr_al0 C dL_law_270 ?_
      refine jr_il3 C dL_law_271 ?_
      refine jr_ic1 C dL_law_272 ?_
      refine jr_iadd C dL_law_273 ?_
      refine jr_sld C hX hbl hbA dL_law_274 (by omega) (by omega) ?_
      refine jr_al0 C dL_law_275 ?_
      refine jr_il3 C dL_law_276 ?_
      refine jr_ic2 C dL_law_277 ?_
      refine jr_iadd C dL_law_278 ?_
      refine jr_sld C hX hbl hbA dL_law_279 (by omega) (by omega) ?_
      refine lc_mrank (g := (D, gm)) C dL_law_280 ⟨by decide, by decide⟩ (Nat.le_of_ble_eq_true rfl) ⟨by decide, by decide⟩ (mm_rank l N2 K2 hM _ _) (fun r2 N3 K3 h2 => ?_)
      obtain ⟨a1, hR1⟩ := h1
      obtain ⟨a2, rfl, rfl⟩ := h2
      have hM1 := hM
      have er := D_rank a1 a2
      subst er
      refine jr_cmp_eq C dL_law_283 (fun _ => ?_) (fun h => absurd rfl h)
      exact next _ _ _ _ _ hR1 hM1
    · refine jr_tin (tgt := 288) C dL_law_32 (by decide) (by decide) rfl (by decide) ?_
      refine jr_al1 C dL_law_288 ?_
      refine jr_al0 C dL_law_289 ?_
      refine jr_il3 C dL_law_290 ?_
      refine jr_ic1 C dL_law_291 ?_
      refine jr_iadd C dL_law_292 ?_
      refine jr_sld C hX hbl hbA dL_law_293 (by omega) (by omega) ?_
      refine jr_al0 C dL_law_294 ?_
      refine jr_il3 C dL_law_295 ?_
      refine jr_ic2 C dL_law_296 ?_
      refine jr_iadd C dL_law_297 ?_
      refine jr_sld C hX hbl hbA dL_law_298 (by omega) (by omega) ?_
      refine jr_al0 C dL_law_299 ?_
      refine jr_il3 C dL_law_300 ?_
      refine jr_ic3 C dL_law_301 ?_
      refine jr_iadd C dL_law_302 ?_
      refine jr_sld C hX hbl hbA dL_law_303 (by omega) (by omega) ?_
      refine jr_al0 C dL_law_304 ?_
      refine jr_il3 C dL_law_305 ?_
      refine jr_ic4 C dL_law_306 ?_
      refine jr_iadd C dL_law_307 ?_
      refine jr_sld C hX hbl hbA dL_law_308 (by omega) (by omega) ?_
      refine lc_combine (g := (D, gx)) C dL_law_309 ⟨by decide, by decide⟩ (Nat.le_of_ble_eq_true rfl) ⟨by decide, by decide⟩ (c_combine l N K hR _ _ _ _) (fun r1 N1 K1 h1 => ?_)
      refine jr_al2 C dL_law_312 ?_
      refine jr_al0 C dL_law_313 ?_
      refine jr_il3 C dL_law_314 ?_
      refine jr_ic1 C dL_law_315 ?_
      refine jr_iadd C dL_law_316 ?_
      refine jr_sld C hX hbl hbA dL_law_317 (by omega) (by omega) ?_
      refine jr_al0 C dL_law_318 ?_
      refine jr_il3 C dL_law_319 ?_
      refine jr_ic2 C dL_law_320 ?_
      refine jr_iadd C dL_law_321 ?_
      refine jr_sld C hX hbl hbA dL_law_322 (by omega) (by omega) ?_
      refine jr_al0 C dL_law_323 ?_
      refine jr_il3 C dL_law_324 ?_
      refine jr_ic3 C dL_law_325 ?_
      refine jr_iadd C dL_law_326 ?_
      refine jr_sld C hX hbl hbA dL_law_327 (by omega) (by omega) ?_
      refine jr_al0 C dL_law_328 ?_
      refine jr_il3 C dL_law_329 ?_
      refine jr_ic4 C dL_law_330 ?_
      refine jr_iadd C dL_law_331 ?_
      refine jr_sld C hX hbl hbA dL_law_332 (by omega) (by omega) ?_
      refine lc_mcombine (g := (D, gm)) C dL_law_333 ⟨by decide, by decide⟩ (Nat.le_of_ble_eq_true rfl) ⟨by decide, by decide⟩ (mm_combine l N2 K2 hM _ _ _ _) (fun r2 N3 K3 h2 => ?_)
      obtain ⟨P1, a1, hR1⟩ := h1
      obtain ⟨P2, a2, hM1⟩ := h2
      obtain ⟨rfl, rfl⟩ := D_comb a1 a2
      refine jr_cmp_eq C dL_law_336 (fun _ => ?_) (fun h => absurd rfl h)
      exact next _ _ _ _ _ hR1 hM1
    · refine jr_tin (tgt := 341) C dL_law_32 (by decide) (by decide) rfl (by decide) ?_
      refine jr_al1 C dL_law_341 ?_
      refine jr_al0 C dL_law_342 ?_
      refine jr_il3 C dL_law_343 ?_
      refine jr_ic1 C dL_law_344 ?_
      refine jr_iadd C dL_law_345 ?_
      refine jr_sld C hX hbl hbA dL_law_346 (by omega) (by omega) ?_
      refine jr_al0 C dL_law_347 ?_
      refine jr_il3 C dL_law_348 ?_
      refine jr_ic2 C dL_law_349 ?_
      refine jr_iadd C dL_law_350 ?_
      refine jr_sld C hX hbl hbA dL_law_351 (by omega) (by omega) ?_
      refine jr_al0 C dL_law_352 ?_
      refine jr_il3 C dL_law_353 ?_
      refine jr_ic3 C dL_law_354 ?_
      refine jr_iadd C dL_law_355 ?_
      refine jr_sld C hX hbl hbA dL_law_356 (by omega) (by omega) ?_
      refine lc_split (g := (D, gx)) C dL_law_357 ⟨by decide, by decide⟩ (Nat.le_of_ble_eq_true rfl) ⟨by decide, by decide⟩ (c_split l N K hR _ _ _) (fun r1 N1 K1 h1 => ?_)
      refine jr_al2 C dL_law_360 ?_
      refine jr_al0 C dL_law_361 ?_
      refine jr_il3 C dL_law_362 ?_
      refine jr_ic1 C dL_law_363 ?_
      refine jr_iadd C dL_law_364 ?_
      refine jr_sld C hX hbl hbA dL_law_365 (by omega) (by omega) ?_
      refine jr_al0 C dL_law_366 ?_
      refine jr_il3 C dL_law_367 ?_
      refine jr_ic2 C dL_law_368 ?_
      refine jr_iadd C dL_law_369 ?_
      refine jr_sld C hX hbl hbA dL_law_370 (by omega) (by omega) ?_
      refine jr_al0 C dL_law_371 ?_
      refine jr_il3 C dL_law_372 ?_
      refine jr_ic3 C dL_law_373 ?_
      refine jr_iadd C dL_law_374 ?_
      refine jr_sld C hX hbl hbA dL_law_375 (by omega) (by omega) ?_
      refine lc_msplit (g := (D, gm)) C dL_law_376 ⟨by decide, by decide⟩ (Nat.le_of_ble_eq_true rfl) ⟨by decide, by decide⟩ (mm_split l N2 K2 hM _ _ _) (fun r2 N3 K3 h2 => ?_)
      obtain ⟨P1, a1, hR1⟩ := h1
      obtain ⟨P2, a2, hM1⟩ := h2
      obtain ⟨rfl, rfl⟩ := D_split a1 a2
      refine jr_cmp_eq C dL_law_379 (fun _ => ?_) (fun h => absurd rfl h)
      exact next _ _ _ _ _ hR1 hM1
    · refine jr_tin (tgt := 384) C dL_law_32 (by decide) (by decide) rfl (by decide) ?_
      refine jr_al1 C dL_law_384 ?_
      refine jr_al0 C dL_law_385 ?_
      refine jr_il3 C dL_law_386 ?_
      refine jr_ic1 C dL_law_387 ?_
      refine jr_iadd C dL_law_388 ?_
      refine jr_sld C hX hbl hbA dL_law_389 (by omega) (by omega) ?_
      refine jr_al0 C dL_law_390 ?_
      refine jr_il3 C dL_law_391 ?_
      refine jr_ic2 C dL_law_392 ?_
      refine jr_iadd C dL_law_393 ?_
      refine jr_sld C hX hbl hbA dL_law_394 (by omega) (by omega) ?_
      refine jr_al0 C dL_law_395 ?_
      refine jr_il3 C dL_law_396 ?_
      refine jr_ic3 C dL_law_397 ?_
      refine jr_iadd C dL_law_398 ?_
      refine jr_sld C hX hbl hbA dL_law_399 (by omega) (by omega) ?_
      refine lc_removeRange (g := (D, gx)) C dL_law_400 ⟨by decide, by decide⟩ (Nat.le_of_ble_eq_true rfl) ⟨by decide, by decide⟩ (c_removeRange l N K hR _ _ _) (fun r1 N1 K1 h1 => ?_)
      refine jr_al2 C dL_law_403 ?_
      refine jr_al0 C dL_law_404 ?_
      refine jr_il3 C dL_law_405 ?_
      refine jr_ic1 C dL_law_406 ?_
      refine jr_iadd C dL_law_407 ?_
      refine jr_sld C hX hbl hbA dL_law_408 (by omega) (by omega) ?_
      refine jr_al0 C dL_law_409 ?_
      refine jr_il3 C dL_law_410 ?_
      refine jr_ic2 C dL_law_411 ?_
      refine jr_iadd C dL_law_412 ?_
      refine jr_sld C hX hbl hbA dL_law_413 (by omega) (by omega) ?_
      refine jr_al0 C dL_law_414 ?_
      refine jr_il3 C dL_law_415 ?_
      refine jr_ic3 C dL_law_416 ?_
      refine jr_iadd C dL_law_417 ?_
      refine jr_sld C hX hbl hbA dL_law_418 (by omega) (by omega) ?_
      refine lc_mremoveRange (g := (D, gm)) C dL_law_419 ⟨by decide, by decide⟩ (Nat.le_of_ble_eq_true rfl) ⟨by decide, by decide⟩ (mm_removeRange l N2 K2 hM _ _ _) (fun r2 N3 K3 h2 => ?_)
      obtain ⟨P1, a1, hR1⟩ := h1
      obtain ⟨P2, a2, hM1, -⟩ := h2
      obtain ⟨rfl, rfl⟩ := D_rr a1 a2
      refine jr_cmp_eq C dL_law_422 (fun _ => ?_) (fun h => absurd rfl h)
      exact next _ _ _ _ _ hR1 hM1
    · refine jr_tin (tgt := 427) C dL_law_32 (by decide) (by decide) rfl (by decide) ?_
      refine jr_al1 C dL_law_427 ?_
      refine jr_al0 C dL_law_428 ?_
      refine jr_il3 C dL_law_429 ?_
      refine jr_ic1 C dL_law_430 ?_
      refine jr_iadd C dL_law_431 ?_
      refine jr_sld C hX hbl hbA dL_law_432 (by omega) (by omega) ?_
      refine jr_al0 C dL_law_433 ?_
      refine jr_il3 C dL_law_434 ?_
      refine jr_ic2 C dL_law_435 ?_
      refine jr_iadd C dL_law_436 ?_
      refine jr_sld C hX hbl hbA dL_law_437 (by omega) (by omega) ?_
      refine lc_same (g := (D, gx)) C dL_law_438 ⟨by decide, by decide⟩ (Nat.le_of_ble_eq_true rfl) ⟨by decide, by decide⟩ (c_same l N K hR _ _) (fun r1 N1 K1 h1 => ?_)
      refine jr_al2 C dL_law_441 ?_
      refine jr_al0 C dL_law_442 ?_
      refine jr_il3 C dL_law_443 ?_
      refine jr_ic1 C dL_law_444 ?_
      refine jr_iadd C dL_law_445 ?_
      refine jr_sld C hX hbl hbA dL_law_446 (by omega) (by omega) ?_
      refine jr_al0 C dL_law_447 ?_
      refine jr_il3 C dL_law_448 ?_
      refine jr_ic2 C dL_law_449 ?_
      refine jr_iadd C dL_law_450 ?_
      refine jr_sld C hX hbl hbA dL_law_451 (by omega) (by omega) ?_
      refine lc_msame (g := (D, gm)) C dL_law_452 ⟨by decide, by decide⟩ (Nat.le_of_ble_eq_true rfl) ⟨by decide, by decide⟩ (mm_same l N2 K2 hM _ _) (fun r2 N3 K3 h2 => ?_)
      obtain ⟨a1, hR1⟩ := h1
      obtain ⟨a2, hM1⟩ := h2
      have er := D_same a1 a2
      subst er
      refine jr_cmp_eq C dL_law_455 (fun _ => ?_) (fun h => absurd rfl h)
      exact next _ _ _ _ _ hR1 hM1
    · refine jr_tin (tgt := 460) C dL_law_32 (by decide) (by decide) rfl (by decide) ?_
      refine jr_al1 C dL_law_460 ?_
      refine jr_al0 C dL_law_461 ?_
      refine jr_il3 C dL_law_462 ?_
      refine jr_ic1 C dL_law_463 ?_
      refine jr_iadd C dL_law_464 ?_
      refine jr_sld C hX hbl hbA dL_law_465 (by omega) (by omega) ?_
      refine jr_al0 C dL_law_466 ?_
      refine jr_il3 C dL_law_467 ?_
      refine jr_ic2 C dL_law_468 ?_
      refine jr_iadd C dL_law_469 ?_
      refine jr_sld C hX hbl hbA dL_law_470 (by omega) (by omega) ?_
      refine lc_within (g := (D, gx)) C dL_law_471 ⟨by decide, by decide⟩ (Nat.le_of_ble_eq_true rfl) ⟨by decide, by decide⟩ (c_within l N K hR _ _) (fun r1 N1 K1 h1 => ?_)
      refine jr_al2 C dL_law_474 ?_
      refine jr_al0 C dL_law_475 ?_
      refine jr_il3 C dL_law_476 ?_
      refine jr_ic1 C dL_law_477 ?_
      refine jr_iadd C dL_law_478 ?_
      refine jr_sld C hX hbl hbA dL_law_479 (by omega) (by omega) ?_
      refine jr_al0 C dL_law_480 ?_
      refine jr_il3 C dL_law_481 ?_
      refine jr_ic2 C dL_law_482 ?_
      refine jr_iadd C dL_law_483 ?_
      refine jr_sld C hX hbl hbA dL_law_484 (by omega) (by omega) ?_
      refine lc_mwithin (g := (D, gm)) C dL_law_485 ⟨by decide, by decide⟩ (Nat.le_of_ble_eq_true rfl) ⟨by decide, by decide⟩ (mm_within l N2 K2 hM _ _) (fun r2 N3 K3 h2 => ?_)
      obtain ⟨a1, hR1⟩ := h1
      obtain ⟨a2, hM1⟩ := h2
      have er := D_wi a1 a2
      subst er
      refine jr_cmp_eq C dL_law_488 (fun _ => ?_) (fun h => absurd rfl h)
      exact next _ _ _ _ _ hR1 hM1
    · refine jr_tin (tgt := 493) C dL_law_32 (by decide) (by decide) rfl (by decide) ?_
      refine jr_al1 C dL_law_493 ?_
      refine jr_al0 C dL_law_494 ?_
      refine jr_il3 C dL_law_495 ?_
      refine jr_ic1 C dL_law_496 ?_
      refine jr_iadd C dL_law_497 ?_
      refine jr_sld C hX hbl hbA dL_law_498 (by omega) (by omega) ?_
      refine jr_al0 C dL_law_499 ?_
      refine jr_il3 C dL_law_500 ?_
      refine jr_ic2 C dL_law_501 ?_
      refine jr_iadd C dL_law_502 ?_
      refine jr_sld C hX hbl hbA dL_law_503 (by omega) (by omega) ?_
      refine lc_ceiling (g := (D, gx)) C dL_law_504 ⟨by decide, by decide⟩ (Nat.le_of_ble_eq_true rfl) ⟨by decide, by decide⟩ (c_ceiling l N K hR _ _) (fun r1 N1 K1 h1 => ?_)
      refine jr_al2 C dL_law_507 ?_
      refine jr_al0 C dL_law_508 ?_
      refine jr_il3 C dL_law_509 ?_
      refine jr_ic1 C dL_law_510 ?_
      refine jr_iadd C dL_law_511 ?_
      refine jr_sld C hX hbl hbA dL_law_512 (by omega) (by omega) ?_
      refine jr_al0 C dL_law_513 ?_
      refine jr_il3 C dL_law_514 ?_
      refine jr_ic2 C dL_law_515 ?_
      refine jr_iadd C dL_law_516 ?_
      refine jr_sld C hX hbl hbA dL_law_517 (by omega) (by omega) ?_
      refine lc_mceiling (g := (D, gm)) C dL_law_518 ⟨by decide, by decide⟩ (Nat.le_of_ble_eq_true rfl) ⟨by decide, by decide⟩ (mm_ceiling l N2 K2 hM _ _) (fun r2 N3 K3 h2 => ?_)
      obtain ⟨a1, hR1⟩ := h1
      obtain ⟨a2, hM1⟩ := h2
      have er := D_ceil a1 a2
      subst er
      refine jr_cmp_eq C dL_law_521 (fun _ => ?_) (fun h => absurd rfl h)
      exact next _ _ _ _ _ hR1 hM1
    · refine jr_tin (tgt := 526) C dL_law_32 (by decide) (by decide) rfl (by decide) ?_
      refine jr_al1 C dL_law_526 ?_
      refine jr_al0 C dL_law_527 ?_
      refine jr_il3 C dL_law_528 ?_
      refine jr_ic1 C dL_law_529 ?_
      refine jr_iadd C dL_law_530 ?_
      refine jr_sld C hX hbl hbA dL_law_531 (by omega) (by omega) ?_
      refine lc_clear (g := (D, gx)) C dL_law_532 ⟨by decide, by decide⟩ (Nat.le_of_ble_eq_true rfl) ⟨by decide, by decide⟩ (c_clear l N K hR _) (fun r1 N1 K1 h1 => ?_)
      refine jr_al2 C dL_law_535 ?_
      refine jr_al0 C dL_law_536 ?_
      refine jr_il3 C dL_law_537 ?_
      refine jr_ic1 C dL_law_538 ?_
      refine jr_iadd C dL_law_539 ?_
      refine jr_sld C hX hbl hbA dL_law_540 (by omega) (by omega) ?_
      refine lc_mclear (g := (D, gm)) C dL_law_541 ⟨by decide, by decide⟩ (Nat.le_of_ble_eq_true rfl) ⟨by decide, by decide⟩ (mm_clear l N2 K2 hM _) (fun r2 N3 K3 h2 => ?_)
      obtain ⟨P1, a1, hR1⟩ := h1
      obtain ⟨P2, a2, hM1⟩ := h2
      obtain ⟨rfl, rfl⟩ := D_clear a1 a2
      refine jr_cmp_eq C dL_law_544 (fun _ => ?_) (fun h => absurd rfl h)
      exact next _ _ _ _ _ hR1 hM1
    · refine jr_tout (tgt := 549) C dL_law_32 ?_ (by decide) ?_
      · right
        rw [nI_toInt (by omega)]
        omega
      · exact next N K N2 K2 P hR hM
set_option maxRecDepth 100000 in
set_option maxHeartbeats 4000000 in
theorem whole_start {p : Program} {e : Env} {s : State} {m : MethodId} {below : List Frame} {meth : Method} {c : Code} (l : Launch) {b L : Nat} {xs : Nat → Int32} (hL : L ≤ 320) (C0 : lw_At p s m meth c b L xs) : W p l e room_1 s m #[Value.ref b] below meth c s.heap [] 0 0 (lw_Z below #[Value.ref b] s) (entryFrame m ([Value.ref b] : List Value).toArray 4) := by
  obtain ⟨hx, hb, hr, hml, hown, hts0, hX, hbl, hlk, hgv⟩ := C0
  have hts : ∀ w ∈ lw_all, w.before #[Value.ref b] s = true := fun w h => hts0 w (lw_all_tbl h)
  obtain ⟨D, hK⟩ := law_K hts0
  obtain ⟨A, eA⟩ : ∃ A : Nat → Prop, A = fun q => s.heap.size ≤ q := ⟨_, rfl⟩
  have hA : ∀ q : Nat, s.heap.size ≤ q → A q := fun q h => by rw [eA]; exact h
  have hAs : ∀ q, A q → s.heap.size ≤ q := fun q h => by rw [eA] at h; exact h
  have hbA : ¬ A b := fun h => by have := hAs b h; omega
  have hl := jl_entry [Value.ref b] (n := 4) (k := 3) (by simp [Value.category]) rfl
  rw [lg_entry_eq]
  have C : jC p s m #[Value.ref b] meth c A D 4 cL_law R_law [] := ⟨hx, hb, hml, hown, hts, hK, hlk, hA⟩
  have hP : va_P D jcl [] s.heap := fun k q h => by simp at h
  have hD : va_D A [] := ⟨fun i j x y h => by simp at h, fun k q h => by simp at h⟩
  suffices J0 : JJ p l e room_1 s m #[Value.ref b] below meth c 0 0 (lw_Z below #[Value.ref b] s) A D 4 [] 0 ([Value.ref b].map some ++ List.replicate 3 none) [] from J0 s.heap [] _ hP hD va_S.rf hl
  refine jr_lo (L2 := [some (.ref b), none, none, none]) rfl ?_
  -- new JoinTrees()
  intro H locs ls hP hD hS hl
  refine va_new (ci := 0) (fs := df0) (C := RX0) (T := TX0) (N := 18) hx hb hts in_X0 tyX0 tyX0_ok hown (hts _ q27) (hts _ q28) (hts _ q25) hK hP hD hS hA rfl (fun j hj => by match j, hj with | 0, _ => rfl | 1, _ => rfl | 2, _ => rfl | 3, _ => rfl | 4, _ => rfl | 5, _ => rfl | 6, _ => rfl | 7, _ => rfl | 8, _ => rfl | 9, _ => rfl | 10, _ => rfl | 11, _ => rfl | 12, _ => rfl | 13, _ => rfl | 14, _ => rfl | 15, _ => rfl | 16, _ => rfl | 17, _ => rfl | j + 18, h => omega) (by decide) (by decide) dL_law_0.1 (fun q0 H hP hD hS => ?_)
  have hP : va_P D jcl [(q0, .inr (0, df0))] H := hP
  have hD : va_D A [(q0, .inr (0, df0))] := hD
  refine lv_dup hx hb dL_law_3.1 rfl ?_
  have hFc : ∀ q, va_A [(q0, .inr (0, df0))] H.size q → A q := by
    rintro q (⟨k, e, h⟩ | h)
    · exact hD.2 k _ h
    · exact hA q (Nat.le_trans hS.1 h)
  refine va_callv (va_runI (As := []) (rest := [.ref q0]) ⟨hx, hb, hml, hown, hts⟩ (metX0_init l D q0 H.size) (cwI 0 hts (lw_meth q31) rfl rfl rfl (hts _ q25) (hts _ q29) (hts _ q30) rfl (by decide +kernel) ⟨by decide, by decide⟩) ⟨fun a U g mk q => by obtain ⟨w0, w1, qP, qK, qD⟩ := q; exact ⟨w0, w1, qP, va_K.moved (u := U) (U := U.calling g mk a) (Vm.Alike.refl U.vm) qK, qD⟩, fun U hU hW => ⟨rfl, by rw [hU], by rw [hU]; exact hP, va_K.moved hW.alike hK, hD.weaken (fun _ _ _ _ => trivial)⟩⟩ rfl rfl hl.1 rfl (lv_room (Nat.le_of_ble_eq_true rfl)) dL_law_4.1 ⟨by decide, by decide⟩) hS (fun q _ h => hFc q h) hFc (fun u t H1 locs ht hvm hw1 hB hz1 hk1 hS => ?_)
  obtain ⟨hP1, hK1, hD1⟩ := hB
  rw [ht] at hP1
  have hK1 := va_K.moved hvm.symm hK1
  have hD1 := hD1.weaken (B := A) (fun _ _ _ h => hFc _ h)
  obtain ⟨gx, egx⟩ : ∃ gx : Nat × (Nat → Nat) × (Nat → ClassId), gx = (q0, u.1, u.2.1) := ⟨_, rfl⟩
  have e0 : q0 = gx.1 := by rw [egx]
  have C : jC p s m #[Value.ref b] meth c A D 4 cL_law R_law (jty (D, gx)) := by rw [egx]; exact ⟨hx, hb, hml, hown, hts, hK1, hlk, hA⟩
  have hP1 : va_P D jcl (jw (D, gx) u.2.2.1 u.2.2.2) H1 := by rw [egx]; exact hP1
  have hD1 : va_D A (jw (D, gx) u.2.2.1 u.2.2.2) := by rw [egx]; exact hD1
  suffices J1 : JJ p l e room_1 s m #[Value.ref b] below meth c 14 1590 (lw_Z below #[Value.ref b] s) A D 4 (jw (D, gx) u.2.2.1 u.2.2.2) 7 [some (.ref b), none, none, none] [.ref gx.1] by
    have h9 := J1 H1 locs ls hP1 hD1 hS hl
    rw [← e0] at h9
    exact h9
  refine jr_as1 C dL_law_7 ?_
  -- new JoinTreesModel()
  intro H locs ls hP hD hS hl
  obtain ⟨hx, hb, hml, hown, hts, hK, hlk, hA⟩ := C
  refine va_new (ci := 1) (fs := df1) (C := RX1) (T := TX1) (N := 4) hx hb hts in_X1 tyX1 tyX1_ok hown (hts _ q225) (hts _ q226) (hts _ q26) hK hP hD hS hA rfl (fun j hj => by match j, hj with | 0, _ => rfl | 1, _ => rfl | 2, _ => rfl | 3, _ => rfl | j + 4, h => omega) (by decide) (by decide) dL_law_8.1 (fun q1 H hP hD hS => ?_)
  refine lv_dup hx hb dL_law_11.1 rfl ?_
  obtain ⟨-, hPm⟩ := fr_P hP
  obtain ⟨-, hDm, -⟩ := fr_D hD
  have hK0 : va_K D jcl [] s := ⟨hK.1, fun k q hk => by simp at hk⟩
  have hFc : ∀ q, va_A [(q1, .inr (1, df1))] H.size q → A q := by
    rintro q (⟨k, e, h⟩ | h)
    · exact hDm.2 k _ h
    · exact hA q (Nat.le_trans hS.1 h)
  refine va_callv (va_runI (As := []) (rest := [.ref q1]) ⟨hx, hb, hml, hown, hts⟩ (metX1_init l D q1 H.size) (cwI 0 hts (lw_meth q229) rfl rfl rfl (hts _ q26) (hts _ q227) (hts _ q228) rfl (by decide +kernel) ⟨by decide, by decide⟩) ⟨fun a U g mk q => by obtain ⟨w0, w1, qP, qK, qD⟩ := q; exact ⟨w0, w1, qP, va_K.moved (u := U) (U := U.calling g mk a) (Vm.Alike.refl U.vm) qK, qD⟩, fun U hU hW => ⟨rfl, by rw [hU], by rw [hU]; exact hPm, va_K.moved hW.alike hK0, hDm.weaken (fun _ _ _ _ => trivial)⟩⟩ rfl rfl hl.1 rfl (lv_room (Nat.le_of_ble_eq_true rfl)) dL_law_12.1 ⟨by decide, by decide⟩) hS (fun q _ h => hFc q h) hFc (fun v t H1 locs ht hvm hw2 hB hz1 hk1 hS => ?_)
  obtain ⟨hP1, hK1, hD1⟩ := hB
  rw [ht] at hP1
  have hK1 := va_K.moved hvm.symm hK1
  obtain ⟨hP2, hD2⟩ := fr_right hP hD hk1 hFc hP1 hD1
  obtain ⟨gm, egm⟩ : ∃ gm : Nat × (Nat → Nat) × (Nat → ClassId), gm = (q1, v.1, v.2.1) := ⟨_, rfl⟩
  have e1 : q1 = gm.1 := by rw [egm]
  have C : jC p s m #[Value.ref b] meth c A D 4 cL_law R_law (jty (D, gx) ++ mty (D, gm)) := ⟨hx, hb, hml, hown, hts, hK.app (by rw [egm]; exact hK1), hlk, hA⟩
  have hP2 : va_P D jcl (jw (D, gx) u.2.2.1 u.2.2.2 ++ mw (D, gm) v.2.2.1 v.2.2.2) H1 := by rw [egm]; exact hP2
  have hD2 : va_D A (jw (D, gx) u.2.2.1 u.2.2.2 ++ mw (D, gm) v.2.2.1 v.2.2.2) := by rw [egm]; exact hD2
  suffices J2 : JJ p l e room_1 s m #[Value.ref b] below meth c 18 1718 (lw_Z below #[Value.ref b] s) A D 4 (jw (D, gx) u.2.2.1 u.2.2.2 ++ mw (D, gm) v.2.2.1 v.2.2.2) 15 [some (.ref b), some (.ref gx.1), none, none] [.ref gm.1] by
    have h9 := J2 H1 locs ls hP2 hD2 hS hl
    rw [← e1] at h9
    exact h9
  refine jr_as2 C dL_law_15 ?_
  refine jr_ic0 C dL_law_16 ?_
  refine jr_is3 C dL_law_17 ?_
  exact law_loop hL hX hbl hbA hAs hr C (L + 1) 0 _ _ _ _ (fun _ _ => False) (by omega) (by decide) hw1 hw2
set_option maxHeartbeats 4000000 in
theorem lw_walk (l : Launch) (b : Addr) (xs : List Int32) : MetFree l x (headSpec (Jvm.Cond.code x code maxLocals ret :: tables_1) room_1) (lw_P b xs) (fun _ _ _ _ _ => True) lw_Q := by
  refine MetFree.of_bodyS (code := code) (maxLocals := maxLocals) (ret := ret) (by decide) ?_ ?_
  · intro args s m h hn
    obtain ⟨meth, c, h1, h2, h3, h4, h5, h6, -, -⟩ := Cond.code_spec hn (atoms_spec (ws := Jvm.Cond.code x code maxLocals ret :: tables_1) h _ List.mem_cons_self)
    exact ⟨meth, c, h1, h2, h3, h4, h5, h6⟩
  · intro p e s m args below meth c s₁ B hml0 hP _
    obtain ⟨rfl, hx, hbd, hgv⟩ := hP
    obtain ⟨scr, harrAt, hlist, hof, hsmall⟩ := hx
    obtain ⟨hcb, hkn, -, -⟩ := State.arrayAt?_spec harrAt
    have hown : s.vm.findClass R_law = some m.cls := findClass_of_methodNamed B.named
    have hts0 : ∀ c ∈ (Jvm.Cond.code x code maxLocals ret :: tables_1), c.before #[Value.ref b] s = true := atoms_spec (ws := Jvm.Cond.code x code maxLocals ret :: tables_1) B.pre
    have hts : ∀ w ∈ lw_tbl, w.before #[Value.ref b] s = true := k2_hts_sels lw_privs (fun w hw => hts0 w (List.mem_cons_of_mem _ hw)) lw_privs_ok
    have hml : c.maxLocals = 4 := B.maxLocals_eq (hts0 _ List.mem_cons_self)
    have X₀ : Stand p l e room_1 s m #[Value.ref b] below meth c s₁ [] 0 0 := Stand.of_body B
    have hh0 : s₁.heap = s.heap := by rw [B.state]; rfl
    have hsz : scr.slots.size = xs.length := by rw [← Array.length_toList, hlist, List.length_map]
    have hval : ∀ j : Nat, j < xs.length → scr.slots[j]? = some (.int (xs.getD j 0)) := fun j hj => by
      rw [← Array.getElem?_toList, hlist]
      simp [hj]
    have hbl : b < s.heap.size := (Array.getElem?_eq_some_iff.mp hcb).1
    have hX : va_X b xs.length (fun j => xs.getD j 0) s s.heap := ⟨scr, hcb, hof, hkn, hsz, hval⟩
    have K : W p l e room_1 s m #[Value.ref b] below meth c s₁.heap [] 0 0 (lw_Z below #[Value.ref b] s) (entryFrame m ([Value.ref b] : List Value).toArray 4) := by
      rw [hh0]
      exact whole_start l hbd ⟨B.exec, B.bytes, B.returns, hml, hown, hts, hX, hbl, B.notSynchronized, hgv⟩
    obtain ⟨t, a1, o, b1, b2, b3⟩ := K s₁ rfl X₀
    exact ⟨t, o, a1, b1, b2, b3⟩
theorem lw_pre_spec {args : Array Value} {s : State} (h : (Jvm.Cond.and given_1 narrow_1).before args s = true) (hr : rest_1_c.before args s = true) : ∃ (b : Addr) (xs : List Int32), lw_P b xs args s := by
  have hs := flat_of_before _ h
  have hq := flat_of_before _ hr
  have hc : (Cond.count 1).before args s = true := hs _ (by decide +kernel)
  have harr : (Cond.arrayOf (.arg 0) .int).before args s = true := hs _ (by decide +kernel)
  have hle : (Cond.le (.length (.arg 0)) (.int 320)).before args s = true := hs _ (by decide +kernel)
  have hlen : (Cond.isInt (.length (.arg 0))).before args s = true := hq _ (by decide +kernel)
  have hall : (Cond.all (.arg 0) (.isInt (.elem (.arg 0) (.index 0)))).before args s = true := hq _ (by decide +kernel)
  obtain ⟨b, xs, hb, hx⟩ := State.ints_of_pre rfl harr hlen hall
  have hsm : xs.length < 2 ^ 31 := hx.choose_spec.2.2.2
  have hev : (Term.length (.arg 0)).eval args s none [] s = some (.int xs.length.toInt32) := hx.length_eval hb
  have hv := Cond.le_ints hev (show (Term.int 320).eval args s none [] s = some (.int 320) from rfl)
  have hd : xs.length.toInt32 ≤ 320 := by
    simpa [Cond.before, Cond.holds, hv] using hle
  have hN : xs.length ≤ 320 := (Int32.ofNat_le_ofNat hsm (by decide)).mp (show Int32.ofNat xs.length ≤ Int32.ofNat 320 from hd)
  exact ⟨b, xs, Cond.one_arg hc (show args[0]? = some (.ref b) from hb), hx, hN, h⟩
theorem lw_comes (l : Launch) : Comes l x (Jvm.Cond.code x code maxLocals ret :: tables_1) room_1 (fun tb e args s => Calls_1 tb e args s ∧ rest_1 tb e args s ∧ Pre_1 tb e args s)
    (fun _ _ args s o t => lw_Q args s o t) := by
  intro p e ha hc hk s m args below hf hfit hheap happ hpre
  obtain ⟨b, xs, hP⟩ := lw_pre_spec hpre.2.2 hpre.2.1
  obtain ⟨k, o, h1, h2, h3, hQ⟩ := lw_walk l b xs p e ha hc hk s m args below hf ((Spec.applies_iff_loose hf).mp happ).1 hP trivial
  exact ⟨k, o, h1, h2, h3, hQ⟩
theorem lw_frame {s t : State} {o : Outcome} {args : Array Value} (h : Framed s o t [] 600000 7290000) :
    Framed s o t (fieldLocs frame_1_writes args s ++ arrayLocs frame_1_arrays args s ++ staticLocs frame_1_statics s) 600000 7290000 := h
theorem lw_limb (L : Cond) (hL : ∀ (args : Array Value) (s t : State), L.after args s (.returned (some (.int 1))) t = true) :
    ArmFor flags0 classFile x code maxLocals ret World_1 tables_1 room_1 Calls_1 rest_1 Pre_1
      (fun tb e a s o t => postC L tb e a s o t ∧ Framed s o t (fieldLocs frame_1_writes a s ++ arrayLocs frame_1_arrays a s ++ staticLocs frame_1_statics s) 600000 7290000) := by
  intro l _ _ _ p e ha hc hk s m args below hf hfit hheap happ hpre
  obtain ⟨k, o, h1, h2, h3, rfl, hF⟩ := lw_comes l p e ha hc hk s m args below hf hfit hheap happ hpre
  exact ⟨k, _, h1, h2, h3, hL args s _, lw_frame hF⟩
theorem i_vc : Claimed_1_1 ∧ Claimed_1_2 := ⟨lw_limb limb_1_1 (fun args s t => by simp [limb_1_1, Cond.after, Cond.holds, Cond.value]), lw_limb limb_1_2 (fun args s t => Cond.after_iff.mpr (by
  first | (rw [show limb_1_2 = Cond.eq .result (.int 1) from rfl, Cond.eq_ints (x := 1) (y := 1) rfl rfl]; simp; done) | (simp [limb_1_2, Cond.value, Term.eval]; done)))⟩
end
