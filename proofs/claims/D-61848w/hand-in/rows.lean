section
-- ===== PART A: goes FIRST, ahead of the names: the tables' words, and 'selects' of the private methods out of them =====
/-- a private method of a class that the tables say can be made, by its rows of tables_1 -/
def lw_okq (q : MethodName × Nat) : Prop := (q.1.cls ≠ "java/lang/invoke/MethodHandle" ∧ q.1.cls ≠ "java/lang/invoke/VarHandle") ∧ Cond.instantiable q.1.cls q.2 ∈ tables_1 ∧ Cond.privateMethod q.1 ∈ tables_1 ∧ Cond.instanceMethod q.1 ∈ tables_1
set_option maxRecDepth 100000
theorem lw_t1 {w : Cond} (h : w ∈ tables_1_1) : w ∈ tables_1 := List.mem_append_left _ h
theorem lw_t2 {w : Cond} (h : w ∈ tables_1_2) : w ∈ tables_1 := List.mem_append_right _ h
theorem lw_p0 : lw_okq (⟨"LayerMounts", "refused", "(I)I"⟩, 8) := ⟨⟨by decide +kernel, by decide +kernel⟩, lw_t1 (List.mem_of_getElem? (i := 4) rfl), lw_t1 (List.mem_of_getElem? (i := 43) rfl), lw_t1 (List.mem_of_getElem? (i := 44) rfl)⟩
theorem lw_p1 : lw_okq (⟨"LayerMounts", "top", "(I)I"⟩, 8) := ⟨⟨by decide +kernel, by decide +kernel⟩, lw_t1 (List.mem_of_getElem? (i := 4) rfl), lw_t1 (List.mem_of_getElem? (i := 47) rfl), lw_t1 (List.mem_of_getElem? (i := 48) rfl)⟩
theorem lw_p2 : lw_okq (⟨"LayerMounts", "clean", "(I)V"⟩, 8) := ⟨⟨by decide +kernel, by decide +kernel⟩, lw_t1 (List.mem_of_getElem? (i := 4) rfl), lw_t1 (List.mem_of_getElem? (i := 51) rfl), lw_t1 (List.mem_of_getElem? (i := 52) rfl)⟩
theorem lw_p3 : lw_okq (⟨"LayerMounts", "directoryThere", "(II)Z"⟩, 8) := ⟨⟨by decide +kernel, by decide +kernel⟩, lw_t1 (List.mem_of_getElem? (i := 4) rfl), lw_t1 (List.mem_of_getElem? (i := 63) rfl), lw_t1 (List.mem_of_getElem? (i := 64) rfl)⟩
theorem lw_p4 : lw_okq (⟨"LayerMounts", "filesSeen", "(I)I"⟩, 8) := ⟨⟨by decide +kernel, by decide +kernel⟩, lw_t1 (List.mem_of_getElem? (i := 4) rfl), lw_t1 (List.mem_of_getElem? (i := 71) rfl), lw_t1 (List.mem_of_getElem? (i := 72) rfl)⟩
theorem lw_p5 : lw_okq (⟨"LayerMounts", "holder", "(II)I"⟩, 8) := ⟨⟨by decide +kernel, by decide +kernel⟩, lw_t1 (List.mem_of_getElem? (i := 4) rfl), lw_t1 (List.mem_of_getElem? (i := 75) rfl), lw_t1 (List.mem_of_getElem? (i := 76) rfl)⟩
theorem lw_p6 : lw_okq (⟨"LayerMounts", "filesOf", "(I)I"⟩, 8) := ⟨⟨by decide +kernel, by decide +kernel⟩, lw_t1 (List.mem_of_getElem? (i := 4) rfl), lw_t1 (List.mem_of_getElem? (i := 79) rfl), lw_t1 (List.mem_of_getElem? (i := 80) rfl)⟩
theorem lw_p7 : lw_okq (⟨"LayerMounts", "sizeOf", "(I)I"⟩, 8) := ⟨⟨by decide +kernel, by decide +kernel⟩, lw_t1 (List.mem_of_getElem? (i := 4) rfl), lw_t1 (List.mem_of_getElem? (i := 83) rfl), lw_t1 (List.mem_of_getElem? (i := 84) rfl)⟩
theorem lw_p8 : lw_okq (⟨"LayerMounts", "badFile", "(I)Z"⟩, 8) := ⟨⟨by decide +kernel, by decide +kernel⟩, lw_t1 (List.mem_of_getElem? (i := 4) rfl), lw_t1 (List.mem_of_getElem? (i := 91) rfl), lw_t1 (List.mem_of_getElem? (i := 92) rfl)⟩
theorem lw_p9 : lw_okq (⟨"LayerMounts", "setFile", "(III)V"⟩, 8) := ⟨⟨by decide +kernel, by decide +kernel⟩, lw_t1 (List.mem_of_getElem? (i := 4) rfl), lw_t1 (List.mem_of_getElem? (i := 95) rfl), lw_t1 (List.mem_of_getElem? (i := 96) rfl)⟩
theorem lw_p10 : lw_okq (⟨"LayerMounts", "clearFile", "(II)V"⟩, 8) := ⟨⟨by decide +kernel, by decide +kernel⟩, lw_t1 (List.mem_of_getElem? (i := 4) rfl), lw_t1 (List.mem_of_getElem? (i := 107) rfl), lw_t1 (List.mem_of_getElem? (i := 108) rfl)⟩
theorem lw_p11 : lw_okq (⟨"LayerMounts", "difference", "(II)I"⟩, 8) := ⟨⟨by decide +kernel, by decide +kernel⟩, lw_t1 (List.mem_of_getElem? (i := 4) rfl), lw_t1 (List.mem_of_getElem? (i := 147) rfl), lw_t1 (List.mem_of_getElem? (i := 148) rfl)⟩
theorem lw_p12 : lw_okq (⟨"LayerMountsModel", "test", "(I)I"⟩, 7) := ⟨⟨by decide +kernel, by decide +kernel⟩, lw_t1 (List.mem_of_getElem? (i := 159) rfl), lw_t1 (List.mem_of_getElem? (i := 191) rfl), lw_t1 (List.mem_of_getElem? (i := 192) rfl)⟩
theorem lw_p13 : lw_okq (⟨"LayerMountsModel", "isLayer", "(I)Z"⟩, 7) := ⟨⟨by decide +kernel, by decide +kernel⟩, lw_t1 (List.mem_of_getElem? (i := 159) rfl), lw_t1 (List.mem_of_getElem? (i := 195) rfl), lw_t1 (List.mem_of_getElem? (i := 196) rfl)⟩
theorem lw_p14 : lw_okq (⟨"LayerMountsModel", "copy", "(II)V"⟩, 7) := ⟨⟨by decide +kernel, by decide +kernel⟩, lw_t1 (List.mem_of_getElem? (i := 159) rfl), lw_t1 (List.mem_of_getElem? (i := 199) rfl), lw_t1 (List.mem_of_getElem? (i := 200) rfl)⟩
theorem lw_p15 : lw_okq (⟨"LayerMountsModel", "testDirectory", "(II)I"⟩, 7) := ⟨⟨by decide +kernel, by decide +kernel⟩, lw_t1 (List.mem_of_getElem? (i := 159) rfl), lw_t1 (List.mem_of_getElem? (i := 211) rfl), lw_t1 (List.mem_of_getElem? (i := 212) rfl)⟩
def lw_privs_1 : List (MethodName × Nat) := [(⟨"LayerMounts", "refused", "(I)I"⟩, 8), (⟨"LayerMounts", "top", "(I)I"⟩, 8), (⟨"LayerMounts", "clean", "(I)V"⟩, 8), (⟨"LayerMounts", "directoryThere", "(II)Z"⟩, 8), (⟨"LayerMounts", "filesSeen", "(I)I"⟩, 8), (⟨"LayerMounts", "holder", "(II)I"⟩, 8), (⟨"LayerMounts", "filesOf", "(I)I"⟩, 8), (⟨"LayerMounts", "sizeOf", "(I)I"⟩, 8), (⟨"LayerMounts", "badFile", "(I)Z"⟩, 8), (⟨"LayerMounts", "setFile", "(III)V"⟩, 8), (⟨"LayerMounts", "clearFile", "(II)V"⟩, 8), (⟨"LayerMounts", "difference", "(II)I"⟩, 8), (⟨"LayerMountsModel", "test", "(I)I"⟩, 7), (⟨"LayerMountsModel", "isLayer", "(I)Z"⟩, 7), (⟨"LayerMountsModel", "copy", "(II)V"⟩, 7), (⟨"LayerMountsModel", "testDirectory", "(II)I"⟩, 7)]
theorem lw_r1 : ∀ q ∈ lw_privs_1, lw_okq q := List.forall_mem_cons.mpr ⟨lw_p0, List.forall_mem_cons.mpr ⟨lw_p1, List.forall_mem_cons.mpr ⟨lw_p2, List.forall_mem_cons.mpr ⟨lw_p3, List.forall_mem_cons.mpr ⟨lw_p4, List.forall_mem_cons.mpr ⟨lw_p5, List.forall_mem_cons.mpr ⟨lw_p6, List.forall_mem_cons.mpr ⟨lw_p7, List.forall_mem_cons.mpr ⟨lw_p8, List.forall_mem_cons.mpr ⟨lw_p9, List.forall_mem_cons.mpr ⟨lw_p10, List.forall_mem_cons.mpr ⟨lw_p11, List.forall_mem_cons.mpr ⟨lw_p12, List.forall_mem_cons.mpr ⟨lw_p13, List.forall_mem_cons.mpr ⟨lw_p14, List.forall_mem_cons.mpr ⟨lw_p15, fun _ h => absurd h List.not_mem_nil⟩⟩⟩⟩⟩⟩⟩⟩⟩⟩⟩⟩⟩⟩⟩⟩
theorem lw_p16 : lw_okq (⟨"LayerMountsModel", "hasDirectory", "(II)Z"⟩, 7) := ⟨⟨by decide +kernel, by decide +kernel⟩, lw_t1 (List.mem_of_getElem? (i := 159) rfl), lw_t1 (List.mem_of_getElem? (i := 215) rfl), lw_t1 (List.mem_of_getElem? (i := 216) rfl)⟩
theorem lw_p17 : lw_okq (⟨"LayerMountsModel", "has", "(II)Z"⟩, 7) := ⟨⟨by decide +kernel, by decide +kernel⟩, lw_t1 (List.mem_of_getElem? (i := 159) rfl), lw_t1 (List.mem_of_getElem? (i := 223) rfl), lw_t1 (List.mem_of_getElem? (i := 224) rfl)⟩
theorem lw_p18 : lw_okq (⟨"LayerMountsModel", "testFile", "(II)I"⟩, 7) := ⟨⟨by decide +kernel, by decide +kernel⟩, lw_t1 (List.mem_of_getElem? (i := 159) rfl), lw_t1 (List.mem_of_getElem? (i := 231) rfl), lw_t1 (List.mem_of_getElem? (i := 232) rfl)⟩
theorem lw_p19 : lw_okq (⟨"LayerMountsModel", "put", "(III)I"⟩, 7) := ⟨⟨by decide +kernel, by decide +kernel⟩, lw_t1 (List.mem_of_getElem? (i := 159) rfl), lw_t1 (List.mem_of_getElem? (i := 235) rfl), lw_t1 (List.mem_of_getElem? (i := 236) rfl)⟩
theorem lw_p20 : lw_okq (⟨"LayerMountsModel", "isFree", "(I)Z"⟩, 7) := ⟨⟨by decide +kernel, by decide +kernel⟩, lw_t1 (List.mem_of_getElem? (i := 159) rfl), lw_t2 (List.mem_of_getElem? (i := 31) rfl), lw_t2 (List.mem_of_getElem? (i := 32) rfl)⟩
theorem lw_p21 : lw_okq (⟨"LayerMountsModel", "differing", "(II)I"⟩, 7) := ⟨⟨by decide +kernel, by decide +kernel⟩, lw_t1 (List.mem_of_getElem? (i := 159) rfl), lw_t2 (List.mem_of_getElem? (i := 47) rfl), lw_t2 (List.mem_of_getElem? (i := 48) rfl)⟩
def lw_privs_2 : List (MethodName × Nat) := [(⟨"LayerMountsModel", "hasDirectory", "(II)Z"⟩, 7), (⟨"LayerMountsModel", "has", "(II)Z"⟩, 7), (⟨"LayerMountsModel", "testFile", "(II)I"⟩, 7), (⟨"LayerMountsModel", "put", "(III)I"⟩, 7), (⟨"LayerMountsModel", "isFree", "(I)Z"⟩, 7), (⟨"LayerMountsModel", "differing", "(II)I"⟩, 7)]
theorem lw_r2 : ∀ q ∈ lw_privs_2, lw_okq q := List.forall_mem_cons.mpr ⟨lw_p16, List.forall_mem_cons.mpr ⟨lw_p17, List.forall_mem_cons.mpr ⟨lw_p18, List.forall_mem_cons.mpr ⟨lw_p19, List.forall_mem_cons.mpr ⟨lw_p20, List.forall_mem_cons.mpr ⟨lw_p21, fun _ h => absurd h List.not_mem_nil⟩⟩⟩⟩⟩⟩
def lw_privs : List (MethodName × Nat) := lw_privs_1 ++ (lw_privs_2)
def lw_tbl : List Cond := k2_sels lw_privs ++ tables_1
theorem lw_privs_ok : ∀ q ∈ lw_privs, lw_okq q := by
  show ∀ q ∈ lw_privs_1 ++ (lw_privs_2), lw_okq q
  exact List.forall_mem_append.mpr ⟨lw_r1, lw_r2⟩
-- ===== ONE list of words for every method: the tables' words that hold all through a run =====
def lw_all : List Cond := lw_tbl.filter goodWord
/-- a word of the tables by its place: claim/WORDS.tsv -/
theorem lw_w {w : Cond} (i : Nat) (h : lw_tbl[i]? = some w) (g : goodWord w = true) : w ∈ lw_all := List.mem_filter.mpr ⟨List.mem_of_getElem? h, g⟩
theorem lw_all_tbl {w : Cond} (h : w ∈ lw_all) : w ∈ lw_tbl := (List.mem_filter.mp h).1
theorem lw_self : GoodIn lw_all lw_all := fun w h => ⟨h, good_of_word (List.mem_filter.mp h).2⟩
/-- a class's field words, by their places -/
theorem lw_in (ws : List Cond) (ps : List Nat) (hp : ws = ps.filterMap (fun i => lw_tbl[i]?)) (hg : ws.all goodWord = true) : ∀ w ∈ ws, w ∈ lw_all := by
  intro w h
  have h1 := List.all_eq_true.mp hg w h
  rw [hp] at h
  obtain ⟨i, -, hi⟩ := List.mem_filterMap.mp h
  exact lw_w i hi h1
/-- the words of a contract for the method y with code b, L locals, answer r -/
abbrev ws_ (y : MethodName) (b : ByteArray) (L : Nat) (r : Option FieldType) : List Cond := Cond.code y b L r :: lw_all
theorem lw_meth {y : MethodName} {b : ByteArray} {L : Nat} {r : Option FieldType} (h : Cond.code y b L r ∈ lw_all) : GoodIn lw_all (ws_ y b L r) := by
  intro w hw
  rcases List.mem_cons.mp hw with e | e
  · rw [e]
    exact lw_self _ h
  · exact lw_self _ e
theorem lw_app {a c : List Cond} (ha : ∀ w ∈ a, w ∈ lw_all) (hc : GoodIn lw_all c) : GoodIn lw_all (a ++ c) := by
  intro w hw
  rcases List.mem_append.mp hw with e | e
  · exact lw_self w (ha w e)
  · exact hc w e
/-- what a call through an object asks: cwV n hts (lw_V ..) -/
theorem lw_V {own : String} {idx : Nat} {C : String} {y : MethodName} {b : ByteArray} {L : Nat} {r : Option FieldType} (h1 : Cond.methodLink own idx y ∈ lw_all) (h2 : Cond.instanceMethod y ∈ lw_all) (h3 : Cond.selects C y y ∈ lw_all) (h4 : Cond.initialized C ∈ lw_all) (h5 : Cond.code y b L r ∈ lw_all) : GoodIn lw_all (wsV own idx C y (ws_ y b L r)) := by
  refine lw_app ?_ (lw_meth h5)
  intro w hw
  simp only [List.mem_cons, List.not_mem_nil, or_false] at hw
  rcases hw with e | e | e | e
  · rw [e]; exact h1
  · rw [e]; exact h2
  · rw [e]; exact h3
  · rw [e]; exact h4
/-- what a static call asks: va_cwS n hts (lw_S ..) -/
theorem lw_S {own : String} {idx : Nat} {y : MethodName} {b : ByteArray} {L : Nat} {r : Option FieldType} (h1 : Cond.methodLink own idx y ∈ lw_all) (h2 : Cond.static y ∈ lw_all) (h3 : Cond.initialized y.cls ∈ lw_all) (h4 : Cond.code y b L r ∈ lw_all) : GoodIn lw_all (va_wsS own idx y (ws_ y b L r)) := by
  refine lw_app ?_ (lw_meth h4)
  intro w hw
  simp only [List.mem_cons, List.not_mem_nil, or_false] at hw
  rcases hw with e | e | e
  · rw [e]; exact h1
  · rw [e]; exact h2
  · rw [e]; exact h3
/-- the words of a contract for a method WITH HANDLERS (hh: its table) -/
abbrev wsW_ (y : MethodName) (b : ByteArray) (L : Nat) (r : Option FieldType) (hh : List (Nat × Nat × Nat × Nat)) : List Cond := Cond.codeWith y b L r hh :: lw_all
theorem lw_methW {y : MethodName} {b : ByteArray} {L : Nat} {r : Option FieldType} {hh : List (Nat × Nat × Nat × Nat)} (h : Cond.codeWith y b L r hh ∈ lw_all) : GoodIn lw_all (wsW_ y b L r hh) := by
  intro w hw
  rcases List.mem_cons.mp hw with e | e
  · rw [e]
    exact lw_self _ h
  · exact lw_self _ e
/-- any list of words by their places (lw_in), good -/
theorem lw_good {ws : List Cond} (h : ∀ w ∈ ws, w ∈ lw_all) : GoodIn lw_all ws := fun w hw => lw_self w (h w hw)
/-- what a call of a method with handlers asks: vx_cwVW n hts (lw_VW ..), vx_cwSW n hts (lw_SW ..) -/
theorem lw_VW {own : String} {idx : Nat} {C : String} {y : MethodName} {b : ByteArray} {L : Nat} {r : Option FieldType} {hh : List (Nat × Nat × Nat × Nat)} (h1 : Cond.methodLink own idx y ∈ lw_all) (h2 : Cond.instanceMethod y ∈ lw_all) (h3 : Cond.selects C y y ∈ lw_all) (h4 : Cond.initialized C ∈ lw_all) (h5 : Cond.codeWith y b L r hh ∈ lw_all) : GoodIn lw_all (wsV own idx C y (wsW_ y b L r hh)) := by
  refine lw_app ?_ (lw_methW h5)
  intro w hw
  simp only [List.mem_cons, List.not_mem_nil, or_false] at hw
  rcases hw with e | e | e | e
  · rw [e]; exact h1
  · rw [e]; exact h2
  · rw [e]; exact h3
  · rw [e]; exact h4
theorem lw_SW {own : String} {idx : Nat} {y : MethodName} {b : ByteArray} {L : Nat} {r : Option FieldType} {hh : List (Nat × Nat × Nat × Nat)} (h1 : Cond.methodLink own idx y ∈ lw_all) (h2 : Cond.static y ∈ lw_all) (h3 : Cond.initialized y.cls ∈ lw_all) (h4 : Cond.codeWith y b L r hh ∈ lw_all) : GoodIn lw_all (va_wsS own idx y (wsW_ y b L r hh)) := by
  refine lw_app ?_ (lw_methW h4)
  intro w hw
  simp only [List.mem_cons, List.not_mem_nil, or_false] at hw
  rcases hw with e | e | e
  · rw [e]; exact h1
  · rw [e]; exact h2
  · rw [e]; exact h3
/-- a word by its place in its run of the tables -/
theorem lw_at {r : List Cond} (hr : ∀ w ∈ r, w ∈ lw_tbl) {w : Cond} (i : Nat) (h : r[i]? = some w) : w ∈ lw_tbl := hr w (List.mem_of_getElem? h)
theorem lw_g {w : Cond} (h : w ∈ lw_tbl) (g : goodWord w = true) : w ∈ lw_all := List.mem_filter.mpr ⟨h, g⟩
theorem lw_ms : ∀ w ∈ k2_sels lw_privs, w ∈ lw_tbl := fun w h => show w ∈ k2_sels lw_privs ++ tables_1 from List.mem_append_left _ h
theorem lw_m1 : ∀ w ∈ tables_1_1, w ∈ lw_tbl := fun w h => show w ∈ k2_sels lw_privs ++ tables_1 from List.mem_append_right (k2_sels lw_privs) (show w ∈ tables_1 from List.mem_append_left _ h)
theorem lw_m2 : ∀ w ∈ tables_1_2, w ∈ lw_tbl := fun w h => show w ∈ k2_sels lw_privs ++ tables_1 from List.mem_append_right (k2_sels lw_privs) (show w ∈ tables_1 from List.mem_append_right _ h)
theorem qs0 : (Cond.selects "LayerMounts" ⟨"LayerMounts", "refused", "(I)I"⟩ ⟨"LayerMounts", "refused", "(I)I"⟩) ∈ lw_all := lw_g (lw_at lw_ms 0 rfl) rfl
theorem qs1 : (Cond.selects "LayerMounts" ⟨"LayerMounts", "top", "(I)I"⟩ ⟨"LayerMounts", "top", "(I)I"⟩) ∈ lw_all := lw_g (lw_at lw_ms 1 rfl) rfl
theorem qs2 : (Cond.selects "LayerMounts" ⟨"LayerMounts", "clean", "(I)V"⟩ ⟨"LayerMounts", "clean", "(I)V"⟩) ∈ lw_all := lw_g (lw_at lw_ms 2 rfl) rfl
theorem qs3 : (Cond.selects "LayerMounts" ⟨"LayerMounts", "directoryThere", "(II)Z"⟩ ⟨"LayerMounts", "directoryThere", "(II)Z"⟩) ∈ lw_all := lw_g (lw_at lw_ms 3 rfl) rfl
theorem qs4 : (Cond.selects "LayerMounts" ⟨"LayerMounts", "filesSeen", "(I)I"⟩ ⟨"LayerMounts", "filesSeen", "(I)I"⟩) ∈ lw_all := lw_g (lw_at lw_ms 4 rfl) rfl
theorem qs5 : (Cond.selects "LayerMounts" ⟨"LayerMounts", "holder", "(II)I"⟩ ⟨"LayerMounts", "holder", "(II)I"⟩) ∈ lw_all := lw_g (lw_at lw_ms 5 rfl) rfl
theorem qs6 : (Cond.selects "LayerMounts" ⟨"LayerMounts", "filesOf", "(I)I"⟩ ⟨"LayerMounts", "filesOf", "(I)I"⟩) ∈ lw_all := lw_g (lw_at lw_ms 6 rfl) rfl
theorem qs7 : (Cond.selects "LayerMounts" ⟨"LayerMounts", "sizeOf", "(I)I"⟩ ⟨"LayerMounts", "sizeOf", "(I)I"⟩) ∈ lw_all := lw_g (lw_at lw_ms 7 rfl) rfl
theorem qs8 : (Cond.selects "LayerMounts" ⟨"LayerMounts", "badFile", "(I)Z"⟩ ⟨"LayerMounts", "badFile", "(I)Z"⟩) ∈ lw_all := lw_g (lw_at lw_ms 8 rfl) rfl
theorem qs9 : (Cond.selects "LayerMounts" ⟨"LayerMounts", "setFile", "(III)V"⟩ ⟨"LayerMounts", "setFile", "(III)V"⟩) ∈ lw_all := lw_g (lw_at lw_ms 9 rfl) rfl
theorem qs10 : (Cond.selects "LayerMounts" ⟨"LayerMounts", "clearFile", "(II)V"⟩ ⟨"LayerMounts", "clearFile", "(II)V"⟩) ∈ lw_all := lw_g (lw_at lw_ms 10 rfl) rfl
theorem qs11 : (Cond.selects "LayerMounts" ⟨"LayerMounts", "difference", "(II)I"⟩ ⟨"LayerMounts", "difference", "(II)I"⟩) ∈ lw_all := lw_g (lw_at lw_ms 11 rfl) rfl
theorem qs12 : (Cond.selects "LayerMountsModel" ⟨"LayerMountsModel", "test", "(I)I"⟩ ⟨"LayerMountsModel", "test", "(I)I"⟩) ∈ lw_all := lw_g (lw_at lw_ms 12 rfl) rfl
theorem qs13 : (Cond.selects "LayerMountsModel" ⟨"LayerMountsModel", "isLayer", "(I)Z"⟩ ⟨"LayerMountsModel", "isLayer", "(I)Z"⟩) ∈ lw_all := lw_g (lw_at lw_ms 13 rfl) rfl
theorem qs14 : (Cond.selects "LayerMountsModel" ⟨"LayerMountsModel", "copy", "(II)V"⟩ ⟨"LayerMountsModel", "copy", "(II)V"⟩) ∈ lw_all := lw_g (lw_at lw_ms 14 rfl) rfl
theorem qs15 : (Cond.selects "LayerMountsModel" ⟨"LayerMountsModel", "testDirectory", "(II)I"⟩ ⟨"LayerMountsModel", "testDirectory", "(II)I"⟩) ∈ lw_all := lw_g (lw_at lw_ms 15 rfl) rfl
theorem qs16 : (Cond.selects "LayerMountsModel" ⟨"LayerMountsModel", "hasDirectory", "(II)Z"⟩ ⟨"LayerMountsModel", "hasDirectory", "(II)Z"⟩) ∈ lw_all := lw_g (lw_at lw_ms 16 rfl) rfl
theorem qs17 : (Cond.selects "LayerMountsModel" ⟨"LayerMountsModel", "has", "(II)Z"⟩ ⟨"LayerMountsModel", "has", "(II)Z"⟩) ∈ lw_all := lw_g (lw_at lw_ms 17 rfl) rfl
theorem qs18 : (Cond.selects "LayerMountsModel" ⟨"LayerMountsModel", "testFile", "(II)I"⟩ ⟨"LayerMountsModel", "testFile", "(II)I"⟩) ∈ lw_all := lw_g (lw_at lw_ms 18 rfl) rfl
theorem qs19 : (Cond.selects "LayerMountsModel" ⟨"LayerMountsModel", "put", "(III)I"⟩ ⟨"LayerMountsModel", "put", "(III)I"⟩) ∈ lw_all := lw_g (lw_at lw_ms 19 rfl) rfl
theorem qs20 : (Cond.selects "LayerMountsModel" ⟨"LayerMountsModel", "isFree", "(I)Z"⟩ ⟨"LayerMountsModel", "isFree", "(I)Z"⟩) ∈ lw_all := lw_g (lw_at lw_ms 20 rfl) rfl
theorem qs21 : (Cond.selects "LayerMountsModel" ⟨"LayerMountsModel", "differing", "(II)I"⟩ ⟨"LayerMountsModel", "differing", "(II)I"⟩) ∈ lw_all := lw_g (lw_at lw_ms 21 rfl) rfl
end
section
/-! java/lang/Object -/
set_option maxRecDepth 100000
def RJ0 : String := "java/lang/Object"
abbrev cJ0_init : ByteArray := object_method_1_code
def yJ0_init : MethodName := ⟨RJ0, "<init>", "()V"⟩
theorem dJ0_init_0 : decode cJ0_init 0 = .ok (.return_, 1) := by decide +kernel
theorem q31 : (Jvm.Cond.instanceMethod ({ cls := "java/lang/Object", name := "<init>", desc := "()V" } : Jvm.MethodName)) ∈ lw_all := lw_g (lw_at lw_m1 9 rfl) rfl
theorem q32 : (Jvm.Cond.code ({ cls := "java/lang/Object", name := "<init>", desc := "()V" } : Jvm.MethodName) object_method_1_code (1 : Nat) (Option.none : Option Jvm.ClassFile.FieldType)) ∈ lw_all := lw_g (lw_at lw_m1 10 rfl) rfl
theorem q58 : (Jvm.Cond.arrayClass Jvm.ClassFile.FieldType.int) ∈ lw_all := lw_g (lw_at lw_m1 36 rfl) rfl
set_option maxRecDepth 100000
theorem q59 : (Jvm.Cond.arrayClass Jvm.ClassFile.FieldType.boolean) ∈ lw_all := lw_g (lw_at lw_m1 37 rfl) rfl
/-! LayerMounts -/
set_option maxRecDepth 100000
def RX0 : String := "LayerMounts"
def TX0 : u_T := fun k => match k with
  | 0 => ("LayerMounts", "layers", "I", false)
  | 1 => ("LayerMounts", "under", "[I", true)
  | 2 => ("LayerMounts", "own", "[I", true)
  | 3 => ("LayerMounts", "hidden", "[I", true)
  | 4 => ("LayerMounts", "ownDirectory", "[I", true)
  | 5 => ("LayerMounts", "hiddenDirectory", "[I", true)
  | 6 => ("LayerMounts", "content", "[I", true)
  | _ => ("LayerMounts", "inUse", "[Z", true)
def tyX0 : Nat → FieldType := fun k => match k with
  | 0 => .int
  | 1 => .array .int
  | 2 => .array .int
  | 3 => .array .int
  | 4 => .array .int
  | 5 => .array .int
  | 6 => .array .int
  | _ => .array .boolean
abbrev wsX00 : List Cond := u_ws RX0 TX0 8
theorem nmX0 : ∀ a, a < 8 → ∀ b, b < 8 → a ≠ b → (TX0 a).2.1 ≠ (TX0 b).2.1 := by decide +kernel
theorem tyX0_ok : ∀ k, k < 8 → parseFieldDescriptor (TX0 k).2.2.1 = some (tyX0 k) := by decide +kernel
abbrev cX0_init : ByteArray := prog_1_method_1_code
def yX0_init : MethodName := ⟨RX0, "<init>", "()V"⟩
theorem dX0_init_0 : decode cX0_init 0 = .ok (.aload_n 0, 1) := by decide +kernel
theorem dX0_init_1 : decode cX0_init 1 = .ok (.invokespecial 1, 3) := by decide +kernel
theorem dX0_init_4 : decode cX0_init 4 = .ok (.aload_n 0, 1) := by decide +kernel
theorem dX0_init_5 : decode cX0_init 5 = .ok (.bipush 10, 2) := by decide +kernel
theorem dX0_init_7 : decode cX0_init 7 = .ok (.newarray .int, 2) := by decide +kernel
theorem dX0_init_9 : decode cX0_init 9 = .ok (.putfield 7, 3) := by decide +kernel
theorem dX0_init_12 : decode cX0_init 12 = .ok (.aload_n 0, 1) := by decide +kernel
theorem dX0_init_13 : decode cX0_init 13 = .ok (.bipush 10, 2) := by decide +kernel
theorem dX0_init_15 : decode cX0_init 15 = .ok (.newarray .int, 2) := by decide +kernel
theorem dX0_init_17 : decode cX0_init 17 = .ok (.putfield 13, 3) := by decide +kernel
theorem dX0_init_20 : decode cX0_init 20 = .ok (.aload_n 0, 1) := by decide +kernel
theorem dX0_init_21 : decode cX0_init 21 = .ok (.bipush 10, 2) := by decide +kernel
theorem dX0_init_23 : decode cX0_init 23 = .ok (.newarray .int, 2) := by decide +kernel
theorem dX0_init_25 : decode cX0_init 25 = .ok (.putfield 16, 3) := by decide +kernel
theorem dX0_init_28 : decode cX0_init 28 = .ok (.aload_n 0, 1) := by decide +kernel
theorem dX0_init_29 : decode cX0_init 29 = .ok (.bipush 10, 2) := by decide +kernel
theorem dX0_init_31 : decode cX0_init 31 = .ok (.newarray .int, 2) := by decide +kernel
theorem dX0_init_33 : decode cX0_init 33 = .ok (.putfield 19, 3) := by decide +kernel
theorem dX0_init_36 : decode cX0_init 36 = .ok (.aload_n 0, 1) := by decide +kernel
theorem dX0_init_37 : decode cX0_init 37 = .ok (.bipush 10, 2) := by decide +kernel
theorem dX0_init_39 : decode cX0_init 39 = .ok (.newarray .int, 2) := by decide +kernel
theorem dX0_init_41 : decode cX0_init 41 = .ok (.putfield 22, 3) := by decide +kernel
theorem dX0_init_44 : decode cX0_init 44 = .ok (.aload_n 0, 1) := by decide +kernel
theorem dX0_init_45 : decode cX0_init 45 = .ok (.bipush 80, 2) := by decide +kernel
theorem dX0_init_47 : decode cX0_init 47 = .ok (.newarray .int, 2) := by decide +kernel
theorem dX0_init_49 : decode cX0_init 49 = .ok (.putfield 25, 3) := by decide +kernel
theorem dX0_init_52 : decode cX0_init 52 = .ok (.aload_n 0, 1) := by decide +kernel
theorem dX0_init_53 : decode cX0_init 53 = .ok (.iconst 4, 1) := by decide +kernel
theorem dX0_init_54 : decode cX0_init 54 = .ok (.newarray .boolean, 2) := by decide +kernel
theorem dX0_init_56 : decode cX0_init 56 = .ok (.putfield 28, 3) := by decide +kernel
theorem dX0_init_59 : decode cX0_init 59 = .ok (.aload_n 0, 1) := by decide +kernel
theorem dX0_init_60 : decode cX0_init 60 = .ok (.iconst 1, 1) := by decide +kernel
theorem dX0_init_61 : decode cX0_init 61 = .ok (.putfield 32, 3) := by decide +kernel
theorem dX0_init_64 : decode cX0_init 64 = .ok (.aload_n 0, 1) := by decide +kernel
theorem dX0_init_65 : decode cX0_init 65 = .ok (.getfield 7, 3) := by decide +kernel
theorem dX0_init_68 : decode cX0_init 68 = .ok (.iconst 0, 1) := by decide +kernel
theorem dX0_init_69 : decode cX0_init 69 = .ok (.iconst (-1), 1) := by decide +kernel
theorem dX0_init_70 : decode cX0_init 70 = .ok (.iastore, 1) := by decide +kernel
theorem dX0_init_71 : decode cX0_init 71 = .ok (.return_, 1) := by decide +kernel
abbrev cX0_mount : ByteArray := prog_1_method_12_code
def yX0_mount : MethodName := ⟨RX0, "mount", "(II)I"⟩
theorem dX0_mount_0 : decode cX0_mount 0 = .ok (.aload_n 0, 1) := by decide +kernel
theorem dX0_mount_1 : decode cX0_mount 1 = .ok (.iload_n 1, 1) := by decide +kernel
theorem dX0_mount_2 : decode cX0_mount 2 = .ok (.invokevirtual 40, 3) := by decide +kernel
theorem dX0_mount_5 : decode cX0_mount 5 = .ok (.istore_n 3, 1) := by decide +kernel
theorem dX0_mount_6 : decode cX0_mount 6 = .ok (.iload_n 3, 1) := by decide +kernel
theorem dX0_mount_7 : decode cX0_mount 7 = .ok (.bipush (-3), 2) := by decide +kernel
theorem dX0_mount_9 : decode cX0_mount 9 = .ok (.if_icmp .eq 15, 3) := by decide +kernel
theorem dX0_mount_12 : decode cX0_mount 12 = .ok (.iload_n 3, 1) := by decide +kernel
theorem dX0_mount_13 : decode cX0_mount 13 = .ok (.iconst (-1), 1) := by decide +kernel
theorem dX0_mount_14 : decode cX0_mount 14 = .ok (.if_icmp .ne 7, 3) := by decide +kernel
theorem dX0_mount_17 : decode cX0_mount 17 = .ok (.iconst (-1), 1) := by decide +kernel
theorem dX0_mount_18 : decode cX0_mount 18 = .ok (.goto 5, 3) := by decide +kernel
theorem dX0_mount_21 : decode cX0_mount 21 = .ok (.bipush (-3), 2) := by decide +kernel
theorem dX0_mount_23 : decode cX0_mount 23 = .ok (.ireturn, 1) := by decide +kernel
theorem dX0_mount_24 : decode cX0_mount 24 = .ok (.iload_n 2, 1) := by decide +kernel
theorem dX0_mount_25 : decode cX0_mount 25 = .ok (.ifCond .lt 11, 3) := by decide +kernel
theorem dX0_mount_28 : decode cX0_mount 28 = .ok (.iload_n 2, 1) := by decide +kernel
theorem dX0_mount_29 : decode cX0_mount 29 = .ok (.aload_n 0, 1) := by decide +kernel
theorem dX0_mount_30 : decode cX0_mount 30 = .ok (.getfield 32, 3) := by decide +kernel
theorem dX0_mount_33 : decode cX0_mount 33 = .ok (.if_icmp .lt 6, 3) := by decide +kernel
theorem dX0_mount_36 : decode cX0_mount 36 = .ok (.bipush (-4), 2) := by decide +kernel
theorem dX0_mount_38 : decode cX0_mount 38 = .ok (.ireturn, 1) := by decide +kernel
theorem dX0_mount_39 : decode cX0_mount 39 = .ok (.aload_n 0, 1) := by decide +kernel
theorem dX0_mount_40 : decode cX0_mount 40 = .ok (.getfield 28, 3) := by decide +kernel
theorem dX0_mount_43 : decode cX0_mount 43 = .ok (.iload_n 1, 1) := by decide +kernel
theorem dX0_mount_44 : decode cX0_mount 44 = .ok (.iconst 1, 1) := by decide +kernel
theorem dX0_mount_45 : decode cX0_mount 45 = .ok (.bastore, 1) := by decide +kernel
theorem dX0_mount_46 : decode cX0_mount 46 = .ok (.aload_n 0, 1) := by decide +kernel
theorem dX0_mount_47 : decode cX0_mount 47 = .ok (.aload_n 0, 1) := by decide +kernel
theorem dX0_mount_48 : decode cX0_mount 48 = .ok (.iload_n 1, 1) := by decide +kernel
theorem dX0_mount_49 : decode cX0_mount 49 = .ok (.invokevirtual 44, 3) := by decide +kernel
theorem dX0_mount_52 : decode cX0_mount 52 = .ok (.invokevirtual 47, 3) := by decide +kernel
theorem dX0_mount_55 : decode cX0_mount 55 = .ok (.aload_n 0, 1) := by decide +kernel
theorem dX0_mount_56 : decode cX0_mount 56 = .ok (.getfield 7, 3) := by decide +kernel
theorem dX0_mount_59 : decode cX0_mount 59 = .ok (.aload_n 0, 1) := by decide +kernel
theorem dX0_mount_60 : decode cX0_mount 60 = .ok (.iload_n 1, 1) := by decide +kernel
theorem dX0_mount_61 : decode cX0_mount 61 = .ok (.invokevirtual 44, 3) := by decide +kernel
theorem dX0_mount_64 : decode cX0_mount 64 = .ok (.iload_n 2, 1) := by decide +kernel
theorem dX0_mount_65 : decode cX0_mount 65 = .ok (.iastore, 1) := by decide +kernel
theorem dX0_mount_66 : decode cX0_mount 66 = .ok (.iconst 0, 1) := by decide +kernel
theorem dX0_mount_67 : decode cX0_mount 67 = .ok (.ireturn, 1) := by decide +kernel
abbrev cX0_refused : ByteArray := prog_1_method_2_code
def yX0_refused : MethodName := ⟨RX0, "refused", "(I)I"⟩
theorem dX0_refused_0 : decode cX0_refused 0 = .ok (.iload_n 1, 1) := by decide +kernel
theorem dX0_refused_1 : decode cX0_refused 1 = .ok (.ifCond .lt 8, 3) := by decide +kernel
theorem dX0_refused_4 : decode cX0_refused 4 = .ok (.iload_n 1, 1) := by decide +kernel
theorem dX0_refused_5 : decode cX0_refused 5 = .ok (.iconst 4, 1) := by decide +kernel
theorem dX0_refused_6 : decode cX0_refused 6 = .ok (.if_icmp .lt 5, 3) := by decide +kernel
theorem dX0_refused_9 : decode cX0_refused 9 = .ok (.iconst (-1), 1) := by decide +kernel
theorem dX0_refused_10 : decode cX0_refused 10 = .ok (.ireturn, 1) := by decide +kernel
theorem dX0_refused_11 : decode cX0_refused 11 = .ok (.aload_n 0, 1) := by decide +kernel
theorem dX0_refused_12 : decode cX0_refused 12 = .ok (.getfield 28, 3) := by decide +kernel
theorem dX0_refused_15 : decode cX0_refused 15 = .ok (.iload_n 1, 1) := by decide +kernel
theorem dX0_refused_16 : decode cX0_refused 16 = .ok (.baload, 1) := by decide +kernel
theorem dX0_refused_17 : decode cX0_refused 17 = .ok (.ifCond .eq 7, 3) := by decide +kernel
theorem dX0_refused_20 : decode cX0_refused 20 = .ok (.iconst 0, 1) := by decide +kernel
theorem dX0_refused_21 : decode cX0_refused 21 = .ok (.goto 5, 3) := by decide +kernel
theorem dX0_refused_24 : decode cX0_refused 24 = .ok (.bipush (-3), 2) := by decide +kernel
theorem dX0_refused_26 : decode cX0_refused 26 = .ok (.ireturn, 1) := by decide +kernel
abbrev cX0_top : ByteArray := prog_1_method_3_code
def yX0_top : MethodName := ⟨RX0, "top", "(I)I"⟩
theorem dX0_top_0 : decode cX0_top 0 = .ok (.bipush 6, 2) := by decide +kernel
theorem dX0_top_2 : decode cX0_top 2 = .ok (.iload_n 1, 1) := by decide +kernel
theorem dX0_top_3 : decode cX0_top 3 = .ok (.iadd, 1) := by decide +kernel
theorem dX0_top_4 : decode cX0_top 4 = .ok (.ireturn, 1) := by decide +kernel
abbrev cX0_clean : ByteArray := prog_1_method_5_code
def yX0_clean : MethodName := ⟨RX0, "clean", "(I)V"⟩
theorem dX0_clean_0 : decode cX0_clean 0 = .ok (.aload_n 0, 1) := by decide +kernel
theorem dX0_clean_1 : decode cX0_clean 1 = .ok (.getfield 13, 3) := by decide +kernel
theorem dX0_clean_4 : decode cX0_clean 4 = .ok (.iload_n 1, 1) := by decide +kernel
theorem dX0_clean_5 : decode cX0_clean 5 = .ok (.iconst 0, 1) := by decide +kernel
theorem dX0_clean_6 : decode cX0_clean 6 = .ok (.iastore, 1) := by decide +kernel
theorem dX0_clean_7 : decode cX0_clean 7 = .ok (.aload_n 0, 1) := by decide +kernel
theorem dX0_clean_8 : decode cX0_clean 8 = .ok (.getfield 16, 3) := by decide +kernel
theorem dX0_clean_11 : decode cX0_clean 11 = .ok (.iload_n 1, 1) := by decide +kernel
theorem dX0_clean_12 : decode cX0_clean 12 = .ok (.iconst 0, 1) := by decide +kernel
theorem dX0_clean_13 : decode cX0_clean 13 = .ok (.iastore, 1) := by decide +kernel
theorem dX0_clean_14 : decode cX0_clean 14 = .ok (.aload_n 0, 1) := by decide +kernel
theorem dX0_clean_15 : decode cX0_clean 15 = .ok (.getfield 19, 3) := by decide +kernel
theorem dX0_clean_18 : decode cX0_clean 18 = .ok (.iload_n 1, 1) := by decide +kernel
theorem dX0_clean_19 : decode cX0_clean 19 = .ok (.iconst 0, 1) := by decide +kernel
theorem dX0_clean_20 : decode cX0_clean 20 = .ok (.iastore, 1) := by decide +kernel
theorem dX0_clean_21 : decode cX0_clean 21 = .ok (.aload_n 0, 1) := by decide +kernel
theorem dX0_clean_22 : decode cX0_clean 22 = .ok (.getfield 22, 3) := by decide +kernel
theorem dX0_clean_25 : decode cX0_clean 25 = .ok (.iload_n 1, 1) := by decide +kernel
theorem dX0_clean_26 : decode cX0_clean 26 = .ok (.iconst 0, 1) := by decide +kernel
theorem dX0_clean_27 : decode cX0_clean 27 = .ok (.iastore, 1) := by decide +kernel
theorem dX0_clean_28 : decode cX0_clean 28 = .ok (.return_, 1) := by decide +kernel
abbrev cX0_unmount : ByteArray := prog_1_method_13_code
def yX0_unmount : MethodName := ⟨RX0, "unmount", "(I)I"⟩
theorem dX0_unmount_0 : decode cX0_unmount 0 = .ok (.aload_n 0, 1) := by decide +kernel
theorem dX0_unmount_1 : decode cX0_unmount 1 = .ok (.iload_n 1, 1) := by decide +kernel
theorem dX0_unmount_2 : decode cX0_unmount 2 = .ok (.invokevirtual 40, 3) := by decide +kernel
theorem dX0_unmount_5 : decode cX0_unmount 5 = .ok (.istore_n 2, 1) := by decide +kernel
theorem dX0_unmount_6 : decode cX0_unmount 6 = .ok (.iload_n 2, 1) := by decide +kernel
theorem dX0_unmount_7 : decode cX0_unmount 7 = .ok (.ifCond .ge 5, 3) := by decide +kernel
theorem dX0_unmount_10 : decode cX0_unmount 10 = .ok (.iload_n 2, 1) := by decide +kernel
theorem dX0_unmount_11 : decode cX0_unmount 11 = .ok (.ireturn, 1) := by decide +kernel
theorem dX0_unmount_12 : decode cX0_unmount 12 = .ok (.aload_n 0, 1) := by decide +kernel
theorem dX0_unmount_13 : decode cX0_unmount 13 = .ok (.getfield 28, 3) := by decide +kernel
theorem dX0_unmount_16 : decode cX0_unmount 16 = .ok (.iload_n 1, 1) := by decide +kernel
theorem dX0_unmount_17 : decode cX0_unmount 17 = .ok (.iconst 0, 1) := by decide +kernel
theorem dX0_unmount_18 : decode cX0_unmount 18 = .ok (.bastore, 1) := by decide +kernel
theorem dX0_unmount_19 : decode cX0_unmount 19 = .ok (.iconst 0, 1) := by decide +kernel
theorem dX0_unmount_20 : decode cX0_unmount 20 = .ok (.ireturn, 1) := by decide +kernel
abbrev cX0_mkdir : ByteArray := prog_1_method_14_code
def yX0_mkdir : MethodName := ⟨RX0, "mkdir", "(II)I"⟩
theorem dX0_mkdir_0 : decode cX0_mkdir 0 = .ok (.aload_n 0, 1) := by decide +kernel
theorem dX0_mkdir_1 : decode cX0_mkdir 1 = .ok (.iload_n 1, 1) := by decide +kernel
theorem dX0_mkdir_2 : decode cX0_mkdir 2 = .ok (.invokevirtual 40, 3) := by decide +kernel
theorem dX0_mkdir_5 : decode cX0_mkdir 5 = .ok (.istore_n 3, 1) := by decide +kernel
theorem dX0_mkdir_6 : decode cX0_mkdir 6 = .ok (.iload_n 3, 1) := by decide +kernel
theorem dX0_mkdir_7 : decode cX0_mkdir 7 = .ok (.ifCond .ge 5, 3) := by decide +kernel
theorem dX0_mkdir_10 : decode cX0_mkdir 10 = .ok (.iload_n 3, 1) := by decide +kernel
theorem dX0_mkdir_11 : decode cX0_mkdir 11 = .ok (.ireturn, 1) := by decide +kernel
theorem dX0_mkdir_12 : decode cX0_mkdir 12 = .ok (.iload_n 2, 1) := by decide +kernel
theorem dX0_mkdir_13 : decode cX0_mkdir 13 = .ok (.ifCond .lt 8, 3) := by decide +kernel
theorem dX0_mkdir_16 : decode cX0_mkdir 16 = .ok (.iload_n 2, 1) := by decide +kernel
theorem dX0_mkdir_17 : decode cX0_mkdir 17 = .ok (.iconst 1, 1) := by decide +kernel
theorem dX0_mkdir_18 : decode cX0_mkdir 18 = .ok (.if_icmp .le 5, 3) := by decide +kernel
theorem dX0_mkdir_21 : decode cX0_mkdir 21 = .ok (.iconst (-1), 1) := by decide +kernel
theorem dX0_mkdir_22 : decode cX0_mkdir 22 = .ok (.ireturn, 1) := by decide +kernel
theorem dX0_mkdir_23 : decode cX0_mkdir 23 = .ok (.aload_n 0, 1) := by decide +kernel
theorem dX0_mkdir_24 : decode cX0_mkdir 24 = .ok (.iload_n 1, 1) := by decide +kernel
theorem dX0_mkdir_25 : decode cX0_mkdir 25 = .ok (.invokevirtual 44, 3) := by decide +kernel
theorem dX0_mkdir_28 : decode cX0_mkdir 28 = .ok (.istore 4, 2) := by decide +kernel
theorem dX0_mkdir_30 : decode cX0_mkdir 30 = .ok (.aload_n 0, 1) := by decide +kernel
theorem dX0_mkdir_31 : decode cX0_mkdir 31 = .ok (.iload 4, 2) := by decide +kernel
theorem dX0_mkdir_33 : decode cX0_mkdir 33 = .ok (.iload_n 2, 1) := by decide +kernel
theorem dX0_mkdir_34 : decode cX0_mkdir 34 = .ok (.invokevirtual 51, 3) := by decide +kernel
theorem dX0_mkdir_37 : decode cX0_mkdir 37 = .ok (.istore 5, 2) := by decide +kernel
theorem dX0_mkdir_39 : decode cX0_mkdir 39 = .ok (.iload 5, 2) := by decide +kernel
theorem dX0_mkdir_41 : decode cX0_mkdir 41 = .ok (.ifCond .eq 6, 3) := by decide +kernel
theorem dX0_mkdir_44 : decode cX0_mkdir 44 = .ok (.bipush (-4), 2) := by decide +kernel
theorem dX0_mkdir_46 : decode cX0_mkdir 46 = .ok (.ireturn, 1) := by decide +kernel
theorem dX0_mkdir_47 : decode cX0_mkdir 47 = .ok (.aload_n 0, 1) := by decide +kernel
theorem dX0_mkdir_48 : decode cX0_mkdir 48 = .ok (.getfield 19, 3) := by decide +kernel
theorem dX0_mkdir_51 : decode cX0_mkdir 51 = .ok (.iload 4, 2) := by decide +kernel
theorem dX0_mkdir_53 : decode cX0_mkdir 53 = .ok (.aload_n 0, 1) := by decide +kernel
theorem dX0_mkdir_54 : decode cX0_mkdir 54 = .ok (.getfield 19, 3) := by decide +kernel
theorem dX0_mkdir_57 : decode cX0_mkdir 57 = .ok (.iload 4, 2) := by decide +kernel
theorem dX0_mkdir_59 : decode cX0_mkdir 59 = .ok (.iaload, 1) := by decide +kernel
theorem dX0_mkdir_60 : decode cX0_mkdir 60 = .ok (.iconst 1, 1) := by decide +kernel
theorem dX0_mkdir_61 : decode cX0_mkdir 61 = .ok (.iload_n 2, 1) := by decide +kernel
theorem dX0_mkdir_62 : decode cX0_mkdir 62 = .ok (.ishl, 1) := by decide +kernel
theorem dX0_mkdir_63 : decode cX0_mkdir 63 = .ok (.ior, 1) := by decide +kernel
theorem dX0_mkdir_64 : decode cX0_mkdir 64 = .ok (.iastore, 1) := by decide +kernel
theorem dX0_mkdir_65 : decode cX0_mkdir 65 = .ok (.aload_n 0, 1) := by decide +kernel
theorem dX0_mkdir_66 : decode cX0_mkdir 66 = .ok (.getfield 22, 3) := by decide +kernel
theorem dX0_mkdir_69 : decode cX0_mkdir 69 = .ok (.iload 4, 2) := by decide +kernel
theorem dX0_mkdir_71 : decode cX0_mkdir 71 = .ok (.aload_n 0, 1) := by decide +kernel
theorem dX0_mkdir_72 : decode cX0_mkdir 72 = .ok (.getfield 22, 3) := by decide +kernel
theorem dX0_mkdir_75 : decode cX0_mkdir 75 = .ok (.iload 4, 2) := by decide +kernel
theorem dX0_mkdir_77 : decode cX0_mkdir 77 = .ok (.iaload, 1) := by decide +kernel
theorem dX0_mkdir_78 : decode cX0_mkdir 78 = .ok (.iconst 1, 1) := by decide +kernel
theorem dX0_mkdir_79 : decode cX0_mkdir 79 = .ok (.iload_n 2, 1) := by decide +kernel
theorem dX0_mkdir_80 : decode cX0_mkdir 80 = .ok (.ishl, 1) := by decide +kernel
theorem dX0_mkdir_81 : decode cX0_mkdir 81 = .ok (.ior, 1) := by decide +kernel
theorem dX0_mkdir_82 : decode cX0_mkdir 82 = .ok (.iastore, 1) := by decide +kernel
theorem dX0_mkdir_83 : decode cX0_mkdir 83 = .ok (.iconst 0, 1) := by decide +kernel
theorem dX0_mkdir_84 : decode cX0_mkdir 84 = .ok (.ireturn, 1) := by decide +kernel
abbrev cX0_directoryThere : ByteArray := prog_1_method_6_code
def yX0_directoryThere : MethodName := ⟨RX0, "directoryThere", "(II)Z"⟩
theorem dX0_directoryThere_0 : decode cX0_directoryThere 0 = .ok (.iload_n 1, 1) := by decide +kernel
theorem dX0_directoryThere_1 : decode cX0_directoryThere 1 = .ok (.istore_n 3, 1) := by decide +kernel
theorem dX0_directoryThere_2 : decode cX0_directoryThere 2 = .ok (.iconst 0, 1) := by decide +kernel
theorem dX0_directoryThere_3 : decode cX0_directoryThere 3 = .ok (.istore 4, 2) := by decide +kernel
theorem dX0_directoryThere_5 : decode cX0_directoryThere 5 = .ok (.iload 4, 2) := by decide +kernel
theorem dX0_directoryThere_7 : decode cX0_directoryThere 7 = .ok (.bipush 10, 2) := by decide +kernel
theorem dX0_directoryThere_9 : decode cX0_directoryThere 9 = .ok (.if_icmp .ge 52, 3) := by decide +kernel
theorem dX0_directoryThere_12 : decode cX0_directoryThere 12 = .ok (.iload_n 3, 1) := by decide +kernel
theorem dX0_directoryThere_13 : decode cX0_directoryThere 13 = .ok (.ifCond .lt 48, 3) := by decide +kernel
theorem dX0_directoryThere_16 : decode cX0_directoryThere 16 = .ok (.aload_n 0, 1) := by decide +kernel
theorem dX0_directoryThere_17 : decode cX0_directoryThere 17 = .ok (.getfield 19, 3) := by decide +kernel
theorem dX0_directoryThere_20 : decode cX0_directoryThere 20 = .ok (.iload_n 3, 1) := by decide +kernel
theorem dX0_directoryThere_21 : decode cX0_directoryThere 21 = .ok (.iaload, 1) := by decide +kernel
theorem dX0_directoryThere_22 : decode cX0_directoryThere 22 = .ok (.iload_n 2, 1) := by decide +kernel
theorem dX0_directoryThere_23 : decode cX0_directoryThere 23 = .ok (.ishr, 1) := by decide +kernel
theorem dX0_directoryThere_24 : decode cX0_directoryThere 24 = .ok (.iconst 1, 1) := by decide +kernel
theorem dX0_directoryThere_25 : decode cX0_directoryThere 25 = .ok (.iand, 1) := by decide +kernel
theorem dX0_directoryThere_26 : decode cX0_directoryThere 26 = .ok (.iconst 1, 1) := by decide +kernel
theorem dX0_directoryThere_27 : decode cX0_directoryThere 27 = .ok (.if_icmp .ne 5, 3) := by decide +kernel
theorem dX0_directoryThere_30 : decode cX0_directoryThere 30 = .ok (.iconst 1, 1) := by decide +kernel
theorem dX0_directoryThere_31 : decode cX0_directoryThere 31 = .ok (.ireturn, 1) := by decide +kernel
theorem dX0_directoryThere_32 : decode cX0_directoryThere 32 = .ok (.aload_n 0, 1) := by decide +kernel
theorem dX0_directoryThere_33 : decode cX0_directoryThere 33 = .ok (.getfield 22, 3) := by decide +kernel
theorem dX0_directoryThere_36 : decode cX0_directoryThere 36 = .ok (.iload_n 3, 1) := by decide +kernel
theorem dX0_directoryThere_37 : decode cX0_directoryThere 37 = .ok (.iaload, 1) := by decide +kernel
theorem dX0_directoryThere_38 : decode cX0_directoryThere 38 = .ok (.iload_n 2, 1) := by decide +kernel
theorem dX0_directoryThere_39 : decode cX0_directoryThere 39 = .ok (.ishr, 1) := by decide +kernel
theorem dX0_directoryThere_40 : decode cX0_directoryThere 40 = .ok (.iconst 1, 1) := by decide +kernel
theorem dX0_directoryThere_41 : decode cX0_directoryThere 41 = .ok (.iand, 1) := by decide +kernel
theorem dX0_directoryThere_42 : decode cX0_directoryThere 42 = .ok (.iconst 1, 1) := by decide +kernel
theorem dX0_directoryThere_43 : decode cX0_directoryThere 43 = .ok (.if_icmp .ne 5, 3) := by decide +kernel
theorem dX0_directoryThere_46 : decode cX0_directoryThere 46 = .ok (.iconst 0, 1) := by decide +kernel
theorem dX0_directoryThere_47 : decode cX0_directoryThere 47 = .ok (.ireturn, 1) := by decide +kernel
theorem dX0_directoryThere_48 : decode cX0_directoryThere 48 = .ok (.aload_n 0, 1) := by decide +kernel
theorem dX0_directoryThere_49 : decode cX0_directoryThere 49 = .ok (.getfield 7, 3) := by decide +kernel
theorem dX0_directoryThere_52 : decode cX0_directoryThere 52 = .ok (.iload_n 3, 1) := by decide +kernel
theorem dX0_directoryThere_53 : decode cX0_directoryThere 53 = .ok (.iaload, 1) := by decide +kernel
theorem dX0_directoryThere_54 : decode cX0_directoryThere 54 = .ok (.istore_n 3, 1) := by decide +kernel
theorem dX0_directoryThere_55 : decode cX0_directoryThere 55 = .ok (.iinc 4 1, 3) := by decide +kernel
theorem dX0_directoryThere_58 : decode cX0_directoryThere 58 = .ok (.goto (-53), 3) := by decide +kernel
theorem dX0_directoryThere_61 : decode cX0_directoryThere 61 = .ok (.iconst 0, 1) := by decide +kernel
theorem dX0_directoryThere_62 : decode cX0_directoryThere 62 = .ok (.ireturn, 1) := by decide +kernel
abbrev cX0_rmdir : ByteArray := prog_1_method_15_code
def yX0_rmdir : MethodName := ⟨RX0, "rmdir", "(II)I"⟩
theorem dX0_rmdir_0 : decode cX0_rmdir 0 = .ok (.aload_n 0, 1) := by decide +kernel
theorem dX0_rmdir_1 : decode cX0_rmdir 1 = .ok (.iload_n 1, 1) := by decide +kernel
theorem dX0_rmdir_2 : decode cX0_rmdir 2 = .ok (.invokevirtual 40, 3) := by decide +kernel
theorem dX0_rmdir_5 : decode cX0_rmdir 5 = .ok (.istore_n 3, 1) := by decide +kernel
theorem dX0_rmdir_6 : decode cX0_rmdir 6 = .ok (.iload_n 3, 1) := by decide +kernel
theorem dX0_rmdir_7 : decode cX0_rmdir 7 = .ok (.ifCond .ge 5, 3) := by decide +kernel
theorem dX0_rmdir_10 : decode cX0_rmdir 10 = .ok (.iload_n 3, 1) := by decide +kernel
theorem dX0_rmdir_11 : decode cX0_rmdir 11 = .ok (.ireturn, 1) := by decide +kernel
theorem dX0_rmdir_12 : decode cX0_rmdir 12 = .ok (.iload_n 2, 1) := by decide +kernel
theorem dX0_rmdir_13 : decode cX0_rmdir 13 = .ok (.ifCond .lt 8, 3) := by decide +kernel
theorem dX0_rmdir_16 : decode cX0_rmdir 16 = .ok (.iload_n 2, 1) := by decide +kernel
theorem dX0_rmdir_17 : decode cX0_rmdir 17 = .ok (.iconst 1, 1) := by decide +kernel
theorem dX0_rmdir_18 : decode cX0_rmdir 18 = .ok (.if_icmp .le 5, 3) := by decide +kernel
theorem dX0_rmdir_21 : decode cX0_rmdir 21 = .ok (.iconst (-1), 1) := by decide +kernel
theorem dX0_rmdir_22 : decode cX0_rmdir 22 = .ok (.ireturn, 1) := by decide +kernel
theorem dX0_rmdir_23 : decode cX0_rmdir 23 = .ok (.aload_n 0, 1) := by decide +kernel
theorem dX0_rmdir_24 : decode cX0_rmdir 24 = .ok (.iload_n 1, 1) := by decide +kernel
theorem dX0_rmdir_25 : decode cX0_rmdir 25 = .ok (.invokevirtual 44, 3) := by decide +kernel
theorem dX0_rmdir_28 : decode cX0_rmdir 28 = .ok (.istore 4, 2) := by decide +kernel
theorem dX0_rmdir_30 : decode cX0_rmdir 30 = .ok (.aload_n 0, 1) := by decide +kernel
theorem dX0_rmdir_31 : decode cX0_rmdir 31 = .ok (.iload 4, 2) := by decide +kernel
theorem dX0_rmdir_33 : decode cX0_rmdir 33 = .ok (.iload_n 2, 1) := by decide +kernel
theorem dX0_rmdir_34 : decode cX0_rmdir 34 = .ok (.invokevirtual 51, 3) := by decide +kernel
theorem dX0_rmdir_37 : decode cX0_rmdir 37 = .ok (.istore 5, 2) := by decide +kernel
theorem dX0_rmdir_39 : decode cX0_rmdir 39 = .ok (.iload 5, 2) := by decide +kernel
theorem dX0_rmdir_41 : decode cX0_rmdir 41 = .ok (.ifCond .ne 6, 3) := by decide +kernel
theorem dX0_rmdir_44 : decode cX0_rmdir 44 = .ok (.bipush (-4), 2) := by decide +kernel
theorem dX0_rmdir_46 : decode cX0_rmdir 46 = .ok (.ireturn, 1) := by decide +kernel
theorem dX0_rmdir_47 : decode cX0_rmdir 47 = .ok (.aload_n 0, 1) := by decide +kernel
theorem dX0_rmdir_48 : decode cX0_rmdir 48 = .ok (.iload 4, 2) := by decide +kernel
theorem dX0_rmdir_50 : decode cX0_rmdir 50 = .ok (.invokevirtual 55, 3) := by decide +kernel
theorem dX0_rmdir_53 : decode cX0_rmdir 53 = .ok (.istore 6, 2) := by decide +kernel
theorem dX0_rmdir_55 : decode cX0_rmdir 55 = .ok (.iload 6, 2) := by decide +kernel
theorem dX0_rmdir_57 : decode cX0_rmdir 57 = .ok (.aload_n 0, 1) := by decide +kernel
theorem dX0_rmdir_58 : decode cX0_rmdir 58 = .ok (.iload_n 2, 1) := by decide +kernel
theorem dX0_rmdir_59 : decode cX0_rmdir 59 = .ok (.invokevirtual 58, 3) := by decide +kernel
theorem dX0_rmdir_62 : decode cX0_rmdir 62 = .ok (.iand, 1) := by decide +kernel
theorem dX0_rmdir_63 : decode cX0_rmdir 63 = .ok (.istore 7, 2) := by decide +kernel
theorem dX0_rmdir_65 : decode cX0_rmdir 65 = .ok (.aload_n 0, 1) := by decide +kernel
theorem dX0_rmdir_66 : decode cX0_rmdir 66 = .ok (.getfield 13, 3) := by decide +kernel
theorem dX0_rmdir_69 : decode cX0_rmdir 69 = .ok (.iload 4, 2) := by decide +kernel
theorem dX0_rmdir_71 : decode cX0_rmdir 71 = .ok (.aload_n 0, 1) := by decide +kernel
theorem dX0_rmdir_72 : decode cX0_rmdir 72 = .ok (.getfield 13, 3) := by decide +kernel
theorem dX0_rmdir_75 : decode cX0_rmdir 75 = .ok (.iload 4, 2) := by decide +kernel
theorem dX0_rmdir_77 : decode cX0_rmdir 77 = .ok (.iaload, 1) := by decide +kernel
theorem dX0_rmdir_78 : decode cX0_rmdir 78 = .ok (.aload_n 0, 1) := by decide +kernel
theorem dX0_rmdir_79 : decode cX0_rmdir 79 = .ok (.iload_n 2, 1) := by decide +kernel
theorem dX0_rmdir_80 : decode cX0_rmdir 80 = .ok (.invokevirtual 58, 3) := by decide +kernel
theorem dX0_rmdir_83 : decode cX0_rmdir 83 = .ok (.iconst (-1), 1) := by decide +kernel
theorem dX0_rmdir_84 : decode cX0_rmdir 84 = .ok (.ixor, 1) := by decide +kernel
theorem dX0_rmdir_85 : decode cX0_rmdir 85 = .ok (.iand, 1) := by decide +kernel
theorem dX0_rmdir_86 : decode cX0_rmdir 86 = .ok (.iastore, 1) := by decide +kernel
theorem dX0_rmdir_87 : decode cX0_rmdir 87 = .ok (.aload_n 0, 1) := by decide +kernel
theorem dX0_rmdir_88 : decode cX0_rmdir 88 = .ok (.getfield 16, 3) := by decide +kernel
theorem dX0_rmdir_91 : decode cX0_rmdir 91 = .ok (.iload 4, 2) := by decide +kernel
theorem dX0_rmdir_93 : decode cX0_rmdir 93 = .ok (.aload_n 0, 1) := by decide +kernel
theorem dX0_rmdir_94 : decode cX0_rmdir 94 = .ok (.getfield 16, 3) := by decide +kernel
theorem dX0_rmdir_97 : decode cX0_rmdir 97 = .ok (.iload 4, 2) := by decide +kernel
theorem dX0_rmdir_99 : decode cX0_rmdir 99 = .ok (.iaload, 1) := by decide +kernel
theorem dX0_rmdir_100 : decode cX0_rmdir 100 = .ok (.aload_n 0, 1) := by decide +kernel
theorem dX0_rmdir_101 : decode cX0_rmdir 101 = .ok (.iload_n 2, 1) := by decide +kernel
theorem dX0_rmdir_102 : decode cX0_rmdir 102 = .ok (.invokevirtual 58, 3) := by decide +kernel
theorem dX0_rmdir_105 : decode cX0_rmdir 105 = .ok (.iconst (-1), 1) := by decide +kernel
theorem dX0_rmdir_106 : decode cX0_rmdir 106 = .ok (.ixor, 1) := by decide +kernel
theorem dX0_rmdir_107 : decode cX0_rmdir 107 = .ok (.iand, 1) := by decide +kernel
theorem dX0_rmdir_108 : decode cX0_rmdir 108 = .ok (.iastore, 1) := by decide +kernel
theorem dX0_rmdir_109 : decode cX0_rmdir 109 = .ok (.aload_n 0, 1) := by decide +kernel
theorem dX0_rmdir_110 : decode cX0_rmdir 110 = .ok (.getfield 19, 3) := by decide +kernel
theorem dX0_rmdir_113 : decode cX0_rmdir 113 = .ok (.iload 4, 2) := by decide +kernel
theorem dX0_rmdir_115 : decode cX0_rmdir 115 = .ok (.aload_n 0, 1) := by decide +kernel
theorem dX0_rmdir_116 : decode cX0_rmdir 116 = .ok (.getfield 19, 3) := by decide +kernel
theorem dX0_rmdir_119 : decode cX0_rmdir 119 = .ok (.iload 4, 2) := by decide +kernel
theorem dX0_rmdir_121 : decode cX0_rmdir 121 = .ok (.iaload, 1) := by decide +kernel
theorem dX0_rmdir_122 : decode cX0_rmdir 122 = .ok (.iconst 1, 1) := by decide +kernel
theorem dX0_rmdir_123 : decode cX0_rmdir 123 = .ok (.iload_n 2, 1) := by decide +kernel
theorem dX0_rmdir_124 : decode cX0_rmdir 124 = .ok (.ishl, 1) := by decide +kernel
theorem dX0_rmdir_125 : decode cX0_rmdir 125 = .ok (.iconst (-1), 1) := by decide +kernel
theorem dX0_rmdir_126 : decode cX0_rmdir 126 = .ok (.ixor, 1) := by decide +kernel
theorem dX0_rmdir_127 : decode cX0_rmdir 127 = .ok (.iand, 1) := by decide +kernel
theorem dX0_rmdir_128 : decode cX0_rmdir 128 = .ok (.iastore, 1) := by decide +kernel
theorem dX0_rmdir_129 : decode cX0_rmdir 129 = .ok (.aload_n 0, 1) := by decide +kernel
theorem dX0_rmdir_130 : decode cX0_rmdir 130 = .ok (.getfield 22, 3) := by decide +kernel
theorem dX0_rmdir_133 : decode cX0_rmdir 133 = .ok (.iload 4, 2) := by decide +kernel
theorem dX0_rmdir_135 : decode cX0_rmdir 135 = .ok (.aload_n 0, 1) := by decide +kernel
theorem dX0_rmdir_136 : decode cX0_rmdir 136 = .ok (.getfield 22, 3) := by decide +kernel
theorem dX0_rmdir_139 : decode cX0_rmdir 139 = .ok (.iload 4, 2) := by decide +kernel
theorem dX0_rmdir_141 : decode cX0_rmdir 141 = .ok (.iaload, 1) := by decide +kernel
theorem dX0_rmdir_142 : decode cX0_rmdir 142 = .ok (.iconst 1, 1) := by decide +kernel
theorem dX0_rmdir_143 : decode cX0_rmdir 143 = .ok (.iload_n 2, 1) := by decide +kernel
theorem dX0_rmdir_144 : decode cX0_rmdir 144 = .ok (.ishl, 1) := by decide +kernel
theorem dX0_rmdir_145 : decode cX0_rmdir 145 = .ok (.ior, 1) := by decide +kernel
theorem dX0_rmdir_146 : decode cX0_rmdir 146 = .ok (.iastore, 1) := by decide +kernel
theorem dX0_rmdir_147 : decode cX0_rmdir 147 = .ok (.aload_n 0, 1) := by decide +kernel
theorem dX0_rmdir_148 : decode cX0_rmdir 148 = .ok (.iload 7, 2) := by decide +kernel
theorem dX0_rmdir_150 : decode cX0_rmdir 150 = .ok (.invokevirtual 61, 3) := by decide +kernel
theorem dX0_rmdir_153 : decode cX0_rmdir 153 = .ok (.ireturn, 1) := by decide +kernel
abbrev cX0_filesSeen : ByteArray := prog_1_method_8_code
def yX0_filesSeen : MethodName := ⟨RX0, "filesSeen", "(I)I"⟩
theorem dX0_filesSeen_0 : decode cX0_filesSeen 0 = .ok (.iconst 0, 1) := by decide +kernel
theorem dX0_filesSeen_1 : decode cX0_filesSeen 1 = .ok (.istore_n 2, 1) := by decide +kernel
theorem dX0_filesSeen_2 : decode cX0_filesSeen 2 = .ok (.iconst 0, 1) := by decide +kernel
theorem dX0_filesSeen_3 : decode cX0_filesSeen 3 = .ok (.istore_n 3, 1) := by decide +kernel
theorem dX0_filesSeen_4 : decode cX0_filesSeen 4 = .ok (.iload_n 3, 1) := by decide +kernel
theorem dX0_filesSeen_5 : decode cX0_filesSeen 5 = .ok (.bipush 8, 2) := by decide +kernel
theorem dX0_filesSeen_7 : decode cX0_filesSeen 7 = .ok (.if_icmp .ge 28, 3) := by decide +kernel
theorem dX0_filesSeen_10 : decode cX0_filesSeen 10 = .ok (.aload_n 0, 1) := by decide +kernel
theorem dX0_filesSeen_11 : decode cX0_filesSeen 11 = .ok (.iload_n 1, 1) := by decide +kernel
theorem dX0_filesSeen_12 : decode cX0_filesSeen 12 = .ok (.iload_n 3, 1) := by decide +kernel
theorem dX0_filesSeen_13 : decode cX0_filesSeen 13 = .ok (.invokevirtual 36, 3) := by decide +kernel
theorem dX0_filesSeen_16 : decode cX0_filesSeen 16 = .ok (.istore 4, 2) := by decide +kernel
theorem dX0_filesSeen_18 : decode cX0_filesSeen 18 = .ok (.iload 4, 2) := by decide +kernel
theorem dX0_filesSeen_20 : decode cX0_filesSeen 20 = .ok (.ifCond .lt 9, 3) := by decide +kernel
theorem dX0_filesSeen_23 : decode cX0_filesSeen 23 = .ok (.iload_n 2, 1) := by decide +kernel
theorem dX0_filesSeen_24 : decode cX0_filesSeen 24 = .ok (.iconst 1, 1) := by decide +kernel
theorem dX0_filesSeen_25 : decode cX0_filesSeen 25 = .ok (.iload_n 3, 1) := by decide +kernel
theorem dX0_filesSeen_26 : decode cX0_filesSeen 26 = .ok (.ishl, 1) := by decide +kernel
theorem dX0_filesSeen_27 : decode cX0_filesSeen 27 = .ok (.ior, 1) := by decide +kernel
theorem dX0_filesSeen_28 : decode cX0_filesSeen 28 = .ok (.istore_n 2, 1) := by decide +kernel
theorem dX0_filesSeen_29 : decode cX0_filesSeen 29 = .ok (.iinc 3 1, 3) := by decide +kernel
theorem dX0_filesSeen_32 : decode cX0_filesSeen 32 = .ok (.goto (-28), 3) := by decide +kernel
theorem dX0_filesSeen_35 : decode cX0_filesSeen 35 = .ok (.iload_n 2, 1) := by decide +kernel
theorem dX0_filesSeen_36 : decode cX0_filesSeen 36 = .ok (.ireturn, 1) := by decide +kernel
abbrev cX0_holder : ByteArray := prog_1_method_7_code
def yX0_holder : MethodName := ⟨RX0, "holder", "(II)I"⟩
theorem dX0_holder_0 : decode cX0_holder 0 = .ok (.iload_n 2, 1) := by decide +kernel
theorem dX0_holder_1 : decode cX0_holder 1 = .ok (.iconst 2, 1) := by decide +kernel
theorem dX0_holder_2 : decode cX0_holder 2 = .ok (.ishr, 1) := by decide +kernel
theorem dX0_holder_3 : decode cX0_holder 3 = .ok (.istore_n 3, 1) := by decide +kernel
theorem dX0_holder_4 : decode cX0_holder 4 = .ok (.iload_n 1, 1) := by decide +kernel
theorem dX0_holder_5 : decode cX0_holder 5 = .ok (.istore 4, 2) := by decide +kernel
theorem dX0_holder_7 : decode cX0_holder 7 = .ok (.iconst 0, 1) := by decide +kernel
theorem dX0_holder_8 : decode cX0_holder 8 = .ok (.istore 5, 2) := by decide +kernel
theorem dX0_holder_10 : decode cX0_holder 10 = .ok (.iload 5, 2) := by decide +kernel
theorem dX0_holder_12 : decode cX0_holder 12 = .ok (.bipush 10, 2) := by decide +kernel
theorem dX0_holder_14 : decode cX0_holder 14 = .ok (.if_icmp .ge 73, 3) := by decide +kernel
theorem dX0_holder_17 : decode cX0_holder 17 = .ok (.iload 4, 2) := by decide +kernel
theorem dX0_holder_19 : decode cX0_holder 19 = .ok (.ifCond .lt 68, 3) := by decide +kernel
theorem dX0_holder_22 : decode cX0_holder 22 = .ok (.aload_n 0, 1) := by decide +kernel
theorem dX0_holder_23 : decode cX0_holder 23 = .ok (.getfield 13, 3) := by decide +kernel
theorem dX0_holder_26 : decode cX0_holder 26 = .ok (.iload 4, 2) := by decide +kernel
theorem dX0_holder_28 : decode cX0_holder 28 = .ok (.iaload, 1) := by decide +kernel
theorem dX0_holder_29 : decode cX0_holder 29 = .ok (.iload_n 2, 1) := by decide +kernel
theorem dX0_holder_30 : decode cX0_holder 30 = .ok (.ishr, 1) := by decide +kernel
theorem dX0_holder_31 : decode cX0_holder 31 = .ok (.iconst 1, 1) := by decide +kernel
theorem dX0_holder_32 : decode cX0_holder 32 = .ok (.iand, 1) := by decide +kernel
theorem dX0_holder_33 : decode cX0_holder 33 = .ok (.iconst 1, 1) := by decide +kernel
theorem dX0_holder_34 : decode cX0_holder 34 = .ok (.if_icmp .ne 6, 3) := by decide +kernel
theorem dX0_holder_37 : decode cX0_holder 37 = .ok (.iload 4, 2) := by decide +kernel
theorem dX0_holder_39 : decode cX0_holder 39 = .ok (.ireturn, 1) := by decide +kernel
theorem dX0_holder_40 : decode cX0_holder 40 = .ok (.aload_n 0, 1) := by decide +kernel
theorem dX0_holder_41 : decode cX0_holder 41 = .ok (.getfield 16, 3) := by decide +kernel
theorem dX0_holder_44 : decode cX0_holder 44 = .ok (.iload 4, 2) := by decide +kernel
theorem dX0_holder_46 : decode cX0_holder 46 = .ok (.iaload, 1) := by decide +kernel
theorem dX0_holder_47 : decode cX0_holder 47 = .ok (.iload_n 2, 1) := by decide +kernel
theorem dX0_holder_48 : decode cX0_holder 48 = .ok (.ishr, 1) := by decide +kernel
theorem dX0_holder_49 : decode cX0_holder 49 = .ok (.iconst 1, 1) := by decide +kernel
theorem dX0_holder_50 : decode cX0_holder 50 = .ok (.iand, 1) := by decide +kernel
theorem dX0_holder_51 : decode cX0_holder 51 = .ok (.iconst 1, 1) := by decide +kernel
theorem dX0_holder_52 : decode cX0_holder 52 = .ok (.if_icmp .eq 18, 3) := by decide +kernel
theorem dX0_holder_55 : decode cX0_holder 55 = .ok (.aload_n 0, 1) := by decide +kernel
theorem dX0_holder_56 : decode cX0_holder 56 = .ok (.getfield 22, 3) := by decide +kernel
theorem dX0_holder_59 : decode cX0_holder 59 = .ok (.iload 4, 2) := by decide +kernel
theorem dX0_holder_61 : decode cX0_holder 61 = .ok (.iaload, 1) := by decide +kernel
theorem dX0_holder_62 : decode cX0_holder 62 = .ok (.iload_n 3, 1) := by decide +kernel
theorem dX0_holder_63 : decode cX0_holder 63 = .ok (.ishr, 1) := by decide +kernel
theorem dX0_holder_64 : decode cX0_holder 64 = .ok (.iconst 1, 1) := by decide +kernel
theorem dX0_holder_65 : decode cX0_holder 65 = .ok (.iand, 1) := by decide +kernel
theorem dX0_holder_66 : decode cX0_holder 66 = .ok (.iconst 1, 1) := by decide +kernel
theorem dX0_holder_67 : decode cX0_holder 67 = .ok (.if_icmp .ne 5, 3) := by decide +kernel
theorem dX0_holder_70 : decode cX0_holder 70 = .ok (.iconst (-1), 1) := by decide +kernel
theorem dX0_holder_71 : decode cX0_holder 71 = .ok (.ireturn, 1) := by decide +kernel
theorem dX0_holder_72 : decode cX0_holder 72 = .ok (.aload_n 0, 1) := by decide +kernel
theorem dX0_holder_73 : decode cX0_holder 73 = .ok (.getfield 7, 3) := by decide +kernel
theorem dX0_holder_76 : decode cX0_holder 76 = .ok (.iload 4, 2) := by decide +kernel
theorem dX0_holder_78 : decode cX0_holder 78 = .ok (.iaload, 1) := by decide +kernel
theorem dX0_holder_79 : decode cX0_holder 79 = .ok (.istore 4, 2) := by decide +kernel
theorem dX0_holder_81 : decode cX0_holder 81 = .ok (.iinc 5 1, 3) := by decide +kernel
theorem dX0_holder_84 : decode cX0_holder 84 = .ok (.goto (-74), 3) := by decide +kernel
theorem dX0_holder_87 : decode cX0_holder 87 = .ok (.iconst (-1), 1) := by decide +kernel
theorem dX0_holder_88 : decode cX0_holder 88 = .ok (.ireturn, 1) := by decide +kernel
abbrev cX0_filesOf : ByteArray := prog_1_method_11_code
def yX0_filesOf : MethodName := ⟨RX0, "filesOf", "(I)I"⟩
theorem dX0_filesOf_0 : decode cX0_filesOf 0 = .ok (.bipush 15, 2) := by decide +kernel
theorem dX0_filesOf_2 : decode cX0_filesOf 2 = .ok (.iconst 4, 1) := by decide +kernel
theorem dX0_filesOf_3 : decode cX0_filesOf 3 = .ok (.iload_n 1, 1) := by decide +kernel
theorem dX0_filesOf_4 : decode cX0_filesOf 4 = .ok (.imul, 1) := by decide +kernel
theorem dX0_filesOf_5 : decode cX0_filesOf 5 = .ok (.ishl, 1) := by decide +kernel
theorem dX0_filesOf_6 : decode cX0_filesOf 6 = .ok (.ireturn, 1) := by decide +kernel
abbrev cX0_sizeOf : ByteArray := prog_1_method_16_code
def yX0_sizeOf : MethodName := ⟨RX0, "sizeOf", "(I)I"⟩
theorem dX0_sizeOf_0 : decode cX0_sizeOf 0 = .ok (.iconst 0, 1) := by decide +kernel
theorem dX0_sizeOf_1 : decode cX0_sizeOf 1 = .ok (.istore_n 2, 1) := by decide +kernel
theorem dX0_sizeOf_2 : decode cX0_sizeOf 2 = .ok (.iconst 0, 1) := by decide +kernel
theorem dX0_sizeOf_3 : decode cX0_sizeOf 3 = .ok (.istore_n 3, 1) := by decide +kernel
theorem dX0_sizeOf_4 : decode cX0_sizeOf 4 = .ok (.iload_n 3, 1) := by decide +kernel
theorem dX0_sizeOf_5 : decode cX0_sizeOf 5 = .ok (.bipush 8, 2) := by decide +kernel
theorem dX0_sizeOf_7 : decode cX0_sizeOf 7 = .ok (.if_icmp .ge 17, 3) := by decide +kernel
theorem dX0_sizeOf_10 : decode cX0_sizeOf 10 = .ok (.iload_n 2, 1) := by decide +kernel
theorem dX0_sizeOf_11 : decode cX0_sizeOf 11 = .ok (.iload_n 1, 1) := by decide +kernel
theorem dX0_sizeOf_12 : decode cX0_sizeOf 12 = .ok (.iload_n 3, 1) := by decide +kernel
theorem dX0_sizeOf_13 : decode cX0_sizeOf 13 = .ok (.ishr, 1) := by decide +kernel
theorem dX0_sizeOf_14 : decode cX0_sizeOf 14 = .ok (.iconst 1, 1) := by decide +kernel
theorem dX0_sizeOf_15 : decode cX0_sizeOf 15 = .ok (.iand, 1) := by decide +kernel
theorem dX0_sizeOf_16 : decode cX0_sizeOf 16 = .ok (.iadd, 1) := by decide +kernel
theorem dX0_sizeOf_17 : decode cX0_sizeOf 17 = .ok (.istore_n 2, 1) := by decide +kernel
theorem dX0_sizeOf_18 : decode cX0_sizeOf 18 = .ok (.iinc 3 1, 3) := by decide +kernel
theorem dX0_sizeOf_21 : decode cX0_sizeOf 21 = .ok (.goto (-17), 3) := by decide +kernel
theorem dX0_sizeOf_24 : decode cX0_sizeOf 24 = .ok (.iload_n 2, 1) := by decide +kernel
theorem dX0_sizeOf_25 : decode cX0_sizeOf 25 = .ok (.ireturn, 1) := by decide +kernel
abbrev cX0_write : ByteArray := prog_1_method_17_code
def yX0_write : MethodName := ⟨RX0, "write", "(III)I"⟩
theorem dX0_write_0 : decode cX0_write 0 = .ok (.aload_n 0, 1) := by decide +kernel
theorem dX0_write_1 : decode cX0_write 1 = .ok (.iload_n 1, 1) := by decide +kernel
theorem dX0_write_2 : decode cX0_write 2 = .ok (.invokevirtual 40, 3) := by decide +kernel
theorem dX0_write_5 : decode cX0_write 5 = .ok (.istore 4, 2) := by decide +kernel
theorem dX0_write_7 : decode cX0_write 7 = .ok (.iload 4, 2) := by decide +kernel
theorem dX0_write_9 : decode cX0_write 9 = .ok (.ifCond .ge 6, 3) := by decide +kernel
theorem dX0_write_12 : decode cX0_write 12 = .ok (.iload 4, 2) := by decide +kernel
theorem dX0_write_14 : decode cX0_write 14 = .ok (.ireturn, 1) := by decide +kernel
theorem dX0_write_15 : decode cX0_write 15 = .ok (.aload_n 0, 1) := by decide +kernel
theorem dX0_write_16 : decode cX0_write 16 = .ok (.iload_n 2, 1) := by decide +kernel
theorem dX0_write_17 : decode cX0_write 17 = .ok (.invokevirtual 64, 3) := by decide +kernel
theorem dX0_write_20 : decode cX0_write 20 = .ok (.ifCond .eq 5, 3) := by decide +kernel
theorem dX0_write_23 : decode cX0_write 23 = .ok (.iconst (-1), 1) := by decide +kernel
theorem dX0_write_24 : decode cX0_write 24 = .ok (.ireturn, 1) := by decide +kernel
theorem dX0_write_25 : decode cX0_write 25 = .ok (.aload_n 0, 1) := by decide +kernel
theorem dX0_write_26 : decode cX0_write 26 = .ok (.iload_n 1, 1) := by decide +kernel
theorem dX0_write_27 : decode cX0_write 27 = .ok (.invokevirtual 44, 3) := by decide +kernel
theorem dX0_write_30 : decode cX0_write 30 = .ok (.istore 5, 2) := by decide +kernel
theorem dX0_write_32 : decode cX0_write 32 = .ok (.aload_n 0, 1) := by decide +kernel
theorem dX0_write_33 : decode cX0_write 33 = .ok (.iload 5, 2) := by decide +kernel
theorem dX0_write_35 : decode cX0_write 35 = .ok (.iload_n 2, 1) := by decide +kernel
theorem dX0_write_36 : decode cX0_write 36 = .ok (.iconst 2, 1) := by decide +kernel
theorem dX0_write_37 : decode cX0_write 37 = .ok (.ishr, 1) := by decide +kernel
theorem dX0_write_38 : decode cX0_write 38 = .ok (.invokevirtual 51, 3) := by decide +kernel
theorem dX0_write_41 : decode cX0_write 41 = .ok (.istore 6, 2) := by decide +kernel
theorem dX0_write_43 : decode cX0_write 43 = .ok (.iload 6, 2) := by decide +kernel
theorem dX0_write_45 : decode cX0_write 45 = .ok (.ifCond .ne 6, 3) := by decide +kernel
theorem dX0_write_48 : decode cX0_write 48 = .ok (.bipush (-4), 2) := by decide +kernel
theorem dX0_write_50 : decode cX0_write 50 = .ok (.ireturn, 1) := by decide +kernel
theorem dX0_write_51 : decode cX0_write 51 = .ok (.aload_n 0, 1) := by decide +kernel
theorem dX0_write_52 : decode cX0_write 52 = .ok (.iload 5, 2) := by decide +kernel
theorem dX0_write_54 : decode cX0_write 54 = .ok (.iload_n 2, 1) := by decide +kernel
theorem dX0_write_55 : decode cX0_write 55 = .ok (.invokevirtual 36, 3) := by decide +kernel
theorem dX0_write_58 : decode cX0_write 58 = .ok (.istore 7, 2) := by decide +kernel
theorem dX0_write_60 : decode cX0_write 60 = .ok (.aload_n 0, 1) := by decide +kernel
theorem dX0_write_61 : decode cX0_write 61 = .ok (.iload 5, 2) := by decide +kernel
theorem dX0_write_63 : decode cX0_write 63 = .ok (.iload_n 2, 1) := by decide +kernel
theorem dX0_write_64 : decode cX0_write 64 = .ok (.iload_n 3, 1) := by decide +kernel
theorem dX0_write_65 : decode cX0_write 65 = .ok (.invokevirtual 68, 3) := by decide +kernel
theorem dX0_write_68 : decode cX0_write 68 = .ok (.iload 7, 2) := by decide +kernel
theorem dX0_write_70 : decode cX0_write 70 = .ok (.ifCond .ge 7, 3) := by decide +kernel
theorem dX0_write_73 : decode cX0_write 73 = .ok (.iconst 0, 1) := by decide +kernel
theorem dX0_write_74 : decode cX0_write 74 = .ok (.goto 4, 3) := by decide +kernel
theorem dX0_write_77 : decode cX0_write 77 = .ok (.iconst 1, 1) := by decide +kernel
theorem dX0_write_78 : decode cX0_write 78 = .ok (.ireturn, 1) := by decide +kernel
abbrev cX0_badFile : ByteArray := prog_1_method_4_code
def yX0_badFile : MethodName := ⟨RX0, "badFile", "(I)Z"⟩
theorem dX0_badFile_0 : decode cX0_badFile 0 = .ok (.iload_n 1, 1) := by decide +kernel
theorem dX0_badFile_1 : decode cX0_badFile 1 = .ok (.ifCond .lt 9, 3) := by decide +kernel
theorem dX0_badFile_4 : decode cX0_badFile 4 = .ok (.iload_n 1, 1) := by decide +kernel
theorem dX0_badFile_5 : decode cX0_badFile 5 = .ok (.bipush 8, 2) := by decide +kernel
theorem dX0_badFile_7 : decode cX0_badFile 7 = .ok (.if_icmp .lt 7, 3) := by decide +kernel
theorem dX0_badFile_10 : decode cX0_badFile 10 = .ok (.iconst 1, 1) := by decide +kernel
theorem dX0_badFile_11 : decode cX0_badFile 11 = .ok (.goto 4, 3) := by decide +kernel
theorem dX0_badFile_14 : decode cX0_badFile 14 = .ok (.iconst 0, 1) := by decide +kernel
theorem dX0_badFile_15 : decode cX0_badFile 15 = .ok (.ireturn, 1) := by decide +kernel
abbrev cX0_setFile : ByteArray := prog_1_method_9_code
def yX0_setFile : MethodName := ⟨RX0, "setFile", "(III)V"⟩
theorem dX0_setFile_0 : decode cX0_setFile 0 = .ok (.aload_n 0, 1) := by decide +kernel
theorem dX0_setFile_1 : decode cX0_setFile 1 = .ok (.getfield 13, 3) := by decide +kernel
theorem dX0_setFile_4 : decode cX0_setFile 4 = .ok (.iload_n 1, 1) := by decide +kernel
theorem dX0_setFile_5 : decode cX0_setFile 5 = .ok (.aload_n 0, 1) := by decide +kernel
theorem dX0_setFile_6 : decode cX0_setFile 6 = .ok (.getfield 13, 3) := by decide +kernel
theorem dX0_setFile_9 : decode cX0_setFile 9 = .ok (.iload_n 1, 1) := by decide +kernel
theorem dX0_setFile_10 : decode cX0_setFile 10 = .ok (.iaload, 1) := by decide +kernel
theorem dX0_setFile_11 : decode cX0_setFile 11 = .ok (.iconst 1, 1) := by decide +kernel
theorem dX0_setFile_12 : decode cX0_setFile 12 = .ok (.iload_n 2, 1) := by decide +kernel
theorem dX0_setFile_13 : decode cX0_setFile 13 = .ok (.ishl, 1) := by decide +kernel
theorem dX0_setFile_14 : decode cX0_setFile 14 = .ok (.ior, 1) := by decide +kernel
theorem dX0_setFile_15 : decode cX0_setFile 15 = .ok (.iastore, 1) := by decide +kernel
theorem dX0_setFile_16 : decode cX0_setFile 16 = .ok (.aload_n 0, 1) := by decide +kernel
theorem dX0_setFile_17 : decode cX0_setFile 17 = .ok (.getfield 16, 3) := by decide +kernel
theorem dX0_setFile_20 : decode cX0_setFile 20 = .ok (.iload_n 1, 1) := by decide +kernel
theorem dX0_setFile_21 : decode cX0_setFile 21 = .ok (.aload_n 0, 1) := by decide +kernel
theorem dX0_setFile_22 : decode cX0_setFile 22 = .ok (.getfield 16, 3) := by decide +kernel
theorem dX0_setFile_25 : decode cX0_setFile 25 = .ok (.iload_n 1, 1) := by decide +kernel
theorem dX0_setFile_26 : decode cX0_setFile 26 = .ok (.iaload, 1) := by decide +kernel
theorem dX0_setFile_27 : decode cX0_setFile 27 = .ok (.iconst 1, 1) := by decide +kernel
theorem dX0_setFile_28 : decode cX0_setFile 28 = .ok (.iload_n 2, 1) := by decide +kernel
theorem dX0_setFile_29 : decode cX0_setFile 29 = .ok (.ishl, 1) := by decide +kernel
theorem dX0_setFile_30 : decode cX0_setFile 30 = .ok (.iconst (-1), 1) := by decide +kernel
theorem dX0_setFile_31 : decode cX0_setFile 31 = .ok (.ixor, 1) := by decide +kernel
theorem dX0_setFile_32 : decode cX0_setFile 32 = .ok (.iand, 1) := by decide +kernel
theorem dX0_setFile_33 : decode cX0_setFile 33 = .ok (.iastore, 1) := by decide +kernel
theorem dX0_setFile_34 : decode cX0_setFile 34 = .ok (.aload_n 0, 1) := by decide +kernel
theorem dX0_setFile_35 : decode cX0_setFile 35 = .ok (.getfield 25, 3) := by decide +kernel
theorem dX0_setFile_38 : decode cX0_setFile 38 = .ok (.iload_n 1, 1) := by decide +kernel
theorem dX0_setFile_39 : decode cX0_setFile 39 = .ok (.bipush 8, 2) := by decide +kernel
theorem dX0_setFile_41 : decode cX0_setFile 41 = .ok (.imul, 1) := by decide +kernel
theorem dX0_setFile_42 : decode cX0_setFile 42 = .ok (.iload_n 2, 1) := by decide +kernel
theorem dX0_setFile_43 : decode cX0_setFile 43 = .ok (.iadd, 1) := by decide +kernel
theorem dX0_setFile_44 : decode cX0_setFile 44 = .ok (.iload_n 3, 1) := by decide +kernel
theorem dX0_setFile_45 : decode cX0_setFile 45 = .ok (.iastore, 1) := by decide +kernel
theorem dX0_setFile_46 : decode cX0_setFile 46 = .ok (.return_, 1) := by decide +kernel
abbrev cX0_grow : ByteArray := prog_1_method_18_code
def yX0_grow : MethodName := ⟨RX0, "grow", "(III)I"⟩
theorem dX0_grow_0 : decode cX0_grow 0 = .ok (.aload_n 0, 1) := by decide +kernel
theorem dX0_grow_1 : decode cX0_grow 1 = .ok (.iload_n 1, 1) := by decide +kernel
theorem dX0_grow_2 : decode cX0_grow 2 = .ok (.invokevirtual 40, 3) := by decide +kernel
theorem dX0_grow_5 : decode cX0_grow 5 = .ok (.istore 4, 2) := by decide +kernel
theorem dX0_grow_7 : decode cX0_grow 7 = .ok (.iload 4, 2) := by decide +kernel
theorem dX0_grow_9 : decode cX0_grow 9 = .ok (.ifCond .ge 6, 3) := by decide +kernel
theorem dX0_grow_12 : decode cX0_grow 12 = .ok (.iload 4, 2) := by decide +kernel
theorem dX0_grow_14 : decode cX0_grow 14 = .ok (.ireturn, 1) := by decide +kernel
theorem dX0_grow_15 : decode cX0_grow 15 = .ok (.aload_n 0, 1) := by decide +kernel
theorem dX0_grow_16 : decode cX0_grow 16 = .ok (.iload_n 2, 1) := by decide +kernel
theorem dX0_grow_17 : decode cX0_grow 17 = .ok (.invokevirtual 64, 3) := by decide +kernel
theorem dX0_grow_20 : decode cX0_grow 20 = .ok (.ifCond .eq 5, 3) := by decide +kernel
theorem dX0_grow_23 : decode cX0_grow 23 = .ok (.iconst (-1), 1) := by decide +kernel
theorem dX0_grow_24 : decode cX0_grow 24 = .ok (.ireturn, 1) := by decide +kernel
theorem dX0_grow_25 : decode cX0_grow 25 = .ok (.aload_n 0, 1) := by decide +kernel
theorem dX0_grow_26 : decode cX0_grow 26 = .ok (.iload_n 1, 1) := by decide +kernel
theorem dX0_grow_27 : decode cX0_grow 27 = .ok (.invokevirtual 44, 3) := by decide +kernel
theorem dX0_grow_30 : decode cX0_grow 30 = .ok (.istore 5, 2) := by decide +kernel
theorem dX0_grow_32 : decode cX0_grow 32 = .ok (.aload_n 0, 1) := by decide +kernel
theorem dX0_grow_33 : decode cX0_grow 33 = .ok (.iload 5, 2) := by decide +kernel
theorem dX0_grow_35 : decode cX0_grow 35 = .ok (.iload_n 2, 1) := by decide +kernel
theorem dX0_grow_36 : decode cX0_grow 36 = .ok (.invokevirtual 36, 3) := by decide +kernel
theorem dX0_grow_39 : decode cX0_grow 39 = .ok (.istore 6, 2) := by decide +kernel
theorem dX0_grow_41 : decode cX0_grow 41 = .ok (.iload 6, 2) := by decide +kernel
theorem dX0_grow_43 : decode cX0_grow 43 = .ok (.ifCond .ge 6, 3) := by decide +kernel
theorem dX0_grow_46 : decode cX0_grow 46 = .ok (.bipush (-4), 2) := by decide +kernel
theorem dX0_grow_48 : decode cX0_grow 48 = .ok (.ireturn, 1) := by decide +kernel
theorem dX0_grow_49 : decode cX0_grow 49 = .ok (.aload_n 0, 1) := by decide +kernel
theorem dX0_grow_50 : decode cX0_grow 50 = .ok (.iload 5, 2) := by decide +kernel
theorem dX0_grow_52 : decode cX0_grow 52 = .ok (.iload_n 2, 1) := by decide +kernel
theorem dX0_grow_53 : decode cX0_grow 53 = .ok (.aload_n 0, 1) := by decide +kernel
theorem dX0_grow_54 : decode cX0_grow 54 = .ok (.getfield 25, 3) := by decide +kernel
theorem dX0_grow_57 : decode cX0_grow 57 = .ok (.iload 6, 2) := by decide +kernel
theorem dX0_grow_59 : decode cX0_grow 59 = .ok (.bipush 8, 2) := by decide +kernel
theorem dX0_grow_61 : decode cX0_grow 61 = .ok (.imul, 1) := by decide +kernel
theorem dX0_grow_62 : decode cX0_grow 62 = .ok (.iload_n 2, 1) := by decide +kernel
theorem dX0_grow_63 : decode cX0_grow 63 = .ok (.iadd, 1) := by decide +kernel
theorem dX0_grow_64 : decode cX0_grow 64 = .ok (.iaload, 1) := by decide +kernel
theorem dX0_grow_65 : decode cX0_grow 65 = .ok (.iload_n 3, 1) := by decide +kernel
theorem dX0_grow_66 : decode cX0_grow 66 = .ok (.iadd, 1) := by decide +kernel
theorem dX0_grow_67 : decode cX0_grow 67 = .ok (.invokevirtual 68, 3) := by decide +kernel
theorem dX0_grow_70 : decode cX0_grow 70 = .ok (.iconst 0, 1) := by decide +kernel
theorem dX0_grow_71 : decode cX0_grow 71 = .ok (.ireturn, 1) := by decide +kernel
abbrev cX0_remove : ByteArray := prog_1_method_19_code
def yX0_remove : MethodName := ⟨RX0, "remove", "(II)I"⟩
theorem dX0_remove_0 : decode cX0_remove 0 = .ok (.aload_n 0, 1) := by decide +kernel
theorem dX0_remove_1 : decode cX0_remove 1 = .ok (.iload_n 1, 1) := by decide +kernel
theorem dX0_remove_2 : decode cX0_remove 2 = .ok (.invokevirtual 40, 3) := by decide +kernel
theorem dX0_remove_5 : decode cX0_remove 5 = .ok (.istore_n 3, 1) := by decide +kernel
theorem dX0_remove_6 : decode cX0_remove 6 = .ok (.iload_n 3, 1) := by decide +kernel
theorem dX0_remove_7 : decode cX0_remove 7 = .ok (.ifCond .ge 5, 3) := by decide +kernel
theorem dX0_remove_10 : decode cX0_remove 10 = .ok (.iload_n 3, 1) := by decide +kernel
theorem dX0_remove_11 : decode cX0_remove 11 = .ok (.ireturn, 1) := by decide +kernel
theorem dX0_remove_12 : decode cX0_remove 12 = .ok (.aload_n 0, 1) := by decide +kernel
theorem dX0_remove_13 : decode cX0_remove 13 = .ok (.iload_n 2, 1) := by decide +kernel
theorem dX0_remove_14 : decode cX0_remove 14 = .ok (.invokevirtual 64, 3) := by decide +kernel
theorem dX0_remove_17 : decode cX0_remove 17 = .ok (.ifCond .eq 5, 3) := by decide +kernel
theorem dX0_remove_20 : decode cX0_remove 20 = .ok (.iconst (-1), 1) := by decide +kernel
theorem dX0_remove_21 : decode cX0_remove 21 = .ok (.ireturn, 1) := by decide +kernel
theorem dX0_remove_22 : decode cX0_remove 22 = .ok (.aload_n 0, 1) := by decide +kernel
theorem dX0_remove_23 : decode cX0_remove 23 = .ok (.iload_n 1, 1) := by decide +kernel
theorem dX0_remove_24 : decode cX0_remove 24 = .ok (.invokevirtual 44, 3) := by decide +kernel
theorem dX0_remove_27 : decode cX0_remove 27 = .ok (.istore 4, 2) := by decide +kernel
theorem dX0_remove_29 : decode cX0_remove 29 = .ok (.aload_n 0, 1) := by decide +kernel
theorem dX0_remove_30 : decode cX0_remove 30 = .ok (.iload 4, 2) := by decide +kernel
theorem dX0_remove_32 : decode cX0_remove 32 = .ok (.iload_n 2, 1) := by decide +kernel
theorem dX0_remove_33 : decode cX0_remove 33 = .ok (.invokevirtual 36, 3) := by decide +kernel
theorem dX0_remove_36 : decode cX0_remove 36 = .ok (.istore 5, 2) := by decide +kernel
theorem dX0_remove_38 : decode cX0_remove 38 = .ok (.iload 5, 2) := by decide +kernel
theorem dX0_remove_40 : decode cX0_remove 40 = .ok (.ifCond .ge 6, 3) := by decide +kernel
theorem dX0_remove_43 : decode cX0_remove 43 = .ok (.bipush (-4), 2) := by decide +kernel
theorem dX0_remove_45 : decode cX0_remove 45 = .ok (.ireturn, 1) := by decide +kernel
theorem dX0_remove_46 : decode cX0_remove 46 = .ok (.aload_n 0, 1) := by decide +kernel
theorem dX0_remove_47 : decode cX0_remove 47 = .ok (.iload 4, 2) := by decide +kernel
theorem dX0_remove_49 : decode cX0_remove 49 = .ok (.iload_n 2, 1) := by decide +kernel
theorem dX0_remove_50 : decode cX0_remove 50 = .ok (.invokevirtual 72, 3) := by decide +kernel
theorem dX0_remove_53 : decode cX0_remove 53 = .ok (.iconst 0, 1) := by decide +kernel
theorem dX0_remove_54 : decode cX0_remove 54 = .ok (.ireturn, 1) := by decide +kernel
abbrev cX0_clearFile : ByteArray := prog_1_method_10_code
def yX0_clearFile : MethodName := ⟨RX0, "clearFile", "(II)V"⟩
theorem dX0_clearFile_0 : decode cX0_clearFile 0 = .ok (.aload_n 0, 1) := by decide +kernel
theorem dX0_clearFile_1 : decode cX0_clearFile 1 = .ok (.getfield 13, 3) := by decide +kernel
theorem dX0_clearFile_4 : decode cX0_clearFile 4 = .ok (.iload_n 1, 1) := by decide +kernel
theorem dX0_clearFile_5 : decode cX0_clearFile 5 = .ok (.aload_n 0, 1) := by decide +kernel
theorem dX0_clearFile_6 : decode cX0_clearFile 6 = .ok (.getfield 13, 3) := by decide +kernel
theorem dX0_clearFile_9 : decode cX0_clearFile 9 = .ok (.iload_n 1, 1) := by decide +kernel
theorem dX0_clearFile_10 : decode cX0_clearFile 10 = .ok (.iaload, 1) := by decide +kernel
theorem dX0_clearFile_11 : decode cX0_clearFile 11 = .ok (.iconst 1, 1) := by decide +kernel
theorem dX0_clearFile_12 : decode cX0_clearFile 12 = .ok (.iload_n 2, 1) := by decide +kernel
theorem dX0_clearFile_13 : decode cX0_clearFile 13 = .ok (.ishl, 1) := by decide +kernel
theorem dX0_clearFile_14 : decode cX0_clearFile 14 = .ok (.iconst (-1), 1) := by decide +kernel
theorem dX0_clearFile_15 : decode cX0_clearFile 15 = .ok (.ixor, 1) := by decide +kernel
theorem dX0_clearFile_16 : decode cX0_clearFile 16 = .ok (.iand, 1) := by decide +kernel
theorem dX0_clearFile_17 : decode cX0_clearFile 17 = .ok (.iastore, 1) := by decide +kernel
theorem dX0_clearFile_18 : decode cX0_clearFile 18 = .ok (.aload_n 0, 1) := by decide +kernel
theorem dX0_clearFile_19 : decode cX0_clearFile 19 = .ok (.getfield 16, 3) := by decide +kernel
theorem dX0_clearFile_22 : decode cX0_clearFile 22 = .ok (.iload_n 1, 1) := by decide +kernel
theorem dX0_clearFile_23 : decode cX0_clearFile 23 = .ok (.aload_n 0, 1) := by decide +kernel
theorem dX0_clearFile_24 : decode cX0_clearFile 24 = .ok (.getfield 16, 3) := by decide +kernel
theorem dX0_clearFile_27 : decode cX0_clearFile 27 = .ok (.iload_n 1, 1) := by decide +kernel
theorem dX0_clearFile_28 : decode cX0_clearFile 28 = .ok (.iaload, 1) := by decide +kernel
theorem dX0_clearFile_29 : decode cX0_clearFile 29 = .ok (.iconst 1, 1) := by decide +kernel
theorem dX0_clearFile_30 : decode cX0_clearFile 30 = .ok (.iload_n 2, 1) := by decide +kernel
theorem dX0_clearFile_31 : decode cX0_clearFile 31 = .ok (.ishl, 1) := by decide +kernel
theorem dX0_clearFile_32 : decode cX0_clearFile 32 = .ok (.ior, 1) := by decide +kernel
theorem dX0_clearFile_33 : decode cX0_clearFile 33 = .ok (.iastore, 1) := by decide +kernel
theorem dX0_clearFile_34 : decode cX0_clearFile 34 = .ok (.return_, 1) := by decide +kernel
abbrev cX0_rename : ByteArray := prog_1_method_20_code
def yX0_rename : MethodName := ⟨RX0, "rename", "(III)I"⟩
theorem dX0_rename_0 : decode cX0_rename 0 = .ok (.aload_n 0, 1) := by decide +kernel
theorem dX0_rename_1 : decode cX0_rename 1 = .ok (.iload_n 1, 1) := by decide +kernel
theorem dX0_rename_2 : decode cX0_rename 2 = .ok (.invokevirtual 40, 3) := by decide +kernel
theorem dX0_rename_5 : decode cX0_rename 5 = .ok (.istore 4, 2) := by decide +kernel
theorem dX0_rename_7 : decode cX0_rename 7 = .ok (.iload 4, 2) := by decide +kernel
theorem dX0_rename_9 : decode cX0_rename 9 = .ok (.ifCond .ge 6, 3) := by decide +kernel
theorem dX0_rename_12 : decode cX0_rename 12 = .ok (.iload 4, 2) := by decide +kernel
theorem dX0_rename_14 : decode cX0_rename 14 = .ok (.ireturn, 1) := by decide +kernel
theorem dX0_rename_15 : decode cX0_rename 15 = .ok (.aload_n 0, 1) := by decide +kernel
theorem dX0_rename_16 : decode cX0_rename 16 = .ok (.iload_n 2, 1) := by decide +kernel
theorem dX0_rename_17 : decode cX0_rename 17 = .ok (.invokevirtual 64, 3) := by decide +kernel
theorem dX0_rename_20 : decode cX0_rename 20 = .ok (.ifCond .ne 16, 3) := by decide +kernel
theorem dX0_rename_23 : decode cX0_rename 23 = .ok (.aload_n 0, 1) := by decide +kernel
theorem dX0_rename_24 : decode cX0_rename 24 = .ok (.iload_n 3, 1) := by decide +kernel
theorem dX0_rename_25 : decode cX0_rename 25 = .ok (.invokevirtual 64, 3) := by decide +kernel
theorem dX0_rename_28 : decode cX0_rename 28 = .ok (.ifCond .ne 8, 3) := by decide +kernel
theorem dX0_rename_31 : decode cX0_rename 31 = .ok (.iload_n 2, 1) := by decide +kernel
theorem dX0_rename_32 : decode cX0_rename 32 = .ok (.iload_n 3, 1) := by decide +kernel
theorem dX0_rename_33 : decode cX0_rename 33 = .ok (.if_icmp .ne 5, 3) := by decide +kernel
theorem dX0_rename_36 : decode cX0_rename 36 = .ok (.iconst (-1), 1) := by decide +kernel
theorem dX0_rename_37 : decode cX0_rename 37 = .ok (.ireturn, 1) := by decide +kernel
theorem dX0_rename_38 : decode cX0_rename 38 = .ok (.aload_n 0, 1) := by decide +kernel
theorem dX0_rename_39 : decode cX0_rename 39 = .ok (.iload_n 1, 1) := by decide +kernel
theorem dX0_rename_40 : decode cX0_rename 40 = .ok (.invokevirtual 44, 3) := by decide +kernel
theorem dX0_rename_43 : decode cX0_rename 43 = .ok (.istore 5, 2) := by decide +kernel
theorem dX0_rename_45 : decode cX0_rename 45 = .ok (.aload_n 0, 1) := by decide +kernel
theorem dX0_rename_46 : decode cX0_rename 46 = .ok (.iload 5, 2) := by decide +kernel
theorem dX0_rename_48 : decode cX0_rename 48 = .ok (.iload_n 2, 1) := by decide +kernel
theorem dX0_rename_49 : decode cX0_rename 49 = .ok (.invokevirtual 36, 3) := by decide +kernel
theorem dX0_rename_52 : decode cX0_rename 52 = .ok (.istore 6, 2) := by decide +kernel
theorem dX0_rename_54 : decode cX0_rename 54 = .ok (.aload_n 0, 1) := by decide +kernel
theorem dX0_rename_55 : decode cX0_rename 55 = .ok (.iload 5, 2) := by decide +kernel
theorem dX0_rename_57 : decode cX0_rename 57 = .ok (.iload_n 3, 1) := by decide +kernel
theorem dX0_rename_58 : decode cX0_rename 58 = .ok (.iconst 2, 1) := by decide +kernel
theorem dX0_rename_59 : decode cX0_rename 59 = .ok (.ishr, 1) := by decide +kernel
theorem dX0_rename_60 : decode cX0_rename 60 = .ok (.invokevirtual 51, 3) := by decide +kernel
theorem dX0_rename_63 : decode cX0_rename 63 = .ok (.istore 7, 2) := by decide +kernel
theorem dX0_rename_65 : decode cX0_rename 65 = .ok (.iload 6, 2) := by decide +kernel
theorem dX0_rename_67 : decode cX0_rename 67 = .ok (.ifCond .lt 8, 3) := by decide +kernel
theorem dX0_rename_70 : decode cX0_rename 70 = .ok (.iload 7, 2) := by decide +kernel
theorem dX0_rename_72 : decode cX0_rename 72 = .ok (.ifCond .ne 6, 3) := by decide +kernel
theorem dX0_rename_75 : decode cX0_rename 75 = .ok (.bipush (-4), 2) := by decide +kernel
theorem dX0_rename_77 : decode cX0_rename 77 = .ok (.ireturn, 1) := by decide +kernel
theorem dX0_rename_78 : decode cX0_rename 78 = .ok (.aload_n 0, 1) := by decide +kernel
theorem dX0_rename_79 : decode cX0_rename 79 = .ok (.iload 5, 2) := by decide +kernel
theorem dX0_rename_81 : decode cX0_rename 81 = .ok (.iload_n 3, 1) := by decide +kernel
theorem dX0_rename_82 : decode cX0_rename 82 = .ok (.invokevirtual 36, 3) := by decide +kernel
theorem dX0_rename_85 : decode cX0_rename 85 = .ok (.istore 8, 2) := by decide +kernel
theorem dX0_rename_87 : decode cX0_rename 87 = .ok (.aload_n 0, 1) := by decide +kernel
theorem dX0_rename_88 : decode cX0_rename 88 = .ok (.iload 5, 2) := by decide +kernel
theorem dX0_rename_90 : decode cX0_rename 90 = .ok (.iload_n 3, 1) := by decide +kernel
theorem dX0_rename_91 : decode cX0_rename 91 = .ok (.aload_n 0, 1) := by decide +kernel
theorem dX0_rename_92 : decode cX0_rename 92 = .ok (.getfield 25, 3) := by decide +kernel
theorem dX0_rename_95 : decode cX0_rename 95 = .ok (.iload 6, 2) := by decide +kernel
theorem dX0_rename_97 : decode cX0_rename 97 = .ok (.bipush 8, 2) := by decide +kernel
theorem dX0_rename_99 : decode cX0_rename 99 = .ok (.imul, 1) := by decide +kernel
theorem dX0_rename_100 : decode cX0_rename 100 = .ok (.iload_n 2, 1) := by decide +kernel
theorem dX0_rename_101 : decode cX0_rename 101 = .ok (.iadd, 1) := by decide +kernel
theorem dX0_rename_102 : decode cX0_rename 102 = .ok (.iaload, 1) := by decide +kernel
theorem dX0_rename_103 : decode cX0_rename 103 = .ok (.invokevirtual 68, 3) := by decide +kernel
theorem dX0_rename_106 : decode cX0_rename 106 = .ok (.aload_n 0, 1) := by decide +kernel
theorem dX0_rename_107 : decode cX0_rename 107 = .ok (.iload 5, 2) := by decide +kernel
theorem dX0_rename_109 : decode cX0_rename 109 = .ok (.iload_n 2, 1) := by decide +kernel
theorem dX0_rename_110 : decode cX0_rename 110 = .ok (.invokevirtual 72, 3) := by decide +kernel
theorem dX0_rename_113 : decode cX0_rename 113 = .ok (.iload 8, 2) := by decide +kernel
theorem dX0_rename_115 : decode cX0_rename 115 = .ok (.ifCond .ge 7, 3) := by decide +kernel
theorem dX0_rename_118 : decode cX0_rename 118 = .ok (.iconst 0, 1) := by decide +kernel
theorem dX0_rename_119 : decode cX0_rename 119 = .ok (.goto 4, 3) := by decide +kernel
theorem dX0_rename_122 : decode cX0_rename 122 = .ok (.iconst 1, 1) := by decide +kernel
theorem dX0_rename_123 : decode cX0_rename 123 = .ok (.ireturn, 1) := by decide +kernel
abbrev cX0_read : ByteArray := prog_1_method_21_code
def yX0_read : MethodName := ⟨RX0, "read", "(II)I"⟩
theorem dX0_read_0 : decode cX0_read 0 = .ok (.aload_n 0, 1) := by decide +kernel
theorem dX0_read_1 : decode cX0_read 1 = .ok (.iload_n 1, 1) := by decide +kernel
theorem dX0_read_2 : decode cX0_read 2 = .ok (.invokevirtual 40, 3) := by decide +kernel
theorem dX0_read_5 : decode cX0_read 5 = .ok (.istore_n 3, 1) := by decide +kernel
theorem dX0_read_6 : decode cX0_read 6 = .ok (.iload_n 3, 1) := by decide +kernel
theorem dX0_read_7 : decode cX0_read 7 = .ok (.ifCond .lt 11, 3) := by decide +kernel
theorem dX0_read_10 : decode cX0_read 10 = .ok (.aload_n 0, 1) := by decide +kernel
theorem dX0_read_11 : decode cX0_read 11 = .ok (.iload_n 2, 1) := by decide +kernel
theorem dX0_read_12 : decode cX0_read 12 = .ok (.invokevirtual 64, 3) := by decide +kernel
theorem dX0_read_15 : decode cX0_read 15 = .ok (.ifCond .eq 5, 3) := by decide +kernel
theorem dX0_read_18 : decode cX0_read 18 = .ok (.iconst 0, 1) := by decide +kernel
theorem dX0_read_19 : decode cX0_read 19 = .ok (.ireturn, 1) := by decide +kernel
theorem dX0_read_20 : decode cX0_read 20 = .ok (.aload_n 0, 1) := by decide +kernel
theorem dX0_read_21 : decode cX0_read 21 = .ok (.aload_n 0, 1) := by decide +kernel
theorem dX0_read_22 : decode cX0_read 22 = .ok (.iload_n 1, 1) := by decide +kernel
theorem dX0_read_23 : decode cX0_read 23 = .ok (.invokevirtual 44, 3) := by decide +kernel
theorem dX0_read_26 : decode cX0_read 26 = .ok (.iload_n 2, 1) := by decide +kernel
theorem dX0_read_27 : decode cX0_read 27 = .ok (.invokevirtual 36, 3) := by decide +kernel
theorem dX0_read_30 : decode cX0_read 30 = .ok (.istore 4, 2) := by decide +kernel
theorem dX0_read_32 : decode cX0_read 32 = .ok (.iload 4, 2) := by decide +kernel
theorem dX0_read_34 : decode cX0_read 34 = .ok (.ifCond .ge 7, 3) := by decide +kernel
theorem dX0_read_37 : decode cX0_read 37 = .ok (.iconst 0, 1) := by decide +kernel
theorem dX0_read_38 : decode cX0_read 38 = .ok (.goto 15, 3) := by decide +kernel
theorem dX0_read_41 : decode cX0_read 41 = .ok (.aload_n 0, 1) := by decide +kernel
theorem dX0_read_42 : decode cX0_read 42 = .ok (.getfield 25, 3) := by decide +kernel
theorem dX0_read_45 : decode cX0_read 45 = .ok (.iload 4, 2) := by decide +kernel
theorem dX0_read_47 : decode cX0_read 47 = .ok (.bipush 8, 2) := by decide +kernel
theorem dX0_read_49 : decode cX0_read 49 = .ok (.imul, 1) := by decide +kernel
theorem dX0_read_50 : decode cX0_read 50 = .ok (.iload_n 2, 1) := by decide +kernel
theorem dX0_read_51 : decode cX0_read 51 = .ok (.iadd, 1) := by decide +kernel
theorem dX0_read_52 : decode cX0_read 52 = .ok (.iaload, 1) := by decide +kernel
theorem dX0_read_53 : decode cX0_read 53 = .ok (.ireturn, 1) := by decide +kernel
abbrev cX0_files : ByteArray := prog_1_method_22_code
def yX0_files : MethodName := ⟨RX0, "files", "(I)I"⟩
theorem dX0_files_0 : decode cX0_files 0 = .ok (.aload_n 0, 1) := by decide +kernel
theorem dX0_files_1 : decode cX0_files 1 = .ok (.iload_n 1, 1) := by decide +kernel
theorem dX0_files_2 : decode cX0_files 2 = .ok (.invokevirtual 40, 3) := by decide +kernel
theorem dX0_files_5 : decode cX0_files 5 = .ok (.istore_n 2, 1) := by decide +kernel
theorem dX0_files_6 : decode cX0_files 6 = .ok (.iload_n 2, 1) := by decide +kernel
theorem dX0_files_7 : decode cX0_files 7 = .ok (.ifCond .ge 7, 3) := by decide +kernel
theorem dX0_files_10 : decode cX0_files 10 = .ok (.iload_n 2, 1) := by decide +kernel
theorem dX0_files_11 : decode cX0_files 11 = .ok (.goto 12, 3) := by decide +kernel
theorem dX0_files_14 : decode cX0_files 14 = .ok (.aload_n 0, 1) := by decide +kernel
theorem dX0_files_15 : decode cX0_files 15 = .ok (.aload_n 0, 1) := by decide +kernel
theorem dX0_files_16 : decode cX0_files 16 = .ok (.iload_n 1, 1) := by decide +kernel
theorem dX0_files_17 : decode cX0_files 17 = .ok (.invokevirtual 44, 3) := by decide +kernel
theorem dX0_files_20 : decode cX0_files 20 = .ok (.invokevirtual 55, 3) := by decide +kernel
theorem dX0_files_23 : decode cX0_files 23 = .ok (.ireturn, 1) := by decide +kernel
abbrev cX0_directories : ByteArray := prog_1_method_23_code
def yX0_directories : MethodName := ⟨RX0, "directories", "(I)I"⟩
theorem dX0_directories_0 : decode cX0_directories 0 = .ok (.aload_n 0, 1) := by decide +kernel
theorem dX0_directories_1 : decode cX0_directories 1 = .ok (.iload_n 1, 1) := by decide +kernel
theorem dX0_directories_2 : decode cX0_directories 2 = .ok (.invokevirtual 40, 3) := by decide +kernel
theorem dX0_directories_5 : decode cX0_directories 5 = .ok (.istore_n 2, 1) := by decide +kernel
theorem dX0_directories_6 : decode cX0_directories 6 = .ok (.iload_n 2, 1) := by decide +kernel
theorem dX0_directories_7 : decode cX0_directories 7 = .ok (.ifCond .ge 5, 3) := by decide +kernel
theorem dX0_directories_10 : decode cX0_directories 10 = .ok (.iload_n 2, 1) := by decide +kernel
theorem dX0_directories_11 : decode cX0_directories 11 = .ok (.ireturn, 1) := by decide +kernel
theorem dX0_directories_12 : decode cX0_directories 12 = .ok (.iconst 0, 1) := by decide +kernel
theorem dX0_directories_13 : decode cX0_directories 13 = .ok (.istore_n 3, 1) := by decide +kernel
theorem dX0_directories_14 : decode cX0_directories 14 = .ok (.iconst 0, 1) := by decide +kernel
theorem dX0_directories_15 : decode cX0_directories 15 = .ok (.istore 4, 2) := by decide +kernel
theorem dX0_directories_17 : decode cX0_directories 17 = .ok (.iload 4, 2) := by decide +kernel
theorem dX0_directories_19 : decode cX0_directories 19 = .ok (.iconst 2, 1) := by decide +kernel
theorem dX0_directories_20 : decode cX0_directories 20 = .ok (.if_icmp .ge 34, 3) := by decide +kernel
theorem dX0_directories_23 : decode cX0_directories 23 = .ok (.aload_n 0, 1) := by decide +kernel
theorem dX0_directories_24 : decode cX0_directories 24 = .ok (.aload_n 0, 1) := by decide +kernel
theorem dX0_directories_25 : decode cX0_directories 25 = .ok (.iload_n 1, 1) := by decide +kernel
theorem dX0_directories_26 : decode cX0_directories 26 = .ok (.invokevirtual 44, 3) := by decide +kernel
theorem dX0_directories_29 : decode cX0_directories 29 = .ok (.iload 4, 2) := by decide +kernel
theorem dX0_directories_31 : decode cX0_directories 31 = .ok (.invokevirtual 51, 3) := by decide +kernel
theorem dX0_directories_34 : decode cX0_directories 34 = .ok (.istore 5, 2) := by decide +kernel
theorem dX0_directories_36 : decode cX0_directories 36 = .ok (.iload 5, 2) := by decide +kernel
theorem dX0_directories_38 : decode cX0_directories 38 = .ok (.ifCond .eq 10, 3) := by decide +kernel
theorem dX0_directories_41 : decode cX0_directories 41 = .ok (.iload_n 3, 1) := by decide +kernel
theorem dX0_directories_42 : decode cX0_directories 42 = .ok (.iconst 1, 1) := by decide +kernel
theorem dX0_directories_43 : decode cX0_directories 43 = .ok (.iload 4, 2) := by decide +kernel
theorem dX0_directories_45 : decode cX0_directories 45 = .ok (.ishl, 1) := by decide +kernel
theorem dX0_directories_46 : decode cX0_directories 46 = .ok (.ior, 1) := by decide +kernel
theorem dX0_directories_47 : decode cX0_directories 47 = .ok (.istore_n 3, 1) := by decide +kernel
theorem dX0_directories_48 : decode cX0_directories 48 = .ok (.iinc 4 1, 3) := by decide +kernel
theorem dX0_directories_51 : decode cX0_directories 51 = .ok (.goto (-34), 3) := by decide +kernel
theorem dX0_directories_54 : decode cX0_directories 54 = .ok (.iload_n 3, 1) := by decide +kernel
theorem dX0_directories_55 : decode cX0_directories 55 = .ok (.ireturn, 1) := by decide +kernel
abbrev cX0_commit : ByteArray := prog_1_method_24_code
def yX0_commit : MethodName := ⟨RX0, "commit", "(I)I"⟩
theorem dX0_commit_0 : decode cX0_commit 0 = .ok (.aload_n 0, 1) := by decide +kernel
theorem dX0_commit_1 : decode cX0_commit 1 = .ok (.iload_n 1, 1) := by decide +kernel
theorem dX0_commit_2 : decode cX0_commit 2 = .ok (.invokevirtual 40, 3) := by decide +kernel
theorem dX0_commit_5 : decode cX0_commit 5 = .ok (.istore_n 2, 1) := by decide +kernel
theorem dX0_commit_6 : decode cX0_commit 6 = .ok (.iload_n 2, 1) := by decide +kernel
theorem dX0_commit_7 : decode cX0_commit 7 = .ok (.ifCond .ge 5, 3) := by decide +kernel
theorem dX0_commit_10 : decode cX0_commit 10 = .ok (.iload_n 2, 1) := by decide +kernel
theorem dX0_commit_11 : decode cX0_commit 11 = .ok (.ireturn, 1) := by decide +kernel
theorem dX0_commit_12 : decode cX0_commit 12 = .ok (.aload_n 0, 1) := by decide +kernel
theorem dX0_commit_13 : decode cX0_commit 13 = .ok (.getfield 32, 3) := by decide +kernel
theorem dX0_commit_16 : decode cX0_commit 16 = .ok (.bipush 6, 2) := by decide +kernel
theorem dX0_commit_18 : decode cX0_commit 18 = .ok (.if_icmp .ne 6, 3) := by decide +kernel
theorem dX0_commit_21 : decode cX0_commit 21 = .ok (.bipush (-2), 2) := by decide +kernel
theorem dX0_commit_23 : decode cX0_commit 23 = .ok (.ireturn, 1) := by decide +kernel
theorem dX0_commit_24 : decode cX0_commit 24 = .ok (.aload_n 0, 1) := by decide +kernel
theorem dX0_commit_25 : decode cX0_commit 25 = .ok (.iload_n 1, 1) := by decide +kernel
theorem dX0_commit_26 : decode cX0_commit 26 = .ok (.invokevirtual 44, 3) := by decide +kernel
theorem dX0_commit_29 : decode cX0_commit 29 = .ok (.istore_n 3, 1) := by decide +kernel
theorem dX0_commit_30 : decode cX0_commit 30 = .ok (.aload_n 0, 1) := by decide +kernel
theorem dX0_commit_31 : decode cX0_commit 31 = .ok (.getfield 13, 3) := by decide +kernel
theorem dX0_commit_34 : decode cX0_commit 34 = .ok (.aload_n 0, 1) := by decide +kernel
theorem dX0_commit_35 : decode cX0_commit 35 = .ok (.getfield 32, 3) := by decide +kernel
theorem dX0_commit_38 : decode cX0_commit 38 = .ok (.aload_n 0, 1) := by decide +kernel
theorem dX0_commit_39 : decode cX0_commit 39 = .ok (.getfield 13, 3) := by decide +kernel
theorem dX0_commit_42 : decode cX0_commit 42 = .ok (.iload_n 3, 1) := by decide +kernel
theorem dX0_commit_43 : decode cX0_commit 43 = .ok (.iaload, 1) := by decide +kernel
theorem dX0_commit_44 : decode cX0_commit 44 = .ok (.iastore, 1) := by decide +kernel
theorem dX0_commit_45 : decode cX0_commit 45 = .ok (.aload_n 0, 1) := by decide +kernel
theorem dX0_commit_46 : decode cX0_commit 46 = .ok (.getfield 16, 3) := by decide +kernel
theorem dX0_commit_49 : decode cX0_commit 49 = .ok (.aload_n 0, 1) := by decide +kernel
theorem dX0_commit_50 : decode cX0_commit 50 = .ok (.getfield 32, 3) := by decide +kernel
theorem dX0_commit_53 : decode cX0_commit 53 = .ok (.aload_n 0, 1) := by decide +kernel
theorem dX0_commit_54 : decode cX0_commit 54 = .ok (.getfield 16, 3) := by decide +kernel
theorem dX0_commit_57 : decode cX0_commit 57 = .ok (.iload_n 3, 1) := by decide +kernel
theorem dX0_commit_58 : decode cX0_commit 58 = .ok (.iaload, 1) := by decide +kernel
theorem dX0_commit_59 : decode cX0_commit 59 = .ok (.iastore, 1) := by decide +kernel
theorem dX0_commit_60 : decode cX0_commit 60 = .ok (.aload_n 0, 1) := by decide +kernel
theorem dX0_commit_61 : decode cX0_commit 61 = .ok (.getfield 19, 3) := by decide +kernel
theorem dX0_commit_64 : decode cX0_commit 64 = .ok (.aload_n 0, 1) := by decide +kernel
theorem dX0_commit_65 : decode cX0_commit 65 = .ok (.getfield 32, 3) := by decide +kernel
theorem dX0_commit_68 : decode cX0_commit 68 = .ok (.aload_n 0, 1) := by decide +kernel
theorem dX0_commit_69 : decode cX0_commit 69 = .ok (.getfield 19, 3) := by decide +kernel
theorem dX0_commit_72 : decode cX0_commit 72 = .ok (.iload_n 3, 1) := by decide +kernel
theorem dX0_commit_73 : decode cX0_commit 73 = .ok (.iaload, 1) := by decide +kernel
theorem dX0_commit_74 : decode cX0_commit 74 = .ok (.iastore, 1) := by decide +kernel
theorem dX0_commit_75 : decode cX0_commit 75 = .ok (.aload_n 0, 1) := by decide +kernel
theorem dX0_commit_76 : decode cX0_commit 76 = .ok (.getfield 22, 3) := by decide +kernel
theorem dX0_commit_79 : decode cX0_commit 79 = .ok (.aload_n 0, 1) := by decide +kernel
theorem dX0_commit_80 : decode cX0_commit 80 = .ok (.getfield 32, 3) := by decide +kernel
theorem dX0_commit_83 : decode cX0_commit 83 = .ok (.aload_n 0, 1) := by decide +kernel
theorem dX0_commit_84 : decode cX0_commit 84 = .ok (.getfield 22, 3) := by decide +kernel
theorem dX0_commit_87 : decode cX0_commit 87 = .ok (.iload_n 3, 1) := by decide +kernel
theorem dX0_commit_88 : decode cX0_commit 88 = .ok (.iaload, 1) := by decide +kernel
theorem dX0_commit_89 : decode cX0_commit 89 = .ok (.iastore, 1) := by decide +kernel
theorem dX0_commit_90 : decode cX0_commit 90 = .ok (.iconst 0, 1) := by decide +kernel
theorem dX0_commit_91 : decode cX0_commit 91 = .ok (.istore 4, 2) := by decide +kernel
theorem dX0_commit_93 : decode cX0_commit 93 = .ok (.iload 4, 2) := by decide +kernel
theorem dX0_commit_95 : decode cX0_commit 95 = .ok (.bipush 8, 2) := by decide +kernel
theorem dX0_commit_97 : decode cX0_commit 97 = .ok (.if_icmp .ge 36, 3) := by decide +kernel
theorem dX0_commit_100 : decode cX0_commit 100 = .ok (.aload_n 0, 1) := by decide +kernel
theorem dX0_commit_101 : decode cX0_commit 101 = .ok (.getfield 25, 3) := by decide +kernel
theorem dX0_commit_104 : decode cX0_commit 104 = .ok (.aload_n 0, 1) := by decide +kernel
theorem dX0_commit_105 : decode cX0_commit 105 = .ok (.getfield 32, 3) := by decide +kernel
theorem dX0_commit_108 : decode cX0_commit 108 = .ok (.bipush 8, 2) := by decide +kernel
theorem dX0_commit_110 : decode cX0_commit 110 = .ok (.imul, 1) := by decide +kernel
theorem dX0_commit_111 : decode cX0_commit 111 = .ok (.iload 4, 2) := by decide +kernel
theorem dX0_commit_113 : decode cX0_commit 113 = .ok (.iadd, 1) := by decide +kernel
theorem dX0_commit_114 : decode cX0_commit 114 = .ok (.aload_n 0, 1) := by decide +kernel
theorem dX0_commit_115 : decode cX0_commit 115 = .ok (.getfield 25, 3) := by decide +kernel
theorem dX0_commit_118 : decode cX0_commit 118 = .ok (.iload_n 3, 1) := by decide +kernel
theorem dX0_commit_119 : decode cX0_commit 119 = .ok (.bipush 8, 2) := by decide +kernel
theorem dX0_commit_121 : decode cX0_commit 121 = .ok (.imul, 1) := by decide +kernel
theorem dX0_commit_122 : decode cX0_commit 122 = .ok (.iload 4, 2) := by decide +kernel
theorem dX0_commit_124 : decode cX0_commit 124 = .ok (.iadd, 1) := by decide +kernel
theorem dX0_commit_125 : decode cX0_commit 125 = .ok (.iaload, 1) := by decide +kernel
theorem dX0_commit_126 : decode cX0_commit 126 = .ok (.iastore, 1) := by decide +kernel
theorem dX0_commit_127 : decode cX0_commit 127 = .ok (.iinc 4 1, 3) := by decide +kernel
theorem dX0_commit_130 : decode cX0_commit 130 = .ok (.goto (-37), 3) := by decide +kernel
theorem dX0_commit_133 : decode cX0_commit 133 = .ok (.aload_n 0, 1) := by decide +kernel
theorem dX0_commit_134 : decode cX0_commit 134 = .ok (.getfield 7, 3) := by decide +kernel
theorem dX0_commit_137 : decode cX0_commit 137 = .ok (.aload_n 0, 1) := by decide +kernel
theorem dX0_commit_138 : decode cX0_commit 138 = .ok (.getfield 32, 3) := by decide +kernel
theorem dX0_commit_141 : decode cX0_commit 141 = .ok (.aload_n 0, 1) := by decide +kernel
theorem dX0_commit_142 : decode cX0_commit 142 = .ok (.getfield 7, 3) := by decide +kernel
theorem dX0_commit_145 : decode cX0_commit 145 = .ok (.iload_n 3, 1) := by decide +kernel
theorem dX0_commit_146 : decode cX0_commit 146 = .ok (.iaload, 1) := by decide +kernel
theorem dX0_commit_147 : decode cX0_commit 147 = .ok (.iastore, 1) := by decide +kernel
theorem dX0_commit_148 : decode cX0_commit 148 = .ok (.aload_n 0, 1) := by decide +kernel
theorem dX0_commit_149 : decode cX0_commit 149 = .ok (.iload_n 3, 1) := by decide +kernel
theorem dX0_commit_150 : decode cX0_commit 150 = .ok (.invokevirtual 47, 3) := by decide +kernel
theorem dX0_commit_153 : decode cX0_commit 153 = .ok (.aload_n 0, 1) := by decide +kernel
theorem dX0_commit_154 : decode cX0_commit 154 = .ok (.getfield 7, 3) := by decide +kernel
theorem dX0_commit_157 : decode cX0_commit 157 = .ok (.iload_n 3, 1) := by decide +kernel
theorem dX0_commit_158 : decode cX0_commit 158 = .ok (.aload_n 0, 1) := by decide +kernel
theorem dX0_commit_159 : decode cX0_commit 159 = .ok (.getfield 32, 3) := by decide +kernel
theorem dX0_commit_162 : decode cX0_commit 162 = .ok (.iastore, 1) := by decide +kernel
theorem dX0_commit_163 : decode cX0_commit 163 = .ok (.aload_n 0, 1) := by decide +kernel
theorem dX0_commit_164 : decode cX0_commit 164 = .ok (.dup, 1) := by decide +kernel
theorem dX0_commit_165 : decode cX0_commit 165 = .ok (.getfield 32, 3) := by decide +kernel
theorem dX0_commit_168 : decode cX0_commit 168 = .ok (.iconst 1, 1) := by decide +kernel
theorem dX0_commit_169 : decode cX0_commit 169 = .ok (.iadd, 1) := by decide +kernel
theorem dX0_commit_170 : decode cX0_commit 170 = .ok (.putfield 32, 3) := by decide +kernel
theorem dX0_commit_173 : decode cX0_commit 173 = .ok (.aload_n 0, 1) := by decide +kernel
theorem dX0_commit_174 : decode cX0_commit 174 = .ok (.getfield 32, 3) := by decide +kernel
theorem dX0_commit_177 : decode cX0_commit 177 = .ok (.iconst 1, 1) := by decide +kernel
theorem dX0_commit_178 : decode cX0_commit 178 = .ok (.isub, 1) := by decide +kernel
theorem dX0_commit_179 : decode cX0_commit 179 = .ok (.ireturn, 1) := by decide +kernel
abbrev cX0_drop : ByteArray := prog_1_method_25_code
def yX0_drop : MethodName := ⟨RX0, "drop", "()I"⟩
theorem dX0_drop_0 : decode cX0_drop 0 = .ok (.aload_n 0, 1) := by decide +kernel
theorem dX0_drop_1 : decode cX0_drop 1 = .ok (.getfield 32, 3) := by decide +kernel
theorem dX0_drop_4 : decode cX0_drop 4 = .ok (.iconst 1, 1) := by decide +kernel
theorem dX0_drop_5 : decode cX0_drop 5 = .ok (.isub, 1) := by decide +kernel
theorem dX0_drop_6 : decode cX0_drop 6 = .ok (.istore_n 1, 1) := by decide +kernel
theorem dX0_drop_7 : decode cX0_drop 7 = .ok (.iload_n 1, 1) := by decide +kernel
theorem dX0_drop_8 : decode cX0_drop 8 = .ok (.ifCond .le 7, 3) := by decide +kernel
theorem dX0_drop_11 : decode cX0_drop 11 = .ok (.iconst 1, 1) := by decide +kernel
theorem dX0_drop_12 : decode cX0_drop 12 = .ok (.goto 4, 3) := by decide +kernel
theorem dX0_drop_15 : decode cX0_drop 15 = .ok (.iconst 0, 1) := by decide +kernel
theorem dX0_drop_16 : decode cX0_drop 16 = .ok (.istore_n 2, 1) := by decide +kernel
theorem dX0_drop_17 : decode cX0_drop 17 = .ok (.iconst 0, 1) := by decide +kernel
theorem dX0_drop_18 : decode cX0_drop 18 = .ok (.istore_n 3, 1) := by decide +kernel
theorem dX0_drop_19 : decode cX0_drop 19 = .ok (.iload_n 3, 1) := by decide +kernel
theorem dX0_drop_20 : decode cX0_drop 20 = .ok (.aload_n 0, 1) := by decide +kernel
theorem dX0_drop_21 : decode cX0_drop 21 = .ok (.getfield 32, 3) := by decide +kernel
theorem dX0_drop_24 : decode cX0_drop 24 = .ok (.if_icmp .ge 29, 3) := by decide +kernel
theorem dX0_drop_27 : decode cX0_drop 27 = .ok (.iload_n 2, 1) := by decide +kernel
theorem dX0_drop_28 : decode cX0_drop 28 = .ok (.ifCond .eq 17, 3) := by decide +kernel
theorem dX0_drop_31 : decode cX0_drop 31 = .ok (.aload_n 0, 1) := by decide +kernel
theorem dX0_drop_32 : decode cX0_drop 32 = .ok (.getfield 7, 3) := by decide +kernel
theorem dX0_drop_35 : decode cX0_drop 35 = .ok (.iload_n 3, 1) := by decide +kernel
theorem dX0_drop_36 : decode cX0_drop 36 = .ok (.iaload, 1) := by decide +kernel
theorem dX0_drop_37 : decode cX0_drop 37 = .ok (.iload_n 1, 1) := by decide +kernel
theorem dX0_drop_38 : decode cX0_drop 38 = .ok (.if_icmp .eq 7, 3) := by decide +kernel
theorem dX0_drop_41 : decode cX0_drop 41 = .ok (.iconst 1, 1) := by decide +kernel
theorem dX0_drop_42 : decode cX0_drop 42 = .ok (.goto 4, 3) := by decide +kernel
theorem dX0_drop_45 : decode cX0_drop 45 = .ok (.iconst 0, 1) := by decide +kernel
theorem dX0_drop_46 : decode cX0_drop 46 = .ok (.istore_n 2, 1) := by decide +kernel
theorem dX0_drop_47 : decode cX0_drop 47 = .ok (.iinc 3 1, 3) := by decide +kernel
theorem dX0_drop_50 : decode cX0_drop 50 = .ok (.goto (-31), 3) := by decide +kernel
theorem dX0_drop_53 : decode cX0_drop 53 = .ok (.iconst 0, 1) := by decide +kernel
theorem dX0_drop_54 : decode cX0_drop 54 = .ok (.istore_n 3, 1) := by decide +kernel
theorem dX0_drop_55 : decode cX0_drop 55 = .ok (.iload_n 3, 1) := by decide +kernel
theorem dX0_drop_56 : decode cX0_drop 56 = .ok (.iconst 4, 1) := by decide +kernel
theorem dX0_drop_57 : decode cX0_drop 57 = .ok (.if_icmp .ge 42, 3) := by decide +kernel
theorem dX0_drop_60 : decode cX0_drop 60 = .ok (.iload_n 2, 1) := by decide +kernel
theorem dX0_drop_61 : decode cX0_drop 61 = .ok (.ifCond .eq 30, 3) := by decide +kernel
theorem dX0_drop_64 : decode cX0_drop 64 = .ok (.aload_n 0, 1) := by decide +kernel
theorem dX0_drop_65 : decode cX0_drop 65 = .ok (.getfield 28, 3) := by decide +kernel
theorem dX0_drop_68 : decode cX0_drop 68 = .ok (.iload_n 3, 1) := by decide +kernel
theorem dX0_drop_69 : decode cX0_drop 69 = .ok (.baload, 1) := by decide +kernel
theorem dX0_drop_70 : decode cX0_drop 70 = .ok (.ifCond .eq 17, 3) := by decide +kernel
theorem dX0_drop_73 : decode cX0_drop 73 = .ok (.aload_n 0, 1) := by decide +kernel
theorem dX0_drop_74 : decode cX0_drop 74 = .ok (.getfield 7, 3) := by decide +kernel
theorem dX0_drop_77 : decode cX0_drop 77 = .ok (.aload_n 0, 1) := by decide +kernel
theorem dX0_drop_78 : decode cX0_drop 78 = .ok (.iload_n 3, 1) := by decide +kernel
theorem dX0_drop_79 : decode cX0_drop 79 = .ok (.invokevirtual 44, 3) := by decide +kernel
theorem dX0_drop_82 : decode cX0_drop 82 = .ok (.iaload, 1) := by decide +kernel
theorem dX0_drop_83 : decode cX0_drop 83 = .ok (.iload_n 1, 1) := by decide +kernel
theorem dX0_drop_84 : decode cX0_drop 84 = .ok (.if_icmp .eq 7, 3) := by decide +kernel
theorem dX0_drop_87 : decode cX0_drop 87 = .ok (.iconst 1, 1) := by decide +kernel
theorem dX0_drop_88 : decode cX0_drop 88 = .ok (.goto 4, 3) := by decide +kernel
theorem dX0_drop_91 : decode cX0_drop 91 = .ok (.iconst 0, 1) := by decide +kernel
theorem dX0_drop_92 : decode cX0_drop 92 = .ok (.istore_n 2, 1) := by decide +kernel
theorem dX0_drop_93 : decode cX0_drop 93 = .ok (.iinc 3 1, 3) := by decide +kernel
theorem dX0_drop_96 : decode cX0_drop 96 = .ok (.goto (-41), 3) := by decide +kernel
theorem dX0_drop_99 : decode cX0_drop 99 = .ok (.iload_n 2, 1) := by decide +kernel
theorem dX0_drop_100 : decode cX0_drop 100 = .ok (.ifCond .ne 6, 3) := by decide +kernel
theorem dX0_drop_103 : decode cX0_drop 103 = .ok (.bipush (-4), 2) := by decide +kernel
theorem dX0_drop_105 : decode cX0_drop 105 = .ok (.ireturn, 1) := by decide +kernel
theorem dX0_drop_106 : decode cX0_drop 106 = .ok (.aload_n 0, 1) := by decide +kernel
theorem dX0_drop_107 : decode cX0_drop 107 = .ok (.iload_n 1, 1) := by decide +kernel
theorem dX0_drop_108 : decode cX0_drop 108 = .ok (.invokevirtual 47, 3) := by decide +kernel
theorem dX0_drop_111 : decode cX0_drop 111 = .ok (.aload_n 0, 1) := by decide +kernel
theorem dX0_drop_112 : decode cX0_drop 112 = .ok (.dup, 1) := by decide +kernel
theorem dX0_drop_113 : decode cX0_drop 113 = .ok (.getfield 32, 3) := by decide +kernel
theorem dX0_drop_116 : decode cX0_drop 116 = .ok (.iconst 1, 1) := by decide +kernel
theorem dX0_drop_117 : decode cX0_drop 117 = .ok (.isub, 1) := by decide +kernel
theorem dX0_drop_118 : decode cX0_drop 118 = .ok (.putfield 32, 3) := by decide +kernel
theorem dX0_drop_121 : decode cX0_drop 121 = .ok (.iload_n 1, 1) := by decide +kernel
theorem dX0_drop_122 : decode cX0_drop 122 = .ok (.ireturn, 1) := by decide +kernel
abbrev cX0_layers : ByteArray := prog_1_method_26_code
def yX0_layers : MethodName := ⟨RX0, "layers", "()I"⟩
theorem dX0_layers_0 : decode cX0_layers 0 = .ok (.aload_n 0, 1) := by decide +kernel
theorem dX0_layers_1 : decode cX0_layers 1 = .ok (.getfield 32, 3) := by decide +kernel
theorem dX0_layers_4 : decode cX0_layers 4 = .ok (.ireturn, 1) := by decide +kernel
abbrev cX0_base : ByteArray := prog_1_method_27_code
def yX0_base : MethodName := ⟨RX0, "base", "(I)I"⟩
theorem dX0_base_0 : decode cX0_base 0 = .ok (.iload_n 1, 1) := by decide +kernel
theorem dX0_base_1 : decode cX0_base 1 = .ok (.iconst 1, 1) := by decide +kernel
theorem dX0_base_2 : decode cX0_base 2 = .ok (.if_icmp .lt 11, 3) := by decide +kernel
theorem dX0_base_5 : decode cX0_base 5 = .ok (.iload_n 1, 1) := by decide +kernel
theorem dX0_base_6 : decode cX0_base 6 = .ok (.aload_n 0, 1) := by decide +kernel
theorem dX0_base_7 : decode cX0_base 7 = .ok (.getfield 32, 3) := by decide +kernel
theorem dX0_base_10 : decode cX0_base 10 = .ok (.if_icmp .lt 8, 3) := by decide +kernel
theorem dX0_base_13 : decode cX0_base 13 = .ok (.bipush (-4), 2) := by decide +kernel
theorem dX0_base_15 : decode cX0_base 15 = .ok (.goto 9, 3) := by decide +kernel
theorem dX0_base_18 : decode cX0_base 18 = .ok (.aload_n 0, 1) := by decide +kernel
theorem dX0_base_19 : decode cX0_base 19 = .ok (.getfield 7, 3) := by decide +kernel
theorem dX0_base_22 : decode cX0_base 22 = .ok (.iload_n 1, 1) := by decide +kernel
theorem dX0_base_23 : decode cX0_base 23 = .ok (.iaload, 1) := by decide +kernel
theorem dX0_base_24 : decode cX0_base 24 = .ok (.ireturn, 1) := by decide +kernel
abbrev cX0_changes : ByteArray := prog_1_method_29_code
def yX0_changes : MethodName := ⟨RX0, "changes", "(I)I"⟩
theorem dX0_changes_0 : decode cX0_changes 0 = .ok (.aload_n 0, 1) := by decide +kernel
theorem dX0_changes_1 : decode cX0_changes 1 = .ok (.iload_n 1, 1) := by decide +kernel
theorem dX0_changes_2 : decode cX0_changes 2 = .ok (.invokevirtual 40, 3) := by decide +kernel
theorem dX0_changes_5 : decode cX0_changes 5 = .ok (.istore_n 2, 1) := by decide +kernel
theorem dX0_changes_6 : decode cX0_changes 6 = .ok (.iload_n 2, 1) := by decide +kernel
theorem dX0_changes_7 : decode cX0_changes 7 = .ok (.ifCond .ge 5, 3) := by decide +kernel
theorem dX0_changes_10 : decode cX0_changes 10 = .ok (.iload_n 2, 1) := by decide +kernel
theorem dX0_changes_11 : decode cX0_changes 11 = .ok (.ireturn, 1) := by decide +kernel
theorem dX0_changes_12 : decode cX0_changes 12 = .ok (.aload_n 0, 1) := by decide +kernel
theorem dX0_changes_13 : decode cX0_changes 13 = .ok (.iload_n 1, 1) := by decide +kernel
theorem dX0_changes_14 : decode cX0_changes 14 = .ok (.invokevirtual 44, 3) := by decide +kernel
theorem dX0_changes_17 : decode cX0_changes 17 = .ok (.istore_n 3, 1) := by decide +kernel
theorem dX0_changes_18 : decode cX0_changes 18 = .ok (.aload_n 0, 1) := by decide +kernel
theorem dX0_changes_19 : decode cX0_changes 19 = .ok (.iload_n 3, 1) := by decide +kernel
theorem dX0_changes_20 : decode cX0_changes 20 = .ok (.aload_n 0, 1) := by decide +kernel
theorem dX0_changes_21 : decode cX0_changes 21 = .ok (.getfield 7, 3) := by decide +kernel
theorem dX0_changes_24 : decode cX0_changes 24 = .ok (.iload_n 3, 1) := by decide +kernel
theorem dX0_changes_25 : decode cX0_changes 25 = .ok (.iaload, 1) := by decide +kernel
theorem dX0_changes_26 : decode cX0_changes 26 = .ok (.invokevirtual 76, 3) := by decide +kernel
theorem dX0_changes_29 : decode cX0_changes 29 = .ok (.istore 4, 2) := by decide +kernel
theorem dX0_changes_31 : decode cX0_changes 31 = .ok (.aload_n 0, 1) := by decide +kernel
theorem dX0_changes_32 : decode cX0_changes 32 = .ok (.iload 4, 2) := by decide +kernel
theorem dX0_changes_34 : decode cX0_changes 34 = .ok (.invokevirtual 61, 3) := by decide +kernel
theorem dX0_changes_37 : decode cX0_changes 37 = .ok (.ireturn, 1) := by decide +kernel
abbrev cX0_difference : ByteArray := prog_1_method_28_code
def yX0_difference : MethodName := ⟨RX0, "difference", "(II)I"⟩
theorem dX0_difference_0 : decode cX0_difference 0 = .ok (.iconst 0, 1) := by decide +kernel
theorem dX0_difference_1 : decode cX0_difference 1 = .ok (.istore_n 3, 1) := by decide +kernel
theorem dX0_difference_2 : decode cX0_difference 2 = .ok (.iconst 0, 1) := by decide +kernel
theorem dX0_difference_3 : decode cX0_difference 3 = .ok (.istore 4, 2) := by decide +kernel
theorem dX0_difference_5 : decode cX0_difference 5 = .ok (.iload 4, 2) := by decide +kernel
theorem dX0_difference_7 : decode cX0_difference 7 = .ok (.bipush 8, 2) := by decide +kernel
theorem dX0_difference_9 : decode cX0_difference 9 = .ok (.if_icmp .ge 115, 3) := by decide +kernel
theorem dX0_difference_12 : decode cX0_difference 12 = .ok (.aload_n 0, 1) := by decide +kernel
theorem dX0_difference_13 : decode cX0_difference 13 = .ok (.iload_n 1, 1) := by decide +kernel
theorem dX0_difference_14 : decode cX0_difference 14 = .ok (.iload 4, 2) := by decide +kernel
theorem dX0_difference_16 : decode cX0_difference 16 = .ok (.invokevirtual 36, 3) := by decide +kernel
theorem dX0_difference_19 : decode cX0_difference 19 = .ok (.istore 5, 2) := by decide +kernel
theorem dX0_difference_21 : decode cX0_difference 21 = .ok (.aload_n 0, 1) := by decide +kernel
theorem dX0_difference_22 : decode cX0_difference 22 = .ok (.iload_n 2, 1) := by decide +kernel
theorem dX0_difference_23 : decode cX0_difference 23 = .ok (.iload 4, 2) := by decide +kernel
theorem dX0_difference_25 : decode cX0_difference 25 = .ok (.invokevirtual 36, 3) := by decide +kernel
theorem dX0_difference_28 : decode cX0_difference 28 = .ok (.istore 6, 2) := by decide +kernel
theorem dX0_difference_30 : decode cX0_difference 30 = .ok (.iload 5, 2) := by decide +kernel
theorem dX0_difference_32 : decode cX0_difference 32 = .ok (.ifCond .ge 7, 3) := by decide +kernel
theorem dX0_difference_35 : decode cX0_difference 35 = .ok (.iconst 1, 1) := by decide +kernel
theorem dX0_difference_36 : decode cX0_difference 36 = .ok (.goto 4, 3) := by decide +kernel
theorem dX0_difference_39 : decode cX0_difference 39 = .ok (.iconst 0, 1) := by decide +kernel
theorem dX0_difference_40 : decode cX0_difference 40 = .ok (.iload 6, 2) := by decide +kernel
theorem dX0_difference_42 : decode cX0_difference 42 = .ok (.ifCond .ge 7, 3) := by decide +kernel
theorem dX0_difference_45 : decode cX0_difference 45 = .ok (.iconst 1, 1) := by decide +kernel
theorem dX0_difference_46 : decode cX0_difference 46 = .ok (.goto 4, 3) := by decide +kernel
theorem dX0_difference_49 : decode cX0_difference 49 = .ok (.iconst 0, 1) := by decide +kernel
theorem dX0_difference_50 : decode cX0_difference 50 = .ok (.if_icmp .eq 7, 3) := by decide +kernel
theorem dX0_difference_53 : decode cX0_difference 53 = .ok (.iconst 1, 1) := by decide +kernel
theorem dX0_difference_54 : decode cX0_difference 54 = .ok (.goto 4, 3) := by decide +kernel
theorem dX0_difference_57 : decode cX0_difference 57 = .ok (.iconst 0, 1) := by decide +kernel
theorem dX0_difference_58 : decode cX0_difference 58 = .ok (.istore 7, 2) := by decide +kernel
theorem dX0_difference_60 : decode cX0_difference 60 = .ok (.iload 5, 2) := by decide +kernel
theorem dX0_difference_62 : decode cX0_difference 62 = .ok (.ifCond .lt 44, 3) := by decide +kernel
theorem dX0_difference_65 : decode cX0_difference 65 = .ok (.iload 6, 2) := by decide +kernel
theorem dX0_difference_67 : decode cX0_difference 67 = .ok (.ifCond .lt 39, 3) := by decide +kernel
theorem dX0_difference_70 : decode cX0_difference 70 = .ok (.aload_n 0, 1) := by decide +kernel
theorem dX0_difference_71 : decode cX0_difference 71 = .ok (.getfield 25, 3) := by decide +kernel
theorem dX0_difference_74 : decode cX0_difference 74 = .ok (.iload 5, 2) := by decide +kernel
theorem dX0_difference_76 : decode cX0_difference 76 = .ok (.bipush 8, 2) := by decide +kernel
theorem dX0_difference_78 : decode cX0_difference 78 = .ok (.imul, 1) := by decide +kernel
theorem dX0_difference_79 : decode cX0_difference 79 = .ok (.iload 4, 2) := by decide +kernel
theorem dX0_difference_81 : decode cX0_difference 81 = .ok (.iadd, 1) := by decide +kernel
theorem dX0_difference_82 : decode cX0_difference 82 = .ok (.iaload, 1) := by decide +kernel
theorem dX0_difference_83 : decode cX0_difference 83 = .ok (.aload_n 0, 1) := by decide +kernel
theorem dX0_difference_84 : decode cX0_difference 84 = .ok (.getfield 25, 3) := by decide +kernel
theorem dX0_difference_87 : decode cX0_difference 87 = .ok (.iload 6, 2) := by decide +kernel
theorem dX0_difference_89 : decode cX0_difference 89 = .ok (.bipush 8, 2) := by decide +kernel
theorem dX0_difference_91 : decode cX0_difference 91 = .ok (.imul, 1) := by decide +kernel
theorem dX0_difference_92 : decode cX0_difference 92 = .ok (.iload 4, 2) := by decide +kernel
theorem dX0_difference_94 : decode cX0_difference 94 = .ok (.iadd, 1) := by decide +kernel
theorem dX0_difference_95 : decode cX0_difference 95 = .ok (.iaload, 1) := by decide +kernel
theorem dX0_difference_96 : decode cX0_difference 96 = .ok (.if_icmp .eq 7, 3) := by decide +kernel
theorem dX0_difference_99 : decode cX0_difference 99 = .ok (.iconst 1, 1) := by decide +kernel
theorem dX0_difference_100 : decode cX0_difference 100 = .ok (.goto 4, 3) := by decide +kernel
theorem dX0_difference_103 : decode cX0_difference 103 = .ok (.iconst 0, 1) := by decide +kernel
theorem dX0_difference_104 : decode cX0_difference 104 = .ok (.istore 7, 2) := by decide +kernel
theorem dX0_difference_106 : decode cX0_difference 106 = .ok (.iload 7, 2) := by decide +kernel
theorem dX0_difference_108 : decode cX0_difference 108 = .ok (.ifCond .eq 10, 3) := by decide +kernel
theorem dX0_difference_111 : decode cX0_difference 111 = .ok (.iload_n 3, 1) := by decide +kernel
theorem dX0_difference_112 : decode cX0_difference 112 = .ok (.iconst 1, 1) := by decide +kernel
theorem dX0_difference_113 : decode cX0_difference 113 = .ok (.iload 4, 2) := by decide +kernel
theorem dX0_difference_115 : decode cX0_difference 115 = .ok (.ishl, 1) := by decide +kernel
theorem dX0_difference_116 : decode cX0_difference 116 = .ok (.ior, 1) := by decide +kernel
theorem dX0_difference_117 : decode cX0_difference 117 = .ok (.istore_n 3, 1) := by decide +kernel
theorem dX0_difference_118 : decode cX0_difference 118 = .ok (.iinc 4 1, 3) := by decide +kernel
theorem dX0_difference_121 : decode cX0_difference 121 = .ok (.goto (-116), 3) := by decide +kernel
theorem dX0_difference_124 : decode cX0_difference 124 = .ok (.iload_n 3, 1) := by decide +kernel
theorem dX0_difference_125 : decode cX0_difference 125 = .ok (.ireturn, 1) := by decide +kernel
abbrev cX0_compare : ByteArray := prog_1_method_30_code
def yX0_compare : MethodName := ⟨RX0, "compare", "(II)I"⟩
theorem dX0_compare_0 : decode cX0_compare 0 = .ok (.iload_n 1, 1) := by decide +kernel
theorem dX0_compare_1 : decode cX0_compare 1 = .ok (.ifCond .lt 23, 3) := by decide +kernel
theorem dX0_compare_4 : decode cX0_compare 4 = .ok (.iload_n 1, 1) := by decide +kernel
theorem dX0_compare_5 : decode cX0_compare 5 = .ok (.aload_n 0, 1) := by decide +kernel
theorem dX0_compare_6 : decode cX0_compare 6 = .ok (.getfield 32, 3) := by decide +kernel
theorem dX0_compare_9 : decode cX0_compare 9 = .ok (.if_icmp .ge 15, 3) := by decide +kernel
theorem dX0_compare_12 : decode cX0_compare 12 = .ok (.iload_n 2, 1) := by decide +kernel
theorem dX0_compare_13 : decode cX0_compare 13 = .ok (.ifCond .lt 11, 3) := by decide +kernel
theorem dX0_compare_16 : decode cX0_compare 16 = .ok (.iload_n 2, 1) := by decide +kernel
theorem dX0_compare_17 : decode cX0_compare 17 = .ok (.aload_n 0, 1) := by decide +kernel
theorem dX0_compare_18 : decode cX0_compare 18 = .ok (.getfield 32, 3) := by decide +kernel
theorem dX0_compare_21 : decode cX0_compare 21 = .ok (.if_icmp .lt 6, 3) := by decide +kernel
theorem dX0_compare_24 : decode cX0_compare 24 = .ok (.bipush (-4), 2) := by decide +kernel
theorem dX0_compare_26 : decode cX0_compare 26 = .ok (.ireturn, 1) := by decide +kernel
theorem dX0_compare_27 : decode cX0_compare 27 = .ok (.aload_n 0, 1) := by decide +kernel
theorem dX0_compare_28 : decode cX0_compare 28 = .ok (.iload_n 1, 1) := by decide +kernel
theorem dX0_compare_29 : decode cX0_compare 29 = .ok (.iload_n 2, 1) := by decide +kernel
theorem dX0_compare_30 : decode cX0_compare 30 = .ok (.invokevirtual 76, 3) := by decide +kernel
theorem dX0_compare_33 : decode cX0_compare 33 = .ok (.ireturn, 1) := by decide +kernel
abbrev cX0_squash : ByteArray := prog_1_method_31_code
def yX0_squash : MethodName := ⟨RX0, "squash", "(I)I"⟩
theorem dX0_squash_0 : decode cX0_squash 0 = .ok (.aload_n 0, 1) := by decide +kernel
theorem dX0_squash_1 : decode cX0_squash 1 = .ok (.iload_n 1, 1) := by decide +kernel
theorem dX0_squash_2 : decode cX0_squash 2 = .ok (.invokevirtual 40, 3) := by decide +kernel
theorem dX0_squash_5 : decode cX0_squash 5 = .ok (.istore_n 2, 1) := by decide +kernel
theorem dX0_squash_6 : decode cX0_squash 6 = .ok (.iload_n 2, 1) := by decide +kernel
theorem dX0_squash_7 : decode cX0_squash 7 = .ok (.ifCond .ge 5, 3) := by decide +kernel
theorem dX0_squash_10 : decode cX0_squash 10 = .ok (.iload_n 2, 1) := by decide +kernel
theorem dX0_squash_11 : decode cX0_squash 11 = .ok (.ireturn, 1) := by decide +kernel
theorem dX0_squash_12 : decode cX0_squash 12 = .ok (.aload_n 0, 1) := by decide +kernel
theorem dX0_squash_13 : decode cX0_squash 13 = .ok (.iload_n 1, 1) := by decide +kernel
theorem dX0_squash_14 : decode cX0_squash 14 = .ok (.invokevirtual 44, 3) := by decide +kernel
theorem dX0_squash_17 : decode cX0_squash 17 = .ok (.istore_n 3, 1) := by decide +kernel
theorem dX0_squash_18 : decode cX0_squash 18 = .ok (.iconst 0, 1) := by decide +kernel
theorem dX0_squash_19 : decode cX0_squash 19 = .ok (.istore 4, 2) := by decide +kernel
theorem dX0_squash_21 : decode cX0_squash 21 = .ok (.iload 4, 2) := by decide +kernel
theorem dX0_squash_23 : decode cX0_squash 23 = .ok (.bipush 8, 2) := by decide +kernel
theorem dX0_squash_25 : decode cX0_squash 25 = .ok (.if_icmp .ge 160, 3) := by decide +kernel
theorem dX0_squash_28 : decode cX0_squash 28 = .ok (.aload_n 0, 1) := by decide +kernel
theorem dX0_squash_29 : decode cX0_squash 29 = .ok (.aload_n 0, 1) := by decide +kernel
theorem dX0_squash_30 : decode cX0_squash 30 = .ok (.getfield 7, 3) := by decide +kernel
theorem dX0_squash_33 : decode cX0_squash 33 = .ok (.iload_n 3, 1) := by decide +kernel
theorem dX0_squash_34 : decode cX0_squash 34 = .ok (.iaload, 1) := by decide +kernel
theorem dX0_squash_35 : decode cX0_squash 35 = .ok (.iload 4, 2) := by decide +kernel
theorem dX0_squash_37 : decode cX0_squash 37 = .ok (.invokevirtual 36, 3) := by decide +kernel
theorem dX0_squash_40 : decode cX0_squash 40 = .ok (.istore 5, 2) := by decide +kernel
theorem dX0_squash_42 : decode cX0_squash 42 = .ok (.aload_n 0, 1) := by decide +kernel
theorem dX0_squash_43 : decode cX0_squash 43 = .ok (.getfield 22, 3) := by decide +kernel
theorem dX0_squash_46 : decode cX0_squash 46 = .ok (.iload_n 3, 1) := by decide +kernel
theorem dX0_squash_47 : decode cX0_squash 47 = .ok (.iaload, 1) := by decide +kernel
theorem dX0_squash_48 : decode cX0_squash 48 = .ok (.iload 4, 2) := by decide +kernel
theorem dX0_squash_50 : decode cX0_squash 50 = .ok (.iconst 2, 1) := by decide +kernel
theorem dX0_squash_51 : decode cX0_squash 51 = .ok (.ishr, 1) := by decide +kernel
theorem dX0_squash_52 : decode cX0_squash 52 = .ok (.ishr, 1) := by decide +kernel
theorem dX0_squash_53 : decode cX0_squash 53 = .ok (.iconst 1, 1) := by decide +kernel
theorem dX0_squash_54 : decode cX0_squash 54 = .ok (.iand, 1) := by decide +kernel
theorem dX0_squash_55 : decode cX0_squash 55 = .ok (.iconst 1, 1) := by decide +kernel
theorem dX0_squash_56 : decode cX0_squash 56 = .ok (.if_icmp .ne 7, 3) := by decide +kernel
theorem dX0_squash_59 : decode cX0_squash 59 = .ok (.iconst 1, 1) := by decide +kernel
theorem dX0_squash_60 : decode cX0_squash 60 = .ok (.goto 4, 3) := by decide +kernel
theorem dX0_squash_63 : decode cX0_squash 63 = .ok (.iconst 0, 1) := by decide +kernel
theorem dX0_squash_64 : decode cX0_squash 64 = .ok (.istore 6, 2) := by decide +kernel
theorem dX0_squash_66 : decode cX0_squash 66 = .ok (.iload 5, 2) := by decide +kernel
theorem dX0_squash_68 : decode cX0_squash 68 = .ok (.ifCond .lt 8, 3) := by decide +kernel
theorem dX0_squash_71 : decode cX0_squash 71 = .ok (.iload 6, 2) := by decide +kernel
theorem dX0_squash_73 : decode cX0_squash 73 = .ok (.ifCond .eq 22, 3) := by decide +kernel
theorem dX0_squash_76 : decode cX0_squash 76 = .ok (.aload_n 0, 1) := by decide +kernel
theorem dX0_squash_77 : decode cX0_squash 77 = .ok (.getfield 16, 3) := by decide +kernel
theorem dX0_squash_80 : decode cX0_squash 80 = .ok (.iload_n 3, 1) := by decide +kernel
theorem dX0_squash_81 : decode cX0_squash 81 = .ok (.aload_n 0, 1) := by decide +kernel
theorem dX0_squash_82 : decode cX0_squash 82 = .ok (.getfield 16, 3) := by decide +kernel
theorem dX0_squash_85 : decode cX0_squash 85 = .ok (.iload_n 3, 1) := by decide +kernel
theorem dX0_squash_86 : decode cX0_squash 86 = .ok (.iaload, 1) := by decide +kernel
theorem dX0_squash_87 : decode cX0_squash 87 = .ok (.iconst 1, 1) := by decide +kernel
theorem dX0_squash_88 : decode cX0_squash 88 = .ok (.iload 4, 2) := by decide +kernel
theorem dX0_squash_90 : decode cX0_squash 90 = .ok (.ishl, 1) := by decide +kernel
theorem dX0_squash_91 : decode cX0_squash 91 = .ok (.iconst (-1), 1) := by decide +kernel
theorem dX0_squash_92 : decode cX0_squash 92 = .ok (.ixor, 1) := by decide +kernel
theorem dX0_squash_93 : decode cX0_squash 93 = .ok (.iand, 1) := by decide +kernel
theorem dX0_squash_94 : decode cX0_squash 94 = .ok (.iastore, 1) := by decide +kernel
theorem dX0_squash_95 : decode cX0_squash 95 = .ok (.aload_n 0, 1) := by decide +kernel
theorem dX0_squash_96 : decode cX0_squash 96 = .ok (.getfield 13, 3) := by decide +kernel
theorem dX0_squash_99 : decode cX0_squash 99 = .ok (.iload_n 3, 1) := by decide +kernel
theorem dX0_squash_100 : decode cX0_squash 100 = .ok (.iaload, 1) := by decide +kernel
theorem dX0_squash_101 : decode cX0_squash 101 = .ok (.iload 4, 2) := by decide +kernel
theorem dX0_squash_103 : decode cX0_squash 103 = .ok (.ishr, 1) := by decide +kernel
theorem dX0_squash_104 : decode cX0_squash 104 = .ok (.iconst 1, 1) := by decide +kernel
theorem dX0_squash_105 : decode cX0_squash 105 = .ok (.iand, 1) := by decide +kernel
theorem dX0_squash_106 : decode cX0_squash 106 = .ok (.iconst 1, 1) := by decide +kernel
theorem dX0_squash_107 : decode cX0_squash 107 = .ok (.if_icmp .ne 7, 3) := by decide +kernel
theorem dX0_squash_110 : decode cX0_squash 110 = .ok (.iconst 1, 1) := by decide +kernel
theorem dX0_squash_111 : decode cX0_squash 111 = .ok (.goto 4, 3) := by decide +kernel
theorem dX0_squash_114 : decode cX0_squash 114 = .ok (.iconst 0, 1) := by decide +kernel
theorem dX0_squash_115 : decode cX0_squash 115 = .ok (.istore 7, 2) := by decide +kernel
theorem dX0_squash_117 : decode cX0_squash 117 = .ok (.iload 7, 2) := by decide +kernel
theorem dX0_squash_119 : decode cX0_squash 119 = .ok (.ifCond .eq 60, 3) := by decide +kernel
theorem dX0_squash_122 : decode cX0_squash 122 = .ok (.iload 5, 2) := by decide +kernel
theorem dX0_squash_124 : decode cX0_squash 124 = .ok (.ifCond .lt 55, 3) := by decide +kernel
theorem dX0_squash_127 : decode cX0_squash 127 = .ok (.iload 6, 2) := by decide +kernel
theorem dX0_squash_129 : decode cX0_squash 129 = .ok (.ifCond .ne 50, 3) := by decide +kernel
theorem dX0_squash_132 : decode cX0_squash 132 = .ok (.aload_n 0, 1) := by decide +kernel
theorem dX0_squash_133 : decode cX0_squash 133 = .ok (.getfield 25, 3) := by decide +kernel
theorem dX0_squash_136 : decode cX0_squash 136 = .ok (.iload 5, 2) := by decide +kernel
theorem dX0_squash_138 : decode cX0_squash 138 = .ok (.bipush 8, 2) := by decide +kernel
theorem dX0_squash_140 : decode cX0_squash 140 = .ok (.imul, 1) := by decide +kernel
theorem dX0_squash_141 : decode cX0_squash 141 = .ok (.iload 4, 2) := by decide +kernel
theorem dX0_squash_143 : decode cX0_squash 143 = .ok (.iadd, 1) := by decide +kernel
theorem dX0_squash_144 : decode cX0_squash 144 = .ok (.iaload, 1) := by decide +kernel
theorem dX0_squash_145 : decode cX0_squash 145 = .ok (.aload_n 0, 1) := by decide +kernel
theorem dX0_squash_146 : decode cX0_squash 146 = .ok (.getfield 25, 3) := by decide +kernel
theorem dX0_squash_149 : decode cX0_squash 149 = .ok (.iload_n 3, 1) := by decide +kernel
theorem dX0_squash_150 : decode cX0_squash 150 = .ok (.bipush 8, 2) := by decide +kernel
theorem dX0_squash_152 : decode cX0_squash 152 = .ok (.imul, 1) := by decide +kernel
theorem dX0_squash_153 : decode cX0_squash 153 = .ok (.iload 4, 2) := by decide +kernel
theorem dX0_squash_155 : decode cX0_squash 155 = .ok (.iadd, 1) := by decide +kernel
theorem dX0_squash_156 : decode cX0_squash 156 = .ok (.iaload, 1) := by decide +kernel
theorem dX0_squash_157 : decode cX0_squash 157 = .ok (.if_icmp .ne 22, 3) := by decide +kernel
theorem dX0_squash_160 : decode cX0_squash 160 = .ok (.aload_n 0, 1) := by decide +kernel
theorem dX0_squash_161 : decode cX0_squash 161 = .ok (.getfield 13, 3) := by decide +kernel
theorem dX0_squash_164 : decode cX0_squash 164 = .ok (.iload_n 3, 1) := by decide +kernel
theorem dX0_squash_165 : decode cX0_squash 165 = .ok (.aload_n 0, 1) := by decide +kernel
theorem dX0_squash_166 : decode cX0_squash 166 = .ok (.getfield 13, 3) := by decide +kernel
theorem dX0_squash_169 : decode cX0_squash 169 = .ok (.iload_n 3, 1) := by decide +kernel
theorem dX0_squash_170 : decode cX0_squash 170 = .ok (.iaload, 1) := by decide +kernel
theorem dX0_squash_171 : decode cX0_squash 171 = .ok (.iconst 1, 1) := by decide +kernel
theorem dX0_squash_172 : decode cX0_squash 172 = .ok (.iload 4, 2) := by decide +kernel
theorem dX0_squash_174 : decode cX0_squash 174 = .ok (.ishl, 1) := by decide +kernel
theorem dX0_squash_175 : decode cX0_squash 175 = .ok (.iconst (-1), 1) := by decide +kernel
theorem dX0_squash_176 : decode cX0_squash 176 = .ok (.ixor, 1) := by decide +kernel
theorem dX0_squash_177 : decode cX0_squash 177 = .ok (.iand, 1) := by decide +kernel
theorem dX0_squash_178 : decode cX0_squash 178 = .ok (.iastore, 1) := by decide +kernel
theorem dX0_squash_179 : decode cX0_squash 179 = .ok (.iinc 4 1, 3) := by decide +kernel
theorem dX0_squash_182 : decode cX0_squash 182 = .ok (.goto (-161), 3) := by decide +kernel
theorem dX0_squash_185 : decode cX0_squash 185 = .ok (.iconst 0, 1) := by decide +kernel
theorem dX0_squash_186 : decode cX0_squash 186 = .ok (.ireturn, 1) := by decide +kernel
theorem q23 : (Jvm.Cond.initialized "LayerMounts") ∈ lw_all := lw_g (lw_at lw_m1 1 rfl) rfl
theorem q26 : (Jvm.Cond.instantiable "LayerMounts" (8 : Nat)) ∈ lw_all := lw_g (lw_at lw_m1 4 rfl) rfl
theorem q28 : (Jvm.Cond.instanceMethod ({ cls := "LayerMounts", name := "<init>", desc := "()V" } : Jvm.MethodName)) ∈ lw_all := lw_g (lw_at lw_m1 6 rfl) rfl
theorem q29 : (Jvm.Cond.code ({ cls := "LayerMounts", name := "<init>", desc := "()V" } : Jvm.MethodName) prog_1_method_1_code (1 : Nat) (Option.none : Option Jvm.ClassFile.FieldType)) ∈ lw_all := lw_g (lw_at lw_m1 7 rfl) rfl
theorem q30 : (Jvm.Cond.methodLink "LayerMounts" (1 : Nat) ({ cls := "java/lang/Object", name := "<init>", desc := "()V" } : Jvm.MethodName)) ∈ lw_all := lw_g (lw_at lw_m1 8 rfl) rfl
theorem q33 : (Jvm.Cond.fieldLink "LayerMounts" (32 : Nat) "LayerMounts" "layers" "I") ∈ lw_all := lw_g (lw_at lw_m1 11 rfl) rfl
theorem q34 : (Jvm.Cond.fieldLink "LayerMounts" (7 : Nat) "LayerMounts" "under" "[I") ∈ lw_all := lw_g (lw_at lw_m1 12 rfl) rfl
theorem q35 : (Jvm.Cond.fieldLink "LayerMounts" (13 : Nat) "LayerMounts" "own" "[I") ∈ lw_all := lw_g (lw_at lw_m1 13 rfl) rfl
theorem q36 : (Jvm.Cond.fieldLink "LayerMounts" (16 : Nat) "LayerMounts" "hidden" "[I") ∈ lw_all := lw_g (lw_at lw_m1 14 rfl) rfl
theorem q37 : (Jvm.Cond.fieldLink "LayerMounts" (19 : Nat) "LayerMounts" "ownDirectory" "[I") ∈ lw_all := lw_g (lw_at lw_m1 15 rfl) rfl
theorem q38 : (Jvm.Cond.fieldLink "LayerMounts" (22 : Nat) "LayerMounts" "hiddenDirectory" "[I") ∈ lw_all := lw_g (lw_at lw_m1 16 rfl) rfl
theorem q39 : (Jvm.Cond.fieldLink "LayerMounts" (25 : Nat) "LayerMounts" "content" "[I") ∈ lw_all := lw_g (lw_at lw_m1 17 rfl) rfl
theorem q40 : (Jvm.Cond.fieldLink "LayerMounts" (28 : Nat) "LayerMounts" "inUse" "[Z") ∈ lw_all := lw_g (lw_at lw_m1 18 rfl) rfl
theorem q41 : (Jvm.Cond.lays "LayerMounts" "LayerMounts" "layers" "I") ∈ lw_all := lw_g (lw_at lw_m1 19 rfl) rfl
theorem q42 : (Jvm.Cond.soleField "LayerMounts" "layers") ∈ lw_all := lw_g (lw_at lw_m1 20 rfl) rfl
theorem q43 : (Jvm.Cond.laysFinal "LayerMounts" "LayerMounts" "under" "[I") ∈ lw_all := lw_g (lw_at lw_m1 21 rfl) rfl
theorem q44 : (Jvm.Cond.soleField "LayerMounts" "under") ∈ lw_all := lw_g (lw_at lw_m1 22 rfl) rfl
theorem q45 : (Jvm.Cond.laysFinal "LayerMounts" "LayerMounts" "own" "[I") ∈ lw_all := lw_g (lw_at lw_m1 23 rfl) rfl
theorem q46 : (Jvm.Cond.soleField "LayerMounts" "own") ∈ lw_all := lw_g (lw_at lw_m1 24 rfl) rfl
theorem q47 : (Jvm.Cond.laysFinal "LayerMounts" "LayerMounts" "hidden" "[I") ∈ lw_all := lw_g (lw_at lw_m1 25 rfl) rfl
theorem q48 : (Jvm.Cond.soleField "LayerMounts" "hidden") ∈ lw_all := lw_g (lw_at lw_m1 26 rfl) rfl
theorem q49 : (Jvm.Cond.laysFinal "LayerMounts" "LayerMounts" "ownDirectory" "[I") ∈ lw_all := lw_g (lw_at lw_m1 27 rfl) rfl
theorem q50 : (Jvm.Cond.soleField "LayerMounts" "ownDirectory") ∈ lw_all := lw_g (lw_at lw_m1 28 rfl) rfl
theorem q51 : (Jvm.Cond.laysFinal "LayerMounts" "LayerMounts" "hiddenDirectory" "[I") ∈ lw_all := lw_g (lw_at lw_m1 29 rfl) rfl
theorem q52 : (Jvm.Cond.soleField "LayerMounts" "hiddenDirectory") ∈ lw_all := lw_g (lw_at lw_m1 30 rfl) rfl
theorem q53 : (Jvm.Cond.laysFinal "LayerMounts" "LayerMounts" "content" "[I") ∈ lw_all := lw_g (lw_at lw_m1 31 rfl) rfl
theorem q54 : (Jvm.Cond.soleField "LayerMounts" "content") ∈ lw_all := lw_g (lw_at lw_m1 32 rfl) rfl
theorem q55 : (Jvm.Cond.laysFinal "LayerMounts" "LayerMounts" "inUse" "[Z") ∈ lw_all := lw_g (lw_at lw_m1 33 rfl) rfl
theorem q56 : (Jvm.Cond.soleField "LayerMounts" "inUse") ∈ lw_all := lw_g (lw_at lw_m1 34 rfl) rfl
theorem q57 : (Jvm.Cond.superclass "LayerMounts" "java/lang/Object") ∈ lw_all := lw_g (lw_at lw_m1 35 rfl) rfl
theorem q61 : (Jvm.Cond.instanceMethod ({ cls := "LayerMounts", name := "mount", desc := "(II)I" } : Jvm.MethodName)) ∈ lw_all := lw_g (lw_at lw_m1 39 rfl) rfl
theorem q62 : (Jvm.Cond.selects "LayerMounts" ({ cls := "LayerMounts", name := "mount", desc := "(II)I" } : Jvm.MethodName) ({ cls := "LayerMounts", name := "mount", desc := "(II)I" } : Jvm.MethodName)) ∈ lw_all := lw_g (lw_at lw_m1 40 rfl) rfl
theorem q63 : (Jvm.Cond.code ({ cls := "LayerMounts", name := "mount", desc := "(II)I" } : Jvm.MethodName) prog_1_method_12_code (4 : Nat) (Option.some Jvm.ClassFile.FieldType.int)) ∈ lw_all := lw_g (lw_at lw_m1 41 rfl) rfl
theorem q64 : (Jvm.Cond.methodLink "LayerMounts" (40 : Nat) ({ cls := "LayerMounts", name := "refused", desc := "(I)I" } : Jvm.MethodName)) ∈ lw_all := lw_g (lw_at lw_m1 42 rfl) rfl
theorem q65 : (Jvm.Cond.privateMethod ({ cls := "LayerMounts", name := "refused", desc := "(I)I" } : Jvm.MethodName)) ∈ lw_tbl := lw_at lw_m1 43 rfl
theorem q66 : (Jvm.Cond.instanceMethod ({ cls := "LayerMounts", name := "refused", desc := "(I)I" } : Jvm.MethodName)) ∈ lw_all := lw_g (lw_at lw_m1 44 rfl) rfl
theorem q67 : (Jvm.Cond.code ({ cls := "LayerMounts", name := "refused", desc := "(I)I" } : Jvm.MethodName) prog_1_method_2_code (2 : Nat) (Option.some Jvm.ClassFile.FieldType.int)) ∈ lw_all := lw_g (lw_at lw_m1 45 rfl) rfl
theorem q68 : (Jvm.Cond.methodLink "LayerMounts" (44 : Nat) ({ cls := "LayerMounts", name := "top", desc := "(I)I" } : Jvm.MethodName)) ∈ lw_all := lw_g (lw_at lw_m1 46 rfl) rfl
theorem q69 : (Jvm.Cond.privateMethod ({ cls := "LayerMounts", name := "top", desc := "(I)I" } : Jvm.MethodName)) ∈ lw_tbl := lw_at lw_m1 47 rfl
theorem q70 : (Jvm.Cond.instanceMethod ({ cls := "LayerMounts", name := "top", desc := "(I)I" } : Jvm.MethodName)) ∈ lw_all := lw_g (lw_at lw_m1 48 rfl) rfl
theorem q71 : (Jvm.Cond.code ({ cls := "LayerMounts", name := "top", desc := "(I)I" } : Jvm.MethodName) prog_1_method_3_code (2 : Nat) (Option.some Jvm.ClassFile.FieldType.int)) ∈ lw_all := lw_g (lw_at lw_m1 49 rfl) rfl
theorem q72 : (Jvm.Cond.methodLink "LayerMounts" (47 : Nat) ({ cls := "LayerMounts", name := "clean", desc := "(I)V" } : Jvm.MethodName)) ∈ lw_all := lw_g (lw_at lw_m1 50 rfl) rfl
theorem q73 : (Jvm.Cond.privateMethod ({ cls := "LayerMounts", name := "clean", desc := "(I)V" } : Jvm.MethodName)) ∈ lw_tbl := lw_at lw_m1 51 rfl
theorem q74 : (Jvm.Cond.instanceMethod ({ cls := "LayerMounts", name := "clean", desc := "(I)V" } : Jvm.MethodName)) ∈ lw_all := lw_g (lw_at lw_m1 52 rfl) rfl
theorem q75 : (Jvm.Cond.code ({ cls := "LayerMounts", name := "clean", desc := "(I)V" } : Jvm.MethodName) prog_1_method_5_code (2 : Nat) (Option.none : Option Jvm.ClassFile.FieldType)) ∈ lw_all := lw_g (lw_at lw_m1 53 rfl) rfl
theorem q77 : (Jvm.Cond.instanceMethod ({ cls := "LayerMounts", name := "unmount", desc := "(I)I" } : Jvm.MethodName)) ∈ lw_all := lw_g (lw_at lw_m1 55 rfl) rfl
theorem q78 : (Jvm.Cond.selects "LayerMounts" ({ cls := "LayerMounts", name := "unmount", desc := "(I)I" } : Jvm.MethodName) ({ cls := "LayerMounts", name := "unmount", desc := "(I)I" } : Jvm.MethodName)) ∈ lw_all := lw_g (lw_at lw_m1 56 rfl) rfl
theorem q79 : (Jvm.Cond.code ({ cls := "LayerMounts", name := "unmount", desc := "(I)I" } : Jvm.MethodName) prog_1_method_13_code (3 : Nat) (Option.some Jvm.ClassFile.FieldType.int)) ∈ lw_all := lw_g (lw_at lw_m1 57 rfl) rfl
theorem q81 : (Jvm.Cond.instanceMethod ({ cls := "LayerMounts", name := "mkdir", desc := "(II)I" } : Jvm.MethodName)) ∈ lw_all := lw_g (lw_at lw_m1 59 rfl) rfl
theorem q82 : (Jvm.Cond.selects "LayerMounts" ({ cls := "LayerMounts", name := "mkdir", desc := "(II)I" } : Jvm.MethodName) ({ cls := "LayerMounts", name := "mkdir", desc := "(II)I" } : Jvm.MethodName)) ∈ lw_all := lw_g (lw_at lw_m1 60 rfl) rfl
theorem q83 : (Jvm.Cond.code ({ cls := "LayerMounts", name := "mkdir", desc := "(II)I" } : Jvm.MethodName) prog_1_method_14_code (6 : Nat) (Option.some Jvm.ClassFile.FieldType.int)) ∈ lw_all := lw_g (lw_at lw_m1 61 rfl) rfl
theorem q84 : (Jvm.Cond.methodLink "LayerMounts" (51 : Nat) ({ cls := "LayerMounts", name := "directoryThere", desc := "(II)Z" } : Jvm.MethodName)) ∈ lw_all := lw_g (lw_at lw_m1 62 rfl) rfl
theorem q85 : (Jvm.Cond.privateMethod ({ cls := "LayerMounts", name := "directoryThere", desc := "(II)Z" } : Jvm.MethodName)) ∈ lw_tbl := lw_at lw_m1 63 rfl
theorem q86 : (Jvm.Cond.instanceMethod ({ cls := "LayerMounts", name := "directoryThere", desc := "(II)Z" } : Jvm.MethodName)) ∈ lw_all := lw_g (lw_at lw_m1 64 rfl) rfl
theorem q87 : (Jvm.Cond.code ({ cls := "LayerMounts", name := "directoryThere", desc := "(II)Z" } : Jvm.MethodName) prog_1_method_6_code (5 : Nat) (Option.some Jvm.ClassFile.FieldType.boolean)) ∈ lw_all := lw_g (lw_at lw_m1 65 rfl) rfl
theorem q89 : (Jvm.Cond.instanceMethod ({ cls := "LayerMounts", name := "rmdir", desc := "(II)I" } : Jvm.MethodName)) ∈ lw_all := lw_g (lw_at lw_m1 67 rfl) rfl
theorem q90 : (Jvm.Cond.selects "LayerMounts" ({ cls := "LayerMounts", name := "rmdir", desc := "(II)I" } : Jvm.MethodName) ({ cls := "LayerMounts", name := "rmdir", desc := "(II)I" } : Jvm.MethodName)) ∈ lw_all := lw_g (lw_at lw_m1 68 rfl) rfl
theorem q91 : (Jvm.Cond.code ({ cls := "LayerMounts", name := "rmdir", desc := "(II)I" } : Jvm.MethodName) prog_1_method_15_code (8 : Nat) (Option.some Jvm.ClassFile.FieldType.int)) ∈ lw_all := lw_g (lw_at lw_m1 69 rfl) rfl
theorem q92 : (Jvm.Cond.methodLink "LayerMounts" (55 : Nat) ({ cls := "LayerMounts", name := "filesSeen", desc := "(I)I" } : Jvm.MethodName)) ∈ lw_all := lw_g (lw_at lw_m1 70 rfl) rfl
theorem q93 : (Jvm.Cond.privateMethod ({ cls := "LayerMounts", name := "filesSeen", desc := "(I)I" } : Jvm.MethodName)) ∈ lw_tbl := lw_at lw_m1 71 rfl
theorem q94 : (Jvm.Cond.instanceMethod ({ cls := "LayerMounts", name := "filesSeen", desc := "(I)I" } : Jvm.MethodName)) ∈ lw_all := lw_g (lw_at lw_m1 72 rfl) rfl
theorem q95 : (Jvm.Cond.code ({ cls := "LayerMounts", name := "filesSeen", desc := "(I)I" } : Jvm.MethodName) prog_1_method_8_code (5 : Nat) (Option.some Jvm.ClassFile.FieldType.int)) ∈ lw_all := lw_g (lw_at lw_m1 73 rfl) rfl
theorem q96 : (Jvm.Cond.methodLink "LayerMounts" (36 : Nat) ({ cls := "LayerMounts", name := "holder", desc := "(II)I" } : Jvm.MethodName)) ∈ lw_all := lw_g (lw_at lw_m1 74 rfl) rfl
theorem q97 : (Jvm.Cond.privateMethod ({ cls := "LayerMounts", name := "holder", desc := "(II)I" } : Jvm.MethodName)) ∈ lw_tbl := lw_at lw_m1 75 rfl
theorem q98 : (Jvm.Cond.instanceMethod ({ cls := "LayerMounts", name := "holder", desc := "(II)I" } : Jvm.MethodName)) ∈ lw_all := lw_g (lw_at lw_m1 76 rfl) rfl
theorem q99 : (Jvm.Cond.code ({ cls := "LayerMounts", name := "holder", desc := "(II)I" } : Jvm.MethodName) prog_1_method_7_code (6 : Nat) (Option.some Jvm.ClassFile.FieldType.int)) ∈ lw_all := lw_g (lw_at lw_m1 77 rfl) rfl
theorem q100 : (Jvm.Cond.methodLink "LayerMounts" (58 : Nat) ({ cls := "LayerMounts", name := "filesOf", desc := "(I)I" } : Jvm.MethodName)) ∈ lw_all := lw_g (lw_at lw_m1 78 rfl) rfl
theorem q101 : (Jvm.Cond.privateMethod ({ cls := "LayerMounts", name := "filesOf", desc := "(I)I" } : Jvm.MethodName)) ∈ lw_tbl := lw_at lw_m1 79 rfl
theorem q102 : (Jvm.Cond.instanceMethod ({ cls := "LayerMounts", name := "filesOf", desc := "(I)I" } : Jvm.MethodName)) ∈ lw_all := lw_g (lw_at lw_m1 80 rfl) rfl
theorem q103 : (Jvm.Cond.code ({ cls := "LayerMounts", name := "filesOf", desc := "(I)I" } : Jvm.MethodName) prog_1_method_11_code (2 : Nat) (Option.some Jvm.ClassFile.FieldType.int)) ∈ lw_all := lw_g (lw_at lw_m1 81 rfl) rfl
theorem q104 : (Jvm.Cond.methodLink "LayerMounts" (61 : Nat) ({ cls := "LayerMounts", name := "sizeOf", desc := "(I)I" } : Jvm.MethodName)) ∈ lw_all := lw_g (lw_at lw_m1 82 rfl) rfl
theorem q105 : (Jvm.Cond.privateMethod ({ cls := "LayerMounts", name := "sizeOf", desc := "(I)I" } : Jvm.MethodName)) ∈ lw_tbl := lw_at lw_m1 83 rfl
theorem q106 : (Jvm.Cond.instanceMethod ({ cls := "LayerMounts", name := "sizeOf", desc := "(I)I" } : Jvm.MethodName)) ∈ lw_all := lw_g (lw_at lw_m1 84 rfl) rfl
theorem q107 : (Jvm.Cond.code ({ cls := "LayerMounts", name := "sizeOf", desc := "(I)I" } : Jvm.MethodName) prog_1_method_16_code (4 : Nat) (Option.some Jvm.ClassFile.FieldType.int)) ∈ lw_all := lw_g (lw_at lw_m1 85 rfl) rfl
theorem q109 : (Jvm.Cond.instanceMethod ({ cls := "LayerMounts", name := "write", desc := "(III)I" } : Jvm.MethodName)) ∈ lw_all := lw_g (lw_at lw_m1 87 rfl) rfl
theorem q110 : (Jvm.Cond.selects "LayerMounts" ({ cls := "LayerMounts", name := "write", desc := "(III)I" } : Jvm.MethodName) ({ cls := "LayerMounts", name := "write", desc := "(III)I" } : Jvm.MethodName)) ∈ lw_all := lw_g (lw_at lw_m1 88 rfl) rfl
theorem q111 : (Jvm.Cond.code ({ cls := "LayerMounts", name := "write", desc := "(III)I" } : Jvm.MethodName) prog_1_method_17_code (8 : Nat) (Option.some Jvm.ClassFile.FieldType.int)) ∈ lw_all := lw_g (lw_at lw_m1 89 rfl) rfl
theorem q112 : (Jvm.Cond.methodLink "LayerMounts" (64 : Nat) ({ cls := "LayerMounts", name := "badFile", desc := "(I)Z" } : Jvm.MethodName)) ∈ lw_all := lw_g (lw_at lw_m1 90 rfl) rfl
theorem q113 : (Jvm.Cond.privateMethod ({ cls := "LayerMounts", name := "badFile", desc := "(I)Z" } : Jvm.MethodName)) ∈ lw_tbl := lw_at lw_m1 91 rfl
theorem q114 : (Jvm.Cond.instanceMethod ({ cls := "LayerMounts", name := "badFile", desc := "(I)Z" } : Jvm.MethodName)) ∈ lw_all := lw_g (lw_at lw_m1 92 rfl) rfl
theorem q115 : (Jvm.Cond.code ({ cls := "LayerMounts", name := "badFile", desc := "(I)Z" } : Jvm.MethodName) prog_1_method_4_code (2 : Nat) (Option.some Jvm.ClassFile.FieldType.boolean)) ∈ lw_all := lw_g (lw_at lw_m1 93 rfl) rfl
theorem q116 : (Jvm.Cond.methodLink "LayerMounts" (68 : Nat) ({ cls := "LayerMounts", name := "setFile", desc := "(III)V" } : Jvm.MethodName)) ∈ lw_all := lw_g (lw_at lw_m1 94 rfl) rfl
theorem q117 : (Jvm.Cond.privateMethod ({ cls := "LayerMounts", name := "setFile", desc := "(III)V" } : Jvm.MethodName)) ∈ lw_tbl := lw_at lw_m1 95 rfl
theorem q118 : (Jvm.Cond.instanceMethod ({ cls := "LayerMounts", name := "setFile", desc := "(III)V" } : Jvm.MethodName)) ∈ lw_all := lw_g (lw_at lw_m1 96 rfl) rfl
theorem q119 : (Jvm.Cond.code ({ cls := "LayerMounts", name := "setFile", desc := "(III)V" } : Jvm.MethodName) prog_1_method_9_code (4 : Nat) (Option.none : Option Jvm.ClassFile.FieldType)) ∈ lw_all := lw_g (lw_at lw_m1 97 rfl) rfl
theorem q121 : (Jvm.Cond.instanceMethod ({ cls := "LayerMounts", name := "grow", desc := "(III)I" } : Jvm.MethodName)) ∈ lw_all := lw_g (lw_at lw_m1 99 rfl) rfl
theorem q122 : (Jvm.Cond.selects "LayerMounts" ({ cls := "LayerMounts", name := "grow", desc := "(III)I" } : Jvm.MethodName) ({ cls := "LayerMounts", name := "grow", desc := "(III)I" } : Jvm.MethodName)) ∈ lw_all := lw_g (lw_at lw_m1 100 rfl) rfl
theorem q123 : (Jvm.Cond.code ({ cls := "LayerMounts", name := "grow", desc := "(III)I" } : Jvm.MethodName) prog_1_method_18_code (7 : Nat) (Option.some Jvm.ClassFile.FieldType.int)) ∈ lw_all := lw_g (lw_at lw_m1 101 rfl) rfl
theorem q125 : (Jvm.Cond.instanceMethod ({ cls := "LayerMounts", name := "remove", desc := "(II)I" } : Jvm.MethodName)) ∈ lw_all := lw_g (lw_at lw_m1 103 rfl) rfl
theorem q126 : (Jvm.Cond.selects "LayerMounts" ({ cls := "LayerMounts", name := "remove", desc := "(II)I" } : Jvm.MethodName) ({ cls := "LayerMounts", name := "remove", desc := "(II)I" } : Jvm.MethodName)) ∈ lw_all := lw_g (lw_at lw_m1 104 rfl) rfl
theorem q127 : (Jvm.Cond.code ({ cls := "LayerMounts", name := "remove", desc := "(II)I" } : Jvm.MethodName) prog_1_method_19_code (6 : Nat) (Option.some Jvm.ClassFile.FieldType.int)) ∈ lw_all := lw_g (lw_at lw_m1 105 rfl) rfl
theorem q128 : (Jvm.Cond.methodLink "LayerMounts" (72 : Nat) ({ cls := "LayerMounts", name := "clearFile", desc := "(II)V" } : Jvm.MethodName)) ∈ lw_all := lw_g (lw_at lw_m1 106 rfl) rfl
theorem q129 : (Jvm.Cond.privateMethod ({ cls := "LayerMounts", name := "clearFile", desc := "(II)V" } : Jvm.MethodName)) ∈ lw_tbl := lw_at lw_m1 107 rfl
theorem q130 : (Jvm.Cond.instanceMethod ({ cls := "LayerMounts", name := "clearFile", desc := "(II)V" } : Jvm.MethodName)) ∈ lw_all := lw_g (lw_at lw_m1 108 rfl) rfl
theorem q131 : (Jvm.Cond.code ({ cls := "LayerMounts", name := "clearFile", desc := "(II)V" } : Jvm.MethodName) prog_1_method_10_code (3 : Nat) (Option.none : Option Jvm.ClassFile.FieldType)) ∈ lw_all := lw_g (lw_at lw_m1 109 rfl) rfl
theorem q133 : (Jvm.Cond.instanceMethod ({ cls := "LayerMounts", name := "rename", desc := "(III)I" } : Jvm.MethodName)) ∈ lw_all := lw_g (lw_at lw_m1 111 rfl) rfl
theorem q134 : (Jvm.Cond.selects "LayerMounts" ({ cls := "LayerMounts", name := "rename", desc := "(III)I" } : Jvm.MethodName) ({ cls := "LayerMounts", name := "rename", desc := "(III)I" } : Jvm.MethodName)) ∈ lw_all := lw_g (lw_at lw_m1 112 rfl) rfl
theorem q135 : (Jvm.Cond.code ({ cls := "LayerMounts", name := "rename", desc := "(III)I" } : Jvm.MethodName) prog_1_method_20_code (9 : Nat) (Option.some Jvm.ClassFile.FieldType.int)) ∈ lw_all := lw_g (lw_at lw_m1 113 rfl) rfl
theorem q137 : (Jvm.Cond.instanceMethod ({ cls := "LayerMounts", name := "read", desc := "(II)I" } : Jvm.MethodName)) ∈ lw_all := lw_g (lw_at lw_m1 115 rfl) rfl
theorem q138 : (Jvm.Cond.selects "LayerMounts" ({ cls := "LayerMounts", name := "read", desc := "(II)I" } : Jvm.MethodName) ({ cls := "LayerMounts", name := "read", desc := "(II)I" } : Jvm.MethodName)) ∈ lw_all := lw_g (lw_at lw_m1 116 rfl) rfl
theorem q139 : (Jvm.Cond.code ({ cls := "LayerMounts", name := "read", desc := "(II)I" } : Jvm.MethodName) prog_1_method_21_code (5 : Nat) (Option.some Jvm.ClassFile.FieldType.int)) ∈ lw_all := lw_g (lw_at lw_m1 117 rfl) rfl
theorem q141 : (Jvm.Cond.instanceMethod ({ cls := "LayerMounts", name := "files", desc := "(I)I" } : Jvm.MethodName)) ∈ lw_all := lw_g (lw_at lw_m1 119 rfl) rfl
theorem q142 : (Jvm.Cond.selects "LayerMounts" ({ cls := "LayerMounts", name := "files", desc := "(I)I" } : Jvm.MethodName) ({ cls := "LayerMounts", name := "files", desc := "(I)I" } : Jvm.MethodName)) ∈ lw_all := lw_g (lw_at lw_m1 120 rfl) rfl
theorem q143 : (Jvm.Cond.code ({ cls := "LayerMounts", name := "files", desc := "(I)I" } : Jvm.MethodName) prog_1_method_22_code (3 : Nat) (Option.some Jvm.ClassFile.FieldType.int)) ∈ lw_all := lw_g (lw_at lw_m1 121 rfl) rfl
theorem q145 : (Jvm.Cond.instanceMethod ({ cls := "LayerMounts", name := "directories", desc := "(I)I" } : Jvm.MethodName)) ∈ lw_all := lw_g (lw_at lw_m1 123 rfl) rfl
theorem q146 : (Jvm.Cond.selects "LayerMounts" ({ cls := "LayerMounts", name := "directories", desc := "(I)I" } : Jvm.MethodName) ({ cls := "LayerMounts", name := "directories", desc := "(I)I" } : Jvm.MethodName)) ∈ lw_all := lw_g (lw_at lw_m1 124 rfl) rfl
theorem q147 : (Jvm.Cond.code ({ cls := "LayerMounts", name := "directories", desc := "(I)I" } : Jvm.MethodName) prog_1_method_23_code (6 : Nat) (Option.some Jvm.ClassFile.FieldType.int)) ∈ lw_all := lw_g (lw_at lw_m1 125 rfl) rfl
theorem q149 : (Jvm.Cond.instanceMethod ({ cls := "LayerMounts", name := "commit", desc := "(I)I" } : Jvm.MethodName)) ∈ lw_all := lw_g (lw_at lw_m1 127 rfl) rfl
theorem q150 : (Jvm.Cond.selects "LayerMounts" ({ cls := "LayerMounts", name := "commit", desc := "(I)I" } : Jvm.MethodName) ({ cls := "LayerMounts", name := "commit", desc := "(I)I" } : Jvm.MethodName)) ∈ lw_all := lw_g (lw_at lw_m1 128 rfl) rfl
theorem q151 : (Jvm.Cond.code ({ cls := "LayerMounts", name := "commit", desc := "(I)I" } : Jvm.MethodName) prog_1_method_24_code (5 : Nat) (Option.some Jvm.ClassFile.FieldType.int)) ∈ lw_all := lw_g (lw_at lw_m1 129 rfl) rfl
theorem q153 : (Jvm.Cond.instanceMethod ({ cls := "LayerMounts", name := "drop", desc := "()I" } : Jvm.MethodName)) ∈ lw_all := lw_g (lw_at lw_m1 131 rfl) rfl
theorem q154 : (Jvm.Cond.selects "LayerMounts" ({ cls := "LayerMounts", name := "drop", desc := "()I" } : Jvm.MethodName) ({ cls := "LayerMounts", name := "drop", desc := "()I" } : Jvm.MethodName)) ∈ lw_all := lw_g (lw_at lw_m1 132 rfl) rfl
theorem q155 : (Jvm.Cond.code ({ cls := "LayerMounts", name := "drop", desc := "()I" } : Jvm.MethodName) prog_1_method_25_code (4 : Nat) (Option.some Jvm.ClassFile.FieldType.int)) ∈ lw_all := lw_g (lw_at lw_m1 133 rfl) rfl
theorem q157 : (Jvm.Cond.instanceMethod ({ cls := "LayerMounts", name := "layers", desc := "()I" } : Jvm.MethodName)) ∈ lw_all := lw_g (lw_at lw_m1 135 rfl) rfl
theorem q158 : (Jvm.Cond.selects "LayerMounts" ({ cls := "LayerMounts", name := "layers", desc := "()I" } : Jvm.MethodName) ({ cls := "LayerMounts", name := "layers", desc := "()I" } : Jvm.MethodName)) ∈ lw_all := lw_g (lw_at lw_m1 136 rfl) rfl
theorem q159 : (Jvm.Cond.code ({ cls := "LayerMounts", name := "layers", desc := "()I" } : Jvm.MethodName) prog_1_method_26_code (1 : Nat) (Option.some Jvm.ClassFile.FieldType.int)) ∈ lw_all := lw_g (lw_at lw_m1 137 rfl) rfl
theorem q161 : (Jvm.Cond.instanceMethod ({ cls := "LayerMounts", name := "base", desc := "(I)I" } : Jvm.MethodName)) ∈ lw_all := lw_g (lw_at lw_m1 139 rfl) rfl
theorem q162 : (Jvm.Cond.selects "LayerMounts" ({ cls := "LayerMounts", name := "base", desc := "(I)I" } : Jvm.MethodName) ({ cls := "LayerMounts", name := "base", desc := "(I)I" } : Jvm.MethodName)) ∈ lw_all := lw_g (lw_at lw_m1 140 rfl) rfl
theorem q163 : (Jvm.Cond.code ({ cls := "LayerMounts", name := "base", desc := "(I)I" } : Jvm.MethodName) prog_1_method_27_code (2 : Nat) (Option.some Jvm.ClassFile.FieldType.int)) ∈ lw_all := lw_g (lw_at lw_m1 141 rfl) rfl
theorem q165 : (Jvm.Cond.instanceMethod ({ cls := "LayerMounts", name := "changes", desc := "(I)I" } : Jvm.MethodName)) ∈ lw_all := lw_g (lw_at lw_m1 143 rfl) rfl
theorem q166 : (Jvm.Cond.selects "LayerMounts" ({ cls := "LayerMounts", name := "changes", desc := "(I)I" } : Jvm.MethodName) ({ cls := "LayerMounts", name := "changes", desc := "(I)I" } : Jvm.MethodName)) ∈ lw_all := lw_g (lw_at lw_m1 144 rfl) rfl
theorem q167 : (Jvm.Cond.code ({ cls := "LayerMounts", name := "changes", desc := "(I)I" } : Jvm.MethodName) prog_1_method_29_code (5 : Nat) (Option.some Jvm.ClassFile.FieldType.int)) ∈ lw_all := lw_g (lw_at lw_m1 145 rfl) rfl
theorem q168 : (Jvm.Cond.methodLink "LayerMounts" (76 : Nat) ({ cls := "LayerMounts", name := "difference", desc := "(II)I" } : Jvm.MethodName)) ∈ lw_all := lw_g (lw_at lw_m1 146 rfl) rfl
theorem q169 : (Jvm.Cond.privateMethod ({ cls := "LayerMounts", name := "difference", desc := "(II)I" } : Jvm.MethodName)) ∈ lw_tbl := lw_at lw_m1 147 rfl
theorem q170 : (Jvm.Cond.instanceMethod ({ cls := "LayerMounts", name := "difference", desc := "(II)I" } : Jvm.MethodName)) ∈ lw_all := lw_g (lw_at lw_m1 148 rfl) rfl
theorem q171 : (Jvm.Cond.code ({ cls := "LayerMounts", name := "difference", desc := "(II)I" } : Jvm.MethodName) prog_1_method_28_code (8 : Nat) (Option.some Jvm.ClassFile.FieldType.int)) ∈ lw_all := lw_g (lw_at lw_m1 149 rfl) rfl
theorem q173 : (Jvm.Cond.instanceMethod ({ cls := "LayerMounts", name := "compare", desc := "(II)I" } : Jvm.MethodName)) ∈ lw_all := lw_g (lw_at lw_m1 151 rfl) rfl
theorem q174 : (Jvm.Cond.selects "LayerMounts" ({ cls := "LayerMounts", name := "compare", desc := "(II)I" } : Jvm.MethodName) ({ cls := "LayerMounts", name := "compare", desc := "(II)I" } : Jvm.MethodName)) ∈ lw_all := lw_g (lw_at lw_m1 152 rfl) rfl
theorem q175 : (Jvm.Cond.code ({ cls := "LayerMounts", name := "compare", desc := "(II)I" } : Jvm.MethodName) prog_1_method_30_code (3 : Nat) (Option.some Jvm.ClassFile.FieldType.int)) ∈ lw_all := lw_g (lw_at lw_m1 153 rfl) rfl
theorem q177 : (Jvm.Cond.instanceMethod ({ cls := "LayerMounts", name := "squash", desc := "(I)I" } : Jvm.MethodName)) ∈ lw_all := lw_g (lw_at lw_m1 155 rfl) rfl
theorem q178 : (Jvm.Cond.selects "LayerMounts" ({ cls := "LayerMounts", name := "squash", desc := "(I)I" } : Jvm.MethodName) ({ cls := "LayerMounts", name := "squash", desc := "(I)I" } : Jvm.MethodName)) ∈ lw_all := lw_g (lw_at lw_m1 156 rfl) rfl
theorem q179 : (Jvm.Cond.code ({ cls := "LayerMounts", name := "squash", desc := "(I)I" } : Jvm.MethodName) prog_1_method_31_code (8 : Nat) (Option.some Jvm.ClassFile.FieldType.int)) ∈ lw_all := lw_g (lw_at lw_m1 157 rfl) rfl
theorem in_X0 : ∀ w ∈ wsX00, w ∈ lw_all := lw_in wsX00 [41, 43, 45, 47, 49, 51, 53, 55] (by decide +kernel) (by decide +kernel)
end
section
/-! LayerMountsModel -/
set_option maxRecDepth 100000
def RX1 : String := "LayerMountsModel"
def TX1 : u_T := fun k => match k with
  | 0 => ("LayerMountsModel", "directories", "[I", true)
  | 1 => ("LayerMountsModel", "files", "[I", true)
  | 2 => ("LayerMountsModel", "contents", "[I", true)
  | 3 => ("LayerMountsModel", "bases", "[I", true)
  | 4 => ("LayerMountsModel", "layers", "I", false)
  | 5 => ("LayerMountsModel", "used", "[Z", true)
  | _ => ("LayerMountsModel", "begun", "[I", true)
def tyX1 : Nat → FieldType := fun k => match k with
  | 0 => .array .int
  | 1 => .array .int
  | 2 => .array .int
  | 3 => .array .int
  | 4 => .int
  | 5 => .array .boolean
  | _ => .array .int
abbrev wsX10 : List Cond := u_ws RX1 TX1 7
theorem nmX1 : ∀ a, a < 7 → ∀ b, b < 7 → a ≠ b → (TX1 a).2.1 ≠ (TX1 b).2.1 := by decide +kernel
theorem tyX1_ok : ∀ k, k < 7 → parseFieldDescriptor (TX1 k).2.2.1 = some (tyX1 k) := by decide +kernel
abbrev cX1_init : ByteArray := prog_3_method_1_code
def yX1_init : MethodName := ⟨RX1, "<init>", "()V"⟩
theorem dX1_init_0 : decode cX1_init 0 = .ok (.aload_n 0, 1) := by decide +kernel
theorem dX1_init_1 : decode cX1_init 1 = .ok (.invokespecial 1, 3) := by decide +kernel
theorem dX1_init_4 : decode cX1_init 4 = .ok (.aload_n 0, 1) := by decide +kernel
theorem dX1_init_5 : decode cX1_init 5 = .ok (.bipush 10, 2) := by decide +kernel
theorem dX1_init_7 : decode cX1_init 7 = .ok (.newarray .int, 2) := by decide +kernel
theorem dX1_init_9 : decode cX1_init 9 = .ok (.putfield 7, 3) := by decide +kernel
theorem dX1_init_12 : decode cX1_init 12 = .ok (.aload_n 0, 1) := by decide +kernel
theorem dX1_init_13 : decode cX1_init 13 = .ok (.bipush 10, 2) := by decide +kernel
theorem dX1_init_15 : decode cX1_init 15 = .ok (.newarray .int, 2) := by decide +kernel
theorem dX1_init_17 : decode cX1_init 17 = .ok (.putfield 13, 3) := by decide +kernel
theorem dX1_init_20 : decode cX1_init 20 = .ok (.aload_n 0, 1) := by decide +kernel
theorem dX1_init_21 : decode cX1_init 21 = .ok (.bipush 80, 2) := by decide +kernel
theorem dX1_init_23 : decode cX1_init 23 = .ok (.newarray .int, 2) := by decide +kernel
theorem dX1_init_25 : decode cX1_init 25 = .ok (.putfield 16, 3) := by decide +kernel
theorem dX1_init_28 : decode cX1_init 28 = .ok (.aload_n 0, 1) := by decide +kernel
theorem dX1_init_29 : decode cX1_init 29 = .ok (.bipush 6, 2) := by decide +kernel
theorem dX1_init_31 : decode cX1_init 31 = .ok (.newarray .int, 2) := by decide +kernel
theorem dX1_init_33 : decode cX1_init 33 = .ok (.putfield 19, 3) := by decide +kernel
theorem dX1_init_36 : decode cX1_init 36 = .ok (.aload_n 0, 1) := by decide +kernel
theorem dX1_init_37 : decode cX1_init 37 = .ok (.iconst 4, 1) := by decide +kernel
theorem dX1_init_38 : decode cX1_init 38 = .ok (.newarray .boolean, 2) := by decide +kernel
theorem dX1_init_40 : decode cX1_init 40 = .ok (.putfield 22, 3) := by decide +kernel
theorem dX1_init_43 : decode cX1_init 43 = .ok (.aload_n 0, 1) := by decide +kernel
theorem dX1_init_44 : decode cX1_init 44 = .ok (.iconst 4, 1) := by decide +kernel
theorem dX1_init_45 : decode cX1_init 45 = .ok (.newarray .int, 2) := by decide +kernel
theorem dX1_init_47 : decode cX1_init 47 = .ok (.putfield 26, 3) := by decide +kernel
theorem dX1_init_50 : decode cX1_init 50 = .ok (.aload_n 0, 1) := by decide +kernel
theorem dX1_init_51 : decode cX1_init 51 = .ok (.iconst 1, 1) := by decide +kernel
theorem dX1_init_52 : decode cX1_init 52 = .ok (.putfield 29, 3) := by decide +kernel
theorem dX1_init_55 : decode cX1_init 55 = .ok (.aload_n 0, 1) := by decide +kernel
theorem dX1_init_56 : decode cX1_init 56 = .ok (.getfield 19, 3) := by decide +kernel
theorem dX1_init_59 : decode cX1_init 59 = .ok (.iconst 0, 1) := by decide +kernel
theorem dX1_init_60 : decode cX1_init 60 = .ok (.bipush (-4), 2) := by decide +kernel
theorem dX1_init_62 : decode cX1_init 62 = .ok (.iastore, 1) := by decide +kernel
theorem dX1_init_63 : decode cX1_init 63 = .ok (.return_, 1) := by decide +kernel
abbrev cX1_mount : ByteArray := prog_3_method_9_code
def yX1_mount : MethodName := ⟨RX1, "mount", "(II)I"⟩
theorem dX1_mount_0 : decode cX1_mount 0 = .ok (.aload_n 0, 1) := by decide +kernel
theorem dX1_mount_1 : decode cX1_mount 1 = .ok (.iload_n 1, 1) := by decide +kernel
theorem dX1_mount_2 : decode cX1_mount 2 = .ok (.invokevirtual 33, 3) := by decide +kernel
theorem dX1_mount_5 : decode cX1_mount 5 = .ok (.istore_n 3, 1) := by decide +kernel
theorem dX1_mount_6 : decode cX1_mount 6 = .ok (.iload_n 3, 1) := by decide +kernel
theorem dX1_mount_7 : decode cX1_mount 7 = .ok (.bipush (-3), 2) := by decide +kernel
theorem dX1_mount_9 : decode cX1_mount 9 = .ok (.if_icmp .eq 14, 3) := by decide +kernel
theorem dX1_mount_12 : decode cX1_mount 12 = .ok (.iload_n 3, 1) := by decide +kernel
theorem dX1_mount_13 : decode cX1_mount 13 = .ok (.ifCond .ne 8, 3) := by decide +kernel
theorem dX1_mount_16 : decode cX1_mount 16 = .ok (.bipush (-3), 2) := by decide +kernel
theorem dX1_mount_18 : decode cX1_mount 18 = .ok (.goto 4, 3) := by decide +kernel
theorem dX1_mount_21 : decode cX1_mount 21 = .ok (.iload_n 3, 1) := by decide +kernel
theorem dX1_mount_22 : decode cX1_mount 22 = .ok (.ireturn, 1) := by decide +kernel
theorem dX1_mount_23 : decode cX1_mount 23 = .ok (.aload_n 0, 1) := by decide +kernel
theorem dX1_mount_24 : decode cX1_mount 24 = .ok (.iload_n 2, 1) := by decide +kernel
theorem dX1_mount_25 : decode cX1_mount 25 = .ok (.invokevirtual 37, 3) := by decide +kernel
theorem dX1_mount_28 : decode cX1_mount 28 = .ok (.ifCond .ne 6, 3) := by decide +kernel
theorem dX1_mount_31 : decode cX1_mount 31 = .ok (.bipush (-4), 2) := by decide +kernel
theorem dX1_mount_33 : decode cX1_mount 33 = .ok (.ireturn, 1) := by decide +kernel
theorem dX1_mount_34 : decode cX1_mount 34 = .ok (.aload_n 0, 1) := by decide +kernel
theorem dX1_mount_35 : decode cX1_mount 35 = .ok (.getfield 22, 3) := by decide +kernel
theorem dX1_mount_38 : decode cX1_mount 38 = .ok (.iload_n 1, 1) := by decide +kernel
theorem dX1_mount_39 : decode cX1_mount 39 = .ok (.iconst 1, 1) := by decide +kernel
theorem dX1_mount_40 : decode cX1_mount 40 = .ok (.bastore, 1) := by decide +kernel
theorem dX1_mount_41 : decode cX1_mount 41 = .ok (.aload_n 0, 1) := by decide +kernel
theorem dX1_mount_42 : decode cX1_mount 42 = .ok (.getfield 26, 3) := by decide +kernel
theorem dX1_mount_45 : decode cX1_mount 45 = .ok (.iload_n 1, 1) := by decide +kernel
theorem dX1_mount_46 : decode cX1_mount 46 = .ok (.iload_n 2, 1) := by decide +kernel
theorem dX1_mount_47 : decode cX1_mount 47 = .ok (.iastore, 1) := by decide +kernel
theorem dX1_mount_48 : decode cX1_mount 48 = .ok (.aload_n 0, 1) := by decide +kernel
theorem dX1_mount_49 : decode cX1_mount 49 = .ok (.iload_n 2, 1) := by decide +kernel
theorem dX1_mount_50 : decode cX1_mount 50 = .ok (.bipush 6, 2) := by decide +kernel
theorem dX1_mount_52 : decode cX1_mount 52 = .ok (.iload_n 1, 1) := by decide +kernel
theorem dX1_mount_53 : decode cX1_mount 53 = .ok (.iadd, 1) := by decide +kernel
theorem dX1_mount_54 : decode cX1_mount 54 = .ok (.invokevirtual 41, 3) := by decide +kernel
theorem dX1_mount_57 : decode cX1_mount 57 = .ok (.iconst 0, 1) := by decide +kernel
theorem dX1_mount_58 : decode cX1_mount 58 = .ok (.ireturn, 1) := by decide +kernel
abbrev cX1_test : ByteArray := prog_3_method_2_code
def yX1_test : MethodName := ⟨RX1, "test", "(I)I"⟩
theorem dX1_test_0 : decode cX1_test 0 = .ok (.iload_n 1, 1) := by decide +kernel
theorem dX1_test_1 : decode cX1_test 1 = .ok (.ifCond .lt 8, 3) := by decide +kernel
theorem dX1_test_4 : decode cX1_test 4 = .ok (.iload_n 1, 1) := by decide +kernel
theorem dX1_test_5 : decode cX1_test 5 = .ok (.iconst 3, 1) := by decide +kernel
theorem dX1_test_6 : decode cX1_test 6 = .ok (.if_icmp .le 5, 3) := by decide +kernel
theorem dX1_test_9 : decode cX1_test 9 = .ok (.iconst (-1), 1) := by decide +kernel
theorem dX1_test_10 : decode cX1_test 10 = .ok (.ireturn, 1) := by decide +kernel
theorem dX1_test_11 : decode cX1_test 11 = .ok (.aload_n 0, 1) := by decide +kernel
theorem dX1_test_12 : decode cX1_test 12 = .ok (.getfield 22, 3) := by decide +kernel
theorem dX1_test_15 : decode cX1_test 15 = .ok (.iload_n 1, 1) := by decide +kernel
theorem dX1_test_16 : decode cX1_test 16 = .ok (.baload, 1) := by decide +kernel
theorem dX1_test_17 : decode cX1_test 17 = .ok (.ifCond .eq 7, 3) := by decide +kernel
theorem dX1_test_20 : decode cX1_test 20 = .ok (.iconst 0, 1) := by decide +kernel
theorem dX1_test_21 : decode cX1_test 21 = .ok (.goto 5, 3) := by decide +kernel
theorem dX1_test_24 : decode cX1_test 24 = .ok (.bipush (-3), 2) := by decide +kernel
theorem dX1_test_26 : decode cX1_test 26 = .ok (.ireturn, 1) := by decide +kernel
abbrev cX1_isLayer : ByteArray := prog_3_method_6_code
def yX1_isLayer : MethodName := ⟨RX1, "isLayer", "(I)Z"⟩
theorem dX1_isLayer_0 : decode cX1_isLayer 0 = .ok (.iload_n 1, 1) := by decide +kernel
theorem dX1_isLayer_1 : decode cX1_isLayer 1 = .ok (.ifCond .lt 15, 3) := by decide +kernel
theorem dX1_isLayer_4 : decode cX1_isLayer 4 = .ok (.iload_n 1, 1) := by decide +kernel
theorem dX1_isLayer_5 : decode cX1_isLayer 5 = .ok (.aload_n 0, 1) := by decide +kernel
theorem dX1_isLayer_6 : decode cX1_isLayer 6 = .ok (.getfield 29, 3) := by decide +kernel
theorem dX1_isLayer_9 : decode cX1_isLayer 9 = .ok (.if_icmp .ge 7, 3) := by decide +kernel
theorem dX1_isLayer_12 : decode cX1_isLayer 12 = .ok (.iconst 1, 1) := by decide +kernel
theorem dX1_isLayer_13 : decode cX1_isLayer 13 = .ok (.goto 4, 3) := by decide +kernel
theorem dX1_isLayer_16 : decode cX1_isLayer 16 = .ok (.iconst 0, 1) := by decide +kernel
theorem dX1_isLayer_17 : decode cX1_isLayer 17 = .ok (.ireturn, 1) := by decide +kernel
abbrev cX1_copy : ByteArray := prog_3_method_5_code
def yX1_copy : MethodName := ⟨RX1, "copy", "(II)V"⟩
theorem dX1_copy_0 : decode cX1_copy 0 = .ok (.aload_n 0, 1) := by decide +kernel
theorem dX1_copy_1 : decode cX1_copy 1 = .ok (.getfield 7, 3) := by decide +kernel
theorem dX1_copy_4 : decode cX1_copy 4 = .ok (.iload_n 2, 1) := by decide +kernel
theorem dX1_copy_5 : decode cX1_copy 5 = .ok (.aload_n 0, 1) := by decide +kernel
theorem dX1_copy_6 : decode cX1_copy 6 = .ok (.getfield 7, 3) := by decide +kernel
theorem dX1_copy_9 : decode cX1_copy 9 = .ok (.iload_n 1, 1) := by decide +kernel
theorem dX1_copy_10 : decode cX1_copy 10 = .ok (.iaload, 1) := by decide +kernel
theorem dX1_copy_11 : decode cX1_copy 11 = .ok (.iastore, 1) := by decide +kernel
theorem dX1_copy_12 : decode cX1_copy 12 = .ok (.aload_n 0, 1) := by decide +kernel
theorem dX1_copy_13 : decode cX1_copy 13 = .ok (.getfield 13, 3) := by decide +kernel
theorem dX1_copy_16 : decode cX1_copy 16 = .ok (.iload_n 2, 1) := by decide +kernel
theorem dX1_copy_17 : decode cX1_copy 17 = .ok (.aload_n 0, 1) := by decide +kernel
theorem dX1_copy_18 : decode cX1_copy 18 = .ok (.getfield 13, 3) := by decide +kernel
theorem dX1_copy_21 : decode cX1_copy 21 = .ok (.iload_n 1, 1) := by decide +kernel
theorem dX1_copy_22 : decode cX1_copy 22 = .ok (.iaload, 1) := by decide +kernel
theorem dX1_copy_23 : decode cX1_copy 23 = .ok (.iastore, 1) := by decide +kernel
theorem dX1_copy_24 : decode cX1_copy 24 = .ok (.iconst 0, 1) := by decide +kernel
theorem dX1_copy_25 : decode cX1_copy 25 = .ok (.istore_n 3, 1) := by decide +kernel
theorem dX1_copy_26 : decode cX1_copy 26 = .ok (.iload_n 3, 1) := by decide +kernel
theorem dX1_copy_27 : decode cX1_copy 27 = .ok (.bipush 8, 2) := by decide +kernel
theorem dX1_copy_29 : decode cX1_copy 29 = .ok (.if_icmp .ge 31, 3) := by decide +kernel
theorem dX1_copy_32 : decode cX1_copy 32 = .ok (.aload_n 0, 1) := by decide +kernel
theorem dX1_copy_33 : decode cX1_copy 33 = .ok (.getfield 16, 3) := by decide +kernel
theorem dX1_copy_36 : decode cX1_copy 36 = .ok (.bipush 8, 2) := by decide +kernel
theorem dX1_copy_38 : decode cX1_copy 38 = .ok (.iload_n 2, 1) := by decide +kernel
theorem dX1_copy_39 : decode cX1_copy 39 = .ok (.imul, 1) := by decide +kernel
theorem dX1_copy_40 : decode cX1_copy 40 = .ok (.iload_n 3, 1) := by decide +kernel
theorem dX1_copy_41 : decode cX1_copy 41 = .ok (.iadd, 1) := by decide +kernel
theorem dX1_copy_42 : decode cX1_copy 42 = .ok (.aload_n 0, 1) := by decide +kernel
theorem dX1_copy_43 : decode cX1_copy 43 = .ok (.getfield 16, 3) := by decide +kernel
theorem dX1_copy_46 : decode cX1_copy 46 = .ok (.bipush 8, 2) := by decide +kernel
theorem dX1_copy_48 : decode cX1_copy 48 = .ok (.iload_n 1, 1) := by decide +kernel
theorem dX1_copy_49 : decode cX1_copy 49 = .ok (.imul, 1) := by decide +kernel
theorem dX1_copy_50 : decode cX1_copy 50 = .ok (.iload_n 3, 1) := by decide +kernel
theorem dX1_copy_51 : decode cX1_copy 51 = .ok (.iadd, 1) := by decide +kernel
theorem dX1_copy_52 : decode cX1_copy 52 = .ok (.iaload, 1) := by decide +kernel
theorem dX1_copy_53 : decode cX1_copy 53 = .ok (.iastore, 1) := by decide +kernel
theorem dX1_copy_54 : decode cX1_copy 54 = .ok (.iinc 3 1, 3) := by decide +kernel
theorem dX1_copy_57 : decode cX1_copy 57 = .ok (.goto (-31), 3) := by decide +kernel
theorem dX1_copy_60 : decode cX1_copy 60 = .ok (.return_, 1) := by decide +kernel
abbrev cX1_unmount : ByteArray := prog_3_method_10_code
def yX1_unmount : MethodName := ⟨RX1, "unmount", "(I)I"⟩
theorem dX1_unmount_0 : decode cX1_unmount 0 = .ok (.aload_n 0, 1) := by decide +kernel
theorem dX1_unmount_1 : decode cX1_unmount 1 = .ok (.iload_n 1, 1) := by decide +kernel
theorem dX1_unmount_2 : decode cX1_unmount 2 = .ok (.invokevirtual 33, 3) := by decide +kernel
theorem dX1_unmount_5 : decode cX1_unmount 5 = .ok (.istore_n 2, 1) := by decide +kernel
theorem dX1_unmount_6 : decode cX1_unmount 6 = .ok (.iload_n 2, 1) := by decide +kernel
theorem dX1_unmount_7 : decode cX1_unmount 7 = .ok (.ifCond .ne 10, 3) := by decide +kernel
theorem dX1_unmount_10 : decode cX1_unmount 10 = .ok (.aload_n 0, 1) := by decide +kernel
theorem dX1_unmount_11 : decode cX1_unmount 11 = .ok (.getfield 22, 3) := by decide +kernel
theorem dX1_unmount_14 : decode cX1_unmount 14 = .ok (.iload_n 1, 1) := by decide +kernel
theorem dX1_unmount_15 : decode cX1_unmount 15 = .ok (.iconst 0, 1) := by decide +kernel
theorem dX1_unmount_16 : decode cX1_unmount 16 = .ok (.bastore, 1) := by decide +kernel
theorem dX1_unmount_17 : decode cX1_unmount 17 = .ok (.iload_n 2, 1) := by decide +kernel
theorem dX1_unmount_18 : decode cX1_unmount 18 = .ok (.ireturn, 1) := by decide +kernel
abbrev cX1_mkdir : ByteArray := prog_3_method_11_code
def yX1_mkdir : MethodName := ⟨RX1, "mkdir", "(II)I"⟩
theorem dX1_mkdir_0 : decode cX1_mkdir 0 = .ok (.aload_n 0, 1) := by decide +kernel
theorem dX1_mkdir_1 : decode cX1_mkdir 1 = .ok (.iload_n 1, 1) := by decide +kernel
theorem dX1_mkdir_2 : decode cX1_mkdir 2 = .ok (.iload_n 2, 1) := by decide +kernel
theorem dX1_mkdir_3 : decode cX1_mkdir 3 = .ok (.invokevirtual 45, 3) := by decide +kernel
theorem dX1_mkdir_6 : decode cX1_mkdir 6 = .ok (.istore_n 3, 1) := by decide +kernel
theorem dX1_mkdir_7 : decode cX1_mkdir 7 = .ok (.iload_n 3, 1) := by decide +kernel
theorem dX1_mkdir_8 : decode cX1_mkdir 8 = .ok (.ifCond .eq 5, 3) := by decide +kernel
theorem dX1_mkdir_11 : decode cX1_mkdir 11 = .ok (.iload_n 3, 1) := by decide +kernel
theorem dX1_mkdir_12 : decode cX1_mkdir 12 = .ok (.ireturn, 1) := by decide +kernel
theorem dX1_mkdir_13 : decode cX1_mkdir 13 = .ok (.aload_n 0, 1) := by decide +kernel
theorem dX1_mkdir_14 : decode cX1_mkdir 14 = .ok (.bipush 6, 2) := by decide +kernel
theorem dX1_mkdir_16 : decode cX1_mkdir 16 = .ok (.iload_n 1, 1) := by decide +kernel
theorem dX1_mkdir_17 : decode cX1_mkdir 17 = .ok (.iadd, 1) := by decide +kernel
theorem dX1_mkdir_18 : decode cX1_mkdir 18 = .ok (.iload_n 2, 1) := by decide +kernel
theorem dX1_mkdir_19 : decode cX1_mkdir 19 = .ok (.invokevirtual 49, 3) := by decide +kernel
theorem dX1_mkdir_22 : decode cX1_mkdir 22 = .ok (.ifCond .eq 6, 3) := by decide +kernel
theorem dX1_mkdir_25 : decode cX1_mkdir 25 = .ok (.bipush (-4), 2) := by decide +kernel
theorem dX1_mkdir_27 : decode cX1_mkdir 27 = .ok (.ireturn, 1) := by decide +kernel
theorem dX1_mkdir_28 : decode cX1_mkdir 28 = .ok (.aload_n 0, 1) := by decide +kernel
theorem dX1_mkdir_29 : decode cX1_mkdir 29 = .ok (.getfield 7, 3) := by decide +kernel
theorem dX1_mkdir_32 : decode cX1_mkdir 32 = .ok (.bipush 6, 2) := by decide +kernel
theorem dX1_mkdir_34 : decode cX1_mkdir 34 = .ok (.iload_n 1, 1) := by decide +kernel
theorem dX1_mkdir_35 : decode cX1_mkdir 35 = .ok (.iadd, 1) := by decide +kernel
theorem dX1_mkdir_36 : decode cX1_mkdir 36 = .ok (.aload_n 0, 1) := by decide +kernel
theorem dX1_mkdir_37 : decode cX1_mkdir 37 = .ok (.getfield 7, 3) := by decide +kernel
theorem dX1_mkdir_40 : decode cX1_mkdir 40 = .ok (.bipush 6, 2) := by decide +kernel
theorem dX1_mkdir_42 : decode cX1_mkdir 42 = .ok (.iload_n 1, 1) := by decide +kernel
theorem dX1_mkdir_43 : decode cX1_mkdir 43 = .ok (.iadd, 1) := by decide +kernel
theorem dX1_mkdir_44 : decode cX1_mkdir 44 = .ok (.iaload, 1) := by decide +kernel
theorem dX1_mkdir_45 : decode cX1_mkdir 45 = .ok (.iconst 1, 1) := by decide +kernel
theorem dX1_mkdir_46 : decode cX1_mkdir 46 = .ok (.iload_n 2, 1) := by decide +kernel
theorem dX1_mkdir_47 : decode cX1_mkdir 47 = .ok (.ishl, 1) := by decide +kernel
theorem dX1_mkdir_48 : decode cX1_mkdir 48 = .ok (.ior, 1) := by decide +kernel
theorem dX1_mkdir_49 : decode cX1_mkdir 49 = .ok (.iastore, 1) := by decide +kernel
theorem dX1_mkdir_50 : decode cX1_mkdir 50 = .ok (.iconst 0, 1) := by decide +kernel
theorem dX1_mkdir_51 : decode cX1_mkdir 51 = .ok (.ireturn, 1) := by decide +kernel
abbrev cX1_testDirectory : ByteArray := prog_3_method_3_code
def yX1_testDirectory : MethodName := ⟨RX1, "testDirectory", "(II)I"⟩
theorem dX1_testDirectory_0 : decode cX1_testDirectory 0 = .ok (.aload_n 0, 1) := by decide +kernel
theorem dX1_testDirectory_1 : decode cX1_testDirectory 1 = .ok (.iload_n 1, 1) := by decide +kernel
theorem dX1_testDirectory_2 : decode cX1_testDirectory 2 = .ok (.invokevirtual 33, 3) := by decide +kernel
theorem dX1_testDirectory_5 : decode cX1_testDirectory 5 = .ok (.istore_n 3, 1) := by decide +kernel
theorem dX1_testDirectory_6 : decode cX1_testDirectory 6 = .ok (.iload_n 3, 1) := by decide +kernel
theorem dX1_testDirectory_7 : decode cX1_testDirectory 7 = .ok (.ifCond .ne 16, 3) := by decide +kernel
theorem dX1_testDirectory_10 : decode cX1_testDirectory 10 = .ok (.iload_n 2, 1) := by decide +kernel
theorem dX1_testDirectory_11 : decode cX1_testDirectory 11 = .ok (.ifCond .lt 8, 3) := by decide +kernel
theorem dX1_testDirectory_14 : decode cX1_testDirectory 14 = .ok (.iload_n 2, 1) := by decide +kernel
theorem dX1_testDirectory_15 : decode cX1_testDirectory 15 = .ok (.iconst 1, 1) := by decide +kernel
theorem dX1_testDirectory_16 : decode cX1_testDirectory 16 = .ok (.if_icmp .le 7, 3) := by decide +kernel
theorem dX1_testDirectory_19 : decode cX1_testDirectory 19 = .ok (.iconst (-1), 1) := by decide +kernel
theorem dX1_testDirectory_20 : decode cX1_testDirectory 20 = .ok (.goto 4, 3) := by decide +kernel
theorem dX1_testDirectory_23 : decode cX1_testDirectory 23 = .ok (.iload_n 3, 1) := by decide +kernel
theorem dX1_testDirectory_24 : decode cX1_testDirectory 24 = .ok (.ireturn, 1) := by decide +kernel
abbrev cX1_hasDirectory : ByteArray := prog_3_method_8_code
def yX1_hasDirectory : MethodName := ⟨RX1, "hasDirectory", "(II)Z"⟩
theorem dX1_hasDirectory_0 : decode cX1_hasDirectory 0 = .ok (.aload_n 0, 1) := by decide +kernel
theorem dX1_hasDirectory_1 : decode cX1_hasDirectory 1 = .ok (.getfield 7, 3) := by decide +kernel
theorem dX1_hasDirectory_4 : decode cX1_hasDirectory 4 = .ok (.iload_n 1, 1) := by decide +kernel
theorem dX1_hasDirectory_5 : decode cX1_hasDirectory 5 = .ok (.iaload, 1) := by decide +kernel
theorem dX1_hasDirectory_6 : decode cX1_hasDirectory 6 = .ok (.iload_n 2, 1) := by decide +kernel
theorem dX1_hasDirectory_7 : decode cX1_hasDirectory 7 = .ok (.ishr, 1) := by decide +kernel
theorem dX1_hasDirectory_8 : decode cX1_hasDirectory 8 = .ok (.iconst 1, 1) := by decide +kernel
theorem dX1_hasDirectory_9 : decode cX1_hasDirectory 9 = .ok (.iand, 1) := by decide +kernel
theorem dX1_hasDirectory_10 : decode cX1_hasDirectory 10 = .ok (.iconst 1, 1) := by decide +kernel
theorem dX1_hasDirectory_11 : decode cX1_hasDirectory 11 = .ok (.if_icmp .ne 7, 3) := by decide +kernel
theorem dX1_hasDirectory_14 : decode cX1_hasDirectory 14 = .ok (.iconst 1, 1) := by decide +kernel
theorem dX1_hasDirectory_15 : decode cX1_hasDirectory 15 = .ok (.goto 4, 3) := by decide +kernel
theorem dX1_hasDirectory_18 : decode cX1_hasDirectory 18 = .ok (.iconst 0, 1) := by decide +kernel
theorem dX1_hasDirectory_19 : decode cX1_hasDirectory 19 = .ok (.ireturn, 1) := by decide +kernel
abbrev cX1_rmdir : ByteArray := prog_3_method_12_code
def yX1_rmdir : MethodName := ⟨RX1, "rmdir", "(II)I"⟩
theorem dX1_rmdir_0 : decode cX1_rmdir 0 = .ok (.aload_n 0, 1) := by decide +kernel
theorem dX1_rmdir_1 : decode cX1_rmdir 1 = .ok (.iload_n 1, 1) := by decide +kernel
theorem dX1_rmdir_2 : decode cX1_rmdir 2 = .ok (.iload_n 2, 1) := by decide +kernel
theorem dX1_rmdir_3 : decode cX1_rmdir 3 = .ok (.invokevirtual 45, 3) := by decide +kernel
theorem dX1_rmdir_6 : decode cX1_rmdir 6 = .ok (.istore_n 3, 1) := by decide +kernel
theorem dX1_rmdir_7 : decode cX1_rmdir 7 = .ok (.iload_n 3, 1) := by decide +kernel
theorem dX1_rmdir_8 : decode cX1_rmdir 8 = .ok (.ifCond .eq 5, 3) := by decide +kernel
theorem dX1_rmdir_11 : decode cX1_rmdir 11 = .ok (.iload_n 3, 1) := by decide +kernel
theorem dX1_rmdir_12 : decode cX1_rmdir 12 = .ok (.ireturn, 1) := by decide +kernel
theorem dX1_rmdir_13 : decode cX1_rmdir 13 = .ok (.aload_n 0, 1) := by decide +kernel
theorem dX1_rmdir_14 : decode cX1_rmdir 14 = .ok (.bipush 6, 2) := by decide +kernel
theorem dX1_rmdir_16 : decode cX1_rmdir 16 = .ok (.iload_n 1, 1) := by decide +kernel
theorem dX1_rmdir_17 : decode cX1_rmdir 17 = .ok (.iadd, 1) := by decide +kernel
theorem dX1_rmdir_18 : decode cX1_rmdir 18 = .ok (.iload_n 2, 1) := by decide +kernel
theorem dX1_rmdir_19 : decode cX1_rmdir 19 = .ok (.invokevirtual 49, 3) := by decide +kernel
theorem dX1_rmdir_22 : decode cX1_rmdir 22 = .ok (.ifCond .ne 6, 3) := by decide +kernel
theorem dX1_rmdir_25 : decode cX1_rmdir 25 = .ok (.bipush (-4), 2) := by decide +kernel
theorem dX1_rmdir_27 : decode cX1_rmdir 27 = .ok (.ireturn, 1) := by decide +kernel
theorem dX1_rmdir_28 : decode cX1_rmdir 28 = .ok (.iconst 0, 1) := by decide +kernel
theorem dX1_rmdir_29 : decode cX1_rmdir 29 = .ok (.istore 4, 2) := by decide +kernel
theorem dX1_rmdir_31 : decode cX1_rmdir 31 = .ok (.iconst 4, 1) := by decide +kernel
theorem dX1_rmdir_32 : decode cX1_rmdir 32 = .ok (.iload_n 2, 1) := by decide +kernel
theorem dX1_rmdir_33 : decode cX1_rmdir 33 = .ok (.imul, 1) := by decide +kernel
theorem dX1_rmdir_34 : decode cX1_rmdir 34 = .ok (.istore 5, 2) := by decide +kernel
theorem dX1_rmdir_36 : decode cX1_rmdir 36 = .ok (.iload 5, 2) := by decide +kernel
theorem dX1_rmdir_38 : decode cX1_rmdir 38 = .ok (.iconst 4, 1) := by decide +kernel
theorem dX1_rmdir_39 : decode cX1_rmdir 39 = .ok (.iload_n 2, 1) := by decide +kernel
theorem dX1_rmdir_40 : decode cX1_rmdir 40 = .ok (.imul, 1) := by decide +kernel
theorem dX1_rmdir_41 : decode cX1_rmdir 41 = .ok (.iconst 4, 1) := by decide +kernel
theorem dX1_rmdir_42 : decode cX1_rmdir 42 = .ok (.iadd, 1) := by decide +kernel
theorem dX1_rmdir_43 : decode cX1_rmdir 43 = .ok (.if_icmp .ge 33, 3) := by decide +kernel
theorem dX1_rmdir_46 : decode cX1_rmdir 46 = .ok (.aload_n 0, 1) := by decide +kernel
theorem dX1_rmdir_47 : decode cX1_rmdir 47 = .ok (.bipush 6, 2) := by decide +kernel
theorem dX1_rmdir_49 : decode cX1_rmdir 49 = .ok (.iload_n 1, 1) := by decide +kernel
theorem dX1_rmdir_50 : decode cX1_rmdir 50 = .ok (.iadd, 1) := by decide +kernel
theorem dX1_rmdir_51 : decode cX1_rmdir 51 = .ok (.iload 5, 2) := by decide +kernel
theorem dX1_rmdir_53 : decode cX1_rmdir 53 = .ok (.invokevirtual 53, 3) := by decide +kernel
theorem dX1_rmdir_56 : decode cX1_rmdir 56 = .ok (.ifCond .eq 10, 3) := by decide +kernel
theorem dX1_rmdir_59 : decode cX1_rmdir 59 = .ok (.iload 4, 2) := by decide +kernel
theorem dX1_rmdir_61 : decode cX1_rmdir 61 = .ok (.iconst 1, 1) := by decide +kernel
theorem dX1_rmdir_62 : decode cX1_rmdir 62 = .ok (.iadd, 1) := by decide +kernel
theorem dX1_rmdir_63 : decode cX1_rmdir 63 = .ok (.goto 5, 3) := by decide +kernel
theorem dX1_rmdir_66 : decode cX1_rmdir 66 = .ok (.iload 4, 2) := by decide +kernel
theorem dX1_rmdir_68 : decode cX1_rmdir 68 = .ok (.istore 4, 2) := by decide +kernel
theorem dX1_rmdir_70 : decode cX1_rmdir 70 = .ok (.iinc 5 1, 3) := by decide +kernel
theorem dX1_rmdir_73 : decode cX1_rmdir 73 = .ok (.goto (-37), 3) := by decide +kernel
theorem dX1_rmdir_76 : decode cX1_rmdir 76 = .ok (.aload_n 0, 1) := by decide +kernel
theorem dX1_rmdir_77 : decode cX1_rmdir 77 = .ok (.getfield 13, 3) := by decide +kernel
theorem dX1_rmdir_80 : decode cX1_rmdir 80 = .ok (.bipush 6, 2) := by decide +kernel
theorem dX1_rmdir_82 : decode cX1_rmdir 82 = .ok (.iload_n 1, 1) := by decide +kernel
theorem dX1_rmdir_83 : decode cX1_rmdir 83 = .ok (.iadd, 1) := by decide +kernel
theorem dX1_rmdir_84 : decode cX1_rmdir 84 = .ok (.aload_n 0, 1) := by decide +kernel
theorem dX1_rmdir_85 : decode cX1_rmdir 85 = .ok (.getfield 13, 3) := by decide +kernel
theorem dX1_rmdir_88 : decode cX1_rmdir 88 = .ok (.bipush 6, 2) := by decide +kernel
theorem dX1_rmdir_90 : decode cX1_rmdir 90 = .ok (.iload_n 1, 1) := by decide +kernel
theorem dX1_rmdir_91 : decode cX1_rmdir 91 = .ok (.iadd, 1) := by decide +kernel
theorem dX1_rmdir_92 : decode cX1_rmdir 92 = .ok (.iaload, 1) := by decide +kernel
theorem dX1_rmdir_93 : decode cX1_rmdir 93 = .ok (.bipush 15, 2) := by decide +kernel
theorem dX1_rmdir_95 : decode cX1_rmdir 95 = .ok (.iconst 4, 1) := by decide +kernel
theorem dX1_rmdir_96 : decode cX1_rmdir 96 = .ok (.iload_n 2, 1) := by decide +kernel
theorem dX1_rmdir_97 : decode cX1_rmdir 97 = .ok (.imul, 1) := by decide +kernel
theorem dX1_rmdir_98 : decode cX1_rmdir 98 = .ok (.ishl, 1) := by decide +kernel
theorem dX1_rmdir_99 : decode cX1_rmdir 99 = .ok (.iconst (-1), 1) := by decide +kernel
theorem dX1_rmdir_100 : decode cX1_rmdir 100 = .ok (.ixor, 1) := by decide +kernel
theorem dX1_rmdir_101 : decode cX1_rmdir 101 = .ok (.iand, 1) := by decide +kernel
theorem dX1_rmdir_102 : decode cX1_rmdir 102 = .ok (.iastore, 1) := by decide +kernel
theorem dX1_rmdir_103 : decode cX1_rmdir 103 = .ok (.aload_n 0, 1) := by decide +kernel
theorem dX1_rmdir_104 : decode cX1_rmdir 104 = .ok (.getfield 7, 3) := by decide +kernel
theorem dX1_rmdir_107 : decode cX1_rmdir 107 = .ok (.bipush 6, 2) := by decide +kernel
theorem dX1_rmdir_109 : decode cX1_rmdir 109 = .ok (.iload_n 1, 1) := by decide +kernel
theorem dX1_rmdir_110 : decode cX1_rmdir 110 = .ok (.iadd, 1) := by decide +kernel
theorem dX1_rmdir_111 : decode cX1_rmdir 111 = .ok (.aload_n 0, 1) := by decide +kernel
theorem dX1_rmdir_112 : decode cX1_rmdir 112 = .ok (.getfield 7, 3) := by decide +kernel
theorem dX1_rmdir_115 : decode cX1_rmdir 115 = .ok (.bipush 6, 2) := by decide +kernel
theorem dX1_rmdir_117 : decode cX1_rmdir 117 = .ok (.iload_n 1, 1) := by decide +kernel
theorem dX1_rmdir_118 : decode cX1_rmdir 118 = .ok (.iadd, 1) := by decide +kernel
theorem dX1_rmdir_119 : decode cX1_rmdir 119 = .ok (.iaload, 1) := by decide +kernel
theorem dX1_rmdir_120 : decode cX1_rmdir 120 = .ok (.iconst 1, 1) := by decide +kernel
theorem dX1_rmdir_121 : decode cX1_rmdir 121 = .ok (.iload_n 2, 1) := by decide +kernel
theorem dX1_rmdir_122 : decode cX1_rmdir 122 = .ok (.ishl, 1) := by decide +kernel
theorem dX1_rmdir_123 : decode cX1_rmdir 123 = .ok (.iconst (-1), 1) := by decide +kernel
theorem dX1_rmdir_124 : decode cX1_rmdir 124 = .ok (.ixor, 1) := by decide +kernel
theorem dX1_rmdir_125 : decode cX1_rmdir 125 = .ok (.iand, 1) := by decide +kernel
theorem dX1_rmdir_126 : decode cX1_rmdir 126 = .ok (.iastore, 1) := by decide +kernel
theorem dX1_rmdir_127 : decode cX1_rmdir 127 = .ok (.iload 4, 2) := by decide +kernel
theorem dX1_rmdir_129 : decode cX1_rmdir 129 = .ok (.ireturn, 1) := by decide +kernel
abbrev cX1_has : ByteArray := prog_3_method_7_code
def yX1_has : MethodName := ⟨RX1, "has", "(II)Z"⟩
theorem dX1_has_0 : decode cX1_has 0 = .ok (.aload_n 0, 1) := by decide +kernel
theorem dX1_has_1 : decode cX1_has 1 = .ok (.getfield 13, 3) := by decide +kernel
theorem dX1_has_4 : decode cX1_has 4 = .ok (.iload_n 1, 1) := by decide +kernel
theorem dX1_has_5 : decode cX1_has 5 = .ok (.iaload, 1) := by decide +kernel
theorem dX1_has_6 : decode cX1_has 6 = .ok (.iload_n 2, 1) := by decide +kernel
theorem dX1_has_7 : decode cX1_has 7 = .ok (.ishr, 1) := by decide +kernel
theorem dX1_has_8 : decode cX1_has 8 = .ok (.iconst 1, 1) := by decide +kernel
theorem dX1_has_9 : decode cX1_has 9 = .ok (.iand, 1) := by decide +kernel
theorem dX1_has_10 : decode cX1_has 10 = .ok (.iconst 1, 1) := by decide +kernel
theorem dX1_has_11 : decode cX1_has 11 = .ok (.if_icmp .ne 7, 3) := by decide +kernel
theorem dX1_has_14 : decode cX1_has 14 = .ok (.iconst 1, 1) := by decide +kernel
theorem dX1_has_15 : decode cX1_has 15 = .ok (.goto 4, 3) := by decide +kernel
theorem dX1_has_18 : decode cX1_has 18 = .ok (.iconst 0, 1) := by decide +kernel
theorem dX1_has_19 : decode cX1_has 19 = .ok (.ireturn, 1) := by decide +kernel
abbrev cX1_write : ByteArray := prog_3_method_14_code
def yX1_write : MethodName := ⟨RX1, "write", "(III)I"⟩
theorem dX1_write_0 : decode cX1_write 0 = .ok (.aload_n 0, 1) := by decide +kernel
theorem dX1_write_1 : decode cX1_write 1 = .ok (.iload_n 1, 1) := by decide +kernel
theorem dX1_write_2 : decode cX1_write 2 = .ok (.iload_n 2, 1) := by decide +kernel
theorem dX1_write_3 : decode cX1_write 3 = .ok (.invokevirtual 56, 3) := by decide +kernel
theorem dX1_write_6 : decode cX1_write 6 = .ok (.istore 4, 2) := by decide +kernel
theorem dX1_write_8 : decode cX1_write 8 = .ok (.iload 4, 2) := by decide +kernel
theorem dX1_write_10 : decode cX1_write 10 = .ok (.ifCond .eq 6, 3) := by decide +kernel
theorem dX1_write_13 : decode cX1_write 13 = .ok (.iload 4, 2) := by decide +kernel
theorem dX1_write_15 : decode cX1_write 15 = .ok (.ireturn, 1) := by decide +kernel
theorem dX1_write_16 : decode cX1_write 16 = .ok (.aload_n 0, 1) := by decide +kernel
theorem dX1_write_17 : decode cX1_write 17 = .ok (.bipush 6, 2) := by decide +kernel
theorem dX1_write_19 : decode cX1_write 19 = .ok (.iload_n 1, 1) := by decide +kernel
theorem dX1_write_20 : decode cX1_write 20 = .ok (.iadd, 1) := by decide +kernel
theorem dX1_write_21 : decode cX1_write 21 = .ok (.iload_n 2, 1) := by decide +kernel
theorem dX1_write_22 : decode cX1_write 22 = .ok (.iconst 4, 1) := by decide +kernel
theorem dX1_write_23 : decode cX1_write 23 = .ok (.idiv, 1) := by decide +kernel
theorem dX1_write_24 : decode cX1_write 24 = .ok (.invokevirtual 49, 3) := by decide +kernel
theorem dX1_write_27 : decode cX1_write 27 = .ok (.ifCond .eq 16, 3) := by decide +kernel
theorem dX1_write_30 : decode cX1_write 30 = .ok (.aload_n 0, 1) := by decide +kernel
theorem dX1_write_31 : decode cX1_write 31 = .ok (.bipush 6, 2) := by decide +kernel
theorem dX1_write_33 : decode cX1_write 33 = .ok (.iload_n 1, 1) := by decide +kernel
theorem dX1_write_34 : decode cX1_write 34 = .ok (.iadd, 1) := by decide +kernel
theorem dX1_write_35 : decode cX1_write 35 = .ok (.iload_n 2, 1) := by decide +kernel
theorem dX1_write_36 : decode cX1_write 36 = .ok (.iload_n 3, 1) := by decide +kernel
theorem dX1_write_37 : decode cX1_write 37 = .ok (.invokevirtual 59, 3) := by decide +kernel
theorem dX1_write_40 : decode cX1_write 40 = .ok (.goto 5, 3) := by decide +kernel
theorem dX1_write_43 : decode cX1_write 43 = .ok (.bipush (-4), 2) := by decide +kernel
theorem dX1_write_45 : decode cX1_write 45 = .ok (.ireturn, 1) := by decide +kernel
abbrev cX1_testFile : ByteArray := prog_3_method_4_code
def yX1_testFile : MethodName := ⟨RX1, "testFile", "(II)I"⟩
theorem dX1_testFile_0 : decode cX1_testFile 0 = .ok (.aload_n 0, 1) := by decide +kernel
theorem dX1_testFile_1 : decode cX1_testFile 1 = .ok (.iload_n 1, 1) := by decide +kernel
theorem dX1_testFile_2 : decode cX1_testFile 2 = .ok (.invokevirtual 33, 3) := by decide +kernel
theorem dX1_testFile_5 : decode cX1_testFile 5 = .ok (.istore_n 3, 1) := by decide +kernel
theorem dX1_testFile_6 : decode cX1_testFile 6 = .ok (.iload_n 3, 1) := by decide +kernel
theorem dX1_testFile_7 : decode cX1_testFile 7 = .ok (.ifCond .ne 17, 3) := by decide +kernel
theorem dX1_testFile_10 : decode cX1_testFile 10 = .ok (.iload_n 2, 1) := by decide +kernel
theorem dX1_testFile_11 : decode cX1_testFile 11 = .ok (.ifCond .lt 9, 3) := by decide +kernel
theorem dX1_testFile_14 : decode cX1_testFile 14 = .ok (.iload_n 2, 1) := by decide +kernel
theorem dX1_testFile_15 : decode cX1_testFile 15 = .ok (.bipush 7, 2) := by decide +kernel
theorem dX1_testFile_17 : decode cX1_testFile 17 = .ok (.if_icmp .le 7, 3) := by decide +kernel
theorem dX1_testFile_20 : decode cX1_testFile 20 = .ok (.iconst (-1), 1) := by decide +kernel
theorem dX1_testFile_21 : decode cX1_testFile 21 = .ok (.goto 4, 3) := by decide +kernel
theorem dX1_testFile_24 : decode cX1_testFile 24 = .ok (.iload_n 3, 1) := by decide +kernel
theorem dX1_testFile_25 : decode cX1_testFile 25 = .ok (.ireturn, 1) := by decide +kernel
abbrev cX1_put : ByteArray := prog_3_method_13_code
def yX1_put : MethodName := ⟨RX1, "put", "(III)I"⟩
theorem dX1_put_0 : decode cX1_put 0 = .ok (.aload_n 0, 1) := by decide +kernel
theorem dX1_put_1 : decode cX1_put 1 = .ok (.iload_n 1, 1) := by decide +kernel
theorem dX1_put_2 : decode cX1_put 2 = .ok (.iload_n 2, 1) := by decide +kernel
theorem dX1_put_3 : decode cX1_put 3 = .ok (.invokevirtual 53, 3) := by decide +kernel
theorem dX1_put_6 : decode cX1_put 6 = .ok (.ifCond .eq 7, 3) := by decide +kernel
theorem dX1_put_9 : decode cX1_put 9 = .ok (.iconst 1, 1) := by decide +kernel
theorem dX1_put_10 : decode cX1_put 10 = .ok (.goto 4, 3) := by decide +kernel
theorem dX1_put_13 : decode cX1_put 13 = .ok (.iconst 0, 1) := by decide +kernel
theorem dX1_put_14 : decode cX1_put 14 = .ok (.istore 4, 2) := by decide +kernel
theorem dX1_put_16 : decode cX1_put 16 = .ok (.aload_n 0, 1) := by decide +kernel
theorem dX1_put_17 : decode cX1_put 17 = .ok (.getfield 13, 3) := by decide +kernel
theorem dX1_put_20 : decode cX1_put 20 = .ok (.iload_n 1, 1) := by decide +kernel
theorem dX1_put_21 : decode cX1_put 21 = .ok (.aload_n 0, 1) := by decide +kernel
theorem dX1_put_22 : decode cX1_put 22 = .ok (.getfield 13, 3) := by decide +kernel
theorem dX1_put_25 : decode cX1_put 25 = .ok (.iload_n 1, 1) := by decide +kernel
theorem dX1_put_26 : decode cX1_put 26 = .ok (.iaload, 1) := by decide +kernel
theorem dX1_put_27 : decode cX1_put 27 = .ok (.iconst 1, 1) := by decide +kernel
theorem dX1_put_28 : decode cX1_put 28 = .ok (.iload_n 2, 1) := by decide +kernel
theorem dX1_put_29 : decode cX1_put 29 = .ok (.ishl, 1) := by decide +kernel
theorem dX1_put_30 : decode cX1_put 30 = .ok (.ior, 1) := by decide +kernel
theorem dX1_put_31 : decode cX1_put 31 = .ok (.iastore, 1) := by decide +kernel
theorem dX1_put_32 : decode cX1_put 32 = .ok (.aload_n 0, 1) := by decide +kernel
theorem dX1_put_33 : decode cX1_put 33 = .ok (.getfield 16, 3) := by decide +kernel
theorem dX1_put_36 : decode cX1_put 36 = .ok (.bipush 8, 2) := by decide +kernel
theorem dX1_put_38 : decode cX1_put 38 = .ok (.iload_n 1, 1) := by decide +kernel
theorem dX1_put_39 : decode cX1_put 39 = .ok (.imul, 1) := by decide +kernel
theorem dX1_put_40 : decode cX1_put 40 = .ok (.iload_n 2, 1) := by decide +kernel
theorem dX1_put_41 : decode cX1_put 41 = .ok (.iadd, 1) := by decide +kernel
theorem dX1_put_42 : decode cX1_put 42 = .ok (.iload_n 3, 1) := by decide +kernel
theorem dX1_put_43 : decode cX1_put 43 = .ok (.iastore, 1) := by decide +kernel
theorem dX1_put_44 : decode cX1_put 44 = .ok (.iload 4, 2) := by decide +kernel
theorem dX1_put_46 : decode cX1_put 46 = .ok (.ireturn, 1) := by decide +kernel
abbrev cX1_grow : ByteArray := prog_3_method_15_code
def yX1_grow : MethodName := ⟨RX1, "grow", "(III)I"⟩
theorem dX1_grow_0 : decode cX1_grow 0 = .ok (.aload_n 0, 1) := by decide +kernel
theorem dX1_grow_1 : decode cX1_grow 1 = .ok (.iload_n 1, 1) := by decide +kernel
theorem dX1_grow_2 : decode cX1_grow 2 = .ok (.iload_n 2, 1) := by decide +kernel
theorem dX1_grow_3 : decode cX1_grow 3 = .ok (.invokevirtual 56, 3) := by decide +kernel
theorem dX1_grow_6 : decode cX1_grow 6 = .ok (.istore 4, 2) := by decide +kernel
theorem dX1_grow_8 : decode cX1_grow 8 = .ok (.iload 4, 2) := by decide +kernel
theorem dX1_grow_10 : decode cX1_grow 10 = .ok (.ifCond .eq 6, 3) := by decide +kernel
theorem dX1_grow_13 : decode cX1_grow 13 = .ok (.iload 4, 2) := by decide +kernel
theorem dX1_grow_15 : decode cX1_grow 15 = .ok (.ireturn, 1) := by decide +kernel
theorem dX1_grow_16 : decode cX1_grow 16 = .ok (.aload_n 0, 1) := by decide +kernel
theorem dX1_grow_17 : decode cX1_grow 17 = .ok (.bipush 6, 2) := by decide +kernel
theorem dX1_grow_19 : decode cX1_grow 19 = .ok (.iload_n 1, 1) := by decide +kernel
theorem dX1_grow_20 : decode cX1_grow 20 = .ok (.iadd, 1) := by decide +kernel
theorem dX1_grow_21 : decode cX1_grow 21 = .ok (.iload_n 2, 1) := by decide +kernel
theorem dX1_grow_22 : decode cX1_grow 22 = .ok (.invokevirtual 53, 3) := by decide +kernel
theorem dX1_grow_25 : decode cX1_grow 25 = .ok (.ifCond .ne 6, 3) := by decide +kernel
theorem dX1_grow_28 : decode cX1_grow 28 = .ok (.bipush (-4), 2) := by decide +kernel
theorem dX1_grow_30 : decode cX1_grow 30 = .ok (.ireturn, 1) := by decide +kernel
theorem dX1_grow_31 : decode cX1_grow 31 = .ok (.aload_n 0, 1) := by decide +kernel
theorem dX1_grow_32 : decode cX1_grow 32 = .ok (.getfield 16, 3) := by decide +kernel
theorem dX1_grow_35 : decode cX1_grow 35 = .ok (.bipush 8, 2) := by decide +kernel
theorem dX1_grow_37 : decode cX1_grow 37 = .ok (.bipush 6, 2) := by decide +kernel
theorem dX1_grow_39 : decode cX1_grow 39 = .ok (.iload_n 1, 1) := by decide +kernel
theorem dX1_grow_40 : decode cX1_grow 40 = .ok (.iadd, 1) := by decide +kernel
theorem dX1_grow_41 : decode cX1_grow 41 = .ok (.imul, 1) := by decide +kernel
theorem dX1_grow_42 : decode cX1_grow 42 = .ok (.iload_n 2, 1) := by decide +kernel
theorem dX1_grow_43 : decode cX1_grow 43 = .ok (.iadd, 1) := by decide +kernel
theorem dX1_grow_44 : decode cX1_grow 44 = .ok (.aload_n 0, 1) := by decide +kernel
theorem dX1_grow_45 : decode cX1_grow 45 = .ok (.getfield 16, 3) := by decide +kernel
theorem dX1_grow_48 : decode cX1_grow 48 = .ok (.bipush 8, 2) := by decide +kernel
theorem dX1_grow_50 : decode cX1_grow 50 = .ok (.bipush 6, 2) := by decide +kernel
theorem dX1_grow_52 : decode cX1_grow 52 = .ok (.iload_n 1, 1) := by decide +kernel
theorem dX1_grow_53 : decode cX1_grow 53 = .ok (.iadd, 1) := by decide +kernel
theorem dX1_grow_54 : decode cX1_grow 54 = .ok (.imul, 1) := by decide +kernel
theorem dX1_grow_55 : decode cX1_grow 55 = .ok (.iload_n 2, 1) := by decide +kernel
theorem dX1_grow_56 : decode cX1_grow 56 = .ok (.iadd, 1) := by decide +kernel
theorem dX1_grow_57 : decode cX1_grow 57 = .ok (.iaload, 1) := by decide +kernel
theorem dX1_grow_58 : decode cX1_grow 58 = .ok (.iload_n 3, 1) := by decide +kernel
theorem dX1_grow_59 : decode cX1_grow 59 = .ok (.iadd, 1) := by decide +kernel
theorem dX1_grow_60 : decode cX1_grow 60 = .ok (.iastore, 1) := by decide +kernel
theorem dX1_grow_61 : decode cX1_grow 61 = .ok (.iconst 0, 1) := by decide +kernel
theorem dX1_grow_62 : decode cX1_grow 62 = .ok (.ireturn, 1) := by decide +kernel
abbrev cX1_remove : ByteArray := prog_3_method_16_code
def yX1_remove : MethodName := ⟨RX1, "remove", "(II)I"⟩
theorem dX1_remove_0 : decode cX1_remove 0 = .ok (.aload_n 0, 1) := by decide +kernel
theorem dX1_remove_1 : decode cX1_remove 1 = .ok (.iload_n 1, 1) := by decide +kernel
theorem dX1_remove_2 : decode cX1_remove 2 = .ok (.iload_n 2, 1) := by decide +kernel
theorem dX1_remove_3 : decode cX1_remove 3 = .ok (.invokevirtual 56, 3) := by decide +kernel
theorem dX1_remove_6 : decode cX1_remove 6 = .ok (.istore_n 3, 1) := by decide +kernel
theorem dX1_remove_7 : decode cX1_remove 7 = .ok (.iload_n 3, 1) := by decide +kernel
theorem dX1_remove_8 : decode cX1_remove 8 = .ok (.ifCond .eq 5, 3) := by decide +kernel
theorem dX1_remove_11 : decode cX1_remove 11 = .ok (.iload_n 3, 1) := by decide +kernel
theorem dX1_remove_12 : decode cX1_remove 12 = .ok (.ireturn, 1) := by decide +kernel
theorem dX1_remove_13 : decode cX1_remove 13 = .ok (.aload_n 0, 1) := by decide +kernel
theorem dX1_remove_14 : decode cX1_remove 14 = .ok (.bipush 6, 2) := by decide +kernel
theorem dX1_remove_16 : decode cX1_remove 16 = .ok (.iload_n 1, 1) := by decide +kernel
theorem dX1_remove_17 : decode cX1_remove 17 = .ok (.iadd, 1) := by decide +kernel
theorem dX1_remove_18 : decode cX1_remove 18 = .ok (.iload_n 2, 1) := by decide +kernel
theorem dX1_remove_19 : decode cX1_remove 19 = .ok (.invokevirtual 53, 3) := by decide +kernel
theorem dX1_remove_22 : decode cX1_remove 22 = .ok (.ifCond .ne 6, 3) := by decide +kernel
theorem dX1_remove_25 : decode cX1_remove 25 = .ok (.bipush (-4), 2) := by decide +kernel
theorem dX1_remove_27 : decode cX1_remove 27 = .ok (.ireturn, 1) := by decide +kernel
theorem dX1_remove_28 : decode cX1_remove 28 = .ok (.aload_n 0, 1) := by decide +kernel
theorem dX1_remove_29 : decode cX1_remove 29 = .ok (.getfield 13, 3) := by decide +kernel
theorem dX1_remove_32 : decode cX1_remove 32 = .ok (.bipush 6, 2) := by decide +kernel
theorem dX1_remove_34 : decode cX1_remove 34 = .ok (.iload_n 1, 1) := by decide +kernel
theorem dX1_remove_35 : decode cX1_remove 35 = .ok (.iadd, 1) := by decide +kernel
theorem dX1_remove_36 : decode cX1_remove 36 = .ok (.aload_n 0, 1) := by decide +kernel
theorem dX1_remove_37 : decode cX1_remove 37 = .ok (.getfield 13, 3) := by decide +kernel
theorem dX1_remove_40 : decode cX1_remove 40 = .ok (.bipush 6, 2) := by decide +kernel
theorem dX1_remove_42 : decode cX1_remove 42 = .ok (.iload_n 1, 1) := by decide +kernel
theorem dX1_remove_43 : decode cX1_remove 43 = .ok (.iadd, 1) := by decide +kernel
theorem dX1_remove_44 : decode cX1_remove 44 = .ok (.iaload, 1) := by decide +kernel
theorem dX1_remove_45 : decode cX1_remove 45 = .ok (.iconst 1, 1) := by decide +kernel
theorem dX1_remove_46 : decode cX1_remove 46 = .ok (.iload_n 2, 1) := by decide +kernel
theorem dX1_remove_47 : decode cX1_remove 47 = .ok (.ishl, 1) := by decide +kernel
theorem dX1_remove_48 : decode cX1_remove 48 = .ok (.iconst (-1), 1) := by decide +kernel
theorem dX1_remove_49 : decode cX1_remove 49 = .ok (.ixor, 1) := by decide +kernel
theorem dX1_remove_50 : decode cX1_remove 50 = .ok (.iand, 1) := by decide +kernel
theorem dX1_remove_51 : decode cX1_remove 51 = .ok (.iastore, 1) := by decide +kernel
theorem dX1_remove_52 : decode cX1_remove 52 = .ok (.iconst 0, 1) := by decide +kernel
theorem dX1_remove_53 : decode cX1_remove 53 = .ok (.ireturn, 1) := by decide +kernel
abbrev cX1_rename : ByteArray := prog_3_method_17_code
def yX1_rename : MethodName := ⟨RX1, "rename", "(III)I"⟩
theorem dX1_rename_0 : decode cX1_rename 0 = .ok (.aload_n 0, 1) := by decide +kernel
theorem dX1_rename_1 : decode cX1_rename 1 = .ok (.iload_n 1, 1) := by decide +kernel
theorem dX1_rename_2 : decode cX1_rename 2 = .ok (.iload_n 2, 1) := by decide +kernel
theorem dX1_rename_3 : decode cX1_rename 3 = .ok (.invokevirtual 56, 3) := by decide +kernel
theorem dX1_rename_6 : decode cX1_rename 6 = .ok (.istore 4, 2) := by decide +kernel
theorem dX1_rename_8 : decode cX1_rename 8 = .ok (.iload 4, 2) := by decide +kernel
theorem dX1_rename_10 : decode cX1_rename 10 = .ok (.ifCond .ne 12, 3) := by decide +kernel
theorem dX1_rename_13 : decode cX1_rename 13 = .ok (.aload_n 0, 1) := by decide +kernel
theorem dX1_rename_14 : decode cX1_rename 14 = .ok (.iload_n 1, 1) := by decide +kernel
theorem dX1_rename_15 : decode cX1_rename 15 = .ok (.iload_n 3, 1) := by decide +kernel
theorem dX1_rename_16 : decode cX1_rename 16 = .ok (.invokevirtual 56, 3) := by decide +kernel
theorem dX1_rename_19 : decode cX1_rename 19 = .ok (.goto 5, 3) := by decide +kernel
theorem dX1_rename_22 : decode cX1_rename 22 = .ok (.iload 4, 2) := by decide +kernel
theorem dX1_rename_24 : decode cX1_rename 24 = .ok (.istore 4, 2) := by decide +kernel
theorem dX1_rename_26 : decode cX1_rename 26 = .ok (.iload 4, 2) := by decide +kernel
theorem dX1_rename_28 : decode cX1_rename 28 = .ok (.ifCond .ne 12, 3) := by decide +kernel
theorem dX1_rename_31 : decode cX1_rename 31 = .ok (.iload_n 2, 1) := by decide +kernel
theorem dX1_rename_32 : decode cX1_rename 32 = .ok (.iload_n 3, 1) := by decide +kernel
theorem dX1_rename_33 : decode cX1_rename 33 = .ok (.if_icmp .ne 7, 3) := by decide +kernel
theorem dX1_rename_36 : decode cX1_rename 36 = .ok (.iconst (-1), 1) := by decide +kernel
theorem dX1_rename_37 : decode cX1_rename 37 = .ok (.goto 5, 3) := by decide +kernel
theorem dX1_rename_40 : decode cX1_rename 40 = .ok (.iload 4, 2) := by decide +kernel
theorem dX1_rename_42 : decode cX1_rename 42 = .ok (.istore 4, 2) := by decide +kernel
theorem dX1_rename_44 : decode cX1_rename 44 = .ok (.iload 4, 2) := by decide +kernel
theorem dX1_rename_46 : decode cX1_rename 46 = .ok (.ifCond .eq 6, 3) := by decide +kernel
theorem dX1_rename_49 : decode cX1_rename 49 = .ok (.iload 4, 2) := by decide +kernel
theorem dX1_rename_51 : decode cX1_rename 51 = .ok (.ireturn, 1) := by decide +kernel
theorem dX1_rename_52 : decode cX1_rename 52 = .ok (.aload_n 0, 1) := by decide +kernel
theorem dX1_rename_53 : decode cX1_rename 53 = .ok (.bipush 6, 2) := by decide +kernel
theorem dX1_rename_55 : decode cX1_rename 55 = .ok (.iload_n 1, 1) := by decide +kernel
theorem dX1_rename_56 : decode cX1_rename 56 = .ok (.iadd, 1) := by decide +kernel
theorem dX1_rename_57 : decode cX1_rename 57 = .ok (.iload_n 2, 1) := by decide +kernel
theorem dX1_rename_58 : decode cX1_rename 58 = .ok (.invokevirtual 53, 3) := by decide +kernel
theorem dX1_rename_61 : decode cX1_rename 61 = .ok (.ifCond .eq 17, 3) := by decide +kernel
theorem dX1_rename_64 : decode cX1_rename 64 = .ok (.aload_n 0, 1) := by decide +kernel
theorem dX1_rename_65 : decode cX1_rename 65 = .ok (.bipush 6, 2) := by decide +kernel
theorem dX1_rename_67 : decode cX1_rename 67 = .ok (.iload_n 1, 1) := by decide +kernel
theorem dX1_rename_68 : decode cX1_rename 68 = .ok (.iadd, 1) := by decide +kernel
theorem dX1_rename_69 : decode cX1_rename 69 = .ok (.iload_n 3, 1) := by decide +kernel
theorem dX1_rename_70 : decode cX1_rename 70 = .ok (.iconst 4, 1) := by decide +kernel
theorem dX1_rename_71 : decode cX1_rename 71 = .ok (.idiv, 1) := by decide +kernel
theorem dX1_rename_72 : decode cX1_rename 72 = .ok (.invokevirtual 49, 3) := by decide +kernel
theorem dX1_rename_75 : decode cX1_rename 75 = .ok (.ifCond .ne 6, 3) := by decide +kernel
theorem dX1_rename_78 : decode cX1_rename 78 = .ok (.bipush (-4), 2) := by decide +kernel
theorem dX1_rename_80 : decode cX1_rename 80 = .ok (.ireturn, 1) := by decide +kernel
theorem dX1_rename_81 : decode cX1_rename 81 = .ok (.aload_n 0, 1) := by decide +kernel
theorem dX1_rename_82 : decode cX1_rename 82 = .ok (.getfield 13, 3) := by decide +kernel
theorem dX1_rename_85 : decode cX1_rename 85 = .ok (.bipush 6, 2) := by decide +kernel
theorem dX1_rename_87 : decode cX1_rename 87 = .ok (.iload_n 1, 1) := by decide +kernel
theorem dX1_rename_88 : decode cX1_rename 88 = .ok (.iadd, 1) := by decide +kernel
theorem dX1_rename_89 : decode cX1_rename 89 = .ok (.aload_n 0, 1) := by decide +kernel
theorem dX1_rename_90 : decode cX1_rename 90 = .ok (.getfield 13, 3) := by decide +kernel
theorem dX1_rename_93 : decode cX1_rename 93 = .ok (.bipush 6, 2) := by decide +kernel
theorem dX1_rename_95 : decode cX1_rename 95 = .ok (.iload_n 1, 1) := by decide +kernel
theorem dX1_rename_96 : decode cX1_rename 96 = .ok (.iadd, 1) := by decide +kernel
theorem dX1_rename_97 : decode cX1_rename 97 = .ok (.iaload, 1) := by decide +kernel
theorem dX1_rename_98 : decode cX1_rename 98 = .ok (.iconst 1, 1) := by decide +kernel
theorem dX1_rename_99 : decode cX1_rename 99 = .ok (.iload_n 2, 1) := by decide +kernel
theorem dX1_rename_100 : decode cX1_rename 100 = .ok (.ishl, 1) := by decide +kernel
theorem dX1_rename_101 : decode cX1_rename 101 = .ok (.iconst (-1), 1) := by decide +kernel
theorem dX1_rename_102 : decode cX1_rename 102 = .ok (.ixor, 1) := by decide +kernel
theorem dX1_rename_103 : decode cX1_rename 103 = .ok (.iand, 1) := by decide +kernel
theorem dX1_rename_104 : decode cX1_rename 104 = .ok (.iastore, 1) := by decide +kernel
theorem dX1_rename_105 : decode cX1_rename 105 = .ok (.aload_n 0, 1) := by decide +kernel
theorem dX1_rename_106 : decode cX1_rename 106 = .ok (.bipush 6, 2) := by decide +kernel
theorem dX1_rename_108 : decode cX1_rename 108 = .ok (.iload_n 1, 1) := by decide +kernel
theorem dX1_rename_109 : decode cX1_rename 109 = .ok (.iadd, 1) := by decide +kernel
theorem dX1_rename_110 : decode cX1_rename 110 = .ok (.iload_n 3, 1) := by decide +kernel
theorem dX1_rename_111 : decode cX1_rename 111 = .ok (.aload_n 0, 1) := by decide +kernel
theorem dX1_rename_112 : decode cX1_rename 112 = .ok (.getfield 16, 3) := by decide +kernel
theorem dX1_rename_115 : decode cX1_rename 115 = .ok (.bipush 8, 2) := by decide +kernel
theorem dX1_rename_117 : decode cX1_rename 117 = .ok (.bipush 6, 2) := by decide +kernel
theorem dX1_rename_119 : decode cX1_rename 119 = .ok (.iload_n 1, 1) := by decide +kernel
theorem dX1_rename_120 : decode cX1_rename 120 = .ok (.iadd, 1) := by decide +kernel
theorem dX1_rename_121 : decode cX1_rename 121 = .ok (.imul, 1) := by decide +kernel
theorem dX1_rename_122 : decode cX1_rename 122 = .ok (.iload_n 2, 1) := by decide +kernel
theorem dX1_rename_123 : decode cX1_rename 123 = .ok (.iadd, 1) := by decide +kernel
theorem dX1_rename_124 : decode cX1_rename 124 = .ok (.iaload, 1) := by decide +kernel
theorem dX1_rename_125 : decode cX1_rename 125 = .ok (.invokevirtual 59, 3) := by decide +kernel
theorem dX1_rename_128 : decode cX1_rename 128 = .ok (.ireturn, 1) := by decide +kernel
abbrev cX1_read : ByteArray := prog_3_method_18_code
def yX1_read : MethodName := ⟨RX1, "read", "(II)I"⟩
theorem dX1_read_0 : decode cX1_read 0 = .ok (.aload_n 0, 1) := by decide +kernel
theorem dX1_read_1 : decode cX1_read 1 = .ok (.iload_n 1, 1) := by decide +kernel
theorem dX1_read_2 : decode cX1_read 2 = .ok (.iload_n 2, 1) := by decide +kernel
theorem dX1_read_3 : decode cX1_read 3 = .ok (.invokevirtual 56, 3) := by decide +kernel
theorem dX1_read_6 : decode cX1_read 6 = .ok (.ifCond .ne 32, 3) := by decide +kernel
theorem dX1_read_9 : decode cX1_read 9 = .ok (.aload_n 0, 1) := by decide +kernel
theorem dX1_read_10 : decode cX1_read 10 = .ok (.bipush 6, 2) := by decide +kernel
theorem dX1_read_12 : decode cX1_read 12 = .ok (.iload_n 1, 1) := by decide +kernel
theorem dX1_read_13 : decode cX1_read 13 = .ok (.iadd, 1) := by decide +kernel
theorem dX1_read_14 : decode cX1_read 14 = .ok (.iload_n 2, 1) := by decide +kernel
theorem dX1_read_15 : decode cX1_read 15 = .ok (.invokevirtual 53, 3) := by decide +kernel
theorem dX1_read_18 : decode cX1_read 18 = .ok (.ifCond .eq 20, 3) := by decide +kernel
theorem dX1_read_21 : decode cX1_read 21 = .ok (.aload_n 0, 1) := by decide +kernel
theorem dX1_read_22 : decode cX1_read 22 = .ok (.getfield 16, 3) := by decide +kernel
theorem dX1_read_25 : decode cX1_read 25 = .ok (.bipush 8, 2) := by decide +kernel
theorem dX1_read_27 : decode cX1_read 27 = .ok (.bipush 6, 2) := by decide +kernel
theorem dX1_read_29 : decode cX1_read 29 = .ok (.iload_n 1, 1) := by decide +kernel
theorem dX1_read_30 : decode cX1_read 30 = .ok (.iadd, 1) := by decide +kernel
theorem dX1_read_31 : decode cX1_read 31 = .ok (.imul, 1) := by decide +kernel
theorem dX1_read_32 : decode cX1_read 32 = .ok (.iload_n 2, 1) := by decide +kernel
theorem dX1_read_33 : decode cX1_read 33 = .ok (.iadd, 1) := by decide +kernel
theorem dX1_read_34 : decode cX1_read 34 = .ok (.iaload, 1) := by decide +kernel
theorem dX1_read_35 : decode cX1_read 35 = .ok (.goto 4, 3) := by decide +kernel
theorem dX1_read_38 : decode cX1_read 38 = .ok (.iconst 0, 1) := by decide +kernel
theorem dX1_read_39 : decode cX1_read 39 = .ok (.ireturn, 1) := by decide +kernel
abbrev cX1_files : ByteArray := prog_3_method_19_code
def yX1_files : MethodName := ⟨RX1, "files", "(I)I"⟩
theorem dX1_files_0 : decode cX1_files 0 = .ok (.aload_n 0, 1) := by decide +kernel
theorem dX1_files_1 : decode cX1_files 1 = .ok (.iload_n 1, 1) := by decide +kernel
theorem dX1_files_2 : decode cX1_files 2 = .ok (.invokevirtual 33, 3) := by decide +kernel
theorem dX1_files_5 : decode cX1_files 5 = .ok (.istore_n 2, 1) := by decide +kernel
theorem dX1_files_6 : decode cX1_files 6 = .ok (.iload_n 2, 1) := by decide +kernel
theorem dX1_files_7 : decode cX1_files 7 = .ok (.ifCond .ne 15, 3) := by decide +kernel
theorem dX1_files_10 : decode cX1_files 10 = .ok (.aload_n 0, 1) := by decide +kernel
theorem dX1_files_11 : decode cX1_files 11 = .ok (.getfield 13, 3) := by decide +kernel
theorem dX1_files_14 : decode cX1_files 14 = .ok (.bipush 6, 2) := by decide +kernel
theorem dX1_files_16 : decode cX1_files 16 = .ok (.iload_n 1, 1) := by decide +kernel
theorem dX1_files_17 : decode cX1_files 17 = .ok (.iadd, 1) := by decide +kernel
theorem dX1_files_18 : decode cX1_files 18 = .ok (.iaload, 1) := by decide +kernel
theorem dX1_files_19 : decode cX1_files 19 = .ok (.goto 4, 3) := by decide +kernel
theorem dX1_files_22 : decode cX1_files 22 = .ok (.iload_n 2, 1) := by decide +kernel
theorem dX1_files_23 : decode cX1_files 23 = .ok (.ireturn, 1) := by decide +kernel
abbrev cX1_directories : ByteArray := prog_3_method_20_code
def yX1_directories : MethodName := ⟨RX1, "directories", "(I)I"⟩
theorem dX1_directories_0 : decode cX1_directories 0 = .ok (.aload_n 0, 1) := by decide +kernel
theorem dX1_directories_1 : decode cX1_directories 1 = .ok (.iload_n 1, 1) := by decide +kernel
theorem dX1_directories_2 : decode cX1_directories 2 = .ok (.invokevirtual 33, 3) := by decide +kernel
theorem dX1_directories_5 : decode cX1_directories 5 = .ok (.istore_n 2, 1) := by decide +kernel
theorem dX1_directories_6 : decode cX1_directories 6 = .ok (.iload_n 2, 1) := by decide +kernel
theorem dX1_directories_7 : decode cX1_directories 7 = .ok (.ifCond .ne 15, 3) := by decide +kernel
theorem dX1_directories_10 : decode cX1_directories 10 = .ok (.aload_n 0, 1) := by decide +kernel
theorem dX1_directories_11 : decode cX1_directories 11 = .ok (.getfield 7, 3) := by decide +kernel
theorem dX1_directories_14 : decode cX1_directories 14 = .ok (.bipush 6, 2) := by decide +kernel
theorem dX1_directories_16 : decode cX1_directories 16 = .ok (.iload_n 1, 1) := by decide +kernel
theorem dX1_directories_17 : decode cX1_directories 17 = .ok (.iadd, 1) := by decide +kernel
theorem dX1_directories_18 : decode cX1_directories 18 = .ok (.iaload, 1) := by decide +kernel
theorem dX1_directories_19 : decode cX1_directories 19 = .ok (.goto 4, 3) := by decide +kernel
theorem dX1_directories_22 : decode cX1_directories 22 = .ok (.iload_n 2, 1) := by decide +kernel
theorem dX1_directories_23 : decode cX1_directories 23 = .ok (.ireturn, 1) := by decide +kernel
abbrev cX1_commit : ByteArray := prog_3_method_21_code
def yX1_commit : MethodName := ⟨RX1, "commit", "(I)I"⟩
theorem dX1_commit_0 : decode cX1_commit 0 = .ok (.aload_n 0, 1) := by decide +kernel
theorem dX1_commit_1 : decode cX1_commit 1 = .ok (.iload_n 1, 1) := by decide +kernel
theorem dX1_commit_2 : decode cX1_commit 2 = .ok (.invokevirtual 33, 3) := by decide +kernel
theorem dX1_commit_5 : decode cX1_commit 5 = .ok (.istore_n 2, 1) := by decide +kernel
theorem dX1_commit_6 : decode cX1_commit 6 = .ok (.iload_n 2, 1) := by decide +kernel
theorem dX1_commit_7 : decode cX1_commit 7 = .ok (.ifCond .eq 5, 3) := by decide +kernel
theorem dX1_commit_10 : decode cX1_commit 10 = .ok (.iload_n 2, 1) := by decide +kernel
theorem dX1_commit_11 : decode cX1_commit 11 = .ok (.ireturn, 1) := by decide +kernel
theorem dX1_commit_12 : decode cX1_commit 12 = .ok (.aload_n 0, 1) := by decide +kernel
theorem dX1_commit_13 : decode cX1_commit 13 = .ok (.getfield 29, 3) := by decide +kernel
theorem dX1_commit_16 : decode cX1_commit 16 = .ok (.bipush 6, 2) := by decide +kernel
theorem dX1_commit_18 : decode cX1_commit 18 = .ok (.if_icmp .ne 6, 3) := by decide +kernel
theorem dX1_commit_21 : decode cX1_commit 21 = .ok (.bipush (-2), 2) := by decide +kernel
theorem dX1_commit_23 : decode cX1_commit 23 = .ok (.ireturn, 1) := by decide +kernel
theorem dX1_commit_24 : decode cX1_commit 24 = .ok (.aload_n 0, 1) := by decide +kernel
theorem dX1_commit_25 : decode cX1_commit 25 = .ok (.bipush 6, 2) := by decide +kernel
theorem dX1_commit_27 : decode cX1_commit 27 = .ok (.iload_n 1, 1) := by decide +kernel
theorem dX1_commit_28 : decode cX1_commit 28 = .ok (.iadd, 1) := by decide +kernel
theorem dX1_commit_29 : decode cX1_commit 29 = .ok (.aload_n 0, 1) := by decide +kernel
theorem dX1_commit_30 : decode cX1_commit 30 = .ok (.getfield 29, 3) := by decide +kernel
theorem dX1_commit_33 : decode cX1_commit 33 = .ok (.invokevirtual 41, 3) := by decide +kernel
theorem dX1_commit_36 : decode cX1_commit 36 = .ok (.aload_n 0, 1) := by decide +kernel
theorem dX1_commit_37 : decode cX1_commit 37 = .ok (.getfield 19, 3) := by decide +kernel
theorem dX1_commit_40 : decode cX1_commit 40 = .ok (.aload_n 0, 1) := by decide +kernel
theorem dX1_commit_41 : decode cX1_commit 41 = .ok (.getfield 29, 3) := by decide +kernel
theorem dX1_commit_44 : decode cX1_commit 44 = .ok (.aload_n 0, 1) := by decide +kernel
theorem dX1_commit_45 : decode cX1_commit 45 = .ok (.getfield 26, 3) := by decide +kernel
theorem dX1_commit_48 : decode cX1_commit 48 = .ok (.iload_n 1, 1) := by decide +kernel
theorem dX1_commit_49 : decode cX1_commit 49 = .ok (.iaload, 1) := by decide +kernel
theorem dX1_commit_50 : decode cX1_commit 50 = .ok (.iastore, 1) := by decide +kernel
theorem dX1_commit_51 : decode cX1_commit 51 = .ok (.aload_n 0, 1) := by decide +kernel
theorem dX1_commit_52 : decode cX1_commit 52 = .ok (.getfield 26, 3) := by decide +kernel
theorem dX1_commit_55 : decode cX1_commit 55 = .ok (.iload_n 1, 1) := by decide +kernel
theorem dX1_commit_56 : decode cX1_commit 56 = .ok (.aload_n 0, 1) := by decide +kernel
theorem dX1_commit_57 : decode cX1_commit 57 = .ok (.getfield 29, 3) := by decide +kernel
theorem dX1_commit_60 : decode cX1_commit 60 = .ok (.iastore, 1) := by decide +kernel
theorem dX1_commit_61 : decode cX1_commit 61 = .ok (.aload_n 0, 1) := by decide +kernel
theorem dX1_commit_62 : decode cX1_commit 62 = .ok (.dup, 1) := by decide +kernel
theorem dX1_commit_63 : decode cX1_commit 63 = .ok (.getfield 29, 3) := by decide +kernel
theorem dX1_commit_66 : decode cX1_commit 66 = .ok (.iconst 1, 1) := by decide +kernel
theorem dX1_commit_67 : decode cX1_commit 67 = .ok (.iadd, 1) := by decide +kernel
theorem dX1_commit_68 : decode cX1_commit 68 = .ok (.putfield 29, 3) := by decide +kernel
theorem dX1_commit_71 : decode cX1_commit 71 = .ok (.aload_n 0, 1) := by decide +kernel
theorem dX1_commit_72 : decode cX1_commit 72 = .ok (.getfield 29, 3) := by decide +kernel
theorem dX1_commit_75 : decode cX1_commit 75 = .ok (.iconst 1, 1) := by decide +kernel
theorem dX1_commit_76 : decode cX1_commit 76 = .ok (.isub, 1) := by decide +kernel
theorem dX1_commit_77 : decode cX1_commit 77 = .ok (.ireturn, 1) := by decide +kernel
abbrev cX1_drop : ByteArray := prog_3_method_23_code
def yX1_drop : MethodName := ⟨RX1, "drop", "()I"⟩
theorem dX1_drop_0 : decode cX1_drop 0 = .ok (.aload_n 0, 1) := by decide +kernel
theorem dX1_drop_1 : decode cX1_drop 1 = .ok (.getfield 29, 3) := by decide +kernel
theorem dX1_drop_4 : decode cX1_drop 4 = .ok (.iconst 1, 1) := by decide +kernel
theorem dX1_drop_5 : decode cX1_drop 5 = .ok (.if_icmp .eq 16, 3) := by decide +kernel
theorem dX1_drop_8 : decode cX1_drop 8 = .ok (.aload_n 0, 1) := by decide +kernel
theorem dX1_drop_9 : decode cX1_drop 9 = .ok (.aload_n 0, 1) := by decide +kernel
theorem dX1_drop_10 : decode cX1_drop 10 = .ok (.getfield 29, 3) := by decide +kernel
theorem dX1_drop_13 : decode cX1_drop 13 = .ok (.iconst 1, 1) := by decide +kernel
theorem dX1_drop_14 : decode cX1_drop 14 = .ok (.isub, 1) := by decide +kernel
theorem dX1_drop_15 : decode cX1_drop 15 = .ok (.invokevirtual 63, 3) := by decide +kernel
theorem dX1_drop_18 : decode cX1_drop 18 = .ok (.ifCond .ne 6, 3) := by decide +kernel
theorem dX1_drop_21 : decode cX1_drop 21 = .ok (.bipush (-4), 2) := by decide +kernel
theorem dX1_drop_23 : decode cX1_drop 23 = .ok (.ireturn, 1) := by decide +kernel
theorem dX1_drop_24 : decode cX1_drop 24 = .ok (.aload_n 0, 1) := by decide +kernel
theorem dX1_drop_25 : decode cX1_drop 25 = .ok (.dup, 1) := by decide +kernel
theorem dX1_drop_26 : decode cX1_drop 26 = .ok (.getfield 29, 3) := by decide +kernel
theorem dX1_drop_29 : decode cX1_drop 29 = .ok (.iconst 1, 1) := by decide +kernel
theorem dX1_drop_30 : decode cX1_drop 30 = .ok (.isub, 1) := by decide +kernel
theorem dX1_drop_31 : decode cX1_drop 31 = .ok (.putfield 29, 3) := by decide +kernel
theorem dX1_drop_34 : decode cX1_drop 34 = .ok (.aload_n 0, 1) := by decide +kernel
theorem dX1_drop_35 : decode cX1_drop 35 = .ok (.getfield 29, 3) := by decide +kernel
theorem dX1_drop_38 : decode cX1_drop 38 = .ok (.ireturn, 1) := by decide +kernel
abbrev cX1_isFree : ByteArray := prog_3_method_22_code
def yX1_isFree : MethodName := ⟨RX1, "isFree", "(I)Z"⟩
theorem dX1_isFree_0 : decode cX1_isFree 0 = .ok (.iconst 0, 1) := by decide +kernel
theorem dX1_isFree_1 : decode cX1_isFree 1 = .ok (.istore_n 2, 1) := by decide +kernel
theorem dX1_isFree_2 : decode cX1_isFree 2 = .ok (.iload_n 2, 1) := by decide +kernel
theorem dX1_isFree_3 : decode cX1_isFree 3 = .ok (.iconst 4, 1) := by decide +kernel
theorem dX1_isFree_4 : decode cX1_isFree 4 = .ok (.if_icmp .ge 30, 3) := by decide +kernel
theorem dX1_isFree_7 : decode cX1_isFree 7 = .ok (.aload_n 0, 1) := by decide +kernel
theorem dX1_isFree_8 : decode cX1_isFree 8 = .ok (.getfield 22, 3) := by decide +kernel
theorem dX1_isFree_11 : decode cX1_isFree 11 = .ok (.iload_n 2, 1) := by decide +kernel
theorem dX1_isFree_12 : decode cX1_isFree 12 = .ok (.baload, 1) := by decide +kernel
theorem dX1_isFree_13 : decode cX1_isFree 13 = .ok (.ifCond .eq 15, 3) := by decide +kernel
theorem dX1_isFree_16 : decode cX1_isFree 16 = .ok (.aload_n 0, 1) := by decide +kernel
theorem dX1_isFree_17 : decode cX1_isFree 17 = .ok (.getfield 26, 3) := by decide +kernel
theorem dX1_isFree_20 : decode cX1_isFree 20 = .ok (.iload_n 2, 1) := by decide +kernel
theorem dX1_isFree_21 : decode cX1_isFree 21 = .ok (.iaload, 1) := by decide +kernel
theorem dX1_isFree_22 : decode cX1_isFree 22 = .ok (.iload_n 1, 1) := by decide +kernel
theorem dX1_isFree_23 : decode cX1_isFree 23 = .ok (.if_icmp .ne 5, 3) := by decide +kernel
theorem dX1_isFree_26 : decode cX1_isFree 26 = .ok (.iconst 0, 1) := by decide +kernel
theorem dX1_isFree_27 : decode cX1_isFree 27 = .ok (.ireturn, 1) := by decide +kernel
theorem dX1_isFree_28 : decode cX1_isFree 28 = .ok (.iinc 2 1, 3) := by decide +kernel
theorem dX1_isFree_31 : decode cX1_isFree 31 = .ok (.goto (-29), 3) := by decide +kernel
theorem dX1_isFree_34 : decode cX1_isFree 34 = .ok (.iconst 0, 1) := by decide +kernel
theorem dX1_isFree_35 : decode cX1_isFree 35 = .ok (.istore_n 2, 1) := by decide +kernel
theorem dX1_isFree_36 : decode cX1_isFree 36 = .ok (.iload_n 2, 1) := by decide +kernel
theorem dX1_isFree_37 : decode cX1_isFree 37 = .ok (.aload_n 0, 1) := by decide +kernel
theorem dX1_isFree_38 : decode cX1_isFree 38 = .ok (.getfield 29, 3) := by decide +kernel
theorem dX1_isFree_41 : decode cX1_isFree 41 = .ok (.if_icmp .ge 21, 3) := by decide +kernel
theorem dX1_isFree_44 : decode cX1_isFree 44 = .ok (.aload_n 0, 1) := by decide +kernel
theorem dX1_isFree_45 : decode cX1_isFree 45 = .ok (.getfield 19, 3) := by decide +kernel
theorem dX1_isFree_48 : decode cX1_isFree 48 = .ok (.iload_n 2, 1) := by decide +kernel
theorem dX1_isFree_49 : decode cX1_isFree 49 = .ok (.iaload, 1) := by decide +kernel
theorem dX1_isFree_50 : decode cX1_isFree 50 = .ok (.iload_n 1, 1) := by decide +kernel
theorem dX1_isFree_51 : decode cX1_isFree 51 = .ok (.if_icmp .ne 5, 3) := by decide +kernel
theorem dX1_isFree_54 : decode cX1_isFree 54 = .ok (.iconst 0, 1) := by decide +kernel
theorem dX1_isFree_55 : decode cX1_isFree 55 = .ok (.ireturn, 1) := by decide +kernel
theorem dX1_isFree_56 : decode cX1_isFree 56 = .ok (.iinc 2 1, 3) := by decide +kernel
theorem dX1_isFree_59 : decode cX1_isFree 59 = .ok (.goto (-23), 3) := by decide +kernel
theorem dX1_isFree_62 : decode cX1_isFree 62 = .ok (.iconst 1, 1) := by decide +kernel
theorem dX1_isFree_63 : decode cX1_isFree 63 = .ok (.ireturn, 1) := by decide +kernel
abbrev cX1_layers : ByteArray := prog_3_method_24_code
def yX1_layers : MethodName := ⟨RX1, "layers", "()I"⟩
theorem dX1_layers_0 : decode cX1_layers 0 = .ok (.aload_n 0, 1) := by decide +kernel
theorem dX1_layers_1 : decode cX1_layers 1 = .ok (.getfield 29, 3) := by decide +kernel
theorem dX1_layers_4 : decode cX1_layers 4 = .ok (.ireturn, 1) := by decide +kernel
abbrev cX1_base : ByteArray := prog_3_method_25_code
def yX1_base : MethodName := ⟨RX1, "base", "(I)I"⟩
theorem dX1_base_0 : decode cX1_base 0 = .ok (.aload_n 0, 1) := by decide +kernel
theorem dX1_base_1 : decode cX1_base 1 = .ok (.iload_n 1, 1) := by decide +kernel
theorem dX1_base_2 : decode cX1_base 2 = .ok (.invokevirtual 37, 3) := by decide +kernel
theorem dX1_base_5 : decode cX1_base 5 = .ok (.ifCond .eq 12, 3) := by decide +kernel
theorem dX1_base_8 : decode cX1_base 8 = .ok (.aload_n 0, 1) := by decide +kernel
theorem dX1_base_9 : decode cX1_base 9 = .ok (.getfield 19, 3) := by decide +kernel
theorem dX1_base_12 : decode cX1_base 12 = .ok (.iload_n 1, 1) := by decide +kernel
theorem dX1_base_13 : decode cX1_base 13 = .ok (.iaload, 1) := by decide +kernel
theorem dX1_base_14 : decode cX1_base 14 = .ok (.goto 5, 3) := by decide +kernel
theorem dX1_base_17 : decode cX1_base 17 = .ok (.bipush (-4), 2) := by decide +kernel
theorem dX1_base_19 : decode cX1_base 19 = .ok (.ireturn, 1) := by decide +kernel
abbrev cX1_changes : ByteArray := prog_3_method_27_code
def yX1_changes : MethodName := ⟨RX1, "changes", "(I)I"⟩
theorem dX1_changes_0 : decode cX1_changes 0 = .ok (.aload_n 0, 1) := by decide +kernel
theorem dX1_changes_1 : decode cX1_changes 1 = .ok (.iload_n 1, 1) := by decide +kernel
theorem dX1_changes_2 : decode cX1_changes 2 = .ok (.invokevirtual 33, 3) := by decide +kernel
theorem dX1_changes_5 : decode cX1_changes 5 = .ok (.istore_n 2, 1) := by decide +kernel
theorem dX1_changes_6 : decode cX1_changes 6 = .ok (.iload_n 2, 1) := by decide +kernel
theorem dX1_changes_7 : decode cX1_changes 7 = .ok (.ifCond .eq 5, 3) := by decide +kernel
theorem dX1_changes_10 : decode cX1_changes 10 = .ok (.iload_n 2, 1) := by decide +kernel
theorem dX1_changes_11 : decode cX1_changes 11 = .ok (.ireturn, 1) := by decide +kernel
theorem dX1_changes_12 : decode cX1_changes 12 = .ok (.aload_n 0, 1) := by decide +kernel
theorem dX1_changes_13 : decode cX1_changes 13 = .ok (.bipush 6, 2) := by decide +kernel
theorem dX1_changes_15 : decode cX1_changes 15 = .ok (.iload_n 1, 1) := by decide +kernel
theorem dX1_changes_16 : decode cX1_changes 16 = .ok (.iadd, 1) := by decide +kernel
theorem dX1_changes_17 : decode cX1_changes 17 = .ok (.aload_n 0, 1) := by decide +kernel
theorem dX1_changes_18 : decode cX1_changes 18 = .ok (.getfield 26, 3) := by decide +kernel
theorem dX1_changes_21 : decode cX1_changes 21 = .ok (.iload_n 1, 1) := by decide +kernel
theorem dX1_changes_22 : decode cX1_changes 22 = .ok (.iaload, 1) := by decide +kernel
theorem dX1_changes_23 : decode cX1_changes 23 = .ok (.invokevirtual 66, 3) := by decide +kernel
theorem dX1_changes_26 : decode cX1_changes 26 = .ok (.istore_n 3, 1) := by decide +kernel
theorem dX1_changes_27 : decode cX1_changes 27 = .ok (.iconst 0, 1) := by decide +kernel
theorem dX1_changes_28 : decode cX1_changes 28 = .ok (.istore 4, 2) := by decide +kernel
theorem dX1_changes_30 : decode cX1_changes 30 = .ok (.iconst 0, 1) := by decide +kernel
theorem dX1_changes_31 : decode cX1_changes 31 = .ok (.istore 5, 2) := by decide +kernel
theorem dX1_changes_33 : decode cX1_changes 33 = .ok (.iload 5, 2) := by decide +kernel
theorem dX1_changes_35 : decode cX1_changes 35 = .ok (.bipush 8, 2) := by decide +kernel
theorem dX1_changes_37 : decode cX1_changes 37 = .ok (.if_icmp .ge 20, 3) := by decide +kernel
theorem dX1_changes_40 : decode cX1_changes 40 = .ok (.iload 4, 2) := by decide +kernel
theorem dX1_changes_42 : decode cX1_changes 42 = .ok (.iload_n 3, 1) := by decide +kernel
theorem dX1_changes_43 : decode cX1_changes 43 = .ok (.iload 5, 2) := by decide +kernel
theorem dX1_changes_45 : decode cX1_changes 45 = .ok (.ishr, 1) := by decide +kernel
theorem dX1_changes_46 : decode cX1_changes 46 = .ok (.iconst 1, 1) := by decide +kernel
theorem dX1_changes_47 : decode cX1_changes 47 = .ok (.iand, 1) := by decide +kernel
theorem dX1_changes_48 : decode cX1_changes 48 = .ok (.iadd, 1) := by decide +kernel
theorem dX1_changes_49 : decode cX1_changes 49 = .ok (.istore 4, 2) := by decide +kernel
theorem dX1_changes_51 : decode cX1_changes 51 = .ok (.iinc 5 1, 3) := by decide +kernel
theorem dX1_changes_54 : decode cX1_changes 54 = .ok (.goto (-21), 3) := by decide +kernel
theorem dX1_changes_57 : decode cX1_changes 57 = .ok (.iload 4, 2) := by decide +kernel
theorem dX1_changes_59 : decode cX1_changes 59 = .ok (.ireturn, 1) := by decide +kernel
abbrev cX1_differing : ByteArray := prog_3_method_26_code
def yX1_differing : MethodName := ⟨RX1, "differing", "(II)I"⟩
theorem dX1_differing_0 : decode cX1_differing 0 = .ok (.iconst 0, 1) := by decide +kernel
theorem dX1_differing_1 : decode cX1_differing 1 = .ok (.istore_n 3, 1) := by decide +kernel
theorem dX1_differing_2 : decode cX1_differing 2 = .ok (.iconst 0, 1) := by decide +kernel
theorem dX1_differing_3 : decode cX1_differing 3 = .ok (.istore 4, 2) := by decide +kernel
theorem dX1_differing_5 : decode cX1_differing 5 = .ok (.iload 4, 2) := by decide +kernel
theorem dX1_differing_7 : decode cX1_differing 7 = .ok (.bipush 8, 2) := by decide +kernel
theorem dX1_differing_9 : decode cX1_differing 9 = .ok (.if_icmp .ge 86, 3) := by decide +kernel
theorem dX1_differing_12 : decode cX1_differing 12 = .ok (.aload_n 0, 1) := by decide +kernel
theorem dX1_differing_13 : decode cX1_differing 13 = .ok (.iload_n 1, 1) := by decide +kernel
theorem dX1_differing_14 : decode cX1_differing 14 = .ok (.iload 4, 2) := by decide +kernel
theorem dX1_differing_16 : decode cX1_differing 16 = .ok (.invokevirtual 53, 3) := by decide +kernel
theorem dX1_differing_19 : decode cX1_differing 19 = .ok (.aload_n 0, 1) := by decide +kernel
theorem dX1_differing_20 : decode cX1_differing 20 = .ok (.iload_n 2, 1) := by decide +kernel
theorem dX1_differing_21 : decode cX1_differing 21 = .ok (.iload 4, 2) := by decide +kernel
theorem dX1_differing_23 : decode cX1_differing 23 = .ok (.invokevirtual 53, 3) := by decide +kernel
theorem dX1_differing_26 : decode cX1_differing 26 = .ok (.if_icmp .ne 40, 3) := by decide +kernel
theorem dX1_differing_29 : decode cX1_differing 29 = .ok (.aload_n 0, 1) := by decide +kernel
theorem dX1_differing_30 : decode cX1_differing 30 = .ok (.iload_n 1, 1) := by decide +kernel
theorem dX1_differing_31 : decode cX1_differing 31 = .ok (.iload 4, 2) := by decide +kernel
theorem dX1_differing_33 : decode cX1_differing 33 = .ok (.invokevirtual 53, 3) := by decide +kernel
theorem dX1_differing_36 : decode cX1_differing 36 = .ok (.ifCond .eq 34, 3) := by decide +kernel
theorem dX1_differing_39 : decode cX1_differing 39 = .ok (.aload_n 0, 1) := by decide +kernel
theorem dX1_differing_40 : decode cX1_differing 40 = .ok (.getfield 16, 3) := by decide +kernel
theorem dX1_differing_43 : decode cX1_differing 43 = .ok (.bipush 8, 2) := by decide +kernel
theorem dX1_differing_45 : decode cX1_differing 45 = .ok (.iload_n 1, 1) := by decide +kernel
theorem dX1_differing_46 : decode cX1_differing 46 = .ok (.imul, 1) := by decide +kernel
theorem dX1_differing_47 : decode cX1_differing 47 = .ok (.iload 4, 2) := by decide +kernel
theorem dX1_differing_49 : decode cX1_differing 49 = .ok (.iadd, 1) := by decide +kernel
theorem dX1_differing_50 : decode cX1_differing 50 = .ok (.iaload, 1) := by decide +kernel
theorem dX1_differing_51 : decode cX1_differing 51 = .ok (.aload_n 0, 1) := by decide +kernel
theorem dX1_differing_52 : decode cX1_differing 52 = .ok (.getfield 16, 3) := by decide +kernel
theorem dX1_differing_55 : decode cX1_differing 55 = .ok (.bipush 8, 2) := by decide +kernel
theorem dX1_differing_57 : decode cX1_differing 57 = .ok (.iload_n 2, 1) := by decide +kernel
theorem dX1_differing_58 : decode cX1_differing 58 = .ok (.imul, 1) := by decide +kernel
theorem dX1_differing_59 : decode cX1_differing 59 = .ok (.iload 4, 2) := by decide +kernel
theorem dX1_differing_61 : decode cX1_differing 61 = .ok (.iadd, 1) := by decide +kernel
theorem dX1_differing_62 : decode cX1_differing 62 = .ok (.iaload, 1) := by decide +kernel
theorem dX1_differing_63 : decode cX1_differing 63 = .ok (.if_icmp .eq 7, 3) := by decide +kernel
theorem dX1_differing_66 : decode cX1_differing 66 = .ok (.iconst 1, 1) := by decide +kernel
theorem dX1_differing_67 : decode cX1_differing 67 = .ok (.goto 4, 3) := by decide +kernel
theorem dX1_differing_70 : decode cX1_differing 70 = .ok (.iconst 0, 1) := by decide +kernel
theorem dX1_differing_71 : decode cX1_differing 71 = .ok (.istore 5, 2) := by decide +kernel
theorem dX1_differing_73 : decode cX1_differing 73 = .ok (.iload 5, 2) := by decide +kernel
theorem dX1_differing_75 : decode cX1_differing 75 = .ok (.ifCond .eq 12, 3) := by decide +kernel
theorem dX1_differing_78 : decode cX1_differing 78 = .ok (.iload_n 3, 1) := by decide +kernel
theorem dX1_differing_79 : decode cX1_differing 79 = .ok (.iconst 1, 1) := by decide +kernel
theorem dX1_differing_80 : decode cX1_differing 80 = .ok (.iload 4, 2) := by decide +kernel
theorem dX1_differing_82 : decode cX1_differing 82 = .ok (.ishl, 1) := by decide +kernel
theorem dX1_differing_83 : decode cX1_differing 83 = .ok (.ior, 1) := by decide +kernel
theorem dX1_differing_84 : decode cX1_differing 84 = .ok (.goto 4, 3) := by decide +kernel
theorem dX1_differing_87 : decode cX1_differing 87 = .ok (.iload_n 3, 1) := by decide +kernel
theorem dX1_differing_88 : decode cX1_differing 88 = .ok (.istore_n 3, 1) := by decide +kernel
theorem dX1_differing_89 : decode cX1_differing 89 = .ok (.iinc 4 1, 3) := by decide +kernel
theorem dX1_differing_92 : decode cX1_differing 92 = .ok (.goto (-87), 3) := by decide +kernel
theorem dX1_differing_95 : decode cX1_differing 95 = .ok (.iload_n 3, 1) := by decide +kernel
theorem dX1_differing_96 : decode cX1_differing 96 = .ok (.ireturn, 1) := by decide +kernel
abbrev cX1_compare : ByteArray := prog_3_method_28_code
def yX1_compare : MethodName := ⟨RX1, "compare", "(II)I"⟩
theorem dX1_compare_0 : decode cX1_compare 0 = .ok (.aload_n 0, 1) := by decide +kernel
theorem dX1_compare_1 : decode cX1_compare 1 = .ok (.iload_n 1, 1) := by decide +kernel
theorem dX1_compare_2 : decode cX1_compare 2 = .ok (.invokevirtual 37, 3) := by decide +kernel
theorem dX1_compare_5 : decode cX1_compare 5 = .ok (.ifCond .eq 20, 3) := by decide +kernel
theorem dX1_compare_8 : decode cX1_compare 8 = .ok (.aload_n 0, 1) := by decide +kernel
theorem dX1_compare_9 : decode cX1_compare 9 = .ok (.iload_n 2, 1) := by decide +kernel
theorem dX1_compare_10 : decode cX1_compare 10 = .ok (.invokevirtual 37, 3) := by decide +kernel
theorem dX1_compare_13 : decode cX1_compare 13 = .ok (.ifCond .eq 12, 3) := by decide +kernel
theorem dX1_compare_16 : decode cX1_compare 16 = .ok (.aload_n 0, 1) := by decide +kernel
theorem dX1_compare_17 : decode cX1_compare 17 = .ok (.iload_n 1, 1) := by decide +kernel
theorem dX1_compare_18 : decode cX1_compare 18 = .ok (.iload_n 2, 1) := by decide +kernel
theorem dX1_compare_19 : decode cX1_compare 19 = .ok (.invokevirtual 66, 3) := by decide +kernel
theorem dX1_compare_22 : decode cX1_compare 22 = .ok (.goto 5, 3) := by decide +kernel
theorem dX1_compare_25 : decode cX1_compare 25 = .ok (.bipush (-4), 2) := by decide +kernel
theorem dX1_compare_27 : decode cX1_compare 27 = .ok (.ireturn, 1) := by decide +kernel
abbrev cX1_squash : ByteArray := prog_3_method_29_code
def yX1_squash : MethodName := ⟨RX1, "squash", "(I)I"⟩
theorem dX1_squash_0 : decode cX1_squash 0 = .ok (.aload_n 0, 1) := by decide +kernel
theorem dX1_squash_1 : decode cX1_squash 1 = .ok (.iload_n 1, 1) := by decide +kernel
theorem dX1_squash_2 : decode cX1_squash 2 = .ok (.invokevirtual 33, 3) := by decide +kernel
theorem dX1_squash_5 : decode cX1_squash 5 = .ok (.ireturn, 1) := by decide +kernel
theorem q24 : (Jvm.Cond.initialized "LayerMountsModel") ∈ lw_all := lw_g (lw_at lw_m1 2 rfl) rfl
theorem q181 : (Jvm.Cond.instantiable "LayerMountsModel" (7 : Nat)) ∈ lw_all := lw_g (lw_at lw_m1 159 rfl) rfl
theorem q183 : (Jvm.Cond.instanceMethod ({ cls := "LayerMountsModel", name := "<init>", desc := "()V" } : Jvm.MethodName)) ∈ lw_all := lw_g (lw_at lw_m1 161 rfl) rfl
theorem q184 : (Jvm.Cond.code ({ cls := "LayerMountsModel", name := "<init>", desc := "()V" } : Jvm.MethodName) prog_3_method_1_code (1 : Nat) (Option.none : Option Jvm.ClassFile.FieldType)) ∈ lw_all := lw_g (lw_at lw_m1 162 rfl) rfl
theorem q185 : (Jvm.Cond.methodLink "LayerMountsModel" (1 : Nat) ({ cls := "java/lang/Object", name := "<init>", desc := "()V" } : Jvm.MethodName)) ∈ lw_all := lw_g (lw_at lw_m1 163 rfl) rfl
theorem q186 : (Jvm.Cond.fieldLink "LayerMountsModel" (7 : Nat) "LayerMountsModel" "directories" "[I") ∈ lw_all := lw_g (lw_at lw_m1 164 rfl) rfl
theorem q187 : (Jvm.Cond.fieldLink "LayerMountsModel" (13 : Nat) "LayerMountsModel" "files" "[I") ∈ lw_all := lw_g (lw_at lw_m1 165 rfl) rfl
theorem q188 : (Jvm.Cond.fieldLink "LayerMountsModel" (16 : Nat) "LayerMountsModel" "contents" "[I") ∈ lw_all := lw_g (lw_at lw_m1 166 rfl) rfl
theorem q189 : (Jvm.Cond.fieldLink "LayerMountsModel" (19 : Nat) "LayerMountsModel" "bases" "[I") ∈ lw_all := lw_g (lw_at lw_m1 167 rfl) rfl
theorem q190 : (Jvm.Cond.fieldLink "LayerMountsModel" (29 : Nat) "LayerMountsModel" "layers" "I") ∈ lw_all := lw_g (lw_at lw_m1 168 rfl) rfl
theorem q191 : (Jvm.Cond.fieldLink "LayerMountsModel" (22 : Nat) "LayerMountsModel" "used" "[Z") ∈ lw_all := lw_g (lw_at lw_m1 169 rfl) rfl
theorem q192 : (Jvm.Cond.fieldLink "LayerMountsModel" (26 : Nat) "LayerMountsModel" "begun" "[I") ∈ lw_all := lw_g (lw_at lw_m1 170 rfl) rfl
theorem q193 : (Jvm.Cond.laysFinal "LayerMountsModel" "LayerMountsModel" "directories" "[I") ∈ lw_all := lw_g (lw_at lw_m1 171 rfl) rfl
theorem q194 : (Jvm.Cond.soleField "LayerMountsModel" "directories") ∈ lw_all := lw_g (lw_at lw_m1 172 rfl) rfl
theorem q195 : (Jvm.Cond.laysFinal "LayerMountsModel" "LayerMountsModel" "files" "[I") ∈ lw_all := lw_g (lw_at lw_m1 173 rfl) rfl
theorem q196 : (Jvm.Cond.soleField "LayerMountsModel" "files") ∈ lw_all := lw_g (lw_at lw_m1 174 rfl) rfl
theorem q197 : (Jvm.Cond.laysFinal "LayerMountsModel" "LayerMountsModel" "contents" "[I") ∈ lw_all := lw_g (lw_at lw_m1 175 rfl) rfl
theorem q198 : (Jvm.Cond.soleField "LayerMountsModel" "contents") ∈ lw_all := lw_g (lw_at lw_m1 176 rfl) rfl
theorem q199 : (Jvm.Cond.laysFinal "LayerMountsModel" "LayerMountsModel" "bases" "[I") ∈ lw_all := lw_g (lw_at lw_m1 177 rfl) rfl
theorem q200 : (Jvm.Cond.soleField "LayerMountsModel" "bases") ∈ lw_all := lw_g (lw_at lw_m1 178 rfl) rfl
theorem q201 : (Jvm.Cond.lays "LayerMountsModel" "LayerMountsModel" "layers" "I") ∈ lw_all := lw_g (lw_at lw_m1 179 rfl) rfl
theorem q202 : (Jvm.Cond.soleField "LayerMountsModel" "layers") ∈ lw_all := lw_g (lw_at lw_m1 180 rfl) rfl
theorem q203 : (Jvm.Cond.laysFinal "LayerMountsModel" "LayerMountsModel" "used" "[Z") ∈ lw_all := lw_g (lw_at lw_m1 181 rfl) rfl
theorem q204 : (Jvm.Cond.soleField "LayerMountsModel" "used") ∈ lw_all := lw_g (lw_at lw_m1 182 rfl) rfl
theorem q205 : (Jvm.Cond.laysFinal "LayerMountsModel" "LayerMountsModel" "begun" "[I") ∈ lw_all := lw_g (lw_at lw_m1 183 rfl) rfl
theorem q206 : (Jvm.Cond.soleField "LayerMountsModel" "begun") ∈ lw_all := lw_g (lw_at lw_m1 184 rfl) rfl
theorem q207 : (Jvm.Cond.superclass "LayerMountsModel" "java/lang/Object") ∈ lw_all := lw_g (lw_at lw_m1 185 rfl) rfl
theorem q209 : (Jvm.Cond.instanceMethod ({ cls := "LayerMountsModel", name := "mount", desc := "(II)I" } : Jvm.MethodName)) ∈ lw_all := lw_g (lw_at lw_m1 187 rfl) rfl
theorem q210 : (Jvm.Cond.selects "LayerMountsModel" ({ cls := "LayerMountsModel", name := "mount", desc := "(II)I" } : Jvm.MethodName) ({ cls := "LayerMountsModel", name := "mount", desc := "(II)I" } : Jvm.MethodName)) ∈ lw_all := lw_g (lw_at lw_m1 188 rfl) rfl
theorem q211 : (Jvm.Cond.code ({ cls := "LayerMountsModel", name := "mount", desc := "(II)I" } : Jvm.MethodName) prog_3_method_9_code (4 : Nat) (Option.some Jvm.ClassFile.FieldType.int)) ∈ lw_all := lw_g (lw_at lw_m1 189 rfl) rfl
theorem q212 : (Jvm.Cond.methodLink "LayerMountsModel" (33 : Nat) ({ cls := "LayerMountsModel", name := "test", desc := "(I)I" } : Jvm.MethodName)) ∈ lw_all := lw_g (lw_at lw_m1 190 rfl) rfl
theorem q213 : (Jvm.Cond.privateMethod ({ cls := "LayerMountsModel", name := "test", desc := "(I)I" } : Jvm.MethodName)) ∈ lw_tbl := lw_at lw_m1 191 rfl
theorem q214 : (Jvm.Cond.instanceMethod ({ cls := "LayerMountsModel", name := "test", desc := "(I)I" } : Jvm.MethodName)) ∈ lw_all := lw_g (lw_at lw_m1 192 rfl) rfl
theorem q215 : (Jvm.Cond.code ({ cls := "LayerMountsModel", name := "test", desc := "(I)I" } : Jvm.MethodName) prog_3_method_2_code (2 : Nat) (Option.some Jvm.ClassFile.FieldType.int)) ∈ lw_all := lw_g (lw_at lw_m1 193 rfl) rfl
theorem q216 : (Jvm.Cond.methodLink "LayerMountsModel" (37 : Nat) ({ cls := "LayerMountsModel", name := "isLayer", desc := "(I)Z" } : Jvm.MethodName)) ∈ lw_all := lw_g (lw_at lw_m1 194 rfl) rfl
theorem q217 : (Jvm.Cond.privateMethod ({ cls := "LayerMountsModel", name := "isLayer", desc := "(I)Z" } : Jvm.MethodName)) ∈ lw_tbl := lw_at lw_m1 195 rfl
theorem q218 : (Jvm.Cond.instanceMethod ({ cls := "LayerMountsModel", name := "isLayer", desc := "(I)Z" } : Jvm.MethodName)) ∈ lw_all := lw_g (lw_at lw_m1 196 rfl) rfl
theorem q219 : (Jvm.Cond.code ({ cls := "LayerMountsModel", name := "isLayer", desc := "(I)Z" } : Jvm.MethodName) prog_3_method_6_code (2 : Nat) (Option.some Jvm.ClassFile.FieldType.boolean)) ∈ lw_all := lw_g (lw_at lw_m1 197 rfl) rfl
theorem q220 : (Jvm.Cond.methodLink "LayerMountsModel" (41 : Nat) ({ cls := "LayerMountsModel", name := "copy", desc := "(II)V" } : Jvm.MethodName)) ∈ lw_all := lw_g (lw_at lw_m1 198 rfl) rfl
theorem q221 : (Jvm.Cond.privateMethod ({ cls := "LayerMountsModel", name := "copy", desc := "(II)V" } : Jvm.MethodName)) ∈ lw_tbl := lw_at lw_m1 199 rfl
theorem q222 : (Jvm.Cond.instanceMethod ({ cls := "LayerMountsModel", name := "copy", desc := "(II)V" } : Jvm.MethodName)) ∈ lw_all := lw_g (lw_at lw_m1 200 rfl) rfl
theorem q223 : (Jvm.Cond.code ({ cls := "LayerMountsModel", name := "copy", desc := "(II)V" } : Jvm.MethodName) prog_3_method_5_code (4 : Nat) (Option.none : Option Jvm.ClassFile.FieldType)) ∈ lw_all := lw_g (lw_at lw_m1 201 rfl) rfl
theorem q225 : (Jvm.Cond.instanceMethod ({ cls := "LayerMountsModel", name := "unmount", desc := "(I)I" } : Jvm.MethodName)) ∈ lw_all := lw_g (lw_at lw_m1 203 rfl) rfl
theorem q226 : (Jvm.Cond.selects "LayerMountsModel" ({ cls := "LayerMountsModel", name := "unmount", desc := "(I)I" } : Jvm.MethodName) ({ cls := "LayerMountsModel", name := "unmount", desc := "(I)I" } : Jvm.MethodName)) ∈ lw_all := lw_g (lw_at lw_m1 204 rfl) rfl
theorem q227 : (Jvm.Cond.code ({ cls := "LayerMountsModel", name := "unmount", desc := "(I)I" } : Jvm.MethodName) prog_3_method_10_code (3 : Nat) (Option.some Jvm.ClassFile.FieldType.int)) ∈ lw_all := lw_g (lw_at lw_m1 205 rfl) rfl
theorem q229 : (Jvm.Cond.instanceMethod ({ cls := "LayerMountsModel", name := "mkdir", desc := "(II)I" } : Jvm.MethodName)) ∈ lw_all := lw_g (lw_at lw_m1 207 rfl) rfl
theorem q230 : (Jvm.Cond.selects "LayerMountsModel" ({ cls := "LayerMountsModel", name := "mkdir", desc := "(II)I" } : Jvm.MethodName) ({ cls := "LayerMountsModel", name := "mkdir", desc := "(II)I" } : Jvm.MethodName)) ∈ lw_all := lw_g (lw_at lw_m1 208 rfl) rfl
theorem q231 : (Jvm.Cond.code ({ cls := "LayerMountsModel", name := "mkdir", desc := "(II)I" } : Jvm.MethodName) prog_3_method_11_code (4 : Nat) (Option.some Jvm.ClassFile.FieldType.int)) ∈ lw_all := lw_g (lw_at lw_m1 209 rfl) rfl
theorem q232 : (Jvm.Cond.methodLink "LayerMountsModel" (45 : Nat) ({ cls := "LayerMountsModel", name := "testDirectory", desc := "(II)I" } : Jvm.MethodName)) ∈ lw_all := lw_g (lw_at lw_m1 210 rfl) rfl
theorem q233 : (Jvm.Cond.privateMethod ({ cls := "LayerMountsModel", name := "testDirectory", desc := "(II)I" } : Jvm.MethodName)) ∈ lw_tbl := lw_at lw_m1 211 rfl
theorem q234 : (Jvm.Cond.instanceMethod ({ cls := "LayerMountsModel", name := "testDirectory", desc := "(II)I" } : Jvm.MethodName)) ∈ lw_all := lw_g (lw_at lw_m1 212 rfl) rfl
theorem q235 : (Jvm.Cond.code ({ cls := "LayerMountsModel", name := "testDirectory", desc := "(II)I" } : Jvm.MethodName) prog_3_method_3_code (4 : Nat) (Option.some Jvm.ClassFile.FieldType.int)) ∈ lw_all := lw_g (lw_at lw_m1 213 rfl) rfl
theorem q236 : (Jvm.Cond.methodLink "LayerMountsModel" (49 : Nat) ({ cls := "LayerMountsModel", name := "hasDirectory", desc := "(II)Z" } : Jvm.MethodName)) ∈ lw_all := lw_g (lw_at lw_m1 214 rfl) rfl
theorem q237 : (Jvm.Cond.privateMethod ({ cls := "LayerMountsModel", name := "hasDirectory", desc := "(II)Z" } : Jvm.MethodName)) ∈ lw_tbl := lw_at lw_m1 215 rfl
theorem q238 : (Jvm.Cond.instanceMethod ({ cls := "LayerMountsModel", name := "hasDirectory", desc := "(II)Z" } : Jvm.MethodName)) ∈ lw_all := lw_g (lw_at lw_m1 216 rfl) rfl
theorem q239 : (Jvm.Cond.code ({ cls := "LayerMountsModel", name := "hasDirectory", desc := "(II)Z" } : Jvm.MethodName) prog_3_method_8_code (3 : Nat) (Option.some Jvm.ClassFile.FieldType.boolean)) ∈ lw_all := lw_g (lw_at lw_m1 217 rfl) rfl
theorem q241 : (Jvm.Cond.instanceMethod ({ cls := "LayerMountsModel", name := "rmdir", desc := "(II)I" } : Jvm.MethodName)) ∈ lw_all := lw_g (lw_at lw_m1 219 rfl) rfl
theorem q242 : (Jvm.Cond.selects "LayerMountsModel" ({ cls := "LayerMountsModel", name := "rmdir", desc := "(II)I" } : Jvm.MethodName) ({ cls := "LayerMountsModel", name := "rmdir", desc := "(II)I" } : Jvm.MethodName)) ∈ lw_all := lw_g (lw_at lw_m1 220 rfl) rfl
theorem q243 : (Jvm.Cond.code ({ cls := "LayerMountsModel", name := "rmdir", desc := "(II)I" } : Jvm.MethodName) prog_3_method_12_code (6 : Nat) (Option.some Jvm.ClassFile.FieldType.int)) ∈ lw_all := lw_g (lw_at lw_m1 221 rfl) rfl
theorem q244 : (Jvm.Cond.methodLink "LayerMountsModel" (53 : Nat) ({ cls := "LayerMountsModel", name := "has", desc := "(II)Z" } : Jvm.MethodName)) ∈ lw_all := lw_g (lw_at lw_m1 222 rfl) rfl
theorem q245 : (Jvm.Cond.privateMethod ({ cls := "LayerMountsModel", name := "has", desc := "(II)Z" } : Jvm.MethodName)) ∈ lw_tbl := lw_at lw_m1 223 rfl
theorem q246 : (Jvm.Cond.instanceMethod ({ cls := "LayerMountsModel", name := "has", desc := "(II)Z" } : Jvm.MethodName)) ∈ lw_all := lw_g (lw_at lw_m1 224 rfl) rfl
theorem q247 : (Jvm.Cond.code ({ cls := "LayerMountsModel", name := "has", desc := "(II)Z" } : Jvm.MethodName) prog_3_method_7_code (3 : Nat) (Option.some Jvm.ClassFile.FieldType.boolean)) ∈ lw_all := lw_g (lw_at lw_m1 225 rfl) rfl
theorem q249 : (Jvm.Cond.instanceMethod ({ cls := "LayerMountsModel", name := "write", desc := "(III)I" } : Jvm.MethodName)) ∈ lw_all := lw_g (lw_at lw_m1 227 rfl) rfl
theorem q250 : (Jvm.Cond.selects "LayerMountsModel" ({ cls := "LayerMountsModel", name := "write", desc := "(III)I" } : Jvm.MethodName) ({ cls := "LayerMountsModel", name := "write", desc := "(III)I" } : Jvm.MethodName)) ∈ lw_all := lw_g (lw_at lw_m1 228 rfl) rfl
theorem q251 : (Jvm.Cond.code ({ cls := "LayerMountsModel", name := "write", desc := "(III)I" } : Jvm.MethodName) prog_3_method_14_code (5 : Nat) (Option.some Jvm.ClassFile.FieldType.int)) ∈ lw_all := lw_g (lw_at lw_m1 229 rfl) rfl
theorem q252 : (Jvm.Cond.methodLink "LayerMountsModel" (56 : Nat) ({ cls := "LayerMountsModel", name := "testFile", desc := "(II)I" } : Jvm.MethodName)) ∈ lw_all := lw_g (lw_at lw_m1 230 rfl) rfl
theorem q253 : (Jvm.Cond.privateMethod ({ cls := "LayerMountsModel", name := "testFile", desc := "(II)I" } : Jvm.MethodName)) ∈ lw_tbl := lw_at lw_m1 231 rfl
theorem q254 : (Jvm.Cond.instanceMethod ({ cls := "LayerMountsModel", name := "testFile", desc := "(II)I" } : Jvm.MethodName)) ∈ lw_all := lw_g (lw_at lw_m1 232 rfl) rfl
theorem q255 : (Jvm.Cond.code ({ cls := "LayerMountsModel", name := "testFile", desc := "(II)I" } : Jvm.MethodName) prog_3_method_4_code (4 : Nat) (Option.some Jvm.ClassFile.FieldType.int)) ∈ lw_all := lw_g (lw_at lw_m1 233 rfl) rfl
theorem q256 : (Jvm.Cond.methodLink "LayerMountsModel" (59 : Nat) ({ cls := "LayerMountsModel", name := "put", desc := "(III)I" } : Jvm.MethodName)) ∈ lw_all := lw_g (lw_at lw_m1 234 rfl) rfl
theorem q257 : (Jvm.Cond.privateMethod ({ cls := "LayerMountsModel", name := "put", desc := "(III)I" } : Jvm.MethodName)) ∈ lw_tbl := lw_at lw_m1 235 rfl
theorem q258 : (Jvm.Cond.instanceMethod ({ cls := "LayerMountsModel", name := "put", desc := "(III)I" } : Jvm.MethodName)) ∈ lw_all := lw_g (lw_at lw_m1 236 rfl) rfl
theorem q259 : (Jvm.Cond.code ({ cls := "LayerMountsModel", name := "put", desc := "(III)I" } : Jvm.MethodName) prog_3_method_13_code (5 : Nat) (Option.some Jvm.ClassFile.FieldType.int)) ∈ lw_all := lw_g (lw_at lw_m1 237 rfl) rfl
theorem q261 : (Jvm.Cond.instanceMethod ({ cls := "LayerMountsModel", name := "grow", desc := "(III)I" } : Jvm.MethodName)) ∈ lw_all := lw_g (lw_at lw_m1 239 rfl) rfl
theorem q262 : (Jvm.Cond.selects "LayerMountsModel" ({ cls := "LayerMountsModel", name := "grow", desc := "(III)I" } : Jvm.MethodName) ({ cls := "LayerMountsModel", name := "grow", desc := "(III)I" } : Jvm.MethodName)) ∈ lw_all := lw_g (lw_at lw_m2 0 rfl) rfl
theorem q263 : (Jvm.Cond.code ({ cls := "LayerMountsModel", name := "grow", desc := "(III)I" } : Jvm.MethodName) prog_3_method_15_code (5 : Nat) (Option.some Jvm.ClassFile.FieldType.int)) ∈ lw_all := lw_g (lw_at lw_m2 1 rfl) rfl
theorem q265 : (Jvm.Cond.instanceMethod ({ cls := "LayerMountsModel", name := "remove", desc := "(II)I" } : Jvm.MethodName)) ∈ lw_all := lw_g (lw_at lw_m2 3 rfl) rfl
theorem q266 : (Jvm.Cond.selects "LayerMountsModel" ({ cls := "LayerMountsModel", name := "remove", desc := "(II)I" } : Jvm.MethodName) ({ cls := "LayerMountsModel", name := "remove", desc := "(II)I" } : Jvm.MethodName)) ∈ lw_all := lw_g (lw_at lw_m2 4 rfl) rfl
theorem q267 : (Jvm.Cond.code ({ cls := "LayerMountsModel", name := "remove", desc := "(II)I" } : Jvm.MethodName) prog_3_method_16_code (4 : Nat) (Option.some Jvm.ClassFile.FieldType.int)) ∈ lw_all := lw_g (lw_at lw_m2 5 rfl) rfl
theorem q269 : (Jvm.Cond.instanceMethod ({ cls := "LayerMountsModel", name := "rename", desc := "(III)I" } : Jvm.MethodName)) ∈ lw_all := lw_g (lw_at lw_m2 7 rfl) rfl
theorem q270 : (Jvm.Cond.selects "LayerMountsModel" ({ cls := "LayerMountsModel", name := "rename", desc := "(III)I" } : Jvm.MethodName) ({ cls := "LayerMountsModel", name := "rename", desc := "(III)I" } : Jvm.MethodName)) ∈ lw_all := lw_g (lw_at lw_m2 8 rfl) rfl
theorem q271 : (Jvm.Cond.code ({ cls := "LayerMountsModel", name := "rename", desc := "(III)I" } : Jvm.MethodName) prog_3_method_17_code (5 : Nat) (Option.some Jvm.ClassFile.FieldType.int)) ∈ lw_all := lw_g (lw_at lw_m2 9 rfl) rfl
theorem q273 : (Jvm.Cond.instanceMethod ({ cls := "LayerMountsModel", name := "read", desc := "(II)I" } : Jvm.MethodName)) ∈ lw_all := lw_g (lw_at lw_m2 11 rfl) rfl
theorem q274 : (Jvm.Cond.selects "LayerMountsModel" ({ cls := "LayerMountsModel", name := "read", desc := "(II)I" } : Jvm.MethodName) ({ cls := "LayerMountsModel", name := "read", desc := "(II)I" } : Jvm.MethodName)) ∈ lw_all := lw_g (lw_at lw_m2 12 rfl) rfl
theorem q275 : (Jvm.Cond.code ({ cls := "LayerMountsModel", name := "read", desc := "(II)I" } : Jvm.MethodName) prog_3_method_18_code (3 : Nat) (Option.some Jvm.ClassFile.FieldType.int)) ∈ lw_all := lw_g (lw_at lw_m2 13 rfl) rfl
theorem q277 : (Jvm.Cond.instanceMethod ({ cls := "LayerMountsModel", name := "files", desc := "(I)I" } : Jvm.MethodName)) ∈ lw_all := lw_g (lw_at lw_m2 15 rfl) rfl
theorem q278 : (Jvm.Cond.selects "LayerMountsModel" ({ cls := "LayerMountsModel", name := "files", desc := "(I)I" } : Jvm.MethodName) ({ cls := "LayerMountsModel", name := "files", desc := "(I)I" } : Jvm.MethodName)) ∈ lw_all := lw_g (lw_at lw_m2 16 rfl) rfl
theorem q279 : (Jvm.Cond.code ({ cls := "LayerMountsModel", name := "files", desc := "(I)I" } : Jvm.MethodName) prog_3_method_19_code (3 : Nat) (Option.some Jvm.ClassFile.FieldType.int)) ∈ lw_all := lw_g (lw_at lw_m2 17 rfl) rfl
theorem q281 : (Jvm.Cond.instanceMethod ({ cls := "LayerMountsModel", name := "directories", desc := "(I)I" } : Jvm.MethodName)) ∈ lw_all := lw_g (lw_at lw_m2 19 rfl) rfl
theorem q282 : (Jvm.Cond.selects "LayerMountsModel" ({ cls := "LayerMountsModel", name := "directories", desc := "(I)I" } : Jvm.MethodName) ({ cls := "LayerMountsModel", name := "directories", desc := "(I)I" } : Jvm.MethodName)) ∈ lw_all := lw_g (lw_at lw_m2 20 rfl) rfl
theorem q283 : (Jvm.Cond.code ({ cls := "LayerMountsModel", name := "directories", desc := "(I)I" } : Jvm.MethodName) prog_3_method_20_code (3 : Nat) (Option.some Jvm.ClassFile.FieldType.int)) ∈ lw_all := lw_g (lw_at lw_m2 21 rfl) rfl
theorem q285 : (Jvm.Cond.instanceMethod ({ cls := "LayerMountsModel", name := "commit", desc := "(I)I" } : Jvm.MethodName)) ∈ lw_all := lw_g (lw_at lw_m2 23 rfl) rfl
theorem q286 : (Jvm.Cond.selects "LayerMountsModel" ({ cls := "LayerMountsModel", name := "commit", desc := "(I)I" } : Jvm.MethodName) ({ cls := "LayerMountsModel", name := "commit", desc := "(I)I" } : Jvm.MethodName)) ∈ lw_all := lw_g (lw_at lw_m2 24 rfl) rfl
theorem q287 : (Jvm.Cond.code ({ cls := "LayerMountsModel", name := "commit", desc := "(I)I" } : Jvm.MethodName) prog_3_method_21_code (3 : Nat) (Option.some Jvm.ClassFile.FieldType.int)) ∈ lw_all := lw_g (lw_at lw_m2 25 rfl) rfl
theorem q289 : (Jvm.Cond.instanceMethod ({ cls := "LayerMountsModel", name := "drop", desc := "()I" } : Jvm.MethodName)) ∈ lw_all := lw_g (lw_at lw_m2 27 rfl) rfl
theorem q290 : (Jvm.Cond.selects "LayerMountsModel" ({ cls := "LayerMountsModel", name := "drop", desc := "()I" } : Jvm.MethodName) ({ cls := "LayerMountsModel", name := "drop", desc := "()I" } : Jvm.MethodName)) ∈ lw_all := lw_g (lw_at lw_m2 28 rfl) rfl
theorem q291 : (Jvm.Cond.code ({ cls := "LayerMountsModel", name := "drop", desc := "()I" } : Jvm.MethodName) prog_3_method_23_code (1 : Nat) (Option.some Jvm.ClassFile.FieldType.int)) ∈ lw_all := lw_g (lw_at lw_m2 29 rfl) rfl
theorem q292 : (Jvm.Cond.methodLink "LayerMountsModel" (63 : Nat) ({ cls := "LayerMountsModel", name := "isFree", desc := "(I)Z" } : Jvm.MethodName)) ∈ lw_all := lw_g (lw_at lw_m2 30 rfl) rfl
theorem q293 : (Jvm.Cond.privateMethod ({ cls := "LayerMountsModel", name := "isFree", desc := "(I)Z" } : Jvm.MethodName)) ∈ lw_tbl := lw_at lw_m2 31 rfl
theorem q294 : (Jvm.Cond.instanceMethod ({ cls := "LayerMountsModel", name := "isFree", desc := "(I)Z" } : Jvm.MethodName)) ∈ lw_all := lw_g (lw_at lw_m2 32 rfl) rfl
theorem q295 : (Jvm.Cond.code ({ cls := "LayerMountsModel", name := "isFree", desc := "(I)Z" } : Jvm.MethodName) prog_3_method_22_code (3 : Nat) (Option.some Jvm.ClassFile.FieldType.boolean)) ∈ lw_all := lw_g (lw_at lw_m2 33 rfl) rfl
theorem q297 : (Jvm.Cond.instanceMethod ({ cls := "LayerMountsModel", name := "layers", desc := "()I" } : Jvm.MethodName)) ∈ lw_all := lw_g (lw_at lw_m2 35 rfl) rfl
theorem q298 : (Jvm.Cond.selects "LayerMountsModel" ({ cls := "LayerMountsModel", name := "layers", desc := "()I" } : Jvm.MethodName) ({ cls := "LayerMountsModel", name := "layers", desc := "()I" } : Jvm.MethodName)) ∈ lw_all := lw_g (lw_at lw_m2 36 rfl) rfl
theorem q299 : (Jvm.Cond.code ({ cls := "LayerMountsModel", name := "layers", desc := "()I" } : Jvm.MethodName) prog_3_method_24_code (1 : Nat) (Option.some Jvm.ClassFile.FieldType.int)) ∈ lw_all := lw_g (lw_at lw_m2 37 rfl) rfl
theorem q301 : (Jvm.Cond.instanceMethod ({ cls := "LayerMountsModel", name := "base", desc := "(I)I" } : Jvm.MethodName)) ∈ lw_all := lw_g (lw_at lw_m2 39 rfl) rfl
theorem q302 : (Jvm.Cond.selects "LayerMountsModel" ({ cls := "LayerMountsModel", name := "base", desc := "(I)I" } : Jvm.MethodName) ({ cls := "LayerMountsModel", name := "base", desc := "(I)I" } : Jvm.MethodName)) ∈ lw_all := lw_g (lw_at lw_m2 40 rfl) rfl
theorem q303 : (Jvm.Cond.code ({ cls := "LayerMountsModel", name := "base", desc := "(I)I" } : Jvm.MethodName) prog_3_method_25_code (2 : Nat) (Option.some Jvm.ClassFile.FieldType.int)) ∈ lw_all := lw_g (lw_at lw_m2 41 rfl) rfl
theorem q305 : (Jvm.Cond.instanceMethod ({ cls := "LayerMountsModel", name := "changes", desc := "(I)I" } : Jvm.MethodName)) ∈ lw_all := lw_g (lw_at lw_m2 43 rfl) rfl
theorem q306 : (Jvm.Cond.selects "LayerMountsModel" ({ cls := "LayerMountsModel", name := "changes", desc := "(I)I" } : Jvm.MethodName) ({ cls := "LayerMountsModel", name := "changes", desc := "(I)I" } : Jvm.MethodName)) ∈ lw_all := lw_g (lw_at lw_m2 44 rfl) rfl
theorem q307 : (Jvm.Cond.code ({ cls := "LayerMountsModel", name := "changes", desc := "(I)I" } : Jvm.MethodName) prog_3_method_27_code (6 : Nat) (Option.some Jvm.ClassFile.FieldType.int)) ∈ lw_all := lw_g (lw_at lw_m2 45 rfl) rfl
theorem q308 : (Jvm.Cond.methodLink "LayerMountsModel" (66 : Nat) ({ cls := "LayerMountsModel", name := "differing", desc := "(II)I" } : Jvm.MethodName)) ∈ lw_all := lw_g (lw_at lw_m2 46 rfl) rfl
theorem q309 : (Jvm.Cond.privateMethod ({ cls := "LayerMountsModel", name := "differing", desc := "(II)I" } : Jvm.MethodName)) ∈ lw_tbl := lw_at lw_m2 47 rfl
theorem q310 : (Jvm.Cond.instanceMethod ({ cls := "LayerMountsModel", name := "differing", desc := "(II)I" } : Jvm.MethodName)) ∈ lw_all := lw_g (lw_at lw_m2 48 rfl) rfl
theorem q311 : (Jvm.Cond.code ({ cls := "LayerMountsModel", name := "differing", desc := "(II)I" } : Jvm.MethodName) prog_3_method_26_code (6 : Nat) (Option.some Jvm.ClassFile.FieldType.int)) ∈ lw_all := lw_g (lw_at lw_m2 49 rfl) rfl
theorem q313 : (Jvm.Cond.instanceMethod ({ cls := "LayerMountsModel", name := "compare", desc := "(II)I" } : Jvm.MethodName)) ∈ lw_all := lw_g (lw_at lw_m2 51 rfl) rfl
theorem q314 : (Jvm.Cond.selects "LayerMountsModel" ({ cls := "LayerMountsModel", name := "compare", desc := "(II)I" } : Jvm.MethodName) ({ cls := "LayerMountsModel", name := "compare", desc := "(II)I" } : Jvm.MethodName)) ∈ lw_all := lw_g (lw_at lw_m2 52 rfl) rfl
theorem q315 : (Jvm.Cond.code ({ cls := "LayerMountsModel", name := "compare", desc := "(II)I" } : Jvm.MethodName) prog_3_method_28_code (3 : Nat) (Option.some Jvm.ClassFile.FieldType.int)) ∈ lw_all := lw_g (lw_at lw_m2 53 rfl) rfl
theorem q317 : (Jvm.Cond.instanceMethod ({ cls := "LayerMountsModel", name := "squash", desc := "(I)I" } : Jvm.MethodName)) ∈ lw_all := lw_g (lw_at lw_m2 55 rfl) rfl
theorem q318 : (Jvm.Cond.selects "LayerMountsModel" ({ cls := "LayerMountsModel", name := "squash", desc := "(I)I" } : Jvm.MethodName) ({ cls := "LayerMountsModel", name := "squash", desc := "(I)I" } : Jvm.MethodName)) ∈ lw_all := lw_g (lw_at lw_m2 56 rfl) rfl
theorem q319 : (Jvm.Cond.code ({ cls := "LayerMountsModel", name := "squash", desc := "(I)I" } : Jvm.MethodName) prog_3_method_29_code (2 : Nat) (Option.some Jvm.ClassFile.FieldType.int)) ∈ lw_all := lw_g (lw_at lw_m2 57 rfl) rfl
theorem in_X1 : ∀ w ∈ wsX10, w ∈ lw_all := lw_in wsX10 [193, 195, 197, 199, 201, 203, 205] (by decide +kernel) (by decide +kernel)
end
section
theorem q22 : (Jvm.Cond.initialized "LayerMountsLaw") ∈ lw_all := lw_g (lw_at lw_m1 0 rfl) rfl
set_option maxRecDepth 100000
theorem q25 : (Jvm.Cond.classLink "LayerMountsLaw" (7 : Nat) "LayerMounts") ∈ lw_all := lw_g (lw_at lw_m1 3 rfl) rfl
theorem q27 : (Jvm.Cond.methodLink "LayerMountsLaw" (9 : Nat) ({ cls := "LayerMounts", name := "<init>", desc := "()V" } : Jvm.MethodName)) ∈ lw_all := lw_g (lw_at lw_m1 5 rfl) rfl
theorem q60 : (Jvm.Cond.methodLink "LayerMountsLaw" (13 : Nat) ({ cls := "LayerMounts", name := "mount", desc := "(II)I" } : Jvm.MethodName)) ∈ lw_all := lw_g (lw_at lw_m1 38 rfl) rfl
theorem q76 : (Jvm.Cond.methodLink "LayerMountsLaw" (18 : Nat) ({ cls := "LayerMounts", name := "unmount", desc := "(I)I" } : Jvm.MethodName)) ∈ lw_all := lw_g (lw_at lw_m1 54 rfl) rfl
theorem q80 : (Jvm.Cond.methodLink "LayerMountsLaw" (23 : Nat) ({ cls := "LayerMounts", name := "mkdir", desc := "(II)I" } : Jvm.MethodName)) ∈ lw_all := lw_g (lw_at lw_m1 58 rfl) rfl
theorem q88 : (Jvm.Cond.methodLink "LayerMountsLaw" (27 : Nat) ({ cls := "LayerMounts", name := "rmdir", desc := "(II)I" } : Jvm.MethodName)) ∈ lw_all := lw_g (lw_at lw_m1 66 rfl) rfl
theorem q108 : (Jvm.Cond.methodLink "LayerMountsLaw" (31 : Nat) ({ cls := "LayerMounts", name := "write", desc := "(III)I" } : Jvm.MethodName)) ∈ lw_all := lw_g (lw_at lw_m1 86 rfl) rfl
theorem q120 : (Jvm.Cond.methodLink "LayerMountsLaw" (36 : Nat) ({ cls := "LayerMounts", name := "grow", desc := "(III)I" } : Jvm.MethodName)) ∈ lw_all := lw_g (lw_at lw_m1 98 rfl) rfl
theorem q124 : (Jvm.Cond.methodLink "LayerMountsLaw" (40 : Nat) ({ cls := "LayerMounts", name := "remove", desc := "(II)I" } : Jvm.MethodName)) ∈ lw_all := lw_g (lw_at lw_m1 102 rfl) rfl
theorem q132 : (Jvm.Cond.methodLink "LayerMountsLaw" (44 : Nat) ({ cls := "LayerMounts", name := "rename", desc := "(III)I" } : Jvm.MethodName)) ∈ lw_all := lw_g (lw_at lw_m1 110 rfl) rfl
theorem q136 : (Jvm.Cond.methodLink "LayerMountsLaw" (48 : Nat) ({ cls := "LayerMounts", name := "read", desc := "(II)I" } : Jvm.MethodName)) ∈ lw_all := lw_g (lw_at lw_m1 114 rfl) rfl
theorem q140 : (Jvm.Cond.methodLink "LayerMountsLaw" (52 : Nat) ({ cls := "LayerMounts", name := "files", desc := "(I)I" } : Jvm.MethodName)) ∈ lw_all := lw_g (lw_at lw_m1 118 rfl) rfl
theorem q144 : (Jvm.Cond.methodLink "LayerMountsLaw" (56 : Nat) ({ cls := "LayerMounts", name := "directories", desc := "(I)I" } : Jvm.MethodName)) ∈ lw_all := lw_g (lw_at lw_m1 122 rfl) rfl
theorem q148 : (Jvm.Cond.methodLink "LayerMountsLaw" (60 : Nat) ({ cls := "LayerMounts", name := "commit", desc := "(I)I" } : Jvm.MethodName)) ∈ lw_all := lw_g (lw_at lw_m1 126 rfl) rfl
theorem q152 : (Jvm.Cond.methodLink "LayerMountsLaw" (64 : Nat) ({ cls := "LayerMounts", name := "drop", desc := "()I" } : Jvm.MethodName)) ∈ lw_all := lw_g (lw_at lw_m1 130 rfl) rfl
theorem q156 : (Jvm.Cond.methodLink "LayerMountsLaw" (69 : Nat) ({ cls := "LayerMounts", name := "layers", desc := "()I" } : Jvm.MethodName)) ∈ lw_all := lw_g (lw_at lw_m1 134 rfl) rfl
theorem q160 : (Jvm.Cond.methodLink "LayerMountsLaw" (73 : Nat) ({ cls := "LayerMounts", name := "base", desc := "(I)I" } : Jvm.MethodName)) ∈ lw_all := lw_g (lw_at lw_m1 138 rfl) rfl
theorem q164 : (Jvm.Cond.methodLink "LayerMountsLaw" (77 : Nat) ({ cls := "LayerMounts", name := "changes", desc := "(I)I" } : Jvm.MethodName)) ∈ lw_all := lw_g (lw_at lw_m1 142 rfl) rfl
theorem q172 : (Jvm.Cond.methodLink "LayerMountsLaw" (81 : Nat) ({ cls := "LayerMounts", name := "compare", desc := "(II)I" } : Jvm.MethodName)) ∈ lw_all := lw_g (lw_at lw_m1 150 rfl) rfl
theorem q176 : (Jvm.Cond.methodLink "LayerMountsLaw" (85 : Nat) ({ cls := "LayerMounts", name := "squash", desc := "(I)I" } : Jvm.MethodName)) ∈ lw_all := lw_g (lw_at lw_m1 154 rfl) rfl
theorem q180 : (Jvm.Cond.classLink "LayerMountsLaw" (10 : Nat) "LayerMountsModel") ∈ lw_all := lw_g (lw_at lw_m1 158 rfl) rfl
theorem q182 : (Jvm.Cond.methodLink "LayerMountsLaw" (12 : Nat) ({ cls := "LayerMountsModel", name := "<init>", desc := "()V" } : Jvm.MethodName)) ∈ lw_all := lw_g (lw_at lw_m1 160 rfl) rfl
theorem q208 : (Jvm.Cond.methodLink "LayerMountsLaw" (17 : Nat) ({ cls := "LayerMountsModel", name := "mount", desc := "(II)I" } : Jvm.MethodName)) ∈ lw_all := lw_g (lw_at lw_m1 186 rfl) rfl
theorem q224 : (Jvm.Cond.methodLink "LayerMountsLaw" (22 : Nat) ({ cls := "LayerMountsModel", name := "unmount", desc := "(I)I" } : Jvm.MethodName)) ∈ lw_all := lw_g (lw_at lw_m1 202 rfl) rfl
theorem q228 : (Jvm.Cond.methodLink "LayerMountsLaw" (26 : Nat) ({ cls := "LayerMountsModel", name := "mkdir", desc := "(II)I" } : Jvm.MethodName)) ∈ lw_all := lw_g (lw_at lw_m1 206 rfl) rfl
theorem q240 : (Jvm.Cond.methodLink "LayerMountsLaw" (30 : Nat) ({ cls := "LayerMountsModel", name := "rmdir", desc := "(II)I" } : Jvm.MethodName)) ∈ lw_all := lw_g (lw_at lw_m1 218 rfl) rfl
theorem q248 : (Jvm.Cond.methodLink "LayerMountsLaw" (35 : Nat) ({ cls := "LayerMountsModel", name := "write", desc := "(III)I" } : Jvm.MethodName)) ∈ lw_all := lw_g (lw_at lw_m1 226 rfl) rfl
theorem q260 : (Jvm.Cond.methodLink "LayerMountsLaw" (39 : Nat) ({ cls := "LayerMountsModel", name := "grow", desc := "(III)I" } : Jvm.MethodName)) ∈ lw_all := lw_g (lw_at lw_m1 238 rfl) rfl
theorem q264 : (Jvm.Cond.methodLink "LayerMountsLaw" (43 : Nat) ({ cls := "LayerMountsModel", name := "remove", desc := "(II)I" } : Jvm.MethodName)) ∈ lw_all := lw_g (lw_at lw_m2 2 rfl) rfl
theorem q268 : (Jvm.Cond.methodLink "LayerMountsLaw" (47 : Nat) ({ cls := "LayerMountsModel", name := "rename", desc := "(III)I" } : Jvm.MethodName)) ∈ lw_all := lw_g (lw_at lw_m2 6 rfl) rfl
theorem q272 : (Jvm.Cond.methodLink "LayerMountsLaw" (51 : Nat) ({ cls := "LayerMountsModel", name := "read", desc := "(II)I" } : Jvm.MethodName)) ∈ lw_all := lw_g (lw_at lw_m2 10 rfl) rfl
theorem q276 : (Jvm.Cond.methodLink "LayerMountsLaw" (55 : Nat) ({ cls := "LayerMountsModel", name := "files", desc := "(I)I" } : Jvm.MethodName)) ∈ lw_all := lw_g (lw_at lw_m2 14 rfl) rfl
theorem q280 : (Jvm.Cond.methodLink "LayerMountsLaw" (59 : Nat) ({ cls := "LayerMountsModel", name := "directories", desc := "(I)I" } : Jvm.MethodName)) ∈ lw_all := lw_g (lw_at lw_m2 18 rfl) rfl
theorem q284 : (Jvm.Cond.methodLink "LayerMountsLaw" (63 : Nat) ({ cls := "LayerMountsModel", name := "commit", desc := "(I)I" } : Jvm.MethodName)) ∈ lw_all := lw_g (lw_at lw_m2 22 rfl) rfl
theorem q288 : (Jvm.Cond.methodLink "LayerMountsLaw" (68 : Nat) ({ cls := "LayerMountsModel", name := "drop", desc := "()I" } : Jvm.MethodName)) ∈ lw_all := lw_g (lw_at lw_m2 26 rfl) rfl
theorem q296 : (Jvm.Cond.methodLink "LayerMountsLaw" (72 : Nat) ({ cls := "LayerMountsModel", name := "layers", desc := "()I" } : Jvm.MethodName)) ∈ lw_all := lw_g (lw_at lw_m2 34 rfl) rfl
theorem q300 : (Jvm.Cond.methodLink "LayerMountsLaw" (76 : Nat) ({ cls := "LayerMountsModel", name := "base", desc := "(I)I" } : Jvm.MethodName)) ∈ lw_all := lw_g (lw_at lw_m2 38 rfl) rfl
theorem q304 : (Jvm.Cond.methodLink "LayerMountsLaw" (80 : Nat) ({ cls := "LayerMountsModel", name := "changes", desc := "(I)I" } : Jvm.MethodName)) ∈ lw_all := lw_g (lw_at lw_m2 42 rfl) rfl
theorem q312 : (Jvm.Cond.methodLink "LayerMountsLaw" (84 : Nat) ({ cls := "LayerMountsModel", name := "compare", desc := "(II)I" } : Jvm.MethodName)) ∈ lw_all := lw_g (lw_at lw_m2 50 rfl) rfl
theorem q316 : (Jvm.Cond.methodLink "LayerMountsLaw" (88 : Nat) ({ cls := "LayerMountsModel", name := "squash", desc := "(I)I" } : Jvm.MethodName)) ∈ lw_all := lw_g (lw_at lw_m2 54 rfl) rfl
/-! the law's own entry -/
set_option maxRecDepth 100000
abbrev cL_law : ByteArray := code
theorem dL_law_0 : decode cL_law 0 = .ok (.new 7, 3) := by decide +kernel
theorem dL_law_3 : decode cL_law 3 = .ok (.dup, 1) := by decide +kernel
theorem dL_law_4 : decode cL_law 4 = .ok (.invokespecial 9, 3) := by decide +kernel
theorem dL_law_7 : decode cL_law 7 = .ok (.astore_n 1, 1) := by decide +kernel
theorem dL_law_8 : decode cL_law 8 = .ok (.new 10, 3) := by decide +kernel
theorem dL_law_11 : decode cL_law 11 = .ok (.dup, 1) := by decide +kernel
theorem dL_law_12 : decode cL_law 12 = .ok (.invokespecial 12, 3) := by decide +kernel
theorem dL_law_15 : decode cL_law 15 = .ok (.astore_n 2, 1) := by decide +kernel
theorem dL_law_16 : decode cL_law 16 = .ok (.iconst 0, 1) := by decide +kernel
theorem dL_law_17 : decode cL_law 17 = .ok (.istore_n 3, 1) := by decide +kernel
theorem dL_law_18 : decode cL_law 18 = .ok (.iload_n 3, 1) := by decide +kernel
theorem dL_law_19 : decode cL_law 19 = .ok (.aload_n 0, 1) := by decide +kernel
theorem dL_law_20 : decode cL_law 20 = .ok (.arraylength, 1) := by decide +kernel
theorem dL_law_21 : decode cL_law 21 = .ok (.iconst 4, 1) := by decide +kernel
theorem dL_law_22 : decode cL_law 22 = .ok (.isub, 1) := by decide +kernel
theorem dL_law_23 : decode cL_law 23 = .ok (.if_icmp .gt 617, 3) := by decide +kernel
theorem dL_law_26 : decode cL_law 26 = .ok (.aload_n 0, 1) := by decide +kernel
theorem dL_law_27 : decode cL_law 27 = .ok (.iload_n 3, 1) := by decide +kernel
theorem dL_law_28 : decode cL_law 28 = .ok (.iaload, 1) := by decide +kernel
theorem dL_law_29 : decode cL_law 29 = .ok (.bipush 31, 2) := by decide +kernel
theorem dL_law_31 : decode cL_law 31 = .ok (.iand, 1) := by decide +kernel
theorem dL_law_32 : decode cL_law 32 = .ok (.tableswitch 602 0 17 #[88, 121, 144, 177, 210, 253, 296, 329, 372, 405, 428, 451, 474, 487, 500, 523, 546, 579], 88) := by decide +kernel
theorem dL_law_120 : decode cL_law 120 = .ok (.aload_n 1, 1) := by decide +kernel
theorem dL_law_121 : decode cL_law 121 = .ok (.aload_n 0, 1) := by decide +kernel
theorem dL_law_122 : decode cL_law 122 = .ok (.iload_n 3, 1) := by decide +kernel
theorem dL_law_123 : decode cL_law 123 = .ok (.iconst 1, 1) := by decide +kernel
theorem dL_law_124 : decode cL_law 124 = .ok (.iadd, 1) := by decide +kernel
theorem dL_law_125 : decode cL_law 125 = .ok (.iaload, 1) := by decide +kernel
theorem dL_law_126 : decode cL_law 126 = .ok (.aload_n 0, 1) := by decide +kernel
theorem dL_law_127 : decode cL_law 127 = .ok (.iload_n 3, 1) := by decide +kernel
theorem dL_law_128 : decode cL_law 128 = .ok (.iconst 2, 1) := by decide +kernel
theorem dL_law_129 : decode cL_law 129 = .ok (.iadd, 1) := by decide +kernel
theorem dL_law_130 : decode cL_law 130 = .ok (.iaload, 1) := by decide +kernel
theorem dL_law_131 : decode cL_law 131 = .ok (.invokevirtual 13, 3) := by decide +kernel
theorem dL_law_134 : decode cL_law 134 = .ok (.aload_n 2, 1) := by decide +kernel
theorem dL_law_135 : decode cL_law 135 = .ok (.aload_n 0, 1) := by decide +kernel
theorem dL_law_136 : decode cL_law 136 = .ok (.iload_n 3, 1) := by decide +kernel
theorem dL_law_137 : decode cL_law 137 = .ok (.iconst 1, 1) := by decide +kernel
theorem dL_law_138 : decode cL_law 138 = .ok (.iadd, 1) := by decide +kernel
theorem dL_law_139 : decode cL_law 139 = .ok (.iaload, 1) := by decide +kernel
theorem dL_law_140 : decode cL_law 140 = .ok (.aload_n 0, 1) := by decide +kernel
theorem dL_law_141 : decode cL_law 141 = .ok (.iload_n 3, 1) := by decide +kernel
theorem dL_law_142 : decode cL_law 142 = .ok (.iconst 2, 1) := by decide +kernel
theorem dL_law_143 : decode cL_law 143 = .ok (.iadd, 1) := by decide +kernel
theorem dL_law_144 : decode cL_law 144 = .ok (.iaload, 1) := by decide +kernel
theorem dL_law_145 : decode cL_law 145 = .ok (.invokevirtual 17, 3) := by decide +kernel
theorem dL_law_148 : decode cL_law 148 = .ok (.if_icmp .eq 486, 3) := by decide +kernel
theorem dL_law_151 : decode cL_law 151 = .ok (.iconst 0, 1) := by decide +kernel
theorem dL_law_152 : decode cL_law 152 = .ok (.ireturn, 1) := by decide +kernel
theorem dL_law_153 : decode cL_law 153 = .ok (.aload_n 1, 1) := by decide +kernel
theorem dL_law_154 : decode cL_law 154 = .ok (.aload_n 0, 1) := by decide +kernel
theorem dL_law_155 : decode cL_law 155 = .ok (.iload_n 3, 1) := by decide +kernel
theorem dL_law_156 : decode cL_law 156 = .ok (.iconst 1, 1) := by decide +kernel
theorem dL_law_157 : decode cL_law 157 = .ok (.iadd, 1) := by decide +kernel
theorem dL_law_158 : decode cL_law 158 = .ok (.iaload, 1) := by decide +kernel
theorem dL_law_159 : decode cL_law 159 = .ok (.invokevirtual 18, 3) := by decide +kernel
theorem dL_law_162 : decode cL_law 162 = .ok (.aload_n 2, 1) := by decide +kernel
theorem dL_law_163 : decode cL_law 163 = .ok (.aload_n 0, 1) := by decide +kernel
theorem dL_law_164 : decode cL_law 164 = .ok (.iload_n 3, 1) := by decide +kernel
theorem dL_law_165 : decode cL_law 165 = .ok (.iconst 1, 1) := by decide +kernel
theorem dL_law_166 : decode cL_law 166 = .ok (.iadd, 1) := by decide +kernel
theorem dL_law_167 : decode cL_law 167 = .ok (.iaload, 1) := by decide +kernel
theorem dL_law_168 : decode cL_law 168 = .ok (.invokevirtual 22, 3) := by decide +kernel
theorem dL_law_171 : decode cL_law 171 = .ok (.if_icmp .eq 463, 3) := by decide +kernel
theorem dL_law_174 : decode cL_law 174 = .ok (.iconst 0, 1) := by decide +kernel
theorem dL_law_175 : decode cL_law 175 = .ok (.ireturn, 1) := by decide +kernel
theorem dL_law_176 : decode cL_law 176 = .ok (.aload_n 1, 1) := by decide +kernel
theorem dL_law_177 : decode cL_law 177 = .ok (.aload_n 0, 1) := by decide +kernel
theorem dL_law_178 : decode cL_law 178 = .ok (.iload_n 3, 1) := by decide +kernel
theorem dL_law_179 : decode cL_law 179 = .ok (.iconst 1, 1) := by decide +kernel
theorem dL_law_180 : decode cL_law 180 = .ok (.iadd, 1) := by decide +kernel
theorem dL_law_181 : decode cL_law 181 = .ok (.iaload, 1) := by decide +kernel
theorem dL_law_182 : decode cL_law 182 = .ok (.aload_n 0, 1) := by decide +kernel
theorem dL_law_183 : decode cL_law 183 = .ok (.iload_n 3, 1) := by decide +kernel
theorem dL_law_184 : decode cL_law 184 = .ok (.iconst 2, 1) := by decide +kernel
theorem dL_law_185 : decode cL_law 185 = .ok (.iadd, 1) := by decide +kernel
theorem dL_law_186 : decode cL_law 186 = .ok (.iaload, 1) := by decide +kernel
theorem dL_law_187 : decode cL_law 187 = .ok (.invokevirtual 23, 3) := by decide +kernel
theorem dL_law_190 : decode cL_law 190 = .ok (.aload_n 2, 1) := by decide +kernel
theorem dL_law_191 : decode cL_law 191 = .ok (.aload_n 0, 1) := by decide +kernel
theorem dL_law_192 : decode cL_law 192 = .ok (.iload_n 3, 1) := by decide +kernel
theorem dL_law_193 : decode cL_law 193 = .ok (.iconst 1, 1) := by decide +kernel
theorem dL_law_194 : decode cL_law 194 = .ok (.iadd, 1) := by decide +kernel
theorem dL_law_195 : decode cL_law 195 = .ok (.iaload, 1) := by decide +kernel
theorem dL_law_196 : decode cL_law 196 = .ok (.aload_n 0, 1) := by decide +kernel
theorem dL_law_197 : decode cL_law 197 = .ok (.iload_n 3, 1) := by decide +kernel
theorem dL_law_198 : decode cL_law 198 = .ok (.iconst 2, 1) := by decide +kernel
theorem dL_law_199 : decode cL_law 199 = .ok (.iadd, 1) := by decide +kernel
theorem dL_law_200 : decode cL_law 200 = .ok (.iaload, 1) := by decide +kernel
theorem dL_law_201 : decode cL_law 201 = .ok (.invokevirtual 26, 3) := by decide +kernel
theorem dL_law_204 : decode cL_law 204 = .ok (.if_icmp .eq 430, 3) := by decide +kernel
theorem dL_law_207 : decode cL_law 207 = .ok (.iconst 0, 1) := by decide +kernel
theorem dL_law_208 : decode cL_law 208 = .ok (.ireturn, 1) := by decide +kernel
theorem dL_law_209 : decode cL_law 209 = .ok (.aload_n 1, 1) := by decide +kernel
theorem dL_law_210 : decode cL_law 210 = .ok (.aload_n 0, 1) := by decide +kernel
theorem dL_law_211 : decode cL_law 211 = .ok (.iload_n 3, 1) := by decide +kernel
theorem dL_law_212 : decode cL_law 212 = .ok (.iconst 1, 1) := by decide +kernel
theorem dL_law_213 : decode cL_law 213 = .ok (.iadd, 1) := by decide +kernel
theorem dL_law_214 : decode cL_law 214 = .ok (.iaload, 1) := by decide +kernel
theorem dL_law_215 : decode cL_law 215 = .ok (.aload_n 0, 1) := by decide +kernel
theorem dL_law_216 : decode cL_law 216 = .ok (.iload_n 3, 1) := by decide +kernel
theorem dL_law_217 : decode cL_law 217 = .ok (.iconst 2, 1) := by decide +kernel
theorem dL_law_218 : decode cL_law 218 = .ok (.iadd, 1) := by decide +kernel
theorem dL_law_219 : decode cL_law 219 = .ok (.iaload, 1) := by decide +kernel
theorem dL_law_220 : decode cL_law 220 = .ok (.invokevirtual 27, 3) := by decide +kernel
theorem dL_law_223 : decode cL_law 223 = .ok (.aload_n 2, 1) := by decide +kernel
theorem dL_law_224 : decode cL_law 224 = .ok (.aload_n 0, 1) := by decide +kernel
theorem dL_law_225 : decode cL_law 225 = .ok (.iload_n 3, 1) := by decide +kernel
theorem dL_law_226 : decode cL_law 226 = .ok (.iconst 1, 1) := by decide +kernel
theorem dL_law_227 : decode cL_law 227 = .ok (.iadd, 1) := by decide +kernel
theorem dL_law_228 : decode cL_law 228 = .ok (.iaload, 1) := by decide +kernel
theorem dL_law_229 : decode cL_law 229 = .ok (.aload_n 0, 1) := by decide +kernel
theorem dL_law_230 : decode cL_law 230 = .ok (.iload_n 3, 1) := by decide +kernel
theorem dL_law_231 : decode cL_law 231 = .ok (.iconst 2, 1) := by decide +kernel
theorem dL_law_232 : decode cL_law 232 = .ok (.iadd, 1) := by decide +kernel
theorem dL_law_233 : decode cL_law 233 = .ok (.iaload, 1) := by decide +kernel
theorem dL_law_234 : decode cL_law 234 = .ok (.invokevirtual 30, 3) := by decide +kernel
theorem dL_law_237 : decode cL_law 237 = .ok (.if_icmp .eq 397, 3) := by decide +kernel
theorem dL_law_240 : decode cL_law 240 = .ok (.iconst 0, 1) := by decide +kernel
theorem dL_law_241 : decode cL_law 241 = .ok (.ireturn, 1) := by decide +kernel
theorem dL_law_242 : decode cL_law 242 = .ok (.aload_n 1, 1) := by decide +kernel
theorem dL_law_243 : decode cL_law 243 = .ok (.aload_n 0, 1) := by decide +kernel
theorem dL_law_244 : decode cL_law 244 = .ok (.iload_n 3, 1) := by decide +kernel
theorem dL_law_245 : decode cL_law 245 = .ok (.iconst 1, 1) := by decide +kernel
theorem dL_law_246 : decode cL_law 246 = .ok (.iadd, 1) := by decide +kernel
theorem dL_law_247 : decode cL_law 247 = .ok (.iaload, 1) := by decide +kernel
theorem dL_law_248 : decode cL_law 248 = .ok (.aload_n 0, 1) := by decide +kernel
theorem dL_law_249 : decode cL_law 249 = .ok (.iload_n 3, 1) := by decide +kernel
theorem dL_law_250 : decode cL_law 250 = .ok (.iconst 2, 1) := by decide +kernel
theorem dL_law_251 : decode cL_law 251 = .ok (.iadd, 1) := by decide +kernel
theorem dL_law_252 : decode cL_law 252 = .ok (.iaload, 1) := by decide +kernel
theorem dL_law_253 : decode cL_law 253 = .ok (.aload_n 0, 1) := by decide +kernel
theorem dL_law_254 : decode cL_law 254 = .ok (.iload_n 3, 1) := by decide +kernel
theorem dL_law_255 : decode cL_law 255 = .ok (.iconst 3, 1) := by decide +kernel
theorem dL_law_256 : decode cL_law 256 = .ok (.iadd, 1) := by decide +kernel
theorem dL_law_257 : decode cL_law 257 = .ok (.iaload, 1) := by decide +kernel
theorem dL_law_258 : decode cL_law 258 = .ok (.invokevirtual 31, 3) := by decide +kernel
theorem dL_law_261 : decode cL_law 261 = .ok (.aload_n 2, 1) := by decide +kernel
theorem dL_law_262 : decode cL_law 262 = .ok (.aload_n 0, 1) := by decide +kernel
theorem dL_law_263 : decode cL_law 263 = .ok (.iload_n 3, 1) := by decide +kernel
theorem dL_law_264 : decode cL_law 264 = .ok (.iconst 1, 1) := by decide +kernel
theorem dL_law_265 : decode cL_law 265 = .ok (.iadd, 1) := by decide +kernel
theorem dL_law_266 : decode cL_law 266 = .ok (.iaload, 1) := by decide +kernel
theorem dL_law_267 : decode cL_law 267 = .ok (.aload_n 0, 1) := by decide +kernel
theorem dL_law_268 : decode cL_law 268 = .ok (.iload_n 3, 1) := by decide +kernel
theorem dL_law_269 : decode cL_law 269 = .ok (.iconst 2, 1) := by decide +kernel
theorem dL_law_270 : decode cL_law 270 = .ok (.iadd, 1) := by decide +kernel
theorem dL_law_271 : decode cL_law 271 = .ok (.iaload, 1) := by decide +kernel
theorem dL_law_272 : decode cL_law 272 = .ok (.aload_n 0, 1) := by decide +kernel
theorem dL_law_273 : decode cL_law 273 = .ok (.iload_n 3, 1) := by decide +kernel
theorem dL_law_274 : decode cL_law 274 = .ok (.iconst 3, 1) := by decide +kernel
theorem dL_law_275 : decode cL_law 275 = .ok (.iadd, 1) := by decide +kernel
theorem dL_law_276 : decode cL_law 276 = .ok (.iaload, 1) := by decide +kernel
theorem dL_law_277 : decode cL_law 277 = .ok (.invokevirtual 35, 3) := by decide +kernel
theorem dL_law_280 : decode cL_law 280 = .ok (.if_icmp .eq 354, 3) := by decide +kernel
theorem dL_law_283 : decode cL_law 283 = .ok (.iconst 0, 1) := by decide +kernel
theorem dL_law_284 : decode cL_law 284 = .ok (.ireturn, 1) := by decide +kernel
theorem dL_law_285 : decode cL_law 285 = .ok (.aload_n 1, 1) := by decide +kernel
theorem dL_law_286 : decode cL_law 286 = .ok (.aload_n 0, 1) := by decide +kernel
theorem dL_law_287 : decode cL_law 287 = .ok (.iload_n 3, 1) := by decide +kernel
theorem dL_law_288 : decode cL_law 288 = .ok (.iconst 1, 1) := by decide +kernel
theorem dL_law_289 : decode cL_law 289 = .ok (.iadd, 1) := by decide +kernel
theorem dL_law_290 : decode cL_law 290 = .ok (.iaload, 1) := by decide +kernel
theorem dL_law_291 : decode cL_law 291 = .ok (.aload_n 0, 1) := by decide +kernel
theorem dL_law_292 : decode cL_law 292 = .ok (.iload_n 3, 1) := by decide +kernel
theorem dL_law_293 : decode cL_law 293 = .ok (.iconst 2, 1) := by decide +kernel
theorem dL_law_294 : decode cL_law 294 = .ok (.iadd, 1) := by decide +kernel
theorem dL_law_295 : decode cL_law 295 = .ok (.iaload, 1) := by decide +kernel
theorem dL_law_296 : decode cL_law 296 = .ok (.aload_n 0, 1) := by decide +kernel
theorem dL_law_297 : decode cL_law 297 = .ok (.iload_n 3, 1) := by decide +kernel
theorem dL_law_298 : decode cL_law 298 = .ok (.iconst 3, 1) := by decide +kernel
theorem dL_law_299 : decode cL_law 299 = .ok (.iadd, 1) := by decide +kernel
theorem dL_law_300 : decode cL_law 300 = .ok (.iaload, 1) := by decide +kernel
theorem dL_law_301 : decode cL_law 301 = .ok (.invokevirtual 36, 3) := by decide +kernel
theorem dL_law_304 : decode cL_law 304 = .ok (.aload_n 2, 1) := by decide +kernel
theorem dL_law_305 : decode cL_law 305 = .ok (.aload_n 0, 1) := by decide +kernel
theorem dL_law_306 : decode cL_law 306 = .ok (.iload_n 3, 1) := by decide +kernel
theorem dL_law_307 : decode cL_law 307 = .ok (.iconst 1, 1) := by decide +kernel
theorem dL_law_308 : decode cL_law 308 = .ok (.iadd, 1) := by decide +kernel
theorem dL_law_309 : decode cL_law 309 = .ok (.iaload, 1) := by decide +kernel
theorem dL_law_310 : decode cL_law 310 = .ok (.aload_n 0, 1) := by decide +kernel
theorem dL_law_311 : decode cL_law 311 = .ok (.iload_n 3, 1) := by decide +kernel
theorem dL_law_312 : decode cL_law 312 = .ok (.iconst 2, 1) := by decide +kernel
theorem dL_law_313 : decode cL_law 313 = .ok (.iadd, 1) := by decide +kernel
theorem dL_law_314 : decode cL_law 314 = .ok (.iaload, 1) := by decide +kernel
theorem dL_law_315 : decode cL_law 315 = .ok (.aload_n 0, 1) := by decide +kernel
theorem dL_law_316 : decode cL_law 316 = .ok (.iload_n 3, 1) := by decide +kernel
theorem dL_law_317 : decode cL_law 317 = .ok (.iconst 3, 1) := by decide +kernel
theorem dL_law_318 : decode cL_law 318 = .ok (.iadd, 1) := by decide +kernel
theorem dL_law_319 : decode cL_law 319 = .ok (.iaload, 1) := by decide +kernel
theorem dL_law_320 : decode cL_law 320 = .ok (.invokevirtual 39, 3) := by decide +kernel
theorem dL_law_323 : decode cL_law 323 = .ok (.if_icmp .eq 311, 3) := by decide +kernel
theorem dL_law_326 : decode cL_law 326 = .ok (.iconst 0, 1) := by decide +kernel
theorem dL_law_327 : decode cL_law 327 = .ok (.ireturn, 1) := by decide +kernel
theorem dL_law_328 : decode cL_law 328 = .ok (.aload_n 1, 1) := by decide +kernel
theorem dL_law_329 : decode cL_law 329 = .ok (.aload_n 0, 1) := by decide +kernel
theorem dL_law_330 : decode cL_law 330 = .ok (.iload_n 3, 1) := by decide +kernel
theorem dL_law_331 : decode cL_law 331 = .ok (.iconst 1, 1) := by decide +kernel
theorem dL_law_332 : decode cL_law 332 = .ok (.iadd, 1) := by decide +kernel
theorem dL_law_333 : decode cL_law 333 = .ok (.iaload, 1) := by decide +kernel
theorem dL_law_334 : decode cL_law 334 = .ok (.aload_n 0, 1) := by decide +kernel
theorem dL_law_335 : decode cL_law 335 = .ok (.iload_n 3, 1) := by decide +kernel
theorem dL_law_336 : decode cL_law 336 = .ok (.iconst 2, 1) := by decide +kernel
theorem dL_law_337 : decode cL_law 337 = .ok (.iadd, 1) := by decide +kernel
theorem dL_law_338 : decode cL_law 338 = .ok (.iaload, 1) := by decide +kernel
theorem dL_law_339 : decode cL_law 339 = .ok (.invokevirtual 40, 3) := by decide +kernel
theorem dL_law_342 : decode cL_law 342 = .ok (.aload_n 2, 1) := by decide +kernel
theorem dL_law_343 : decode cL_law 343 = .ok (.aload_n 0, 1) := by decide +kernel
theorem dL_law_344 : decode cL_law 344 = .ok (.iload_n 3, 1) := by decide +kernel
theorem dL_law_345 : decode cL_law 345 = .ok (.iconst 1, 1) := by decide +kernel
theorem dL_law_346 : decode cL_law 346 = .ok (.iadd, 1) := by decide +kernel
theorem dL_law_347 : decode cL_law 347 = .ok (.iaload, 1) := by decide +kernel
theorem dL_law_348 : decode cL_law 348 = .ok (.aload_n 0, 1) := by decide +kernel
theorem dL_law_349 : decode cL_law 349 = .ok (.iload_n 3, 1) := by decide +kernel
theorem dL_law_350 : decode cL_law 350 = .ok (.iconst 2, 1) := by decide +kernel
theorem dL_law_351 : decode cL_law 351 = .ok (.iadd, 1) := by decide +kernel
theorem dL_law_352 : decode cL_law 352 = .ok (.iaload, 1) := by decide +kernel
theorem dL_law_353 : decode cL_law 353 = .ok (.invokevirtual 43, 3) := by decide +kernel
theorem dL_law_356 : decode cL_law 356 = .ok (.if_icmp .eq 278, 3) := by decide +kernel
theorem dL_law_359 : decode cL_law 359 = .ok (.iconst 0, 1) := by decide +kernel
theorem dL_law_360 : decode cL_law 360 = .ok (.ireturn, 1) := by decide +kernel
theorem dL_law_361 : decode cL_law 361 = .ok (.aload_n 1, 1) := by decide +kernel
theorem dL_law_362 : decode cL_law 362 = .ok (.aload_n 0, 1) := by decide +kernel
theorem dL_law_363 : decode cL_law 363 = .ok (.iload_n 3, 1) := by decide +kernel
theorem dL_law_364 : decode cL_law 364 = .ok (.iconst 1, 1) := by decide +kernel
theorem dL_law_365 : decode cL_law 365 = .ok (.iadd, 1) := by decide +kernel
theorem dL_law_366 : decode cL_law 366 = .ok (.iaload, 1) := by decide +kernel
theorem dL_law_367 : decode cL_law 367 = .ok (.aload_n 0, 1) := by decide +kernel
theorem dL_law_368 : decode cL_law 368 = .ok (.iload_n 3, 1) := by decide +kernel
theorem dL_law_369 : decode cL_law 369 = .ok (.iconst 2, 1) := by decide +kernel
theorem dL_law_370 : decode cL_law 370 = .ok (.iadd, 1) := by decide +kernel
theorem dL_law_371 : decode cL_law 371 = .ok (.iaload, 1) := by decide +kernel
theorem dL_law_372 : decode cL_law 372 = .ok (.aload_n 0, 1) := by decide +kernel
theorem dL_law_373 : decode cL_law 373 = .ok (.iload_n 3, 1) := by decide +kernel
theorem dL_law_374 : decode cL_law 374 = .ok (.iconst 3, 1) := by decide +kernel
theorem dL_law_375 : decode cL_law 375 = .ok (.iadd, 1) := by decide +kernel
theorem dL_law_376 : decode cL_law 376 = .ok (.iaload, 1) := by decide +kernel
theorem dL_law_377 : decode cL_law 377 = .ok (.invokevirtual 44, 3) := by decide +kernel
theorem dL_law_380 : decode cL_law 380 = .ok (.aload_n 2, 1) := by decide +kernel
theorem dL_law_381 : decode cL_law 381 = .ok (.aload_n 0, 1) := by decide +kernel
theorem dL_law_382 : decode cL_law 382 = .ok (.iload_n 3, 1) := by decide +kernel
theorem dL_law_383 : decode cL_law 383 = .ok (.iconst 1, 1) := by decide +kernel
theorem dL_law_384 : decode cL_law 384 = .ok (.iadd, 1) := by decide +kernel
theorem dL_law_385 : decode cL_law 385 = .ok (.iaload, 1) := by decide +kernel
theorem dL_law_386 : decode cL_law 386 = .ok (.aload_n 0, 1) := by decide +kernel
theorem dL_law_387 : decode cL_law 387 = .ok (.iload_n 3, 1) := by decide +kernel
theorem dL_law_388 : decode cL_law 388 = .ok (.iconst 2, 1) := by decide +kernel
theorem dL_law_389 : decode cL_law 389 = .ok (.iadd, 1) := by decide +kernel
theorem dL_law_390 : decode cL_law 390 = .ok (.iaload, 1) := by decide +kernel
theorem dL_law_391 : decode cL_law 391 = .ok (.aload_n 0, 1) := by decide +kernel
theorem dL_law_392 : decode cL_law 392 = .ok (.iload_n 3, 1) := by decide +kernel
theorem dL_law_393 : decode cL_law 393 = .ok (.iconst 3, 1) := by decide +kernel
theorem dL_law_394 : decode cL_law 394 = .ok (.iadd, 1) := by decide +kernel
theorem dL_law_395 : decode cL_law 395 = .ok (.iaload, 1) := by decide +kernel
theorem dL_law_396 : decode cL_law 396 = .ok (.invokevirtual 47, 3) := by decide +kernel
theorem dL_law_399 : decode cL_law 399 = .ok (.if_icmp .eq 235, 3) := by decide +kernel
theorem dL_law_402 : decode cL_law 402 = .ok (.iconst 0, 1) := by decide +kernel
theorem dL_law_403 : decode cL_law 403 = .ok (.ireturn, 1) := by decide +kernel
theorem dL_law_404 : decode cL_law 404 = .ok (.aload_n 1, 1) := by decide +kernel
theorem dL_law_405 : decode cL_law 405 = .ok (.aload_n 0, 1) := by decide +kernel
theorem dL_law_406 : decode cL_law 406 = .ok (.iload_n 3, 1) := by decide +kernel
theorem dL_law_407 : decode cL_law 407 = .ok (.iconst 1, 1) := by decide +kernel
theorem dL_law_408 : decode cL_law 408 = .ok (.iadd, 1) := by decide +kernel
theorem dL_law_409 : decode cL_law 409 = .ok (.iaload, 1) := by decide +kernel
theorem dL_law_410 : decode cL_law 410 = .ok (.aload_n 0, 1) := by decide +kernel
theorem dL_law_411 : decode cL_law 411 = .ok (.iload_n 3, 1) := by decide +kernel
theorem dL_law_412 : decode cL_law 412 = .ok (.iconst 2, 1) := by decide +kernel
theorem dL_law_413 : decode cL_law 413 = .ok (.iadd, 1) := by decide +kernel
theorem dL_law_414 : decode cL_law 414 = .ok (.iaload, 1) := by decide +kernel
theorem dL_law_415 : decode cL_law 415 = .ok (.invokevirtual 48, 3) := by decide +kernel
theorem dL_law_418 : decode cL_law 418 = .ok (.aload_n 2, 1) := by decide +kernel
theorem dL_law_419 : decode cL_law 419 = .ok (.aload_n 0, 1) := by decide +kernel
theorem dL_law_420 : decode cL_law 420 = .ok (.iload_n 3, 1) := by decide +kernel
theorem dL_law_421 : decode cL_law 421 = .ok (.iconst 1, 1) := by decide +kernel
theorem dL_law_422 : decode cL_law 422 = .ok (.iadd, 1) := by decide +kernel
theorem dL_law_423 : decode cL_law 423 = .ok (.iaload, 1) := by decide +kernel
theorem dL_law_424 : decode cL_law 424 = .ok (.aload_n 0, 1) := by decide +kernel
theorem dL_law_425 : decode cL_law 425 = .ok (.iload_n 3, 1) := by decide +kernel
theorem dL_law_426 : decode cL_law 426 = .ok (.iconst 2, 1) := by decide +kernel
theorem dL_law_427 : decode cL_law 427 = .ok (.iadd, 1) := by decide +kernel
theorem dL_law_428 : decode cL_law 428 = .ok (.iaload, 1) := by decide +kernel
theorem dL_law_429 : decode cL_law 429 = .ok (.invokevirtual 51, 3) := by decide +kernel
theorem dL_law_432 : decode cL_law 432 = .ok (.if_icmp .eq 202, 3) := by decide +kernel
theorem dL_law_435 : decode cL_law 435 = .ok (.iconst 0, 1) := by decide +kernel
theorem dL_law_436 : decode cL_law 436 = .ok (.ireturn, 1) := by decide +kernel
theorem dL_law_437 : decode cL_law 437 = .ok (.aload_n 1, 1) := by decide +kernel
theorem dL_law_438 : decode cL_law 438 = .ok (.aload_n 0, 1) := by decide +kernel
theorem dL_law_439 : decode cL_law 439 = .ok (.iload_n 3, 1) := by decide +kernel
theorem dL_law_440 : decode cL_law 440 = .ok (.iconst 1, 1) := by decide +kernel
theorem dL_law_441 : decode cL_law 441 = .ok (.iadd, 1) := by decide +kernel
theorem dL_law_442 : decode cL_law 442 = .ok (.iaload, 1) := by decide +kernel
theorem dL_law_443 : decode cL_law 443 = .ok (.invokevirtual 52, 3) := by decide +kernel
theorem dL_law_446 : decode cL_law 446 = .ok (.aload_n 2, 1) := by decide +kernel
theorem dL_law_447 : decode cL_law 447 = .ok (.aload_n 0, 1) := by decide +kernel
theorem dL_law_448 : decode cL_law 448 = .ok (.iload_n 3, 1) := by decide +kernel
theorem dL_law_449 : decode cL_law 449 = .ok (.iconst 1, 1) := by decide +kernel
theorem dL_law_450 : decode cL_law 450 = .ok (.iadd, 1) := by decide +kernel
theorem dL_law_451 : decode cL_law 451 = .ok (.iaload, 1) := by decide +kernel
theorem dL_law_452 : decode cL_law 452 = .ok (.invokevirtual 55, 3) := by decide +kernel
theorem dL_law_455 : decode cL_law 455 = .ok (.if_icmp .eq 179, 3) := by decide +kernel
theorem dL_law_458 : decode cL_law 458 = .ok (.iconst 0, 1) := by decide +kernel
theorem dL_law_459 : decode cL_law 459 = .ok (.ireturn, 1) := by decide +kernel
theorem dL_law_460 : decode cL_law 460 = .ok (.aload_n 1, 1) := by decide +kernel
theorem dL_law_461 : decode cL_law 461 = .ok (.aload_n 0, 1) := by decide +kernel
theorem dL_law_462 : decode cL_law 462 = .ok (.iload_n 3, 1) := by decide +kernel
theorem dL_law_463 : decode cL_law 463 = .ok (.iconst 1, 1) := by decide +kernel
theorem dL_law_464 : decode cL_law 464 = .ok (.iadd, 1) := by decide +kernel
theorem dL_law_465 : decode cL_law 465 = .ok (.iaload, 1) := by decide +kernel
theorem dL_law_466 : decode cL_law 466 = .ok (.invokevirtual 56, 3) := by decide +kernel
theorem dL_law_469 : decode cL_law 469 = .ok (.aload_n 2, 1) := by decide +kernel
theorem dL_law_470 : decode cL_law 470 = .ok (.aload_n 0, 1) := by decide +kernel
theorem dL_law_471 : decode cL_law 471 = .ok (.iload_n 3, 1) := by decide +kernel
theorem dL_law_472 : decode cL_law 472 = .ok (.iconst 1, 1) := by decide +kernel
theorem dL_law_473 : decode cL_law 473 = .ok (.iadd, 1) := by decide +kernel
theorem dL_law_474 : decode cL_law 474 = .ok (.iaload, 1) := by decide +kernel
theorem dL_law_475 : decode cL_law 475 = .ok (.invokevirtual 59, 3) := by decide +kernel
theorem dL_law_478 : decode cL_law 478 = .ok (.if_icmp .eq 156, 3) := by decide +kernel
theorem dL_law_481 : decode cL_law 481 = .ok (.iconst 0, 1) := by decide +kernel
theorem dL_law_482 : decode cL_law 482 = .ok (.ireturn, 1) := by decide +kernel
theorem dL_law_483 : decode cL_law 483 = .ok (.aload_n 1, 1) := by decide +kernel
theorem dL_law_484 : decode cL_law 484 = .ok (.aload_n 0, 1) := by decide +kernel
theorem dL_law_485 : decode cL_law 485 = .ok (.iload_n 3, 1) := by decide +kernel
theorem dL_law_486 : decode cL_law 486 = .ok (.iconst 1, 1) := by decide +kernel
theorem dL_law_487 : decode cL_law 487 = .ok (.iadd, 1) := by decide +kernel
theorem dL_law_488 : decode cL_law 488 = .ok (.iaload, 1) := by decide +kernel
theorem dL_law_489 : decode cL_law 489 = .ok (.invokevirtual 60, 3) := by decide +kernel
theorem dL_law_492 : decode cL_law 492 = .ok (.aload_n 2, 1) := by decide +kernel
theorem dL_law_493 : decode cL_law 493 = .ok (.aload_n 0, 1) := by decide +kernel
theorem dL_law_494 : decode cL_law 494 = .ok (.iload_n 3, 1) := by decide +kernel
theorem dL_law_495 : decode cL_law 495 = .ok (.iconst 1, 1) := by decide +kernel
theorem dL_law_496 : decode cL_law 496 = .ok (.iadd, 1) := by decide +kernel
theorem dL_law_497 : decode cL_law 497 = .ok (.iaload, 1) := by decide +kernel
theorem dL_law_498 : decode cL_law 498 = .ok (.invokevirtual 63, 3) := by decide +kernel
theorem dL_law_501 : decode cL_law 501 = .ok (.if_icmp .eq 133, 3) := by decide +kernel
theorem dL_law_504 : decode cL_law 504 = .ok (.iconst 0, 1) := by decide +kernel
theorem dL_law_505 : decode cL_law 505 = .ok (.ireturn, 1) := by decide +kernel
theorem dL_law_506 : decode cL_law 506 = .ok (.aload_n 1, 1) := by decide +kernel
theorem dL_law_507 : decode cL_law 507 = .ok (.invokevirtual 64, 3) := by decide +kernel
theorem dL_law_510 : decode cL_law 510 = .ok (.aload_n 2, 1) := by decide +kernel
theorem dL_law_511 : decode cL_law 511 = .ok (.invokevirtual 68, 3) := by decide +kernel
theorem dL_law_514 : decode cL_law 514 = .ok (.if_icmp .eq 120, 3) := by decide +kernel
theorem dL_law_517 : decode cL_law 517 = .ok (.iconst 0, 1) := by decide +kernel
theorem dL_law_518 : decode cL_law 518 = .ok (.ireturn, 1) := by decide +kernel
theorem dL_law_519 : decode cL_law 519 = .ok (.aload_n 1, 1) := by decide +kernel
theorem dL_law_520 : decode cL_law 520 = .ok (.invokevirtual 69, 3) := by decide +kernel
theorem dL_law_523 : decode cL_law 523 = .ok (.aload_n 2, 1) := by decide +kernel
theorem dL_law_524 : decode cL_law 524 = .ok (.invokevirtual 72, 3) := by decide +kernel
theorem dL_law_527 : decode cL_law 527 = .ok (.if_icmp .eq 107, 3) := by decide +kernel
theorem dL_law_530 : decode cL_law 530 = .ok (.iconst 0, 1) := by decide +kernel
theorem dL_law_531 : decode cL_law 531 = .ok (.ireturn, 1) := by decide +kernel
theorem dL_law_532 : decode cL_law 532 = .ok (.aload_n 1, 1) := by decide +kernel
theorem dL_law_533 : decode cL_law 533 = .ok (.aload_n 0, 1) := by decide +kernel
theorem dL_law_534 : decode cL_law 534 = .ok (.iload_n 3, 1) := by decide +kernel
theorem dL_law_535 : decode cL_law 535 = .ok (.iconst 1, 1) := by decide +kernel
theorem dL_law_536 : decode cL_law 536 = .ok (.iadd, 1) := by decide +kernel
theorem dL_law_537 : decode cL_law 537 = .ok (.iaload, 1) := by decide +kernel
theorem dL_law_538 : decode cL_law 538 = .ok (.invokevirtual 73, 3) := by decide +kernel
theorem dL_law_541 : decode cL_law 541 = .ok (.aload_n 2, 1) := by decide +kernel
theorem dL_law_542 : decode cL_law 542 = .ok (.aload_n 0, 1) := by decide +kernel
theorem dL_law_543 : decode cL_law 543 = .ok (.iload_n 3, 1) := by decide +kernel
theorem dL_law_544 : decode cL_law 544 = .ok (.iconst 1, 1) := by decide +kernel
theorem dL_law_545 : decode cL_law 545 = .ok (.iadd, 1) := by decide +kernel
theorem dL_law_546 : decode cL_law 546 = .ok (.iaload, 1) := by decide +kernel
theorem dL_law_547 : decode cL_law 547 = .ok (.invokevirtual 76, 3) := by decide +kernel
theorem dL_law_550 : decode cL_law 550 = .ok (.if_icmp .eq 84, 3) := by decide +kernel
theorem dL_law_553 : decode cL_law 553 = .ok (.iconst 0, 1) := by decide +kernel
theorem dL_law_554 : decode cL_law 554 = .ok (.ireturn, 1) := by decide +kernel
theorem dL_law_555 : decode cL_law 555 = .ok (.aload_n 1, 1) := by decide +kernel
theorem dL_law_556 : decode cL_law 556 = .ok (.aload_n 0, 1) := by decide +kernel
theorem dL_law_557 : decode cL_law 557 = .ok (.iload_n 3, 1) := by decide +kernel
theorem dL_law_558 : decode cL_law 558 = .ok (.iconst 1, 1) := by decide +kernel
theorem dL_law_559 : decode cL_law 559 = .ok (.iadd, 1) := by decide +kernel
theorem dL_law_560 : decode cL_law 560 = .ok (.iaload, 1) := by decide +kernel
theorem dL_law_561 : decode cL_law 561 = .ok (.invokevirtual 77, 3) := by decide +kernel
theorem dL_law_564 : decode cL_law 564 = .ok (.aload_n 2, 1) := by decide +kernel
theorem dL_law_565 : decode cL_law 565 = .ok (.aload_n 0, 1) := by decide +kernel
theorem dL_law_566 : decode cL_law 566 = .ok (.iload_n 3, 1) := by decide +kernel
theorem dL_law_567 : decode cL_law 567 = .ok (.iconst 1, 1) := by decide +kernel
theorem dL_law_568 : decode cL_law 568 = .ok (.iadd, 1) := by decide +kernel
theorem dL_law_569 : decode cL_law 569 = .ok (.iaload, 1) := by decide +kernel
theorem dL_law_570 : decode cL_law 570 = .ok (.invokevirtual 80, 3) := by decide +kernel
theorem dL_law_573 : decode cL_law 573 = .ok (.if_icmp .eq 61, 3) := by decide +kernel
theorem dL_law_576 : decode cL_law 576 = .ok (.iconst 0, 1) := by decide +kernel
theorem dL_law_577 : decode cL_law 577 = .ok (.ireturn, 1) := by decide +kernel
theorem dL_law_578 : decode cL_law 578 = .ok (.aload_n 1, 1) := by decide +kernel
theorem dL_law_579 : decode cL_law 579 = .ok (.aload_n 0, 1) := by decide +kernel
theorem dL_law_580 : decode cL_law 580 = .ok (.iload_n 3, 1) := by decide +kernel
theorem dL_law_581 : decode cL_law 581 = .ok (.iconst 1, 1) := by decide +kernel
theorem dL_law_582 : decode cL_law 582 = .ok (.iadd, 1) := by decide +kernel
theorem dL_law_583 : decode cL_law 583 = .ok (.iaload, 1) := by decide +kernel
theorem dL_law_584 : decode cL_law 584 = .ok (.aload_n 0, 1) := by decide +kernel
theorem dL_law_585 : decode cL_law 585 = .ok (.iload_n 3, 1) := by decide +kernel
theorem dL_law_586 : decode cL_law 586 = .ok (.iconst 2, 1) := by decide +kernel
theorem dL_law_587 : decode cL_law 587 = .ok (.iadd, 1) := by decide +kernel
theorem dL_law_588 : decode cL_law 588 = .ok (.iaload, 1) := by decide +kernel
theorem dL_law_589 : decode cL_law 589 = .ok (.invokevirtual 81, 3) := by decide +kernel
theorem dL_law_592 : decode cL_law 592 = .ok (.aload_n 2, 1) := by decide +kernel
theorem dL_law_593 : decode cL_law 593 = .ok (.aload_n 0, 1) := by decide +kernel
theorem dL_law_594 : decode cL_law 594 = .ok (.iload_n 3, 1) := by decide +kernel
theorem dL_law_595 : decode cL_law 595 = .ok (.iconst 1, 1) := by decide +kernel
theorem dL_law_596 : decode cL_law 596 = .ok (.iadd, 1) := by decide +kernel
theorem dL_law_597 : decode cL_law 597 = .ok (.iaload, 1) := by decide +kernel
theorem dL_law_598 : decode cL_law 598 = .ok (.aload_n 0, 1) := by decide +kernel
theorem dL_law_599 : decode cL_law 599 = .ok (.iload_n 3, 1) := by decide +kernel
theorem dL_law_600 : decode cL_law 600 = .ok (.iconst 2, 1) := by decide +kernel
theorem dL_law_601 : decode cL_law 601 = .ok (.iadd, 1) := by decide +kernel
theorem dL_law_602 : decode cL_law 602 = .ok (.iaload, 1) := by decide +kernel
theorem dL_law_603 : decode cL_law 603 = .ok (.invokevirtual 84, 3) := by decide +kernel
theorem dL_law_606 : decode cL_law 606 = .ok (.if_icmp .eq 28, 3) := by decide +kernel
theorem dL_law_609 : decode cL_law 609 = .ok (.iconst 0, 1) := by decide +kernel
theorem dL_law_610 : decode cL_law 610 = .ok (.ireturn, 1) := by decide +kernel
theorem dL_law_611 : decode cL_law 611 = .ok (.aload_n 1, 1) := by decide +kernel
theorem dL_law_612 : decode cL_law 612 = .ok (.aload_n 0, 1) := by decide +kernel
theorem dL_law_613 : decode cL_law 613 = .ok (.iload_n 3, 1) := by decide +kernel
theorem dL_law_614 : decode cL_law 614 = .ok (.iconst 1, 1) := by decide +kernel
theorem dL_law_615 : decode cL_law 615 = .ok (.iadd, 1) := by decide +kernel
theorem dL_law_616 : decode cL_law 616 = .ok (.iaload, 1) := by decide +kernel
theorem dL_law_617 : decode cL_law 617 = .ok (.invokevirtual 85, 3) := by decide +kernel
theorem dL_law_620 : decode cL_law 620 = .ok (.aload_n 2, 1) := by decide +kernel
theorem dL_law_621 : decode cL_law 621 = .ok (.aload_n 0, 1) := by decide +kernel
theorem dL_law_622 : decode cL_law 622 = .ok (.iload_n 3, 1) := by decide +kernel
theorem dL_law_623 : decode cL_law 623 = .ok (.iconst 1, 1) := by decide +kernel
theorem dL_law_624 : decode cL_law 624 = .ok (.iadd, 1) := by decide +kernel
theorem dL_law_625 : decode cL_law 625 = .ok (.iaload, 1) := by decide +kernel
theorem dL_law_626 : decode cL_law 626 = .ok (.invokevirtual 88, 3) := by decide +kernel
theorem dL_law_629 : decode cL_law 629 = .ok (.if_icmp .eq 5, 3) := by decide +kernel
theorem dL_law_632 : decode cL_law 632 = .ok (.iconst 0, 1) := by decide +kernel
theorem dL_law_633 : decode cL_law 633 = .ok (.ireturn, 1) := by decide +kernel
theorem dL_law_634 : decode cL_law 634 = .ok (.iinc 3 4, 3) := by decide +kernel
theorem dL_law_637 : decode cL_law 637 = .ok (.goto (-619), 3) := by decide +kernel
theorem dL_law_640 : decode cL_law 640 = .ok (.iconst 1, 1) := by decide +kernel
theorem dL_law_641 : decode cL_law 641 = .ok (.ireturn, 1) := by decide +kernel
end
section
set_option maxRecDepth 100000

/-! THE PICTURES: X = LayerMounts (class 0), Y = LayerMountsModel (class 1). A state is a tuple in the order of the fields; its arrays are functions Nat → Int32 -/
abbrev vwCl : List vw_C := [(RX0, TX0, 8), (RX1, TX1, 7)]
abbrev SX : Type := Int32 × (Nat → Int32) × (Nat → Int32) × (Nat → Int32) × (Nat → Int32) × (Nat → Int32) × (Nat → Int32) × (Nat → Int32)
abbrev xL (σ : SX) : Int32 := σ.1
abbrev xUn (σ : SX) : Nat → Int32 := σ.2.1
abbrev xOw (σ : SX) : Nat → Int32 := σ.2.2.1
abbrev xHi (σ : SX) : Nat → Int32 := σ.2.2.2.1
abbrev xOd (σ : SX) : Nat → Int32 := σ.2.2.2.2.1
abbrev xHd (σ : SX) : Nat → Int32 := σ.2.2.2.2.2.1
abbrev xCt (σ : SX) : Nat → Int32 := σ.2.2.2.2.2.2.1
abbrev xIu (σ : SX) : Nat → Int32 := σ.2.2.2.2.2.2.2
abbrev SY : Type := (Nat → Int32) × (Nat → Int32) × (Nat → Int32) × (Nat → Int32) × Int32 × (Nat → Int32) × (Nat → Int32)
abbrev yDi (τ : SY) : Nat → Int32 := τ.1
abbrev yFi (τ : SY) : Nat → Int32 := τ.2.1
abbrev yCo (τ : SY) : Nat → Int32 := τ.2.2.1
abbrev yBa (τ : SY) : Nat → Int32 := τ.2.2.2.1
abbrev yL (τ : SY) : Int32 := τ.2.2.2.2.1
abbrev yUs (τ : SY) : Nat → Int32 := τ.2.2.2.2.2.1
abbrev yBe (τ : SY) : Nat → Int32 := τ.2.2.2.2.2.2
def fsX (ad : Nat → Nat) (σ : SX) : List Value := [.int (xL σ), .ref (ad 1), .ref (ad 2), .ref (ad 3), .ref (ad 4), .ref (ad 5), .ref (ad 6), .ref (ad 7)]
def fsY (ad : Nat → Nat) (τ : SY) : List Value := [.ref (ad 1), .ref (ad 2), .ref (ad 3), .ref (ad 4), .int (yL τ), .ref (ad 5), .ref (ad 6)]
def wX (ad : Nat → Nat) (d : Nat → ClassId) (σ : SX) : va_W := [(ad 0, .inr (0, fsX ad σ)), (ad 1, .inl (d 1, 10, .inl (xUn σ))), (ad 2, .inl (d 2, 10, .inl (xOw σ))), (ad 3, .inl (d 3, 10, .inl (xHi σ))), (ad 4, .inl (d 4, 10, .inl (xOd σ))), (ad 5, .inl (d 5, 10, .inl (xHd σ))), (ad 6, .inl (d 6, 80, .inl (xCt σ))), (ad 7, .inl (d 7, 4, .inl (xIu σ)))]
def wY (ad : Nat → Nat) (d : Nat → ClassId) (τ : SY) : va_W := [(ad 0, .inr (1, fsY ad τ)), (ad 1, .inl (d 1, 10, .inl (yDi τ))), (ad 2, .inl (d 2, 10, .inl (yFi τ))), (ad 3, .inl (d 3, 80, .inl (yCo τ))), (ad 4, .inl (d 4, 6, .inl (yBa τ))), (ad 5, .inl (d 5, 4, .inl (yUs τ))), (ad 6, .inl (d 6, 4, .inl (yBe τ)))]
def tX (d : Nat → ClassId) : List (ClassId × FieldType) := [(d 1, .int), (d 2, .int), (d 3, .int), (d 4, .int), (d 5, .int), (d 6, .int), (d 7, .boolean)]
def tY (d : Nat → ClassId) : List (ClassId × FieldType) := [(d 1, .int), (d 2, .int), (d 3, .int), (d 4, .int), (d 5, .boolean), (d 6, .int)]
/-- a method's fixed context: machine, code, its class, the words; its answer's type -/
def CX (p : Program) (s : State) (m : MethodId) (args : Array Value) (meth : Method) (c : Code) (cc : ByteArray) (nL : Nat) (R : String) (ret : Option FieldType) : Prop := CallFix p m c cc nL s args lw_all R ∧ meth.sig.returnType = ret ∧ meth.locks = false
/-- the tree of branches: a leaf's value by the conditions on its way -/
theorem tp {c : Prop} [Decidable c] {α : Sort _} {a b v : α} (h : c) (e : a = v) : ite c a b = v := (if_pos h).trans e
theorem tn {c : Prop} [Decidable c] {α : Sort _} {a b v : α} (h : ¬ c) (e : b = v) : ite c a b = v := (if_neg h).trans e
theorem lp_z {x : Int32} {k N : Nat} (hx : x = nI k) (hk : k + 0 = N) (hN : N < 2 ^ 31) : nI N ≤ x := by
  rw [hx]; exact nI_le (by omega) (by omega)
theorem lp_s {x : Int32} {k n N : Nat} (hx : x = nI k) (hk : k + (n + 1) = N) (hN : N < 2 ^ 31) : ¬ nI N ≤ x := by
  rw [hx]; exact nI_ge (by omega) hN
theorem lp_x {x : Int32} {k : Nat} (hx : x = nI k) : x + 1 = nI (k + 1) := by rw [hx]; exact nI_1 k
theorem lp_in {x : Int32} {k n N M : Nat} (hx : x = nI k) (hk : k + (n + 1) = N) (hM : N ≤ M) (hN : M < 2 ^ 31) : vp_in x M := by
  rw [hx]; exact vp_in_nI (by omega) hN
theorem lp_nlt {a b : Int32} (h : a ≤ b) : ¬ b < a := fun q => absurd h (Int32.not_le.mpr q)

/-! ===== class X ===== -/
/-- the class's world at a heap: tables, cells, apart, the frame since the method's start -/
def AtX (G : va_G) (ad : Nat → Nat) (d : Nat → ClassId) (A : Nat → Prop) (s : State) (σ : SX) (H : Heap) (locs : List Loc) : Prop := va_K G vwCl (tX d) s ∧ va_P G vwCl (wX ad d σ) H ∧ va_D A (wX ad d σ) ∧ va_S A s.heap H locs ∧ ∀ q : Nat, s.heap.size ≤ q → A q
def PX (G : va_G) (ad : Nat → Nat) (d : Nat → ClassId) (sz : Nat) (σ : SX) : State → Prop := fun U => U.heap.size = sz ∧ va_P G vwCl (wX ad d σ) U.heap ∧ va_K G vwCl (tX d) U ∧ va_D (fun _ => True) (wX ad d σ)
def BX (G : va_G) (ad : Nat → Nat) (d : Nat → ClassId) (A : Nat → Prop) (u : SX) (t : State) : Prop := va_P G vwCl (wX ad d u) t.heap ∧ va_K G vwCl (tX d) t ∧ va_D A (wX ad d u)
/-- a contract: from the world of σ the method answers r and leaves the world of u, (r, u) = Rv; nothing else changes -/
def MetXi (l : Launch) (y : MethodName) (cb : ByteArray) (Lb : Nat) (rb : FieldType) (rm : Room) (av : List Value) (G : va_G) (ad : Nat → Nat) (d : Nat → ClassId) (σ : SX) (Rv : Int32 × SX) : Prop := ∀ sz : Nat, Met l y (ws_ y cb Lb (some rb)) rm (va_Pc (.ref (ad 0) :: av) (PX G ad d sz σ)) (va_Qi (fun r u => (r, u) = Rv) (BX G ad d (va_A (wX ad d σ) sz)) (va_A (wX ad d σ) sz)) 0 0 (va_A (wX ad d σ) sz)
def MetXv (l : Launch) (y : MethodName) (cb : ByteArray) (Lb : Nat) (rm : Room) (av : List Value) (G : va_G) (ad : Nat → Nat) (d : Nat → ClassId) (σ : SX) (Rv : SX) : Prop := ∀ sz : Nat, Met l y (ws_ y cb Lb none) rm (va_Pc (.ref (ad 0) :: av) (PX G ad d sz σ)) (va_Qv (fun u => u = Rv) (BX G ad d (va_A (wX ad d σ) sz)) (va_A (wX ad d σ) sz)) 0 0 (va_A (wX ad d σ) sz)
abbrev QXi (below : List Frame) (G : va_G) (ad : Nat → Nat) (d : Nat → ClassId) (A : Nat → Prop) (args : Array Value) (s : State) (Rv : Int32 × SX) : State → Prop := MQ below (va_Qi (fun r u => (r, u) = Rv) (BX G ad d A) A) args s 0 0 A
abbrev QXv (below : List Frame) (G : va_G) (ad : Nat → Nat) (d : Nat → ClassId) (A : Nat → Prop) (args : Array Value) (s : State) (Rv : SX) : State → Prop := MQ below (va_Qv (fun u => u = Rv) (BX G ad d A) A) args s 0 0 A
section WX
variable {p : Program} {l : Launch} {e : Env} {R : Room} {s : State} {m : MethodId} {args : Array Value} {below : List Frame} {meth : Method} {c : Code} {H : Heap} {locs : List Loc} {cells slots : Nat} {Q : State → Prop}
variable {cc : ByteArray} {pc nL : Nat} {ls : Array Slot} {rest : List Value} {G : va_G} {ad : Nat → Nat} {d : Nat → ClassId} {A : Nat → Prop} {σ : SX} {ret : Option FieldType}
set_option maxHeartbeats 1000000 in
theorem metX_i {y : MethodName} {cb : ByteArray} {Lb : Nat} {rb : FieldType} {rm : Room} {av : List Value} {Rv : Int32 × SX} (hy : plainName y.cls = true) (hR : y.cls = RX0) (hlen : (lg_sl (Value.ref (ad 0) :: av)).length ≤ Lb)
    (body : ∀ (p : Program) (e : Env) (s : State) (m : MethodId) (below : List Frame) (meth : Method) (c : Code) (A : Nat → Prop) (ls : Array Slot), CX p s m (Value.ref (ad 0) :: av).toArray meth c cb Lb RX0 (some rb) → AtX G ad d A s σ s.heap [] → lv_has ls Lb (lv_args 0 (Value.ref (ad 0) :: av)) →
      W p l e rm s m (Value.ref (ad 0) :: av).toArray below meth c s.heap [] 0 0 (QXi below G ad d A (Value.ref (ad 0) :: av).toArray s Rv) (F0 m 0 ls [])) : MetXi l y cb Lb rb rm av G ad d σ Rv := by
  intro sz
  refine Met.ofW (cc := cb) (maxL := Lb) (ret := some rb) hy rfl ?_
  intro p e s m args below meth c s₁ B hml hv
  obtain ⟨rfl, hsz, hP, hK, hD0⟩ := hv
  have hts := atoms_spec (ws := ws_ y cb Lb (some rb)) B.pre
  have hts : ∀ w ∈ lw_all, w.before _ s = true := fun w h => hts w (List.mem_cons_of_mem _ h)
  have hown : s.vm.findClass RX0 = some m.cls := by rw [← hR]; exact findClass_of_methodNamed B.named
  subst hsz
  have hl := lv_entry (Value.ref (ad 0) :: av) (n := Lb) hlen
  rw [lg_entry_eq]
  exact body p e s m below meth c _ _ ⟨⟨B.exec, B.bytes, hml, hown, hts⟩, B.returns, B.notSynchronized⟩ ⟨hK, hP, hD0.self, va_S.rf, fun q h => Or.inr h⟩ hl
set_option maxHeartbeats 1000000 in
theorem metX_v {y : MethodName} {cb : ByteArray} {Lb : Nat} {rm : Room} {av : List Value} {Rv : SX} (hy : plainName y.cls = true) (hR : y.cls = RX0) (hlen : (lg_sl (Value.ref (ad 0) :: av)).length ≤ Lb)
    (body : ∀ (p : Program) (e : Env) (s : State) (m : MethodId) (below : List Frame) (meth : Method) (c : Code) (A : Nat → Prop) (ls : Array Slot), CX p s m (Value.ref (ad 0) :: av).toArray meth c cb Lb RX0 none → AtX G ad d A s σ s.heap [] → lv_has ls Lb (lv_args 0 (Value.ref (ad 0) :: av)) →
      W p l e rm s m (Value.ref (ad 0) :: av).toArray below meth c s.heap [] 0 0 (QXv below G ad d A (Value.ref (ad 0) :: av).toArray s Rv) (F0 m 0 ls [])) : MetXv l y cb Lb rm av G ad d σ Rv := by
  intro sz
  refine Met.ofW (cc := cb) (maxL := Lb) (ret := none) hy rfl ?_
  intro p e s m args below meth c s₁ B hml hv
  obtain ⟨rfl, hsz, hP, hK, hD0⟩ := hv
  have hts := atoms_spec (ws := ws_ y cb Lb none) B.pre
  have hts : ∀ w ∈ lw_all, w.before _ s = true := fun w h => hts w (List.mem_cons_of_mem _ h)
  have hown : s.vm.findClass RX0 = some m.cls := by rw [← hR]; exact findClass_of_methodNamed B.named
  subst hsz
  have hl := lv_entry (Value.ref (ad 0) :: av) (n := Lb) hlen
  rw [lg_entry_eq]
  exact body p e s m below meth c _ _ ⟨⟨B.exec, B.bytes, hml, hown, hts⟩, B.returns, B.notSynchronized⟩ ⟨hK, hP, hD0.self, va_S.rf, fun q h => Or.inr h⟩ hl
theorem retX_i {Rv : Int32 × SX} {v : Int32} (C : CX p s m args meth c cc nL RX0 (some .int)) (hH : AtX G ad d A s σ H locs) (hdg : decode cc pc = .ok (.ireturn, 1)) (hp : (v, σ) = Rv) : W p l e R s m args below meth c H locs 0 0 (QXi below G ad d A args s Rv) (F0 m pc ls [.int v]) :=
  W.iret C.1.1 C.1.2.1 C.2.1 (fun t ht hW => ⟨⟨v, σ, rfl, hp, by rw [ht]; exact hH.2.1, va_K.moved hW.alike hH.1, hH.2.2.1⟩, hH.2.2.2.1.F ht⟩) hH.2.2.2.1.2.2 hdg C.2.2
theorem retX_z {Rv : Int32 × SX} {v : Int32} (C : CX p s m args meth c cc nL RX0 (some .boolean)) (hH : AtX G ad d A s σ H locs) (hdg : decode cc pc = .ok (.ireturn, 1)) (hn : narrow .boolean (.int v) = .int v) (hp : (v, σ) = Rv) : W p l e R s m args below meth c H locs 0 0 (QXi below G ad d A args s Rv) (F0 m pc ls [.int v]) :=
  W.zret C.1.1 C.1.2.1 C.2.1 hn (fun t ht hW => ⟨⟨v, σ, rfl, hp, by rw [ht]; exact hH.2.1, va_K.moved hW.alike hH.1, hH.2.2.1⟩, hH.2.2.2.1.F ht⟩) hH.2.2.2.1.2.2 hdg C.2.2
theorem retX_v {Rv : SX} (C : CX p s m args meth c cc nL RX0 none) (hH : AtX G ad d A s σ H locs) (hdg : decode cc pc = .ok (.return_, 1)) (hp : σ = Rv) : W p l e R s m args below meth c H locs 0 0 (QXv below G ad d A args s Rv) (F0 m pc ls []) :=
  W.vret C.1.1 C.1.2.1 C.2.1 (fun t ht hW => ⟨⟨σ, rfl, hp, by rw [ht]; exact hH.2.1, va_K.moved hW.alike hH.1, hH.2.2.1⟩, hH.2.2.2.1.F ht⟩) hH.2.2.2.1.2.2 hdg C.2.2
theorem getX (C : CX p s m args meth c cc nL RX0 ret) (hH : AtX G ad d A s σ H locs) (k : Nat) (hk : k < 8) {idx : Nat} (hlink : Cond.fieldLink RX0 idx RX0 (TX0 k).2.1 (TX0 k).2.2.1 ∈ lw_all) (hT : (TX0 k).1 = RX0) {v : Value} (hv : (fsX ad σ)[k]? = some v) (hdg : decode cc pc = .ok (.getfield idx, 3))
    (kk : W p l e R s m args below meth c H locs cells slots Q (F0 m (pc + 3) ls (v :: rest))) : W p l e R s m args below meth c H locs cells slots Q (F0 m pc ls (.ref (ad 0) :: rest)) :=
  va_get (D := G) (ci := 0) (v := v) (C := RX0) (T := TX0) (N := 8) C.1.1 C.1.2.1 C.1.2.2.2.2 in_X0 C.1.2.2.2.1 hH.1 hH.2.1 0 rfl rfl k hk (C.1.2.2.2.2 _ hlink) (fun x h9 => by rw [hT] at h9; exact h9) hv hdg kk
theorem ildX (C : CX p s m args meth c cc nL RX0 ret) (hH : AtX G ad d A s σ H locs) (q0 t0 : Nat) {a n : Nat} {cA : ClassId} {f : Nat → Int32} (ha : (wX ad d σ)[q0]? = some (a, .inl (cA, n, .inl f))) (ht : (tX d)[t0]? = some (cA, .int)) {i : Int32} (hdg : decode cc pc = .ok (.iaload, 1)) (hin : vp_in i n)
    (kk : W p l e R s m args below meth c H locs cells slots Q (F0 m (pc + 1) ls (.int (f i.toNatClampNeg) :: rest))) : W p l e R s m args below meth c H locs cells slots Q (F0 m pc ls (.int i :: .ref a :: rest)) :=
  va_iald C.1.1 C.1.2.1 hH.1 hH.2.1 q0 t0 ha ht hin hdg kk
theorem zldX (C : CX p s m args meth c cc nL RX0 ret) (hH : AtX G ad d A s σ H locs) (q0 t0 : Nat) {a n : Nat} {cA : ClassId} {f : Nat → Int32} (ha : (wX ad d σ)[q0]? = some (a, .inl (cA, n, .inl f))) (ht : (tX d)[t0]? = some (cA, .boolean)) {i : Int32} (hdg : decode cc pc = .ok (.baload, 1)) (hin : vp_in i n)
    (kk : W p l e R s m args below meth c H locs cells slots Q (F0 m (pc + 1) ls (.int (f i.toNatClampNeg) :: rest))) : W p l e R s m args below meth c H locs cells slots Q (F0 m pc ls (.int i :: .ref a :: rest)) :=
  va_zald C.1.1 C.1.2.1 hH.1 hH.2.1 q0 t0 ha ht hin hdg kk
variable {l0 : Int32} {un ow hi od hd ct iu : Nat → Int32}
theorem AtX.eta (hH : AtX G ad d A s σ H locs) : AtX G ad d A s (xL σ, xUn σ, xOw σ, xHi σ, xOd σ, xHd σ, xCt σ, xIu σ) H locs := hH
theorem getXt (C : CX p s m args meth c cc nL RX0 ret) (hH : AtX G ad d A s (l0, un, ow, hi, od, hd, ct, iu) H locs) (hlink : Cond.fieldLink RX0 32 RX0 (TX0 0).2.1 (TX0 0).2.2.1 ∈ lw_all) (hdg : decode cc pc = .ok (.getfield 32, 3))
    (kk : W p l e R s m args below meth c H locs cells slots Q (F0 m (pc + 3) ls (.int l0 :: rest))) : W p l e R s m args below meth c H locs cells slots Q (F0 m pc ls (.ref (ad 0) :: rest)) :=
  getX C hH 0 (by decide) hlink rfl rfl hdg kk
theorem putX (C : CX p s m args meth c cc nL RX0 ret) (hH : AtX G ad d A s (l0, un, ow, hi, od, hd, ct, iu) H locs) {x : Int32} (hlink : Cond.fieldLink RX0 32 RX0 (TX0 0).2.1 (TX0 0).2.2.1 ∈ lw_all) (hdg : decode cc pc = .ok (.putfield 32, 3))
    (kk : ∀ (H1 : Heap) (locs1 : List Loc), AtX G ad d A s (x, un, ow, hi, od, hd, ct, iu) H1 locs1 → W p l e R s m args below meth c H1 locs1 cells slots Q (F0 m (pc + 3) ls rest)) : W p l e R s m args below meth c H locs cells slots Q (F0 m pc ls (.int x :: .ref (ad 0) :: rest)) :=
  va_put (D := G) (ci := 0) (v := .int x) (ty := .int) (C := RX0) (T := TX0) (N := 8) C.1.1 C.1.2.1 C.1.2.2.2.2 in_X0 tyX0 tyX0_ok nmX0 C.1.2.2.2.1 hH.1 hH.2.1 hH.2.2.1 hH.2.2.2.1 0 rfl rfl 0 (by decide) (C.1.2.2.2.2 _ hlink) (fun _ h9 => h9) rfl (by decide +kernel) rfl rfl (Nat.le_of_ble_eq_true rfl) hdg (fun H1 locs1 hP hD hS => kk H1 locs1 ⟨hH.1, hP, hD, hS, hH.2.2.2.2⟩)
theorem stX_1 (C : CX p s m args meth c cc nL RX0 ret) (hH : AtX G ad d A s (l0, un, ow, hi, od, hd, ct, iu) H locs) {i x : Int32} (hdg : decode cc pc = .ok (.iastore, 1)) (hin : vp_in i 10)
    (kk : ∀ (H1 : Heap) (locs1 : List Loc), AtX G ad d A s (l0, upd un i.toNatClampNeg x, ow, hi, od, hd, ct, iu) H1 locs1 → W p l e R s m args below meth c H1 locs1 cells slots Q (F0 m (pc + 1) ls rest)) : W p l e R s m args below meth c H locs cells slots Q (F0 m pc ls (.int x :: .int i :: .ref (ad 1) :: rest)) :=
  va_iast C.1.1 C.1.2.1 hH.1 hH.2.1 hH.2.2.1 hH.2.2.2.1 1 0 rfl rfl hin hdg (fun H1 locs1 hP hD hS => by exact kk H1 locs1 ⟨hH.1, hP, hD, hS, hH.2.2.2.2⟩)
theorem ldX_1 (C : CX p s m args meth c cc nL RX0 ret) (hH : AtX G ad d A s (l0, un, ow, hi, od, hd, ct, iu) H locs) {i : Int32} (hdg : decode cc pc = .ok (.iaload, 1)) (hin : vp_in i 10)
    (kk : W p l e R s m args below meth c H locs cells slots Q (F0 m (pc + 1) ls (.int (un i.toNatClampNeg) :: rest))) : W p l e R s m args below meth c H locs cells slots Q (F0 m pc ls (.int i :: .ref (ad 1) :: rest)) :=
  va_iald C.1.1 C.1.2.1 hH.1 hH.2.1 1 0 rfl rfl hin hdg kk
theorem stX_2 (C : CX p s m args meth c cc nL RX0 ret) (hH : AtX G ad d A s (l0, un, ow, hi, od, hd, ct, iu) H locs) {i x : Int32} (hdg : decode cc pc = .ok (.iastore, 1)) (hin : vp_in i 10)
    (kk : ∀ (H1 : Heap) (locs1 : List Loc), AtX G ad d A s (l0, un, upd ow i.toNatClampNeg x, hi, od, hd, ct, iu) H1 locs1 → W p l e R s m args below meth c H1 locs1 cells slots Q (F0 m (pc + 1) ls rest)) : W p l e R s m args below meth c H locs cells slots Q (F0 m pc ls (.int x :: .int i :: .ref (ad 2) :: rest)) :=
  va_iast C.1.1 C.1.2.1 hH.1 hH.2.1 hH.2.2.1 hH.2.2.2.1 2 1 rfl rfl hin hdg (fun H1 locs1 hP hD hS => by exact kk H1 locs1 ⟨hH.1, hP, hD, hS, hH.2.2.2.2⟩)
theorem ldX_2 (C : CX p s m args meth c cc nL RX0 ret) (hH : AtX G ad d A s (l0, un, ow, hi, od, hd, ct, iu) H locs) {i : Int32} (hdg : decode cc pc = .ok (.iaload, 1)) (hin : vp_in i 10)
    (kk : W p l e R s m args below meth c H locs cells slots Q (F0 m (pc + 1) ls (.int (ow i.toNatClampNeg) :: rest))) : W p l e R s m args below meth c H locs cells slots Q (F0 m pc ls (.int i :: .ref (ad 2) :: rest)) :=
  va_iald C.1.1 C.1.2.1 hH.1 hH.2.1 2 1 rfl rfl hin hdg kk
theorem stX_3 (C : CX p s m args meth c cc nL RX0 ret) (hH : AtX G ad d A s (l0, un, ow, hi, od, hd, ct, iu) H locs) {i x : Int32} (hdg : decode cc pc = .ok (.iastore, 1)) (hin : vp_in i 10)
    (kk : ∀ (H1 : Heap) (locs1 : List Loc), AtX G ad d A s (l0, un, ow, upd hi i.toNatClampNeg x, od, hd, ct, iu) H1 locs1 → W p l e R s m args below meth c H1 locs1 cells slots Q (F0 m (pc + 1) ls rest)) : W p l e R s m args below meth c H locs cells slots Q (F0 m pc ls (.int x :: .int i :: .ref (ad 3) :: rest)) :=
  va_iast C.1.1 C.1.2.1 hH.1 hH.2.1 hH.2.2.1 hH.2.2.2.1 3 2 rfl rfl hin hdg (fun H1 locs1 hP hD hS => by exact kk H1 locs1 ⟨hH.1, hP, hD, hS, hH.2.2.2.2⟩)
theorem ldX_3 (C : CX p s m args meth c cc nL RX0 ret) (hH : AtX G ad d A s (l0, un, ow, hi, od, hd, ct, iu) H locs) {i : Int32} (hdg : decode cc pc = .ok (.iaload, 1)) (hin : vp_in i 10)
    (kk : W p l e R s m args below meth c H locs cells slots Q (F0 m (pc + 1) ls (.int (hi i.toNatClampNeg) :: rest))) : W p l e R s m args below meth c H locs cells slots Q (F0 m pc ls (.int i :: .ref (ad 3) :: rest)) :=
  va_iald C.1.1 C.1.2.1 hH.1 hH.2.1 3 2 rfl rfl hin hdg kk
theorem stX_4 (C : CX p s m args meth c cc nL RX0 ret) (hH : AtX G ad d A s (l0, un, ow, hi, od, hd, ct, iu) H locs) {i x : Int32} (hdg : decode cc pc = .ok (.iastore, 1)) (hin : vp_in i 10)
    (kk : ∀ (H1 : Heap) (locs1 : List Loc), AtX G ad d A s (l0, un, ow, hi, upd od i.toNatClampNeg x, hd, ct, iu) H1 locs1 → W p l e R s m args below meth c H1 locs1 cells slots Q (F0 m (pc + 1) ls rest)) : W p l e R s m args below meth c H locs cells slots Q (F0 m pc ls (.int x :: .int i :: .ref (ad 4) :: rest)) :=
  va_iast C.1.1 C.1.2.1 hH.1 hH.2.1 hH.2.2.1 hH.2.2.2.1 4 3 rfl rfl hin hdg (fun H1 locs1 hP hD hS => by exact kk H1 locs1 ⟨hH.1, hP, hD, hS, hH.2.2.2.2⟩)
theorem ldX_4 (C : CX p s m args meth c cc nL RX0 ret) (hH : AtX G ad d A s (l0, un, ow, hi, od, hd, ct, iu) H locs) {i : Int32} (hdg : decode cc pc = .ok (.iaload, 1)) (hin : vp_in i 10)
    (kk : W p l e R s m args below meth c H locs cells slots Q (F0 m (pc + 1) ls (.int (od i.toNatClampNeg) :: rest))) : W p l e R s m args below meth c H locs cells slots Q (F0 m pc ls (.int i :: .ref (ad 4) :: rest)) :=
  va_iald C.1.1 C.1.2.1 hH.1 hH.2.1 4 3 rfl rfl hin hdg kk
theorem stX_5 (C : CX p s m args meth c cc nL RX0 ret) (hH : AtX G ad d A s (l0, un, ow, hi, od, hd, ct, iu) H locs) {i x : Int32} (hdg : decode cc pc = .ok (.iastore, 1)) (hin : vp_in i 10)
    (kk : ∀ (H1 : Heap) (locs1 : List Loc), AtX G ad d A s (l0, un, ow, hi, od, upd hd i.toNatClampNeg x, ct, iu) H1 locs1 → W p l e R s m args below meth c H1 locs1 cells slots Q (F0 m (pc + 1) ls rest)) : W p l e R s m args below meth c H locs cells slots Q (F0 m pc ls (.int x :: .int i :: .ref (ad 5) :: rest)) :=
  va_iast C.1.1 C.1.2.1 hH.1 hH.2.1 hH.2.2.1 hH.2.2.2.1 5 4 rfl rfl hin hdg (fun H1 locs1 hP hD hS => by exact kk H1 locs1 ⟨hH.1, hP, hD, hS, hH.2.2.2.2⟩)
theorem ldX_5 (C : CX p s m args meth c cc nL RX0 ret) (hH : AtX G ad d A s (l0, un, ow, hi, od, hd, ct, iu) H locs) {i : Int32} (hdg : decode cc pc = .ok (.iaload, 1)) (hin : vp_in i 10)
    (kk : W p l e R s m args below meth c H locs cells slots Q (F0 m (pc + 1) ls (.int (hd i.toNatClampNeg) :: rest))) : W p l e R s m args below meth c H locs cells slots Q (F0 m pc ls (.int i :: .ref (ad 5) :: rest)) :=
  va_iald C.1.1 C.1.2.1 hH.1 hH.2.1 5 4 rfl rfl hin hdg kk
theorem stX_6 (C : CX p s m args meth c cc nL RX0 ret) (hH : AtX G ad d A s (l0, un, ow, hi, od, hd, ct, iu) H locs) {i x : Int32} (hdg : decode cc pc = .ok (.iastore, 1)) (hin : vp_in i 80)
    (kk : ∀ (H1 : Heap) (locs1 : List Loc), AtX G ad d A s (l0, un, ow, hi, od, hd, upd ct i.toNatClampNeg x, iu) H1 locs1 → W p l e R s m args below meth c H1 locs1 cells slots Q (F0 m (pc + 1) ls rest)) : W p l e R s m args below meth c H locs cells slots Q (F0 m pc ls (.int x :: .int i :: .ref (ad 6) :: rest)) :=
  va_iast C.1.1 C.1.2.1 hH.1 hH.2.1 hH.2.2.1 hH.2.2.2.1 6 5 rfl rfl hin hdg (fun H1 locs1 hP hD hS => by exact kk H1 locs1 ⟨hH.1, hP, hD, hS, hH.2.2.2.2⟩)
theorem ldX_6 (C : CX p s m args meth c cc nL RX0 ret) (hH : AtX G ad d A s (l0, un, ow, hi, od, hd, ct, iu) H locs) {i : Int32} (hdg : decode cc pc = .ok (.iaload, 1)) (hin : vp_in i 80)
    (kk : W p l e R s m args below meth c H locs cells slots Q (F0 m (pc + 1) ls (.int (ct i.toNatClampNeg) :: rest))) : W p l e R s m args below meth c H locs cells slots Q (F0 m pc ls (.int i :: .ref (ad 6) :: rest)) :=
  va_iald C.1.1 C.1.2.1 hH.1 hH.2.1 6 5 rfl rfl hin hdg kk
theorem stX_7 (C : CX p s m args meth c cc nL RX0 ret) (hH : AtX G ad d A s (l0, un, ow, hi, od, hd, ct, iu) H locs) {i x : Int32} (hx : vp_nar .boolean x = x) (hdg : decode cc pc = .ok (.bastore, 1)) (hin : vp_in i 4)
    (kk : ∀ (H1 : Heap) (locs1 : List Loc), AtX G ad d A s (l0, un, ow, hi, od, hd, ct, upd iu i.toNatClampNeg x) H1 locs1 → W p l e R s m args below meth c H1 locs1 cells slots Q (F0 m (pc + 1) ls rest)) : W p l e R s m args below meth c H locs cells slots Q (F0 m pc ls (.int x :: .int i :: .ref (ad 7) :: rest)) :=
  va_zast C.1.1 C.1.2.1 hH.1 hH.2.1 hH.2.2.1 hH.2.2.2.1 7 6 rfl rfl hin hdg (fun H1 locs1 hP hD hS => by rw [hx] at hP hD; exact kk H1 locs1 ⟨hH.1, hP, hD, hS, hH.2.2.2.2⟩)
theorem ldX_7 (C : CX p s m args meth c cc nL RX0 ret) (hH : AtX G ad d A s (l0, un, ow, hi, od, hd, ct, iu) H locs) {i : Int32} (hdg : decode cc pc = .ok (.baload, 1)) (hin : vp_in i 4)
    (kk : W p l e R s m args below meth c H locs cells slots Q (F0 m (pc + 1) ls (.int (iu i.toNatClampNeg) :: rest))) : W p l e R s m args below meth c H locs cells slots Q (F0 m pc ls (.int i :: .ref (ad 7) :: rest)) :=
  va_zald C.1.1 C.1.2.1 hH.1 hH.2.1 7 6 rfl rfl hin hdg kk
theorem preX {y : List Value} (hH : AtX G ad d A s σ H locs) : PreV s H RX0 (ad 0) (va_Pc (.ref (ad 0) :: y) (PX G ad d H.size σ)) y :=
  ⟨fun a U g mk q => by obtain ⟨q0, q1, qP, qK, qD⟩ := q; exact ⟨q0, q1, qP, va_K.moved (u := U) (U := U.calling g mk a) (Vm.Alike.refl U.vm) qK, qD⟩, va_recv hH.1 hH.2.1 (ci := 0) (q0 := 0) rfl rfl, fun U hU hW => ⟨rfl, by rw [hU], by rw [hU]; exact hH.2.1, va_K.moved hW.alike hH.1, hH.2.2.1.weaken (fun _ _ _ _ => trivial)⟩⟩
theorem freeX (hH : AtX G ad d A s σ H locs) : ∀ q, va_A (wX ad d σ) H.size q → A q := by
  intro q h
  rcases h with ⟨k, e, h⟩ | h
  · exact hH.2.2.1.2 k (q, e) h
  · exact hH.2.2.2.2 q (Nat.le_trans hH.2.2.2.1.1 h)
theorem callX_i (C : CX p s m args meth c cc nL RX0 ret) (hH : AtX G ad d A s σ H locs) {y : MethodName} {cb : ByteArray} {Lb idx n : Nat} {rb : FieldType} {rm : Room} {av st : List Value} {Rv : Int32 × SX} (hM : MetXi l y cb Lb rb rm av G ad d σ Rv)
    (hw : GoodIn lw_all (wsV RX0 idx RX0 y (ws_ y cb Lb (some rb)))) (hd : y.cls = RX0 ∧ y.cls ≠ "java/lang/invoke/MethodHandle" ∧ y.cls ≠ "java/lang/invoke/VarHandle" ∧ (parseMethodDescriptor y.desc).map (fun d => d.parameters.length) = some n) (hrm : rm.cells = 0 ∧ rm.slots = 0 ∧ rm.frames + 1 ≤ R.frames ∧ 8 + (Lb + 11) + rm.locals ≤ R.locals)
    (hn : av.length = n) (hsz : ls.size = nL) (hst : st = av.reverse ++ .ref (ad 0) :: rest) (hre : (rest.map fun v => v.category).sum ≤ 8) (hdg : decode cc pc = .ok (.invokevirtual idx, 3)) (hcs : cells ≤ R.cells ∧ slots ≤ R.slots)
    (kk : ∀ (r : Int32) (u : SX) (H1 : Heap) (locs1 : List Loc), AtX G ad d A s u H1 locs1 → (r, u) = Rv → W p l e R s m args below meth c H1 locs1 cells slots Q (F0 m (pc + 3) ls (.int r :: rest))) : W p l e R s m args below meth c H locs cells slots Q (F0 m pc ls st) := by
  refine va_calli (va_runV (As := av) (rest := rest) C.1 (hM H.size) (cwV n C.1.2.2.2.2 hw rfl hrm.1 hrm.2.1 hd hrm.2.2) (preX hH) rfl hn hsz hst (lv_room hre) hdg hcs) hH.2.2.2.1 (fun q _ h => freeX hH q h) (freeX hH) (fun r u t H1 locs1 ht hvm hpo hB hz1 hk1 hS => ?_)
  obtain ⟨hP1, hK1, hD1⟩ := hB
  rw [ht] at hP1
  exact kk r u H1 locs1 ⟨hH.1, hP1, hD1.weaken (fun _ q _ h => freeX hH q.1 h), hS, hH.2.2.2.2⟩ hpo
theorem callX_v (C : CX p s m args meth c cc nL RX0 ret) (hH : AtX G ad d A s σ H locs) {y : MethodName} {cb : ByteArray} {Lb idx n : Nat} {rm : Room} {av st : List Value} {Rv : SX} (hM : MetXv l y cb Lb rm av G ad d σ Rv)
    (hw : GoodIn lw_all (wsV RX0 idx RX0 y (ws_ y cb Lb none))) (hd : y.cls = RX0 ∧ y.cls ≠ "java/lang/invoke/MethodHandle" ∧ y.cls ≠ "java/lang/invoke/VarHandle" ∧ (parseMethodDescriptor y.desc).map (fun d => d.parameters.length) = some n) (hrm : rm.cells = 0 ∧ rm.slots = 0 ∧ rm.frames + 1 ≤ R.frames ∧ 8 + (Lb + 11) + rm.locals ≤ R.locals)
    (hn : av.length = n) (hsz : ls.size = nL) (hst : st = av.reverse ++ .ref (ad 0) :: rest) (hre : (rest.map fun v => v.category).sum ≤ 8) (hdg : decode cc pc = .ok (.invokevirtual idx, 3)) (hcs : cells ≤ R.cells ∧ slots ≤ R.slots)
    (kk : ∀ (u : SX) (H1 : Heap) (locs1 : List Loc), AtX G ad d A s u H1 locs1 → u = Rv → W p l e R s m args below meth c H1 locs1 cells slots Q (F0 m (pc + 3) ls rest)) : W p l e R s m args below meth c H locs cells slots Q (F0 m pc ls st) := by
  refine va_callv (va_runV (As := av) (rest := rest) C.1 (hM H.size) (cwV n C.1.2.2.2.2 hw rfl hrm.1 hrm.2.1 hd hrm.2.2) (preX hH) rfl hn hsz hst (lv_room hre) hdg hcs) hH.2.2.2.1 (fun q _ h => freeX hH q h) (freeX hH) (fun u t H1 locs1 ht hvm hpo hB hz1 hk1 hS => ?_)
  obtain ⟨hP1, hK1, hD1⟩ := hB
  rw [ht] at hP1
  exact kk u H1 locs1 ⟨hH.1, hP1, hD1.weaken (fun _ q _ h => freeX hH q.1 h), hS, hH.2.2.2.2⟩ hpo
end WX

/-! ===== class Y ===== -/
/-- the class's world at a heap: tables, cells, apart, the frame since the method's start -/
def AtY (G : va_G) (ad : Nat → Nat) (d : Nat → ClassId) (A : Nat → Prop) (s : State) (σ : SY) (H : Heap) (locs : List Loc) : Prop := va_K G vwCl (tY d) s ∧ va_P G vwCl (wY ad d σ) H ∧ va_D A (wY ad d σ) ∧ va_S A s.heap H locs ∧ ∀ q : Nat, s.heap.size ≤ q → A q
def PY (G : va_G) (ad : Nat → Nat) (d : Nat → ClassId) (sz : Nat) (σ : SY) : State → Prop := fun U => U.heap.size = sz ∧ va_P G vwCl (wY ad d σ) U.heap ∧ va_K G vwCl (tY d) U ∧ va_D (fun _ => True) (wY ad d σ)
def BY (G : va_G) (ad : Nat → Nat) (d : Nat → ClassId) (A : Nat → Prop) (u : SY) (t : State) : Prop := va_P G vwCl (wY ad d u) t.heap ∧ va_K G vwCl (tY d) t ∧ va_D A (wY ad d u)
/-- a contract: from the world of σ the method answers r and leaves the world of u, (r, u) = Rv; nothing else changes -/
def MetYi (l : Launch) (y : MethodName) (cb : ByteArray) (Lb : Nat) (rb : FieldType) (rm : Room) (av : List Value) (G : va_G) (ad : Nat → Nat) (d : Nat → ClassId) (σ : SY) (Rv : Int32 × SY) : Prop := ∀ sz : Nat, Met l y (ws_ y cb Lb (some rb)) rm (va_Pc (.ref (ad 0) :: av) (PY G ad d sz σ)) (va_Qi (fun r u => (r, u) = Rv) (BY G ad d (va_A (wY ad d σ) sz)) (va_A (wY ad d σ) sz)) 0 0 (va_A (wY ad d σ) sz)
def MetYv (l : Launch) (y : MethodName) (cb : ByteArray) (Lb : Nat) (rm : Room) (av : List Value) (G : va_G) (ad : Nat → Nat) (d : Nat → ClassId) (σ : SY) (Rv : SY) : Prop := ∀ sz : Nat, Met l y (ws_ y cb Lb none) rm (va_Pc (.ref (ad 0) :: av) (PY G ad d sz σ)) (va_Qv (fun u => u = Rv) (BY G ad d (va_A (wY ad d σ) sz)) (va_A (wY ad d σ) sz)) 0 0 (va_A (wY ad d σ) sz)
abbrev QYi (below : List Frame) (G : va_G) (ad : Nat → Nat) (d : Nat → ClassId) (A : Nat → Prop) (args : Array Value) (s : State) (Rv : Int32 × SY) : State → Prop := MQ below (va_Qi (fun r u => (r, u) = Rv) (BY G ad d A) A) args s 0 0 A
abbrev QYv (below : List Frame) (G : va_G) (ad : Nat → Nat) (d : Nat → ClassId) (A : Nat → Prop) (args : Array Value) (s : State) (Rv : SY) : State → Prop := MQ below (va_Qv (fun u => u = Rv) (BY G ad d A) A) args s 0 0 A
section WY
variable {p : Program} {l : Launch} {e : Env} {R : Room} {s : State} {m : MethodId} {args : Array Value} {below : List Frame} {meth : Method} {c : Code} {H : Heap} {locs : List Loc} {cells slots : Nat} {Q : State → Prop}
variable {cc : ByteArray} {pc nL : Nat} {ls : Array Slot} {rest : List Value} {G : va_G} {ad : Nat → Nat} {d : Nat → ClassId} {A : Nat → Prop} {σ : SY} {ret : Option FieldType}
set_option maxHeartbeats 1000000 in
theorem metY_i {y : MethodName} {cb : ByteArray} {Lb : Nat} {rb : FieldType} {rm : Room} {av : List Value} {Rv : Int32 × SY} (hy : plainName y.cls = true) (hR : y.cls = RX1) (hlen : (lg_sl (Value.ref (ad 0) :: av)).length ≤ Lb)
    (body : ∀ (p : Program) (e : Env) (s : State) (m : MethodId) (below : List Frame) (meth : Method) (c : Code) (A : Nat → Prop) (ls : Array Slot), CX p s m (Value.ref (ad 0) :: av).toArray meth c cb Lb RX1 (some rb) → AtY G ad d A s σ s.heap [] → lv_has ls Lb (lv_args 0 (Value.ref (ad 0) :: av)) →
      W p l e rm s m (Value.ref (ad 0) :: av).toArray below meth c s.heap [] 0 0 (QYi below G ad d A (Value.ref (ad 0) :: av).toArray s Rv) (F0 m 0 ls [])) : MetYi l y cb Lb rb rm av G ad d σ Rv := by
  intro sz
  refine Met.ofW (cc := cb) (maxL := Lb) (ret := some rb) hy rfl ?_
  intro p e s m args below meth c s₁ B hml hv
  obtain ⟨rfl, hsz, hP, hK, hD0⟩ := hv
  have hts := atoms_spec (ws := ws_ y cb Lb (some rb)) B.pre
  have hts : ∀ w ∈ lw_all, w.before _ s = true := fun w h => hts w (List.mem_cons_of_mem _ h)
  have hown : s.vm.findClass RX1 = some m.cls := by rw [← hR]; exact findClass_of_methodNamed B.named
  subst hsz
  have hl := lv_entry (Value.ref (ad 0) :: av) (n := Lb) hlen
  rw [lg_entry_eq]
  exact body p e s m below meth c _ _ ⟨⟨B.exec, B.bytes, hml, hown, hts⟩, B.returns, B.notSynchronized⟩ ⟨hK, hP, hD0.self, va_S.rf, fun q h => Or.inr h⟩ hl
set_option maxHeartbeats 1000000 in
theorem metY_v {y : MethodName} {cb : ByteArray} {Lb : Nat} {rm : Room} {av : List Value} {Rv : SY} (hy : plainName y.cls = true) (hR : y.cls = RX1) (hlen : (lg_sl (Value.ref (ad 0) :: av)).length ≤ Lb)
    (body : ∀ (p : Program) (e : Env) (s : State) (m : MethodId) (below : List Frame) (meth : Method) (c : Code) (A : Nat → Prop) (ls : Array Slot), CX p s m (Value.ref (ad 0) :: av).toArray meth c cb Lb RX1 none → AtY G ad d A s σ s.heap [] → lv_has ls Lb (lv_args 0 (Value.ref (ad 0) :: av)) →
      W p l e rm s m (Value.ref (ad 0) :: av).toArray below meth c s.heap [] 0 0 (QYv below G ad d A (Value.ref (ad 0) :: av).toArray s Rv) (F0 m 0 ls [])) : MetYv l y cb Lb rm av G ad d σ Rv := by
  intro sz
  refine Met.ofW (cc := cb) (maxL := Lb) (ret := none) hy rfl ?_
  intro p e s m args below meth c s₁ B hml hv
  obtain ⟨rfl, hsz, hP, hK, hD0⟩ := hv
  have hts := atoms_spec (ws := ws_ y cb Lb none) B.pre
  have hts : ∀ w ∈ lw_all, w.before _ s = true := fun w h => hts w (List.mem_cons_of_mem _ h)
  have hown : s.vm.findClass RX1 = some m.cls := by rw [← hR]; exact findClass_of_methodNamed B.named
  subst hsz
  have hl := lv_entry (Value.ref (ad 0) :: av) (n := Lb) hlen
  rw [lg_entry_eq]
  exact body p e s m below meth c _ _ ⟨⟨B.exec, B.bytes, hml, hown, hts⟩, B.returns, B.notSynchronized⟩ ⟨hK, hP, hD0.self, va_S.rf, fun q h => Or.inr h⟩ hl
theorem retY_i {Rv : Int32 × SY} {v : Int32} (C : CX p s m args meth c cc nL RX1 (some .int)) (hH : AtY G ad d A s σ H locs) (hdg : decode cc pc = .ok (.ireturn, 1)) (hp : (v, σ) = Rv) : W p l e R s m args below meth c H locs 0 0 (QYi below G ad d A args s Rv) (F0 m pc ls [.int v]) :=
  W.iret C.1.1 C.1.2.1 C.2.1 (fun t ht hW => ⟨⟨v, σ, rfl, hp, by rw [ht]; exact hH.2.1, va_K.moved hW.alike hH.1, hH.2.2.1⟩, hH.2.2.2.1.F ht⟩) hH.2.2.2.1.2.2 hdg C.2.2
theorem retY_z {Rv : Int32 × SY} {v : Int32} (C : CX p s m args meth c cc nL RX1 (some .boolean)) (hH : AtY G ad d A s σ H locs) (hdg : decode cc pc = .ok (.ireturn, 1)) (hn : narrow .boolean (.int v) = .int v) (hp : (v, σ) = Rv) : W p l e R s m args below meth c H locs 0 0 (QYi below G ad d A args s Rv) (F0 m pc ls [.int v]) :=
  W.zret C.1.1 C.1.2.1 C.2.1 hn (fun t ht hW => ⟨⟨v, σ, rfl, hp, by rw [ht]; exact hH.2.1, va_K.moved hW.alike hH.1, hH.2.2.1⟩, hH.2.2.2.1.F ht⟩) hH.2.2.2.1.2.2 hdg C.2.2
theorem retY_v {Rv : SY} (C : CX p s m args meth c cc nL RX1 none) (hH : AtY G ad d A s σ H locs) (hdg : decode cc pc = .ok (.return_, 1)) (hp : σ = Rv) : W p l e R s m args below meth c H locs 0 0 (QYv below G ad d A args s Rv) (F0 m pc ls []) :=
  W.vret C.1.1 C.1.2.1 C.2.1 (fun t ht hW => ⟨⟨σ, rfl, hp, by rw [ht]; exact hH.2.1, va_K.moved hW.alike hH.1, hH.2.2.1⟩, hH.2.2.2.1.F ht⟩) hH.2.2.2.1.2.2 hdg C.2.2
theorem getY (C : CX p s m args meth c cc nL RX1 ret) (hH : AtY G ad d A s σ H locs) (k : Nat) (hk : k < 7) {idx : Nat} (hlink : Cond.fieldLink RX1 idx RX1 (TX1 k).2.1 (TX1 k).2.2.1 ∈ lw_all) (hT : (TX1 k).1 = RX1) {v : Value} (hv : (fsY ad σ)[k]? = some v) (hdg : decode cc pc = .ok (.getfield idx, 3))
    (kk : W p l e R s m args below meth c H locs cells slots Q (F0 m (pc + 3) ls (v :: rest))) : W p l e R s m args below meth c H locs cells slots Q (F0 m pc ls (.ref (ad 0) :: rest)) :=
  va_get (D := G) (ci := 1) (v := v) (C := RX1) (T := TX1) (N := 7) C.1.1 C.1.2.1 C.1.2.2.2.2 in_X1 C.1.2.2.2.1 hH.1 hH.2.1 0 rfl rfl k hk (C.1.2.2.2.2 _ hlink) (fun x h9 => by rw [hT] at h9; exact h9) hv hdg kk
theorem ildY (C : CX p s m args meth c cc nL RX1 ret) (hH : AtY G ad d A s σ H locs) (q0 t0 : Nat) {a n : Nat} {cA : ClassId} {f : Nat → Int32} (ha : (wY ad d σ)[q0]? = some (a, .inl (cA, n, .inl f))) (ht : (tY d)[t0]? = some (cA, .int)) {i : Int32} (hdg : decode cc pc = .ok (.iaload, 1)) (hin : vp_in i n)
    (kk : W p l e R s m args below meth c H locs cells slots Q (F0 m (pc + 1) ls (.int (f i.toNatClampNeg) :: rest))) : W p l e R s m args below meth c H locs cells slots Q (F0 m pc ls (.int i :: .ref a :: rest)) :=
  va_iald C.1.1 C.1.2.1 hH.1 hH.2.1 q0 t0 ha ht hin hdg kk
theorem zldY (C : CX p s m args meth c cc nL RX1 ret) (hH : AtY G ad d A s σ H locs) (q0 t0 : Nat) {a n : Nat} {cA : ClassId} {f : Nat → Int32} (ha : (wY ad d σ)[q0]? = some (a, .inl (cA, n, .inl f))) (ht : (tY d)[t0]? = some (cA, .boolean)) {i : Int32} (hdg : decode cc pc = .ok (.baload, 1)) (hin : vp_in i n)
    (kk : W p l e R s m args below meth c H locs cells slots Q (F0 m (pc + 1) ls (.int (f i.toNatClampNeg) :: rest))) : W p l e R s m args below meth c H locs cells slots Q (F0 m pc ls (.int i :: .ref a :: rest)) :=
  va_zald C.1.1 C.1.2.1 hH.1 hH.2.1 q0 t0 ha ht hin hdg kk
variable {l0 : Int32} {di fi co ba us be : Nat → Int32}
theorem AtY.eta (hH : AtY G ad d A s σ H locs) : AtY G ad d A s (yDi σ, yFi σ, yCo σ, yBa σ, yL σ, yUs σ, yBe σ) H locs := hH
theorem getYt (C : CX p s m args meth c cc nL RX1 ret) (hH : AtY G ad d A s (di, fi, co, ba, l0, us, be) H locs) (hlink : Cond.fieldLink RX1 29 RX1 (TX1 4).2.1 (TX1 4).2.2.1 ∈ lw_all) (hdg : decode cc pc = .ok (.getfield 29, 3))
    (kk : W p l e R s m args below meth c H locs cells slots Q (F0 m (pc + 3) ls (.int l0 :: rest))) : W p l e R s m args below meth c H locs cells slots Q (F0 m pc ls (.ref (ad 0) :: rest)) :=
  getY C hH 4 (by decide) hlink rfl rfl hdg kk
theorem putY (C : CX p s m args meth c cc nL RX1 ret) (hH : AtY G ad d A s (di, fi, co, ba, l0, us, be) H locs) {x : Int32} (hlink : Cond.fieldLink RX1 29 RX1 (TX1 4).2.1 (TX1 4).2.2.1 ∈ lw_all) (hdg : decode cc pc = .ok (.putfield 29, 3))
    (kk : ∀ (H1 : Heap) (locs1 : List Loc), AtY G ad d A s (di, fi, co, ba, x, us, be) H1 locs1 → W p l e R s m args below meth c H1 locs1 cells slots Q (F0 m (pc + 3) ls rest)) : W p l e R s m args below meth c H locs cells slots Q (F0 m pc ls (.int x :: .ref (ad 0) :: rest)) :=
  va_put (D := G) (ci := 1) (v := .int x) (ty := .int) (C := RX1) (T := TX1) (N := 7) C.1.1 C.1.2.1 C.1.2.2.2.2 in_X1 tyX1 tyX1_ok nmX1 C.1.2.2.2.1 hH.1 hH.2.1 hH.2.2.1 hH.2.2.2.1 0 rfl rfl 4 (by decide) (C.1.2.2.2.2 _ hlink) (fun _ h9 => h9) rfl (by decide +kernel) rfl rfl (Nat.le_of_ble_eq_true rfl) hdg (fun H1 locs1 hP hD hS => kk H1 locs1 ⟨hH.1, hP, hD, hS, hH.2.2.2.2⟩)
theorem stY_1 (C : CX p s m args meth c cc nL RX1 ret) (hH : AtY G ad d A s (di, fi, co, ba, l0, us, be) H locs) {i x : Int32} (hdg : decode cc pc = .ok (.iastore, 1)) (hin : vp_in i 10)
    (kk : ∀ (H1 : Heap) (locs1 : List Loc), AtY G ad d A s (upd di i.toNatClampNeg x, fi, co, ba, l0, us, be) H1 locs1 → W p l e R s m args below meth c H1 locs1 cells slots Q (F0 m (pc + 1) ls rest)) : W p l e R s m args below meth c H locs cells slots Q (F0 m pc ls (.int x :: .int i :: .ref (ad 1) :: rest)) :=
  va_iast C.1.1 C.1.2.1 hH.1 hH.2.1 hH.2.2.1 hH.2.2.2.1 1 0 rfl rfl hin hdg (fun H1 locs1 hP hD hS => by exact kk H1 locs1 ⟨hH.1, hP, hD, hS, hH.2.2.2.2⟩)
theorem ldY_1 (C : CX p s m args meth c cc nL RX1 ret) (hH : AtY G ad d A s (di, fi, co, ba, l0, us, be) H locs) {i : Int32} (hdg : decode cc pc = .ok (.iaload, 1)) (hin : vp_in i 10)
    (kk : W p l e R s m args below meth c H locs cells slots Q (F0 m (pc + 1) ls (.int (di i.toNatClampNeg) :: rest))) : W p l e R s m args below meth c H locs cells slots Q (F0 m pc ls (.int i :: .ref (ad 1) :: rest)) :=
  va_iald C.1.1 C.1.2.1 hH.1 hH.2.1 1 0 rfl rfl hin hdg kk
theorem stY_2 (C : CX p s m args meth c cc nL RX1 ret) (hH : AtY G ad d A s (di, fi, co, ba, l0, us, be) H locs) {i x : Int32} (hdg : decode cc pc = .ok (.iastore, 1)) (hin : vp_in i 10)
    (kk : ∀ (H1 : Heap) (locs1 : List Loc), AtY G ad d A s (di, upd fi i.toNatClampNeg x, co, ba, l0, us, be) H1 locs1 → W p l e R s m args below meth c H1 locs1 cells slots Q (F0 m (pc + 1) ls rest)) : W p l e R s m args below meth c H locs cells slots Q (F0 m pc ls (.int x :: .int i :: .ref (ad 2) :: rest)) :=
  va_iast C.1.1 C.1.2.1 hH.1 hH.2.1 hH.2.2.1 hH.2.2.2.1 2 1 rfl rfl hin hdg (fun H1 locs1 hP hD hS => by exact kk H1 locs1 ⟨hH.1, hP, hD, hS, hH.2.2.2.2⟩)
theorem ldY_2 (C : CX p s m args meth c cc nL RX1 ret) (hH : AtY G ad d A s (di, fi, co, ba, l0, us, be) H locs) {i : Int32} (hdg : decode cc pc = .ok (.iaload, 1)) (hin : vp_in i 10)
    (kk : W p l e R s m args below meth c H locs cells slots Q (F0 m (pc + 1) ls (.int (fi i.toNatClampNeg) :: rest))) : W p l e R s m args below meth c H locs cells slots Q (F0 m pc ls (.int i :: .ref (ad 2) :: rest)) :=
  va_iald C.1.1 C.1.2.1 hH.1 hH.2.1 2 1 rfl rfl hin hdg kk
theorem stY_3 (C : CX p s m args meth c cc nL RX1 ret) (hH : AtY G ad d A s (di, fi, co, ba, l0, us, be) H locs) {i x : Int32} (hdg : decode cc pc = .ok (.iastore, 1)) (hin : vp_in i 80)
    (kk : ∀ (H1 : Heap) (locs1 : List Loc), AtY G ad d A s (di, fi, upd co i.toNatClampNeg x, ba, l0, us, be) H1 locs1 → W p l e R s m args below meth c H1 locs1 cells slots Q (F0 m (pc + 1) ls rest)) : W p l e R s m args below meth c H locs cells slots Q (F0 m pc ls (.int x :: .int i :: .ref (ad 3) :: rest)) :=
  va_iast C.1.1 C.1.2.1 hH.1 hH.2.1 hH.2.2.1 hH.2.2.2.1 3 2 rfl rfl hin hdg (fun H1 locs1 hP hD hS => by exact kk H1 locs1 ⟨hH.1, hP, hD, hS, hH.2.2.2.2⟩)
theorem ldY_3 (C : CX p s m args meth c cc nL RX1 ret) (hH : AtY G ad d A s (di, fi, co, ba, l0, us, be) H locs) {i : Int32} (hdg : decode cc pc = .ok (.iaload, 1)) (hin : vp_in i 80)
    (kk : W p l e R s m args below meth c H locs cells slots Q (F0 m (pc + 1) ls (.int (co i.toNatClampNeg) :: rest))) : W p l e R s m args below meth c H locs cells slots Q (F0 m pc ls (.int i :: .ref (ad 3) :: rest)) :=
  va_iald C.1.1 C.1.2.1 hH.1 hH.2.1 3 2 rfl rfl hin hdg kk
theorem stY_4 (C : CX p s m args meth c cc nL RX1 ret) (hH : AtY G ad d A s (di, fi, co, ba, l0, us, be) H locs) {i x : Int32} (hdg : decode cc pc = .ok (.iastore, 1)) (hin : vp_in i 6)
    (kk : ∀ (H1 : Heap) (locs1 : List Loc), AtY G ad d A s (di, fi, co, upd ba i.toNatClampNeg x, l0, us, be) H1 locs1 → W p l e R s m args below meth c H1 locs1 cells slots Q (F0 m (pc + 1) ls rest)) : W p l e R s m args below meth c H locs cells slots Q (F0 m pc ls (.int x :: .int i :: .ref (ad 4) :: rest)) :=
  va_iast C.1.1 C.1.2.1 hH.1 hH.2.1 hH.2.2.1 hH.2.2.2.1 4 3 rfl rfl hin hdg (fun H1 locs1 hP hD hS => by exact kk H1 locs1 ⟨hH.1, hP, hD, hS, hH.2.2.2.2⟩)
theorem ldY_4 (C : CX p s m args meth c cc nL RX1 ret) (hH : AtY G ad d A s (di, fi, co, ba, l0, us, be) H locs) {i : Int32} (hdg : decode cc pc = .ok (.iaload, 1)) (hin : vp_in i 6)
    (kk : W p l e R s m args below meth c H locs cells slots Q (F0 m (pc + 1) ls (.int (ba i.toNatClampNeg) :: rest))) : W p l e R s m args below meth c H locs cells slots Q (F0 m pc ls (.int i :: .ref (ad 4) :: rest)) :=
  va_iald C.1.1 C.1.2.1 hH.1 hH.2.1 4 3 rfl rfl hin hdg kk
theorem stY_5 (C : CX p s m args meth c cc nL RX1 ret) (hH : AtY G ad d A s (di, fi, co, ba, l0, us, be) H locs) {i x : Int32} (hx : vp_nar .boolean x = x) (hdg : decode cc pc = .ok (.bastore, 1)) (hin : vp_in i 4)
    (kk : ∀ (H1 : Heap) (locs1 : List Loc), AtY G ad d A s (di, fi, co, ba, l0, upd us i.toNatClampNeg x, be) H1 locs1 → W p l e R s m args below meth c H1 locs1 cells slots Q (F0 m (pc + 1) ls rest)) : W p l e R s m args below meth c H locs cells slots Q (F0 m pc ls (.int x :: .int i :: .ref (ad 5) :: rest)) :=
  va_zast C.1.1 C.1.2.1 hH.1 hH.2.1 hH.2.2.1 hH.2.2.2.1 5 4 rfl rfl hin hdg (fun H1 locs1 hP hD hS => by rw [hx] at hP hD; exact kk H1 locs1 ⟨hH.1, hP, hD, hS, hH.2.2.2.2⟩)
theorem ldY_5 (C : CX p s m args meth c cc nL RX1 ret) (hH : AtY G ad d A s (di, fi, co, ba, l0, us, be) H locs) {i : Int32} (hdg : decode cc pc = .ok (.baload, 1)) (hin : vp_in i 4)
    (kk : W p l e R s m args below meth c H locs cells slots Q (F0 m (pc + 1) ls (.int (us i.toNatClampNeg) :: rest))) : W p l e R s m args below meth c H locs cells slots Q (F0 m pc ls (.int i :: .ref (ad 5) :: rest)) :=
  va_zald C.1.1 C.1.2.1 hH.1 hH.2.1 5 4 rfl rfl hin hdg kk
theorem stY_6 (C : CX p s m args meth c cc nL RX1 ret) (hH : AtY G ad d A s (di, fi, co, ba, l0, us, be) H locs) {i x : Int32} (hdg : decode cc pc = .ok (.iastore, 1)) (hin : vp_in i 4)
    (kk : ∀ (H1 : Heap) (locs1 : List Loc), AtY G ad d A s (di, fi, co, ba, l0, us, upd be i.toNatClampNeg x) H1 locs1 → W p l e R s m args below meth c H1 locs1 cells slots Q (F0 m (pc + 1) ls rest)) : W p l e R s m args below meth c H locs cells slots Q (F0 m pc ls (.int x :: .int i :: .ref (ad 6) :: rest)) :=
  va_iast C.1.1 C.1.2.1 hH.1 hH.2.1 hH.2.2.1 hH.2.2.2.1 6 5 rfl rfl hin hdg (fun H1 locs1 hP hD hS => by exact kk H1 locs1 ⟨hH.1, hP, hD, hS, hH.2.2.2.2⟩)
theorem ldY_6 (C : CX p s m args meth c cc nL RX1 ret) (hH : AtY G ad d A s (di, fi, co, ba, l0, us, be) H locs) {i : Int32} (hdg : decode cc pc = .ok (.iaload, 1)) (hin : vp_in i 4)
    (kk : W p l e R s m args below meth c H locs cells slots Q (F0 m (pc + 1) ls (.int (be i.toNatClampNeg) :: rest))) : W p l e R s m args below meth c H locs cells slots Q (F0 m pc ls (.int i :: .ref (ad 6) :: rest)) :=
  va_iald C.1.1 C.1.2.1 hH.1 hH.2.1 6 5 rfl rfl hin hdg kk
theorem preY {y : List Value} (hH : AtY G ad d A s σ H locs) : PreV s H RX1 (ad 0) (va_Pc (.ref (ad 0) :: y) (PY G ad d H.size σ)) y :=
  ⟨fun a U g mk q => by obtain ⟨q0, q1, qP, qK, qD⟩ := q; exact ⟨q0, q1, qP, va_K.moved (u := U) (U := U.calling g mk a) (Vm.Alike.refl U.vm) qK, qD⟩, va_recv hH.1 hH.2.1 (ci := 1) (q0 := 0) rfl rfl, fun U hU hW => ⟨rfl, by rw [hU], by rw [hU]; exact hH.2.1, va_K.moved hW.alike hH.1, hH.2.2.1.weaken (fun _ _ _ _ => trivial)⟩⟩
theorem freeY (hH : AtY G ad d A s σ H locs) : ∀ q, va_A (wY ad d σ) H.size q → A q := by
  intro q h
  rcases h with ⟨k, e, h⟩ | h
  · exact hH.2.2.1.2 k (q, e) h
  · exact hH.2.2.2.2 q (Nat.le_trans hH.2.2.2.1.1 h)
theorem callY_i (C : CX p s m args meth c cc nL RX1 ret) (hH : AtY G ad d A s σ H locs) {y : MethodName} {cb : ByteArray} {Lb idx n : Nat} {rb : FieldType} {rm : Room} {av st : List Value} {Rv : Int32 × SY} (hM : MetYi l y cb Lb rb rm av G ad d σ Rv)
    (hw : GoodIn lw_all (wsV RX1 idx RX1 y (ws_ y cb Lb (some rb)))) (hd : y.cls = RX1 ∧ y.cls ≠ "java/lang/invoke/MethodHandle" ∧ y.cls ≠ "java/lang/invoke/VarHandle" ∧ (parseMethodDescriptor y.desc).map (fun d => d.parameters.length) = some n) (hrm : rm.cells = 0 ∧ rm.slots = 0 ∧ rm.frames + 1 ≤ R.frames ∧ 8 + (Lb + 11) + rm.locals ≤ R.locals)
    (hn : av.length = n) (hsz : ls.size = nL) (hst : st = av.reverse ++ .ref (ad 0) :: rest) (hre : (rest.map fun v => v.category).sum ≤ 8) (hdg : decode cc pc = .ok (.invokevirtual idx, 3)) (hcs : cells ≤ R.cells ∧ slots ≤ R.slots)
    (kk : ∀ (r : Int32) (u : SY) (H1 : Heap) (locs1 : List Loc), AtY G ad d A s u H1 locs1 → (r, u) = Rv → W p l e R s m args below meth c H1 locs1 cells slots Q (F0 m (pc + 3) ls (.int r :: rest))) : W p l e R s m args below meth c H locs cells slots Q (F0 m pc ls st) := by
  refine va_calli (va_runV (As := av) (rest := rest) C.1 (hM H.size) (cwV n C.1.2.2.2.2 hw rfl hrm.1 hrm.2.1 hd hrm.2.2) (preY hH) rfl hn hsz hst (lv_room hre) hdg hcs) hH.2.2.2.1 (fun q _ h => freeY hH q h) (freeY hH) (fun r u t H1 locs1 ht hvm hpo hB hz1 hk1 hS => ?_)
  obtain ⟨hP1, hK1, hD1⟩ := hB
  rw [ht] at hP1
  exact kk r u H1 locs1 ⟨hH.1, hP1, hD1.weaken (fun _ q _ h => freeY hH q.1 h), hS, hH.2.2.2.2⟩ hpo
theorem callY_v (C : CX p s m args meth c cc nL RX1 ret) (hH : AtY G ad d A s σ H locs) {y : MethodName} {cb : ByteArray} {Lb idx n : Nat} {rm : Room} {av st : List Value} {Rv : SY} (hM : MetYv l y cb Lb rm av G ad d σ Rv)
    (hw : GoodIn lw_all (wsV RX1 idx RX1 y (ws_ y cb Lb none))) (hd : y.cls = RX1 ∧ y.cls ≠ "java/lang/invoke/MethodHandle" ∧ y.cls ≠ "java/lang/invoke/VarHandle" ∧ (parseMethodDescriptor y.desc).map (fun d => d.parameters.length) = some n) (hrm : rm.cells = 0 ∧ rm.slots = 0 ∧ rm.frames + 1 ≤ R.frames ∧ 8 + (Lb + 11) + rm.locals ≤ R.locals)
    (hn : av.length = n) (hsz : ls.size = nL) (hst : st = av.reverse ++ .ref (ad 0) :: rest) (hre : (rest.map fun v => v.category).sum ≤ 8) (hdg : decode cc pc = .ok (.invokevirtual idx, 3)) (hcs : cells ≤ R.cells ∧ slots ≤ R.slots)
    (kk : ∀ (u : SY) (H1 : Heap) (locs1 : List Loc), AtY G ad d A s u H1 locs1 → u = Rv → W p l e R s m args below meth c H1 locs1 cells slots Q (F0 m (pc + 3) ls rest)) : W p l e R s m args below meth c H locs cells slots Q (F0 m pc ls st) := by
  refine va_callv (va_runV (As := av) (rest := rest) C.1 (hM H.size) (cwV n C.1.2.2.2.2 hw rfl hrm.1 hrm.2.1 hd hrm.2.2) (preY hH) rfl hn hsz hst (lv_room hre) hdg hcs) hH.2.2.2.1 (fun q _ h => freeY hH q h) (freeY hH) (fun u t H1 locs1 ht hvm hpo hB hz1 hk1 hS => ?_)
  obtain ⟨hP1, hK1, hD1⟩ := hB
  rw [ht] at hP1
  exact kk u H1 locs1 ⟨hH.1, hP1, hD1.weaken (fun _ q _ h => freeY hH q.1 h), hS, hH.2.2.2.2⟩ hpo
end WY
end
section
/-! what each method computes: a tree of branches, by gen.py/spec.py out of the decode rows -/
set_option maxRecDepth 100000
abbrev rmZ0 : Room := { frames := 0, cells := 0, slots := 0, locals := 0 }
abbrev rmZ1 : Room := { frames := 1, cells := 0, slots := 0, locals := 32 }
abbrev rmZ2 : Room := { frames := 2, cells := 0, slots := 0, locals := 64 }
def fX_refused (σ : SX) (p1 : Int32) : Int32 := (if p1 < 0 then (-1) else (if p1 < 4 then (if ((xIu σ) p1.toNatClampNeg) = 0 then (-3) else 0) else (-1)))
def fX_top (p1 : Int32) : Int32 := (6 + p1)
def fX_badFile (p1 : Int32) : Int32 := (if p1 < 0 then 1 else (if p1 < 8 then 0 else 1))
def fX_clean (σ : SX) (p1 : Int32) : SX := ((xL σ), (xUn σ), (upd (xOw σ) p1.toNatClampNeg 0), (upd (xHi σ) p1.toNatClampNeg 0), (upd (xOd σ) p1.toNatClampNeg 0), (upd (xHd σ) p1.toNatClampNeg 0), (xCt σ), (xIu σ))
def lX_directoryThere_5 (σ : SX) (p2 : Int32) : Nat → Int32 → Int32 → Int32
  | 0, x3, x4 => 0
  | n + 1, x3, x4 => (if x3 < 0 then 0 else (if ((((xOd σ) x3.toNatClampNeg) >>> (p2 &&& 31)) &&& 1) = 1 then 1 else (if ((((xHd σ) x3.toNatClampNeg) >>> (p2 &&& 31)) &&& 1) = 1 then 0 else (lX_directoryThere_5 σ p2 n ((xUn σ) x3.toNatClampNeg) (x4 + 1)))))
def fX_directoryThere (σ : SX) (p1 : Int32) (p2 : Int32) : Int32 := (lX_directoryThere_5 σ p2 10 p1 0)
def lX_holder_10 (σ : SX) (p2 : Int32) : Nat → Int32 → Int32 → Int32
  | 0, x4, x5 => (-1)
  | n + 1, x4, x5 => (if x4 < 0 then (-1) else (if ((((xOw σ) x4.toNatClampNeg) >>> (p2 &&& 31)) &&& 1) = 1 then x4 else (if ((((xHi σ) x4.toNatClampNeg) >>> (p2 &&& 31)) &&& 1) = 1 then (-1) else (if ((((xHd σ) x4.toNatClampNeg) >>> ((p2 >>> (2 &&& 31)) &&& 31)) &&& 1) = 1 then (-1) else (lX_holder_10 σ p2 n ((xUn σ) x4.toNatClampNeg) (x5 + 1))))))
def fX_holder (σ : SX) (p1 : Int32) (p2 : Int32) : Int32 := (lX_holder_10 σ p2 10 p1 0)
def lX_filesSeen_4 (σ : SX) (p1 : Int32) : Nat → Int32 → Int32 → Int32
  | 0, x2, x3 => x2
  | n + 1, x2, x3 => (if (fX_holder σ p1 x3) < 0 then (lX_filesSeen_4 σ p1 n x2 (x3 + 1)) else (lX_filesSeen_4 σ p1 n (x2 ||| ((1 : Int32) <<< (x3 &&& 31))) (x3 + 1)))
def fX_filesSeen (σ : SX) (p1 : Int32) : Int32 := (lX_filesSeen_4 σ p1 8 0 0)
def fX_setFile (σ : SX) (p1 : Int32) (p2 : Int32) (p3 : Int32) : SX := ((xL σ), (xUn σ), (upd (xOw σ) p1.toNatClampNeg (((xOw σ) p1.toNatClampNeg) ||| ((1 : Int32) <<< (p2 &&& 31)))), (upd (xHi σ) p1.toNatClampNeg (((xHi σ) p1.toNatClampNeg) &&& (((1 : Int32) <<< (p2 &&& 31)) ^^^ (-1)))), (xOd σ), (xHd σ), (upd (xCt σ) ((p1 * 8) + p2).toNatClampNeg p3), (xIu σ))
def fX_clearFile (σ : SX) (p1 : Int32) (p2 : Int32) : SX := ((xL σ), (xUn σ), (upd (xOw σ) p1.toNatClampNeg (((xOw σ) p1.toNatClampNeg) &&& (((1 : Int32) <<< (p2 &&& 31)) ^^^ (-1)))), (upd (xHi σ) p1.toNatClampNeg (((xHi σ) p1.toNatClampNeg) ||| ((1 : Int32) <<< (p2 &&& 31)))), (xOd σ), (xHd σ), (xCt σ), (xIu σ))
def fX_filesOf (p1 : Int32) : Int32 := ((15 : Int32) <<< ((4 * p1) &&& 31))
def lX_sizeOf_4 (p1 : Int32) : Nat → Int32 → Int32 → Int32
  | 0, x2, x3 => x2
  | n + 1, x2, x3 => (lX_sizeOf_4 p1 n (x2 + ((p1 >>> (x3 &&& 31)) &&& 1)) (x3 + 1))
def fX_sizeOf (p1 : Int32) : Int32 := (lX_sizeOf_4 p1 8 0 0)
def fX_mount (σ : SX) (p1 : Int32) (p2 : Int32) : Int32 × SX := (if (fX_refused σ p1) = (-3) then (if p2 < 0 then ((-4), σ) else (if p2 < (xL σ) then (0, ((xL (fX_clean ((xL σ), (xUn σ), (xOw σ), (xHi σ), (xOd σ), (xHd σ), (xCt σ), (upd (xIu σ) p1.toNatClampNeg 1)) (fX_top p1))), (upd (xUn (fX_clean ((xL σ), (xUn σ), (xOw σ), (xHi σ), (xOd σ), (xHd σ), (xCt σ), (upd (xIu σ) p1.toNatClampNeg 1)) (fX_top p1))) (fX_top p1).toNatClampNeg p2), (xOw (fX_clean ((xL σ), (xUn σ), (xOw σ), (xHi σ), (xOd σ), (xHd σ), (xCt σ), (upd (xIu σ) p1.toNatClampNeg 1)) (fX_top p1))), (xHi (fX_clean ((xL σ), (xUn σ), (xOw σ), (xHi σ), (xOd σ), (xHd σ), (xCt σ), (upd (xIu σ) p1.toNatClampNeg 1)) (fX_top p1))), (xOd (fX_clean ((xL σ), (xUn σ), (xOw σ), (xHi σ), (xOd σ), (xHd σ), (xCt σ), (upd (xIu σ) p1.toNatClampNeg 1)) (fX_top p1))), (xHd (fX_clean ((xL σ), (xUn σ), (xOw σ), (xHi σ), (xOd σ), (xHd σ), (xCt σ), (upd (xIu σ) p1.toNatClampNeg 1)) (fX_top p1))), (xCt (fX_clean ((xL σ), (xUn σ), (xOw σ), (xHi σ), (xOd σ), (xHd σ), (xCt σ), (upd (xIu σ) p1.toNatClampNeg 1)) (fX_top p1))), (xIu (fX_clean ((xL σ), (xUn σ), (xOw σ), (xHi σ), (xOd σ), (xHd σ), (xCt σ), (upd (xIu σ) p1.toNatClampNeg 1)) (fX_top p1))))) else ((-4), σ))) else (if (fX_refused σ p1) = (-1) then ((-1), σ) else ((-3), σ)))
def fX_unmount (σ : SX) (p1 : Int32) : Int32 × SX := (if 0 ≤ (fX_refused σ p1) then (0, ((xL σ), (xUn σ), (xOw σ), (xHi σ), (xOd σ), (xHd σ), (xCt σ), (upd (xIu σ) p1.toNatClampNeg 0))) else ((fX_refused σ p1), σ))
def fX_mkdir (σ : SX) (p1 : Int32) (p2 : Int32) : Int32 × SX := (if 0 ≤ (fX_refused σ p1) then (if p2 < 0 then ((-1), σ) else (if p2 ≤ 1 then (if (fX_directoryThere σ (fX_top p1) p2) = 0 then (0, ((xL σ), (xUn σ), (xOw σ), (xHi σ), (upd (xOd σ) (fX_top p1).toNatClampNeg (((xOd σ) (fX_top p1).toNatClampNeg) ||| ((1 : Int32) <<< (p2 &&& 31)))), (upd (xHd σ) (fX_top p1).toNatClampNeg (((xHd σ) (fX_top p1).toNatClampNeg) ||| ((1 : Int32) <<< (p2 &&& 31)))), (xCt σ), (xIu σ))) else ((-4), σ)) else ((-1), σ))) else ((fX_refused σ p1), σ))
def fX_rmdir (σ : SX) (p1 : Int32) (p2 : Int32) : Int32 × SX := (if 0 ≤ (fX_refused σ p1) then (if p2 < 0 then ((-1), σ) else (if p2 ≤ 1 then (if (fX_directoryThere σ (fX_top p1) p2) = 0 then ((-4), σ) else ((fX_sizeOf ((fX_filesSeen σ (fX_top p1)) &&& (fX_filesOf p2))), ((xL σ), (xUn σ), (upd (xOw σ) (fX_top p1).toNatClampNeg (((xOw σ) (fX_top p1).toNatClampNeg) &&& ((fX_filesOf p2) ^^^ (-1)))), (upd (xHi σ) (fX_top p1).toNatClampNeg (((xHi σ) (fX_top p1).toNatClampNeg) &&& ((fX_filesOf p2) ^^^ (-1)))), (upd (xOd σ) (fX_top p1).toNatClampNeg (((xOd σ) (fX_top p1).toNatClampNeg) &&& (((1 : Int32) <<< (p2 &&& 31)) ^^^ (-1)))), (upd (xHd σ) (fX_top p1).toNatClampNeg (((xHd σ) (fX_top p1).toNatClampNeg) ||| ((1 : Int32) <<< (p2 &&& 31)))), (xCt σ), (xIu σ)))) else ((-1), σ))) else ((fX_refused σ p1), σ))
def fX_write (σ : SX) (p1 : Int32) (p2 : Int32) (p3 : Int32) : Int32 × SX := (if 0 ≤ (fX_refused σ p1) then (if (fX_badFile p2) = 0 then (if (fX_directoryThere σ (fX_top p1) (p2 >>> (2 &&& 31))) = 0 then ((-4), σ) else (if 0 ≤ (fX_holder σ (fX_top p1) p2) then (1, (fX_setFile σ (fX_top p1) p2 p3)) else (0, (fX_setFile σ (fX_top p1) p2 p3)))) else ((-1), σ)) else ((fX_refused σ p1), σ))
def fX_grow (σ : SX) (p1 : Int32) (p2 : Int32) (p3 : Int32) : Int32 × SX := (if 0 ≤ (fX_refused σ p1) then (if (fX_badFile p2) = 0 then (if 0 ≤ (fX_holder σ (fX_top p1) p2) then (0, (fX_setFile σ (fX_top p1) p2 (((xCt σ) (((fX_holder σ (fX_top p1) p2) * 8) + p2).toNatClampNeg) + p3))) else ((-4), σ)) else ((-1), σ)) else ((fX_refused σ p1), σ))
def fX_remove (σ : SX) (p1 : Int32) (p2 : Int32) : Int32 × SX := (if 0 ≤ (fX_refused σ p1) then (if (fX_badFile p2) = 0 then (if 0 ≤ (fX_holder σ (fX_top p1) p2) then (0, (fX_clearFile σ (fX_top p1) p2)) else ((-4), σ)) else ((-1), σ)) else ((fX_refused σ p1), σ))
def fX_rename (σ : SX) (p1 : Int32) (p2 : Int32) (p3 : Int32) : Int32 × SX := (if 0 ≤ (fX_refused σ p1) then (if (fX_badFile p2) = 0 then (if (fX_badFile p3) = 0 then (if p2 = p3 then ((-1), σ) else (if (fX_holder σ (fX_top p1) p2) < 0 then ((-4), σ) else (if (fX_directoryThere σ (fX_top p1) (p3 >>> (2 &&& 31))) = 0 then ((-4), σ) else (if 0 ≤ (fX_holder σ (fX_top p1) p3) then (1, (fX_clearFile (fX_setFile σ (fX_top p1) p3 ((xCt σ) (((fX_holder σ (fX_top p1) p2) * 8) + p2).toNatClampNeg)) (fX_top p1) p2)) else (0, (fX_clearFile (fX_setFile σ (fX_top p1) p3 ((xCt σ) (((fX_holder σ (fX_top p1) p2) * 8) + p2).toNatClampNeg)) (fX_top p1) p2)))))) else ((-1), σ)) else ((-1), σ)) else ((fX_refused σ p1), σ))
def fX_read (σ : SX) (p1 : Int32) (p2 : Int32) : Int32 := (if (fX_refused σ p1) < 0 then 0 else (if (fX_badFile p2) = 0 then (if 0 ≤ (fX_holder σ (fX_top p1) p2) then ((xCt σ) (((fX_holder σ (fX_top p1) p2) * 8) + p2).toNatClampNeg) else 0) else 0))
def fX_files (σ : SX) (p1 : Int32) : Int32 := (if 0 ≤ (fX_refused σ p1) then (fX_filesSeen σ (fX_top p1)) else (fX_refused σ p1))
def lX_directories_17 (σ : SX) (p1 : Int32) : Nat → Int32 → Int32 → Int32
  | 0, x3, x4 => x3
  | n + 1, x3, x4 => (if (fX_directoryThere σ (fX_top p1) x4) = 0 then (lX_directories_17 σ p1 n x3 (x4 + 1)) else (lX_directories_17 σ p1 n (x3 ||| ((1 : Int32) <<< (x4 &&& 31))) (x4 + 1)))
def fX_directories (σ : SX) (p1 : Int32) : Int32 := (if 0 ≤ (fX_refused σ p1) then (lX_directories_17 σ p1 2 0 0) else (fX_refused σ p1))
def lX_commit_93 (p1 : Int32) : Nat → SX → Int32 → Int32 × SX
  | 0, σ, x4 => ((((xL (fX_clean ((xL σ), (upd (xUn σ) (xL σ).toNatClampNeg ((xUn σ) (fX_top p1).toNatClampNeg)), (xOw σ), (xHi σ), (xOd σ), (xHd σ), (xCt σ), (xIu σ)) (fX_top p1))) + 1) - 1), (((xL (fX_clean ((xL σ), (upd (xUn σ) (xL σ).toNatClampNeg ((xUn σ) (fX_top p1).toNatClampNeg)), (xOw σ), (xHi σ), (xOd σ), (xHd σ), (xCt σ), (xIu σ)) (fX_top p1))) + 1), (upd (xUn (fX_clean ((xL σ), (upd (xUn σ) (xL σ).toNatClampNeg ((xUn σ) (fX_top p1).toNatClampNeg)), (xOw σ), (xHi σ), (xOd σ), (xHd σ), (xCt σ), (xIu σ)) (fX_top p1))) (fX_top p1).toNatClampNeg (xL (fX_clean ((xL σ), (upd (xUn σ) (xL σ).toNatClampNeg ((xUn σ) (fX_top p1).toNatClampNeg)), (xOw σ), (xHi σ), (xOd σ), (xHd σ), (xCt σ), (xIu σ)) (fX_top p1)))), (xOw (fX_clean ((xL σ), (upd (xUn σ) (xL σ).toNatClampNeg ((xUn σ) (fX_top p1).toNatClampNeg)), (xOw σ), (xHi σ), (xOd σ), (xHd σ), (xCt σ), (xIu σ)) (fX_top p1))), (xHi (fX_clean ((xL σ), (upd (xUn σ) (xL σ).toNatClampNeg ((xUn σ) (fX_top p1).toNatClampNeg)), (xOw σ), (xHi σ), (xOd σ), (xHd σ), (xCt σ), (xIu σ)) (fX_top p1))), (xOd (fX_clean ((xL σ), (upd (xUn σ) (xL σ).toNatClampNeg ((xUn σ) (fX_top p1).toNatClampNeg)), (xOw σ), (xHi σ), (xOd σ), (xHd σ), (xCt σ), (xIu σ)) (fX_top p1))), (xHd (fX_clean ((xL σ), (upd (xUn σ) (xL σ).toNatClampNeg ((xUn σ) (fX_top p1).toNatClampNeg)), (xOw σ), (xHi σ), (xOd σ), (xHd σ), (xCt σ), (xIu σ)) (fX_top p1))), (xCt (fX_clean ((xL σ), (upd (xUn σ) (xL σ).toNatClampNeg ((xUn σ) (fX_top p1).toNatClampNeg)), (xOw σ), (xHi σ), (xOd σ), (xHd σ), (xCt σ), (xIu σ)) (fX_top p1))), (xIu (fX_clean ((xL σ), (upd (xUn σ) (xL σ).toNatClampNeg ((xUn σ) (fX_top p1).toNatClampNeg)), (xOw σ), (xHi σ), (xOd σ), (xHd σ), (xCt σ), (xIu σ)) (fX_top p1)))))
  | n + 1, σ, x4 => (lX_commit_93 p1 n ((xL σ), (xUn σ), (xOw σ), (xHi σ), (xOd σ), (xHd σ), (upd (xCt σ) (((xL σ) * 8) + x4).toNatClampNeg ((xCt σ) (((fX_top p1) * 8) + x4).toNatClampNeg)), (xIu σ)) (x4 + 1))
def fX_commit (σ : SX) (p1 : Int32) : Int32 × SX := (if 0 ≤ (fX_refused σ p1) then (if (xL σ) = 6 then ((-2), σ) else (lX_commit_93 p1 8 ((xL σ), (xUn σ), (upd (xOw σ) (xL σ).toNatClampNeg ((xOw σ) (fX_top p1).toNatClampNeg)), (upd (xHi σ) (xL σ).toNatClampNeg ((xHi σ) (fX_top p1).toNatClampNeg)), (upd (xOd σ) (xL σ).toNatClampNeg ((xOd σ) (fX_top p1).toNatClampNeg)), (upd (xHd σ) (xL σ).toNatClampNeg ((xHd σ) (fX_top p1).toNatClampNeg)), (xCt σ), (xIu σ)) 0)) else ((fX_refused σ p1), σ))
def lX_drop_55 (σ : SX) : Nat → Int32 → Int32 → Int32 × SX
  | 0, x2, x3 => (if x2 = 0 then ((-4), σ) else (((xL σ) - 1), (((xL (fX_clean σ ((xL σ) - 1))) - 1), (xUn (fX_clean σ ((xL σ) - 1))), (xOw (fX_clean σ ((xL σ) - 1))), (xHi (fX_clean σ ((xL σ) - 1))), (xOd (fX_clean σ ((xL σ) - 1))), (xHd (fX_clean σ ((xL σ) - 1))), (xCt (fX_clean σ ((xL σ) - 1))), (xIu (fX_clean σ ((xL σ) - 1))))))
  | n + 1, x2, x3 => (if x2 = 0 then (lX_drop_55 σ n 0 (x3 + 1)) else (if ((xIu σ) x3.toNatClampNeg) = 0 then (lX_drop_55 σ n 1 (x3 + 1)) else (if ((xUn σ) (fX_top x3).toNatClampNeg) = ((xL σ) - 1) then (lX_drop_55 σ n 0 (x3 + 1)) else (lX_drop_55 σ n 1 (x3 + 1)))))
def lX_drop_19 (σ : SX) : Nat → Int32 → Int32 → Int32 × SX
  | 0, x2, x3 => (lX_drop_55 σ 4 x2 0)
  | n + 1, x2, x3 => (if x2 = 0 then (lX_drop_19 σ n 0 (x3 + 1)) else (if ((xUn σ) x3.toNatClampNeg) = ((xL σ) - 1) then (lX_drop_19 σ n 0 (x3 + 1)) else (lX_drop_19 σ n 1 (x3 + 1))))
def fX_drop (σ : SX)  : Int32 × SX := (if ((xL σ) - 1) ≤ 0 then (lX_drop_19 σ (xL σ).toNatClampNeg 0 0) else (lX_drop_19 σ (xL σ).toNatClampNeg 1 0))
def fX_layers (σ : SX)  : Int32 := (xL σ)
def fX_base (σ : SX) (p1 : Int32) : Int32 := (if p1 < 1 then (-4) else (if p1 < (xL σ) then ((xUn σ) p1.toNatClampNeg) else (-4)))
def lX_difference_5 (σ : SX) (p1 : Int32) (p2 : Int32) : Nat → Int32 → Int32 → Int32
  | 0, x3, x4 => x3
  | n + 1, x3, x4 => (if 0 ≤ (fX_holder σ p1 x4) then (if 0 ≤ (fX_holder σ p2 x4) then (if ((xCt σ) (((fX_holder σ p1 x4) * 8) + x4).toNatClampNeg) = ((xCt σ) (((fX_holder σ p2 x4) * 8) + x4).toNatClampNeg) then (lX_difference_5 σ p1 p2 n x3 (x4 + 1)) else (lX_difference_5 σ p1 p2 n (x3 ||| ((1 : Int32) <<< (x4 &&& 31))) (x4 + 1))) else (lX_difference_5 σ p1 p2 n (x3 ||| ((1 : Int32) <<< (x4 &&& 31))) (x4 + 1))) else (if 0 ≤ (fX_holder σ p2 x4) then (lX_difference_5 σ p1 p2 n (x3 ||| ((1 : Int32) <<< (x4 &&& 31))) (x4 + 1)) else (lX_difference_5 σ p1 p2 n x3 (x4 + 1))))
def fX_difference (σ : SX) (p1 : Int32) (p2 : Int32) : Int32 := (lX_difference_5 σ p1 p2 8 0 0)
def fX_changes (σ : SX) (p1 : Int32) : Int32 := (if 0 ≤ (fX_refused σ p1) then (fX_sizeOf (fX_difference σ (fX_top p1) ((xUn σ) (fX_top p1).toNatClampNeg))) else (fX_refused σ p1))
def fX_compare (σ : SX) (p1 : Int32) (p2 : Int32) : Int32 := (if p1 < 0 then (-4) else (if (xL σ) ≤ p1 then (-4) else (if p2 < 0 then (-4) else (if p2 < (xL σ) then (fX_difference σ p1 p2) else (-4)))))
def lX_squash_21 (p1 : Int32) : Nat → SX → Int32 → Int32 × SX
  | 0, σ, x4 => (0, σ)
  | n + 1, σ, x4 => (if ((((xHd σ) (fX_top p1).toNatClampNeg) >>> ((x4 >>> (2 &&& 31)) &&& 31)) &&& 1) = 1 then (if (fX_holder σ ((xUn σ) (fX_top p1).toNatClampNeg) x4) < 0 then (if ((((xOw σ) (fX_top p1).toNatClampNeg) >>> (x4 &&& 31)) &&& 1) = 1 then (lX_squash_21 p1 n ((xL σ), (xUn σ), (xOw σ), (upd (xHi σ) (fX_top p1).toNatClampNeg (((xHi σ) (fX_top p1).toNatClampNeg) &&& (((1 : Int32) <<< (x4 &&& 31)) ^^^ (-1)))), (xOd σ), (xHd σ), (xCt σ), (xIu σ)) (x4 + 1)) else (lX_squash_21 p1 n ((xL σ), (xUn σ), (xOw σ), (upd (xHi σ) (fX_top p1).toNatClampNeg (((xHi σ) (fX_top p1).toNatClampNeg) &&& (((1 : Int32) <<< (x4 &&& 31)) ^^^ (-1)))), (xOd σ), (xHd σ), (xCt σ), (xIu σ)) (x4 + 1))) else (if ((((xOw σ) (fX_top p1).toNatClampNeg) >>> (x4 &&& 31)) &&& 1) = 1 then (lX_squash_21 p1 n ((xL σ), (xUn σ), (xOw σ), (upd (xHi σ) (fX_top p1).toNatClampNeg (((xHi σ) (fX_top p1).toNatClampNeg) &&& (((1 : Int32) <<< (x4 &&& 31)) ^^^ (-1)))), (xOd σ), (xHd σ), (xCt σ), (xIu σ)) (x4 + 1)) else (lX_squash_21 p1 n ((xL σ), (xUn σ), (xOw σ), (upd (xHi σ) (fX_top p1).toNatClampNeg (((xHi σ) (fX_top p1).toNatClampNeg) &&& (((1 : Int32) <<< (x4 &&& 31)) ^^^ (-1)))), (xOd σ), (xHd σ), (xCt σ), (xIu σ)) (x4 + 1)))) else (if (fX_holder σ ((xUn σ) (fX_top p1).toNatClampNeg) x4) < 0 then (if ((((xOw σ) (fX_top p1).toNatClampNeg) >>> (x4 &&& 31)) &&& 1) = 1 then (lX_squash_21 p1 n ((xL σ), (xUn σ), (xOw σ), (upd (xHi σ) (fX_top p1).toNatClampNeg (((xHi σ) (fX_top p1).toNatClampNeg) &&& (((1 : Int32) <<< (x4 &&& 31)) ^^^ (-1)))), (xOd σ), (xHd σ), (xCt σ), (xIu σ)) (x4 + 1)) else (lX_squash_21 p1 n ((xL σ), (xUn σ), (xOw σ), (upd (xHi σ) (fX_top p1).toNatClampNeg (((xHi σ) (fX_top p1).toNatClampNeg) &&& (((1 : Int32) <<< (x4 &&& 31)) ^^^ (-1)))), (xOd σ), (xHd σ), (xCt σ), (xIu σ)) (x4 + 1))) else (if ((((xOw σ) (fX_top p1).toNatClampNeg) >>> (x4 &&& 31)) &&& 1) = 1 then (if ((xCt σ) (((fX_holder σ ((xUn σ) (fX_top p1).toNatClampNeg) x4) * 8) + x4).toNatClampNeg) = ((xCt σ) (((fX_top p1) * 8) + x4).toNatClampNeg) then (lX_squash_21 p1 n ((xL σ), (xUn σ), (upd (xOw σ) (fX_top p1).toNatClampNeg (((xOw σ) (fX_top p1).toNatClampNeg) &&& (((1 : Int32) <<< (x4 &&& 31)) ^^^ (-1)))), (xHi σ), (xOd σ), (xHd σ), (xCt σ), (xIu σ)) (x4 + 1)) else (lX_squash_21 p1 n σ (x4 + 1))) else (lX_squash_21 p1 n σ (x4 + 1)))))
def fX_squash (σ : SX) (p1 : Int32) : Int32 × SX := (if 0 ≤ (fX_refused σ p1) then (lX_squash_21 p1 8 σ 0) else ((fX_refused σ p1), σ))
def fY_test (τ : SY) (p1 : Int32) : Int32 := (if p1 < 0 then (-1) else (if p1 ≤ 3 then (if ((yUs τ) p1.toNatClampNeg) = 0 then (-3) else 0) else (-1)))
def fY_testDirectory (τ : SY) (p1 : Int32) (p2 : Int32) : Int32 := (if (fY_test τ p1) = 0 then (if p2 < 0 then (-1) else (if p2 ≤ 1 then (fY_test τ p1) else (-1))) else (fY_test τ p1))
def fY_testFile (τ : SY) (p1 : Int32) (p2 : Int32) : Int32 := (if (fY_test τ p1) = 0 then (if p2 < 0 then (-1) else (if p2 ≤ 7 then (fY_test τ p1) else (-1))) else (fY_test τ p1))
def lY_copy_26 (p1 : Int32) (p2 : Int32) : Nat → SY → Int32 → SY
  | 0, τ, x3 => τ
  | n + 1, τ, x3 => (lY_copy_26 p1 p2 n ((yDi τ), (yFi τ), (upd (yCo τ) ((8 * p2) + x3).toNatClampNeg ((yCo τ) ((8 * p1) + x3).toNatClampNeg)), (yBa τ), (yL τ), (yUs τ), (yBe τ)) (x3 + 1))
def fY_copy (τ : SY) (p1 : Int32) (p2 : Int32) : SY := (lY_copy_26 p1 p2 8 ((upd (yDi τ) p2.toNatClampNeg ((yDi τ) p1.toNatClampNeg)), (upd (yFi τ) p2.toNatClampNeg ((yFi τ) p1.toNatClampNeg)), (yCo τ), (yBa τ), (yL τ), (yUs τ), (yBe τ)) 0)
def fY_isLayer (τ : SY) (p1 : Int32) : Int32 := (if p1 < 0 then 0 else (if (yL τ) ≤ p1 then 0 else 1))
def fY_has (τ : SY) (p1 : Int32) (p2 : Int32) : Int32 := (if ((((yFi τ) p1.toNatClampNeg) >>> (p2 &&& 31)) &&& 1) = 1 then 1 else 0)
def fY_hasDirectory (τ : SY) (p1 : Int32) (p2 : Int32) : Int32 := (if ((((yDi τ) p1.toNatClampNeg) >>> (p2 &&& 31)) &&& 1) = 1 then 1 else 0)
def fY_mount (τ : SY) (p1 : Int32) (p2 : Int32) : Int32 × SY := (if (fY_test τ p1) = (-3) then (if (fY_isLayer τ p2) = 0 then ((-4), τ) else (0, (fY_copy ((yDi τ), (yFi τ), (yCo τ), (yBa τ), (yL τ), (upd (yUs τ) p1.toNatClampNeg 1), (upd (yBe τ) p1.toNatClampNeg p2)) p2 (6 + p1)))) else (if (fY_test τ p1) = 0 then ((-3), τ) else ((fY_test τ p1), τ)))
def fY_unmount (τ : SY) (p1 : Int32) : Int32 × SY := (if (fY_test τ p1) = 0 then ((fY_test τ p1), ((yDi τ), (yFi τ), (yCo τ), (yBa τ), (yL τ), (upd (yUs τ) p1.toNatClampNeg 0), (yBe τ))) else ((fY_test τ p1), τ))
def fY_mkdir (τ : SY) (p1 : Int32) (p2 : Int32) : Int32 × SY := (if (fY_testDirectory τ p1 p2) = 0 then (if (fY_hasDirectory τ (6 + p1) p2) = 0 then (0, ((upd (yDi τ) (6 + p1).toNatClampNeg (((yDi τ) (6 + p1).toNatClampNeg) ||| ((1 : Int32) <<< (p2 &&& 31)))), (yFi τ), (yCo τ), (yBa τ), (yL τ), (yUs τ), (yBe τ))) else ((-4), τ)) else ((fY_testDirectory τ p1 p2), τ))
def lY_rmdir_36 (τ : SY) (p1 : Int32) (p2 : Int32) : Nat → Int32 → Int32 → Int32 × SY
  | 0, x4, x5 => (x4, ((upd (yDi τ) (6 + p1).toNatClampNeg (((yDi τ) (6 + p1).toNatClampNeg) &&& (((1 : Int32) <<< (p2 &&& 31)) ^^^ (-1)))), (upd (yFi τ) (6 + p1).toNatClampNeg (((yFi τ) (6 + p1).toNatClampNeg) &&& (((15 : Int32) <<< ((4 * p2) &&& 31)) ^^^ (-1)))), (yCo τ), (yBa τ), (yL τ), (yUs τ), (yBe τ)))
  | n + 1, x4, x5 => (if (fY_has τ (6 + p1) x5) = 0 then (lY_rmdir_36 τ p1 p2 n x4 (x5 + 1)) else (lY_rmdir_36 τ p1 p2 n (x4 + 1) (x5 + 1)))
def fY_rmdir (τ : SY) (p1 : Int32) (p2 : Int32) : Int32 × SY := (if (fY_testDirectory τ p1 p2) = 0 then (if (fY_hasDirectory τ (6 + p1) p2) = 0 then ((-4), τ) else (lY_rmdir_36 τ p1 p2 4 0 (4 * p2))) else ((fY_testDirectory τ p1 p2), τ))
def fY_put (τ : SY) (p1 : Int32) (p2 : Int32) (p3 : Int32) : Int32 × SY := (if (fY_has τ p1 p2) = 0 then (0, ((yDi τ), (upd (yFi τ) p1.toNatClampNeg (((yFi τ) p1.toNatClampNeg) ||| ((1 : Int32) <<< (p2 &&& 31)))), (upd (yCo τ) ((8 * p1) + p2).toNatClampNeg p3), (yBa τ), (yL τ), (yUs τ), (yBe τ))) else (1, ((yDi τ), (upd (yFi τ) p1.toNatClampNeg (((yFi τ) p1.toNatClampNeg) ||| ((1 : Int32) <<< (p2 &&& 31)))), (upd (yCo τ) ((8 * p1) + p2).toNatClampNeg p3), (yBa τ), (yL τ), (yUs τ), (yBe τ))))
def fY_write (τ : SY) (p1 : Int32) (p2 : Int32) (p3 : Int32) : Int32 × SY := (if (fY_testFile τ p1 p2) = 0 then (if (fY_hasDirectory τ (6 + p1) (p2 / 4)) = 0 then ((-4), τ) else ((fY_put τ (6 + p1) p2 p3).1, ((fY_put τ (6 + p1) p2 p3).2))) else ((fY_testFile τ p1 p2), τ))
def fY_grow (τ : SY) (p1 : Int32) (p2 : Int32) (p3 : Int32) : Int32 × SY := (if (fY_testFile τ p1 p2) = 0 then (if (fY_has τ (6 + p1) p2) = 0 then ((-4), τ) else (0, ((yDi τ), (yFi τ), (upd (yCo τ) ((8 * (6 + p1)) + p2).toNatClampNeg (((yCo τ) ((8 * (6 + p1)) + p2).toNatClampNeg) + p3)), (yBa τ), (yL τ), (yUs τ), (yBe τ)))) else ((fY_testFile τ p1 p2), τ))
def fY_remove (τ : SY) (p1 : Int32) (p2 : Int32) : Int32 × SY := (if (fY_testFile τ p1 p2) = 0 then (if (fY_has τ (6 + p1) p2) = 0 then ((-4), τ) else (0, ((yDi τ), (upd (yFi τ) (6 + p1).toNatClampNeg (((yFi τ) (6 + p1).toNatClampNeg) &&& (((1 : Int32) <<< (p2 &&& 31)) ^^^ (-1)))), (yCo τ), (yBa τ), (yL τ), (yUs τ), (yBe τ)))) else ((fY_testFile τ p1 p2), τ))
def fY_rename (τ : SY) (p1 : Int32) (p2 : Int32) (p3 : Int32) : Int32 × SY := (if (fY_testFile τ p1 p2) = 0 then (if (fY_testFile τ p1 p3) = 0 then (if p2 = p3 then ((-1), τ) else (if (fY_has τ (6 + p1) p2) = 0 then ((-4), τ) else (if (fY_hasDirectory τ (6 + p1) (p3 / 4)) = 0 then ((-4), τ) else ((fY_put ((yDi τ), (upd (yFi τ) (6 + p1).toNatClampNeg (((yFi τ) (6 + p1).toNatClampNeg) &&& (((1 : Int32) <<< (p2 &&& 31)) ^^^ (-1)))), (yCo τ), (yBa τ), (yL τ), (yUs τ), (yBe τ)) (6 + p1) p3 ((yCo τ) ((8 * (6 + p1)) + p2).toNatClampNeg)).1, ((fY_put ((yDi τ), (upd (yFi τ) (6 + p1).toNatClampNeg (((yFi τ) (6 + p1).toNatClampNeg) &&& (((1 : Int32) <<< (p2 &&& 31)) ^^^ (-1)))), (yCo τ), (yBa τ), (yL τ), (yUs τ), (yBe τ)) (6 + p1) p3 ((yCo τ) ((8 * (6 + p1)) + p2).toNatClampNeg)).2))))) else ((fY_testFile τ p1 p3), τ)) else ((fY_testFile τ p1 p2), τ))
def fY_read (τ : SY) (p1 : Int32) (p2 : Int32) : Int32 := (if (fY_testFile τ p1 p2) = 0 then (if (fY_has τ (6 + p1) p2) = 0 then 0 else ((yCo τ) ((8 * (6 + p1)) + p2).toNatClampNeg)) else 0)
def fY_files (τ : SY) (p1 : Int32) : Int32 := (if (fY_test τ p1) = 0 then ((yFi τ) (6 + p1).toNatClampNeg) else (fY_test τ p1))
def fY_directories (τ : SY) (p1 : Int32) : Int32 := (if (fY_test τ p1) = 0 then ((yDi τ) (6 + p1).toNatClampNeg) else (fY_test τ p1))
def fY_commit (τ : SY) (p1 : Int32) : Int32 × SY := (if (fY_test τ p1) = 0 then (if (yL τ) = 6 then ((-2), τ) else ((((yL (fY_copy τ (6 + p1) (yL τ))) + 1) - 1), ((yDi (fY_copy τ (6 + p1) (yL τ))), (yFi (fY_copy τ (6 + p1) (yL τ))), (yCo (fY_copy τ (6 + p1) (yL τ))), (upd (yBa (fY_copy τ (6 + p1) (yL τ))) (yL (fY_copy τ (6 + p1) (yL τ))).toNatClampNeg ((yBe (fY_copy τ (6 + p1) (yL τ))) p1.toNatClampNeg)), ((yL (fY_copy τ (6 + p1) (yL τ))) + 1), (yUs (fY_copy τ (6 + p1) (yL τ))), (upd (yBe (fY_copy τ (6 + p1) (yL τ))) p1.toNatClampNeg (yL (fY_copy τ (6 + p1) (yL τ))))))) else ((fY_test τ p1), τ))
def lY_isFree_36 (τ : SY) (p1 : Int32) : Nat → Int32 → Int32
  | 0, x2 => 1
  | n + 1, x2 => (if ((yBa τ) x2.toNatClampNeg) = p1 then 0 else (lY_isFree_36 τ p1 n (x2 + 1)))
def lY_isFree_2 (τ : SY) (p1 : Int32) : Nat → Int32 → Int32
  | 0, x2 => (lY_isFree_36 τ p1 (yL τ).toNatClampNeg 0)
  | n + 1, x2 => (if ((yUs τ) x2.toNatClampNeg) = 0 then (lY_isFree_2 τ p1 n (x2 + 1)) else (if ((yBe τ) x2.toNatClampNeg) = p1 then 0 else (lY_isFree_2 τ p1 n (x2 + 1))))
def fY_isFree (τ : SY) (p1 : Int32) : Int32 := (lY_isFree_2 τ p1 4 0)
def fY_drop (τ : SY)  : Int32 × SY := (if (yL τ) = 1 then ((-4), τ) else (if (fY_isFree τ ((yL τ) - 1)) = 0 then ((-4), τ) else (((yL τ) - 1), ((yDi τ), (yFi τ), (yCo τ), (yBa τ), ((yL τ) - 1), (yUs τ), (yBe τ)))))
def fY_layers (τ : SY)  : Int32 := (yL τ)
def fY_base (τ : SY) (p1 : Int32) : Int32 := (if (fY_isLayer τ p1) = 0 then (-4) else ((yBa τ) p1.toNatClampNeg))
def lY_differing_5 (τ : SY) (p1 : Int32) (p2 : Int32) : Nat → Int32 → Int32 → Int32
  | 0, x3, x4 => x3
  | n + 1, x3, x4 => (if (fY_has τ p1 x4) = (fY_has τ p2 x4) then (if (fY_has τ p1 x4) = 0 then (lY_differing_5 τ p1 p2 n x3 (x4 + 1)) else (if ((yCo τ) ((8 * p1) + x4).toNatClampNeg) = ((yCo τ) ((8 * p2) + x4).toNatClampNeg) then (lY_differing_5 τ p1 p2 n x3 (x4 + 1)) else (lY_differing_5 τ p1 p2 n (x3 ||| ((1 : Int32) <<< (x4 &&& 31))) (x4 + 1)))) else (lY_differing_5 τ p1 p2 n (x3 ||| ((1 : Int32) <<< (x4 &&& 31))) (x4 + 1)))
def fY_differing (τ : SY) (p1 : Int32) (p2 : Int32) : Int32 := (lY_differing_5 τ p1 p2 8 0 0)
def lY_changes_33 (τ : SY) (p1 : Int32) : Nat → Int32 → Int32 → Int32
  | 0, x4, x5 => x4
  | n + 1, x4, x5 => (lY_changes_33 τ p1 n (x4 + (((fY_differing τ (6 + p1) ((yBe τ) p1.toNatClampNeg)) >>> (x5 &&& 31)) &&& 1)) (x5 + 1))
def fY_changes (τ : SY) (p1 : Int32) : Int32 := (if (fY_test τ p1) = 0 then (lY_changes_33 τ p1 8 0 0) else (fY_test τ p1))
def fY_compare (τ : SY) (p1 : Int32) (p2 : Int32) : Int32 := (if (fY_isLayer τ p1) = 0 then (-4) else (if (fY_isLayer τ p2) = 0 then (-4) else (fY_differing τ p1 p2)))
def fY_squash (τ : SY) (p1 : Int32) : Int32 := (fY_test τ p1)
end
section
/-! bounds: what the walks need of the numbers -/
set_option maxRecDepth 100000
def okU (σ : SX) : Prop := ∀ j : Nat, j < 10 → xUn σ j < 0 ∨ vp_in (xUn σ j) 10
def okX (σ : SX) : Prop := okU σ ∧ 1 ≤ (xL σ).toInt ∧ (xL σ).toInt ≤ 6
def okY (τ : SY) : Prop := 1 ≤ (yL τ).toInt ∧ (yL τ).toInt ≤ 6 ∧ ∀ j : Nat, j < 4 → vp_in (yBe τ j) 10
theorem ti0 : (0 : Int32).toInt = 0 := by decide
theorem b_lt {x : Int32} {N : Nat} (h0 : ¬ x < 0) (h1 : x < nI N) (hN : N < 2 ^ 31) : vp_in x N := by
  rw [Int32.lt_iff_toInt_lt] at h0 h1
  rw [nI_toInt hN] at h1
  rw [ti0] at h0
  exact vp_in_iff.mpr ⟨by omega, h1⟩
theorem b_le3 {x : Int32} (h0 : ¬ x < 0) (h1 : x ≤ 3) : vp_in x 4 := by
  rw [Int32.lt_iff_toInt_lt] at h0
  rw [Int32.le_iff_toInt_le, show (3 : Int32).toInt = 3 by decide] at h1
  rw [ti0] at h0
  exact vp_in_iff.mpr ⟨by omega, by omega⟩
theorem b_le7 {x : Int32} (h0 : ¬ x < 0) (h1 : x ≤ 7) : vp_in x 8 := by
  rw [Int32.lt_iff_toInt_lt] at h0
  rw [Int32.le_iff_toInt_le, show (7 : Int32).toInt = 7 by decide] at h1
  rw [ti0] at h0
  exact vp_in_iff.mpr ⟨by omega, by omega⟩
theorem b_le1 {x : Int32} (h0 : ¬ x < 0) (h1 : x ≤ 1) : vp_in x 2 := by
  rw [Int32.lt_iff_toInt_lt] at h0
  rw [Int32.le_iff_toInt_le, show (1 : Int32).toInt = 1 by decide] at h1
  rw [ti0] at h0
  exact vp_in_iff.mpr ⟨by omega, by omega⟩
theorem b_or {x : Int32} {n : Nat} (h : x < 0 ∨ vp_in x n) (h2 : ¬ x < 0) : vp_in x n := h.resolve_left h2
theorem b_cl {x : Int32} {n : Nat} (h : vp_in x n) : x.toNatClampNeg < n := Nat.not_le.mp fun q => h (Or.inr q)
theorem b_w {x : Int32} (h : vp_in x 6) : vp_in x 10 := by
  have := vp_in_iff.mp h
  exact vp_in_iff.mpr ⟨this.1, by omega⟩
theorem b_top {p1 : Int32} (h : vp_in p1 4) : vp_in (6 + p1) 10 := by
  obtain ⟨j, hj, rfl⟩ := vp_in_of h (by decide)
  rw [show (6 : Int32) + nI j = nI (6 + j) from nI_add 6 j]
  exact vp_in_nI (by omega) (by decide)
theorem b_ct {t f : Int32} (ht : vp_in t 10) (hf : vp_in f 8) : vp_in ((t * 8) + f) 80 := by
  obtain ⟨j, hj, rfl⟩ := vp_in_of ht (by decide)
  obtain ⟨k, hk, rfl⟩ := vp_in_of hf (by decide)
  rw [show nI j * 8 = nI (j * 8) from pk_mul j 8, nI_add]
  exact vp_in_nI (by omega) (by decide)
theorem b_ct2 {t f : Int32} (ht : vp_in t 10) (hf : vp_in f 8) : vp_in ((8 * t) + f) 80 := by
  obtain ⟨j, hj, rfl⟩ := vp_in_of ht (by decide)
  obtain ⟨k, hk, rfl⟩ := vp_in_of hf (by decide)
  rw [show 8 * nI j = nI (8 * j) from pk_mul 8 j, nI_add]
  exact vp_in_nI (by omega) (by decide)
theorem b_ref3 {σ : SX} {p : Int32} (h : fX_refused σ p = -3) : vp_in p 4 := by
  unfold fX_refused at h
  split at h
  · exact absurd h (by decide)
  · split at h
    · exact b_lt (N := 4) (by assumption) (by assumption) (by decide)
    · exact absurd h (by decide)
theorem b_ref {σ : SX} {p : Int32} (h : 0 ≤ fX_refused σ p) : vp_in p 4 := by
  unfold fX_refused at h
  split at h
  · exact absurd h (by decide)
  · split at h
    · exact b_lt (N := 4) (by assumption) (by assumption) (by decide)
    · exact absurd h (by decide)
theorem b_refn {σ : SX} {p : Int32} (h : ¬ fX_refused σ p < 0) : vp_in p 4 := b_ref (Int32.not_lt.mp h)
theorem b_bad {p : Int32} (h : fX_badFile p = 0) : vp_in p 8 := by
  unfold fX_badFile at h
  split at h
  · exact absurd h (by decide)
  · split at h
    · exact b_lt (N := 8) (by assumption) (by assumption) (by decide)
    · exact absurd h (by decide)
theorem b_hold0 {σ : SX} {f : Int32} (hU : okU σ) : ∀ (n : Nat) (x y : Int32), (x < 0 ∨ vp_in x 10) → lX_holder_10 σ f n x y < 0 ∨ vp_in (lX_holder_10 σ f n x y) 10 := by
  intro n
  induction n with
  | zero => intro x y _; exact Or.inl (by show (-1 : Int32) < 0; decide)
  | succ n ih =>
    intro x y hx
    unfold lX_holder_10
    split
    · exact Or.inl (by decide)
    · rename_i h0
      split
      · exact hx
      · split
        · exact Or.inl (by decide)
        · split
          · exact Or.inl (by decide)
          · exact ih _ _ (hU _ (b_cl (b_or hx h0)))
theorem b_holdn {σ : SX} {t f : Int32} (hU : okU σ) (ht : t < 0 ∨ vp_in t 10) (h : ¬ fX_holder σ t f < 0) : vp_in (fX_holder σ t f) 10 := b_or (b_hold0 hU 10 t 0 ht) h
theorem b_hold {σ : SX} {t f : Int32} (hU : okU σ) (ht : t < 0 ∨ vp_in t 10) (h : 0 ≤ fX_holder σ t f) : vp_in (fX_holder σ t f) 10 := b_holdn hU ht (lp_nlt h)
theorem b_L {σ : SX} (hO : okX σ) (h : ¬ xL σ = 6) : vp_in (xL σ) 10 := vp_in_iff.mpr ⟨by have := hO.2; omega, by have := hO.2; omega⟩
theorem b_L1 {σ : SX} (hO : okX σ) : vp_in (xL σ - 1) 10 := by
  have h := hO.2
  obtain ⟨j, hj, e⟩ := vp_in_of (n := 7) (vp_in_iff.mpr ⟨by omega, by omega⟩ : vp_in (xL σ) 7) (by decide)
  rw [e, nI_toInt (by omega)] at h
  rw [e]
  obtain ⟨i, rfl⟩ : ∃ i, j = i + 1 := ⟨j - 1, by omega⟩
  rw [nI_pred]
  exact vp_in_nI (by omega) (by decide)
theorem b_nl {σ : SX} (hO : okX σ) : xL σ = nI (xL σ).toNatClampNeg ∧ 1 ≤ (xL σ).toNatClampNeg ∧ (xL σ).toNatClampNeg ≤ 10 := by
  have h := hO.2
  obtain ⟨j, hj, e⟩ := vp_in_of (n := 7) (vp_in_iff.mpr ⟨by omega, by omega⟩ : vp_in (xL σ) 7) (by decide)
  rw [e, nI_toInt (by omega)] at h
  rw [e, nI_clamp (by omega)]
  exact ⟨rfl, by omega, by omega⟩
theorem b_nly {τ : SY} (hO : okY τ) : yL τ = nI (yL τ).toNatClampNeg ∧ 1 ≤ (yL τ).toNatClampNeg ∧ (yL τ).toNatClampNeg ≤ 6 := by
  have h := hO
  unfold okY at h
  obtain ⟨j, hj, e⟩ := vp_in_of (n := 7) (vp_in_iff.mpr ⟨by omega, by omega⟩ : vp_in (yL τ) 7) (by decide)
  rw [e, nI_toInt (by omega)] at h
  rw [e, nI_clamp (by omega)]
  exact ⟨rfl, by omega, by omega⟩
theorem b_lay {σ : SX} {p : Int32} (hO : okX σ) (h0 : ¬ p < 0) (h1 : p < xL σ) : vp_in p 10 := by
  rw [Int32.lt_iff_toInt_lt] at h0 h1
  rw [ti0] at h0
  have := hO.2
  exact vp_in_iff.mpr ⟨by omega, by omega⟩
theorem b_base {σ : SX} {p : Int32} (hO : okX σ) (h0 : ¬ p < 1) (h1 : p < xL σ) : vp_in p 10 := by
  rw [Int32.lt_iff_toInt_lt] at h0 h1
  rw [show (1 : Int32).toInt = 1 by decide] at h0
  have := hO.2
  exact vp_in_iff.mpr ⟨by omega, by omega⟩
theorem b_test3 {τ : SY} {p : Int32} (h : fY_test τ p = -3) : vp_in p 4 := by
  unfold fY_test at h
  split at h
  · exact absurd h (by decide)
  · split at h
    · exact b_le3 (by assumption) (by assumption)
    · exact absurd h (by decide)
theorem b_test {τ : SY} {p : Int32} (h : fY_test τ p = 0) : vp_in p 4 := by
  unfold fY_test at h
  split at h
  · exact absurd h (by decide)
  · split at h
    · exact b_le3 (by assumption) (by assumption)
    · exact absurd h (by decide)
theorem b_td {τ : SY} {p q : Int32} (h : fY_testDirectory τ p q = 0) : vp_in p 4 ∧ vp_in q 2 := by
  unfold fY_testDirectory at h
  split at h
  · rename_i ht
    refine ⟨b_test ht, ?_⟩
    split at h
    · exact absurd h (by decide)
    · split at h
      · exact b_le1 (by assumption) (by assumption)
      · exact absurd h (by decide)
  · rename_i ht
    exact absurd h ht
theorem b_tf {τ : SY} {p q : Int32} (h : fY_testFile τ p q = 0) : vp_in p 4 ∧ vp_in q 8 := by
  unfold fY_testFile at h
  split at h
  · rename_i ht
    refine ⟨b_test ht, ?_⟩
    split at h
    · exact absurd h (by decide)
    · split at h
      · exact b_le7 (by assumption) (by assumption)
      · exact absurd h (by decide)
  · rename_i ht
    exact absurd h ht
theorem b_isl {τ : SY} {p : Int32} (hO : okY τ) (h : ¬ fY_isLayer τ p = 0) : vp_in p 6 := by
  unfold fY_isLayer at h
  split at h
  · exact absurd rfl h
  · rename_i h0
    split at h
    · exact absurd rfl h
    · rename_i h1
      rw [Int32.lt_iff_toInt_lt, ti0] at h0
      rw [Int32.le_iff_toInt_le] at h1
      have := hO.2.1
      exact vp_in_iff.mpr ⟨by omega, by omega⟩
theorem b_yL {τ : SY} (hO : okY τ) (h : ¬ yL τ = 6) : vp_in (yL τ) 6 := by
  obtain ⟨h1, h2, -⟩ := hO
  have : ¬ (yL τ).toInt = 6 := fun q => h (Int32.toInt_inj.mp (by rw [q]; decide))
  exact vp_in_iff.mpr ⟨by omega, by omega⟩
theorem yL_copy0 {p1 p2 : Int32} : ∀ (n : Nat) (τ : SY) (x : Int32), yL (lY_copy_26 p1 p2 n τ x) = yL τ := by
  intro n
  induction n with
  | zero => intro τ x; rfl
  | succ n ih => intro τ x; exact ih _ _
theorem yL_copy {τ : SY} {p1 p2 : Int32} : yL (fY_copy τ p1 p2) = yL τ := yL_copy0 8 _ 0
theorem b_4d {p : Int32} {dd : Nat} (h : p = nI dd) : 4 * p = nI (4 * dd) := by rw [h]; exact pk_mul 4 dd
theorem b_4d4 {p : Int32} {dd : Nat} (h : p = nI dd) : 4 * p + 4 = nI (4 * dd + 4) := by rw [b_4d h]; exact nI_add (4 * dd) 4
theorem vin_mk {l0 : Int32} {un ow hi od hd ct iu : Nat → Int32} {n : Nat} (h : vp_in l0 n) : vp_in (xL (l0, un, ow, hi, od, hd, ct, iu)) n := h
theorem okU_mk {σ : SX} {l0 : Int32} {ow hi od hd ct iu : Nat → Int32} (h : okU σ) : okU (l0, xUn σ, ow, hi, od, hd, ct, iu) := h
end
section
set_option maxRecDepth 100000
-- method refused
set_option maxHeartbeats 4000000 in
theorem mX_refused (l : Launch) (G : va_G) (ad : Nat → Nat) (d : Nat → ClassId) (σ : SX) (p1 : Int32)  : MetXi l yX0_refused cX0_refused 2 .int rmZ0 [.int p1] G ad d σ ((fX_refused σ p1), σ) := by
  refine metX_i (by decide +kernel) rfl (Nat.le_of_ble_eq_true rfl) (fun p e s m below meth c A ls C hH hl => ?_)
  have hl : lv_has ls 2 [(0, .ref (ad 0)), (1, .int p1)] := hl
  have hR : (fX_refused σ p1) = (fX_refused σ p1) := rfl
  generalize s.heap = H at hH ⊢
  generalize ([] : List Loc) = locs at hH ⊢
  refine lv_iload_n C.1.1 C.1.2.1 dX0_refused_0 rfl (lv_at hl 1 rfl) ?_
  refine lv_if_lt (tgt := 9) C.1.1 C.1.2.1 dX0_refused_1 (by decide) (fun c_1 => ?_) (fun c_1 => ?_)
  · refine lv_iconst (v := (-1)) C.1.1 C.1.2.1 dX0_refused_9 (by decide) ?_
    exact retX_i C hH dX0_refused_10 (congrArg (fun z => (z, σ)) (Eq.trans hR (tp c_1 rfl))).symm
  · refine lv_iload_n C.1.1 C.1.2.1 dX0_refused_4 rfl (lv_at hl 1 rfl) ?_
    refine lv_iconst (v := 4) C.1.1 C.1.2.1 dX0_refused_5 (by decide) ?_
    refine lv_icmp_lt (tgt := 11) C.1.1 C.1.2.1 dX0_refused_6 (by decide) (fun c_6 => ?_) (fun c_6 => ?_)
    · refine lv_aload_n C.1.1 C.1.2.1 dX0_refused_11 rfl (lv_at hl 0 rfl) ?_
      refine getX C hH 7 (by decide) q40 rfl (v := .ref (ad 7)) rfl dX0_refused_12 ?_
      refine lv_iload_n C.1.1 C.1.2.1 dX0_refused_15 rfl (lv_at hl 1 rfl) ?_
      refine zldX C hH 7 6 (f := (xIu σ)) rfl rfl dX0_refused_16 (b_lt (N := 4) c_1 c_6 (by decide)) ?_
      refine lv_if_eq (tgt := 24) C.1.1 C.1.2.1 dX0_refused_17 (by decide) (fun c_17 => ?_) (fun c_17 => ?_)
      · refine lv_bipush (v := (-3)) C.1.1 C.1.2.1 dX0_refused_24 (by decide) ?_
        exact retX_i C hH dX0_refused_26 (congrArg (fun z => (z, σ)) (Eq.trans hR (tn c_1 (tp c_6 (tp c_17 rfl))))).symm
      · refine lv_iconst (v := 0) C.1.1 C.1.2.1 dX0_refused_20 (by decide) ?_
        refine lv_goto (tgt := 26) C.1.1 C.1.2.1 dX0_refused_21 (by decide) ?_
        exact retX_i C hH dX0_refused_26 (congrArg (fun z => (z, σ)) (Eq.trans hR (tn c_1 (tp c_6 (tn c_17 rfl))))).symm
    · refine lv_iconst (v := (-1)) C.1.1 C.1.2.1 dX0_refused_9 (by decide) ?_
      exact retX_i C hH dX0_refused_10 (congrArg (fun z => (z, σ)) (Eq.trans hR (tn c_1 (tn c_6 rfl)))).symm
theorem gwX_refused : GoodIn lw_all (wsV RX0 40 RX0 yX0_refused (ws_ yX0_refused cX0_refused 2 (some .int))) := lw_V q64 q66 qs0 q23 q67
theorem hdX_refused : yX0_refused.cls = RX0 ∧ yX0_refused.cls ≠ "java/lang/invoke/MethodHandle" ∧ yX0_refused.cls ≠ "java/lang/invoke/VarHandle" ∧ (parseMethodDescriptor yX0_refused.desc).map (fun d => d.parameters.length) = some 1 := by decide +kernel
-- method top
set_option maxHeartbeats 4000000 in
theorem mX_top (l : Launch) (G : va_G) (ad : Nat → Nat) (d : Nat → ClassId) (σ : SX) (p1 : Int32)  : MetXi l yX0_top cX0_top 2 .int rmZ0 [.int p1] G ad d σ ((fX_top p1), σ) := by
  refine metX_i (by decide +kernel) rfl (Nat.le_of_ble_eq_true rfl) (fun p e s m below meth c A ls C hH hl => ?_)
  have hl : lv_has ls 2 [(0, .ref (ad 0)), (1, .int p1)] := hl
  have hR : (fX_top p1) = (fX_top p1) := rfl
  generalize s.heap = H at hH ⊢
  generalize ([] : List Loc) = locs at hH ⊢
  refine lv_bipush (v := 6) C.1.1 C.1.2.1 dX0_top_0 (by decide) ?_
  refine lv_iload_n C.1.1 C.1.2.1 dX0_top_2 rfl (lv_at hl 1 rfl) ?_
  refine lv_iadd C.1.1 C.1.2.1 dX0_top_3 ?_
  exact retX_i C hH dX0_top_4 (congrArg (fun z => (z, σ)) (Eq.trans hR rfl)).symm
theorem gwX_top : GoodIn lw_all (wsV RX0 44 RX0 yX0_top (ws_ yX0_top cX0_top 2 (some .int))) := lw_V q68 q70 qs1 q23 q71
theorem hdX_top : yX0_top.cls = RX0 ∧ yX0_top.cls ≠ "java/lang/invoke/MethodHandle" ∧ yX0_top.cls ≠ "java/lang/invoke/VarHandle" ∧ (parseMethodDescriptor yX0_top.desc).map (fun d => d.parameters.length) = some 1 := by decide +kernel
-- method badFile
set_option maxHeartbeats 4000000 in
theorem mX_badFile (l : Launch) (G : va_G) (ad : Nat → Nat) (d : Nat → ClassId) (σ : SX) (p1 : Int32)  : MetXi l yX0_badFile cX0_badFile 2 .boolean rmZ0 [.int p1] G ad d σ ((fX_badFile p1), σ) := by
  refine metX_i (by decide +kernel) rfl (Nat.le_of_ble_eq_true rfl) (fun p e s m below meth c A ls C hH hl => ?_)
  have hl : lv_has ls 2 [(0, .ref (ad 0)), (1, .int p1)] := hl
  have hR : (fX_badFile p1) = (fX_badFile p1) := rfl
  generalize s.heap = H at hH ⊢
  generalize ([] : List Loc) = locs at hH ⊢
  refine lv_iload_n C.1.1 C.1.2.1 dX0_badFile_0 rfl (lv_at hl 1 rfl) ?_
  refine lv_if_lt (tgt := 10) C.1.1 C.1.2.1 dX0_badFile_1 (by decide) (fun c_1 => ?_) (fun c_1 => ?_)
  · refine lv_iconst (v := 1) C.1.1 C.1.2.1 dX0_badFile_10 (by decide) ?_
    refine lv_goto (tgt := 15) C.1.1 C.1.2.1 dX0_badFile_11 (by decide) ?_
    exact retX_z C hH dX0_badFile_15 rfl (congrArg (fun z => (z, σ)) (Eq.trans hR (tp c_1 rfl))).symm
  · refine lv_iload_n C.1.1 C.1.2.1 dX0_badFile_4 rfl (lv_at hl 1 rfl) ?_
    refine lv_bipush (v := 8) C.1.1 C.1.2.1 dX0_badFile_5 (by decide) ?_
    refine lv_icmp_lt (tgt := 14) C.1.1 C.1.2.1 dX0_badFile_7 (by decide) (fun c_7 => ?_) (fun c_7 => ?_)
    · refine lv_iconst (v := 0) C.1.1 C.1.2.1 dX0_badFile_14 (by decide) ?_
      exact retX_z C hH dX0_badFile_15 rfl (congrArg (fun z => (z, σ)) (Eq.trans hR (tn c_1 (tp c_7 rfl)))).symm
    · refine lv_iconst (v := 1) C.1.1 C.1.2.1 dX0_badFile_10 (by decide) ?_
      refine lv_goto (tgt := 15) C.1.1 C.1.2.1 dX0_badFile_11 (by decide) ?_
      exact retX_z C hH dX0_badFile_15 rfl (congrArg (fun z => (z, σ)) (Eq.trans hR (tn c_1 (tn c_7 rfl)))).symm
theorem gwX_badFile : GoodIn lw_all (wsV RX0 64 RX0 yX0_badFile (ws_ yX0_badFile cX0_badFile 2 (some .boolean))) := lw_V q112 q114 qs8 q23 q115
theorem hdX_badFile : yX0_badFile.cls = RX0 ∧ yX0_badFile.cls ≠ "java/lang/invoke/MethodHandle" ∧ yX0_badFile.cls ≠ "java/lang/invoke/VarHandle" ∧ (parseMethodDescriptor yX0_badFile.desc).map (fun d => d.parameters.length) = some 1 := by decide +kernel
-- method clean
set_option maxHeartbeats 4000000 in
theorem mX_clean (l : Launch) (G : va_G) (ad : Nat → Nat) (d : Nat → ClassId) (σ : SX) (p1 : Int32) (h1 : vp_in p1 10) : MetXv l yX0_clean cX0_clean 2  rmZ0 [.int p1] G ad d σ (fX_clean σ p1) := by
  refine metX_v (by decide +kernel) rfl (Nat.le_of_ble_eq_true rfl) (fun p e s m below meth c A ls C hH hl => ?_)
  have hl : lv_has ls 2 [(0, .ref (ad 0)), (1, .int p1)] := hl
  have hR : (fX_clean σ p1) = (fX_clean σ p1) := rfl
  generalize s.heap = H at hH ⊢
  generalize ([] : List Loc) = locs at hH ⊢
  refine lv_aload_n C.1.1 C.1.2.1 dX0_clean_0 rfl (lv_at hl 0 rfl) ?_
  refine getX C hH 2 (by decide) q35 rfl (v := .ref (ad 2)) rfl dX0_clean_1 ?_
  refine lv_iload_n C.1.1 C.1.2.1 dX0_clean_4 rfl (lv_at hl 1 rfl) ?_
  refine lv_iconst (v := 0) C.1.1 C.1.2.1 dX0_clean_5 (by decide) ?_
  have hH := AtX.eta hH
  refine stX_2 C hH dX0_clean_6 h1 (fun H locs hH => ?_)
  refine lv_aload_n C.1.1 C.1.2.1 dX0_clean_7 rfl (lv_at hl 0 rfl) ?_
  refine getX C hH 3 (by decide) q36 rfl (v := .ref (ad 3)) rfl dX0_clean_8 ?_
  refine lv_iload_n C.1.1 C.1.2.1 dX0_clean_11 rfl (lv_at hl 1 rfl) ?_
  refine lv_iconst (v := 0) C.1.1 C.1.2.1 dX0_clean_12 (by decide) ?_
  refine stX_3 C hH dX0_clean_13 h1 (fun H locs hH => ?_)
  refine lv_aload_n C.1.1 C.1.2.1 dX0_clean_14 rfl (lv_at hl 0 rfl) ?_
  refine getX C hH 4 (by decide) q37 rfl (v := .ref (ad 4)) rfl dX0_clean_15 ?_
  refine lv_iload_n C.1.1 C.1.2.1 dX0_clean_18 rfl (lv_at hl 1 rfl) ?_
  refine lv_iconst (v := 0) C.1.1 C.1.2.1 dX0_clean_19 (by decide) ?_
  refine stX_4 C hH dX0_clean_20 h1 (fun H locs hH => ?_)
  refine lv_aload_n C.1.1 C.1.2.1 dX0_clean_21 rfl (lv_at hl 0 rfl) ?_
  refine getX C hH 5 (by decide) q38 rfl (v := .ref (ad 5)) rfl dX0_clean_22 ?_
  refine lv_iload_n C.1.1 C.1.2.1 dX0_clean_25 rfl (lv_at hl 1 rfl) ?_
  refine lv_iconst (v := 0) C.1.1 C.1.2.1 dX0_clean_26 (by decide) ?_
  refine stX_5 C hH dX0_clean_27 h1 (fun H locs hH => ?_)
  exact retX_v C hH dX0_clean_28 (Eq.trans hR rfl).symm
theorem gwX_clean : GoodIn lw_all (wsV RX0 47 RX0 yX0_clean (ws_ yX0_clean cX0_clean 2 (none))) := lw_V q72 q74 qs2 q23 q75
theorem hdX_clean : yX0_clean.cls = RX0 ∧ yX0_clean.cls ≠ "java/lang/invoke/MethodHandle" ∧ yX0_clean.cls ≠ "java/lang/invoke/VarHandle" ∧ (parseMethodDescriptor yX0_clean.desc).map (fun d => d.parameters.length) = some 1 := by decide +kernel
-- method directoryThere
set_option maxHeartbeats 4000000 in
theorem bX_directoryThere_5 {p : Program} {l : Launch} {e : Env} {s : State} {m : MethodId} {args : Array Value} {below : List Frame} {meth : Method} {c : Code} {G : va_G} {ad : Nat → Nat} {d : Nat → ClassId} {A : Nat → Prop} {σ : SX} {p2 : Int32} (C : CX p s m args meth c cX0_directoryThere 5 RX0 (some .boolean)) (hU : okU σ) : ∀ (n : Nat) (k : Nat) (x3 : Int32) (x4 : Int32) (rv : Int32) (H : Heap) (locs : List Loc) (ls : Array Slot), k + n = 10 → x4 = nI k → x3 < 0 ∨ vp_in x3 10 → rv = lX_directoryThere_5 σ p2 n x3 x4 → AtX G ad d A s σ H locs → lv_has ls 5 [(0, .ref (ad 0)), (2, .int p2), (3, .int x3), (4, .int x4)] → W p l e rmZ0 s m args below meth c H locs 0 0 (QXi below G ad d A args s (rv, σ)) (F0 m 5 ls []) := by
  intro n
  induction n with
  | zero =>
    intro k x3 x4 rv H locs ls hk hx hs hR hH hl
    have hz := lp_z (N := 10) hx hk (by decide)
    refine lv_iload C.1.1 C.1.2.1 dX0_directoryThere_5 (lv_at hl 3 rfl) ?_
    refine lv_bipush (v := 10) C.1.1 C.1.2.1 dX0_directoryThere_7 (by decide) ?_
    refine lv_icmp_ge (tgt := 61) C.1.1 C.1.2.1 dX0_directoryThere_9 (by decide) (fun _ => ?_) (fun c => absurd hz c)
    refine lv_iconst (v := 0) C.1.1 C.1.2.1 dX0_directoryThere_61 (by decide) ?_
    exact retX_z C hH dX0_directoryThere_62 rfl (congrArg (fun z => (z, σ)) (Eq.trans hR rfl)).symm
  | succ n ih =>
    intro k x3 x4 rv H locs ls hk hx hs hR hH hl
    have hz := lp_s (N := 10) hx hk (by decide)
    refine lv_iload C.1.1 C.1.2.1 dX0_directoryThere_5 (lv_at hl 3 rfl) ?_
    refine lv_bipush (v := 10) C.1.1 C.1.2.1 dX0_directoryThere_7 (by decide) ?_
    refine lv_icmp_ge (tgt := 61) C.1.1 C.1.2.1 dX0_directoryThere_9 (by decide) (fun c => absurd c hz) (fun _ => ?_)
    refine lv_iload_n C.1.1 C.1.2.1 dX0_directoryThere_12 rfl (lv_at hl 2 rfl) ?_
    refine lv_if_lt (tgt := 61) C.1.1 C.1.2.1 dX0_directoryThere_13 (by decide) (fun c_13 => ?_) (fun c_13 => ?_)
    · refine lv_iconst (v := 0) C.1.1 C.1.2.1 dX0_directoryThere_61 (by decide) ?_
      exact retX_z C hH dX0_directoryThere_62 rfl (congrArg (fun z => (z, σ)) (Eq.trans hR (tp c_13 rfl))).symm
    · refine lv_aload_n C.1.1 C.1.2.1 dX0_directoryThere_16 rfl (lv_at hl 0 rfl) ?_
      refine getX C hH 4 (by decide) q37 rfl (v := .ref (ad 4)) rfl dX0_directoryThere_17 ?_
      refine lv_iload_n C.1.1 C.1.2.1 dX0_directoryThere_20 rfl (lv_at hl 2 rfl) ?_
      refine ildX C hH 4 3 (f := (xOd σ)) rfl rfl dX0_directoryThere_21 (b_or hs c_13) ?_
      refine lv_iload_n C.1.1 C.1.2.1 dX0_directoryThere_22 rfl (lv_at hl 1 rfl) ?_
      refine lv_ishr C.1.1 C.1.2.1 dX0_directoryThere_23 ?_
      refine lv_iconst (v := 1) C.1.1 C.1.2.1 dX0_directoryThere_24 (by decide) ?_
      refine lv_iand C.1.1 C.1.2.1 dX0_directoryThere_25 ?_
      refine lv_iconst (v := 1) C.1.1 C.1.2.1 dX0_directoryThere_26 (by decide) ?_
      refine lv_icmp_ne (tgt := 32) C.1.1 C.1.2.1 dX0_directoryThere_27 (by decide) (fun c_27 => ?_) (fun c_27 => ?_)
      · refine lv_aload_n C.1.1 C.1.2.1 dX0_directoryThere_32 rfl (lv_at hl 0 rfl) ?_
        refine getX C hH 5 (by decide) q38 rfl (v := .ref (ad 5)) rfl dX0_directoryThere_33 ?_
        refine lv_iload_n C.1.1 C.1.2.1 dX0_directoryThere_36 rfl (lv_at hl 2 rfl) ?_
        refine ildX C hH 5 4 (f := (xHd σ)) rfl rfl dX0_directoryThere_37 (b_or hs c_13) ?_
        refine lv_iload_n C.1.1 C.1.2.1 dX0_directoryThere_38 rfl (lv_at hl 1 rfl) ?_
        refine lv_ishr C.1.1 C.1.2.1 dX0_directoryThere_39 ?_
        refine lv_iconst (v := 1) C.1.1 C.1.2.1 dX0_directoryThere_40 (by decide) ?_
        refine lv_iand C.1.1 C.1.2.1 dX0_directoryThere_41 ?_
        refine lv_iconst (v := 1) C.1.1 C.1.2.1 dX0_directoryThere_42 (by decide) ?_
        refine lv_icmp_ne (tgt := 48) C.1.1 C.1.2.1 dX0_directoryThere_43 (by decide) (fun c_43 => ?_) (fun c_43 => ?_)
        · refine lv_aload_n C.1.1 C.1.2.1 dX0_directoryThere_48 rfl (lv_at hl 0 rfl) ?_
          refine getX C hH 1 (by decide) q34 rfl (v := .ref (ad 1)) rfl dX0_directoryThere_49 ?_
          refine lv_iload_n C.1.1 C.1.2.1 dX0_directoryThere_52 rfl (lv_at hl 2 rfl) ?_
          refine ildX C hH 1 0 (f := (xUn σ)) rfl rfl dX0_directoryThere_53 (b_or hs c_13) ?_
          refine lv_istore_n (lv' := [(3, .int ((xUn σ) x3.toNatClampNeg)), (0, .ref (ad 0)), (2, .int p2), (4, .int x4)]) C.1.1 C.1.2.1 dX0_directoryThere_54 rfl hl (by decide) rfl (fun ls hl => ?_)
          refine lv_iinc (v := (x4 + 1)) (lv' := [(4, .int (x4 + 1)), (3, .int ((xUn σ) x3.toNatClampNeg)), (0, .ref (ad 0)), (2, .int p2)]) C.1.1 C.1.2.1 dX0_directoryThere_55 hl (k := 3) rfl rfl (by decide) rfl (fun ls hl => ?_)
          refine lv_goto (tgt := 5) C.1.1 C.1.2.1 dX0_directoryThere_58 (by decide) ?_
          exact ih (k + 1) ((xUn σ) x3.toNatClampNeg) (x4 + 1) _ _ _ _ (by omega) (lp_x hx) (hU _ (b_cl (b_or hs c_13))) (Eq.trans hR (tn c_13 (tn c_27 (tn c_43 rfl)))) hH (lv_sub hl [2, 3, 1, 0] rfl)
        · refine lv_iconst (v := 0) C.1.1 C.1.2.1 dX0_directoryThere_46 (by decide) ?_
          exact retX_z C hH dX0_directoryThere_47 rfl (congrArg (fun z => (z, σ)) (Eq.trans hR (tn c_13 (tn c_27 (tp c_43 rfl))))).symm
      · refine lv_iconst (v := 1) C.1.1 C.1.2.1 dX0_directoryThere_30 (by decide) ?_
        exact retX_z C hH dX0_directoryThere_31 rfl (congrArg (fun z => (z, σ)) (Eq.trans hR (tn c_13 (tp c_27 rfl)))).symm
set_option maxHeartbeats 4000000 in
theorem mX_directoryThere (l : Launch) (G : va_G) (ad : Nat → Nat) (d : Nat → ClassId) (σ : SX) (p1 : Int32) (p2 : Int32) (hU : okU σ) (h1 : p1 < 0 ∨ vp_in p1 10) : MetXi l yX0_directoryThere cX0_directoryThere 5 .boolean rmZ0 [.int p1, .int p2] G ad d σ ((fX_directoryThere σ p1 p2), σ) := by
  refine metX_i (by decide +kernel) rfl (Nat.le_of_ble_eq_true rfl) (fun p e s m below meth c A ls C hH hl => ?_)
  have hl : lv_has ls 5 [(0, .ref (ad 0)), (1, .int p1), (2, .int p2)] := hl
  have hR : (fX_directoryThere σ p1 p2) = (fX_directoryThere σ p1 p2) := rfl
  generalize s.heap = H at hH ⊢
  generalize ([] : List Loc) = locs at hH ⊢
  refine lv_iload_n C.1.1 C.1.2.1 dX0_directoryThere_0 rfl (lv_at hl 1 rfl) ?_
  refine lv_istore_n (lv' := [(3, .int p1), (0, .ref (ad 0)), (1, .int p1), (2, .int p2)]) C.1.1 C.1.2.1 dX0_directoryThere_1 rfl hl (by decide) rfl (fun ls hl => ?_)
  refine lv_iconst (v := 0) C.1.1 C.1.2.1 dX0_directoryThere_2 (by decide) ?_
  refine lv_istore (lv' := [(4, .int 0), (3, .int p1), (0, .ref (ad 0)), (1, .int p1), (2, .int p2)]) C.1.1 C.1.2.1 dX0_directoryThere_3 hl (by decide) rfl (fun ls hl => ?_)
  exact bX_directoryThere_5 C hU 10 0 p1 0 _ _ _ _ rfl nI_0.symm h1 (Eq.trans hR rfl) hH (lv_sub hl [2, 4, 1, 0] rfl)
theorem gwX_directoryThere : GoodIn lw_all (wsV RX0 51 RX0 yX0_directoryThere (ws_ yX0_directoryThere cX0_directoryThere 5 (some .boolean))) := lw_V q84 q86 qs3 q23 q87
theorem hdX_directoryThere : yX0_directoryThere.cls = RX0 ∧ yX0_directoryThere.cls ≠ "java/lang/invoke/MethodHandle" ∧ yX0_directoryThere.cls ≠ "java/lang/invoke/VarHandle" ∧ (parseMethodDescriptor yX0_directoryThere.desc).map (fun d => d.parameters.length) = some 2 := by decide +kernel
-- method holder
set_option maxHeartbeats 4000000 in
theorem bX_holder_10 {p : Program} {l : Launch} {e : Env} {s : State} {m : MethodId} {args : Array Value} {below : List Frame} {meth : Method} {c : Code} {G : va_G} {ad : Nat → Nat} {d : Nat → ClassId} {A : Nat → Prop} {σ : SX} {p2 : Int32} (C : CX p s m args meth c cX0_holder 6 RX0 (some .int)) (hU : okU σ) : ∀ (n : Nat) (k : Nat) (x4 : Int32) (x5 : Int32) (rv : Int32) (H : Heap) (locs : List Loc) (ls : Array Slot), k + n = 10 → x5 = nI k → x4 < 0 ∨ vp_in x4 10 → rv = lX_holder_10 σ p2 n x4 x5 → AtX G ad d A s σ H locs → lv_has ls 6 [(0, .ref (ad 0)), (2, .int p2), (3, .int (p2 >>> (2 &&& 31))), (4, .int x4), (5, .int x5)] → W p l e rmZ0 s m args below meth c H locs 0 0 (QXi below G ad d A args s (rv, σ)) (F0 m 10 ls []) := by
  intro n
  induction n with
  | zero =>
    intro k x4 x5 rv H locs ls hk hx hs hR hH hl
    have hz := lp_z (N := 10) hx hk (by decide)
    refine lv_iload C.1.1 C.1.2.1 dX0_holder_10 (lv_at hl 4 rfl) ?_
    refine lv_bipush (v := 10) C.1.1 C.1.2.1 dX0_holder_12 (by decide) ?_
    refine lv_icmp_ge (tgt := 87) C.1.1 C.1.2.1 dX0_holder_14 (by decide) (fun _ => ?_) (fun c => absurd hz c)
    refine lv_iconst (v := (-1)) C.1.1 C.1.2.1 dX0_holder_87 (by decide) ?_
    exact retX_i C hH dX0_holder_88 (congrArg (fun z => (z, σ)) (Eq.trans hR rfl)).symm
  | succ n ih =>
    intro k x4 x5 rv H locs ls hk hx hs hR hH hl
    have hz := lp_s (N := 10) hx hk (by decide)
    refine lv_iload C.1.1 C.1.2.1 dX0_holder_10 (lv_at hl 4 rfl) ?_
    refine lv_bipush (v := 10) C.1.1 C.1.2.1 dX0_holder_12 (by decide) ?_
    refine lv_icmp_ge (tgt := 87) C.1.1 C.1.2.1 dX0_holder_14 (by decide) (fun c => absurd c hz) (fun _ => ?_)
    refine lv_iload C.1.1 C.1.2.1 dX0_holder_17 (lv_at hl 3 rfl) ?_
    refine lv_if_lt (tgt := 87) C.1.1 C.1.2.1 dX0_holder_19 (by decide) (fun c_19 => ?_) (fun c_19 => ?_)
    · refine lv_iconst (v := (-1)) C.1.1 C.1.2.1 dX0_holder_87 (by decide) ?_
      exact retX_i C hH dX0_holder_88 (congrArg (fun z => (z, σ)) (Eq.trans hR (tp c_19 rfl))).symm
    · refine lv_aload_n C.1.1 C.1.2.1 dX0_holder_22 rfl (lv_at hl 0 rfl) ?_
      refine getX C hH 2 (by decide) q35 rfl (v := .ref (ad 2)) rfl dX0_holder_23 ?_
      refine lv_iload C.1.1 C.1.2.1 dX0_holder_26 (lv_at hl 3 rfl) ?_
      refine ildX C hH 2 1 (f := (xOw σ)) rfl rfl dX0_holder_28 (b_or hs c_19) ?_
      refine lv_iload_n C.1.1 C.1.2.1 dX0_holder_29 rfl (lv_at hl 1 rfl) ?_
      refine lv_ishr C.1.1 C.1.2.1 dX0_holder_30 ?_
      refine lv_iconst (v := 1) C.1.1 C.1.2.1 dX0_holder_31 (by decide) ?_
      refine lv_iand C.1.1 C.1.2.1 dX0_holder_32 ?_
      refine lv_iconst (v := 1) C.1.1 C.1.2.1 dX0_holder_33 (by decide) ?_
      refine lv_icmp_ne (tgt := 40) C.1.1 C.1.2.1 dX0_holder_34 (by decide) (fun c_34 => ?_) (fun c_34 => ?_)
      · refine lv_aload_n C.1.1 C.1.2.1 dX0_holder_40 rfl (lv_at hl 0 rfl) ?_
        refine getX C hH 3 (by decide) q36 rfl (v := .ref (ad 3)) rfl dX0_holder_41 ?_
        refine lv_iload C.1.1 C.1.2.1 dX0_holder_44 (lv_at hl 3 rfl) ?_
        refine ildX C hH 3 2 (f := (xHi σ)) rfl rfl dX0_holder_46 (b_or hs c_19) ?_
        refine lv_iload_n C.1.1 C.1.2.1 dX0_holder_47 rfl (lv_at hl 1 rfl) ?_
        refine lv_ishr C.1.1 C.1.2.1 dX0_holder_48 ?_
        refine lv_iconst (v := 1) C.1.1 C.1.2.1 dX0_holder_49 (by decide) ?_
        refine lv_iand C.1.1 C.1.2.1 dX0_holder_50 ?_
        refine lv_iconst (v := 1) C.1.1 C.1.2.1 dX0_holder_51 (by decide) ?_
        refine lv_icmp_eq (tgt := 70) C.1.1 C.1.2.1 dX0_holder_52 (by decide) (fun c_52 => ?_) (fun c_52 => ?_)
        · refine lv_iconst (v := (-1)) C.1.1 C.1.2.1 dX0_holder_70 (by decide) ?_
          exact retX_i C hH dX0_holder_71 (congrArg (fun z => (z, σ)) (Eq.trans hR (tn c_19 (tn c_34 (tp c_52 rfl))))).symm
        · refine lv_aload_n C.1.1 C.1.2.1 dX0_holder_55 rfl (lv_at hl 0 rfl) ?_
          refine getX C hH 5 (by decide) q38 rfl (v := .ref (ad 5)) rfl dX0_holder_56 ?_
          refine lv_iload C.1.1 C.1.2.1 dX0_holder_59 (lv_at hl 3 rfl) ?_
          refine ildX C hH 5 4 (f := (xHd σ)) rfl rfl dX0_holder_61 (b_or hs c_19) ?_
          refine lv_iload_n C.1.1 C.1.2.1 dX0_holder_62 rfl (lv_at hl 2 rfl) ?_
          refine lv_ishr C.1.1 C.1.2.1 dX0_holder_63 ?_
          refine lv_iconst (v := 1) C.1.1 C.1.2.1 dX0_holder_64 (by decide) ?_
          refine lv_iand C.1.1 C.1.2.1 dX0_holder_65 ?_
          refine lv_iconst (v := 1) C.1.1 C.1.2.1 dX0_holder_66 (by decide) ?_
          refine lv_icmp_ne (tgt := 72) C.1.1 C.1.2.1 dX0_holder_67 (by decide) (fun c_67 => ?_) (fun c_67 => ?_)
          · refine lv_aload_n C.1.1 C.1.2.1 dX0_holder_72 rfl (lv_at hl 0 rfl) ?_
            refine getX C hH 1 (by decide) q34 rfl (v := .ref (ad 1)) rfl dX0_holder_73 ?_
            refine lv_iload C.1.1 C.1.2.1 dX0_holder_76 (lv_at hl 3 rfl) ?_
            refine ildX C hH 1 0 (f := (xUn σ)) rfl rfl dX0_holder_78 (b_or hs c_19) ?_
            refine lv_istore (lv' := [(4, .int ((xUn σ) x4.toNatClampNeg)), (0, .ref (ad 0)), (2, .int p2), (3, .int (p2 >>> (2 &&& 31))), (5, .int x5)]) C.1.1 C.1.2.1 dX0_holder_79 hl (by decide) rfl (fun ls hl => ?_)
            refine lv_iinc (v := (x5 + 1)) (lv' := [(5, .int (x5 + 1)), (4, .int ((xUn σ) x4.toNatClampNeg)), (0, .ref (ad 0)), (2, .int p2), (3, .int (p2 >>> (2 &&& 31)))]) C.1.1 C.1.2.1 dX0_holder_81 hl (k := 4) rfl rfl (by decide) rfl (fun ls hl => ?_)
            refine lv_goto (tgt := 10) C.1.1 C.1.2.1 dX0_holder_84 (by decide) ?_
            exact ih (k + 1) ((xUn σ) x4.toNatClampNeg) (x5 + 1) _ _ _ _ (by omega) (lp_x hx) (hU _ (b_cl (b_or hs c_19))) (Eq.trans hR (tn c_19 (tn c_34 (tn c_52 (tn c_67 rfl))))) hH (lv_sub hl [2, 3, 4, 1, 0] rfl)
          · refine lv_iconst (v := (-1)) C.1.1 C.1.2.1 dX0_holder_70 (by decide) ?_
            exact retX_i C hH dX0_holder_71 (congrArg (fun z => (z, σ)) (Eq.trans hR (tn c_19 (tn c_34 (tn c_52 (tp c_67 rfl)))))).symm
      · refine lv_iload C.1.1 C.1.2.1 dX0_holder_37 (lv_at hl 3 rfl) ?_
        exact retX_i C hH dX0_holder_39 (congrArg (fun z => (z, σ)) (Eq.trans hR (tn c_19 (tp c_34 rfl)))).symm
set_option maxHeartbeats 4000000 in
theorem mX_holder (l : Launch) (G : va_G) (ad : Nat → Nat) (d : Nat → ClassId) (σ : SX) (p1 : Int32) (p2 : Int32) (hU : okU σ) (h1 : p1 < 0 ∨ vp_in p1 10) : MetXi l yX0_holder cX0_holder 6 .int rmZ0 [.int p1, .int p2] G ad d σ ((fX_holder σ p1 p2), σ) := by
  refine metX_i (by decide +kernel) rfl (Nat.le_of_ble_eq_true rfl) (fun p e s m below meth c A ls C hH hl => ?_)
  have hl : lv_has ls 6 [(0, .ref (ad 0)), (1, .int p1), (2, .int p2)] := hl
  have hR : (fX_holder σ p1 p2) = (fX_holder σ p1 p2) := rfl
  generalize s.heap = H at hH ⊢
  generalize ([] : List Loc) = locs at hH ⊢
  refine lv_iload_n C.1.1 C.1.2.1 dX0_holder_0 rfl (lv_at hl 2 rfl) ?_
  refine lv_iconst (v := 2) C.1.1 C.1.2.1 dX0_holder_1 (by decide) ?_
  refine lv_ishr C.1.1 C.1.2.1 dX0_holder_2 ?_
  refine lv_istore_n (lv' := [(3, .int (p2 >>> (2 &&& 31))), (0, .ref (ad 0)), (1, .int p1), (2, .int p2)]) C.1.1 C.1.2.1 dX0_holder_3 rfl hl (by decide) rfl (fun ls hl => ?_)
  refine lv_iload_n C.1.1 C.1.2.1 dX0_holder_4 rfl (lv_at hl 2 rfl) ?_
  refine lv_istore (lv' := [(4, .int p1), (3, .int (p2 >>> (2 &&& 31))), (0, .ref (ad 0)), (1, .int p1), (2, .int p2)]) C.1.1 C.1.2.1 dX0_holder_5 hl (by decide) rfl (fun ls hl => ?_)
  refine lv_iconst (v := 0) C.1.1 C.1.2.1 dX0_holder_7 (by decide) ?_
  refine lv_istore (lv' := [(5, .int 0), (4, .int p1), (3, .int (p2 >>> (2 &&& 31))), (0, .ref (ad 0)), (1, .int p1), (2, .int p2)]) C.1.1 C.1.2.1 dX0_holder_8 hl (by decide) rfl (fun ls hl => ?_)
  exact bX_holder_10 C hU 10 0 p1 0 _ _ _ _ rfl nI_0.symm h1 (Eq.trans hR rfl) hH (lv_sub hl [3, 5, 2, 1, 0] rfl)
theorem gwX_holder : GoodIn lw_all (wsV RX0 36 RX0 yX0_holder (ws_ yX0_holder cX0_holder 6 (some .int))) := lw_V q96 q98 qs5 q23 q99
theorem hdX_holder : yX0_holder.cls = RX0 ∧ yX0_holder.cls ≠ "java/lang/invoke/MethodHandle" ∧ yX0_holder.cls ≠ "java/lang/invoke/VarHandle" ∧ (parseMethodDescriptor yX0_holder.desc).map (fun d => d.parameters.length) = some 2 := by decide +kernel
-- method filesSeen
set_option maxHeartbeats 4000000 in
theorem bX_filesSeen_4 {p : Program} {l : Launch} {e : Env} {s : State} {m : MethodId} {args : Array Value} {below : List Frame} {meth : Method} {c : Code} {G : va_G} {ad : Nat → Nat} {d : Nat → ClassId} {A : Nat → Prop} {σ : SX} {p1 : Int32} (C : CX p s m args meth c cX0_filesSeen 5 RX0 (some .int)) (hU : okU σ) (h1 : p1 < 0 ∨ vp_in p1 10) : ∀ (n : Nat) (k : Nat) (x2 : Int32) (x3 : Int32) (rv : Int32) (H : Heap) (locs : List Loc) (ls : Array Slot), k + n = 8 → x3 = nI k → rv = lX_filesSeen_4 σ p1 n x2 x3 → AtX G ad d A s σ H locs → lv_has ls 5 [(0, .ref (ad 0)), (1, .int p1), (2, .int x2), (3, .int x3)] → W p l e rmZ1 s m args below meth c H locs 0 0 (QXi below G ad d A args s (rv, σ)) (F0 m 4 ls []) := by
  intro n
  induction n with
  | zero =>
    intro k x2 x3 rv H locs ls hk hx hR hH hl
    have hz := lp_z (N := 8) hx hk (by decide)
    refine lv_iload_n C.1.1 C.1.2.1 dX0_filesSeen_4 rfl (lv_at hl 3 rfl) ?_
    refine lv_bipush (v := 8) C.1.1 C.1.2.1 dX0_filesSeen_5 (by decide) ?_
    refine lv_icmp_ge (tgt := 35) C.1.1 C.1.2.1 dX0_filesSeen_7 (by decide) (fun _ => ?_) (fun c => absurd hz c)
    refine lv_iload_n C.1.1 C.1.2.1 dX0_filesSeen_35 rfl (lv_at hl 2 rfl) ?_
    exact retX_i C hH dX0_filesSeen_36 (congrArg (fun z => (z, σ)) (Eq.trans hR rfl)).symm
  | succ n ih =>
    intro k x2 x3 rv H locs ls hk hx hR hH hl
    have hz := lp_s (N := 8) hx hk (by decide)
    refine lv_iload_n C.1.1 C.1.2.1 dX0_filesSeen_4 rfl (lv_at hl 3 rfl) ?_
    refine lv_bipush (v := 8) C.1.1 C.1.2.1 dX0_filesSeen_5 (by decide) ?_
    refine lv_icmp_ge (tgt := 35) C.1.1 C.1.2.1 dX0_filesSeen_7 (by decide) (fun c => absurd c hz) (fun _ => ?_)
    refine lv_aload_n C.1.1 C.1.2.1 dX0_filesSeen_10 rfl (lv_at hl 0 rfl) ?_
    refine lv_iload_n C.1.1 C.1.2.1 dX0_filesSeen_11 rfl (lv_at hl 1 rfl) ?_
    refine lv_iload_n C.1.1 C.1.2.1 dX0_filesSeen_12 rfl (lv_at hl 3 rfl) ?_
    refine callX_i C hH (av := [.int p1, .int x3]) (rest := []) (mX_holder l G ad d σ p1 x3 hU h1) gwX_holder hdX_holder (by decide) rfl hl.1 rfl (Nat.le_of_ble_eq_true rfl) dX0_filesSeen_13 ⟨Nat.zero_le _, Nat.zero_le _⟩ (fun r_ u_ H locs hH hw_ => ?_)
    obtain ⟨rfl, rfl⟩ : (fX_holder σ p1 x3) = r_ ∧ σ = u_ := ⟨(congrArg Prod.fst hw_).symm, (congrArg Prod.snd hw_).symm⟩
    refine lv_istore (lv' := [(4, .int (fX_holder σ p1 x3)), (0, .ref (ad 0)), (1, .int p1), (2, .int x2), (3, .int x3)]) C.1.1 C.1.2.1 dX0_filesSeen_16 hl (by decide) rfl (fun ls hl => ?_)
    refine lv_iload C.1.1 C.1.2.1 dX0_filesSeen_18 (lv_at hl 0 rfl) ?_
    refine lv_if_lt (tgt := 29) C.1.1 C.1.2.1 dX0_filesSeen_20 (by decide) (fun c_20 => ?_) (fun c_20 => ?_)
    · refine lv_iinc (v := (x3 + 1)) (lv' := [(3, .int (x3 + 1)), (4, .int (fX_holder σ p1 x3)), (0, .ref (ad 0)), (1, .int p1), (2, .int x2)]) C.1.1 C.1.2.1 dX0_filesSeen_29 hl (k := 4) rfl rfl (by decide) rfl (fun ls hl => ?_)
      refine lv_goto (tgt := 4) C.1.1 C.1.2.1 dX0_filesSeen_32 (by decide) ?_
      exact ih (k + 1) x2 (x3 + 1) _ _ _ _ (by omega) (lp_x hx) (Eq.trans hR (tp c_20 rfl)) hH (lv_sub hl [2, 3, 4, 0] rfl)
    · refine lv_iload_n C.1.1 C.1.2.1 dX0_filesSeen_23 rfl (lv_at hl 3 rfl) ?_
      refine lv_iconst (v := 1) C.1.1 C.1.2.1 dX0_filesSeen_24 (by decide) ?_
      refine lv_iload_n C.1.1 C.1.2.1 dX0_filesSeen_25 rfl (lv_at hl 4 rfl) ?_
      refine lv_ishl C.1.1 C.1.2.1 dX0_filesSeen_26 ?_
      refine lv_ior C.1.1 C.1.2.1 dX0_filesSeen_27 ?_
      refine lv_istore_n (lv' := [(2, .int (x2 ||| ((1 : Int32) <<< (x3 &&& 31)))), (4, .int (fX_holder σ p1 x3)), (0, .ref (ad 0)), (1, .int p1), (3, .int x3)]) C.1.1 C.1.2.1 dX0_filesSeen_28 rfl hl (by decide) rfl (fun ls hl => ?_)
      refine lv_iinc (v := (x3 + 1)) (lv' := [(3, .int (x3 + 1)), (2, .int (x2 ||| ((1 : Int32) <<< (x3 &&& 31)))), (4, .int (fX_holder σ p1 x3)), (0, .ref (ad 0)), (1, .int p1)]) C.1.1 C.1.2.1 dX0_filesSeen_29 hl (k := 4) rfl rfl (by decide) rfl (fun ls hl => ?_)
      refine lv_goto (tgt := 4) C.1.1 C.1.2.1 dX0_filesSeen_32 (by decide) ?_
      exact ih (k + 1) (x2 ||| ((1 : Int32) <<< (x3 &&& 31))) (x3 + 1) _ _ _ _ (by omega) (lp_x hx) (Eq.trans hR (tn c_20 rfl)) hH (lv_sub hl [3, 4, 1, 0] rfl)
set_option maxHeartbeats 4000000 in
theorem mX_filesSeen (l : Launch) (G : va_G) (ad : Nat → Nat) (d : Nat → ClassId) (σ : SX) (p1 : Int32) (hU : okU σ) (h1 : p1 < 0 ∨ vp_in p1 10) : MetXi l yX0_filesSeen cX0_filesSeen 5 .int rmZ1 [.int p1] G ad d σ ((fX_filesSeen σ p1), σ) := by
  refine metX_i (by decide +kernel) rfl (Nat.le_of_ble_eq_true rfl) (fun p e s m below meth c A ls C hH hl => ?_)
  have hl : lv_has ls 5 [(0, .ref (ad 0)), (1, .int p1)] := hl
  have hR : (fX_filesSeen σ p1) = (fX_filesSeen σ p1) := rfl
  generalize s.heap = H at hH ⊢
  generalize ([] : List Loc) = locs at hH ⊢
  refine lv_iconst (v := 0) C.1.1 C.1.2.1 dX0_filesSeen_0 (by decide) ?_
  refine lv_istore_n (lv' := [(2, .int 0), (0, .ref (ad 0)), (1, .int p1)]) C.1.1 C.1.2.1 dX0_filesSeen_1 rfl hl (by decide) rfl (fun ls hl => ?_)
  refine lv_iconst (v := 0) C.1.1 C.1.2.1 dX0_filesSeen_2 (by decide) ?_
  refine lv_istore_n (lv' := [(3, .int 0), (2, .int 0), (0, .ref (ad 0)), (1, .int p1)]) C.1.1 C.1.2.1 dX0_filesSeen_3 rfl hl (by decide) rfl (fun ls hl => ?_)
  exact bX_filesSeen_4 C hU h1 8 0 0 0 _ _ _ _ rfl nI_0.symm (Eq.trans hR rfl) hH (lv_sub hl [2, 3, 1, 0] rfl)
theorem gwX_filesSeen : GoodIn lw_all (wsV RX0 55 RX0 yX0_filesSeen (ws_ yX0_filesSeen cX0_filesSeen 5 (some .int))) := lw_V q92 q94 qs4 q23 q95
theorem hdX_filesSeen : yX0_filesSeen.cls = RX0 ∧ yX0_filesSeen.cls ≠ "java/lang/invoke/MethodHandle" ∧ yX0_filesSeen.cls ≠ "java/lang/invoke/VarHandle" ∧ (parseMethodDescriptor yX0_filesSeen.desc).map (fun d => d.parameters.length) = some 1 := by decide +kernel
-- method setFile
set_option maxHeartbeats 4000000 in
theorem mX_setFile (l : Launch) (G : va_G) (ad : Nat → Nat) (d : Nat → ClassId) (σ : SX) (p1 : Int32) (p2 : Int32) (p3 : Int32) (h1 : vp_in p1 10) (h2 : vp_in ((p1 * 8) + p2) 80) : MetXv l yX0_setFile cX0_setFile 4  rmZ0 [.int p1, .int p2, .int p3] G ad d σ (fX_setFile σ p1 p2 p3) := by
  refine metX_v (by decide +kernel) rfl (Nat.le_of_ble_eq_true rfl) (fun p e s m below meth c A ls C hH hl => ?_)
  have hl : lv_has ls 4 [(0, .ref (ad 0)), (1, .int p1), (2, .int p2), (3, .int p3)] := hl
  have hR : (fX_setFile σ p1 p2 p3) = (fX_setFile σ p1 p2 p3) := rfl
  generalize s.heap = H at hH ⊢
  generalize ([] : List Loc) = locs at hH ⊢
  refine lv_aload_n C.1.1 C.1.2.1 dX0_setFile_0 rfl (lv_at hl 0 rfl) ?_
  refine getX C hH 2 (by decide) q35 rfl (v := .ref (ad 2)) rfl dX0_setFile_1 ?_
  refine lv_iload_n C.1.1 C.1.2.1 dX0_setFile_4 rfl (lv_at hl 1 rfl) ?_
  refine lv_aload_n C.1.1 C.1.2.1 dX0_setFile_5 rfl (lv_at hl 0 rfl) ?_
  refine getX C hH 2 (by decide) q35 rfl (v := .ref (ad 2)) rfl dX0_setFile_6 ?_
  refine lv_iload_n C.1.1 C.1.2.1 dX0_setFile_9 rfl (lv_at hl 1 rfl) ?_
  refine ildX C hH 2 1 (f := (xOw σ)) rfl rfl dX0_setFile_10 h1 ?_
  refine lv_iconst (v := 1) C.1.1 C.1.2.1 dX0_setFile_11 (by decide) ?_
  refine lv_iload_n C.1.1 C.1.2.1 dX0_setFile_12 rfl (lv_at hl 2 rfl) ?_
  refine lv_ishl C.1.1 C.1.2.1 dX0_setFile_13 ?_
  refine lv_ior C.1.1 C.1.2.1 dX0_setFile_14 ?_
  have hH := AtX.eta hH
  refine stX_2 C hH dX0_setFile_15 h1 (fun H locs hH => ?_)
  refine lv_aload_n C.1.1 C.1.2.1 dX0_setFile_16 rfl (lv_at hl 0 rfl) ?_
  refine getX C hH 3 (by decide) q36 rfl (v := .ref (ad 3)) rfl dX0_setFile_17 ?_
  refine lv_iload_n C.1.1 C.1.2.1 dX0_setFile_20 rfl (lv_at hl 1 rfl) ?_
  refine lv_aload_n C.1.1 C.1.2.1 dX0_setFile_21 rfl (lv_at hl 0 rfl) ?_
  refine getX C hH 3 (by decide) q36 rfl (v := .ref (ad 3)) rfl dX0_setFile_22 ?_
  refine lv_iload_n C.1.1 C.1.2.1 dX0_setFile_25 rfl (lv_at hl 1 rfl) ?_
  refine ldX_3 C hH dX0_setFile_26 h1 ?_
  refine lv_iconst (v := 1) C.1.1 C.1.2.1 dX0_setFile_27 (by decide) ?_
  refine lv_iload_n C.1.1 C.1.2.1 dX0_setFile_28 rfl (lv_at hl 2 rfl) ?_
  refine lv_ishl C.1.1 C.1.2.1 dX0_setFile_29 ?_
  refine lv_iconst (v := (-1)) C.1.1 C.1.2.1 dX0_setFile_30 (by decide) ?_
  refine lv_ixor C.1.1 C.1.2.1 dX0_setFile_31 ?_
  refine lv_iand C.1.1 C.1.2.1 dX0_setFile_32 ?_
  refine stX_3 C hH dX0_setFile_33 h1 (fun H locs hH => ?_)
  refine lv_aload_n C.1.1 C.1.2.1 dX0_setFile_34 rfl (lv_at hl 0 rfl) ?_
  refine getX C hH 6 (by decide) q39 rfl (v := .ref (ad 6)) rfl dX0_setFile_35 ?_
  refine lv_iload_n C.1.1 C.1.2.1 dX0_setFile_38 rfl (lv_at hl 1 rfl) ?_
  refine lv_bipush (v := 8) C.1.1 C.1.2.1 dX0_setFile_39 (by decide) ?_
  refine lv_imul C.1.1 C.1.2.1 dX0_setFile_41 ?_
  refine lv_iload_n C.1.1 C.1.2.1 dX0_setFile_42 rfl (lv_at hl 2 rfl) ?_
  refine lv_iadd C.1.1 C.1.2.1 dX0_setFile_43 ?_
  refine lv_iload_n C.1.1 C.1.2.1 dX0_setFile_44 rfl (lv_at hl 3 rfl) ?_
  refine stX_6 C hH dX0_setFile_45 h2 (fun H locs hH => ?_)
  exact retX_v C hH dX0_setFile_46 (Eq.trans hR rfl).symm
theorem gwX_setFile : GoodIn lw_all (wsV RX0 68 RX0 yX0_setFile (ws_ yX0_setFile cX0_setFile 4 (none))) := lw_V q116 q118 qs9 q23 q119
theorem hdX_setFile : yX0_setFile.cls = RX0 ∧ yX0_setFile.cls ≠ "java/lang/invoke/MethodHandle" ∧ yX0_setFile.cls ≠ "java/lang/invoke/VarHandle" ∧ (parseMethodDescriptor yX0_setFile.desc).map (fun d => d.parameters.length) = some 3 := by decide +kernel
-- method clearFile
set_option maxHeartbeats 4000000 in
theorem mX_clearFile (l : Launch) (G : va_G) (ad : Nat → Nat) (d : Nat → ClassId) (σ : SX) (p1 : Int32) (p2 : Int32) (h1 : vp_in p1 10) : MetXv l yX0_clearFile cX0_clearFile 3  rmZ0 [.int p1, .int p2] G ad d σ (fX_clearFile σ p1 p2) := by
  refine metX_v (by decide +kernel) rfl (Nat.le_of_ble_eq_true rfl) (fun p e s m below meth c A ls C hH hl => ?_)
  have hl : lv_has ls 3 [(0, .ref (ad 0)), (1, .int p1), (2, .int p2)] := hl
  have hR : (fX_clearFile σ p1 p2) = (fX_clearFile σ p1 p2) := rfl
  generalize s.heap = H at hH ⊢
  generalize ([] : List Loc) = locs at hH ⊢
  refine lv_aload_n C.1.1 C.1.2.1 dX0_clearFile_0 rfl (lv_at hl 0 rfl) ?_
  refine getX C hH 2 (by decide) q35 rfl (v := .ref (ad 2)) rfl dX0_clearFile_1 ?_
  refine lv_iload_n C.1.1 C.1.2.1 dX0_clearFile_4 rfl (lv_at hl 1 rfl) ?_
  refine lv_aload_n C.1.1 C.1.2.1 dX0_clearFile_5 rfl (lv_at hl 0 rfl) ?_
  refine getX C hH 2 (by decide) q35 rfl (v := .ref (ad 2)) rfl dX0_clearFile_6 ?_
  refine lv_iload_n C.1.1 C.1.2.1 dX0_clearFile_9 rfl (lv_at hl 1 rfl) ?_
  refine ildX C hH 2 1 (f := (xOw σ)) rfl rfl dX0_clearFile_10 h1 ?_
  refine lv_iconst (v := 1) C.1.1 C.1.2.1 dX0_clearFile_11 (by decide) ?_
  refine lv_iload_n C.1.1 C.1.2.1 dX0_clearFile_12 rfl (lv_at hl 2 rfl) ?_
  refine lv_ishl C.1.1 C.1.2.1 dX0_clearFile_13 ?_
  refine lv_iconst (v := (-1)) C.1.1 C.1.2.1 dX0_clearFile_14 (by decide) ?_
  refine lv_ixor C.1.1 C.1.2.1 dX0_clearFile_15 ?_
  refine lv_iand C.1.1 C.1.2.1 dX0_clearFile_16 ?_
  have hH := AtX.eta hH
  refine stX_2 C hH dX0_clearFile_17 h1 (fun H locs hH => ?_)
  refine lv_aload_n C.1.1 C.1.2.1 dX0_clearFile_18 rfl (lv_at hl 0 rfl) ?_
  refine getX C hH 3 (by decide) q36 rfl (v := .ref (ad 3)) rfl dX0_clearFile_19 ?_
  refine lv_iload_n C.1.1 C.1.2.1 dX0_clearFile_22 rfl (lv_at hl 1 rfl) ?_
  refine lv_aload_n C.1.1 C.1.2.1 dX0_clearFile_23 rfl (lv_at hl 0 rfl) ?_
  refine getX C hH 3 (by decide) q36 rfl (v := .ref (ad 3)) rfl dX0_clearFile_24 ?_
  refine lv_iload_n C.1.1 C.1.2.1 dX0_clearFile_27 rfl (lv_at hl 1 rfl) ?_
  refine ldX_3 C hH dX0_clearFile_28 h1 ?_
  refine lv_iconst (v := 1) C.1.1 C.1.2.1 dX0_clearFile_29 (by decide) ?_
  refine lv_iload_n C.1.1 C.1.2.1 dX0_clearFile_30 rfl (lv_at hl 2 rfl) ?_
  refine lv_ishl C.1.1 C.1.2.1 dX0_clearFile_31 ?_
  refine lv_ior C.1.1 C.1.2.1 dX0_clearFile_32 ?_
  refine stX_3 C hH dX0_clearFile_33 h1 (fun H locs hH => ?_)
  exact retX_v C hH dX0_clearFile_34 (Eq.trans hR rfl).symm
theorem gwX_clearFile : GoodIn lw_all (wsV RX0 72 RX0 yX0_clearFile (ws_ yX0_clearFile cX0_clearFile 3 (none))) := lw_V q128 q130 qs10 q23 q131
theorem hdX_clearFile : yX0_clearFile.cls = RX0 ∧ yX0_clearFile.cls ≠ "java/lang/invoke/MethodHandle" ∧ yX0_clearFile.cls ≠ "java/lang/invoke/VarHandle" ∧ (parseMethodDescriptor yX0_clearFile.desc).map (fun d => d.parameters.length) = some 2 := by decide +kernel
-- method filesOf
set_option maxHeartbeats 4000000 in
theorem mX_filesOf (l : Launch) (G : va_G) (ad : Nat → Nat) (d : Nat → ClassId) (σ : SX) (p1 : Int32)  : MetXi l yX0_filesOf cX0_filesOf 2 .int rmZ0 [.int p1] G ad d σ ((fX_filesOf p1), σ) := by
  refine metX_i (by decide +kernel) rfl (Nat.le_of_ble_eq_true rfl) (fun p e s m below meth c A ls C hH hl => ?_)
  have hl : lv_has ls 2 [(0, .ref (ad 0)), (1, .int p1)] := hl
  have hR : (fX_filesOf p1) = (fX_filesOf p1) := rfl
  generalize s.heap = H at hH ⊢
  generalize ([] : List Loc) = locs at hH ⊢
  refine lv_bipush (v := 15) C.1.1 C.1.2.1 dX0_filesOf_0 (by decide) ?_
  refine lv_iconst (v := 4) C.1.1 C.1.2.1 dX0_filesOf_2 (by decide) ?_
  refine lv_iload_n C.1.1 C.1.2.1 dX0_filesOf_3 rfl (lv_at hl 1 rfl) ?_
  refine lv_imul C.1.1 C.1.2.1 dX0_filesOf_4 ?_
  refine lv_ishl C.1.1 C.1.2.1 dX0_filesOf_5 ?_
  exact retX_i C hH dX0_filesOf_6 (congrArg (fun z => (z, σ)) (Eq.trans hR rfl)).symm
theorem gwX_filesOf : GoodIn lw_all (wsV RX0 58 RX0 yX0_filesOf (ws_ yX0_filesOf cX0_filesOf 2 (some .int))) := lw_V q100 q102 qs6 q23 q103
theorem hdX_filesOf : yX0_filesOf.cls = RX0 ∧ yX0_filesOf.cls ≠ "java/lang/invoke/MethodHandle" ∧ yX0_filesOf.cls ≠ "java/lang/invoke/VarHandle" ∧ (parseMethodDescriptor yX0_filesOf.desc).map (fun d => d.parameters.length) = some 1 := by decide +kernel
-- method sizeOf
set_option maxHeartbeats 4000000 in
theorem bX_sizeOf_4 {p : Program} {l : Launch} {e : Env} {s : State} {m : MethodId} {args : Array Value} {below : List Frame} {meth : Method} {c : Code} {G : va_G} {ad : Nat → Nat} {d : Nat → ClassId} {A : Nat → Prop} {σ : SX} {p1 : Int32} (C : CX p s m args meth c cX0_sizeOf 4 RX0 (some .int))  : ∀ (n : Nat) (k : Nat) (x2 : Int32) (x3 : Int32) (rv : Int32) (H : Heap) (locs : List Loc) (ls : Array Slot), k + n = 8 → x3 = nI k → rv = lX_sizeOf_4 p1 n x2 x3 → AtX G ad d A s σ H locs → lv_has ls 4 [(0, .ref (ad 0)), (1, .int p1), (2, .int x2), (3, .int x3)] → W p l e rmZ0 s m args below meth c H locs 0 0 (QXi below G ad d A args s (rv, σ)) (F0 m 4 ls []) := by
  intro n
  induction n with
  | zero =>
    intro k x2 x3 rv H locs ls hk hx hR hH hl
    have hz := lp_z (N := 8) hx hk (by decide)
    refine lv_iload_n C.1.1 C.1.2.1 dX0_sizeOf_4 rfl (lv_at hl 3 rfl) ?_
    refine lv_bipush (v := 8) C.1.1 C.1.2.1 dX0_sizeOf_5 (by decide) ?_
    refine lv_icmp_ge (tgt := 24) C.1.1 C.1.2.1 dX0_sizeOf_7 (by decide) (fun _ => ?_) (fun c => absurd hz c)
    refine lv_iload_n C.1.1 C.1.2.1 dX0_sizeOf_24 rfl (lv_at hl 2 rfl) ?_
    exact retX_i C hH dX0_sizeOf_25 (congrArg (fun z => (z, σ)) (Eq.trans hR rfl)).symm
  | succ n ih =>
    intro k x2 x3 rv H locs ls hk hx hR hH hl
    have hz := lp_s (N := 8) hx hk (by decide)
    refine lv_iload_n C.1.1 C.1.2.1 dX0_sizeOf_4 rfl (lv_at hl 3 rfl) ?_
    refine lv_bipush (v := 8) C.1.1 C.1.2.1 dX0_sizeOf_5 (by decide) ?_
    refine lv_icmp_ge (tgt := 24) C.1.1 C.1.2.1 dX0_sizeOf_7 (by decide) (fun c => absurd c hz) (fun _ => ?_)
    refine lv_iload_n C.1.1 C.1.2.1 dX0_sizeOf_10 rfl (lv_at hl 2 rfl) ?_
    refine lv_iload_n C.1.1 C.1.2.1 dX0_sizeOf_11 rfl (lv_at hl 1 rfl) ?_
    refine lv_iload_n C.1.1 C.1.2.1 dX0_sizeOf_12 rfl (lv_at hl 3 rfl) ?_
    refine lv_ishr C.1.1 C.1.2.1 dX0_sizeOf_13 ?_
    refine lv_iconst (v := 1) C.1.1 C.1.2.1 dX0_sizeOf_14 (by decide) ?_
    refine lv_iand C.1.1 C.1.2.1 dX0_sizeOf_15 ?_
    refine lv_iadd C.1.1 C.1.2.1 dX0_sizeOf_16 ?_
    refine lv_istore_n (lv' := [(2, .int (x2 + ((p1 >>> (x3 &&& 31)) &&& 1))), (0, .ref (ad 0)), (1, .int p1), (3, .int x3)]) C.1.1 C.1.2.1 dX0_sizeOf_17 rfl hl (by decide) rfl (fun ls hl => ?_)
    refine lv_iinc (v := (x3 + 1)) (lv' := [(3, .int (x3 + 1)), (2, .int (x2 + ((p1 >>> (x3 &&& 31)) &&& 1))), (0, .ref (ad 0)), (1, .int p1)]) C.1.1 C.1.2.1 dX0_sizeOf_18 hl (k := 3) rfl rfl (by decide) rfl (fun ls hl => ?_)
    refine lv_goto (tgt := 4) C.1.1 C.1.2.1 dX0_sizeOf_21 (by decide) ?_
    exact ih (k + 1) (x2 + ((p1 >>> (x3 &&& 31)) &&& 1)) (x3 + 1) _ _ _ _ (by omega) (lp_x hx) (Eq.trans hR rfl) hH (lv_sub hl [2, 3, 1, 0] rfl)
set_option maxHeartbeats 4000000 in
theorem mX_sizeOf (l : Launch) (G : va_G) (ad : Nat → Nat) (d : Nat → ClassId) (σ : SX) (p1 : Int32)  : MetXi l yX0_sizeOf cX0_sizeOf 4 .int rmZ0 [.int p1] G ad d σ ((fX_sizeOf p1), σ) := by
  refine metX_i (by decide +kernel) rfl (Nat.le_of_ble_eq_true rfl) (fun p e s m below meth c A ls C hH hl => ?_)
  have hl : lv_has ls 4 [(0, .ref (ad 0)), (1, .int p1)] := hl
  have hR : (fX_sizeOf p1) = (fX_sizeOf p1) := rfl
  generalize s.heap = H at hH ⊢
  generalize ([] : List Loc) = locs at hH ⊢
  refine lv_iconst (v := 0) C.1.1 C.1.2.1 dX0_sizeOf_0 (by decide) ?_
  refine lv_istore_n (lv' := [(2, .int 0), (0, .ref (ad 0)), (1, .int p1)]) C.1.1 C.1.2.1 dX0_sizeOf_1 rfl hl (by decide) rfl (fun ls hl => ?_)
  refine lv_iconst (v := 0) C.1.1 C.1.2.1 dX0_sizeOf_2 (by decide) ?_
  refine lv_istore_n (lv' := [(3, .int 0), (2, .int 0), (0, .ref (ad 0)), (1, .int p1)]) C.1.1 C.1.2.1 dX0_sizeOf_3 rfl hl (by decide) rfl (fun ls hl => ?_)
  exact bX_sizeOf_4 C  8 0 0 0 _ _ _ _ rfl nI_0.symm (Eq.trans hR rfl) hH (lv_sub hl [2, 3, 1, 0] rfl)
theorem gwX_sizeOf : GoodIn lw_all (wsV RX0 61 RX0 yX0_sizeOf (ws_ yX0_sizeOf cX0_sizeOf 4 (some .int))) := lw_V q104 q106 qs7 q23 q107
theorem hdX_sizeOf : yX0_sizeOf.cls = RX0 ∧ yX0_sizeOf.cls ≠ "java/lang/invoke/MethodHandle" ∧ yX0_sizeOf.cls ≠ "java/lang/invoke/VarHandle" ∧ (parseMethodDescriptor yX0_sizeOf.desc).map (fun d => d.parameters.length) = some 1 := by decide +kernel
-- method mount
set_option maxHeartbeats 4000000 in
theorem mX_mount (l : Launch) (G : va_G) (ad : Nat → Nat) (d : Nat → ClassId) (σ : SX) (p1 : Int32) (p2 : Int32) (hO : okX σ) : MetXi l yX0_mount cX0_mount 4 .int rmZ1 [.int p1, .int p2] G ad d σ (fX_mount σ p1 p2) := by
  refine metX_i (by decide +kernel) rfl (Nat.le_of_ble_eq_true rfl) (fun p e s m below meth c A ls C hH hl => ?_)
  have hl : lv_has ls 4 [(0, .ref (ad 0)), (1, .int p1), (2, .int p2)] := hl
  have hR : (fX_mount σ p1 p2) = (fX_mount σ p1 p2) := rfl
  generalize s.heap = H at hH ⊢
  generalize ([] : List Loc) = locs at hH ⊢
  refine lv_aload_n C.1.1 C.1.2.1 dX0_mount_0 rfl (lv_at hl 0 rfl) ?_
  refine lv_iload_n C.1.1 C.1.2.1 dX0_mount_1 rfl (lv_at hl 1 rfl) ?_
  refine callX_i C hH (av := [.int p1]) (rest := []) (mX_refused l G ad d σ p1 ) gwX_refused hdX_refused (by decide) rfl hl.1 rfl (Nat.le_of_ble_eq_true rfl) dX0_mount_2 ⟨Nat.zero_le _, Nat.zero_le _⟩ (fun r_ u_ H locs hH hw_ => ?_)
  obtain ⟨rfl, rfl⟩ : (fX_refused σ p1) = r_ ∧ σ = u_ := ⟨(congrArg Prod.fst hw_).symm, (congrArg Prod.snd hw_).symm⟩
  refine lv_istore_n (lv' := [(3, .int (fX_refused σ p1)), (0, .ref (ad 0)), (1, .int p1), (2, .int p2)]) C.1.1 C.1.2.1 dX0_mount_5 rfl hl (by decide) rfl (fun ls hl => ?_)
  refine lv_iload_n C.1.1 C.1.2.1 dX0_mount_6 rfl (lv_at hl 0 rfl) ?_
  refine lv_bipush (v := (-3)) C.1.1 C.1.2.1 dX0_mount_7 (by decide) ?_
  refine lv_icmp_eq (tgt := 24) C.1.1 C.1.2.1 dX0_mount_9 (by decide) (fun c_9 => ?_) (fun c_9 => ?_)
  · refine lv_iload_n C.1.1 C.1.2.1 dX0_mount_24 rfl (lv_at hl 3 rfl) ?_
    refine lv_if_lt (tgt := 36) C.1.1 C.1.2.1 dX0_mount_25 (by decide) (fun c_25 => ?_) (fun c_25 => ?_)
    · refine lv_bipush (v := (-4)) C.1.1 C.1.2.1 dX0_mount_36 (by decide) ?_
      exact retX_i C hH dX0_mount_38 (Eq.trans hR (tp c_9 (tp c_25 rfl))).symm
    · refine lv_iload_n C.1.1 C.1.2.1 dX0_mount_28 rfl (lv_at hl 3 rfl) ?_
      refine lv_aload_n C.1.1 C.1.2.1 dX0_mount_29 rfl (lv_at hl 1 rfl) ?_
      refine getX C hH 0 (by decide) q33 rfl (v := .int (xL σ)) rfl dX0_mount_30 ?_
      refine lv_icmp_lt (tgt := 39) C.1.1 C.1.2.1 dX0_mount_33 (by decide) (fun c_33 => ?_) (fun c_33 => ?_)
      · have hm : vp_in p1 4 := b_ref3 c_9
        have ht : vp_in (6 + p1) 10 := b_top hm
        refine lv_aload_n C.1.1 C.1.2.1 dX0_mount_39 rfl (lv_at hl 1 rfl) ?_
        refine getX C hH 7 (by decide) q40 rfl (v := .ref (ad 7)) rfl dX0_mount_40 ?_
        refine lv_iload_n C.1.1 C.1.2.1 dX0_mount_43 rfl (lv_at hl 2 rfl) ?_
        refine lv_iconst (v := 1) C.1.1 C.1.2.1 dX0_mount_44 (by decide) ?_
        have hH := AtX.eta hH
        refine stX_7 C hH (by decide) dX0_mount_45 hm (fun H locs hH => ?_)
        refine lv_aload_n C.1.1 C.1.2.1 dX0_mount_46 rfl (lv_at hl 1 rfl) ?_
        refine lv_aload_n C.1.1 C.1.2.1 dX0_mount_47 rfl (lv_at hl 1 rfl) ?_
        refine lv_iload_n C.1.1 C.1.2.1 dX0_mount_48 rfl (lv_at hl 2 rfl) ?_
        refine callX_i C hH (av := [.int p1]) (rest := [.ref (ad 0)]) (mX_top l G ad d ((xL σ), (xUn σ), (xOw σ), (xHi σ), (xOd σ), (xHd σ), (xCt σ), (upd (xIu σ) p1.toNatClampNeg 1)) p1 ) gwX_top hdX_top (by decide) rfl hl.1 rfl (Nat.le_of_ble_eq_true rfl) dX0_mount_49 ⟨Nat.zero_le _, Nat.zero_le _⟩ (fun r_ u_ H locs hH hw_ => ?_)
        obtain ⟨rfl, rfl⟩ : (fX_top p1) = r_ ∧ ((xL σ), (xUn σ), (xOw σ), (xHi σ), (xOd σ), (xHd σ), (xCt σ), (upd (xIu σ) p1.toNatClampNeg 1)) = u_ := ⟨(congrArg Prod.fst hw_).symm, (congrArg Prod.snd hw_).symm⟩
        refine callX_v C hH (av := [.int (fX_top p1)]) (rest := []) (mX_clean l G ad d ((xL σ), (xUn σ), (xOw σ), (xHi σ), (xOd σ), (xHd σ), (xCt σ), (upd (xIu σ) p1.toNatClampNeg 1)) (fX_top p1) ht) gwX_clean hdX_clean (by decide) rfl hl.1 rfl (Nat.le_of_ble_eq_true rfl) dX0_mount_52 ⟨Nat.zero_le _, Nat.zero_le _⟩ (fun u_ H locs hH hw_ => ?_)
        subst hw_
        refine lv_aload_n C.1.1 C.1.2.1 dX0_mount_55 rfl (lv_at hl 1 rfl) ?_
        refine getX C hH 1 (by decide) q34 rfl (v := .ref (ad 1)) rfl dX0_mount_56 ?_
        refine lv_aload_n C.1.1 C.1.2.1 dX0_mount_59 rfl (lv_at hl 1 rfl) ?_
        refine lv_iload_n C.1.1 C.1.2.1 dX0_mount_60 rfl (lv_at hl 2 rfl) ?_
        refine callX_i C hH (av := [.int p1]) (rest := [.ref (ad 1)]) (mX_top l G ad d (fX_clean ((xL σ), (xUn σ), (xOw σ), (xHi σ), (xOd σ), (xHd σ), (xCt σ), (upd (xIu σ) p1.toNatClampNeg 1)) (fX_top p1)) p1 ) gwX_top hdX_top (by decide) rfl hl.1 rfl (Nat.le_of_ble_eq_true rfl) dX0_mount_61 ⟨Nat.zero_le _, Nat.zero_le _⟩ (fun r_ u_ H locs hH hw_ => ?_)
        obtain ⟨rfl, rfl⟩ : (fX_top p1) = r_ ∧ (fX_clean ((xL σ), (xUn σ), (xOw σ), (xHi σ), (xOd σ), (xHd σ), (xCt σ), (upd (xIu σ) p1.toNatClampNeg 1)) (fX_top p1)) = u_ := ⟨(congrArg Prod.fst hw_).symm, (congrArg Prod.snd hw_).symm⟩
        refine lv_iload_n C.1.1 C.1.2.1 dX0_mount_64 rfl (lv_at hl 3 rfl) ?_
        have hH := AtX.eta hH
        refine stX_1 C hH dX0_mount_65 ht (fun H locs hH => ?_)
        refine lv_iconst (v := 0) C.1.1 C.1.2.1 dX0_mount_66 (by decide) ?_
        exact retX_i C hH dX0_mount_67 (Eq.trans hR (tp c_9 (tn c_25 (tp c_33 rfl)))).symm
      · refine lv_bipush (v := (-4)) C.1.1 C.1.2.1 dX0_mount_36 (by decide) ?_
        exact retX_i C hH dX0_mount_38 (Eq.trans hR (tp c_9 (tn c_25 (tn c_33 rfl)))).symm
  · refine lv_iload_n C.1.1 C.1.2.1 dX0_mount_12 rfl (lv_at hl 0 rfl) ?_
    refine lv_iconst (v := (-1)) C.1.1 C.1.2.1 dX0_mount_13 (by decide) ?_
    refine lv_icmp_ne (tgt := 21) C.1.1 C.1.2.1 dX0_mount_14 (by decide) (fun c_14 => ?_) (fun c_14 => ?_)
    · refine lv_bipush (v := (-3)) C.1.1 C.1.2.1 dX0_mount_21 (by decide) ?_
      exact retX_i C hH dX0_mount_23 (Eq.trans hR (tn c_9 (tn c_14 rfl))).symm
    · refine lv_iconst (v := (-1)) C.1.1 C.1.2.1 dX0_mount_17 (by decide) ?_
      refine lv_goto (tgt := 23) C.1.1 C.1.2.1 dX0_mount_18 (by decide) ?_
      exact retX_i C hH dX0_mount_23 (Eq.trans hR (tn c_9 (tp c_14 rfl))).symm
-- method unmount
set_option maxHeartbeats 4000000 in
theorem mX_unmount (l : Launch) (G : va_G) (ad : Nat → Nat) (d : Nat → ClassId) (σ : SX) (p1 : Int32) (hO : okX σ) : MetXi l yX0_unmount cX0_unmount 3 .int rmZ1 [.int p1] G ad d σ (fX_unmount σ p1) := by
  refine metX_i (by decide +kernel) rfl (Nat.le_of_ble_eq_true rfl) (fun p e s m below meth c A ls C hH hl => ?_)
  have hl : lv_has ls 3 [(0, .ref (ad 0)), (1, .int p1)] := hl
  have hR : (fX_unmount σ p1) = (fX_unmount σ p1) := rfl
  generalize s.heap = H at hH ⊢
  generalize ([] : List Loc) = locs at hH ⊢
  refine lv_aload_n C.1.1 C.1.2.1 dX0_unmount_0 rfl (lv_at hl 0 rfl) ?_
  refine lv_iload_n C.1.1 C.1.2.1 dX0_unmount_1 rfl (lv_at hl 1 rfl) ?_
  refine callX_i C hH (av := [.int p1]) (rest := []) (mX_refused l G ad d σ p1 ) gwX_refused hdX_refused (by decide) rfl hl.1 rfl (Nat.le_of_ble_eq_true rfl) dX0_unmount_2 ⟨Nat.zero_le _, Nat.zero_le _⟩ (fun r_ u_ H locs hH hw_ => ?_)
  obtain ⟨rfl, rfl⟩ : (fX_refused σ p1) = r_ ∧ σ = u_ := ⟨(congrArg Prod.fst hw_).symm, (congrArg Prod.snd hw_).symm⟩
  refine lv_istore_n (lv' := [(2, .int (fX_refused σ p1)), (0, .ref (ad 0)), (1, .int p1)]) C.1.1 C.1.2.1 dX0_unmount_5 rfl hl (by decide) rfl (fun ls hl => ?_)
  refine lv_iload_n C.1.1 C.1.2.1 dX0_unmount_6 rfl (lv_at hl 0 rfl) ?_
  refine lv_if_ge (tgt := 12) C.1.1 C.1.2.1 dX0_unmount_7 (by decide) (fun c_7 => ?_) (fun c_7 => ?_)
  · refine lv_aload_n C.1.1 C.1.2.1 dX0_unmount_12 rfl (lv_at hl 1 rfl) ?_
    refine getX C hH 7 (by decide) q40 rfl (v := .ref (ad 7)) rfl dX0_unmount_13 ?_
    refine lv_iload_n C.1.1 C.1.2.1 dX0_unmount_16 rfl (lv_at hl 2 rfl) ?_
    refine lv_iconst (v := 0) C.1.1 C.1.2.1 dX0_unmount_17 (by decide) ?_
    have hH := AtX.eta hH
    refine stX_7 C hH (by decide) dX0_unmount_18 (b_ref c_7) (fun H locs hH => ?_)
    refine lv_iconst (v := 0) C.1.1 C.1.2.1 dX0_unmount_19 (by decide) ?_
    exact retX_i C hH dX0_unmount_20 (Eq.trans hR (tp c_7 rfl)).symm
  · refine lv_iload_n C.1.1 C.1.2.1 dX0_unmount_10 rfl (lv_at hl 0 rfl) ?_
    exact retX_i C hH dX0_unmount_11 (Eq.trans hR (tn c_7 rfl)).symm
-- method mkdir
set_option maxHeartbeats 4000000 in
theorem mX_mkdir (l : Launch) (G : va_G) (ad : Nat → Nat) (d : Nat → ClassId) (σ : SX) (p1 : Int32) (p2 : Int32) (hO : okX σ) : MetXi l yX0_mkdir cX0_mkdir 6 .int rmZ1 [.int p1, .int p2] G ad d σ (fX_mkdir σ p1 p2) := by
  refine metX_i (by decide +kernel) rfl (Nat.le_of_ble_eq_true rfl) (fun p e s m below meth c A ls C hH hl => ?_)
  have hl : lv_has ls 6 [(0, .ref (ad 0)), (1, .int p1), (2, .int p2)] := hl
  have hR : (fX_mkdir σ p1 p2) = (fX_mkdir σ p1 p2) := rfl
  generalize s.heap = H at hH ⊢
  generalize ([] : List Loc) = locs at hH ⊢
  refine lv_aload_n C.1.1 C.1.2.1 dX0_mkdir_0 rfl (lv_at hl 0 rfl) ?_
  refine lv_iload_n C.1.1 C.1.2.1 dX0_mkdir_1 rfl (lv_at hl 1 rfl) ?_
  refine callX_i C hH (av := [.int p1]) (rest := []) (mX_refused l G ad d σ p1 ) gwX_refused hdX_refused (by decide) rfl hl.1 rfl (Nat.le_of_ble_eq_true rfl) dX0_mkdir_2 ⟨Nat.zero_le _, Nat.zero_le _⟩ (fun r_ u_ H locs hH hw_ => ?_)
  obtain ⟨rfl, rfl⟩ : (fX_refused σ p1) = r_ ∧ σ = u_ := ⟨(congrArg Prod.fst hw_).symm, (congrArg Prod.snd hw_).symm⟩
  refine lv_istore_n (lv' := [(3, .int (fX_refused σ p1)), (0, .ref (ad 0)), (1, .int p1), (2, .int p2)]) C.1.1 C.1.2.1 dX0_mkdir_5 rfl hl (by decide) rfl (fun ls hl => ?_)
  refine lv_iload_n C.1.1 C.1.2.1 dX0_mkdir_6 rfl (lv_at hl 0 rfl) ?_
  refine lv_if_ge (tgt := 12) C.1.1 C.1.2.1 dX0_mkdir_7 (by decide) (fun c_7 => ?_) (fun c_7 => ?_)
  · refine lv_iload_n C.1.1 C.1.2.1 dX0_mkdir_12 rfl (lv_at hl 3 rfl) ?_
    refine lv_if_lt (tgt := 21) C.1.1 C.1.2.1 dX0_mkdir_13 (by decide) (fun c_13 => ?_) (fun c_13 => ?_)
    · refine lv_iconst (v := (-1)) C.1.1 C.1.2.1 dX0_mkdir_21 (by decide) ?_
      exact retX_i C hH dX0_mkdir_22 (Eq.trans hR (tp c_7 (tp c_13 rfl))).symm
    · refine lv_iload_n C.1.1 C.1.2.1 dX0_mkdir_16 rfl (lv_at hl 3 rfl) ?_
      refine lv_iconst (v := 1) C.1.1 C.1.2.1 dX0_mkdir_17 (by decide) ?_
      refine lv_icmp_le (tgt := 23) C.1.1 C.1.2.1 dX0_mkdir_18 (by decide) (fun c_18 => ?_) (fun c_18 => ?_)
      · have hm : vp_in p1 4 := b_ref c_7
        have ht : vp_in (6 + p1) 10 := b_top hm
        refine lv_aload_n C.1.1 C.1.2.1 dX0_mkdir_23 rfl (lv_at hl 1 rfl) ?_
        refine lv_iload_n C.1.1 C.1.2.1 dX0_mkdir_24 rfl (lv_at hl 2 rfl) ?_
        refine callX_i C hH (av := [.int p1]) (rest := []) (mX_top l G ad d σ p1 ) gwX_top hdX_top (by decide) rfl hl.1 rfl (Nat.le_of_ble_eq_true rfl) dX0_mkdir_25 ⟨Nat.zero_le _, Nat.zero_le _⟩ (fun r_ u_ H locs hH hw_ => ?_)
        obtain ⟨rfl, rfl⟩ : (fX_top p1) = r_ ∧ σ = u_ := ⟨(congrArg Prod.fst hw_).symm, (congrArg Prod.snd hw_).symm⟩
        refine lv_istore (lv' := [(4, .int (fX_top p1)), (3, .int (fX_refused σ p1)), (0, .ref (ad 0)), (1, .int p1), (2, .int p2)]) C.1.1 C.1.2.1 dX0_mkdir_28 hl (by decide) rfl (fun ls hl => ?_)
        refine lv_aload_n C.1.1 C.1.2.1 dX0_mkdir_30 rfl (lv_at hl 2 rfl) ?_
        refine lv_iload C.1.1 C.1.2.1 dX0_mkdir_31 (lv_at hl 0 rfl) ?_
        refine lv_iload_n C.1.1 C.1.2.1 dX0_mkdir_33 rfl (lv_at hl 4 rfl) ?_
        refine callX_i C hH (av := [.int (fX_top p1), .int p2]) (rest := []) (mX_directoryThere l G ad d σ (fX_top p1) p2 hO.1 (Or.inr ht)) gwX_directoryThere hdX_directoryThere (by decide) rfl hl.1 rfl (Nat.le_of_ble_eq_true rfl) dX0_mkdir_34 ⟨Nat.zero_le _, Nat.zero_le _⟩ (fun r_ u_ H locs hH hw_ => ?_)
        obtain ⟨rfl, rfl⟩ : (fX_directoryThere σ (fX_top p1) p2) = r_ ∧ σ = u_ := ⟨(congrArg Prod.fst hw_).symm, (congrArg Prod.snd hw_).symm⟩
        refine lv_istore (lv' := [(5, .int (fX_directoryThere σ (fX_top p1) p2)), (4, .int (fX_top p1)), (3, .int (fX_refused σ p1)), (0, .ref (ad 0)), (1, .int p1), (2, .int p2)]) C.1.1 C.1.2.1 dX0_mkdir_37 hl (by decide) rfl (fun ls hl => ?_)
        refine lv_iload C.1.1 C.1.2.1 dX0_mkdir_39 (lv_at hl 0 rfl) ?_
        refine lv_if_eq (tgt := 47) C.1.1 C.1.2.1 dX0_mkdir_41 (by decide) (fun c_41 => ?_) (fun c_41 => ?_)
        · refine lv_aload_n C.1.1 C.1.2.1 dX0_mkdir_47 rfl (lv_at hl 3 rfl) ?_
          refine getX C hH 4 (by decide) q37 rfl (v := .ref (ad 4)) rfl dX0_mkdir_48 ?_
          refine lv_iload C.1.1 C.1.2.1 dX0_mkdir_51 (lv_at hl 1 rfl) ?_
          refine lv_aload_n C.1.1 C.1.2.1 dX0_mkdir_53 rfl (lv_at hl 3 rfl) ?_
          refine getX C hH 4 (by decide) q37 rfl (v := .ref (ad 4)) rfl dX0_mkdir_54 ?_
          refine lv_iload C.1.1 C.1.2.1 dX0_mkdir_57 (lv_at hl 1 rfl) ?_
          refine ildX C hH 4 3 (f := (xOd σ)) rfl rfl dX0_mkdir_59 ht ?_
          refine lv_iconst (v := 1) C.1.1 C.1.2.1 dX0_mkdir_60 (by decide) ?_
          refine lv_iload_n C.1.1 C.1.2.1 dX0_mkdir_61 rfl (lv_at hl 5 rfl) ?_
          refine lv_ishl C.1.1 C.1.2.1 dX0_mkdir_62 ?_
          refine lv_ior C.1.1 C.1.2.1 dX0_mkdir_63 ?_
          have hH := AtX.eta hH
          refine stX_4 C hH dX0_mkdir_64 ht (fun H locs hH => ?_)
          refine lv_aload_n C.1.1 C.1.2.1 dX0_mkdir_65 rfl (lv_at hl 3 rfl) ?_
          refine getX C hH 5 (by decide) q38 rfl (v := .ref (ad 5)) rfl dX0_mkdir_66 ?_
          refine lv_iload C.1.1 C.1.2.1 dX0_mkdir_69 (lv_at hl 1 rfl) ?_
          refine lv_aload_n C.1.1 C.1.2.1 dX0_mkdir_71 rfl (lv_at hl 3 rfl) ?_
          refine getX C hH 5 (by decide) q38 rfl (v := .ref (ad 5)) rfl dX0_mkdir_72 ?_
          refine lv_iload C.1.1 C.1.2.1 dX0_mkdir_75 (lv_at hl 1 rfl) ?_
          refine ldX_5 C hH dX0_mkdir_77 ht ?_
          refine lv_iconst (v := 1) C.1.1 C.1.2.1 dX0_mkdir_78 (by decide) ?_
          refine lv_iload_n C.1.1 C.1.2.1 dX0_mkdir_79 rfl (lv_at hl 5 rfl) ?_
          refine lv_ishl C.1.1 C.1.2.1 dX0_mkdir_80 ?_
          refine lv_ior C.1.1 C.1.2.1 dX0_mkdir_81 ?_
          refine stX_5 C hH dX0_mkdir_82 ht (fun H locs hH => ?_)
          refine lv_iconst (v := 0) C.1.1 C.1.2.1 dX0_mkdir_83 (by decide) ?_
          exact retX_i C hH dX0_mkdir_84 (Eq.trans hR (tp c_7 (tn c_13 (tp c_18 (tp c_41 rfl))))).symm
        · refine lv_bipush (v := (-4)) C.1.1 C.1.2.1 dX0_mkdir_44 (by decide) ?_
          exact retX_i C hH dX0_mkdir_46 (Eq.trans hR (tp c_7 (tn c_13 (tp c_18 (tn c_41 rfl))))).symm
      · refine lv_iconst (v := (-1)) C.1.1 C.1.2.1 dX0_mkdir_21 (by decide) ?_
        exact retX_i C hH dX0_mkdir_22 (Eq.trans hR (tp c_7 (tn c_13 (tn c_18 rfl)))).symm
  · refine lv_iload_n C.1.1 C.1.2.1 dX0_mkdir_10 rfl (lv_at hl 0 rfl) ?_
    exact retX_i C hH dX0_mkdir_11 (Eq.trans hR (tn c_7 rfl)).symm
-- method rmdir
set_option maxHeartbeats 4000000 in
theorem mX_rmdir (l : Launch) (G : va_G) (ad : Nat → Nat) (d : Nat → ClassId) (σ : SX) (p1 : Int32) (p2 : Int32) (hO : okX σ) : MetXi l yX0_rmdir cX0_rmdir 8 .int rmZ2 [.int p1, .int p2] G ad d σ (fX_rmdir σ p1 p2) := by
  refine metX_i (by decide +kernel) rfl (Nat.le_of_ble_eq_true rfl) (fun p e s m below meth c A ls C hH hl => ?_)
  have hl : lv_has ls 8 [(0, .ref (ad 0)), (1, .int p1), (2, .int p2)] := hl
  have hR : (fX_rmdir σ p1 p2) = (fX_rmdir σ p1 p2) := rfl
  generalize s.heap = H at hH ⊢
  generalize ([] : List Loc) = locs at hH ⊢
  refine lv_aload_n C.1.1 C.1.2.1 dX0_rmdir_0 rfl (lv_at hl 0 rfl) ?_
  refine lv_iload_n C.1.1 C.1.2.1 dX0_rmdir_1 rfl (lv_at hl 1 rfl) ?_
  refine callX_i C hH (av := [.int p1]) (rest := []) (mX_refused l G ad d σ p1 ) gwX_refused hdX_refused (by decide) rfl hl.1 rfl (Nat.le_of_ble_eq_true rfl) dX0_rmdir_2 ⟨Nat.zero_le _, Nat.zero_le _⟩ (fun r_ u_ H locs hH hw_ => ?_)
  obtain ⟨rfl, rfl⟩ : (fX_refused σ p1) = r_ ∧ σ = u_ := ⟨(congrArg Prod.fst hw_).symm, (congrArg Prod.snd hw_).symm⟩
  refine lv_istore_n (lv' := [(3, .int (fX_refused σ p1)), (0, .ref (ad 0)), (1, .int p1), (2, .int p2)]) C.1.1 C.1.2.1 dX0_rmdir_5 rfl hl (by decide) rfl (fun ls hl => ?_)
  refine lv_iload_n C.1.1 C.1.2.1 dX0_rmdir_6 rfl (lv_at hl 0 rfl) ?_
  refine lv_if_ge (tgt := 12) C.1.1 C.1.2.1 dX0_rmdir_7 (by decide) (fun c_7 => ?_) (fun c_7 => ?_)
  · refine lv_iload_n C.1.1 C.1.2.1 dX0_rmdir_12 rfl (lv_at hl 3 rfl) ?_
    refine lv_if_lt (tgt := 21) C.1.1 C.1.2.1 dX0_rmdir_13 (by decide) (fun c_13 => ?_) (fun c_13 => ?_)
    · refine lv_iconst (v := (-1)) C.1.1 C.1.2.1 dX0_rmdir_21 (by decide) ?_
      exact retX_i C hH dX0_rmdir_22 (Eq.trans hR (tp c_7 (tp c_13 rfl))).symm
    · refine lv_iload_n C.1.1 C.1.2.1 dX0_rmdir_16 rfl (lv_at hl 3 rfl) ?_
      refine lv_iconst (v := 1) C.1.1 C.1.2.1 dX0_rmdir_17 (by decide) ?_
      refine lv_icmp_le (tgt := 23) C.1.1 C.1.2.1 dX0_rmdir_18 (by decide) (fun c_18 => ?_) (fun c_18 => ?_)
      · have hm : vp_in p1 4 := b_ref c_7
        have ht : vp_in (6 + p1) 10 := b_top hm
        refine lv_aload_n C.1.1 C.1.2.1 dX0_rmdir_23 rfl (lv_at hl 1 rfl) ?_
        refine lv_iload_n C.1.1 C.1.2.1 dX0_rmdir_24 rfl (lv_at hl 2 rfl) ?_
        refine callX_i C hH (av := [.int p1]) (rest := []) (mX_top l G ad d σ p1 ) gwX_top hdX_top (by decide) rfl hl.1 rfl (Nat.le_of_ble_eq_true rfl) dX0_rmdir_25 ⟨Nat.zero_le _, Nat.zero_le _⟩ (fun r_ u_ H locs hH hw_ => ?_)
        obtain ⟨rfl, rfl⟩ : (fX_top p1) = r_ ∧ σ = u_ := ⟨(congrArg Prod.fst hw_).symm, (congrArg Prod.snd hw_).symm⟩
        refine lv_istore (lv' := [(4, .int (fX_top p1)), (3, .int (fX_refused σ p1)), (0, .ref (ad 0)), (1, .int p1), (2, .int p2)]) C.1.1 C.1.2.1 dX0_rmdir_28 hl (by decide) rfl (fun ls hl => ?_)
        refine lv_aload_n C.1.1 C.1.2.1 dX0_rmdir_30 rfl (lv_at hl 2 rfl) ?_
        refine lv_iload C.1.1 C.1.2.1 dX0_rmdir_31 (lv_at hl 0 rfl) ?_
        refine lv_iload_n C.1.1 C.1.2.1 dX0_rmdir_33 rfl (lv_at hl 4 rfl) ?_
        refine callX_i C hH (av := [.int (fX_top p1), .int p2]) (rest := []) (mX_directoryThere l G ad d σ (fX_top p1) p2 hO.1 (Or.inr ht)) gwX_directoryThere hdX_directoryThere (by decide) rfl hl.1 rfl (Nat.le_of_ble_eq_true rfl) dX0_rmdir_34 ⟨Nat.zero_le _, Nat.zero_le _⟩ (fun r_ u_ H locs hH hw_ => ?_)
        obtain ⟨rfl, rfl⟩ : (fX_directoryThere σ (fX_top p1) p2) = r_ ∧ σ = u_ := ⟨(congrArg Prod.fst hw_).symm, (congrArg Prod.snd hw_).symm⟩
        refine lv_istore (lv' := [(5, .int (fX_directoryThere σ (fX_top p1) p2)), (4, .int (fX_top p1)), (3, .int (fX_refused σ p1)), (0, .ref (ad 0)), (1, .int p1), (2, .int p2)]) C.1.1 C.1.2.1 dX0_rmdir_37 hl (by decide) rfl (fun ls hl => ?_)
        refine lv_iload C.1.1 C.1.2.1 dX0_rmdir_39 (lv_at hl 0 rfl) ?_
        refine lv_if_ne (tgt := 47) C.1.1 C.1.2.1 dX0_rmdir_41 (by decide) (fun c_41 => ?_) (fun c_41 => ?_)
        · refine lv_aload_n C.1.1 C.1.2.1 dX0_rmdir_47 rfl (lv_at hl 3 rfl) ?_
          refine lv_iload C.1.1 C.1.2.1 dX0_rmdir_48 (lv_at hl 1 rfl) ?_
          refine callX_i C hH (av := [.int (fX_top p1)]) (rest := []) (mX_filesSeen l G ad d σ (fX_top p1) hO.1 (Or.inr ht)) gwX_filesSeen hdX_filesSeen (by decide) rfl hl.1 rfl (Nat.le_of_ble_eq_true rfl) dX0_rmdir_50 ⟨Nat.zero_le _, Nat.zero_le _⟩ (fun r_ u_ H locs hH hw_ => ?_)
          obtain ⟨rfl, rfl⟩ : (fX_filesSeen σ (fX_top p1)) = r_ ∧ σ = u_ := ⟨(congrArg Prod.fst hw_).symm, (congrArg Prod.snd hw_).symm⟩
          refine lv_istore (lv' := [(6, .int (fX_filesSeen σ (fX_top p1))), (5, .int (fX_directoryThere σ (fX_top p1) p2)), (4, .int (fX_top p1)), (3, .int (fX_refused σ p1)), (0, .ref (ad 0)), (1, .int p1), (2, .int p2)]) C.1.1 C.1.2.1 dX0_rmdir_53 hl (by decide) rfl (fun ls hl => ?_)
          refine lv_iload C.1.1 C.1.2.1 dX0_rmdir_55 (lv_at hl 0 rfl) ?_
          refine lv_aload_n C.1.1 C.1.2.1 dX0_rmdir_57 rfl (lv_at hl 4 rfl) ?_
          refine lv_iload_n C.1.1 C.1.2.1 dX0_rmdir_58 rfl (lv_at hl 6 rfl) ?_
          refine callX_i C hH (av := [.int p2]) (rest := [.int (fX_filesSeen σ (fX_top p1))]) (mX_filesOf l G ad d σ p2 ) gwX_filesOf hdX_filesOf (by decide) rfl hl.1 rfl (Nat.le_of_ble_eq_true rfl) dX0_rmdir_59 ⟨Nat.zero_le _, Nat.zero_le _⟩ (fun r_ u_ H locs hH hw_ => ?_)
          obtain ⟨rfl, rfl⟩ : (fX_filesOf p2) = r_ ∧ σ = u_ := ⟨(congrArg Prod.fst hw_).symm, (congrArg Prod.snd hw_).symm⟩
          refine lv_iand C.1.1 C.1.2.1 dX0_rmdir_62 ?_
          refine lv_istore (lv' := [(7, .int ((fX_filesSeen σ (fX_top p1)) &&& (fX_filesOf p2))), (6, .int (fX_filesSeen σ (fX_top p1))), (5, .int (fX_directoryThere σ (fX_top p1) p2)), (4, .int (fX_top p1)), (3, .int (fX_refused σ p1)), (0, .ref (ad 0)), (1, .int p1), (2, .int p2)]) C.1.1 C.1.2.1 dX0_rmdir_63 hl (by decide) rfl (fun ls hl => ?_)
          refine lv_aload_n C.1.1 C.1.2.1 dX0_rmdir_65 rfl (lv_at hl 5 rfl) ?_
          refine getX C hH 2 (by decide) q35 rfl (v := .ref (ad 2)) rfl dX0_rmdir_66 ?_
          refine lv_iload C.1.1 C.1.2.1 dX0_rmdir_69 (lv_at hl 3 rfl) ?_
          refine lv_aload_n C.1.1 C.1.2.1 dX0_rmdir_71 rfl (lv_at hl 5 rfl) ?_
          refine getX C hH 2 (by decide) q35 rfl (v := .ref (ad 2)) rfl dX0_rmdir_72 ?_
          refine lv_iload C.1.1 C.1.2.1 dX0_rmdir_75 (lv_at hl 3 rfl) ?_
          refine ildX C hH 2 1 (f := (xOw σ)) rfl rfl dX0_rmdir_77 ht ?_
          refine lv_aload_n C.1.1 C.1.2.1 dX0_rmdir_78 rfl (lv_at hl 5 rfl) ?_
          refine lv_iload_n C.1.1 C.1.2.1 dX0_rmdir_79 rfl (lv_at hl 7 rfl) ?_
          refine callX_i C hH (av := [.int p2]) (rest := [.int ((xOw σ) (fX_top p1).toNatClampNeg), .int (fX_top p1), .ref (ad 2)]) (mX_filesOf l G ad d σ p2 ) gwX_filesOf hdX_filesOf (by decide) rfl hl.1 rfl (Nat.le_of_ble_eq_true rfl) dX0_rmdir_80 ⟨Nat.zero_le _, Nat.zero_le _⟩ (fun r_ u_ H locs hH hw_ => ?_)
          obtain ⟨rfl, rfl⟩ : (fX_filesOf p2) = r_ ∧ σ = u_ := ⟨(congrArg Prod.fst hw_).symm, (congrArg Prod.snd hw_).symm⟩
          refine lv_iconst (v := (-1)) C.1.1 C.1.2.1 dX0_rmdir_83 (by decide) ?_
          refine lv_ixor C.1.1 C.1.2.1 dX0_rmdir_84 ?_
          refine lv_iand C.1.1 C.1.2.1 dX0_rmdir_85 ?_
          have hH := AtX.eta hH
          refine stX_2 C hH dX0_rmdir_86 ht (fun H locs hH => ?_)
          refine lv_aload_n C.1.1 C.1.2.1 dX0_rmdir_87 rfl (lv_at hl 5 rfl) ?_
          refine getX C hH 3 (by decide) q36 rfl (v := .ref (ad 3)) rfl dX0_rmdir_88 ?_
          refine lv_iload C.1.1 C.1.2.1 dX0_rmdir_91 (lv_at hl 3 rfl) ?_
          refine lv_aload_n C.1.1 C.1.2.1 dX0_rmdir_93 rfl (lv_at hl 5 rfl) ?_
          refine getX C hH 3 (by decide) q36 rfl (v := .ref (ad 3)) rfl dX0_rmdir_94 ?_
          refine lv_iload C.1.1 C.1.2.1 dX0_rmdir_97 (lv_at hl 3 rfl) ?_
          refine ldX_3 C hH dX0_rmdir_99 ht ?_
          refine lv_aload_n C.1.1 C.1.2.1 dX0_rmdir_100 rfl (lv_at hl 5 rfl) ?_
          refine lv_iload_n C.1.1 C.1.2.1 dX0_rmdir_101 rfl (lv_at hl 7 rfl) ?_
          refine callX_i C hH (av := [.int p2]) (rest := [.int ((xHi σ) (fX_top p1).toNatClampNeg), .int (fX_top p1), .ref (ad 3)]) (mX_filesOf l G ad d ((xL σ), (xUn σ), (upd (xOw σ) (fX_top p1).toNatClampNeg (((xOw σ) (fX_top p1).toNatClampNeg) &&& ((fX_filesOf p2) ^^^ (-1)))), (xHi σ), (xOd σ), (xHd σ), (xCt σ), (xIu σ)) p2 ) gwX_filesOf hdX_filesOf (by decide) rfl hl.1 rfl (Nat.le_of_ble_eq_true rfl) dX0_rmdir_102 ⟨Nat.zero_le _, Nat.zero_le _⟩ (fun r_ u_ H locs hH hw_ => ?_)
          obtain ⟨rfl, rfl⟩ : (fX_filesOf p2) = r_ ∧ ((xL σ), (xUn σ), (upd (xOw σ) (fX_top p1).toNatClampNeg (((xOw σ) (fX_top p1).toNatClampNeg) &&& ((fX_filesOf p2) ^^^ (-1)))), (xHi σ), (xOd σ), (xHd σ), (xCt σ), (xIu σ)) = u_ := ⟨(congrArg Prod.fst hw_).symm, (congrArg Prod.snd hw_).symm⟩
          refine lv_iconst (v := (-1)) C.1.1 C.1.2.1 dX0_rmdir_105 (by decide) ?_
          refine lv_ixor C.1.1 C.1.2.1 dX0_rmdir_106 ?_
          refine lv_iand C.1.1 C.1.2.1 dX0_rmdir_107 ?_
          refine stX_3 C hH dX0_rmdir_108 ht (fun H locs hH => ?_)
          refine lv_aload_n C.1.1 C.1.2.1 dX0_rmdir_109 rfl (lv_at hl 5 rfl) ?_
          refine getX C hH 4 (by decide) q37 rfl (v := .ref (ad 4)) rfl dX0_rmdir_110 ?_
          refine lv_iload C.1.1 C.1.2.1 dX0_rmdir_113 (lv_at hl 3 rfl) ?_
          refine lv_aload_n C.1.1 C.1.2.1 dX0_rmdir_115 rfl (lv_at hl 5 rfl) ?_
          refine getX C hH 4 (by decide) q37 rfl (v := .ref (ad 4)) rfl dX0_rmdir_116 ?_
          refine lv_iload C.1.1 C.1.2.1 dX0_rmdir_119 (lv_at hl 3 rfl) ?_
          refine ldX_4 C hH dX0_rmdir_121 ht ?_
          refine lv_iconst (v := 1) C.1.1 C.1.2.1 dX0_rmdir_122 (by decide) ?_
          refine lv_iload_n C.1.1 C.1.2.1 dX0_rmdir_123 rfl (lv_at hl 7 rfl) ?_
          refine lv_ishl C.1.1 C.1.2.1 dX0_rmdir_124 ?_
          refine lv_iconst (v := (-1)) C.1.1 C.1.2.1 dX0_rmdir_125 (by decide) ?_
          refine lv_ixor C.1.1 C.1.2.1 dX0_rmdir_126 ?_
          refine lv_iand C.1.1 C.1.2.1 dX0_rmdir_127 ?_
          refine stX_4 C hH dX0_rmdir_128 ht (fun H locs hH => ?_)
          refine lv_aload_n C.1.1 C.1.2.1 dX0_rmdir_129 rfl (lv_at hl 5 rfl) ?_
          refine getX C hH 5 (by decide) q38 rfl (v := .ref (ad 5)) rfl dX0_rmdir_130 ?_
          refine lv_iload C.1.1 C.1.2.1 dX0_rmdir_133 (lv_at hl 3 rfl) ?_
          refine lv_aload_n C.1.1 C.1.2.1 dX0_rmdir_135 rfl (lv_at hl 5 rfl) ?_
          refine getX C hH 5 (by decide) q38 rfl (v := .ref (ad 5)) rfl dX0_rmdir_136 ?_
          refine lv_iload C.1.1 C.1.2.1 dX0_rmdir_139 (lv_at hl 3 rfl) ?_
          refine ldX_5 C hH dX0_rmdir_141 ht ?_
          refine lv_iconst (v := 1) C.1.1 C.1.2.1 dX0_rmdir_142 (by decide) ?_
          refine lv_iload_n C.1.1 C.1.2.1 dX0_rmdir_143 rfl (lv_at hl 7 rfl) ?_
          refine lv_ishl C.1.1 C.1.2.1 dX0_rmdir_144 ?_
          refine lv_ior C.1.1 C.1.2.1 dX0_rmdir_145 ?_
          refine stX_5 C hH dX0_rmdir_146 ht (fun H locs hH => ?_)
          refine lv_aload_n C.1.1 C.1.2.1 dX0_rmdir_147 rfl (lv_at hl 5 rfl) ?_
          refine lv_iload C.1.1 C.1.2.1 dX0_rmdir_148 (lv_at hl 0 rfl) ?_
          refine callX_i C hH (av := [.int ((fX_filesSeen σ (fX_top p1)) &&& (fX_filesOf p2))]) (rest := []) (mX_sizeOf l G ad d ((xL σ), (xUn σ), (upd (xOw σ) (fX_top p1).toNatClampNeg (((xOw σ) (fX_top p1).toNatClampNeg) &&& ((fX_filesOf p2) ^^^ (-1)))), (upd (xHi σ) (fX_top p1).toNatClampNeg (((xHi σ) (fX_top p1).toNatClampNeg) &&& ((fX_filesOf p2) ^^^ (-1)))), (upd (xOd σ) (fX_top p1).toNatClampNeg (((xOd σ) (fX_top p1).toNatClampNeg) &&& (((1 : Int32) <<< (p2 &&& 31)) ^^^ (-1)))), (upd (xHd σ) (fX_top p1).toNatClampNeg (((xHd σ) (fX_top p1).toNatClampNeg) ||| ((1 : Int32) <<< (p2 &&& 31)))), (xCt σ), (xIu σ)) ((fX_filesSeen σ (fX_top p1)) &&& (fX_filesOf p2)) ) gwX_sizeOf hdX_sizeOf (by decide) rfl hl.1 rfl (Nat.le_of_ble_eq_true rfl) dX0_rmdir_150 ⟨Nat.zero_le _, Nat.zero_le _⟩ (fun r_ u_ H locs hH hw_ => ?_)
          obtain ⟨rfl, rfl⟩ : (fX_sizeOf ((fX_filesSeen σ (fX_top p1)) &&& (fX_filesOf p2))) = r_ ∧ ((xL σ), (xUn σ), (upd (xOw σ) (fX_top p1).toNatClampNeg (((xOw σ) (fX_top p1).toNatClampNeg) &&& ((fX_filesOf p2) ^^^ (-1)))), (upd (xHi σ) (fX_top p1).toNatClampNeg (((xHi σ) (fX_top p1).toNatClampNeg) &&& ((fX_filesOf p2) ^^^ (-1)))), (upd (xOd σ) (fX_top p1).toNatClampNeg (((xOd σ) (fX_top p1).toNatClampNeg) &&& (((1 : Int32) <<< (p2 &&& 31)) ^^^ (-1)))), (upd (xHd σ) (fX_top p1).toNatClampNeg (((xHd σ) (fX_top p1).toNatClampNeg) ||| ((1 : Int32) <<< (p2 &&& 31)))), (xCt σ), (xIu σ)) = u_ := ⟨(congrArg Prod.fst hw_).symm, (congrArg Prod.snd hw_).symm⟩
          exact retX_i C hH dX0_rmdir_153 (Eq.trans hR (tp c_7 (tn c_13 (tp c_18 (tn c_41 rfl))))).symm
        · refine lv_bipush (v := (-4)) C.1.1 C.1.2.1 dX0_rmdir_44 (by decide) ?_
          exact retX_i C hH dX0_rmdir_46 (Eq.trans hR (tp c_7 (tn c_13 (tp c_18 (tp c_41 rfl))))).symm
      · refine lv_iconst (v := (-1)) C.1.1 C.1.2.1 dX0_rmdir_21 (by decide) ?_
        exact retX_i C hH dX0_rmdir_22 (Eq.trans hR (tp c_7 (tn c_13 (tn c_18 rfl)))).symm
  · refine lv_iload_n C.1.1 C.1.2.1 dX0_rmdir_10 rfl (lv_at hl 0 rfl) ?_
    exact retX_i C hH dX0_rmdir_11 (Eq.trans hR (tn c_7 rfl)).symm
end
section
set_option maxRecDepth 100000
-- method write
set_option maxHeartbeats 4000000 in
theorem mX_write (l : Launch) (G : va_G) (ad : Nat → Nat) (d : Nat → ClassId) (σ : SX) (p1 : Int32) (p2 : Int32) (p3 : Int32) (hO : okX σ) : MetXi l yX0_write cX0_write 8 .int rmZ1 [.int p1, .int p2, .int p3] G ad d σ (fX_write σ p1 p2 p3) := by
  refine metX_i (by decide +kernel) rfl (Nat.le_of_ble_eq_true rfl) (fun p e s m below meth c A ls C hH hl => ?_)
  have hl : lv_has ls 8 [(0, .ref (ad 0)), (1, .int p1), (2, .int p2), (3, .int p3)] := hl
  have hR : (fX_write σ p1 p2 p3) = (fX_write σ p1 p2 p3) := rfl
  generalize s.heap = H at hH ⊢
  generalize ([] : List Loc) = locs at hH ⊢
  refine lv_aload_n C.1.1 C.1.2.1 dX0_write_0 rfl (lv_at hl 0 rfl) ?_
  refine lv_iload_n C.1.1 C.1.2.1 dX0_write_1 rfl (lv_at hl 1 rfl) ?_
  refine callX_i C hH (av := [.int p1]) (rest := []) (mX_refused l G ad d σ p1 ) gwX_refused hdX_refused (by decide) rfl hl.1 rfl (Nat.le_of_ble_eq_true rfl) dX0_write_2 ⟨Nat.zero_le _, Nat.zero_le _⟩ (fun r_ u_ H locs hH hw_ => ?_)
  obtain ⟨rfl, rfl⟩ : (fX_refused σ p1) = r_ ∧ σ = u_ := ⟨(congrArg Prod.fst hw_).symm, (congrArg Prod.snd hw_).symm⟩
  refine lv_istore (lv' := [(4, .int (fX_refused σ p1)), (0, .ref (ad 0)), (1, .int p1), (2, .int p2), (3, .int p3)]) C.1.1 C.1.2.1 dX0_write_5 hl (by decide) rfl (fun ls hl => ?_)
  refine lv_iload C.1.1 C.1.2.1 dX0_write_7 (lv_at hl 0 rfl) ?_
  refine lv_if_ge (tgt := 15) C.1.1 C.1.2.1 dX0_write_9 (by decide) (fun c_9 => ?_) (fun c_9 => ?_)
  · refine lv_aload_n C.1.1 C.1.2.1 dX0_write_15 rfl (lv_at hl 1 rfl) ?_
    refine lv_iload_n C.1.1 C.1.2.1 dX0_write_16 rfl (lv_at hl 3 rfl) ?_
    refine callX_i C hH (av := [.int p2]) (rest := []) (mX_badFile l G ad d σ p2 ) gwX_badFile hdX_badFile (by decide) rfl hl.1 rfl (Nat.le_of_ble_eq_true rfl) dX0_write_17 ⟨Nat.zero_le _, Nat.zero_le _⟩ (fun r_ u_ H locs hH hw_ => ?_)
    obtain ⟨rfl, rfl⟩ : (fX_badFile p2) = r_ ∧ σ = u_ := ⟨(congrArg Prod.fst hw_).symm, (congrArg Prod.snd hw_).symm⟩
    refine lv_if_eq (tgt := 25) C.1.1 C.1.2.1 dX0_write_20 (by decide) (fun c_20 => ?_) (fun c_20 => ?_)
    · have hm : vp_in p1 4 := b_ref c_9
      have ht : vp_in (6 + p1) 10 := b_top hm
      have hf : vp_in p2 8 := b_bad c_20
      refine lv_aload_n C.1.1 C.1.2.1 dX0_write_25 rfl (lv_at hl 1 rfl) ?_
      refine lv_iload_n C.1.1 C.1.2.1 dX0_write_26 rfl (lv_at hl 2 rfl) ?_
      refine callX_i C hH (av := [.int p1]) (rest := []) (mX_top l G ad d σ p1 ) gwX_top hdX_top (by decide) rfl hl.1 rfl (Nat.le_of_ble_eq_true rfl) dX0_write_27 ⟨Nat.zero_le _, Nat.zero_le _⟩ (fun r_ u_ H locs hH hw_ => ?_)
      obtain ⟨rfl, rfl⟩ : (fX_top p1) = r_ ∧ σ = u_ := ⟨(congrArg Prod.fst hw_).symm, (congrArg Prod.snd hw_).symm⟩
      refine lv_istore (lv' := [(5, .int (fX_top p1)), (4, .int (fX_refused σ p1)), (0, .ref (ad 0)), (1, .int p1), (2, .int p2), (3, .int p3)]) C.1.1 C.1.2.1 dX0_write_30 hl (by decide) rfl (fun ls hl => ?_)
      refine lv_aload_n C.1.1 C.1.2.1 dX0_write_32 rfl (lv_at hl 2 rfl) ?_
      refine lv_iload C.1.1 C.1.2.1 dX0_write_33 (lv_at hl 0 rfl) ?_
      refine lv_iload_n C.1.1 C.1.2.1 dX0_write_35 rfl (lv_at hl 4 rfl) ?_
      refine lv_iconst (v := 2) C.1.1 C.1.2.1 dX0_write_36 (by decide) ?_
      refine lv_ishr C.1.1 C.1.2.1 dX0_write_37 ?_
      refine callX_i C hH (av := [.int (fX_top p1), .int (p2 >>> (2 &&& 31))]) (rest := []) (mX_directoryThere l G ad d σ (fX_top p1) (p2 >>> (2 &&& 31)) hO.1 (Or.inr ht)) gwX_directoryThere hdX_directoryThere (by decide) rfl hl.1 rfl (Nat.le_of_ble_eq_true rfl) dX0_write_38 ⟨Nat.zero_le _, Nat.zero_le _⟩ (fun r_ u_ H locs hH hw_ => ?_)
      obtain ⟨rfl, rfl⟩ : (fX_directoryThere σ (fX_top p1) (p2 >>> (2 &&& 31))) = r_ ∧ σ = u_ := ⟨(congrArg Prod.fst hw_).symm, (congrArg Prod.snd hw_).symm⟩
      refine lv_istore (lv' := [(6, .int (fX_directoryThere σ (fX_top p1) (p2 >>> (2 &&& 31)))), (5, .int (fX_top p1)), (4, .int (fX_refused σ p1)), (0, .ref (ad 0)), (1, .int p1), (2, .int p2), (3, .int p3)]) C.1.1 C.1.2.1 dX0_write_41 hl (by decide) rfl (fun ls hl => ?_)
      refine lv_iload C.1.1 C.1.2.1 dX0_write_43 (lv_at hl 0 rfl) ?_
      refine lv_if_ne (tgt := 51) C.1.1 C.1.2.1 dX0_write_45 (by decide) (fun c_45 => ?_) (fun c_45 => ?_)
      · refine lv_aload_n C.1.1 C.1.2.1 dX0_write_51 rfl (lv_at hl 3 rfl) ?_
        refine lv_iload C.1.1 C.1.2.1 dX0_write_52 (lv_at hl 1 rfl) ?_
        refine lv_iload_n C.1.1 C.1.2.1 dX0_write_54 rfl (lv_at hl 5 rfl) ?_
        refine callX_i C hH (av := [.int (fX_top p1), .int p2]) (rest := []) (mX_holder l G ad d σ (fX_top p1) p2 hO.1 (Or.inr ht)) gwX_holder hdX_holder (by decide) rfl hl.1 rfl (Nat.le_of_ble_eq_true rfl) dX0_write_55 ⟨Nat.zero_le _, Nat.zero_le _⟩ (fun r_ u_ H locs hH hw_ => ?_)
        obtain ⟨rfl, rfl⟩ : (fX_holder σ (fX_top p1) p2) = r_ ∧ σ = u_ := ⟨(congrArg Prod.fst hw_).symm, (congrArg Prod.snd hw_).symm⟩
        refine lv_istore (lv' := [(7, .int (fX_holder σ (fX_top p1) p2)), (6, .int (fX_directoryThere σ (fX_top p1) (p2 >>> (2 &&& 31)))), (5, .int (fX_top p1)), (4, .int (fX_refused σ p1)), (0, .ref (ad 0)), (1, .int p1), (2, .int p2), (3, .int p3)]) C.1.1 C.1.2.1 dX0_write_58 hl (by decide) rfl (fun ls hl => ?_)
        refine lv_aload_n C.1.1 C.1.2.1 dX0_write_60 rfl (lv_at hl 4 rfl) ?_
        refine lv_iload C.1.1 C.1.2.1 dX0_write_61 (lv_at hl 2 rfl) ?_
        refine lv_iload_n C.1.1 C.1.2.1 dX0_write_63 rfl (lv_at hl 6 rfl) ?_
        refine lv_iload_n C.1.1 C.1.2.1 dX0_write_64 rfl (lv_at hl 7 rfl) ?_
        refine callX_v C hH (av := [.int (fX_top p1), .int p2, .int p3]) (rest := []) (mX_setFile l G ad d σ (fX_top p1) p2 p3 ht (b_ct ht hf)) gwX_setFile hdX_setFile (by decide) rfl hl.1 rfl (Nat.le_of_ble_eq_true rfl) dX0_write_65 ⟨Nat.zero_le _, Nat.zero_le _⟩ (fun u_ H locs hH hw_ => ?_)
        subst hw_
        refine lv_iload C.1.1 C.1.2.1 dX0_write_68 (lv_at hl 0 rfl) ?_
        refine lv_if_ge (tgt := 77) C.1.1 C.1.2.1 dX0_write_70 (by decide) (fun c_70 => ?_) (fun c_70 => ?_)
        · refine lv_iconst (v := 1) C.1.1 C.1.2.1 dX0_write_77 (by decide) ?_
          exact retX_i C hH dX0_write_78 (Eq.trans hR (tp c_9 (tp c_20 (tn c_45 (tp c_70 rfl))))).symm
        · refine lv_iconst (v := 0) C.1.1 C.1.2.1 dX0_write_73 (by decide) ?_
          refine lv_goto (tgt := 78) C.1.1 C.1.2.1 dX0_write_74 (by decide) ?_
          exact retX_i C hH dX0_write_78 (Eq.trans hR (tp c_9 (tp c_20 (tn c_45 (tn c_70 rfl))))).symm
      · refine lv_bipush (v := (-4)) C.1.1 C.1.2.1 dX0_write_48 (by decide) ?_
        exact retX_i C hH dX0_write_50 (Eq.trans hR (tp c_9 (tp c_20 (tp c_45 rfl)))).symm
    · refine lv_iconst (v := (-1)) C.1.1 C.1.2.1 dX0_write_23 (by decide) ?_
      exact retX_i C hH dX0_write_24 (Eq.trans hR (tp c_9 (tn c_20 rfl))).symm
  · refine lv_iload C.1.1 C.1.2.1 dX0_write_12 (lv_at hl 0 rfl) ?_
    exact retX_i C hH dX0_write_14 (Eq.trans hR (tn c_9 rfl)).symm
-- method grow
set_option maxHeartbeats 4000000 in
theorem mX_grow (l : Launch) (G : va_G) (ad : Nat → Nat) (d : Nat → ClassId) (σ : SX) (p1 : Int32) (p2 : Int32) (p3 : Int32) (hO : okX σ) : MetXi l yX0_grow cX0_grow 7 .int rmZ1 [.int p1, .int p2, .int p3] G ad d σ (fX_grow σ p1 p2 p3) := by
  refine metX_i (by decide +kernel) rfl (Nat.le_of_ble_eq_true rfl) (fun p e s m below meth c A ls C hH hl => ?_)
  have hl : lv_has ls 7 [(0, .ref (ad 0)), (1, .int p1), (2, .int p2), (3, .int p3)] := hl
  have hR : (fX_grow σ p1 p2 p3) = (fX_grow σ p1 p2 p3) := rfl
  generalize s.heap = H at hH ⊢
  generalize ([] : List Loc) = locs at hH ⊢
  refine lv_aload_n C.1.1 C.1.2.1 dX0_grow_0 rfl (lv_at hl 0 rfl) ?_
  refine lv_iload_n C.1.1 C.1.2.1 dX0_grow_1 rfl (lv_at hl 1 rfl) ?_
  refine callX_i C hH (av := [.int p1]) (rest := []) (mX_refused l G ad d σ p1 ) gwX_refused hdX_refused (by decide) rfl hl.1 rfl (Nat.le_of_ble_eq_true rfl) dX0_grow_2 ⟨Nat.zero_le _, Nat.zero_le _⟩ (fun r_ u_ H locs hH hw_ => ?_)
  obtain ⟨rfl, rfl⟩ : (fX_refused σ p1) = r_ ∧ σ = u_ := ⟨(congrArg Prod.fst hw_).symm, (congrArg Prod.snd hw_).symm⟩
  refine lv_istore (lv' := [(4, .int (fX_refused σ p1)), (0, .ref (ad 0)), (1, .int p1), (2, .int p2), (3, .int p3)]) C.1.1 C.1.2.1 dX0_grow_5 hl (by decide) rfl (fun ls hl => ?_)
  refine lv_iload C.1.1 C.1.2.1 dX0_grow_7 (lv_at hl 0 rfl) ?_
  refine lv_if_ge (tgt := 15) C.1.1 C.1.2.1 dX0_grow_9 (by decide) (fun c_9 => ?_) (fun c_9 => ?_)
  · refine lv_aload_n C.1.1 C.1.2.1 dX0_grow_15 rfl (lv_at hl 1 rfl) ?_
    refine lv_iload_n C.1.1 C.1.2.1 dX0_grow_16 rfl (lv_at hl 3 rfl) ?_
    refine callX_i C hH (av := [.int p2]) (rest := []) (mX_badFile l G ad d σ p2 ) gwX_badFile hdX_badFile (by decide) rfl hl.1 rfl (Nat.le_of_ble_eq_true rfl) dX0_grow_17 ⟨Nat.zero_le _, Nat.zero_le _⟩ (fun r_ u_ H locs hH hw_ => ?_)
    obtain ⟨rfl, rfl⟩ : (fX_badFile p2) = r_ ∧ σ = u_ := ⟨(congrArg Prod.fst hw_).symm, (congrArg Prod.snd hw_).symm⟩
    refine lv_if_eq (tgt := 25) C.1.1 C.1.2.1 dX0_grow_20 (by decide) (fun c_20 => ?_) (fun c_20 => ?_)
    · have hm : vp_in p1 4 := b_ref c_9
      have ht : vp_in (6 + p1) 10 := b_top hm
      have hf : vp_in p2 8 := b_bad c_20
      refine lv_aload_n C.1.1 C.1.2.1 dX0_grow_25 rfl (lv_at hl 1 rfl) ?_
      refine lv_iload_n C.1.1 C.1.2.1 dX0_grow_26 rfl (lv_at hl 2 rfl) ?_
      refine callX_i C hH (av := [.int p1]) (rest := []) (mX_top l G ad d σ p1 ) gwX_top hdX_top (by decide) rfl hl.1 rfl (Nat.le_of_ble_eq_true rfl) dX0_grow_27 ⟨Nat.zero_le _, Nat.zero_le _⟩ (fun r_ u_ H locs hH hw_ => ?_)
      obtain ⟨rfl, rfl⟩ : (fX_top p1) = r_ ∧ σ = u_ := ⟨(congrArg Prod.fst hw_).symm, (congrArg Prod.snd hw_).symm⟩
      refine lv_istore (lv' := [(5, .int (fX_top p1)), (4, .int (fX_refused σ p1)), (0, .ref (ad 0)), (1, .int p1), (2, .int p2), (3, .int p3)]) C.1.1 C.1.2.1 dX0_grow_30 hl (by decide) rfl (fun ls hl => ?_)
      refine lv_aload_n C.1.1 C.1.2.1 dX0_grow_32 rfl (lv_at hl 2 rfl) ?_
      refine lv_iload C.1.1 C.1.2.1 dX0_grow_33 (lv_at hl 0 rfl) ?_
      refine lv_iload_n C.1.1 C.1.2.1 dX0_grow_35 rfl (lv_at hl 4 rfl) ?_
      refine callX_i C hH (av := [.int (fX_top p1), .int p2]) (rest := []) (mX_holder l G ad d σ (fX_top p1) p2 hO.1 (Or.inr ht)) gwX_holder hdX_holder (by decide) rfl hl.1 rfl (Nat.le_of_ble_eq_true rfl) dX0_grow_36 ⟨Nat.zero_le _, Nat.zero_le _⟩ (fun r_ u_ H locs hH hw_ => ?_)
      obtain ⟨rfl, rfl⟩ : (fX_holder σ (fX_top p1) p2) = r_ ∧ σ = u_ := ⟨(congrArg Prod.fst hw_).symm, (congrArg Prod.snd hw_).symm⟩
      refine lv_istore (lv' := [(6, .int (fX_holder σ (fX_top p1) p2)), (5, .int (fX_top p1)), (4, .int (fX_refused σ p1)), (0, .ref (ad 0)), (1, .int p1), (2, .int p2), (3, .int p3)]) C.1.1 C.1.2.1 dX0_grow_39 hl (by decide) rfl (fun ls hl => ?_)
      refine lv_iload C.1.1 C.1.2.1 dX0_grow_41 (lv_at hl 0 rfl) ?_
      refine lv_if_ge (tgt := 49) C.1.1 C.1.2.1 dX0_grow_43 (by decide) (fun c_43 => ?_) (fun c_43 => ?_)
      · refine lv_aload_n C.1.1 C.1.2.1 dX0_grow_49 rfl (lv_at hl 3 rfl) ?_
        refine lv_iload C.1.1 C.1.2.1 dX0_grow_50 (lv_at hl 1 rfl) ?_
        refine lv_iload_n C.1.1 C.1.2.1 dX0_grow_52 rfl (lv_at hl 5 rfl) ?_
        refine lv_aload_n C.1.1 C.1.2.1 dX0_grow_53 rfl (lv_at hl 3 rfl) ?_
        refine getX C hH 6 (by decide) q39 rfl (v := .ref (ad 6)) rfl dX0_grow_54 ?_
        refine lv_iload C.1.1 C.1.2.1 dX0_grow_57 (lv_at hl 0 rfl) ?_
        refine lv_bipush (v := 8) C.1.1 C.1.2.1 dX0_grow_59 (by decide) ?_
        refine lv_imul C.1.1 C.1.2.1 dX0_grow_61 ?_
        refine lv_iload_n C.1.1 C.1.2.1 dX0_grow_62 rfl (lv_at hl 5 rfl) ?_
        refine lv_iadd C.1.1 C.1.2.1 dX0_grow_63 ?_
        refine ildX C hH 6 5 (f := (xCt σ)) rfl rfl dX0_grow_64 (b_ct (b_hold hO.1 (Or.inr ht) c_43) hf) ?_
        refine lv_iload_n C.1.1 C.1.2.1 dX0_grow_65 rfl (lv_at hl 6 rfl) ?_
        refine lv_iadd C.1.1 C.1.2.1 dX0_grow_66 ?_
        refine callX_v C hH (av := [.int (fX_top p1), .int p2, .int (((xCt σ) (((fX_holder σ (fX_top p1) p2) * 8) + p2).toNatClampNeg) + p3)]) (rest := []) (mX_setFile l G ad d σ (fX_top p1) p2 (((xCt σ) (((fX_holder σ (fX_top p1) p2) * 8) + p2).toNatClampNeg) + p3) ht (b_ct ht hf)) gwX_setFile hdX_setFile (by decide) rfl hl.1 rfl (Nat.le_of_ble_eq_true rfl) dX0_grow_67 ⟨Nat.zero_le _, Nat.zero_le _⟩ (fun u_ H locs hH hw_ => ?_)
        subst hw_
        refine lv_iconst (v := 0) C.1.1 C.1.2.1 dX0_grow_70 (by decide) ?_
        exact retX_i C hH dX0_grow_71 (Eq.trans hR (tp c_9 (tp c_20 (tp c_43 rfl)))).symm
      · refine lv_bipush (v := (-4)) C.1.1 C.1.2.1 dX0_grow_46 (by decide) ?_
        exact retX_i C hH dX0_grow_48 (Eq.trans hR (tp c_9 (tp c_20 (tn c_43 rfl)))).symm
    · refine lv_iconst (v := (-1)) C.1.1 C.1.2.1 dX0_grow_23 (by decide) ?_
      exact retX_i C hH dX0_grow_24 (Eq.trans hR (tp c_9 (tn c_20 rfl))).symm
  · refine lv_iload C.1.1 C.1.2.1 dX0_grow_12 (lv_at hl 0 rfl) ?_
    exact retX_i C hH dX0_grow_14 (Eq.trans hR (tn c_9 rfl)).symm
-- method remove
set_option maxHeartbeats 4000000 in
theorem mX_remove (l : Launch) (G : va_G) (ad : Nat → Nat) (d : Nat → ClassId) (σ : SX) (p1 : Int32) (p2 : Int32) (hO : okX σ) : MetXi l yX0_remove cX0_remove 6 .int rmZ1 [.int p1, .int p2] G ad d σ (fX_remove σ p1 p2) := by
  refine metX_i (by decide +kernel) rfl (Nat.le_of_ble_eq_true rfl) (fun p e s m below meth c A ls C hH hl => ?_)
  have hl : lv_has ls 6 [(0, .ref (ad 0)), (1, .int p1), (2, .int p2)] := hl
  have hR : (fX_remove σ p1 p2) = (fX_remove σ p1 p2) := rfl
  generalize s.heap = H at hH ⊢
  generalize ([] : List Loc) = locs at hH ⊢
  refine lv_aload_n C.1.1 C.1.2.1 dX0_remove_0 rfl (lv_at hl 0 rfl) ?_
  refine lv_iload_n C.1.1 C.1.2.1 dX0_remove_1 rfl (lv_at hl 1 rfl) ?_
  refine callX_i C hH (av := [.int p1]) (rest := []) (mX_refused l G ad d σ p1 ) gwX_refused hdX_refused (by decide) rfl hl.1 rfl (Nat.le_of_ble_eq_true rfl) dX0_remove_2 ⟨Nat.zero_le _, Nat.zero_le _⟩ (fun r_ u_ H locs hH hw_ => ?_)
  obtain ⟨rfl, rfl⟩ : (fX_refused σ p1) = r_ ∧ σ = u_ := ⟨(congrArg Prod.fst hw_).symm, (congrArg Prod.snd hw_).symm⟩
  refine lv_istore_n (lv' := [(3, .int (fX_refused σ p1)), (0, .ref (ad 0)), (1, .int p1), (2, .int p2)]) C.1.1 C.1.2.1 dX0_remove_5 rfl hl (by decide) rfl (fun ls hl => ?_)
  refine lv_iload_n C.1.1 C.1.2.1 dX0_remove_6 rfl (lv_at hl 0 rfl) ?_
  refine lv_if_ge (tgt := 12) C.1.1 C.1.2.1 dX0_remove_7 (by decide) (fun c_7 => ?_) (fun c_7 => ?_)
  · refine lv_aload_n C.1.1 C.1.2.1 dX0_remove_12 rfl (lv_at hl 1 rfl) ?_
    refine lv_iload_n C.1.1 C.1.2.1 dX0_remove_13 rfl (lv_at hl 3 rfl) ?_
    refine callX_i C hH (av := [.int p2]) (rest := []) (mX_badFile l G ad d σ p2 ) gwX_badFile hdX_badFile (by decide) rfl hl.1 rfl (Nat.le_of_ble_eq_true rfl) dX0_remove_14 ⟨Nat.zero_le _, Nat.zero_le _⟩ (fun r_ u_ H locs hH hw_ => ?_)
    obtain ⟨rfl, rfl⟩ : (fX_badFile p2) = r_ ∧ σ = u_ := ⟨(congrArg Prod.fst hw_).symm, (congrArg Prod.snd hw_).symm⟩
    refine lv_if_eq (tgt := 22) C.1.1 C.1.2.1 dX0_remove_17 (by decide) (fun c_17 => ?_) (fun c_17 => ?_)
    · have hm : vp_in p1 4 := b_ref c_7
      have ht : vp_in (6 + p1) 10 := b_top hm
      refine lv_aload_n C.1.1 C.1.2.1 dX0_remove_22 rfl (lv_at hl 1 rfl) ?_
      refine lv_iload_n C.1.1 C.1.2.1 dX0_remove_23 rfl (lv_at hl 2 rfl) ?_
      refine callX_i C hH (av := [.int p1]) (rest := []) (mX_top l G ad d σ p1 ) gwX_top hdX_top (by decide) rfl hl.1 rfl (Nat.le_of_ble_eq_true rfl) dX0_remove_24 ⟨Nat.zero_le _, Nat.zero_le _⟩ (fun r_ u_ H locs hH hw_ => ?_)
      obtain ⟨rfl, rfl⟩ : (fX_top p1) = r_ ∧ σ = u_ := ⟨(congrArg Prod.fst hw_).symm, (congrArg Prod.snd hw_).symm⟩
      refine lv_istore (lv' := [(4, .int (fX_top p1)), (3, .int (fX_refused σ p1)), (0, .ref (ad 0)), (1, .int p1), (2, .int p2)]) C.1.1 C.1.2.1 dX0_remove_27 hl (by decide) rfl (fun ls hl => ?_)
      refine lv_aload_n C.1.1 C.1.2.1 dX0_remove_29 rfl (lv_at hl 2 rfl) ?_
      refine lv_iload C.1.1 C.1.2.1 dX0_remove_30 (lv_at hl 0 rfl) ?_
      refine lv_iload_n C.1.1 C.1.2.1 dX0_remove_32 rfl (lv_at hl 4 rfl) ?_
      refine callX_i C hH (av := [.int (fX_top p1), .int p2]) (rest := []) (mX_holder l G ad d σ (fX_top p1) p2 hO.1 (Or.inr ht)) gwX_holder hdX_holder (by decide) rfl hl.1 rfl (Nat.le_of_ble_eq_true rfl) dX0_remove_33 ⟨Nat.zero_le _, Nat.zero_le _⟩ (fun r_ u_ H locs hH hw_ => ?_)
      obtain ⟨rfl, rfl⟩ : (fX_holder σ (fX_top p1) p2) = r_ ∧ σ = u_ := ⟨(congrArg Prod.fst hw_).symm, (congrArg Prod.snd hw_).symm⟩
      refine lv_istore (lv' := [(5, .int (fX_holder σ (fX_top p1) p2)), (4, .int (fX_top p1)), (3, .int (fX_refused σ p1)), (0, .ref (ad 0)), (1, .int p1), (2, .int p2)]) C.1.1 C.1.2.1 dX0_remove_36 hl (by decide) rfl (fun ls hl => ?_)
      refine lv_iload C.1.1 C.1.2.1 dX0_remove_38 (lv_at hl 0 rfl) ?_
      refine lv_if_ge (tgt := 46) C.1.1 C.1.2.1 dX0_remove_40 (by decide) (fun c_40 => ?_) (fun c_40 => ?_)
      · refine lv_aload_n C.1.1 C.1.2.1 dX0_remove_46 rfl (lv_at hl 3 rfl) ?_
        refine lv_iload C.1.1 C.1.2.1 dX0_remove_47 (lv_at hl 1 rfl) ?_
        refine lv_iload_n C.1.1 C.1.2.1 dX0_remove_49 rfl (lv_at hl 5 rfl) ?_
        refine callX_v C hH (av := [.int (fX_top p1), .int p2]) (rest := []) (mX_clearFile l G ad d σ (fX_top p1) p2 ht) gwX_clearFile hdX_clearFile (by decide) rfl hl.1 rfl (Nat.le_of_ble_eq_true rfl) dX0_remove_50 ⟨Nat.zero_le _, Nat.zero_le _⟩ (fun u_ H locs hH hw_ => ?_)
        subst hw_
        refine lv_iconst (v := 0) C.1.1 C.1.2.1 dX0_remove_53 (by decide) ?_
        exact retX_i C hH dX0_remove_54 (Eq.trans hR (tp c_7 (tp c_17 (tp c_40 rfl)))).symm
      · refine lv_bipush (v := (-4)) C.1.1 C.1.2.1 dX0_remove_43 (by decide) ?_
        exact retX_i C hH dX0_remove_45 (Eq.trans hR (tp c_7 (tp c_17 (tn c_40 rfl)))).symm
    · refine lv_iconst (v := (-1)) C.1.1 C.1.2.1 dX0_remove_20 (by decide) ?_
      exact retX_i C hH dX0_remove_21 (Eq.trans hR (tp c_7 (tn c_17 rfl))).symm
  · refine lv_iload_n C.1.1 C.1.2.1 dX0_remove_10 rfl (lv_at hl 0 rfl) ?_
    exact retX_i C hH dX0_remove_11 (Eq.trans hR (tn c_7 rfl)).symm
-- method rename
set_option maxHeartbeats 4000000 in
theorem mX_rename (l : Launch) (G : va_G) (ad : Nat → Nat) (d : Nat → ClassId) (σ : SX) (p1 : Int32) (p2 : Int32) (p3 : Int32) (hO : okX σ) : MetXi l yX0_rename cX0_rename 9 .int rmZ1 [.int p1, .int p2, .int p3] G ad d σ (fX_rename σ p1 p2 p3) := by
  refine metX_i (by decide +kernel) rfl (Nat.le_of_ble_eq_true rfl) (fun p e s m below meth c A ls C hH hl => ?_)
  have hl : lv_has ls 9 [(0, .ref (ad 0)), (1, .int p1), (2, .int p2), (3, .int p3)] := hl
  have hR : (fX_rename σ p1 p2 p3) = (fX_rename σ p1 p2 p3) := rfl
  generalize s.heap = H at hH ⊢
  generalize ([] : List Loc) = locs at hH ⊢
  refine lv_aload_n C.1.1 C.1.2.1 dX0_rename_0 rfl (lv_at hl 0 rfl) ?_
  refine lv_iload_n C.1.1 C.1.2.1 dX0_rename_1 rfl (lv_at hl 1 rfl) ?_
  refine callX_i C hH (av := [.int p1]) (rest := []) (mX_refused l G ad d σ p1 ) gwX_refused hdX_refused (by decide) rfl hl.1 rfl (Nat.le_of_ble_eq_true rfl) dX0_rename_2 ⟨Nat.zero_le _, Nat.zero_le _⟩ (fun r_ u_ H locs hH hw_ => ?_)
  obtain ⟨rfl, rfl⟩ : (fX_refused σ p1) = r_ ∧ σ = u_ := ⟨(congrArg Prod.fst hw_).symm, (congrArg Prod.snd hw_).symm⟩
  refine lv_istore (lv' := [(4, .int (fX_refused σ p1)), (0, .ref (ad 0)), (1, .int p1), (2, .int p2), (3, .int p3)]) C.1.1 C.1.2.1 dX0_rename_5 hl (by decide) rfl (fun ls hl => ?_)
  refine lv_iload C.1.1 C.1.2.1 dX0_rename_7 (lv_at hl 0 rfl) ?_
  refine lv_if_ge (tgt := 15) C.1.1 C.1.2.1 dX0_rename_9 (by decide) (fun c_9 => ?_) (fun c_9 => ?_)
  · refine lv_aload_n C.1.1 C.1.2.1 dX0_rename_15 rfl (lv_at hl 1 rfl) ?_
    refine lv_iload_n C.1.1 C.1.2.1 dX0_rename_16 rfl (lv_at hl 3 rfl) ?_
    refine callX_i C hH (av := [.int p2]) (rest := []) (mX_badFile l G ad d σ p2 ) gwX_badFile hdX_badFile (by decide) rfl hl.1 rfl (Nat.le_of_ble_eq_true rfl) dX0_rename_17 ⟨Nat.zero_le _, Nat.zero_le _⟩ (fun r_ u_ H locs hH hw_ => ?_)
    obtain ⟨rfl, rfl⟩ : (fX_badFile p2) = r_ ∧ σ = u_ := ⟨(congrArg Prod.fst hw_).symm, (congrArg Prod.snd hw_).symm⟩
    refine lv_if_ne (tgt := 36) C.1.1 C.1.2.1 dX0_rename_20 (by decide) (fun c_20 => ?_) (fun c_20 => ?_)
    · refine lv_iconst (v := (-1)) C.1.1 C.1.2.1 dX0_rename_36 (by decide) ?_
      exact retX_i C hH dX0_rename_37 (Eq.trans hR (tp c_9 (tn c_20 rfl))).symm
    · refine lv_aload_n C.1.1 C.1.2.1 dX0_rename_23 rfl (lv_at hl 1 rfl) ?_
      refine lv_iload_n C.1.1 C.1.2.1 dX0_rename_24 rfl (lv_at hl 4 rfl) ?_
      refine callX_i C hH (av := [.int p3]) (rest := []) (mX_badFile l G ad d σ p3 ) gwX_badFile hdX_badFile (by decide) rfl hl.1 rfl (Nat.le_of_ble_eq_true rfl) dX0_rename_25 ⟨Nat.zero_le _, Nat.zero_le _⟩ (fun r_ u_ H locs hH hw_ => ?_)
      obtain ⟨rfl, rfl⟩ : (fX_badFile p3) = r_ ∧ σ = u_ := ⟨(congrArg Prod.fst hw_).symm, (congrArg Prod.snd hw_).symm⟩
      refine lv_if_ne (tgt := 36) C.1.1 C.1.2.1 dX0_rename_28 (by decide) (fun c_28 => ?_) (fun c_28 => ?_)
      · refine lv_iconst (v := (-1)) C.1.1 C.1.2.1 dX0_rename_36 (by decide) ?_
        exact retX_i C hH dX0_rename_37 (Eq.trans hR (tp c_9 (tp c_20 (tn c_28 rfl)))).symm
      · refine lv_iload_n C.1.1 C.1.2.1 dX0_rename_31 rfl (lv_at hl 3 rfl) ?_
        refine lv_iload_n C.1.1 C.1.2.1 dX0_rename_32 rfl (lv_at hl 4 rfl) ?_
        refine lv_icmp_ne (tgt := 38) C.1.1 C.1.2.1 dX0_rename_33 (by decide) (fun c_33 => ?_) (fun c_33 => ?_)
        · have hm : vp_in p1 4 := b_ref c_9
          have ht : vp_in (6 + p1) 10 := b_top hm
          have hf : vp_in p2 8 := b_bad c_20
          have hg : vp_in p3 8 := b_bad c_28
          refine lv_aload_n C.1.1 C.1.2.1 dX0_rename_38 rfl (lv_at hl 1 rfl) ?_
          refine lv_iload_n C.1.1 C.1.2.1 dX0_rename_39 rfl (lv_at hl 2 rfl) ?_
          refine callX_i C hH (av := [.int p1]) (rest := []) (mX_top l G ad d σ p1 ) gwX_top hdX_top (by decide) rfl hl.1 rfl (Nat.le_of_ble_eq_true rfl) dX0_rename_40 ⟨Nat.zero_le _, Nat.zero_le _⟩ (fun r_ u_ H locs hH hw_ => ?_)
          obtain ⟨rfl, rfl⟩ : (fX_top p1) = r_ ∧ σ = u_ := ⟨(congrArg Prod.fst hw_).symm, (congrArg Prod.snd hw_).symm⟩
          refine lv_istore (lv' := [(5, .int (fX_top p1)), (4, .int (fX_refused σ p1)), (0, .ref (ad 0)), (1, .int p1), (2, .int p2), (3, .int p3)]) C.1.1 C.1.2.1 dX0_rename_43 hl (by decide) rfl (fun ls hl => ?_)
          refine lv_aload_n C.1.1 C.1.2.1 dX0_rename_45 rfl (lv_at hl 2 rfl) ?_
          refine lv_iload C.1.1 C.1.2.1 dX0_rename_46 (lv_at hl 0 rfl) ?_
          refine lv_iload_n C.1.1 C.1.2.1 dX0_rename_48 rfl (lv_at hl 4 rfl) ?_
          refine callX_i C hH (av := [.int (fX_top p1), .int p2]) (rest := []) (mX_holder l G ad d σ (fX_top p1) p2 hO.1 (Or.inr ht)) gwX_holder hdX_holder (by decide) rfl hl.1 rfl (Nat.le_of_ble_eq_true rfl) dX0_rename_49 ⟨Nat.zero_le _, Nat.zero_le _⟩ (fun r_ u_ H locs hH hw_ => ?_)
          obtain ⟨rfl, rfl⟩ : (fX_holder σ (fX_top p1) p2) = r_ ∧ σ = u_ := ⟨(congrArg Prod.fst hw_).symm, (congrArg Prod.snd hw_).symm⟩
          refine lv_istore (lv' := [(6, .int (fX_holder σ (fX_top p1) p2)), (5, .int (fX_top p1)), (4, .int (fX_refused σ p1)), (0, .ref (ad 0)), (1, .int p1), (2, .int p2), (3, .int p3)]) C.1.1 C.1.2.1 dX0_rename_52 hl (by decide) rfl (fun ls hl => ?_)
          refine lv_aload_n C.1.1 C.1.2.1 dX0_rename_54 rfl (lv_at hl 3 rfl) ?_
          refine lv_iload C.1.1 C.1.2.1 dX0_rename_55 (lv_at hl 1 rfl) ?_
          refine lv_iload_n C.1.1 C.1.2.1 dX0_rename_57 rfl (lv_at hl 6 rfl) ?_
          refine lv_iconst (v := 2) C.1.1 C.1.2.1 dX0_rename_58 (by decide) ?_
          refine lv_ishr C.1.1 C.1.2.1 dX0_rename_59 ?_
          refine callX_i C hH (av := [.int (fX_top p1), .int (p3 >>> (2 &&& 31))]) (rest := []) (mX_directoryThere l G ad d σ (fX_top p1) (p3 >>> (2 &&& 31)) hO.1 (Or.inr ht)) gwX_directoryThere hdX_directoryThere (by decide) rfl hl.1 rfl (Nat.le_of_ble_eq_true rfl) dX0_rename_60 ⟨Nat.zero_le _, Nat.zero_le _⟩ (fun r_ u_ H locs hH hw_ => ?_)
          obtain ⟨rfl, rfl⟩ : (fX_directoryThere σ (fX_top p1) (p3 >>> (2 &&& 31))) = r_ ∧ σ = u_ := ⟨(congrArg Prod.fst hw_).symm, (congrArg Prod.snd hw_).symm⟩
          refine lv_istore (lv' := [(7, .int (fX_directoryThere σ (fX_top p1) (p3 >>> (2 &&& 31)))), (6, .int (fX_holder σ (fX_top p1) p2)), (5, .int (fX_top p1)), (4, .int (fX_refused σ p1)), (0, .ref (ad 0)), (1, .int p1), (2, .int p2), (3, .int p3)]) C.1.1 C.1.2.1 dX0_rename_63 hl (by decide) rfl (fun ls hl => ?_)
          refine lv_iload C.1.1 C.1.2.1 dX0_rename_65 (lv_at hl 1 rfl) ?_
          refine lv_if_lt (tgt := 75) C.1.1 C.1.2.1 dX0_rename_67 (by decide) (fun c_67 => ?_) (fun c_67 => ?_)
          · refine lv_bipush (v := (-4)) C.1.1 C.1.2.1 dX0_rename_75 (by decide) ?_
            exact retX_i C hH dX0_rename_77 (Eq.trans hR (tp c_9 (tp c_20 (tp c_28 (tn c_33 (tp c_67 rfl)))))).symm
          · refine lv_iload C.1.1 C.1.2.1 dX0_rename_70 (lv_at hl 0 rfl) ?_
            refine lv_if_ne (tgt := 78) C.1.1 C.1.2.1 dX0_rename_72 (by decide) (fun c_72 => ?_) (fun c_72 => ?_)
            · refine lv_aload_n C.1.1 C.1.2.1 dX0_rename_78 rfl (lv_at hl 4 rfl) ?_
              refine lv_iload C.1.1 C.1.2.1 dX0_rename_79 (lv_at hl 2 rfl) ?_
              refine lv_iload_n C.1.1 C.1.2.1 dX0_rename_81 rfl (lv_at hl 7 rfl) ?_
              refine callX_i C hH (av := [.int (fX_top p1), .int p3]) (rest := []) (mX_holder l G ad d σ (fX_top p1) p3 hO.1 (Or.inr ht)) gwX_holder hdX_holder (by decide) rfl hl.1 rfl (Nat.le_of_ble_eq_true rfl) dX0_rename_82 ⟨Nat.zero_le _, Nat.zero_le _⟩ (fun r_ u_ H locs hH hw_ => ?_)
              obtain ⟨rfl, rfl⟩ : (fX_holder σ (fX_top p1) p3) = r_ ∧ σ = u_ := ⟨(congrArg Prod.fst hw_).symm, (congrArg Prod.snd hw_).symm⟩
              refine lv_istore (lv' := [(8, .int (fX_holder σ (fX_top p1) p3)), (7, .int (fX_directoryThere σ (fX_top p1) (p3 >>> (2 &&& 31)))), (6, .int (fX_holder σ (fX_top p1) p2)), (5, .int (fX_top p1)), (4, .int (fX_refused σ p1)), (0, .ref (ad 0)), (1, .int p1), (2, .int p2), (3, .int p3)]) C.1.1 C.1.2.1 dX0_rename_85 hl (by decide) rfl (fun ls hl => ?_)
              refine lv_aload_n C.1.1 C.1.2.1 dX0_rename_87 rfl (lv_at hl 5 rfl) ?_
              refine lv_iload C.1.1 C.1.2.1 dX0_rename_88 (lv_at hl 3 rfl) ?_
              refine lv_iload_n C.1.1 C.1.2.1 dX0_rename_90 rfl (lv_at hl 8 rfl) ?_
              refine lv_aload_n C.1.1 C.1.2.1 dX0_rename_91 rfl (lv_at hl 5 rfl) ?_
              refine getX C hH 6 (by decide) q39 rfl (v := .ref (ad 6)) rfl dX0_rename_92 ?_
              refine lv_iload C.1.1 C.1.2.1 dX0_rename_95 (lv_at hl 2 rfl) ?_
              refine lv_bipush (v := 8) C.1.1 C.1.2.1 dX0_rename_97 (by decide) ?_
              refine lv_imul C.1.1 C.1.2.1 dX0_rename_99 ?_
              refine lv_iload_n C.1.1 C.1.2.1 dX0_rename_100 rfl (lv_at hl 7 rfl) ?_
              refine lv_iadd C.1.1 C.1.2.1 dX0_rename_101 ?_
              refine ildX C hH 6 5 (f := (xCt σ)) rfl rfl dX0_rename_102 (b_ct (b_holdn hO.1 (Or.inr ht) c_67) hf) ?_
              refine callX_v C hH (av := [.int (fX_top p1), .int p3, .int ((xCt σ) (((fX_holder σ (fX_top p1) p2) * 8) + p2).toNatClampNeg)]) (rest := []) (mX_setFile l G ad d σ (fX_top p1) p3 ((xCt σ) (((fX_holder σ (fX_top p1) p2) * 8) + p2).toNatClampNeg) ht (b_ct ht hg)) gwX_setFile hdX_setFile (by decide) rfl hl.1 rfl (Nat.le_of_ble_eq_true rfl) dX0_rename_103 ⟨Nat.zero_le _, Nat.zero_le _⟩ (fun u_ H locs hH hw_ => ?_)
              subst hw_
              refine lv_aload_n C.1.1 C.1.2.1 dX0_rename_106 rfl (lv_at hl 5 rfl) ?_
              refine lv_iload C.1.1 C.1.2.1 dX0_rename_107 (lv_at hl 3 rfl) ?_
              refine lv_iload_n C.1.1 C.1.2.1 dX0_rename_109 rfl (lv_at hl 7 rfl) ?_
              refine callX_v C hH (av := [.int (fX_top p1), .int p2]) (rest := []) (mX_clearFile l G ad d (fX_setFile σ (fX_top p1) p3 ((xCt σ) (((fX_holder σ (fX_top p1) p2) * 8) + p2).toNatClampNeg)) (fX_top p1) p2 ht) gwX_clearFile hdX_clearFile (by decide) rfl hl.1 rfl (Nat.le_of_ble_eq_true rfl) dX0_rename_110 ⟨Nat.zero_le _, Nat.zero_le _⟩ (fun u_ H locs hH hw_ => ?_)
              subst hw_
              refine lv_iload C.1.1 C.1.2.1 dX0_rename_113 (lv_at hl 0 rfl) ?_
              refine lv_if_ge (tgt := 122) C.1.1 C.1.2.1 dX0_rename_115 (by decide) (fun c_115 => ?_) (fun c_115 => ?_)
              · refine lv_iconst (v := 1) C.1.1 C.1.2.1 dX0_rename_122 (by decide) ?_
                exact retX_i C hH dX0_rename_123 (Eq.trans hR (tp c_9 (tp c_20 (tp c_28 (tn c_33 (tn c_67 (tn c_72 (tp c_115 rfl)))))))).symm
              · refine lv_iconst (v := 0) C.1.1 C.1.2.1 dX0_rename_118 (by decide) ?_
                refine lv_goto (tgt := 123) C.1.1 C.1.2.1 dX0_rename_119 (by decide) ?_
                exact retX_i C hH dX0_rename_123 (Eq.trans hR (tp c_9 (tp c_20 (tp c_28 (tn c_33 (tn c_67 (tn c_72 (tn c_115 rfl)))))))).symm
            · refine lv_bipush (v := (-4)) C.1.1 C.1.2.1 dX0_rename_75 (by decide) ?_
              exact retX_i C hH dX0_rename_77 (Eq.trans hR (tp c_9 (tp c_20 (tp c_28 (tn c_33 (tn c_67 (tp c_72 rfl))))))).symm
        · refine lv_iconst (v := (-1)) C.1.1 C.1.2.1 dX0_rename_36 (by decide) ?_
          exact retX_i C hH dX0_rename_37 (Eq.trans hR (tp c_9 (tp c_20 (tp c_28 (tp c_33 rfl))))).symm
  · refine lv_iload C.1.1 C.1.2.1 dX0_rename_12 (lv_at hl 0 rfl) ?_
    exact retX_i C hH dX0_rename_14 (Eq.trans hR (tn c_9 rfl)).symm
-- method read
set_option maxHeartbeats 4000000 in
theorem mX_read (l : Launch) (G : va_G) (ad : Nat → Nat) (d : Nat → ClassId) (σ : SX) (p1 : Int32) (p2 : Int32) (hO : okX σ) : MetXi l yX0_read cX0_read 5 .int rmZ1 [.int p1, .int p2] G ad d σ ((fX_read σ p1 p2), σ) := by
  refine metX_i (by decide +kernel) rfl (Nat.le_of_ble_eq_true rfl) (fun p e s m below meth c A ls C hH hl => ?_)
  have hl : lv_has ls 5 [(0, .ref (ad 0)), (1, .int p1), (2, .int p2)] := hl
  have hR : (fX_read σ p1 p2) = (fX_read σ p1 p2) := rfl
  generalize s.heap = H at hH ⊢
  generalize ([] : List Loc) = locs at hH ⊢
  refine lv_aload_n C.1.1 C.1.2.1 dX0_read_0 rfl (lv_at hl 0 rfl) ?_
  refine lv_iload_n C.1.1 C.1.2.1 dX0_read_1 rfl (lv_at hl 1 rfl) ?_
  refine callX_i C hH (av := [.int p1]) (rest := []) (mX_refused l G ad d σ p1 ) gwX_refused hdX_refused (by decide) rfl hl.1 rfl (Nat.le_of_ble_eq_true rfl) dX0_read_2 ⟨Nat.zero_le _, Nat.zero_le _⟩ (fun r_ u_ H locs hH hw_ => ?_)
  obtain ⟨rfl, rfl⟩ : (fX_refused σ p1) = r_ ∧ σ = u_ := ⟨(congrArg Prod.fst hw_).symm, (congrArg Prod.snd hw_).symm⟩
  refine lv_istore_n (lv' := [(3, .int (fX_refused σ p1)), (0, .ref (ad 0)), (1, .int p1), (2, .int p2)]) C.1.1 C.1.2.1 dX0_read_5 rfl hl (by decide) rfl (fun ls hl => ?_)
  refine lv_iload_n C.1.1 C.1.2.1 dX0_read_6 rfl (lv_at hl 0 rfl) ?_
  refine lv_if_lt (tgt := 18) C.1.1 C.1.2.1 dX0_read_7 (by decide) (fun c_7 => ?_) (fun c_7 => ?_)
  · refine lv_iconst (v := 0) C.1.1 C.1.2.1 dX0_read_18 (by decide) ?_
    exact retX_i C hH dX0_read_19 (congrArg (fun z => (z, σ)) (Eq.trans hR (tp c_7 rfl))).symm
  · refine lv_aload_n C.1.1 C.1.2.1 dX0_read_10 rfl (lv_at hl 1 rfl) ?_
    refine lv_iload_n C.1.1 C.1.2.1 dX0_read_11 rfl (lv_at hl 3 rfl) ?_
    refine callX_i C hH (av := [.int p2]) (rest := []) (mX_badFile l G ad d σ p2 ) gwX_badFile hdX_badFile (by decide) rfl hl.1 rfl (Nat.le_of_ble_eq_true rfl) dX0_read_12 ⟨Nat.zero_le _, Nat.zero_le _⟩ (fun r_ u_ H locs hH hw_ => ?_)
    obtain ⟨rfl, rfl⟩ : (fX_badFile p2) = r_ ∧ σ = u_ := ⟨(congrArg Prod.fst hw_).symm, (congrArg Prod.snd hw_).symm⟩
    refine lv_if_eq (tgt := 20) C.1.1 C.1.2.1 dX0_read_15 (by decide) (fun c_15 => ?_) (fun c_15 => ?_)
    · have hm : vp_in p1 4 := b_refn c_7
      have ht : vp_in (6 + p1) 10 := b_top hm
      have hf : vp_in p2 8 := b_bad c_15
      refine lv_aload_n C.1.1 C.1.2.1 dX0_read_20 rfl (lv_at hl 1 rfl) ?_
      refine lv_aload_n C.1.1 C.1.2.1 dX0_read_21 rfl (lv_at hl 1 rfl) ?_
      refine lv_iload_n C.1.1 C.1.2.1 dX0_read_22 rfl (lv_at hl 2 rfl) ?_
      refine callX_i C hH (av := [.int p1]) (rest := [.ref (ad 0)]) (mX_top l G ad d σ p1 ) gwX_top hdX_top (by decide) rfl hl.1 rfl (Nat.le_of_ble_eq_true rfl) dX0_read_23 ⟨Nat.zero_le _, Nat.zero_le _⟩ (fun r_ u_ H locs hH hw_ => ?_)
      obtain ⟨rfl, rfl⟩ : (fX_top p1) = r_ ∧ σ = u_ := ⟨(congrArg Prod.fst hw_).symm, (congrArg Prod.snd hw_).symm⟩
      refine lv_iload_n C.1.1 C.1.2.1 dX0_read_26 rfl (lv_at hl 3 rfl) ?_
      refine callX_i C hH (av := [.int (fX_top p1), .int p2]) (rest := []) (mX_holder l G ad d σ (fX_top p1) p2 hO.1 (Or.inr ht)) gwX_holder hdX_holder (by decide) rfl hl.1 rfl (Nat.le_of_ble_eq_true rfl) dX0_read_27 ⟨Nat.zero_le _, Nat.zero_le _⟩ (fun r_ u_ H locs hH hw_ => ?_)
      obtain ⟨rfl, rfl⟩ : (fX_holder σ (fX_top p1) p2) = r_ ∧ σ = u_ := ⟨(congrArg Prod.fst hw_).symm, (congrArg Prod.snd hw_).symm⟩
      refine lv_istore (lv' := [(4, .int (fX_holder σ (fX_top p1) p2)), (3, .int (fX_refused σ p1)), (0, .ref (ad 0)), (1, .int p1), (2, .int p2)]) C.1.1 C.1.2.1 dX0_read_30 hl (by decide) rfl (fun ls hl => ?_)
      refine lv_iload C.1.1 C.1.2.1 dX0_read_32 (lv_at hl 0 rfl) ?_
      refine lv_if_ge (tgt := 41) C.1.1 C.1.2.1 dX0_read_34 (by decide) (fun c_34 => ?_) (fun c_34 => ?_)
      · refine lv_aload_n C.1.1 C.1.2.1 dX0_read_41 rfl (lv_at hl 2 rfl) ?_
        refine getX C hH 6 (by decide) q39 rfl (v := .ref (ad 6)) rfl dX0_read_42 ?_
        refine lv_iload C.1.1 C.1.2.1 dX0_read_45 (lv_at hl 0 rfl) ?_
        refine lv_bipush (v := 8) C.1.1 C.1.2.1 dX0_read_47 (by decide) ?_
        refine lv_imul C.1.1 C.1.2.1 dX0_read_49 ?_
        refine lv_iload_n C.1.1 C.1.2.1 dX0_read_50 rfl (lv_at hl 4 rfl) ?_
        refine lv_iadd C.1.1 C.1.2.1 dX0_read_51 ?_
        refine ildX C hH 6 5 (f := (xCt σ)) rfl rfl dX0_read_52 (b_ct (b_hold hO.1 (Or.inr ht) c_34) hf) ?_
        exact retX_i C hH dX0_read_53 (congrArg (fun z => (z, σ)) (Eq.trans hR (tn c_7 (tp c_15 (tp c_34 rfl))))).symm
      · refine lv_iconst (v := 0) C.1.1 C.1.2.1 dX0_read_37 (by decide) ?_
        refine lv_goto (tgt := 53) C.1.1 C.1.2.1 dX0_read_38 (by decide) ?_
        exact retX_i C hH dX0_read_53 (congrArg (fun z => (z, σ)) (Eq.trans hR (tn c_7 (tp c_15 (tn c_34 rfl))))).symm
    · refine lv_iconst (v := 0) C.1.1 C.1.2.1 dX0_read_18 (by decide) ?_
      exact retX_i C hH dX0_read_19 (congrArg (fun z => (z, σ)) (Eq.trans hR (tn c_7 (tn c_15 rfl)))).symm
-- method files
set_option maxHeartbeats 4000000 in
theorem mX_files (l : Launch) (G : va_G) (ad : Nat → Nat) (d : Nat → ClassId) (σ : SX) (p1 : Int32) (hO : okX σ) : MetXi l yX0_files cX0_files 3 .int rmZ2 [.int p1] G ad d σ ((fX_files σ p1), σ) := by
  refine metX_i (by decide +kernel) rfl (Nat.le_of_ble_eq_true rfl) (fun p e s m below meth c A ls C hH hl => ?_)
  have hl : lv_has ls 3 [(0, .ref (ad 0)), (1, .int p1)] := hl
  have hR : (fX_files σ p1) = (fX_files σ p1) := rfl
  generalize s.heap = H at hH ⊢
  generalize ([] : List Loc) = locs at hH ⊢
  refine lv_aload_n C.1.1 C.1.2.1 dX0_files_0 rfl (lv_at hl 0 rfl) ?_
  refine lv_iload_n C.1.1 C.1.2.1 dX0_files_1 rfl (lv_at hl 1 rfl) ?_
  refine callX_i C hH (av := [.int p1]) (rest := []) (mX_refused l G ad d σ p1 ) gwX_refused hdX_refused (by decide) rfl hl.1 rfl (Nat.le_of_ble_eq_true rfl) dX0_files_2 ⟨Nat.zero_le _, Nat.zero_le _⟩ (fun r_ u_ H locs hH hw_ => ?_)
  obtain ⟨rfl, rfl⟩ : (fX_refused σ p1) = r_ ∧ σ = u_ := ⟨(congrArg Prod.fst hw_).symm, (congrArg Prod.snd hw_).symm⟩
  refine lv_istore_n (lv' := [(2, .int (fX_refused σ p1)), (0, .ref (ad 0)), (1, .int p1)]) C.1.1 C.1.2.1 dX0_files_5 rfl hl (by decide) rfl (fun ls hl => ?_)
  refine lv_iload_n C.1.1 C.1.2.1 dX0_files_6 rfl (lv_at hl 0 rfl) ?_
  refine lv_if_ge (tgt := 14) C.1.1 C.1.2.1 dX0_files_7 (by decide) (fun c_7 => ?_) (fun c_7 => ?_)
  · have hm : vp_in p1 4 := b_ref c_7
    have ht : vp_in (6 + p1) 10 := b_top hm
    refine lv_aload_n C.1.1 C.1.2.1 dX0_files_14 rfl (lv_at hl 1 rfl) ?_
    refine lv_aload_n C.1.1 C.1.2.1 dX0_files_15 rfl (lv_at hl 1 rfl) ?_
    refine lv_iload_n C.1.1 C.1.2.1 dX0_files_16 rfl (lv_at hl 2 rfl) ?_
    refine callX_i C hH (av := [.int p1]) (rest := [.ref (ad 0)]) (mX_top l G ad d σ p1 ) gwX_top hdX_top (by decide) rfl hl.1 rfl (Nat.le_of_ble_eq_true rfl) dX0_files_17 ⟨Nat.zero_le _, Nat.zero_le _⟩ (fun r_ u_ H locs hH hw_ => ?_)
    obtain ⟨rfl, rfl⟩ : (fX_top p1) = r_ ∧ σ = u_ := ⟨(congrArg Prod.fst hw_).symm, (congrArg Prod.snd hw_).symm⟩
    refine callX_i C hH (av := [.int (fX_top p1)]) (rest := []) (mX_filesSeen l G ad d σ (fX_top p1) hO.1 (Or.inr ht)) gwX_filesSeen hdX_filesSeen (by decide) rfl hl.1 rfl (Nat.le_of_ble_eq_true rfl) dX0_files_20 ⟨Nat.zero_le _, Nat.zero_le _⟩ (fun r_ u_ H locs hH hw_ => ?_)
    obtain ⟨rfl, rfl⟩ : (fX_filesSeen σ (fX_top p1)) = r_ ∧ σ = u_ := ⟨(congrArg Prod.fst hw_).symm, (congrArg Prod.snd hw_).symm⟩
    exact retX_i C hH dX0_files_23 (congrArg (fun z => (z, σ)) (Eq.trans hR (tp c_7 rfl))).symm
  · refine lv_iload_n C.1.1 C.1.2.1 dX0_files_10 rfl (lv_at hl 0 rfl) ?_
    refine lv_goto (tgt := 23) C.1.1 C.1.2.1 dX0_files_11 (by decide) ?_
    exact retX_i C hH dX0_files_23 (congrArg (fun z => (z, σ)) (Eq.trans hR (tn c_7 rfl))).symm
-- method directories
set_option maxHeartbeats 4000000 in
theorem bX_directories_17 {p : Program} {l : Launch} {e : Env} {s : State} {m : MethodId} {args : Array Value} {below : List Frame} {meth : Method} {c : Code} {G : va_G} {ad : Nat → Nat} {d : Nat → ClassId} {A : Nat → Prop} {σ : SX} {p1 : Int32} (C : CX p s m args meth c cX0_directories 6 RX0 (some .int)) (hU : okU σ) (ht : vp_in (6 + p1) 10) : ∀ (n : Nat) (k : Nat) (x3 : Int32) (x4 : Int32) (rv : Int32) (H : Heap) (locs : List Loc) (ls : Array Slot), k + n = 2 → x4 = nI k → rv = lX_directories_17 σ p1 n x3 x4 → AtX G ad d A s σ H locs → lv_has ls 6 [(0, .ref (ad 0)), (1, .int p1), (3, .int x3), (4, .int x4)] → W p l e rmZ1 s m args below meth c H locs 0 0 (QXi below G ad d A args s (rv, σ)) (F0 m 17 ls []) := by
  intro n
  induction n with
  | zero =>
    intro k x3 x4 rv H locs ls hk hx hR hH hl
    have hz := lp_z (N := 2) hx hk (by decide)
    refine lv_iload C.1.1 C.1.2.1 dX0_directories_17 (lv_at hl 3 rfl) ?_
    refine lv_iconst (v := 2) C.1.1 C.1.2.1 dX0_directories_19 (by decide) ?_
    refine lv_icmp_ge (tgt := 54) C.1.1 C.1.2.1 dX0_directories_20 (by decide) (fun _ => ?_) (fun c => absurd hz c)
    refine lv_iload_n C.1.1 C.1.2.1 dX0_directories_54 rfl (lv_at hl 2 rfl) ?_
    exact retX_i C hH dX0_directories_55 (congrArg (fun z => (z, σ)) (Eq.trans hR rfl)).symm
  | succ n ih =>
    intro k x3 x4 rv H locs ls hk hx hR hH hl
    have hz := lp_s (N := 2) hx hk (by decide)
    refine lv_iload C.1.1 C.1.2.1 dX0_directories_17 (lv_at hl 3 rfl) ?_
    refine lv_iconst (v := 2) C.1.1 C.1.2.1 dX0_directories_19 (by decide) ?_
    refine lv_icmp_ge (tgt := 54) C.1.1 C.1.2.1 dX0_directories_20 (by decide) (fun c => absurd c hz) (fun _ => ?_)
    refine lv_aload_n C.1.1 C.1.2.1 dX0_directories_23 rfl (lv_at hl 0 rfl) ?_
    refine lv_aload_n C.1.1 C.1.2.1 dX0_directories_24 rfl (lv_at hl 0 rfl) ?_
    refine lv_iload_n C.1.1 C.1.2.1 dX0_directories_25 rfl (lv_at hl 1 rfl) ?_
    refine callX_i C hH (av := [.int p1]) (rest := [.ref (ad 0)]) (mX_top l G ad d σ p1 ) gwX_top hdX_top (by decide) rfl hl.1 rfl (Nat.le_of_ble_eq_true rfl) dX0_directories_26 ⟨Nat.zero_le _, Nat.zero_le _⟩ (fun r_ u_ H locs hH hw_ => ?_)
    obtain ⟨rfl, rfl⟩ : (fX_top p1) = r_ ∧ σ = u_ := ⟨(congrArg Prod.fst hw_).symm, (congrArg Prod.snd hw_).symm⟩
    refine lv_iload C.1.1 C.1.2.1 dX0_directories_29 (lv_at hl 3 rfl) ?_
    refine callX_i C hH (av := [.int (fX_top p1), .int x4]) (rest := []) (mX_directoryThere l G ad d σ (fX_top p1) x4 hU (Or.inr ht)) gwX_directoryThere hdX_directoryThere (by decide) rfl hl.1 rfl (Nat.le_of_ble_eq_true rfl) dX0_directories_31 ⟨Nat.zero_le _, Nat.zero_le _⟩ (fun r_ u_ H locs hH hw_ => ?_)
    obtain ⟨rfl, rfl⟩ : (fX_directoryThere σ (fX_top p1) x4) = r_ ∧ σ = u_ := ⟨(congrArg Prod.fst hw_).symm, (congrArg Prod.snd hw_).symm⟩
    refine lv_istore (lv' := [(5, .int (fX_directoryThere σ (fX_top p1) x4)), (0, .ref (ad 0)), (1, .int p1), (3, .int x3), (4, .int x4)]) C.1.1 C.1.2.1 dX0_directories_34 hl (by decide) rfl (fun ls hl => ?_)
    refine lv_iload C.1.1 C.1.2.1 dX0_directories_36 (lv_at hl 0 rfl) ?_
    refine lv_if_eq (tgt := 48) C.1.1 C.1.2.1 dX0_directories_38 (by decide) (fun c_38 => ?_) (fun c_38 => ?_)
    · refine lv_iinc (v := (x4 + 1)) (lv' := [(4, .int (x4 + 1)), (5, .int (fX_directoryThere σ (fX_top p1) x4)), (0, .ref (ad 0)), (1, .int p1), (3, .int x3)]) C.1.1 C.1.2.1 dX0_directories_48 hl (k := 4) rfl rfl (by decide) rfl (fun ls hl => ?_)
      refine lv_goto (tgt := 17) C.1.1 C.1.2.1 dX0_directories_51 (by decide) ?_
      exact ih (k + 1) x3 (x4 + 1) _ _ _ _ (by omega) (lp_x hx) (Eq.trans hR (tp c_38 rfl)) hH (lv_sub hl [2, 3, 4, 0] rfl)
    · refine lv_iload_n C.1.1 C.1.2.1 dX0_directories_41 rfl (lv_at hl 3 rfl) ?_
      refine lv_iconst (v := 1) C.1.1 C.1.2.1 dX0_directories_42 (by decide) ?_
      refine lv_iload C.1.1 C.1.2.1 dX0_directories_43 (lv_at hl 4 rfl) ?_
      refine lv_ishl C.1.1 C.1.2.1 dX0_directories_45 ?_
      refine lv_ior C.1.1 C.1.2.1 dX0_directories_46 ?_
      refine lv_istore_n (lv' := [(3, .int (x3 ||| ((1 : Int32) <<< (x4 &&& 31)))), (5, .int (fX_directoryThere σ (fX_top p1) x4)), (0, .ref (ad 0)), (1, .int p1), (4, .int x4)]) C.1.1 C.1.2.1 dX0_directories_47 rfl hl (by decide) rfl (fun ls hl => ?_)
      refine lv_iinc (v := (x4 + 1)) (lv' := [(4, .int (x4 + 1)), (3, .int (x3 ||| ((1 : Int32) <<< (x4 &&& 31)))), (5, .int (fX_directoryThere σ (fX_top p1) x4)), (0, .ref (ad 0)), (1, .int p1)]) C.1.1 C.1.2.1 dX0_directories_48 hl (k := 4) rfl rfl (by decide) rfl (fun ls hl => ?_)
      refine lv_goto (tgt := 17) C.1.1 C.1.2.1 dX0_directories_51 (by decide) ?_
      exact ih (k + 1) (x3 ||| ((1 : Int32) <<< (x4 &&& 31))) (x4 + 1) _ _ _ _ (by omega) (lp_x hx) (Eq.trans hR (tn c_38 rfl)) hH (lv_sub hl [3, 4, 1, 0] rfl)
set_option maxHeartbeats 4000000 in
theorem mX_directories (l : Launch) (G : va_G) (ad : Nat → Nat) (d : Nat → ClassId) (σ : SX) (p1 : Int32) (hO : okX σ) : MetXi l yX0_directories cX0_directories 6 .int rmZ1 [.int p1] G ad d σ ((fX_directories σ p1), σ) := by
  refine metX_i (by decide +kernel) rfl (Nat.le_of_ble_eq_true rfl) (fun p e s m below meth c A ls C hH hl => ?_)
  have hl : lv_has ls 6 [(0, .ref (ad 0)), (1, .int p1)] := hl
  have hR : (fX_directories σ p1) = (fX_directories σ p1) := rfl
  generalize s.heap = H at hH ⊢
  generalize ([] : List Loc) = locs at hH ⊢
  refine lv_aload_n C.1.1 C.1.2.1 dX0_directories_0 rfl (lv_at hl 0 rfl) ?_
  refine lv_iload_n C.1.1 C.1.2.1 dX0_directories_1 rfl (lv_at hl 1 rfl) ?_
  refine callX_i C hH (av := [.int p1]) (rest := []) (mX_refused l G ad d σ p1 ) gwX_refused hdX_refused (by decide) rfl hl.1 rfl (Nat.le_of_ble_eq_true rfl) dX0_directories_2 ⟨Nat.zero_le _, Nat.zero_le _⟩ (fun r_ u_ H locs hH hw_ => ?_)
  obtain ⟨rfl, rfl⟩ : (fX_refused σ p1) = r_ ∧ σ = u_ := ⟨(congrArg Prod.fst hw_).symm, (congrArg Prod.snd hw_).symm⟩
  refine lv_istore_n (lv' := [(2, .int (fX_refused σ p1)), (0, .ref (ad 0)), (1, .int p1)]) C.1.1 C.1.2.1 dX0_directories_5 rfl hl (by decide) rfl (fun ls hl => ?_)
  refine lv_iload_n C.1.1 C.1.2.1 dX0_directories_6 rfl (lv_at hl 0 rfl) ?_
  refine lv_if_ge (tgt := 12) C.1.1 C.1.2.1 dX0_directories_7 (by decide) (fun c_7 => ?_) (fun c_7 => ?_)
  · have hm : vp_in p1 4 := b_ref c_7
    have ht : vp_in (6 + p1) 10 := b_top hm
    refine lv_iconst (v := 0) C.1.1 C.1.2.1 dX0_directories_12 (by decide) ?_
    refine lv_istore_n (lv' := [(3, .int 0), (2, .int (fX_refused σ p1)), (0, .ref (ad 0)), (1, .int p1)]) C.1.1 C.1.2.1 dX0_directories_13 rfl hl (by decide) rfl (fun ls hl => ?_)
    refine lv_iconst (v := 0) C.1.1 C.1.2.1 dX0_directories_14 (by decide) ?_
    refine lv_istore (lv' := [(4, .int 0), (3, .int 0), (2, .int (fX_refused σ p1)), (0, .ref (ad 0)), (1, .int p1)]) C.1.1 C.1.2.1 dX0_directories_15 hl (by decide) rfl (fun ls hl => ?_)
    exact bX_directories_17 C hO.1 ht 2 0 0 0 _ _ _ _ rfl nI_0.symm (Eq.trans hR (tp c_7 rfl)) hH (lv_sub hl [3, 4, 1, 0] rfl)
  · refine lv_iload_n C.1.1 C.1.2.1 dX0_directories_10 rfl (lv_at hl 0 rfl) ?_
    exact retX_i C hH dX0_directories_11 (congrArg (fun z => (z, σ)) (Eq.trans hR (tn c_7 rfl))).symm
-- method commit
set_option maxHeartbeats 4000000 in
theorem bX_commit_93 {p : Program} {l : Launch} {e : Env} {s : State} {m : MethodId} {args : Array Value} {below : List Frame} {meth : Method} {c : Code} {G : va_G} {ad : Nat → Nat} {d : Nat → ClassId} {A : Nat → Prop} {p1 : Int32} (C : CX p s m args meth c cX0_commit 5 RX0 (some .int)) (ht : vp_in (6 + p1) 10) : ∀ (n : Nat) (k : Nat) (σ : SX) (x4 : Int32) (rv : Int32 × SX) (H : Heap) (locs : List Loc) (ls : Array Slot), k + n = 8 → x4 = nI k → vp_in (xL σ) 10 → rv = lX_commit_93 p1 n σ x4 → AtX G ad d A s σ H locs → lv_has ls 5 [(0, .ref (ad 0)), (3, .int (fX_top p1)), (4, .int x4)] → W p l e rmZ1 s m args below meth c H locs 0 0 (QXi below G ad d A args s rv) (F0 m 93 ls []) := by
  intro n
  induction n with
  | zero =>
    intro k σ x4 rv H locs ls hk hx hL hR hH hl
    have hz := lp_z (N := 8) hx hk (by decide)
    refine lv_iload C.1.1 C.1.2.1 dX0_commit_93 (lv_at hl 2 rfl) ?_
    refine lv_bipush (v := 8) C.1.1 C.1.2.1 dX0_commit_95 (by decide) ?_
    refine lv_icmp_ge (tgt := 133) C.1.1 C.1.2.1 dX0_commit_97 (by decide) (fun _ => ?_) (fun c => absurd hz c)
    refine lv_aload_n C.1.1 C.1.2.1 dX0_commit_133 rfl (lv_at hl 0 rfl) ?_
    refine getX C hH 1 (by decide) q34 rfl (v := .ref (ad 1)) rfl dX0_commit_134 ?_
    refine lv_aload_n C.1.1 C.1.2.1 dX0_commit_137 rfl (lv_at hl 0 rfl) ?_
    refine getX C hH 0 (by decide) q33 rfl (v := .int (xL σ)) rfl dX0_commit_138 ?_
    refine lv_aload_n C.1.1 C.1.2.1 dX0_commit_141 rfl (lv_at hl 0 rfl) ?_
    refine getX C hH 1 (by decide) q34 rfl (v := .ref (ad 1)) rfl dX0_commit_142 ?_
    refine lv_iload_n C.1.1 C.1.2.1 dX0_commit_145 rfl (lv_at hl 1 rfl) ?_
    refine ildX C hH 1 0 (f := (xUn σ)) rfl rfl dX0_commit_146 ht ?_
    have hH := AtX.eta hH
    refine stX_1 C hH dX0_commit_147 hL (fun H locs hH => ?_)
    refine lv_aload_n C.1.1 C.1.2.1 dX0_commit_148 rfl (lv_at hl 0 rfl) ?_
    refine lv_iload_n C.1.1 C.1.2.1 dX0_commit_149 rfl (lv_at hl 1 rfl) ?_
    refine callX_v C hH (av := [.int (fX_top p1)]) (rest := []) (mX_clean l G ad d ((xL σ), (upd (xUn σ) (xL σ).toNatClampNeg ((xUn σ) (fX_top p1).toNatClampNeg)), (xOw σ), (xHi σ), (xOd σ), (xHd σ), (xCt σ), (xIu σ)) (fX_top p1) ht) gwX_clean hdX_clean (by decide) rfl hl.1 rfl (Nat.le_of_ble_eq_true rfl) dX0_commit_150 ⟨Nat.zero_le _, Nat.zero_le _⟩ (fun u_ H locs hH hw_ => ?_)
    subst hw_
    refine lv_aload_n C.1.1 C.1.2.1 dX0_commit_153 rfl (lv_at hl 0 rfl) ?_
    refine getX C hH 1 (by decide) q34 rfl (v := .ref (ad 1)) rfl dX0_commit_154 ?_
    refine lv_iload_n C.1.1 C.1.2.1 dX0_commit_157 rfl (lv_at hl 1 rfl) ?_
    refine lv_aload_n C.1.1 C.1.2.1 dX0_commit_158 rfl (lv_at hl 0 rfl) ?_
    refine getX C hH 0 (by decide) q33 rfl (v := .int (xL (fX_clean ((xL σ), (upd (xUn σ) (xL σ).toNatClampNeg ((xUn σ) (fX_top p1).toNatClampNeg)), (xOw σ), (xHi σ), (xOd σ), (xHd σ), (xCt σ), (xIu σ)) (fX_top p1)))) rfl dX0_commit_159 ?_
    have hH := AtX.eta hH
    refine stX_1 C hH dX0_commit_162 ht (fun H locs hH => ?_)
    refine lv_aload_n C.1.1 C.1.2.1 dX0_commit_163 rfl (lv_at hl 0 rfl) ?_
    refine lv_dup C.1.1 C.1.2.1 dX0_commit_164 rfl ?_
    refine getXt C hH q33 dX0_commit_165 ?_
    refine lv_iconst (v := 1) C.1.1 C.1.2.1 dX0_commit_168 (by decide) ?_
    refine lv_iadd C.1.1 C.1.2.1 dX0_commit_169 ?_
    refine putX C hH q33 dX0_commit_170 (fun H locs hH => ?_)
    refine lv_aload_n C.1.1 C.1.2.1 dX0_commit_173 rfl (lv_at hl 0 rfl) ?_
    refine getXt C hH q33 dX0_commit_174 ?_
    refine lv_iconst (v := 1) C.1.1 C.1.2.1 dX0_commit_177 (by decide) ?_
    refine lv_isub C.1.1 C.1.2.1 dX0_commit_178 ?_
    exact retX_i C hH dX0_commit_179 (Eq.trans hR rfl).symm
  | succ n ih =>
    intro k σ x4 rv H locs ls hk hx hL hR hH hl
    have hz := lp_s (N := 8) hx hk (by decide)
    refine lv_iload C.1.1 C.1.2.1 dX0_commit_93 (lv_at hl 2 rfl) ?_
    refine lv_bipush (v := 8) C.1.1 C.1.2.1 dX0_commit_95 (by decide) ?_
    refine lv_icmp_ge (tgt := 133) C.1.1 C.1.2.1 dX0_commit_97 (by decide) (fun c => absurd c hz) (fun _ => ?_)
    refine lv_aload_n C.1.1 C.1.2.1 dX0_commit_100 rfl (lv_at hl 0 rfl) ?_
    refine getX C hH 6 (by decide) q39 rfl (v := .ref (ad 6)) rfl dX0_commit_101 ?_
    refine lv_aload_n C.1.1 C.1.2.1 dX0_commit_104 rfl (lv_at hl 0 rfl) ?_
    refine getX C hH 0 (by decide) q33 rfl (v := .int (xL σ)) rfl dX0_commit_105 ?_
    refine lv_bipush (v := 8) C.1.1 C.1.2.1 dX0_commit_108 (by decide) ?_
    refine lv_imul C.1.1 C.1.2.1 dX0_commit_110 ?_
    refine lv_iload C.1.1 C.1.2.1 dX0_commit_111 (lv_at hl 2 rfl) ?_
    refine lv_iadd C.1.1 C.1.2.1 dX0_commit_113 ?_
    refine lv_aload_n C.1.1 C.1.2.1 dX0_commit_114 rfl (lv_at hl 0 rfl) ?_
    refine getX C hH 6 (by decide) q39 rfl (v := .ref (ad 6)) rfl dX0_commit_115 ?_
    refine lv_iload_n C.1.1 C.1.2.1 dX0_commit_118 rfl (lv_at hl 1 rfl) ?_
    refine lv_bipush (v := 8) C.1.1 C.1.2.1 dX0_commit_119 (by decide) ?_
    refine lv_imul C.1.1 C.1.2.1 dX0_commit_121 ?_
    refine lv_iload C.1.1 C.1.2.1 dX0_commit_122 (lv_at hl 2 rfl) ?_
    refine lv_iadd C.1.1 C.1.2.1 dX0_commit_124 ?_
    refine ildX C hH 6 5 (f := (xCt σ)) rfl rfl dX0_commit_125 (b_ct ht (lp_in hx hk (N := 8) (M := 8) (by decide) (by decide))) ?_
    have hH := AtX.eta hH
    refine stX_6 C hH dX0_commit_126 (b_ct hL (lp_in hx hk (N := 8) (M := 8) (by decide) (by decide))) (fun H locs hH => ?_)
    refine lv_iinc (v := (x4 + 1)) (lv' := [(4, .int (x4 + 1)), (0, .ref (ad 0)), (3, .int (fX_top p1))]) C.1.1 C.1.2.1 dX0_commit_127 hl (k := 2) rfl rfl (by decide) rfl (fun ls hl => ?_)
    refine lv_goto (tgt := 93) C.1.1 C.1.2.1 dX0_commit_130 (by decide) ?_
    exact ih (k + 1) ((xL σ), (xUn σ), (xOw σ), (xHi σ), (xOd σ), (xHd σ), (upd (xCt σ) (((xL σ) * 8) + x4).toNatClampNeg ((xCt σ) (((fX_top p1) * 8) + x4).toNatClampNeg)), (xIu σ)) (x4 + 1) _ _ _ _ (by omega) (lp_x hx) (vin_mk hL) (Eq.trans hR rfl) hH (lv_sub hl [1, 2, 0] rfl)
set_option maxHeartbeats 4000000 in
theorem mX_commit (l : Launch) (G : va_G) (ad : Nat → Nat) (d : Nat → ClassId) (σ : SX) (p1 : Int32) (hO : okX σ) : MetXi l yX0_commit cX0_commit 5 .int rmZ1 [.int p1] G ad d σ (fX_commit σ p1) := by
  refine metX_i (by decide +kernel) rfl (Nat.le_of_ble_eq_true rfl) (fun p e s m below meth c A ls C hH hl => ?_)
  have hl : lv_has ls 5 [(0, .ref (ad 0)), (1, .int p1)] := hl
  have hR : (fX_commit σ p1) = (fX_commit σ p1) := rfl
  generalize s.heap = H at hH ⊢
  generalize ([] : List Loc) = locs at hH ⊢
  refine lv_aload_n C.1.1 C.1.2.1 dX0_commit_0 rfl (lv_at hl 0 rfl) ?_
  refine lv_iload_n C.1.1 C.1.2.1 dX0_commit_1 rfl (lv_at hl 1 rfl) ?_
  refine callX_i C hH (av := [.int p1]) (rest := []) (mX_refused l G ad d σ p1 ) gwX_refused hdX_refused (by decide) rfl hl.1 rfl (Nat.le_of_ble_eq_true rfl) dX0_commit_2 ⟨Nat.zero_le _, Nat.zero_le _⟩ (fun r_ u_ H locs hH hw_ => ?_)
  obtain ⟨rfl, rfl⟩ : (fX_refused σ p1) = r_ ∧ σ = u_ := ⟨(congrArg Prod.fst hw_).symm, (congrArg Prod.snd hw_).symm⟩
  refine lv_istore_n (lv' := [(2, .int (fX_refused σ p1)), (0, .ref (ad 0)), (1, .int p1)]) C.1.1 C.1.2.1 dX0_commit_5 rfl hl (by decide) rfl (fun ls hl => ?_)
  refine lv_iload_n C.1.1 C.1.2.1 dX0_commit_6 rfl (lv_at hl 0 rfl) ?_
  refine lv_if_ge (tgt := 12) C.1.1 C.1.2.1 dX0_commit_7 (by decide) (fun c_7 => ?_) (fun c_7 => ?_)
  · refine lv_aload_n C.1.1 C.1.2.1 dX0_commit_12 rfl (lv_at hl 1 rfl) ?_
    refine getX C hH 0 (by decide) q33 rfl (v := .int (xL σ)) rfl dX0_commit_13 ?_
    refine lv_bipush (v := 6) C.1.1 C.1.2.1 dX0_commit_16 (by decide) ?_
    refine lv_icmp_ne (tgt := 24) C.1.1 C.1.2.1 dX0_commit_18 (by decide) (fun c_18 => ?_) (fun c_18 => ?_)
    · have hm : vp_in p1 4 := b_ref c_7
      have ht : vp_in (6 + p1) 10 := b_top hm
      have hL : vp_in (xL σ) 10 := b_L hO c_18
      refine lv_aload_n C.1.1 C.1.2.1 dX0_commit_24 rfl (lv_at hl 1 rfl) ?_
      refine lv_iload_n C.1.1 C.1.2.1 dX0_commit_25 rfl (lv_at hl 2 rfl) ?_
      refine callX_i C hH (av := [.int p1]) (rest := []) (mX_top l G ad d σ p1 ) gwX_top hdX_top (by decide) rfl hl.1 rfl (Nat.le_of_ble_eq_true rfl) dX0_commit_26 ⟨Nat.zero_le _, Nat.zero_le _⟩ (fun r_ u_ H locs hH hw_ => ?_)
      obtain ⟨rfl, rfl⟩ : (fX_top p1) = r_ ∧ σ = u_ := ⟨(congrArg Prod.fst hw_).symm, (congrArg Prod.snd hw_).symm⟩
      refine lv_istore_n (lv' := [(3, .int (fX_top p1)), (2, .int (fX_refused σ p1)), (0, .ref (ad 0)), (1, .int p1)]) C.1.1 C.1.2.1 dX0_commit_29 rfl hl (by decide) rfl (fun ls hl => ?_)
      refine lv_aload_n C.1.1 C.1.2.1 dX0_commit_30 rfl (lv_at hl 2 rfl) ?_
      refine getX C hH 2 (by decide) q35 rfl (v := .ref (ad 2)) rfl dX0_commit_31 ?_
      refine lv_aload_n C.1.1 C.1.2.1 dX0_commit_34 rfl (lv_at hl 2 rfl) ?_
      refine getX C hH 0 (by decide) q33 rfl (v := .int (xL σ)) rfl dX0_commit_35 ?_
      refine lv_aload_n C.1.1 C.1.2.1 dX0_commit_38 rfl (lv_at hl 2 rfl) ?_
      refine getX C hH 2 (by decide) q35 rfl (v := .ref (ad 2)) rfl dX0_commit_39 ?_
      refine lv_iload_n C.1.1 C.1.2.1 dX0_commit_42 rfl (lv_at hl 0 rfl) ?_
      refine ildX C hH 2 1 (f := (xOw σ)) rfl rfl dX0_commit_43 ht ?_
      have hH := AtX.eta hH
      refine stX_2 C hH dX0_commit_44 hL (fun H locs hH => ?_)
      refine lv_aload_n C.1.1 C.1.2.1 dX0_commit_45 rfl (lv_at hl 2 rfl) ?_
      refine getX C hH 3 (by decide) q36 rfl (v := .ref (ad 3)) rfl dX0_commit_46 ?_
      refine lv_aload_n C.1.1 C.1.2.1 dX0_commit_49 rfl (lv_at hl 2 rfl) ?_
      refine getXt C hH q33 dX0_commit_50 ?_
      refine lv_aload_n C.1.1 C.1.2.1 dX0_commit_53 rfl (lv_at hl 2 rfl) ?_
      refine getX C hH 3 (by decide) q36 rfl (v := .ref (ad 3)) rfl dX0_commit_54 ?_
      refine lv_iload_n C.1.1 C.1.2.1 dX0_commit_57 rfl (lv_at hl 0 rfl) ?_
      refine ldX_3 C hH dX0_commit_58 ht ?_
      refine stX_3 C hH dX0_commit_59 hL (fun H locs hH => ?_)
      refine lv_aload_n C.1.1 C.1.2.1 dX0_commit_60 rfl (lv_at hl 2 rfl) ?_
      refine getX C hH 4 (by decide) q37 rfl (v := .ref (ad 4)) rfl dX0_commit_61 ?_
      refine lv_aload_n C.1.1 C.1.2.1 dX0_commit_64 rfl (lv_at hl 2 rfl) ?_
      refine getXt C hH q33 dX0_commit_65 ?_
      refine lv_aload_n C.1.1 C.1.2.1 dX0_commit_68 rfl (lv_at hl 2 rfl) ?_
      refine getX C hH 4 (by decide) q37 rfl (v := .ref (ad 4)) rfl dX0_commit_69 ?_
      refine lv_iload_n C.1.1 C.1.2.1 dX0_commit_72 rfl (lv_at hl 0 rfl) ?_
      refine ldX_4 C hH dX0_commit_73 ht ?_
      refine stX_4 C hH dX0_commit_74 hL (fun H locs hH => ?_)
      refine lv_aload_n C.1.1 C.1.2.1 dX0_commit_75 rfl (lv_at hl 2 rfl) ?_
      refine getX C hH 5 (by decide) q38 rfl (v := .ref (ad 5)) rfl dX0_commit_76 ?_
      refine lv_aload_n C.1.1 C.1.2.1 dX0_commit_79 rfl (lv_at hl 2 rfl) ?_
      refine getXt C hH q33 dX0_commit_80 ?_
      refine lv_aload_n C.1.1 C.1.2.1 dX0_commit_83 rfl (lv_at hl 2 rfl) ?_
      refine getX C hH 5 (by decide) q38 rfl (v := .ref (ad 5)) rfl dX0_commit_84 ?_
      refine lv_iload_n C.1.1 C.1.2.1 dX0_commit_87 rfl (lv_at hl 0 rfl) ?_
      refine ldX_5 C hH dX0_commit_88 ht ?_
      refine stX_5 C hH dX0_commit_89 hL (fun H locs hH => ?_)
      refine lv_iconst (v := 0) C.1.1 C.1.2.1 dX0_commit_90 (by decide) ?_
      refine lv_istore (lv' := [(4, .int 0), (3, .int (fX_top p1)), (2, .int (fX_refused σ p1)), (0, .ref (ad 0)), (1, .int p1)]) C.1.1 C.1.2.1 dX0_commit_91 hl (by decide) rfl (fun ls hl => ?_)
      exact bX_commit_93 C ht 8 0 ((xL σ), (xUn σ), (upd (xOw σ) (xL σ).toNatClampNeg ((xOw σ) (fX_top p1).toNatClampNeg)), (upd (xHi σ) (xL σ).toNatClampNeg ((xHi σ) (fX_top p1).toNatClampNeg)), (upd (xOd σ) (xL σ).toNatClampNeg ((xOd σ) (fX_top p1).toNatClampNeg)), (upd (xHd σ) (xL σ).toNatClampNeg ((xHd σ) (fX_top p1).toNatClampNeg)), (xCt σ), (xIu σ)) 0 _ _ _ _ rfl nI_0.symm (vin_mk hL) (Eq.trans hR (tp c_7 (tn c_18 rfl))) hH (lv_sub hl [3, 1, 0] rfl)
    · refine lv_bipush (v := (-2)) C.1.1 C.1.2.1 dX0_commit_21 (by decide) ?_
      exact retX_i C hH dX0_commit_23 (Eq.trans hR (tp c_7 (tp c_18 rfl))).symm
  · refine lv_iload_n C.1.1 C.1.2.1 dX0_commit_10 rfl (lv_at hl 0 rfl) ?_
    exact retX_i C hH dX0_commit_11 (Eq.trans hR (tn c_7 rfl)).symm
-- method drop
set_option maxHeartbeats 4000000 in
theorem bX_drop_55 {p : Program} {l : Launch} {e : Env} {s : State} {m : MethodId} {args : Array Value} {below : List Frame} {meth : Method} {c : Code} {G : va_G} {ad : Nat → Nat} {d : Nat → ClassId} {A : Nat → Prop} {σ : SX}  (C : CX p s m args meth c cX0_drop 4 RX0 (some .int)) (hO : okX σ) : ∀ (n : Nat) (k : Nat) (x2 : Int32) (x3 : Int32) (rv : Int32 × SX) (H : Heap) (locs : List Loc) (ls : Array Slot), k + n = 4 → x3 = nI k → rv = lX_drop_55 σ n x2 x3 → AtX G ad d A s σ H locs → lv_has ls 4 [(0, .ref (ad 0)), (1, .int ((xL σ) - 1)), (2, .int x2), (3, .int x3)] → W p l e rmZ1 s m args below meth c H locs 0 0 (QXi below G ad d A args s rv) (F0 m 55 ls []) := by
  intro n
  induction n with
  | zero =>
    intro k x2 x3 rv H locs ls hk hx hR hH hl
    have hz := lp_z (N := 4) hx hk (by decide)
    refine lv_iload_n C.1.1 C.1.2.1 dX0_drop_55 rfl (lv_at hl 3 rfl) ?_
    refine lv_iconst (v := 4) C.1.1 C.1.2.1 dX0_drop_56 (by decide) ?_
    refine lv_icmp_ge (tgt := 99) C.1.1 C.1.2.1 dX0_drop_57 (by decide) (fun _ => ?_) (fun c => absurd hz c)
    refine lv_iload_n C.1.1 C.1.2.1 dX0_drop_99 rfl (lv_at hl 2 rfl) ?_
    refine lv_if_ne (tgt := 106) C.1.1 C.1.2.1 dX0_drop_100 (by decide) (fun c_100 => ?_) (fun c_100 => ?_)
    · refine lv_aload_n C.1.1 C.1.2.1 dX0_drop_106 rfl (lv_at hl 0 rfl) ?_
      refine lv_iload_n C.1.1 C.1.2.1 dX0_drop_107 rfl (lv_at hl 1 rfl) ?_
      refine callX_v C hH (av := [.int ((xL σ) - 1)]) (rest := []) (mX_clean l G ad d σ ((xL σ) - 1) (b_L1 hO)) gwX_clean hdX_clean (by decide) rfl hl.1 rfl (Nat.le_of_ble_eq_true rfl) dX0_drop_108 ⟨Nat.zero_le _, Nat.zero_le _⟩ (fun u_ H locs hH hw_ => ?_)
      subst hw_
      refine lv_aload_n C.1.1 C.1.2.1 dX0_drop_111 rfl (lv_at hl 0 rfl) ?_
      refine lv_dup C.1.1 C.1.2.1 dX0_drop_112 rfl ?_
      refine getX C hH 0 (by decide) q33 rfl (v := .int (xL (fX_clean σ ((xL σ) - 1)))) rfl dX0_drop_113 ?_
      refine lv_iconst (v := 1) C.1.1 C.1.2.1 dX0_drop_116 (by decide) ?_
      refine lv_isub C.1.1 C.1.2.1 dX0_drop_117 ?_
      have hH := AtX.eta hH
      refine putX C hH q33 dX0_drop_118 (fun H locs hH => ?_)
      refine lv_iload_n C.1.1 C.1.2.1 dX0_drop_121 rfl (lv_at hl 1 rfl) ?_
      exact retX_i C hH dX0_drop_122 (Eq.trans hR (tn c_100 rfl)).symm
    · refine lv_bipush (v := (-4)) C.1.1 C.1.2.1 dX0_drop_103 (by decide) ?_
      exact retX_i C hH dX0_drop_105 (Eq.trans hR (tp c_100 rfl)).symm
  | succ n ih =>
    intro k x2 x3 rv H locs ls hk hx hR hH hl
    have hz := lp_s (N := 4) hx hk (by decide)
    refine lv_iload_n C.1.1 C.1.2.1 dX0_drop_55 rfl (lv_at hl 3 rfl) ?_
    refine lv_iconst (v := 4) C.1.1 C.1.2.1 dX0_drop_56 (by decide) ?_
    refine lv_icmp_ge (tgt := 99) C.1.1 C.1.2.1 dX0_drop_57 (by decide) (fun c => absurd c hz) (fun _ => ?_)
    refine lv_iload_n C.1.1 C.1.2.1 dX0_drop_60 rfl (lv_at hl 2 rfl) ?_
    refine lv_if_eq (tgt := 91) C.1.1 C.1.2.1 dX0_drop_61 (by decide) (fun c_61 => ?_) (fun c_61 => ?_)
    · refine lv_iconst (v := 0) C.1.1 C.1.2.1 dX0_drop_91 (by decide) ?_
      refine lv_istore_n (lv' := [(2, .int 0), (0, .ref (ad 0)), (1, .int ((xL σ) - 1)), (3, .int x3)]) C.1.1 C.1.2.1 dX0_drop_92 rfl hl (by decide) rfl (fun ls hl => ?_)
      refine lv_iinc (v := (x3 + 1)) (lv' := [(3, .int (x3 + 1)), (2, .int 0), (0, .ref (ad 0)), (1, .int ((xL σ) - 1))]) C.1.1 C.1.2.1 dX0_drop_93 hl (k := 3) rfl rfl (by decide) rfl (fun ls hl => ?_)
      refine lv_goto (tgt := 55) C.1.1 C.1.2.1 dX0_drop_96 (by decide) ?_
      exact ih (k + 1) 0 (x3 + 1) _ _ _ _ (by omega) (lp_x hx) (Eq.trans hR (tp c_61 rfl)) hH (lv_sub hl [2, 3, 1, 0] rfl)
    · refine lv_aload_n C.1.1 C.1.2.1 dX0_drop_64 rfl (lv_at hl 0 rfl) ?_
      refine getX C hH 7 (by decide) q40 rfl (v := .ref (ad 7)) rfl dX0_drop_65 ?_
      refine lv_iload_n C.1.1 C.1.2.1 dX0_drop_68 rfl (lv_at hl 3 rfl) ?_
      refine zldX C hH 7 6 (f := (xIu σ)) rfl rfl dX0_drop_69 (lp_in hx hk (N := 4) (M := 4) (by decide) (by decide)) ?_
      refine lv_if_eq (tgt := 87) C.1.1 C.1.2.1 dX0_drop_70 (by decide) (fun c_70 => ?_) (fun c_70 => ?_)
      · refine lv_iconst (v := 1) C.1.1 C.1.2.1 dX0_drop_87 (by decide) ?_
        refine lv_goto (tgt := 92) C.1.1 C.1.2.1 dX0_drop_88 (by decide) ?_
        refine lv_istore_n (lv' := [(2, .int 1), (0, .ref (ad 0)), (1, .int ((xL σ) - 1)), (3, .int x3)]) C.1.1 C.1.2.1 dX0_drop_92 rfl hl (by decide) rfl (fun ls hl => ?_)
        refine lv_iinc (v := (x3 + 1)) (lv' := [(3, .int (x3 + 1)), (2, .int 1), (0, .ref (ad 0)), (1, .int ((xL σ) - 1))]) C.1.1 C.1.2.1 dX0_drop_93 hl (k := 3) rfl rfl (by decide) rfl (fun ls hl => ?_)
        refine lv_goto (tgt := 55) C.1.1 C.1.2.1 dX0_drop_96 (by decide) ?_
        exact ih (k + 1) 1 (x3 + 1) _ _ _ _ (by omega) (lp_x hx) (Eq.trans hR (tn c_61 (tp c_70 rfl))) hH (lv_sub hl [2, 3, 1, 0] rfl)
      · refine lv_aload_n C.1.1 C.1.2.1 dX0_drop_73 rfl (lv_at hl 0 rfl) ?_
        refine getX C hH 1 (by decide) q34 rfl (v := .ref (ad 1)) rfl dX0_drop_74 ?_
        refine lv_aload_n C.1.1 C.1.2.1 dX0_drop_77 rfl (lv_at hl 0 rfl) ?_
        refine lv_iload_n C.1.1 C.1.2.1 dX0_drop_78 rfl (lv_at hl 3 rfl) ?_
        refine callX_i C hH (av := [.int x3]) (rest := [.ref (ad 1)]) (mX_top l G ad d σ x3 ) gwX_top hdX_top (by decide) rfl hl.1 rfl (Nat.le_of_ble_eq_true rfl) dX0_drop_79 ⟨Nat.zero_le _, Nat.zero_le _⟩ (fun r_ u_ H locs hH hw_ => ?_)
        obtain ⟨rfl, rfl⟩ : (fX_top x3) = r_ ∧ σ = u_ := ⟨(congrArg Prod.fst hw_).symm, (congrArg Prod.snd hw_).symm⟩
        refine ildX C hH 1 0 (f := (xUn σ)) rfl rfl dX0_drop_82 (b_top (lp_in hx hk (N := 4) (M := 4) (by decide) (by decide))) ?_
        refine lv_iload_n C.1.1 C.1.2.1 dX0_drop_83 rfl (lv_at hl 1 rfl) ?_
        refine lv_icmp_eq (tgt := 91) C.1.1 C.1.2.1 dX0_drop_84 (by decide) (fun c_84 => ?_) (fun c_84 => ?_)
        · refine lv_iconst (v := 0) C.1.1 C.1.2.1 dX0_drop_91 (by decide) ?_
          refine lv_istore_n (lv' := [(2, .int 0), (0, .ref (ad 0)), (1, .int ((xL σ) - 1)), (3, .int x3)]) C.1.1 C.1.2.1 dX0_drop_92 rfl hl (by decide) rfl (fun ls hl => ?_)
          refine lv_iinc (v := (x3 + 1)) (lv' := [(3, .int (x3 + 1)), (2, .int 0), (0, .ref (ad 0)), (1, .int ((xL σ) - 1))]) C.1.1 C.1.2.1 dX0_drop_93 hl (k := 3) rfl rfl (by decide) rfl (fun ls hl => ?_)
          refine lv_goto (tgt := 55) C.1.1 C.1.2.1 dX0_drop_96 (by decide) ?_
          exact ih (k + 1) 0 (x3 + 1) _ _ _ _ (by omega) (lp_x hx) (Eq.trans hR (tn c_61 (tn c_70 (tp c_84 rfl)))) hH (lv_sub hl [2, 3, 1, 0] rfl)
        · refine lv_iconst (v := 1) C.1.1 C.1.2.1 dX0_drop_87 (by decide) ?_
          refine lv_goto (tgt := 92) C.1.1 C.1.2.1 dX0_drop_88 (by decide) ?_
          refine lv_istore_n (lv' := [(2, .int 1), (0, .ref (ad 0)), (1, .int ((xL σ) - 1)), (3, .int x3)]) C.1.1 C.1.2.1 dX0_drop_92 rfl hl (by decide) rfl (fun ls hl => ?_)
          refine lv_iinc (v := (x3 + 1)) (lv' := [(3, .int (x3 + 1)), (2, .int 1), (0, .ref (ad 0)), (1, .int ((xL σ) - 1))]) C.1.1 C.1.2.1 dX0_drop_93 hl (k := 3) rfl rfl (by decide) rfl (fun ls hl => ?_)
          refine lv_goto (tgt := 55) C.1.1 C.1.2.1 dX0_drop_96 (by decide) ?_
          exact ih (k + 1) 1 (x3 + 1) _ _ _ _ (by omega) (lp_x hx) (Eq.trans hR (tn c_61 (tn c_70 (tn c_84 rfl)))) hH (lv_sub hl [2, 3, 1, 0] rfl)
set_option maxHeartbeats 4000000 in
theorem bX_drop_19 {p : Program} {l : Launch} {e : Env} {s : State} {m : MethodId} {args : Array Value} {below : List Frame} {meth : Method} {c : Code} {G : va_G} {ad : Nat → Nat} {d : Nat → ClassId} {A : Nat → Prop} {σ : SX}  (C : CX p s m args meth c cX0_drop 4 RX0 (some .int)) (hO : okX σ) (hL : xL σ = nI (xL σ).toNatClampNeg) (h6 : (xL σ).toNatClampNeg ≤ 10) : ∀ (n : Nat) (k : Nat) (x2 : Int32) (x3 : Int32) (rv : Int32 × SX) (H : Heap) (locs : List Loc) (ls : Array Slot), k + n = (xL σ).toNatClampNeg → x3 = nI k → rv = lX_drop_19 σ n x2 x3 → AtX G ad d A s σ H locs → lv_has ls 4 [(0, .ref (ad 0)), (1, .int ((xL σ) - 1)), (2, .int x2), (3, .int x3)] → W p l e rmZ1 s m args below meth c H locs 0 0 (QXi below G ad d A args s rv) (F0 m 19 ls []) := by
  intro n
  induction n with
  | zero =>
    intro k x2 x3 rv H locs ls hk hx hR hH hl
    have hz := (show xL σ ≤ x3 by rw [hL]; exact lp_z hx hk (by omega))
    refine lv_iload_n C.1.1 C.1.2.1 dX0_drop_19 rfl (lv_at hl 3 rfl) ?_
    refine lv_aload_n C.1.1 C.1.2.1 dX0_drop_20 rfl (lv_at hl 0 rfl) ?_
    refine getX C hH 0 (by decide) q33 rfl (v := .int (xL σ)) rfl dX0_drop_21 ?_
    refine lv_icmp_ge (tgt := 53) C.1.1 C.1.2.1 dX0_drop_24 (by decide) (fun _ => ?_) (fun c => absurd hz c)
    refine lv_iconst (v := 0) C.1.1 C.1.2.1 dX0_drop_53 (by decide) ?_
    refine lv_istore_n (lv' := [(3, .int 0), (0, .ref (ad 0)), (1, .int ((xL σ) - 1)), (2, .int x2)]) C.1.1 C.1.2.1 dX0_drop_54 rfl hl (by decide) rfl (fun ls hl => ?_)
    exact bX_drop_55 C hO 4 0 x2 0 _ _ _ _ rfl nI_0.symm (Eq.trans hR rfl) hH (lv_sub hl [1, 2, 3, 0] rfl)
  | succ n ih =>
    intro k x2 x3 rv H locs ls hk hx hR hH hl
    have hz := (show ¬ xL σ ≤ x3 by rw [hL]; exact lp_s hx hk (by omega))
    refine lv_iload_n C.1.1 C.1.2.1 dX0_drop_19 rfl (lv_at hl 3 rfl) ?_
    refine lv_aload_n C.1.1 C.1.2.1 dX0_drop_20 rfl (lv_at hl 0 rfl) ?_
    refine getX C hH 0 (by decide) q33 rfl (v := .int (xL σ)) rfl dX0_drop_21 ?_
    refine lv_icmp_ge (tgt := 53) C.1.1 C.1.2.1 dX0_drop_24 (by decide) (fun c => absurd c hz) (fun _ => ?_)
    refine lv_iload_n C.1.1 C.1.2.1 dX0_drop_27 rfl (lv_at hl 2 rfl) ?_
    refine lv_if_eq (tgt := 45) C.1.1 C.1.2.1 dX0_drop_28 (by decide) (fun c_28 => ?_) (fun c_28 => ?_)
    · refine lv_iconst (v := 0) C.1.1 C.1.2.1 dX0_drop_45 (by decide) ?_
      refine lv_istore_n (lv' := [(2, .int 0), (0, .ref (ad 0)), (1, .int ((xL σ) - 1)), (3, .int x3)]) C.1.1 C.1.2.1 dX0_drop_46 rfl hl (by decide) rfl (fun ls hl => ?_)
      refine lv_iinc (v := (x3 + 1)) (lv' := [(3, .int (x3 + 1)), (2, .int 0), (0, .ref (ad 0)), (1, .int ((xL σ) - 1))]) C.1.1 C.1.2.1 dX0_drop_47 hl (k := 3) rfl rfl (by decide) rfl (fun ls hl => ?_)
      refine lv_goto (tgt := 19) C.1.1 C.1.2.1 dX0_drop_50 (by decide) ?_
      exact ih (k + 1) 0 (x3 + 1) _ _ _ _ (by omega) (lp_x hx) (Eq.trans hR (tp c_28 rfl)) hH (lv_sub hl [2, 3, 1, 0] rfl)
    · refine lv_aload_n C.1.1 C.1.2.1 dX0_drop_31 rfl (lv_at hl 0 rfl) ?_
      refine getX C hH 1 (by decide) q34 rfl (v := .ref (ad 1)) rfl dX0_drop_32 ?_
      refine lv_iload_n C.1.1 C.1.2.1 dX0_drop_35 rfl (lv_at hl 3 rfl) ?_
      refine ildX C hH 1 0 (f := (xUn σ)) rfl rfl dX0_drop_36 (lp_in hx hk h6 (by decide)) ?_
      refine lv_iload_n C.1.1 C.1.2.1 dX0_drop_37 rfl (lv_at hl 1 rfl) ?_
      refine lv_icmp_eq (tgt := 45) C.1.1 C.1.2.1 dX0_drop_38 (by decide) (fun c_38 => ?_) (fun c_38 => ?_)
      · refine lv_iconst (v := 0) C.1.1 C.1.2.1 dX0_drop_45 (by decide) ?_
        refine lv_istore_n (lv' := [(2, .int 0), (0, .ref (ad 0)), (1, .int ((xL σ) - 1)), (3, .int x3)]) C.1.1 C.1.2.1 dX0_drop_46 rfl hl (by decide) rfl (fun ls hl => ?_)
        refine lv_iinc (v := (x3 + 1)) (lv' := [(3, .int (x3 + 1)), (2, .int 0), (0, .ref (ad 0)), (1, .int ((xL σ) - 1))]) C.1.1 C.1.2.1 dX0_drop_47 hl (k := 3) rfl rfl (by decide) rfl (fun ls hl => ?_)
        refine lv_goto (tgt := 19) C.1.1 C.1.2.1 dX0_drop_50 (by decide) ?_
        exact ih (k + 1) 0 (x3 + 1) _ _ _ _ (by omega) (lp_x hx) (Eq.trans hR (tn c_28 (tp c_38 rfl))) hH (lv_sub hl [2, 3, 1, 0] rfl)
      · refine lv_iconst (v := 1) C.1.1 C.1.2.1 dX0_drop_41 (by decide) ?_
        refine lv_goto (tgt := 46) C.1.1 C.1.2.1 dX0_drop_42 (by decide) ?_
        refine lv_istore_n (lv' := [(2, .int 1), (0, .ref (ad 0)), (1, .int ((xL σ) - 1)), (3, .int x3)]) C.1.1 C.1.2.1 dX0_drop_46 rfl hl (by decide) rfl (fun ls hl => ?_)
        refine lv_iinc (v := (x3 + 1)) (lv' := [(3, .int (x3 + 1)), (2, .int 1), (0, .ref (ad 0)), (1, .int ((xL σ) - 1))]) C.1.1 C.1.2.1 dX0_drop_47 hl (k := 3) rfl rfl (by decide) rfl (fun ls hl => ?_)
        refine lv_goto (tgt := 19) C.1.1 C.1.2.1 dX0_drop_50 (by decide) ?_
        exact ih (k + 1) 1 (x3 + 1) _ _ _ _ (by omega) (lp_x hx) (Eq.trans hR (tn c_28 (tn c_38 rfl))) hH (lv_sub hl [2, 3, 1, 0] rfl)
set_option maxHeartbeats 4000000 in
theorem mX_drop (l : Launch) (G : va_G) (ad : Nat → Nat) (d : Nat → ClassId) (σ : SX)  (hO : okX σ) : MetXi l yX0_drop cX0_drop 4 .int rmZ1 [] G ad d σ (fX_drop σ) := by
  refine metX_i (by decide +kernel) rfl (Nat.le_of_ble_eq_true rfl) (fun p e s m below meth c A ls C hH hl => ?_)
  have hl : lv_has ls 4 [(0, .ref (ad 0))] := hl
  have hR : (fX_drop σ) = (fX_drop σ) := rfl
  generalize s.heap = H at hH ⊢
  generalize ([] : List Loc) = locs at hH ⊢
  obtain ⟨hL, h1L, h6⟩ := b_nl hO
  refine lv_aload_n C.1.1 C.1.2.1 dX0_drop_0 rfl (lv_at hl 0 rfl) ?_
  refine getX C hH 0 (by decide) q33 rfl (v := .int (xL σ)) rfl dX0_drop_1 ?_
  refine lv_iconst (v := 1) C.1.1 C.1.2.1 dX0_drop_4 (by decide) ?_
  refine lv_isub C.1.1 C.1.2.1 dX0_drop_5 ?_
  refine lv_istore_n (lv' := [(1, .int ((xL σ) - 1)), (0, .ref (ad 0))]) C.1.1 C.1.2.1 dX0_drop_6 rfl hl (by decide) rfl (fun ls hl => ?_)
  refine lv_iload_n C.1.1 C.1.2.1 dX0_drop_7 rfl (lv_at hl 0 rfl) ?_
  refine lv_if_le (tgt := 15) C.1.1 C.1.2.1 dX0_drop_8 (by decide) (fun c_8 => ?_) (fun c_8 => ?_)
  · refine lv_iconst (v := 0) C.1.1 C.1.2.1 dX0_drop_15 (by decide) ?_
    refine lv_istore_n (lv' := [(2, .int 0), (1, .int ((xL σ) - 1)), (0, .ref (ad 0))]) C.1.1 C.1.2.1 dX0_drop_16 rfl hl (by decide) rfl (fun ls hl => ?_)
    refine lv_iconst (v := 0) C.1.1 C.1.2.1 dX0_drop_17 (by decide) ?_
    refine lv_istore_n (lv' := [(3, .int 0), (2, .int 0), (1, .int ((xL σ) - 1)), (0, .ref (ad 0))]) C.1.1 C.1.2.1 dX0_drop_18 rfl hl (by decide) rfl (fun ls hl => ?_)
    exact bX_drop_19 C hO hL h6 (xL σ).toNatClampNeg 0 0 0 _ _ _ _ (by omega) nI_0.symm (Eq.trans hR (tp c_8 rfl)) hH (lv_sub hl [3, 2, 1, 0] rfl)
  · refine lv_iconst (v := 1) C.1.1 C.1.2.1 dX0_drop_11 (by decide) ?_
    refine lv_goto (tgt := 16) C.1.1 C.1.2.1 dX0_drop_12 (by decide) ?_
    refine lv_istore_n (lv' := [(2, .int 1), (1, .int ((xL σ) - 1)), (0, .ref (ad 0))]) C.1.1 C.1.2.1 dX0_drop_16 rfl hl (by decide) rfl (fun ls hl => ?_)
    refine lv_iconst (v := 0) C.1.1 C.1.2.1 dX0_drop_17 (by decide) ?_
    refine lv_istore_n (lv' := [(3, .int 0), (2, .int 1), (1, .int ((xL σ) - 1)), (0, .ref (ad 0))]) C.1.1 C.1.2.1 dX0_drop_18 rfl hl (by decide) rfl (fun ls hl => ?_)
    exact bX_drop_19 C hO hL h6 (xL σ).toNatClampNeg 0 1 0 _ _ _ _ (by omega) nI_0.symm (Eq.trans hR (tn c_8 rfl)) hH (lv_sub hl [3, 2, 1, 0] rfl)
-- method layers
set_option maxHeartbeats 4000000 in
theorem mX_layers (l : Launch) (G : va_G) (ad : Nat → Nat) (d : Nat → ClassId) (σ : SX)   : MetXi l yX0_layers cX0_layers 1 .int rmZ0 [] G ad d σ ((fX_layers σ), σ) := by
  refine metX_i (by decide +kernel) rfl (Nat.le_of_ble_eq_true rfl) (fun p e s m below meth c A ls C hH hl => ?_)
  have hl : lv_has ls 1 [(0, .ref (ad 0))] := hl
  have hR : (fX_layers σ) = (fX_layers σ) := rfl
  generalize s.heap = H at hH ⊢
  generalize ([] : List Loc) = locs at hH ⊢
  refine lv_aload_n C.1.1 C.1.2.1 dX0_layers_0 rfl (lv_at hl 0 rfl) ?_
  refine getX C hH 0 (by decide) q33 rfl (v := .int (xL σ)) rfl dX0_layers_1 ?_
  exact retX_i C hH dX0_layers_4 (congrArg (fun z => (z, σ)) (Eq.trans hR rfl)).symm
-- method base
set_option maxHeartbeats 4000000 in
theorem mX_base (l : Launch) (G : va_G) (ad : Nat → Nat) (d : Nat → ClassId) (σ : SX) (p1 : Int32) (hO : okX σ) : MetXi l yX0_base cX0_base 2 .int rmZ0 [.int p1] G ad d σ ((fX_base σ p1), σ) := by
  refine metX_i (by decide +kernel) rfl (Nat.le_of_ble_eq_true rfl) (fun p e s m below meth c A ls C hH hl => ?_)
  have hl : lv_has ls 2 [(0, .ref (ad 0)), (1, .int p1)] := hl
  have hR : (fX_base σ p1) = (fX_base σ p1) := rfl
  generalize s.heap = H at hH ⊢
  generalize ([] : List Loc) = locs at hH ⊢
  refine lv_iload_n C.1.1 C.1.2.1 dX0_base_0 rfl (lv_at hl 1 rfl) ?_
  refine lv_iconst (v := 1) C.1.1 C.1.2.1 dX0_base_1 (by decide) ?_
  refine lv_icmp_lt (tgt := 13) C.1.1 C.1.2.1 dX0_base_2 (by decide) (fun c_2 => ?_) (fun c_2 => ?_)
  · refine lv_bipush (v := (-4)) C.1.1 C.1.2.1 dX0_base_13 (by decide) ?_
    refine lv_goto (tgt := 24) C.1.1 C.1.2.1 dX0_base_15 (by decide) ?_
    exact retX_i C hH dX0_base_24 (congrArg (fun z => (z, σ)) (Eq.trans hR (tp c_2 rfl))).symm
  · refine lv_iload_n C.1.1 C.1.2.1 dX0_base_5 rfl (lv_at hl 1 rfl) ?_
    refine lv_aload_n C.1.1 C.1.2.1 dX0_base_6 rfl (lv_at hl 0 rfl) ?_
    refine getX C hH 0 (by decide) q33 rfl (v := .int (xL σ)) rfl dX0_base_7 ?_
    refine lv_icmp_lt (tgt := 18) C.1.1 C.1.2.1 dX0_base_10 (by decide) (fun c_10 => ?_) (fun c_10 => ?_)
    · refine lv_aload_n C.1.1 C.1.2.1 dX0_base_18 rfl (lv_at hl 0 rfl) ?_
      refine getX C hH 1 (by decide) q34 rfl (v := .ref (ad 1)) rfl dX0_base_19 ?_
      refine lv_iload_n C.1.1 C.1.2.1 dX0_base_22 rfl (lv_at hl 1 rfl) ?_
      refine ildX C hH 1 0 (f := (xUn σ)) rfl rfl dX0_base_23 (b_base hO c_2 c_10) ?_
      exact retX_i C hH dX0_base_24 (congrArg (fun z => (z, σ)) (Eq.trans hR (tn c_2 (tp c_10 rfl)))).symm
    · refine lv_bipush (v := (-4)) C.1.1 C.1.2.1 dX0_base_13 (by decide) ?_
      refine lv_goto (tgt := 24) C.1.1 C.1.2.1 dX0_base_15 (by decide) ?_
      exact retX_i C hH dX0_base_24 (congrArg (fun z => (z, σ)) (Eq.trans hR (tn c_2 (tn c_10 rfl)))).symm
-- method difference
set_option maxHeartbeats 4000000 in
theorem bX_difference_5 {p : Program} {l : Launch} {e : Env} {s : State} {m : MethodId} {args : Array Value} {below : List Frame} {meth : Method} {c : Code} {G : va_G} {ad : Nat → Nat} {d : Nat → ClassId} {A : Nat → Prop} {σ : SX} {p1 : Int32} {p2 : Int32} (C : CX p s m args meth c cX0_difference 8 RX0 (some .int)) (hU : okU σ) (h1 : p1 < 0 ∨ vp_in p1 10) (h2 : p2 < 0 ∨ vp_in p2 10) : ∀ (n : Nat) (k : Nat) (x3 : Int32) (x4 : Int32) (rv : Int32) (H : Heap) (locs : List Loc) (ls : Array Slot), k + n = 8 → x4 = nI k → rv = lX_difference_5 σ p1 p2 n x3 x4 → AtX G ad d A s σ H locs → lv_has ls 8 [(0, .ref (ad 0)), (1, .int p1), (2, .int p2), (3, .int x3), (4, .int x4)] → W p l e rmZ1 s m args below meth c H locs 0 0 (QXi below G ad d A args s (rv, σ)) (F0 m 5 ls []) := by
  intro n
  induction n with
  | zero =>
    intro k x3 x4 rv H locs ls hk hx hR hH hl
    have hz := lp_z (N := 8) hx hk (by decide)
    refine lv_iload C.1.1 C.1.2.1 dX0_difference_5 (lv_at hl 4 rfl) ?_
    refine lv_bipush (v := 8) C.1.1 C.1.2.1 dX0_difference_7 (by decide) ?_
    refine lv_icmp_ge (tgt := 124) C.1.1 C.1.2.1 dX0_difference_9 (by decide) (fun _ => ?_) (fun c => absurd hz c)
    refine lv_iload_n C.1.1 C.1.2.1 dX0_difference_124 rfl (lv_at hl 3 rfl) ?_
    exact retX_i C hH dX0_difference_125 (congrArg (fun z => (z, σ)) (Eq.trans hR rfl)).symm
  | succ n ih =>
    intro k x3 x4 rv H locs ls hk hx hR hH hl
    have hz := lp_s (N := 8) hx hk (by decide)
    refine lv_iload C.1.1 C.1.2.1 dX0_difference_5 (lv_at hl 4 rfl) ?_
    refine lv_bipush (v := 8) C.1.1 C.1.2.1 dX0_difference_7 (by decide) ?_
    refine lv_icmp_ge (tgt := 124) C.1.1 C.1.2.1 dX0_difference_9 (by decide) (fun c => absurd c hz) (fun _ => ?_)
    refine lv_aload_n C.1.1 C.1.2.1 dX0_difference_12 rfl (lv_at hl 0 rfl) ?_
    refine lv_iload_n C.1.1 C.1.2.1 dX0_difference_13 rfl (lv_at hl 1 rfl) ?_
    refine lv_iload C.1.1 C.1.2.1 dX0_difference_14 (lv_at hl 4 rfl) ?_
    refine callX_i C hH (av := [.int p1, .int x4]) (rest := []) (mX_holder l G ad d σ p1 x4 hU h1) gwX_holder hdX_holder (by decide) rfl hl.1 rfl (Nat.le_of_ble_eq_true rfl) dX0_difference_16 ⟨Nat.zero_le _, Nat.zero_le _⟩ (fun r_ u_ H locs hH hw_ => ?_)
    obtain ⟨rfl, rfl⟩ : (fX_holder σ p1 x4) = r_ ∧ σ = u_ := ⟨(congrArg Prod.fst hw_).symm, (congrArg Prod.snd hw_).symm⟩
    refine lv_istore (lv' := [(5, .int (fX_holder σ p1 x4)), (0, .ref (ad 0)), (1, .int p1), (2, .int p2), (3, .int x3), (4, .int x4)]) C.1.1 C.1.2.1 dX0_difference_19 hl (by decide) rfl (fun ls hl => ?_)
    refine lv_aload_n C.1.1 C.1.2.1 dX0_difference_21 rfl (lv_at hl 1 rfl) ?_
    refine lv_iload_n C.1.1 C.1.2.1 dX0_difference_22 rfl (lv_at hl 3 rfl) ?_
    refine lv_iload C.1.1 C.1.2.1 dX0_difference_23 (lv_at hl 5 rfl) ?_
    refine callX_i C hH (av := [.int p2, .int x4]) (rest := []) (mX_holder l G ad d σ p2 x4 hU h2) gwX_holder hdX_holder (by decide) rfl hl.1 rfl (Nat.le_of_ble_eq_true rfl) dX0_difference_25 ⟨Nat.zero_le _, Nat.zero_le _⟩ (fun r_ u_ H locs hH hw_ => ?_)
    obtain ⟨rfl, rfl⟩ : (fX_holder σ p2 x4) = r_ ∧ σ = u_ := ⟨(congrArg Prod.fst hw_).symm, (congrArg Prod.snd hw_).symm⟩
    refine lv_istore (lv' := [(6, .int (fX_holder σ p2 x4)), (5, .int (fX_holder σ p1 x4)), (0, .ref (ad 0)), (1, .int p1), (2, .int p2), (3, .int x3), (4, .int x4)]) C.1.1 C.1.2.1 dX0_difference_28 hl (by decide) rfl (fun ls hl => ?_)
    refine lv_iload C.1.1 C.1.2.1 dX0_difference_30 (lv_at hl 1 rfl) ?_
    refine lv_if_ge (tgt := 39) C.1.1 C.1.2.1 dX0_difference_32 (by decide) (fun c_32 => ?_) (fun c_32 => ?_)
    · refine lv_iconst (v := 0) C.1.1 C.1.2.1 dX0_difference_39 (by decide) ?_
      refine lv_iload C.1.1 C.1.2.1 dX0_difference_40 (lv_at hl 0 rfl) ?_
      refine lv_if_ge (tgt := 49) C.1.1 C.1.2.1 dX0_difference_42 (by decide) (fun c_42 => ?_) (fun c_42 => ?_)
      · refine lv_iconst (v := 0) C.1.1 C.1.2.1 dX0_difference_49 (by decide) ?_
        refine lv_icmp_eq (tgt := 57) C.1.1 C.1.2.1 dX0_difference_50 (by decide) (fun _ => ?_) (fun c => absurd (by decide) c)
        refine lv_iconst (v := 0) C.1.1 C.1.2.1 dX0_difference_57 (by decide) ?_
        refine lv_istore (lv' := [(7, .int 0), (6, .int (fX_holder σ p2 x4)), (5, .int (fX_holder σ p1 x4)), (0, .ref (ad 0)), (1, .int p1), (2, .int p2), (3, .int x3), (4, .int x4)]) C.1.1 C.1.2.1 dX0_difference_58 hl (by decide) rfl (fun ls hl => ?_)
        refine lv_iload C.1.1 C.1.2.1 dX0_difference_60 (lv_at hl 2 rfl) ?_
        refine lv_if_lt (tgt := 106) C.1.1 C.1.2.1 dX0_difference_62 (by decide) (fun c => absurd c (Int32.not_lt.mpr c_32)) (fun _ => ?_)
        refine lv_iload C.1.1 C.1.2.1 dX0_difference_65 (lv_at hl 1 rfl) ?_
        refine lv_if_lt (tgt := 106) C.1.1 C.1.2.1 dX0_difference_67 (by decide) (fun c => absurd c (Int32.not_lt.mpr c_42)) (fun _ => ?_)
        refine lv_aload_n C.1.1 C.1.2.1 dX0_difference_70 rfl (lv_at hl 3 rfl) ?_
        refine getX C hH 6 (by decide) q39 rfl (v := .ref (ad 6)) rfl dX0_difference_71 ?_
        refine lv_iload C.1.1 C.1.2.1 dX0_difference_74 (lv_at hl 2 rfl) ?_
        refine lv_bipush (v := 8) C.1.1 C.1.2.1 dX0_difference_76 (by decide) ?_
        refine lv_imul C.1.1 C.1.2.1 dX0_difference_78 ?_
        refine lv_iload C.1.1 C.1.2.1 dX0_difference_79 (lv_at hl 7 rfl) ?_
        refine lv_iadd C.1.1 C.1.2.1 dX0_difference_81 ?_
        refine ildX C hH 6 5 (f := (xCt σ)) rfl rfl dX0_difference_82 (b_ct (b_hold hU h1 c_32) (lp_in hx hk (N := 8) (M := 8) (by decide) (by decide))) ?_
        refine lv_aload_n C.1.1 C.1.2.1 dX0_difference_83 rfl (lv_at hl 3 rfl) ?_
        refine getX C hH 6 (by decide) q39 rfl (v := .ref (ad 6)) rfl dX0_difference_84 ?_
        refine lv_iload C.1.1 C.1.2.1 dX0_difference_87 (lv_at hl 1 rfl) ?_
        refine lv_bipush (v := 8) C.1.1 C.1.2.1 dX0_difference_89 (by decide) ?_
        refine lv_imul C.1.1 C.1.2.1 dX0_difference_91 ?_
        refine lv_iload C.1.1 C.1.2.1 dX0_difference_92 (lv_at hl 7 rfl) ?_
        refine lv_iadd C.1.1 C.1.2.1 dX0_difference_94 ?_
        refine ildX C hH 6 5 (f := (xCt σ)) rfl rfl dX0_difference_95 (b_ct (b_hold hU h2 c_42) (lp_in hx hk (N := 8) (M := 8) (by decide) (by decide))) ?_
        refine lv_icmp_eq (tgt := 103) C.1.1 C.1.2.1 dX0_difference_96 (by decide) (fun c_96 => ?_) (fun c_96 => ?_)
        · refine lv_iconst (v := 0) C.1.1 C.1.2.1 dX0_difference_103 (by decide) ?_
          refine lv_istore (lv' := [(7, .int 0), (6, .int (fX_holder σ p2 x4)), (5, .int (fX_holder σ p1 x4)), (0, .ref (ad 0)), (1, .int p1), (2, .int p2), (3, .int x3), (4, .int x4)]) C.1.1 C.1.2.1 dX0_difference_104 hl (by decide) rfl (fun ls hl => ?_)
          refine lv_iload C.1.1 C.1.2.1 dX0_difference_106 (lv_at hl 0 rfl) ?_
          refine lv_if_eq (tgt := 118) C.1.1 C.1.2.1 dX0_difference_108 (by decide) (fun _ => ?_) (fun c => absurd (by decide) c)
          refine lv_iinc (v := (x4 + 1)) (lv' := [(4, .int (x4 + 1)), (7, .int 0), (6, .int (fX_holder σ p2 x4)), (5, .int (fX_holder σ p1 x4)), (0, .ref (ad 0)), (1, .int p1), (2, .int p2), (3, .int x3)]) C.1.1 C.1.2.1 dX0_difference_118 hl (k := 7) rfl rfl (by decide) rfl (fun ls hl => ?_)
          refine lv_goto (tgt := 5) C.1.1 C.1.2.1 dX0_difference_121 (by decide) ?_
          exact ih (k + 1) x3 (x4 + 1) _ _ _ _ (by omega) (lp_x hx) (Eq.trans hR (tp c_32 (tp c_42 (tp c_96 rfl)))) hH (lv_sub hl [4, 5, 6, 7, 0] rfl)
        · refine lv_iconst (v := 1) C.1.1 C.1.2.1 dX0_difference_99 (by decide) ?_
          refine lv_goto (tgt := 104) C.1.1 C.1.2.1 dX0_difference_100 (by decide) ?_
          refine lv_istore (lv' := [(7, .int 1), (6, .int (fX_holder σ p2 x4)), (5, .int (fX_holder σ p1 x4)), (0, .ref (ad 0)), (1, .int p1), (2, .int p2), (3, .int x3), (4, .int x4)]) C.1.1 C.1.2.1 dX0_difference_104 hl (by decide) rfl (fun ls hl => ?_)
          refine lv_iload C.1.1 C.1.2.1 dX0_difference_106 (lv_at hl 0 rfl) ?_
          refine lv_if_eq (tgt := 118) C.1.1 C.1.2.1 dX0_difference_108 (by decide) (fun c => absurd c (by decide)) (fun _ => ?_)
          refine lv_iload_n C.1.1 C.1.2.1 dX0_difference_111 rfl (lv_at hl 6 rfl) ?_
          refine lv_iconst (v := 1) C.1.1 C.1.2.1 dX0_difference_112 (by decide) ?_
          refine lv_iload C.1.1 C.1.2.1 dX0_difference_113 (lv_at hl 7 rfl) ?_
          refine lv_ishl C.1.1 C.1.2.1 dX0_difference_115 ?_
          refine lv_ior C.1.1 C.1.2.1 dX0_difference_116 ?_
          refine lv_istore_n (lv' := [(3, .int (x3 ||| ((1 : Int32) <<< (x4 &&& 31)))), (7, .int 1), (6, .int (fX_holder σ p2 x4)), (5, .int (fX_holder σ p1 x4)), (0, .ref (ad 0)), (1, .int p1), (2, .int p2), (4, .int x4)]) C.1.1 C.1.2.1 dX0_difference_117 rfl hl (by decide) rfl (fun ls hl => ?_)
          refine lv_iinc (v := (x4 + 1)) (lv' := [(4, .int (x4 + 1)), (3, .int (x3 ||| ((1 : Int32) <<< (x4 &&& 31)))), (7, .int 1), (6, .int (fX_holder σ p2 x4)), (5, .int (fX_holder σ p1 x4)), (0, .ref (ad 0)), (1, .int p1), (2, .int p2)]) C.1.1 C.1.2.1 dX0_difference_118 hl (k := 7) rfl rfl (by decide) rfl (fun ls hl => ?_)
          refine lv_goto (tgt := 5) C.1.1 C.1.2.1 dX0_difference_121 (by decide) ?_
          exact ih (k + 1) (x3 ||| ((1 : Int32) <<< (x4 &&& 31))) (x4 + 1) _ _ _ _ (by omega) (lp_x hx) (Eq.trans hR (tp c_32 (tp c_42 (tn c_96 rfl)))) hH (lv_sub hl [5, 6, 7, 1, 0] rfl)
      · refine lv_iconst (v := 1) C.1.1 C.1.2.1 dX0_difference_45 (by decide) ?_
        refine lv_goto (tgt := 50) C.1.1 C.1.2.1 dX0_difference_46 (by decide) ?_
        refine lv_icmp_eq (tgt := 57) C.1.1 C.1.2.1 dX0_difference_50 (by decide) (fun c => absurd c (by decide)) (fun _ => ?_)
        refine lv_iconst (v := 1) C.1.1 C.1.2.1 dX0_difference_53 (by decide) ?_
        refine lv_goto (tgt := 58) C.1.1 C.1.2.1 dX0_difference_54 (by decide) ?_
        refine lv_istore (lv' := [(7, .int 1), (6, .int (fX_holder σ p2 x4)), (5, .int (fX_holder σ p1 x4)), (0, .ref (ad 0)), (1, .int p1), (2, .int p2), (3, .int x3), (4, .int x4)]) C.1.1 C.1.2.1 dX0_difference_58 hl (by decide) rfl (fun ls hl => ?_)
        refine lv_iload C.1.1 C.1.2.1 dX0_difference_60 (lv_at hl 2 rfl) ?_
        refine lv_if_lt (tgt := 106) C.1.1 C.1.2.1 dX0_difference_62 (by decide) (fun c => absurd c (Int32.not_lt.mpr c_32)) (fun _ => ?_)
        refine lv_iload C.1.1 C.1.2.1 dX0_difference_65 (lv_at hl 1 rfl) ?_
        refine lv_if_lt (tgt := 106) C.1.1 C.1.2.1 dX0_difference_67 (by decide) (fun _ => ?_) (fun c => absurd (Int32.not_le.mp c_42) c)
        refine lv_iload C.1.1 C.1.2.1 dX0_difference_106 (lv_at hl 0 rfl) ?_
        refine lv_if_eq (tgt := 118) C.1.1 C.1.2.1 dX0_difference_108 (by decide) (fun c => absurd c (by decide)) (fun _ => ?_)
        refine lv_iload_n C.1.1 C.1.2.1 dX0_difference_111 rfl (lv_at hl 6 rfl) ?_
        refine lv_iconst (v := 1) C.1.1 C.1.2.1 dX0_difference_112 (by decide) ?_
        refine lv_iload C.1.1 C.1.2.1 dX0_difference_113 (lv_at hl 7 rfl) ?_
        refine lv_ishl C.1.1 C.1.2.1 dX0_difference_115 ?_
        refine lv_ior C.1.1 C.1.2.1 dX0_difference_116 ?_
        refine lv_istore_n (lv' := [(3, .int (x3 ||| ((1 : Int32) <<< (x4 &&& 31)))), (7, .int 1), (6, .int (fX_holder σ p2 x4)), (5, .int (fX_holder σ p1 x4)), (0, .ref (ad 0)), (1, .int p1), (2, .int p2), (4, .int x4)]) C.1.1 C.1.2.1 dX0_difference_117 rfl hl (by decide) rfl (fun ls hl => ?_)
        refine lv_iinc (v := (x4 + 1)) (lv' := [(4, .int (x4 + 1)), (3, .int (x3 ||| ((1 : Int32) <<< (x4 &&& 31)))), (7, .int 1), (6, .int (fX_holder σ p2 x4)), (5, .int (fX_holder σ p1 x4)), (0, .ref (ad 0)), (1, .int p1), (2, .int p2)]) C.1.1 C.1.2.1 dX0_difference_118 hl (k := 7) rfl rfl (by decide) rfl (fun ls hl => ?_)
        refine lv_goto (tgt := 5) C.1.1 C.1.2.1 dX0_difference_121 (by decide) ?_
        exact ih (k + 1) (x3 ||| ((1 : Int32) <<< (x4 &&& 31))) (x4 + 1) _ _ _ _ (by omega) (lp_x hx) (Eq.trans hR (tp c_32 (tn c_42 rfl))) hH (lv_sub hl [5, 6, 7, 1, 0] rfl)
    · refine lv_iconst (v := 1) C.1.1 C.1.2.1 dX0_difference_35 (by decide) ?_
      refine lv_goto (tgt := 40) C.1.1 C.1.2.1 dX0_difference_36 (by decide) ?_
      refine lv_iload C.1.1 C.1.2.1 dX0_difference_40 (lv_at hl 0 rfl) ?_
      refine lv_if_ge (tgt := 49) C.1.1 C.1.2.1 dX0_difference_42 (by decide) (fun c_42 => ?_) (fun c_42 => ?_)
      · refine lv_iconst (v := 0) C.1.1 C.1.2.1 dX0_difference_49 (by decide) ?_
        refine lv_icmp_eq (tgt := 57) C.1.1 C.1.2.1 dX0_difference_50 (by decide) (fun c => absurd c (by decide)) (fun _ => ?_)
        refine lv_iconst (v := 1) C.1.1 C.1.2.1 dX0_difference_53 (by decide) ?_
        refine lv_goto (tgt := 58) C.1.1 C.1.2.1 dX0_difference_54 (by decide) ?_
        refine lv_istore (lv' := [(7, .int 1), (6, .int (fX_holder σ p2 x4)), (5, .int (fX_holder σ p1 x4)), (0, .ref (ad 0)), (1, .int p1), (2, .int p2), (3, .int x3), (4, .int x4)]) C.1.1 C.1.2.1 dX0_difference_58 hl (by decide) rfl (fun ls hl => ?_)
        refine lv_iload C.1.1 C.1.2.1 dX0_difference_60 (lv_at hl 2 rfl) ?_
        refine lv_if_lt (tgt := 106) C.1.1 C.1.2.1 dX0_difference_62 (by decide) (fun _ => ?_) (fun c => absurd (Int32.not_le.mp c_32) c)
        refine lv_iload C.1.1 C.1.2.1 dX0_difference_106 (lv_at hl 0 rfl) ?_
        refine lv_if_eq (tgt := 118) C.1.1 C.1.2.1 dX0_difference_108 (by decide) (fun c => absurd c (by decide)) (fun _ => ?_)
        refine lv_iload_n C.1.1 C.1.2.1 dX0_difference_111 rfl (lv_at hl 6 rfl) ?_
        refine lv_iconst (v := 1) C.1.1 C.1.2.1 dX0_difference_112 (by decide) ?_
        refine lv_iload C.1.1 C.1.2.1 dX0_difference_113 (lv_at hl 7 rfl) ?_
        refine lv_ishl C.1.1 C.1.2.1 dX0_difference_115 ?_
        refine lv_ior C.1.1 C.1.2.1 dX0_difference_116 ?_
        refine lv_istore_n (lv' := [(3, .int (x3 ||| ((1 : Int32) <<< (x4 &&& 31)))), (7, .int 1), (6, .int (fX_holder σ p2 x4)), (5, .int (fX_holder σ p1 x4)), (0, .ref (ad 0)), (1, .int p1), (2, .int p2), (4, .int x4)]) C.1.1 C.1.2.1 dX0_difference_117 rfl hl (by decide) rfl (fun ls hl => ?_)
        refine lv_iinc (v := (x4 + 1)) (lv' := [(4, .int (x4 + 1)), (3, .int (x3 ||| ((1 : Int32) <<< (x4 &&& 31)))), (7, .int 1), (6, .int (fX_holder σ p2 x4)), (5, .int (fX_holder σ p1 x4)), (0, .ref (ad 0)), (1, .int p1), (2, .int p2)]) C.1.1 C.1.2.1 dX0_difference_118 hl (k := 7) rfl rfl (by decide) rfl (fun ls hl => ?_)
        refine lv_goto (tgt := 5) C.1.1 C.1.2.1 dX0_difference_121 (by decide) ?_
        exact ih (k + 1) (x3 ||| ((1 : Int32) <<< (x4 &&& 31))) (x4 + 1) _ _ _ _ (by omega) (lp_x hx) (Eq.trans hR (tn c_32 (tp c_42 rfl))) hH (lv_sub hl [5, 6, 7, 1, 0] rfl)
      · refine lv_iconst (v := 1) C.1.1 C.1.2.1 dX0_difference_45 (by decide) ?_
        refine lv_goto (tgt := 50) C.1.1 C.1.2.1 dX0_difference_46 (by decide) ?_
        refine lv_icmp_eq (tgt := 57) C.1.1 C.1.2.1 dX0_difference_50 (by decide) (fun _ => ?_) (fun c => absurd (by decide) c)
        refine lv_iconst (v := 0) C.1.1 C.1.2.1 dX0_difference_57 (by decide) ?_
        refine lv_istore (lv' := [(7, .int 0), (6, .int (fX_holder σ p2 x4)), (5, .int (fX_holder σ p1 x4)), (0, .ref (ad 0)), (1, .int p1), (2, .int p2), (3, .int x3), (4, .int x4)]) C.1.1 C.1.2.1 dX0_difference_58 hl (by decide) rfl (fun ls hl => ?_)
        refine lv_iload C.1.1 C.1.2.1 dX0_difference_60 (lv_at hl 2 rfl) ?_
        refine lv_if_lt (tgt := 106) C.1.1 C.1.2.1 dX0_difference_62 (by decide) (fun _ => ?_) (fun c => absurd (Int32.not_le.mp c_32) c)
        refine lv_iload C.1.1 C.1.2.1 dX0_difference_106 (lv_at hl 0 rfl) ?_
        refine lv_if_eq (tgt := 118) C.1.1 C.1.2.1 dX0_difference_108 (by decide) (fun _ => ?_) (fun c => absurd (by decide) c)
        refine lv_iinc (v := (x4 + 1)) (lv' := [(4, .int (x4 + 1)), (7, .int 0), (6, .int (fX_holder σ p2 x4)), (5, .int (fX_holder σ p1 x4)), (0, .ref (ad 0)), (1, .int p1), (2, .int p2), (3, .int x3)]) C.1.1 C.1.2.1 dX0_difference_118 hl (k := 7) rfl rfl (by decide) rfl (fun ls hl => ?_)
        refine lv_goto (tgt := 5) C.1.1 C.1.2.1 dX0_difference_121 (by decide) ?_
        exact ih (k + 1) x3 (x4 + 1) _ _ _ _ (by omega) (lp_x hx) (Eq.trans hR (tn c_32 (tn c_42 rfl))) hH (lv_sub hl [4, 5, 6, 7, 0] rfl)
set_option maxHeartbeats 4000000 in
theorem mX_difference (l : Launch) (G : va_G) (ad : Nat → Nat) (d : Nat → ClassId) (σ : SX) (p1 : Int32) (p2 : Int32) (hU : okU σ) (h1 : p1 < 0 ∨ vp_in p1 10) (h2 : p2 < 0 ∨ vp_in p2 10) : MetXi l yX0_difference cX0_difference 8 .int rmZ1 [.int p1, .int p2] G ad d σ ((fX_difference σ p1 p2), σ) := by
  refine metX_i (by decide +kernel) rfl (Nat.le_of_ble_eq_true rfl) (fun p e s m below meth c A ls C hH hl => ?_)
  have hl : lv_has ls 8 [(0, .ref (ad 0)), (1, .int p1), (2, .int p2)] := hl
  have hR : (fX_difference σ p1 p2) = (fX_difference σ p1 p2) := rfl
  generalize s.heap = H at hH ⊢
  generalize ([] : List Loc) = locs at hH ⊢
  refine lv_iconst (v := 0) C.1.1 C.1.2.1 dX0_difference_0 (by decide) ?_
  refine lv_istore_n (lv' := [(3, .int 0), (0, .ref (ad 0)), (1, .int p1), (2, .int p2)]) C.1.1 C.1.2.1 dX0_difference_1 rfl hl (by decide) rfl (fun ls hl => ?_)
  refine lv_iconst (v := 0) C.1.1 C.1.2.1 dX0_difference_2 (by decide) ?_
  refine lv_istore (lv' := [(4, .int 0), (3, .int 0), (0, .ref (ad 0)), (1, .int p1), (2, .int p2)]) C.1.1 C.1.2.1 dX0_difference_3 hl (by decide) rfl (fun ls hl => ?_)
  exact bX_difference_5 C hU h1 h2 8 0 0 0 _ _ _ _ rfl nI_0.symm (Eq.trans hR rfl) hH (lv_sub hl [2, 3, 4, 1, 0] rfl)
theorem gwX_difference : GoodIn lw_all (wsV RX0 76 RX0 yX0_difference (ws_ yX0_difference cX0_difference 8 (some .int))) := lw_V q168 q170 qs11 q23 q171
theorem hdX_difference : yX0_difference.cls = RX0 ∧ yX0_difference.cls ≠ "java/lang/invoke/MethodHandle" ∧ yX0_difference.cls ≠ "java/lang/invoke/VarHandle" ∧ (parseMethodDescriptor yX0_difference.desc).map (fun d => d.parameters.length) = some 2 := by decide +kernel
-- method changes
set_option maxHeartbeats 4000000 in
theorem mX_changes (l : Launch) (G : va_G) (ad : Nat → Nat) (d : Nat → ClassId) (σ : SX) (p1 : Int32) (hO : okX σ) : MetXi l yX0_changes cX0_changes 5 .int rmZ2 [.int p1] G ad d σ ((fX_changes σ p1), σ) := by
  refine metX_i (by decide +kernel) rfl (Nat.le_of_ble_eq_true rfl) (fun p e s m below meth c A ls C hH hl => ?_)
  have hl : lv_has ls 5 [(0, .ref (ad 0)), (1, .int p1)] := hl
  have hR : (fX_changes σ p1) = (fX_changes σ p1) := rfl
  generalize s.heap = H at hH ⊢
  generalize ([] : List Loc) = locs at hH ⊢
  refine lv_aload_n C.1.1 C.1.2.1 dX0_changes_0 rfl (lv_at hl 0 rfl) ?_
  refine lv_iload_n C.1.1 C.1.2.1 dX0_changes_1 rfl (lv_at hl 1 rfl) ?_
  refine callX_i C hH (av := [.int p1]) (rest := []) (mX_refused l G ad d σ p1 ) gwX_refused hdX_refused (by decide) rfl hl.1 rfl (Nat.le_of_ble_eq_true rfl) dX0_changes_2 ⟨Nat.zero_le _, Nat.zero_le _⟩ (fun r_ u_ H locs hH hw_ => ?_)
  obtain ⟨rfl, rfl⟩ : (fX_refused σ p1) = r_ ∧ σ = u_ := ⟨(congrArg Prod.fst hw_).symm, (congrArg Prod.snd hw_).symm⟩
  refine lv_istore_n (lv' := [(2, .int (fX_refused σ p1)), (0, .ref (ad 0)), (1, .int p1)]) C.1.1 C.1.2.1 dX0_changes_5 rfl hl (by decide) rfl (fun ls hl => ?_)
  refine lv_iload_n C.1.1 C.1.2.1 dX0_changes_6 rfl (lv_at hl 0 rfl) ?_
  refine lv_if_ge (tgt := 12) C.1.1 C.1.2.1 dX0_changes_7 (by decide) (fun c_7 => ?_) (fun c_7 => ?_)
  · have hm : vp_in p1 4 := b_ref c_7
    have ht : vp_in (6 + p1) 10 := b_top hm
    refine lv_aload_n C.1.1 C.1.2.1 dX0_changes_12 rfl (lv_at hl 1 rfl) ?_
    refine lv_iload_n C.1.1 C.1.2.1 dX0_changes_13 rfl (lv_at hl 2 rfl) ?_
    refine callX_i C hH (av := [.int p1]) (rest := []) (mX_top l G ad d σ p1 ) gwX_top hdX_top (by decide) rfl hl.1 rfl (Nat.le_of_ble_eq_true rfl) dX0_changes_14 ⟨Nat.zero_le _, Nat.zero_le _⟩ (fun r_ u_ H locs hH hw_ => ?_)
    obtain ⟨rfl, rfl⟩ : (fX_top p1) = r_ ∧ σ = u_ := ⟨(congrArg Prod.fst hw_).symm, (congrArg Prod.snd hw_).symm⟩
    refine lv_istore_n (lv' := [(3, .int (fX_top p1)), (2, .int (fX_refused σ p1)), (0, .ref (ad 0)), (1, .int p1)]) C.1.1 C.1.2.1 dX0_changes_17 rfl hl (by decide) rfl (fun ls hl => ?_)
    refine lv_aload_n C.1.1 C.1.2.1 dX0_changes_18 rfl (lv_at hl 2 rfl) ?_
    refine lv_iload_n C.1.1 C.1.2.1 dX0_changes_19 rfl (lv_at hl 0 rfl) ?_
    refine lv_aload_n C.1.1 C.1.2.1 dX0_changes_20 rfl (lv_at hl 2 rfl) ?_
    refine getX C hH 1 (by decide) q34 rfl (v := .ref (ad 1)) rfl dX0_changes_21 ?_
    refine lv_iload_n C.1.1 C.1.2.1 dX0_changes_24 rfl (lv_at hl 0 rfl) ?_
    refine ildX C hH 1 0 (f := (xUn σ)) rfl rfl dX0_changes_25 ht ?_
    refine callX_i C hH (av := [.int (fX_top p1), .int ((xUn σ) (fX_top p1).toNatClampNeg)]) (rest := []) (mX_difference l G ad d σ (fX_top p1) ((xUn σ) (fX_top p1).toNatClampNeg) hO.1 (Or.inr ht) (hO.1 _ (b_cl ht))) gwX_difference hdX_difference (by decide) rfl hl.1 rfl (Nat.le_of_ble_eq_true rfl) dX0_changes_26 ⟨Nat.zero_le _, Nat.zero_le _⟩ (fun r_ u_ H locs hH hw_ => ?_)
    obtain ⟨rfl, rfl⟩ : (fX_difference σ (fX_top p1) ((xUn σ) (fX_top p1).toNatClampNeg)) = r_ ∧ σ = u_ := ⟨(congrArg Prod.fst hw_).symm, (congrArg Prod.snd hw_).symm⟩
    refine lv_istore (lv' := [(4, .int (fX_difference σ (fX_top p1) ((xUn σ) (fX_top p1).toNatClampNeg))), (3, .int (fX_top p1)), (2, .int (fX_refused σ p1)), (0, .ref (ad 0)), (1, .int p1)]) C.1.1 C.1.2.1 dX0_changes_29 hl (by decide) rfl (fun ls hl => ?_)
    refine lv_aload_n C.1.1 C.1.2.1 dX0_changes_31 rfl (lv_at hl 3 rfl) ?_
    refine lv_iload C.1.1 C.1.2.1 dX0_changes_32 (lv_at hl 0 rfl) ?_
    refine callX_i C hH (av := [.int (fX_difference σ (fX_top p1) ((xUn σ) (fX_top p1).toNatClampNeg))]) (rest := []) (mX_sizeOf l G ad d σ (fX_difference σ (fX_top p1) ((xUn σ) (fX_top p1).toNatClampNeg)) ) gwX_sizeOf hdX_sizeOf (by decide) rfl hl.1 rfl (Nat.le_of_ble_eq_true rfl) dX0_changes_34 ⟨Nat.zero_le _, Nat.zero_le _⟩ (fun r_ u_ H locs hH hw_ => ?_)
    obtain ⟨rfl, rfl⟩ : (fX_sizeOf (fX_difference σ (fX_top p1) ((xUn σ) (fX_top p1).toNatClampNeg))) = r_ ∧ σ = u_ := ⟨(congrArg Prod.fst hw_).symm, (congrArg Prod.snd hw_).symm⟩
    exact retX_i C hH dX0_changes_37 (congrArg (fun z => (z, σ)) (Eq.trans hR (tp c_7 rfl))).symm
  · refine lv_iload_n C.1.1 C.1.2.1 dX0_changes_10 rfl (lv_at hl 0 rfl) ?_
    exact retX_i C hH dX0_changes_11 (congrArg (fun z => (z, σ)) (Eq.trans hR (tn c_7 rfl))).symm
-- method compare
set_option maxHeartbeats 4000000 in
theorem mX_compare (l : Launch) (G : va_G) (ad : Nat → Nat) (d : Nat → ClassId) (σ : SX) (p1 : Int32) (p2 : Int32) (hO : okX σ) : MetXi l yX0_compare cX0_compare 3 .int rmZ2 [.int p1, .int p2] G ad d σ ((fX_compare σ p1 p2), σ) := by
  refine metX_i (by decide +kernel) rfl (Nat.le_of_ble_eq_true rfl) (fun p e s m below meth c A ls C hH hl => ?_)
  have hl : lv_has ls 3 [(0, .ref (ad 0)), (1, .int p1), (2, .int p2)] := hl
  have hR : (fX_compare σ p1 p2) = (fX_compare σ p1 p2) := rfl
  generalize s.heap = H at hH ⊢
  generalize ([] : List Loc) = locs at hH ⊢
  refine lv_iload_n C.1.1 C.1.2.1 dX0_compare_0 rfl (lv_at hl 1 rfl) ?_
  refine lv_if_lt (tgt := 24) C.1.1 C.1.2.1 dX0_compare_1 (by decide) (fun c_1 => ?_) (fun c_1 => ?_)
  · refine lv_bipush (v := (-4)) C.1.1 C.1.2.1 dX0_compare_24 (by decide) ?_
    exact retX_i C hH dX0_compare_26 (congrArg (fun z => (z, σ)) (Eq.trans hR (tp c_1 rfl))).symm
  · refine lv_iload_n C.1.1 C.1.2.1 dX0_compare_4 rfl (lv_at hl 1 rfl) ?_
    refine lv_aload_n C.1.1 C.1.2.1 dX0_compare_5 rfl (lv_at hl 0 rfl) ?_
    refine getX C hH 0 (by decide) q33 rfl (v := .int (xL σ)) rfl dX0_compare_6 ?_
    refine lv_icmp_ge (tgt := 24) C.1.1 C.1.2.1 dX0_compare_9 (by decide) (fun c_9 => ?_) (fun c_9 => ?_)
    · refine lv_bipush (v := (-4)) C.1.1 C.1.2.1 dX0_compare_24 (by decide) ?_
      exact retX_i C hH dX0_compare_26 (congrArg (fun z => (z, σ)) (Eq.trans hR (tn c_1 (tp c_9 rfl)))).symm
    · refine lv_iload_n C.1.1 C.1.2.1 dX0_compare_12 rfl (lv_at hl 2 rfl) ?_
      refine lv_if_lt (tgt := 24) C.1.1 C.1.2.1 dX0_compare_13 (by decide) (fun c_13 => ?_) (fun c_13 => ?_)
      · refine lv_bipush (v := (-4)) C.1.1 C.1.2.1 dX0_compare_24 (by decide) ?_
        exact retX_i C hH dX0_compare_26 (congrArg (fun z => (z, σ)) (Eq.trans hR (tn c_1 (tn c_9 (tp c_13 rfl))))).symm
      · refine lv_iload_n C.1.1 C.1.2.1 dX0_compare_16 rfl (lv_at hl 2 rfl) ?_
        refine lv_aload_n C.1.1 C.1.2.1 dX0_compare_17 rfl (lv_at hl 0 rfl) ?_
        refine getX C hH 0 (by decide) q33 rfl (v := .int (xL σ)) rfl dX0_compare_18 ?_
        refine lv_icmp_lt (tgt := 27) C.1.1 C.1.2.1 dX0_compare_21 (by decide) (fun c_21 => ?_) (fun c_21 => ?_)
        · refine lv_aload_n C.1.1 C.1.2.1 dX0_compare_27 rfl (lv_at hl 0 rfl) ?_
          refine lv_iload_n C.1.1 C.1.2.1 dX0_compare_28 rfl (lv_at hl 1 rfl) ?_
          refine lv_iload_n C.1.1 C.1.2.1 dX0_compare_29 rfl (lv_at hl 2 rfl) ?_
          refine callX_i C hH (av := [.int p1, .int p2]) (rest := []) (mX_difference l G ad d σ p1 p2 hO.1 (Or.inr (b_lay hO c_1 (Int32.not_le.mp c_9))) (Or.inr (b_lay hO c_13 c_21))) gwX_difference hdX_difference (by decide) rfl hl.1 rfl (Nat.le_of_ble_eq_true rfl) dX0_compare_30 ⟨Nat.zero_le _, Nat.zero_le _⟩ (fun r_ u_ H locs hH hw_ => ?_)
          obtain ⟨rfl, rfl⟩ : (fX_difference σ p1 p2) = r_ ∧ σ = u_ := ⟨(congrArg Prod.fst hw_).symm, (congrArg Prod.snd hw_).symm⟩
          exact retX_i C hH dX0_compare_33 (congrArg (fun z => (z, σ)) (Eq.trans hR (tn c_1 (tn c_9 (tn c_13 (tp c_21 rfl)))))).symm
        · refine lv_bipush (v := (-4)) C.1.1 C.1.2.1 dX0_compare_24 (by decide) ?_
          exact retX_i C hH dX0_compare_26 (congrArg (fun z => (z, σ)) (Eq.trans hR (tn c_1 (tn c_9 (tn c_13 (tn c_21 rfl)))))).symm
-- method squash
set_option maxHeartbeats 4000000 in
theorem bX_squash_21 {p : Program} {l : Launch} {e : Env} {s : State} {m : MethodId} {args : Array Value} {below : List Frame} {meth : Method} {c : Code} {G : va_G} {ad : Nat → Nat} {d : Nat → ClassId} {A : Nat → Prop} {p1 : Int32} (C : CX p s m args meth c cX0_squash 8 RX0 (some .int)) (ht : vp_in (6 + p1) 10) : ∀ (n : Nat) (k : Nat) (σ : SX) (x4 : Int32) (rv : Int32 × SX) (H : Heap) (locs : List Loc) (ls : Array Slot), k + n = 8 → x4 = nI k → okU σ → rv = lX_squash_21 p1 n σ x4 → AtX G ad d A s σ H locs → lv_has ls 8 [(0, .ref (ad 0)), (3, .int (fX_top p1)), (4, .int x4)] → W p l e rmZ1 s m args below meth c H locs 0 0 (QXi below G ad d A args s rv) (F0 m 21 ls []) := by
  intro n
  induction n with
  | zero =>
    intro k σ x4 rv H locs ls hk hx hU hR hH hl
    have hz := lp_z (N := 8) hx hk (by decide)
    refine lv_iload C.1.1 C.1.2.1 dX0_squash_21 (lv_at hl 2 rfl) ?_
    refine lv_bipush (v := 8) C.1.1 C.1.2.1 dX0_squash_23 (by decide) ?_
    refine lv_icmp_ge (tgt := 185) C.1.1 C.1.2.1 dX0_squash_25 (by decide) (fun _ => ?_) (fun c => absurd hz c)
    refine lv_iconst (v := 0) C.1.1 C.1.2.1 dX0_squash_185 (by decide) ?_
    exact retX_i C hH dX0_squash_186 (Eq.trans hR rfl).symm
  | succ n ih =>
    intro k σ x4 rv H locs ls hk hx hU hR hH hl
    have hz := lp_s (N := 8) hx hk (by decide)
    refine lv_iload C.1.1 C.1.2.1 dX0_squash_21 (lv_at hl 2 rfl) ?_
    refine lv_bipush (v := 8) C.1.1 C.1.2.1 dX0_squash_23 (by decide) ?_
    refine lv_icmp_ge (tgt := 185) C.1.1 C.1.2.1 dX0_squash_25 (by decide) (fun c => absurd c hz) (fun _ => ?_)
    refine lv_aload_n C.1.1 C.1.2.1 dX0_squash_28 rfl (lv_at hl 0 rfl) ?_
    refine lv_aload_n C.1.1 C.1.2.1 dX0_squash_29 rfl (lv_at hl 0 rfl) ?_
    refine getX C hH 1 (by decide) q34 rfl (v := .ref (ad 1)) rfl dX0_squash_30 ?_
    refine lv_iload_n C.1.1 C.1.2.1 dX0_squash_33 rfl (lv_at hl 1 rfl) ?_
    refine ildX C hH 1 0 (f := (xUn σ)) rfl rfl dX0_squash_34 ht ?_
    refine lv_iload C.1.1 C.1.2.1 dX0_squash_35 (lv_at hl 2 rfl) ?_
    refine callX_i C hH (av := [.int ((xUn σ) (fX_top p1).toNatClampNeg), .int x4]) (rest := []) (mX_holder l G ad d σ ((xUn σ) (fX_top p1).toNatClampNeg) x4 hU (hU _ (b_cl ht))) gwX_holder hdX_holder (by decide) rfl hl.1 rfl (Nat.le_of_ble_eq_true rfl) dX0_squash_37 ⟨Nat.zero_le _, Nat.zero_le _⟩ (fun r_ u_ H locs hH hw_ => ?_)
    obtain ⟨rfl, rfl⟩ : (fX_holder σ ((xUn σ) (fX_top p1).toNatClampNeg) x4) = r_ ∧ σ = u_ := ⟨(congrArg Prod.fst hw_).symm, (congrArg Prod.snd hw_).symm⟩
    refine lv_istore (lv' := [(5, .int (fX_holder σ ((xUn σ) (fX_top p1).toNatClampNeg) x4)), (0, .ref (ad 0)), (3, .int (fX_top p1)), (4, .int x4)]) C.1.1 C.1.2.1 dX0_squash_40 hl (by decide) rfl (fun ls hl => ?_)
    refine lv_aload_n C.1.1 C.1.2.1 dX0_squash_42 rfl (lv_at hl 1 rfl) ?_
    refine getX C hH 5 (by decide) q38 rfl (v := .ref (ad 5)) rfl dX0_squash_43 ?_
    refine lv_iload_n C.1.1 C.1.2.1 dX0_squash_46 rfl (lv_at hl 2 rfl) ?_
    refine ildX C hH 5 4 (f := (xHd σ)) rfl rfl dX0_squash_47 ht ?_
    refine lv_iload C.1.1 C.1.2.1 dX0_squash_48 (lv_at hl 3 rfl) ?_
    refine lv_iconst (v := 2) C.1.1 C.1.2.1 dX0_squash_50 (by decide) ?_
    refine lv_ishr C.1.1 C.1.2.1 dX0_squash_51 ?_
    refine lv_ishr C.1.1 C.1.2.1 dX0_squash_52 ?_
    refine lv_iconst (v := 1) C.1.1 C.1.2.1 dX0_squash_53 (by decide) ?_
    refine lv_iand C.1.1 C.1.2.1 dX0_squash_54 ?_
    refine lv_iconst (v := 1) C.1.1 C.1.2.1 dX0_squash_55 (by decide) ?_
    refine lv_icmp_ne (tgt := 63) C.1.1 C.1.2.1 dX0_squash_56 (by decide) (fun c_56 => ?_) (fun c_56 => ?_)
    · refine lv_iconst (v := 0) C.1.1 C.1.2.1 dX0_squash_63 (by decide) ?_
      refine lv_istore (lv' := [(6, .int 0), (5, .int (fX_holder σ ((xUn σ) (fX_top p1).toNatClampNeg) x4)), (0, .ref (ad 0)), (3, .int (fX_top p1)), (4, .int x4)]) C.1.1 C.1.2.1 dX0_squash_64 hl (by decide) rfl (fun ls hl => ?_)
      refine lv_iload C.1.1 C.1.2.1 dX0_squash_66 (lv_at hl 1 rfl) ?_
      refine lv_if_lt (tgt := 76) C.1.1 C.1.2.1 dX0_squash_68 (by decide) (fun c_68 => ?_) (fun c_68 => ?_)
      · refine lv_aload_n C.1.1 C.1.2.1 dX0_squash_76 rfl (lv_at hl 2 rfl) ?_
        refine getX C hH 3 (by decide) q36 rfl (v := .ref (ad 3)) rfl dX0_squash_77 ?_
        refine lv_iload_n C.1.1 C.1.2.1 dX0_squash_80 rfl (lv_at hl 3 rfl) ?_
        refine lv_aload_n C.1.1 C.1.2.1 dX0_squash_81 rfl (lv_at hl 2 rfl) ?_
        refine getX C hH 3 (by decide) q36 rfl (v := .ref (ad 3)) rfl dX0_squash_82 ?_
        refine lv_iload_n C.1.1 C.1.2.1 dX0_squash_85 rfl (lv_at hl 3 rfl) ?_
        refine ildX C hH 3 2 (f := (xHi σ)) rfl rfl dX0_squash_86 ht ?_
        refine lv_iconst (v := 1) C.1.1 C.1.2.1 dX0_squash_87 (by decide) ?_
        refine lv_iload C.1.1 C.1.2.1 dX0_squash_88 (lv_at hl 4 rfl) ?_
        refine lv_ishl C.1.1 C.1.2.1 dX0_squash_90 ?_
        refine lv_iconst (v := (-1)) C.1.1 C.1.2.1 dX0_squash_91 (by decide) ?_
        refine lv_ixor C.1.1 C.1.2.1 dX0_squash_92 ?_
        refine lv_iand C.1.1 C.1.2.1 dX0_squash_93 ?_
        have hH := AtX.eta hH
        refine stX_3 C hH dX0_squash_94 ht (fun H locs hH => ?_)
        refine lv_aload_n C.1.1 C.1.2.1 dX0_squash_95 rfl (lv_at hl 2 rfl) ?_
        refine getX C hH 2 (by decide) q35 rfl (v := .ref (ad 2)) rfl dX0_squash_96 ?_
        refine lv_iload_n C.1.1 C.1.2.1 dX0_squash_99 rfl (lv_at hl 3 rfl) ?_
        refine ldX_2 C hH dX0_squash_100 ht ?_
        refine lv_iload C.1.1 C.1.2.1 dX0_squash_101 (lv_at hl 4 rfl) ?_
        refine lv_ishr C.1.1 C.1.2.1 dX0_squash_103 ?_
        refine lv_iconst (v := 1) C.1.1 C.1.2.1 dX0_squash_104 (by decide) ?_
        refine lv_iand C.1.1 C.1.2.1 dX0_squash_105 ?_
        refine lv_iconst (v := 1) C.1.1 C.1.2.1 dX0_squash_106 (by decide) ?_
        refine lv_icmp_ne (tgt := 114) C.1.1 C.1.2.1 dX0_squash_107 (by decide) (fun c_107 => ?_) (fun c_107 => ?_)
        · refine lv_iconst (v := 0) C.1.1 C.1.2.1 dX0_squash_114 (by decide) ?_
          refine lv_istore (lv' := [(7, .int 0), (6, .int 0), (5, .int (fX_holder σ ((xUn σ) (fX_top p1).toNatClampNeg) x4)), (0, .ref (ad 0)), (3, .int (fX_top p1)), (4, .int x4)]) C.1.1 C.1.2.1 dX0_squash_115 hl (by decide) rfl (fun ls hl => ?_)
          refine lv_iload C.1.1 C.1.2.1 dX0_squash_117 (lv_at hl 0 rfl) ?_
          refine lv_if_eq (tgt := 179) C.1.1 C.1.2.1 dX0_squash_119 (by decide) (fun _ => ?_) (fun c => absurd (by decide) c)
          refine lv_iinc (v := (x4 + 1)) (lv' := [(4, .int (x4 + 1)), (7, .int 0), (6, .int 0), (5, .int (fX_holder σ ((xUn σ) (fX_top p1).toNatClampNeg) x4)), (0, .ref (ad 0)), (3, .int (fX_top p1))]) C.1.1 C.1.2.1 dX0_squash_179 hl (k := 5) rfl rfl (by decide) rfl (fun ls hl => ?_)
          refine lv_goto (tgt := 21) C.1.1 C.1.2.1 dX0_squash_182 (by decide) ?_
          exact ih (k + 1) ((xL σ), (xUn σ), (xOw σ), (upd (xHi σ) (fX_top p1).toNatClampNeg (((xHi σ) (fX_top p1).toNatClampNeg) &&& (((1 : Int32) <<< (x4 &&& 31)) ^^^ (-1)))), (xOd σ), (xHd σ), (xCt σ), (xIu σ)) (x4 + 1) _ _ _ _ (by omega) (lp_x hx) (okU_mk hU) (Eq.trans hR (tn c_56 (tp c_68 (tn c_107 rfl)))) hH (lv_sub hl [4, 5, 0] rfl)
        · refine lv_iconst (v := 1) C.1.1 C.1.2.1 dX0_squash_110 (by decide) ?_
          refine lv_goto (tgt := 115) C.1.1 C.1.2.1 dX0_squash_111 (by decide) ?_
          refine lv_istore (lv' := [(7, .int 1), (6, .int 0), (5, .int (fX_holder σ ((xUn σ) (fX_top p1).toNatClampNeg) x4)), (0, .ref (ad 0)), (3, .int (fX_top p1)), (4, .int x4)]) C.1.1 C.1.2.1 dX0_squash_115 hl (by decide) rfl (fun ls hl => ?_)
          refine lv_iload C.1.1 C.1.2.1 dX0_squash_117 (lv_at hl 0 rfl) ?_
          refine lv_if_eq (tgt := 179) C.1.1 C.1.2.1 dX0_squash_119 (by decide) (fun c => absurd c (by decide)) (fun _ => ?_)
          refine lv_iload C.1.1 C.1.2.1 dX0_squash_122 (lv_at hl 2 rfl) ?_
          refine lv_if_lt (tgt := 179) C.1.1 C.1.2.1 dX0_squash_124 (by decide) (fun _ => ?_) (fun c => absurd c_68 c)
          refine lv_iinc (v := (x4 + 1)) (lv' := [(4, .int (x4 + 1)), (7, .int 1), (6, .int 0), (5, .int (fX_holder σ ((xUn σ) (fX_top p1).toNatClampNeg) x4)), (0, .ref (ad 0)), (3, .int (fX_top p1))]) C.1.1 C.1.2.1 dX0_squash_179 hl (k := 5) rfl rfl (by decide) rfl (fun ls hl => ?_)
          refine lv_goto (tgt := 21) C.1.1 C.1.2.1 dX0_squash_182 (by decide) ?_
          exact ih (k + 1) ((xL σ), (xUn σ), (xOw σ), (upd (xHi σ) (fX_top p1).toNatClampNeg (((xHi σ) (fX_top p1).toNatClampNeg) &&& (((1 : Int32) <<< (x4 &&& 31)) ^^^ (-1)))), (xOd σ), (xHd σ), (xCt σ), (xIu σ)) (x4 + 1) _ _ _ _ (by omega) (lp_x hx) (okU_mk hU) (Eq.trans hR (tn c_56 (tp c_68 (tp c_107 rfl)))) hH (lv_sub hl [4, 5, 0] rfl)
      · refine lv_iload C.1.1 C.1.2.1 dX0_squash_71 (lv_at hl 0 rfl) ?_
        refine lv_if_eq (tgt := 95) C.1.1 C.1.2.1 dX0_squash_73 (by decide) (fun _ => ?_) (fun c => absurd (by decide) c)
        refine lv_aload_n C.1.1 C.1.2.1 dX0_squash_95 rfl (lv_at hl 2 rfl) ?_
        refine getX C hH 2 (by decide) q35 rfl (v := .ref (ad 2)) rfl dX0_squash_96 ?_
        refine lv_iload_n C.1.1 C.1.2.1 dX0_squash_99 rfl (lv_at hl 3 rfl) ?_
        refine ildX C hH 2 1 (f := (xOw σ)) rfl rfl dX0_squash_100 ht ?_
        refine lv_iload C.1.1 C.1.2.1 dX0_squash_101 (lv_at hl 4 rfl) ?_
        refine lv_ishr C.1.1 C.1.2.1 dX0_squash_103 ?_
        refine lv_iconst (v := 1) C.1.1 C.1.2.1 dX0_squash_104 (by decide) ?_
        refine lv_iand C.1.1 C.1.2.1 dX0_squash_105 ?_
        refine lv_iconst (v := 1) C.1.1 C.1.2.1 dX0_squash_106 (by decide) ?_
        refine lv_icmp_ne (tgt := 114) C.1.1 C.1.2.1 dX0_squash_107 (by decide) (fun c_107 => ?_) (fun c_107 => ?_)
        · refine lv_iconst (v := 0) C.1.1 C.1.2.1 dX0_squash_114 (by decide) ?_
          refine lv_istore (lv' := [(7, .int 0), (6, .int 0), (5, .int (fX_holder σ ((xUn σ) (fX_top p1).toNatClampNeg) x4)), (0, .ref (ad 0)), (3, .int (fX_top p1)), (4, .int x4)]) C.1.1 C.1.2.1 dX0_squash_115 hl (by decide) rfl (fun ls hl => ?_)
          refine lv_iload C.1.1 C.1.2.1 dX0_squash_117 (lv_at hl 0 rfl) ?_
          refine lv_if_eq (tgt := 179) C.1.1 C.1.2.1 dX0_squash_119 (by decide) (fun _ => ?_) (fun c => absurd (by decide) c)
          refine lv_iinc (v := (x4 + 1)) (lv' := [(4, .int (x4 + 1)), (7, .int 0), (6, .int 0), (5, .int (fX_holder σ ((xUn σ) (fX_top p1).toNatClampNeg) x4)), (0, .ref (ad 0)), (3, .int (fX_top p1))]) C.1.1 C.1.2.1 dX0_squash_179 hl (k := 5) rfl rfl (by decide) rfl (fun ls hl => ?_)
          refine lv_goto (tgt := 21) C.1.1 C.1.2.1 dX0_squash_182 (by decide) ?_
          exact ih (k + 1) σ (x4 + 1) _ _ _ _ (by omega) (lp_x hx) hU (Eq.trans hR (tn c_56 (tn c_68 (tn c_107 rfl)))) hH (lv_sub hl [4, 5, 0] rfl)
        · refine lv_iconst (v := 1) C.1.1 C.1.2.1 dX0_squash_110 (by decide) ?_
          refine lv_goto (tgt := 115) C.1.1 C.1.2.1 dX0_squash_111 (by decide) ?_
          refine lv_istore (lv' := [(7, .int 1), (6, .int 0), (5, .int (fX_holder σ ((xUn σ) (fX_top p1).toNatClampNeg) x4)), (0, .ref (ad 0)), (3, .int (fX_top p1)), (4, .int x4)]) C.1.1 C.1.2.1 dX0_squash_115 hl (by decide) rfl (fun ls hl => ?_)
          refine lv_iload C.1.1 C.1.2.1 dX0_squash_117 (lv_at hl 0 rfl) ?_
          refine lv_if_eq (tgt := 179) C.1.1 C.1.2.1 dX0_squash_119 (by decide) (fun c => absurd c (by decide)) (fun _ => ?_)
          refine lv_iload C.1.1 C.1.2.1 dX0_squash_122 (lv_at hl 2 rfl) ?_
          refine lv_if_lt (tgt := 179) C.1.1 C.1.2.1 dX0_squash_124 (by decide) (fun c => absurd c c_68) (fun _ => ?_)
          refine lv_iload C.1.1 C.1.2.1 dX0_squash_127 (lv_at hl 1 rfl) ?_
          refine lv_if_ne (tgt := 179) C.1.1 C.1.2.1 dX0_squash_129 (by decide) (fun c => absurd (by decide) c) (fun _ => ?_)
          refine lv_aload_n C.1.1 C.1.2.1 dX0_squash_132 rfl (lv_at hl 3 rfl) ?_
          refine getX C hH 6 (by decide) q39 rfl (v := .ref (ad 6)) rfl dX0_squash_133 ?_
          refine lv_iload C.1.1 C.1.2.1 dX0_squash_136 (lv_at hl 2 rfl) ?_
          refine lv_bipush (v := 8) C.1.1 C.1.2.1 dX0_squash_138 (by decide) ?_
          refine lv_imul C.1.1 C.1.2.1 dX0_squash_140 ?_
          refine lv_iload C.1.1 C.1.2.1 dX0_squash_141 (lv_at hl 5 rfl) ?_
          refine lv_iadd C.1.1 C.1.2.1 dX0_squash_143 ?_
          refine ildX C hH 6 5 (f := (xCt σ)) rfl rfl dX0_squash_144 (b_ct (b_holdn hU (hU _ (b_cl ht)) c_68) (lp_in hx hk (N := 8) (M := 8) (by decide) (by decide))) ?_
          refine lv_aload_n C.1.1 C.1.2.1 dX0_squash_145 rfl (lv_at hl 3 rfl) ?_
          refine getX C hH 6 (by decide) q39 rfl (v := .ref (ad 6)) rfl dX0_squash_146 ?_
          refine lv_iload_n C.1.1 C.1.2.1 dX0_squash_149 rfl (lv_at hl 4 rfl) ?_
          refine lv_bipush (v := 8) C.1.1 C.1.2.1 dX0_squash_150 (by decide) ?_
          refine lv_imul C.1.1 C.1.2.1 dX0_squash_152 ?_
          refine lv_iload C.1.1 C.1.2.1 dX0_squash_153 (lv_at hl 5 rfl) ?_
          refine lv_iadd C.1.1 C.1.2.1 dX0_squash_155 ?_
          refine ildX C hH 6 5 (f := (xCt σ)) rfl rfl dX0_squash_156 (b_ct ht (lp_in hx hk (N := 8) (M := 8) (by decide) (by decide))) ?_
          refine lv_icmp_ne (tgt := 179) C.1.1 C.1.2.1 dX0_squash_157 (by decide) (fun c_157 => ?_) (fun c_157 => ?_)
          · refine lv_iinc (v := (x4 + 1)) (lv' := [(4, .int (x4 + 1)), (7, .int 1), (6, .int 0), (5, .int (fX_holder σ ((xUn σ) (fX_top p1).toNatClampNeg) x4)), (0, .ref (ad 0)), (3, .int (fX_top p1))]) C.1.1 C.1.2.1 dX0_squash_179 hl (k := 5) rfl rfl (by decide) rfl (fun ls hl => ?_)
            refine lv_goto (tgt := 21) C.1.1 C.1.2.1 dX0_squash_182 (by decide) ?_
            exact ih (k + 1) σ (x4 + 1) _ _ _ _ (by omega) (lp_x hx) hU (Eq.trans hR (tn c_56 (tn c_68 (tp c_107 (tn c_157 rfl))))) hH (lv_sub hl [4, 5, 0] rfl)
          · refine lv_aload_n C.1.1 C.1.2.1 dX0_squash_160 rfl (lv_at hl 3 rfl) ?_
            refine getX C hH 2 (by decide) q35 rfl (v := .ref (ad 2)) rfl dX0_squash_161 ?_
            refine lv_iload_n C.1.1 C.1.2.1 dX0_squash_164 rfl (lv_at hl 4 rfl) ?_
            refine lv_aload_n C.1.1 C.1.2.1 dX0_squash_165 rfl (lv_at hl 3 rfl) ?_
            refine getX C hH 2 (by decide) q35 rfl (v := .ref (ad 2)) rfl dX0_squash_166 ?_
            refine lv_iload_n C.1.1 C.1.2.1 dX0_squash_169 rfl (lv_at hl 4 rfl) ?_
            refine ildX C hH 2 1 (f := (xOw σ)) rfl rfl dX0_squash_170 ht ?_
            refine lv_iconst (v := 1) C.1.1 C.1.2.1 dX0_squash_171 (by decide) ?_
            refine lv_iload C.1.1 C.1.2.1 dX0_squash_172 (lv_at hl 5 rfl) ?_
            refine lv_ishl C.1.1 C.1.2.1 dX0_squash_174 ?_
            refine lv_iconst (v := (-1)) C.1.1 C.1.2.1 dX0_squash_175 (by decide) ?_
            refine lv_ixor C.1.1 C.1.2.1 dX0_squash_176 ?_
            refine lv_iand C.1.1 C.1.2.1 dX0_squash_177 ?_
            have hH := AtX.eta hH
            refine stX_2 C hH dX0_squash_178 ht (fun H locs hH => ?_)
            refine lv_iinc (v := (x4 + 1)) (lv' := [(4, .int (x4 + 1)), (7, .int 1), (6, .int 0), (5, .int (fX_holder σ ((xUn σ) (fX_top p1).toNatClampNeg) x4)), (0, .ref (ad 0)), (3, .int (fX_top p1))]) C.1.1 C.1.2.1 dX0_squash_179 hl (k := 5) rfl rfl (by decide) rfl (fun ls hl => ?_)
            refine lv_goto (tgt := 21) C.1.1 C.1.2.1 dX0_squash_182 (by decide) ?_
            exact ih (k + 1) ((xL σ), (xUn σ), (upd (xOw σ) (fX_top p1).toNatClampNeg (((xOw σ) (fX_top p1).toNatClampNeg) &&& (((1 : Int32) <<< (x4 &&& 31)) ^^^ (-1)))), (xHi σ), (xOd σ), (xHd σ), (xCt σ), (xIu σ)) (x4 + 1) _ _ _ _ (by omega) (lp_x hx) (okU_mk hU) (Eq.trans hR (tn c_56 (tn c_68 (tp c_107 (tp c_157 rfl))))) hH (lv_sub hl [4, 5, 0] rfl)
    · refine lv_iconst (v := 1) C.1.1 C.1.2.1 dX0_squash_59 (by decide) ?_
      refine lv_goto (tgt := 64) C.1.1 C.1.2.1 dX0_squash_60 (by decide) ?_
      refine lv_istore (lv' := [(6, .int 1), (5, .int (fX_holder σ ((xUn σ) (fX_top p1).toNatClampNeg) x4)), (0, .ref (ad 0)), (3, .int (fX_top p1)), (4, .int x4)]) C.1.1 C.1.2.1 dX0_squash_64 hl (by decide) rfl (fun ls hl => ?_)
      refine lv_iload C.1.1 C.1.2.1 dX0_squash_66 (lv_at hl 1 rfl) ?_
      refine lv_if_lt (tgt := 76) C.1.1 C.1.2.1 dX0_squash_68 (by decide) (fun c_68 => ?_) (fun c_68 => ?_)
      · refine lv_aload_n C.1.1 C.1.2.1 dX0_squash_76 rfl (lv_at hl 2 rfl) ?_
        refine getX C hH 3 (by decide) q36 rfl (v := .ref (ad 3)) rfl dX0_squash_77 ?_
        refine lv_iload_n C.1.1 C.1.2.1 dX0_squash_80 rfl (lv_at hl 3 rfl) ?_
        refine lv_aload_n C.1.1 C.1.2.1 dX0_squash_81 rfl (lv_at hl 2 rfl) ?_
        refine getX C hH 3 (by decide) q36 rfl (v := .ref (ad 3)) rfl dX0_squash_82 ?_
        refine lv_iload_n C.1.1 C.1.2.1 dX0_squash_85 rfl (lv_at hl 3 rfl) ?_
        refine ildX C hH 3 2 (f := (xHi σ)) rfl rfl dX0_squash_86 ht ?_
        refine lv_iconst (v := 1) C.1.1 C.1.2.1 dX0_squash_87 (by decide) ?_
        refine lv_iload C.1.1 C.1.2.1 dX0_squash_88 (lv_at hl 4 rfl) ?_
        refine lv_ishl C.1.1 C.1.2.1 dX0_squash_90 ?_
        refine lv_iconst (v := (-1)) C.1.1 C.1.2.1 dX0_squash_91 (by decide) ?_
        refine lv_ixor C.1.1 C.1.2.1 dX0_squash_92 ?_
        refine lv_iand C.1.1 C.1.2.1 dX0_squash_93 ?_
        have hH := AtX.eta hH
        refine stX_3 C hH dX0_squash_94 ht (fun H locs hH => ?_)
        refine lv_aload_n C.1.1 C.1.2.1 dX0_squash_95 rfl (lv_at hl 2 rfl) ?_
        refine getX C hH 2 (by decide) q35 rfl (v := .ref (ad 2)) rfl dX0_squash_96 ?_
        refine lv_iload_n C.1.1 C.1.2.1 dX0_squash_99 rfl (lv_at hl 3 rfl) ?_
        refine ldX_2 C hH dX0_squash_100 ht ?_
        refine lv_iload C.1.1 C.1.2.1 dX0_squash_101 (lv_at hl 4 rfl) ?_
        refine lv_ishr C.1.1 C.1.2.1 dX0_squash_103 ?_
        refine lv_iconst (v := 1) C.1.1 C.1.2.1 dX0_squash_104 (by decide) ?_
        refine lv_iand C.1.1 C.1.2.1 dX0_squash_105 ?_
        refine lv_iconst (v := 1) C.1.1 C.1.2.1 dX0_squash_106 (by decide) ?_
        refine lv_icmp_ne (tgt := 114) C.1.1 C.1.2.1 dX0_squash_107 (by decide) (fun c_107 => ?_) (fun c_107 => ?_)
        · refine lv_iconst (v := 0) C.1.1 C.1.2.1 dX0_squash_114 (by decide) ?_
          refine lv_istore (lv' := [(7, .int 0), (6, .int 1), (5, .int (fX_holder σ ((xUn σ) (fX_top p1).toNatClampNeg) x4)), (0, .ref (ad 0)), (3, .int (fX_top p1)), (4, .int x4)]) C.1.1 C.1.2.1 dX0_squash_115 hl (by decide) rfl (fun ls hl => ?_)
          refine lv_iload C.1.1 C.1.2.1 dX0_squash_117 (lv_at hl 0 rfl) ?_
          refine lv_if_eq (tgt := 179) C.1.1 C.1.2.1 dX0_squash_119 (by decide) (fun _ => ?_) (fun c => absurd (by decide) c)
          refine lv_iinc (v := (x4 + 1)) (lv' := [(4, .int (x4 + 1)), (7, .int 0), (6, .int 1), (5, .int (fX_holder σ ((xUn σ) (fX_top p1).toNatClampNeg) x4)), (0, .ref (ad 0)), (3, .int (fX_top p1))]) C.1.1 C.1.2.1 dX0_squash_179 hl (k := 5) rfl rfl (by decide) rfl (fun ls hl => ?_)
          refine lv_goto (tgt := 21) C.1.1 C.1.2.1 dX0_squash_182 (by decide) ?_
          exact ih (k + 1) ((xL σ), (xUn σ), (xOw σ), (upd (xHi σ) (fX_top p1).toNatClampNeg (((xHi σ) (fX_top p1).toNatClampNeg) &&& (((1 : Int32) <<< (x4 &&& 31)) ^^^ (-1)))), (xOd σ), (xHd σ), (xCt σ), (xIu σ)) (x4 + 1) _ _ _ _ (by omega) (lp_x hx) (okU_mk hU) (Eq.trans hR (tp c_56 (tp c_68 (tn c_107 rfl)))) hH (lv_sub hl [4, 5, 0] rfl)
        · refine lv_iconst (v := 1) C.1.1 C.1.2.1 dX0_squash_110 (by decide) ?_
          refine lv_goto (tgt := 115) C.1.1 C.1.2.1 dX0_squash_111 (by decide) ?_
          refine lv_istore (lv' := [(7, .int 1), (6, .int 1), (5, .int (fX_holder σ ((xUn σ) (fX_top p1).toNatClampNeg) x4)), (0, .ref (ad 0)), (3, .int (fX_top p1)), (4, .int x4)]) C.1.1 C.1.2.1 dX0_squash_115 hl (by decide) rfl (fun ls hl => ?_)
          refine lv_iload C.1.1 C.1.2.1 dX0_squash_117 (lv_at hl 0 rfl) ?_
          refine lv_if_eq (tgt := 179) C.1.1 C.1.2.1 dX0_squash_119 (by decide) (fun c => absurd c (by decide)) (fun _ => ?_)
          refine lv_iload C.1.1 C.1.2.1 dX0_squash_122 (lv_at hl 2 rfl) ?_
          refine lv_if_lt (tgt := 179) C.1.1 C.1.2.1 dX0_squash_124 (by decide) (fun _ => ?_) (fun c => absurd c_68 c)
          refine lv_iinc (v := (x4 + 1)) (lv' := [(4, .int (x4 + 1)), (7, .int 1), (6, .int 1), (5, .int (fX_holder σ ((xUn σ) (fX_top p1).toNatClampNeg) x4)), (0, .ref (ad 0)), (3, .int (fX_top p1))]) C.1.1 C.1.2.1 dX0_squash_179 hl (k := 5) rfl rfl (by decide) rfl (fun ls hl => ?_)
          refine lv_goto (tgt := 21) C.1.1 C.1.2.1 dX0_squash_182 (by decide) ?_
          exact ih (k + 1) ((xL σ), (xUn σ), (xOw σ), (upd (xHi σ) (fX_top p1).toNatClampNeg (((xHi σ) (fX_top p1).toNatClampNeg) &&& (((1 : Int32) <<< (x4 &&& 31)) ^^^ (-1)))), (xOd σ), (xHd σ), (xCt σ), (xIu σ)) (x4 + 1) _ _ _ _ (by omega) (lp_x hx) (okU_mk hU) (Eq.trans hR (tp c_56 (tp c_68 (tp c_107 rfl)))) hH (lv_sub hl [4, 5, 0] rfl)
      · refine lv_iload C.1.1 C.1.2.1 dX0_squash_71 (lv_at hl 0 rfl) ?_
        refine lv_if_eq (tgt := 95) C.1.1 C.1.2.1 dX0_squash_73 (by decide) (fun c => absurd c (by decide)) (fun _ => ?_)
        refine lv_aload_n C.1.1 C.1.2.1 dX0_squash_76 rfl (lv_at hl 2 rfl) ?_
        refine getX C hH 3 (by decide) q36 rfl (v := .ref (ad 3)) rfl dX0_squash_77 ?_
        refine lv_iload_n C.1.1 C.1.2.1 dX0_squash_80 rfl (lv_at hl 3 rfl) ?_
        refine lv_aload_n C.1.1 C.1.2.1 dX0_squash_81 rfl (lv_at hl 2 rfl) ?_
        refine getX C hH 3 (by decide) q36 rfl (v := .ref (ad 3)) rfl dX0_squash_82 ?_
        refine lv_iload_n C.1.1 C.1.2.1 dX0_squash_85 rfl (lv_at hl 3 rfl) ?_
        refine ildX C hH 3 2 (f := (xHi σ)) rfl rfl dX0_squash_86 ht ?_
        refine lv_iconst (v := 1) C.1.1 C.1.2.1 dX0_squash_87 (by decide) ?_
        refine lv_iload C.1.1 C.1.2.1 dX0_squash_88 (lv_at hl 4 rfl) ?_
        refine lv_ishl C.1.1 C.1.2.1 dX0_squash_90 ?_
        refine lv_iconst (v := (-1)) C.1.1 C.1.2.1 dX0_squash_91 (by decide) ?_
        refine lv_ixor C.1.1 C.1.2.1 dX0_squash_92 ?_
        refine lv_iand C.1.1 C.1.2.1 dX0_squash_93 ?_
        have hH := AtX.eta hH
        refine stX_3 C hH dX0_squash_94 ht (fun H locs hH => ?_)
        refine lv_aload_n C.1.1 C.1.2.1 dX0_squash_95 rfl (lv_at hl 2 rfl) ?_
        refine getX C hH 2 (by decide) q35 rfl (v := .ref (ad 2)) rfl dX0_squash_96 ?_
        refine lv_iload_n C.1.1 C.1.2.1 dX0_squash_99 rfl (lv_at hl 3 rfl) ?_
        refine ldX_2 C hH dX0_squash_100 ht ?_
        refine lv_iload C.1.1 C.1.2.1 dX0_squash_101 (lv_at hl 4 rfl) ?_
        refine lv_ishr C.1.1 C.1.2.1 dX0_squash_103 ?_
        refine lv_iconst (v := 1) C.1.1 C.1.2.1 dX0_squash_104 (by decide) ?_
        refine lv_iand C.1.1 C.1.2.1 dX0_squash_105 ?_
        refine lv_iconst (v := 1) C.1.1 C.1.2.1 dX0_squash_106 (by decide) ?_
        refine lv_icmp_ne (tgt := 114) C.1.1 C.1.2.1 dX0_squash_107 (by decide) (fun c_107 => ?_) (fun c_107 => ?_)
        · refine lv_iconst (v := 0) C.1.1 C.1.2.1 dX0_squash_114 (by decide) ?_
          refine lv_istore (lv' := [(7, .int 0), (6, .int 1), (5, .int (fX_holder σ ((xUn σ) (fX_top p1).toNatClampNeg) x4)), (0, .ref (ad 0)), (3, .int (fX_top p1)), (4, .int x4)]) C.1.1 C.1.2.1 dX0_squash_115 hl (by decide) rfl (fun ls hl => ?_)
          refine lv_iload C.1.1 C.1.2.1 dX0_squash_117 (lv_at hl 0 rfl) ?_
          refine lv_if_eq (tgt := 179) C.1.1 C.1.2.1 dX0_squash_119 (by decide) (fun _ => ?_) (fun c => absurd (by decide) c)
          refine lv_iinc (v := (x4 + 1)) (lv' := [(4, .int (x4 + 1)), (7, .int 0), (6, .int 1), (5, .int (fX_holder σ ((xUn σ) (fX_top p1).toNatClampNeg) x4)), (0, .ref (ad 0)), (3, .int (fX_top p1))]) C.1.1 C.1.2.1 dX0_squash_179 hl (k := 5) rfl rfl (by decide) rfl (fun ls hl => ?_)
          refine lv_goto (tgt := 21) C.1.1 C.1.2.1 dX0_squash_182 (by decide) ?_
          exact ih (k + 1) ((xL σ), (xUn σ), (xOw σ), (upd (xHi σ) (fX_top p1).toNatClampNeg (((xHi σ) (fX_top p1).toNatClampNeg) &&& (((1 : Int32) <<< (x4 &&& 31)) ^^^ (-1)))), (xOd σ), (xHd σ), (xCt σ), (xIu σ)) (x4 + 1) _ _ _ _ (by omega) (lp_x hx) (okU_mk hU) (Eq.trans hR (tp c_56 (tn c_68 (tn c_107 rfl)))) hH (lv_sub hl [4, 5, 0] rfl)
        · refine lv_iconst (v := 1) C.1.1 C.1.2.1 dX0_squash_110 (by decide) ?_
          refine lv_goto (tgt := 115) C.1.1 C.1.2.1 dX0_squash_111 (by decide) ?_
          refine lv_istore (lv' := [(7, .int 1), (6, .int 1), (5, .int (fX_holder σ ((xUn σ) (fX_top p1).toNatClampNeg) x4)), (0, .ref (ad 0)), (3, .int (fX_top p1)), (4, .int x4)]) C.1.1 C.1.2.1 dX0_squash_115 hl (by decide) rfl (fun ls hl => ?_)
          refine lv_iload C.1.1 C.1.2.1 dX0_squash_117 (lv_at hl 0 rfl) ?_
          refine lv_if_eq (tgt := 179) C.1.1 C.1.2.1 dX0_squash_119 (by decide) (fun c => absurd c (by decide)) (fun _ => ?_)
          refine lv_iload C.1.1 C.1.2.1 dX0_squash_122 (lv_at hl 2 rfl) ?_
          refine lv_if_lt (tgt := 179) C.1.1 C.1.2.1 dX0_squash_124 (by decide) (fun c => absurd c c_68) (fun _ => ?_)
          refine lv_iload C.1.1 C.1.2.1 dX0_squash_127 (lv_at hl 1 rfl) ?_
          refine lv_if_ne (tgt := 179) C.1.1 C.1.2.1 dX0_squash_129 (by decide) (fun _ => ?_) (fun c => absurd c (by decide))
          refine lv_iinc (v := (x4 + 1)) (lv' := [(4, .int (x4 + 1)), (7, .int 1), (6, .int 1), (5, .int (fX_holder σ ((xUn σ) (fX_top p1).toNatClampNeg) x4)), (0, .ref (ad 0)), (3, .int (fX_top p1))]) C.1.1 C.1.2.1 dX0_squash_179 hl (k := 5) rfl rfl (by decide) rfl (fun ls hl => ?_)
          refine lv_goto (tgt := 21) C.1.1 C.1.2.1 dX0_squash_182 (by decide) ?_
          exact ih (k + 1) ((xL σ), (xUn σ), (xOw σ), (upd (xHi σ) (fX_top p1).toNatClampNeg (((xHi σ) (fX_top p1).toNatClampNeg) &&& (((1 : Int32) <<< (x4 &&& 31)) ^^^ (-1)))), (xOd σ), (xHd σ), (xCt σ), (xIu σ)) (x4 + 1) _ _ _ _ (by omega) (lp_x hx) (okU_mk hU) (Eq.trans hR (tp c_56 (tn c_68 (tp c_107 rfl)))) hH (lv_sub hl [4, 5, 0] rfl)
set_option maxHeartbeats 4000000 in
theorem mX_squash (l : Launch) (G : va_G) (ad : Nat → Nat) (d : Nat → ClassId) (σ : SX) (p1 : Int32) (hO : okX σ) : MetXi l yX0_squash cX0_squash 8 .int rmZ1 [.int p1] G ad d σ (fX_squash σ p1) := by
  refine metX_i (by decide +kernel) rfl (Nat.le_of_ble_eq_true rfl) (fun p e s m below meth c A ls C hH hl => ?_)
  have hl : lv_has ls 8 [(0, .ref (ad 0)), (1, .int p1)] := hl
  have hR : (fX_squash σ p1) = (fX_squash σ p1) := rfl
  generalize s.heap = H at hH ⊢
  generalize ([] : List Loc) = locs at hH ⊢
  refine lv_aload_n C.1.1 C.1.2.1 dX0_squash_0 rfl (lv_at hl 0 rfl) ?_
  refine lv_iload_n C.1.1 C.1.2.1 dX0_squash_1 rfl (lv_at hl 1 rfl) ?_
  refine callX_i C hH (av := [.int p1]) (rest := []) (mX_refused l G ad d σ p1 ) gwX_refused hdX_refused (by decide) rfl hl.1 rfl (Nat.le_of_ble_eq_true rfl) dX0_squash_2 ⟨Nat.zero_le _, Nat.zero_le _⟩ (fun r_ u_ H locs hH hw_ => ?_)
  obtain ⟨rfl, rfl⟩ : (fX_refused σ p1) = r_ ∧ σ = u_ := ⟨(congrArg Prod.fst hw_).symm, (congrArg Prod.snd hw_).symm⟩
  refine lv_istore_n (lv' := [(2, .int (fX_refused σ p1)), (0, .ref (ad 0)), (1, .int p1)]) C.1.1 C.1.2.1 dX0_squash_5 rfl hl (by decide) rfl (fun ls hl => ?_)
  refine lv_iload_n C.1.1 C.1.2.1 dX0_squash_6 rfl (lv_at hl 0 rfl) ?_
  refine lv_if_ge (tgt := 12) C.1.1 C.1.2.1 dX0_squash_7 (by decide) (fun c_7 => ?_) (fun c_7 => ?_)
  · have hm : vp_in p1 4 := b_ref c_7
    have ht : vp_in (6 + p1) 10 := b_top hm
    refine lv_aload_n C.1.1 C.1.2.1 dX0_squash_12 rfl (lv_at hl 1 rfl) ?_
    refine lv_iload_n C.1.1 C.1.2.1 dX0_squash_13 rfl (lv_at hl 2 rfl) ?_
    refine callX_i C hH (av := [.int p1]) (rest := []) (mX_top l G ad d σ p1 ) gwX_top hdX_top (by decide) rfl hl.1 rfl (Nat.le_of_ble_eq_true rfl) dX0_squash_14 ⟨Nat.zero_le _, Nat.zero_le _⟩ (fun r_ u_ H locs hH hw_ => ?_)
    obtain ⟨rfl, rfl⟩ : (fX_top p1) = r_ ∧ σ = u_ := ⟨(congrArg Prod.fst hw_).symm, (congrArg Prod.snd hw_).symm⟩
    refine lv_istore_n (lv' := [(3, .int (fX_top p1)), (2, .int (fX_refused σ p1)), (0, .ref (ad 0)), (1, .int p1)]) C.1.1 C.1.2.1 dX0_squash_17 rfl hl (by decide) rfl (fun ls hl => ?_)
    refine lv_iconst (v := 0) C.1.1 C.1.2.1 dX0_squash_18 (by decide) ?_
    refine lv_istore (lv' := [(4, .int 0), (3, .int (fX_top p1)), (2, .int (fX_refused σ p1)), (0, .ref (ad 0)), (1, .int p1)]) C.1.1 C.1.2.1 dX0_squash_19 hl (by decide) rfl (fun ls hl => ?_)
    exact bX_squash_21 C ht 8 0 σ 0 _ _ _ _ rfl nI_0.symm hO.1 (Eq.trans hR (tp c_7 rfl)) hH (lv_sub hl [3, 1, 0] rfl)
  · refine lv_iload_n C.1.1 C.1.2.1 dX0_squash_10 rfl (lv_at hl 0 rfl) ?_
    exact retX_i C hH dX0_squash_11 (Eq.trans hR (tn c_7 rfl)).symm
end
section
set_option maxRecDepth 100000
-- method test
set_option maxHeartbeats 4000000 in
theorem mY_test (l : Launch) (G : va_G) (ad : Nat → Nat) (d : Nat → ClassId) (τ : SY) (p1 : Int32)  : MetYi l yX1_test cX1_test 2 .int rmZ0 [.int p1] G ad d τ ((fY_test τ p1), τ) := by
  refine metY_i (by decide +kernel) rfl (Nat.le_of_ble_eq_true rfl) (fun p e s m below meth c A ls C hH hl => ?_)
  have hl : lv_has ls 2 [(0, .ref (ad 0)), (1, .int p1)] := hl
  have hR : (fY_test τ p1) = (fY_test τ p1) := rfl
  generalize s.heap = H at hH ⊢
  generalize ([] : List Loc) = locs at hH ⊢
  refine lv_iload_n C.1.1 C.1.2.1 dX1_test_0 rfl (lv_at hl 1 rfl) ?_
  refine lv_if_lt (tgt := 9) C.1.1 C.1.2.1 dX1_test_1 (by decide) (fun c_1 => ?_) (fun c_1 => ?_)
  · refine lv_iconst (v := (-1)) C.1.1 C.1.2.1 dX1_test_9 (by decide) ?_
    exact retY_i C hH dX1_test_10 (congrArg (fun z => (z, τ)) (Eq.trans hR (tp c_1 rfl))).symm
  · refine lv_iload_n C.1.1 C.1.2.1 dX1_test_4 rfl (lv_at hl 1 rfl) ?_
    refine lv_iconst (v := 3) C.1.1 C.1.2.1 dX1_test_5 (by decide) ?_
    refine lv_icmp_le (tgt := 11) C.1.1 C.1.2.1 dX1_test_6 (by decide) (fun c_6 => ?_) (fun c_6 => ?_)
    · refine lv_aload_n C.1.1 C.1.2.1 dX1_test_11 rfl (lv_at hl 0 rfl) ?_
      refine getY C hH 5 (by decide) q191 rfl (v := .ref (ad 5)) rfl dX1_test_12 ?_
      refine lv_iload_n C.1.1 C.1.2.1 dX1_test_15 rfl (lv_at hl 1 rfl) ?_
      refine zldY C hH 5 4 (f := (yUs τ)) rfl rfl dX1_test_16 (b_le3 c_1 c_6) ?_
      refine lv_if_eq (tgt := 24) C.1.1 C.1.2.1 dX1_test_17 (by decide) (fun c_17 => ?_) (fun c_17 => ?_)
      · refine lv_bipush (v := (-3)) C.1.1 C.1.2.1 dX1_test_24 (by decide) ?_
        exact retY_i C hH dX1_test_26 (congrArg (fun z => (z, τ)) (Eq.trans hR (tn c_1 (tp c_6 (tp c_17 rfl))))).symm
      · refine lv_iconst (v := 0) C.1.1 C.1.2.1 dX1_test_20 (by decide) ?_
        refine lv_goto (tgt := 26) C.1.1 C.1.2.1 dX1_test_21 (by decide) ?_
        exact retY_i C hH dX1_test_26 (congrArg (fun z => (z, τ)) (Eq.trans hR (tn c_1 (tp c_6 (tn c_17 rfl))))).symm
    · refine lv_iconst (v := (-1)) C.1.1 C.1.2.1 dX1_test_9 (by decide) ?_
      exact retY_i C hH dX1_test_10 (congrArg (fun z => (z, τ)) (Eq.trans hR (tn c_1 (tn c_6 rfl)))).symm
theorem gwY_test : GoodIn lw_all (wsV RX1 33 RX1 yX1_test (ws_ yX1_test cX1_test 2 (some .int))) := lw_V q212 q214 qs12 q24 q215
theorem hdY_test : yX1_test.cls = RX1 ∧ yX1_test.cls ≠ "java/lang/invoke/MethodHandle" ∧ yX1_test.cls ≠ "java/lang/invoke/VarHandle" ∧ (parseMethodDescriptor yX1_test.desc).map (fun d => d.parameters.length) = some 1 := by decide +kernel
-- method testDirectory
set_option maxHeartbeats 4000000 in
theorem mY_testDirectory (l : Launch) (G : va_G) (ad : Nat → Nat) (d : Nat → ClassId) (τ : SY) (p1 : Int32) (p2 : Int32)  : MetYi l yX1_testDirectory cX1_testDirectory 4 .int rmZ1 [.int p1, .int p2] G ad d τ ((fY_testDirectory τ p1 p2), τ) := by
  refine metY_i (by decide +kernel) rfl (Nat.le_of_ble_eq_true rfl) (fun p e s m below meth c A ls C hH hl => ?_)
  have hl : lv_has ls 4 [(0, .ref (ad 0)), (1, .int p1), (2, .int p2)] := hl
  have hR : (fY_testDirectory τ p1 p2) = (fY_testDirectory τ p1 p2) := rfl
  generalize s.heap = H at hH ⊢
  generalize ([] : List Loc) = locs at hH ⊢
  refine lv_aload_n C.1.1 C.1.2.1 dX1_testDirectory_0 rfl (lv_at hl 0 rfl) ?_
  refine lv_iload_n C.1.1 C.1.2.1 dX1_testDirectory_1 rfl (lv_at hl 1 rfl) ?_
  refine callY_i C hH (av := [.int p1]) (rest := []) (mY_test l G ad d τ p1 ) gwY_test hdY_test (by decide) rfl hl.1 rfl (Nat.le_of_ble_eq_true rfl) dX1_testDirectory_2 ⟨Nat.zero_le _, Nat.zero_le _⟩ (fun r_ u_ H locs hH hw_ => ?_)
  obtain ⟨rfl, rfl⟩ : (fY_test τ p1) = r_ ∧ τ = u_ := ⟨(congrArg Prod.fst hw_).symm, (congrArg Prod.snd hw_).symm⟩
  refine lv_istore_n (lv' := [(3, .int (fY_test τ p1)), (0, .ref (ad 0)), (1, .int p1), (2, .int p2)]) C.1.1 C.1.2.1 dX1_testDirectory_5 rfl hl (by decide) rfl (fun ls hl => ?_)
  refine lv_iload_n C.1.1 C.1.2.1 dX1_testDirectory_6 rfl (lv_at hl 0 rfl) ?_
  refine lv_if_ne (tgt := 23) C.1.1 C.1.2.1 dX1_testDirectory_7 (by decide) (fun c_7 => ?_) (fun c_7 => ?_)
  · refine lv_iload_n C.1.1 C.1.2.1 dX1_testDirectory_23 rfl (lv_at hl 0 rfl) ?_
    exact retY_i C hH dX1_testDirectory_24 (congrArg (fun z => (z, τ)) (Eq.trans hR (tn c_7 rfl))).symm
  · refine lv_iload_n C.1.1 C.1.2.1 dX1_testDirectory_10 rfl (lv_at hl 3 rfl) ?_
    refine lv_if_lt (tgt := 19) C.1.1 C.1.2.1 dX1_testDirectory_11 (by decide) (fun c_11 => ?_) (fun c_11 => ?_)
    · refine lv_iconst (v := (-1)) C.1.1 C.1.2.1 dX1_testDirectory_19 (by decide) ?_
      refine lv_goto (tgt := 24) C.1.1 C.1.2.1 dX1_testDirectory_20 (by decide) ?_
      exact retY_i C hH dX1_testDirectory_24 (congrArg (fun z => (z, τ)) (Eq.trans hR (tp c_7 (tp c_11 rfl)))).symm
    · refine lv_iload_n C.1.1 C.1.2.1 dX1_testDirectory_14 rfl (lv_at hl 3 rfl) ?_
      refine lv_iconst (v := 1) C.1.1 C.1.2.1 dX1_testDirectory_15 (by decide) ?_
      refine lv_icmp_le (tgt := 23) C.1.1 C.1.2.1 dX1_testDirectory_16 (by decide) (fun c_16 => ?_) (fun c_16 => ?_)
      · refine lv_iload_n C.1.1 C.1.2.1 dX1_testDirectory_23 rfl (lv_at hl 0 rfl) ?_
        exact retY_i C hH dX1_testDirectory_24 (congrArg (fun z => (z, τ)) (Eq.trans hR (tp c_7 (tn c_11 (tp c_16 rfl))))).symm
      · refine lv_iconst (v := (-1)) C.1.1 C.1.2.1 dX1_testDirectory_19 (by decide) ?_
        refine lv_goto (tgt := 24) C.1.1 C.1.2.1 dX1_testDirectory_20 (by decide) ?_
        exact retY_i C hH dX1_testDirectory_24 (congrArg (fun z => (z, τ)) (Eq.trans hR (tp c_7 (tn c_11 (tn c_16 rfl))))).symm
theorem gwY_testDirectory : GoodIn lw_all (wsV RX1 45 RX1 yX1_testDirectory (ws_ yX1_testDirectory cX1_testDirectory 4 (some .int))) := lw_V q232 q234 qs15 q24 q235
theorem hdY_testDirectory : yX1_testDirectory.cls = RX1 ∧ yX1_testDirectory.cls ≠ "java/lang/invoke/MethodHandle" ∧ yX1_testDirectory.cls ≠ "java/lang/invoke/VarHandle" ∧ (parseMethodDescriptor yX1_testDirectory.desc).map (fun d => d.parameters.length) = some 2 := by decide +kernel
-- method testFile
set_option maxHeartbeats 4000000 in
theorem mY_testFile (l : Launch) (G : va_G) (ad : Nat → Nat) (d : Nat → ClassId) (τ : SY) (p1 : Int32) (p2 : Int32)  : MetYi l yX1_testFile cX1_testFile 4 .int rmZ1 [.int p1, .int p2] G ad d τ ((fY_testFile τ p1 p2), τ) := by
  refine metY_i (by decide +kernel) rfl (Nat.le_of_ble_eq_true rfl) (fun p e s m below meth c A ls C hH hl => ?_)
  have hl : lv_has ls 4 [(0, .ref (ad 0)), (1, .int p1), (2, .int p2)] := hl
  have hR : (fY_testFile τ p1 p2) = (fY_testFile τ p1 p2) := rfl
  generalize s.heap = H at hH ⊢
  generalize ([] : List Loc) = locs at hH ⊢
  refine lv_aload_n C.1.1 C.1.2.1 dX1_testFile_0 rfl (lv_at hl 0 rfl) ?_
  refine lv_iload_n C.1.1 C.1.2.1 dX1_testFile_1 rfl (lv_at hl 1 rfl) ?_
  refine callY_i C hH (av := [.int p1]) (rest := []) (mY_test l G ad d τ p1 ) gwY_test hdY_test (by decide) rfl hl.1 rfl (Nat.le_of_ble_eq_true rfl) dX1_testFile_2 ⟨Nat.zero_le _, Nat.zero_le _⟩ (fun r_ u_ H locs hH hw_ => ?_)
  obtain ⟨rfl, rfl⟩ : (fY_test τ p1) = r_ ∧ τ = u_ := ⟨(congrArg Prod.fst hw_).symm, (congrArg Prod.snd hw_).symm⟩
  refine lv_istore_n (lv' := [(3, .int (fY_test τ p1)), (0, .ref (ad 0)), (1, .int p1), (2, .int p2)]) C.1.1 C.1.2.1 dX1_testFile_5 rfl hl (by decide) rfl (fun ls hl => ?_)
  refine lv_iload_n C.1.1 C.1.2.1 dX1_testFile_6 rfl (lv_at hl 0 rfl) ?_
  refine lv_if_ne (tgt := 24) C.1.1 C.1.2.1 dX1_testFile_7 (by decide) (fun c_7 => ?_) (fun c_7 => ?_)
  · refine lv_iload_n C.1.1 C.1.2.1 dX1_testFile_24 rfl (lv_at hl 0 rfl) ?_
    exact retY_i C hH dX1_testFile_25 (congrArg (fun z => (z, τ)) (Eq.trans hR (tn c_7 rfl))).symm
  · refine lv_iload_n C.1.1 C.1.2.1 dX1_testFile_10 rfl (lv_at hl 3 rfl) ?_
    refine lv_if_lt (tgt := 20) C.1.1 C.1.2.1 dX1_testFile_11 (by decide) (fun c_11 => ?_) (fun c_11 => ?_)
    · refine lv_iconst (v := (-1)) C.1.1 C.1.2.1 dX1_testFile_20 (by decide) ?_
      refine lv_goto (tgt := 25) C.1.1 C.1.2.1 dX1_testFile_21 (by decide) ?_
      exact retY_i C hH dX1_testFile_25 (congrArg (fun z => (z, τ)) (Eq.trans hR (tp c_7 (tp c_11 rfl)))).symm
    · refine lv_iload_n C.1.1 C.1.2.1 dX1_testFile_14 rfl (lv_at hl 3 rfl) ?_
      refine lv_bipush (v := 7) C.1.1 C.1.2.1 dX1_testFile_15 (by decide) ?_
      refine lv_icmp_le (tgt := 24) C.1.1 C.1.2.1 dX1_testFile_17 (by decide) (fun c_17 => ?_) (fun c_17 => ?_)
      · refine lv_iload_n C.1.1 C.1.2.1 dX1_testFile_24 rfl (lv_at hl 0 rfl) ?_
        exact retY_i C hH dX1_testFile_25 (congrArg (fun z => (z, τ)) (Eq.trans hR (tp c_7 (tn c_11 (tp c_17 rfl))))).symm
      · refine lv_iconst (v := (-1)) C.1.1 C.1.2.1 dX1_testFile_20 (by decide) ?_
        refine lv_goto (tgt := 25) C.1.1 C.1.2.1 dX1_testFile_21 (by decide) ?_
        exact retY_i C hH dX1_testFile_25 (congrArg (fun z => (z, τ)) (Eq.trans hR (tp c_7 (tn c_11 (tn c_17 rfl))))).symm
theorem gwY_testFile : GoodIn lw_all (wsV RX1 56 RX1 yX1_testFile (ws_ yX1_testFile cX1_testFile 4 (some .int))) := lw_V q252 q254 qs18 q24 q255
theorem hdY_testFile : yX1_testFile.cls = RX1 ∧ yX1_testFile.cls ≠ "java/lang/invoke/MethodHandle" ∧ yX1_testFile.cls ≠ "java/lang/invoke/VarHandle" ∧ (parseMethodDescriptor yX1_testFile.desc).map (fun d => d.parameters.length) = some 2 := by decide +kernel
-- method copy
set_option maxHeartbeats 4000000 in
theorem bY_copy_26 {p : Program} {l : Launch} {e : Env} {s : State} {m : MethodId} {args : Array Value} {below : List Frame} {meth : Method} {c : Code} {G : va_G} {ad : Nat → Nat} {d : Nat → ClassId} {A : Nat → Prop} {p1 : Int32} {p2 : Int32} (C : CX p s m args meth c cX1_copy 4 RX1 (none)) (h1 : vp_in p1 10) (h2 : vp_in p2 10) : ∀ (n : Nat) (k : Nat) (τ : SY) (x3 : Int32) (rv : SY) (H : Heap) (locs : List Loc) (ls : Array Slot), k + n = 8 → x3 = nI k → rv = lY_copy_26 p1 p2 n τ x3 → AtY G ad d A s τ H locs → lv_has ls 4 [(0, .ref (ad 0)), (1, .int p1), (2, .int p2), (3, .int x3)] → W p l e rmZ0 s m args below meth c H locs 0 0 (QYv below G ad d A args s rv) (F0 m 26 ls []) := by
  intro n
  induction n with
  | zero =>
    intro k τ x3 rv H locs ls hk hx hR hH hl
    have hz := lp_z (N := 8) hx hk (by decide)
    refine lv_iload_n C.1.1 C.1.2.1 dX1_copy_26 rfl (lv_at hl 3 rfl) ?_
    refine lv_bipush (v := 8) C.1.1 C.1.2.1 dX1_copy_27 (by decide) ?_
    refine lv_icmp_ge (tgt := 60) C.1.1 C.1.2.1 dX1_copy_29 (by decide) (fun _ => ?_) (fun c => absurd hz c)
    exact retY_v C hH dX1_copy_60 (Eq.trans hR rfl).symm
  | succ n ih =>
    intro k τ x3 rv H locs ls hk hx hR hH hl
    have hz := lp_s (N := 8) hx hk (by decide)
    refine lv_iload_n C.1.1 C.1.2.1 dX1_copy_26 rfl (lv_at hl 3 rfl) ?_
    refine lv_bipush (v := 8) C.1.1 C.1.2.1 dX1_copy_27 (by decide) ?_
    refine lv_icmp_ge (tgt := 60) C.1.1 C.1.2.1 dX1_copy_29 (by decide) (fun c => absurd c hz) (fun _ => ?_)
    refine lv_aload_n C.1.1 C.1.2.1 dX1_copy_32 rfl (lv_at hl 0 rfl) ?_
    refine getY C hH 2 (by decide) q188 rfl (v := .ref (ad 3)) rfl dX1_copy_33 ?_
    refine lv_bipush (v := 8) C.1.1 C.1.2.1 dX1_copy_36 (by decide) ?_
    refine lv_iload_n C.1.1 C.1.2.1 dX1_copy_38 rfl (lv_at hl 2 rfl) ?_
    refine lv_imul C.1.1 C.1.2.1 dX1_copy_39 ?_
    refine lv_iload_n C.1.1 C.1.2.1 dX1_copy_40 rfl (lv_at hl 3 rfl) ?_
    refine lv_iadd C.1.1 C.1.2.1 dX1_copy_41 ?_
    refine lv_aload_n C.1.1 C.1.2.1 dX1_copy_42 rfl (lv_at hl 0 rfl) ?_
    refine getY C hH 2 (by decide) q188 rfl (v := .ref (ad 3)) rfl dX1_copy_43 ?_
    refine lv_bipush (v := 8) C.1.1 C.1.2.1 dX1_copy_46 (by decide) ?_
    refine lv_iload_n C.1.1 C.1.2.1 dX1_copy_48 rfl (lv_at hl 1 rfl) ?_
    refine lv_imul C.1.1 C.1.2.1 dX1_copy_49 ?_
    refine lv_iload_n C.1.1 C.1.2.1 dX1_copy_50 rfl (lv_at hl 3 rfl) ?_
    refine lv_iadd C.1.1 C.1.2.1 dX1_copy_51 ?_
    refine ildY C hH 3 2 (f := (yCo τ)) rfl rfl dX1_copy_52 (b_ct2 h1 (lp_in hx hk (N := 8) (M := 8) (by decide) (by decide))) ?_
    have hH := AtY.eta hH
    refine stY_3 C hH dX1_copy_53 (b_ct2 h2 (lp_in hx hk (N := 8) (M := 8) (by decide) (by decide))) (fun H locs hH => ?_)
    refine lv_iinc (v := (x3 + 1)) (lv' := [(3, .int (x3 + 1)), (0, .ref (ad 0)), (1, .int p1), (2, .int p2)]) C.1.1 C.1.2.1 dX1_copy_54 hl (k := 3) rfl rfl (by decide) rfl (fun ls hl => ?_)
    refine lv_goto (tgt := 26) C.1.1 C.1.2.1 dX1_copy_57 (by decide) ?_
    exact ih (k + 1) ((yDi τ), (yFi τ), (upd (yCo τ) ((8 * p2) + x3).toNatClampNeg ((yCo τ) ((8 * p1) + x3).toNatClampNeg)), (yBa τ), (yL τ), (yUs τ), (yBe τ)) (x3 + 1) _ _ _ _ (by omega) (lp_x hx) (Eq.trans hR rfl) hH (lv_sub hl [1, 2, 3, 0] rfl)
set_option maxHeartbeats 4000000 in
theorem mY_copy (l : Launch) (G : va_G) (ad : Nat → Nat) (d : Nat → ClassId) (τ : SY) (p1 : Int32) (p2 : Int32) (h1 : vp_in p1 10) (h2 : vp_in p2 10) : MetYv l yX1_copy cX1_copy 4  rmZ0 [.int p1, .int p2] G ad d τ (fY_copy τ p1 p2) := by
  refine metY_v (by decide +kernel) rfl (Nat.le_of_ble_eq_true rfl) (fun p e s m below meth c A ls C hH hl => ?_)
  have hl : lv_has ls 4 [(0, .ref (ad 0)), (1, .int p1), (2, .int p2)] := hl
  have hR : (fY_copy τ p1 p2) = (fY_copy τ p1 p2) := rfl
  generalize s.heap = H at hH ⊢
  generalize ([] : List Loc) = locs at hH ⊢
  refine lv_aload_n C.1.1 C.1.2.1 dX1_copy_0 rfl (lv_at hl 0 rfl) ?_
  refine getY C hH 0 (by decide) q186 rfl (v := .ref (ad 1)) rfl dX1_copy_1 ?_
  refine lv_iload_n C.1.1 C.1.2.1 dX1_copy_4 rfl (lv_at hl 2 rfl) ?_
  refine lv_aload_n C.1.1 C.1.2.1 dX1_copy_5 rfl (lv_at hl 0 rfl) ?_
  refine getY C hH 0 (by decide) q186 rfl (v := .ref (ad 1)) rfl dX1_copy_6 ?_
  refine lv_iload_n C.1.1 C.1.2.1 dX1_copy_9 rfl (lv_at hl 1 rfl) ?_
  refine ildY C hH 1 0 (f := (yDi τ)) rfl rfl dX1_copy_10 h1 ?_
  have hH := AtY.eta hH
  refine stY_1 C hH dX1_copy_11 h2 (fun H locs hH => ?_)
  refine lv_aload_n C.1.1 C.1.2.1 dX1_copy_12 rfl (lv_at hl 0 rfl) ?_
  refine getY C hH 1 (by decide) q187 rfl (v := .ref (ad 2)) rfl dX1_copy_13 ?_
  refine lv_iload_n C.1.1 C.1.2.1 dX1_copy_16 rfl (lv_at hl 2 rfl) ?_
  refine lv_aload_n C.1.1 C.1.2.1 dX1_copy_17 rfl (lv_at hl 0 rfl) ?_
  refine getY C hH 1 (by decide) q187 rfl (v := .ref (ad 2)) rfl dX1_copy_18 ?_
  refine lv_iload_n C.1.1 C.1.2.1 dX1_copy_21 rfl (lv_at hl 1 rfl) ?_
  refine ldY_2 C hH dX1_copy_22 h1 ?_
  refine stY_2 C hH dX1_copy_23 h2 (fun H locs hH => ?_)
  refine lv_iconst (v := 0) C.1.1 C.1.2.1 dX1_copy_24 (by decide) ?_
  refine lv_istore_n (lv' := [(3, .int 0), (0, .ref (ad 0)), (1, .int p1), (2, .int p2)]) C.1.1 C.1.2.1 dX1_copy_25 rfl hl (by decide) rfl (fun ls hl => ?_)
  exact bY_copy_26 C h1 h2 8 0 ((upd (yDi τ) p2.toNatClampNeg ((yDi τ) p1.toNatClampNeg)), (upd (yFi τ) p2.toNatClampNeg ((yFi τ) p1.toNatClampNeg)), (yCo τ), (yBa τ), (yL τ), (yUs τ), (yBe τ)) 0 _ _ _ _ rfl nI_0.symm (Eq.trans hR rfl) hH (lv_sub hl [1, 2, 3, 0] rfl)
theorem gwY_copy : GoodIn lw_all (wsV RX1 41 RX1 yX1_copy (ws_ yX1_copy cX1_copy 4 (none))) := lw_V q220 q222 qs14 q24 q223
theorem hdY_copy : yX1_copy.cls = RX1 ∧ yX1_copy.cls ≠ "java/lang/invoke/MethodHandle" ∧ yX1_copy.cls ≠ "java/lang/invoke/VarHandle" ∧ (parseMethodDescriptor yX1_copy.desc).map (fun d => d.parameters.length) = some 2 := by decide +kernel
-- method isLayer
set_option maxHeartbeats 4000000 in
theorem mY_isLayer (l : Launch) (G : va_G) (ad : Nat → Nat) (d : Nat → ClassId) (τ : SY) (p1 : Int32)  : MetYi l yX1_isLayer cX1_isLayer 2 .boolean rmZ0 [.int p1] G ad d τ ((fY_isLayer τ p1), τ) := by
  refine metY_i (by decide +kernel) rfl (Nat.le_of_ble_eq_true rfl) (fun p e s m below meth c A ls C hH hl => ?_)
  have hl : lv_has ls 2 [(0, .ref (ad 0)), (1, .int p1)] := hl
  have hR : (fY_isLayer τ p1) = (fY_isLayer τ p1) := rfl
  generalize s.heap = H at hH ⊢
  generalize ([] : List Loc) = locs at hH ⊢
  refine lv_iload_n C.1.1 C.1.2.1 dX1_isLayer_0 rfl (lv_at hl 1 rfl) ?_
  refine lv_if_lt (tgt := 16) C.1.1 C.1.2.1 dX1_isLayer_1 (by decide) (fun c_1 => ?_) (fun c_1 => ?_)
  · refine lv_iconst (v := 0) C.1.1 C.1.2.1 dX1_isLayer_16 (by decide) ?_
    exact retY_z C hH dX1_isLayer_17 rfl (congrArg (fun z => (z, τ)) (Eq.trans hR (tp c_1 rfl))).symm
  · refine lv_iload_n C.1.1 C.1.2.1 dX1_isLayer_4 rfl (lv_at hl 1 rfl) ?_
    refine lv_aload_n C.1.1 C.1.2.1 dX1_isLayer_5 rfl (lv_at hl 0 rfl) ?_
    refine getY C hH 4 (by decide) q190 rfl (v := .int (yL τ)) rfl dX1_isLayer_6 ?_
    refine lv_icmp_ge (tgt := 16) C.1.1 C.1.2.1 dX1_isLayer_9 (by decide) (fun c_9 => ?_) (fun c_9 => ?_)
    · refine lv_iconst (v := 0) C.1.1 C.1.2.1 dX1_isLayer_16 (by decide) ?_
      exact retY_z C hH dX1_isLayer_17 rfl (congrArg (fun z => (z, τ)) (Eq.trans hR (tn c_1 (tp c_9 rfl)))).symm
    · refine lv_iconst (v := 1) C.1.1 C.1.2.1 dX1_isLayer_12 (by decide) ?_
      refine lv_goto (tgt := 17) C.1.1 C.1.2.1 dX1_isLayer_13 (by decide) ?_
      exact retY_z C hH dX1_isLayer_17 rfl (congrArg (fun z => (z, τ)) (Eq.trans hR (tn c_1 (tn c_9 rfl)))).symm
theorem gwY_isLayer : GoodIn lw_all (wsV RX1 37 RX1 yX1_isLayer (ws_ yX1_isLayer cX1_isLayer 2 (some .boolean))) := lw_V q216 q218 qs13 q24 q219
theorem hdY_isLayer : yX1_isLayer.cls = RX1 ∧ yX1_isLayer.cls ≠ "java/lang/invoke/MethodHandle" ∧ yX1_isLayer.cls ≠ "java/lang/invoke/VarHandle" ∧ (parseMethodDescriptor yX1_isLayer.desc).map (fun d => d.parameters.length) = some 1 := by decide +kernel
-- method has
set_option maxHeartbeats 4000000 in
theorem mY_has (l : Launch) (G : va_G) (ad : Nat → Nat) (d : Nat → ClassId) (τ : SY) (p1 : Int32) (p2 : Int32) (h1 : vp_in p1 10) : MetYi l yX1_has cX1_has 3 .boolean rmZ0 [.int p1, .int p2] G ad d τ ((fY_has τ p1 p2), τ) := by
  refine metY_i (by decide +kernel) rfl (Nat.le_of_ble_eq_true rfl) (fun p e s m below meth c A ls C hH hl => ?_)
  have hl : lv_has ls 3 [(0, .ref (ad 0)), (1, .int p1), (2, .int p2)] := hl
  have hR : (fY_has τ p1 p2) = (fY_has τ p1 p2) := rfl
  generalize s.heap = H at hH ⊢
  generalize ([] : List Loc) = locs at hH ⊢
  refine lv_aload_n C.1.1 C.1.2.1 dX1_has_0 rfl (lv_at hl 0 rfl) ?_
  refine getY C hH 1 (by decide) q187 rfl (v := .ref (ad 2)) rfl dX1_has_1 ?_
  refine lv_iload_n C.1.1 C.1.2.1 dX1_has_4 rfl (lv_at hl 1 rfl) ?_
  refine ildY C hH 2 1 (f := (yFi τ)) rfl rfl dX1_has_5 h1 ?_
  refine lv_iload_n C.1.1 C.1.2.1 dX1_has_6 rfl (lv_at hl 2 rfl) ?_
  refine lv_ishr C.1.1 C.1.2.1 dX1_has_7 ?_
  refine lv_iconst (v := 1) C.1.1 C.1.2.1 dX1_has_8 (by decide) ?_
  refine lv_iand C.1.1 C.1.2.1 dX1_has_9 ?_
  refine lv_iconst (v := 1) C.1.1 C.1.2.1 dX1_has_10 (by decide) ?_
  refine lv_icmp_ne (tgt := 18) C.1.1 C.1.2.1 dX1_has_11 (by decide) (fun c_11 => ?_) (fun c_11 => ?_)
  · refine lv_iconst (v := 0) C.1.1 C.1.2.1 dX1_has_18 (by decide) ?_
    exact retY_z C hH dX1_has_19 rfl (congrArg (fun z => (z, τ)) (Eq.trans hR (tn c_11 rfl))).symm
  · refine lv_iconst (v := 1) C.1.1 C.1.2.1 dX1_has_14 (by decide) ?_
    refine lv_goto (tgt := 19) C.1.1 C.1.2.1 dX1_has_15 (by decide) ?_
    exact retY_z C hH dX1_has_19 rfl (congrArg (fun z => (z, τ)) (Eq.trans hR (tp c_11 rfl))).symm
theorem gwY_has : GoodIn lw_all (wsV RX1 53 RX1 yX1_has (ws_ yX1_has cX1_has 3 (some .boolean))) := lw_V q244 q246 qs17 q24 q247
theorem hdY_has : yX1_has.cls = RX1 ∧ yX1_has.cls ≠ "java/lang/invoke/MethodHandle" ∧ yX1_has.cls ≠ "java/lang/invoke/VarHandle" ∧ (parseMethodDescriptor yX1_has.desc).map (fun d => d.parameters.length) = some 2 := by decide +kernel
-- method hasDirectory
set_option maxHeartbeats 4000000 in
theorem mY_hasDirectory (l : Launch) (G : va_G) (ad : Nat → Nat) (d : Nat → ClassId) (τ : SY) (p1 : Int32) (p2 : Int32) (h1 : vp_in p1 10) : MetYi l yX1_hasDirectory cX1_hasDirectory 3 .boolean rmZ0 [.int p1, .int p2] G ad d τ ((fY_hasDirectory τ p1 p2), τ) := by
  refine metY_i (by decide +kernel) rfl (Nat.le_of_ble_eq_true rfl) (fun p e s m below meth c A ls C hH hl => ?_)
  have hl : lv_has ls 3 [(0, .ref (ad 0)), (1, .int p1), (2, .int p2)] := hl
  have hR : (fY_hasDirectory τ p1 p2) = (fY_hasDirectory τ p1 p2) := rfl
  generalize s.heap = H at hH ⊢
  generalize ([] : List Loc) = locs at hH ⊢
  refine lv_aload_n C.1.1 C.1.2.1 dX1_hasDirectory_0 rfl (lv_at hl 0 rfl) ?_
  refine getY C hH 0 (by decide) q186 rfl (v := .ref (ad 1)) rfl dX1_hasDirectory_1 ?_
  refine lv_iload_n C.1.1 C.1.2.1 dX1_hasDirectory_4 rfl (lv_at hl 1 rfl) ?_
  refine ildY C hH 1 0 (f := (yDi τ)) rfl rfl dX1_hasDirectory_5 h1 ?_
  refine lv_iload_n C.1.1 C.1.2.1 dX1_hasDirectory_6 rfl (lv_at hl 2 rfl) ?_
  refine lv_ishr C.1.1 C.1.2.1 dX1_hasDirectory_7 ?_
  refine lv_iconst (v := 1) C.1.1 C.1.2.1 dX1_hasDirectory_8 (by decide) ?_
  refine lv_iand C.1.1 C.1.2.1 dX1_hasDirectory_9 ?_
  refine lv_iconst (v := 1) C.1.1 C.1.2.1 dX1_hasDirectory_10 (by decide) ?_
  refine lv_icmp_ne (tgt := 18) C.1.1 C.1.2.1 dX1_hasDirectory_11 (by decide) (fun c_11 => ?_) (fun c_11 => ?_)
  · refine lv_iconst (v := 0) C.1.1 C.1.2.1 dX1_hasDirectory_18 (by decide) ?_
    exact retY_z C hH dX1_hasDirectory_19 rfl (congrArg (fun z => (z, τ)) (Eq.trans hR (tn c_11 rfl))).symm
  · refine lv_iconst (v := 1) C.1.1 C.1.2.1 dX1_hasDirectory_14 (by decide) ?_
    refine lv_goto (tgt := 19) C.1.1 C.1.2.1 dX1_hasDirectory_15 (by decide) ?_
    exact retY_z C hH dX1_hasDirectory_19 rfl (congrArg (fun z => (z, τ)) (Eq.trans hR (tp c_11 rfl))).symm
theorem gwY_hasDirectory : GoodIn lw_all (wsV RX1 49 RX1 yX1_hasDirectory (ws_ yX1_hasDirectory cX1_hasDirectory 3 (some .boolean))) := lw_V q236 q238 qs16 q24 q239
theorem hdY_hasDirectory : yX1_hasDirectory.cls = RX1 ∧ yX1_hasDirectory.cls ≠ "java/lang/invoke/MethodHandle" ∧ yX1_hasDirectory.cls ≠ "java/lang/invoke/VarHandle" ∧ (parseMethodDescriptor yX1_hasDirectory.desc).map (fun d => d.parameters.length) = some 2 := by decide +kernel
-- method mount
set_option maxHeartbeats 4000000 in
theorem mY_mount (l : Launch) (G : va_G) (ad : Nat → Nat) (d : Nat → ClassId) (τ : SY) (p1 : Int32) (p2 : Int32) (hO : okY τ) : MetYi l yX1_mount cX1_mount 4 .int rmZ1 [.int p1, .int p2] G ad d τ (fY_mount τ p1 p2) := by
  refine metY_i (by decide +kernel) rfl (Nat.le_of_ble_eq_true rfl) (fun p e s m below meth c A ls C hH hl => ?_)
  have hl : lv_has ls 4 [(0, .ref (ad 0)), (1, .int p1), (2, .int p2)] := hl
  have hR : (fY_mount τ p1 p2) = (fY_mount τ p1 p2) := rfl
  generalize s.heap = H at hH ⊢
  generalize ([] : List Loc) = locs at hH ⊢
  refine lv_aload_n C.1.1 C.1.2.1 dX1_mount_0 rfl (lv_at hl 0 rfl) ?_
  refine lv_iload_n C.1.1 C.1.2.1 dX1_mount_1 rfl (lv_at hl 1 rfl) ?_
  refine callY_i C hH (av := [.int p1]) (rest := []) (mY_test l G ad d τ p1 ) gwY_test hdY_test (by decide) rfl hl.1 rfl (Nat.le_of_ble_eq_true rfl) dX1_mount_2 ⟨Nat.zero_le _, Nat.zero_le _⟩ (fun r_ u_ H locs hH hw_ => ?_)
  obtain ⟨rfl, rfl⟩ : (fY_test τ p1) = r_ ∧ τ = u_ := ⟨(congrArg Prod.fst hw_).symm, (congrArg Prod.snd hw_).symm⟩
  refine lv_istore_n (lv' := [(3, .int (fY_test τ p1)), (0, .ref (ad 0)), (1, .int p1), (2, .int p2)]) C.1.1 C.1.2.1 dX1_mount_5 rfl hl (by decide) rfl (fun ls hl => ?_)
  refine lv_iload_n C.1.1 C.1.2.1 dX1_mount_6 rfl (lv_at hl 0 rfl) ?_
  refine lv_bipush (v := (-3)) C.1.1 C.1.2.1 dX1_mount_7 (by decide) ?_
  refine lv_icmp_eq (tgt := 23) C.1.1 C.1.2.1 dX1_mount_9 (by decide) (fun c_9 => ?_) (fun c_9 => ?_)
  · refine lv_aload_n C.1.1 C.1.2.1 dX1_mount_23 rfl (lv_at hl 1 rfl) ?_
    refine lv_iload_n C.1.1 C.1.2.1 dX1_mount_24 rfl (lv_at hl 3 rfl) ?_
    refine callY_i C hH (av := [.int p2]) (rest := []) (mY_isLayer l G ad d τ p2 ) gwY_isLayer hdY_isLayer (by decide) rfl hl.1 rfl (Nat.le_of_ble_eq_true rfl) dX1_mount_25 ⟨Nat.zero_le _, Nat.zero_le _⟩ (fun r_ u_ H locs hH hw_ => ?_)
    obtain ⟨rfl, rfl⟩ : (fY_isLayer τ p2) = r_ ∧ τ = u_ := ⟨(congrArg Prod.fst hw_).symm, (congrArg Prod.snd hw_).symm⟩
    refine lv_if_ne (tgt := 34) C.1.1 C.1.2.1 dX1_mount_28 (by decide) (fun c_28 => ?_) (fun c_28 => ?_)
    · have hm : vp_in p1 4 := b_test3 c_9
      have ht : vp_in (6 + p1) 10 := b_top hm
      have hla : vp_in p2 6 := b_isl hO c_28
      refine lv_aload_n C.1.1 C.1.2.1 dX1_mount_34 rfl (lv_at hl 1 rfl) ?_
      refine getY C hH 5 (by decide) q191 rfl (v := .ref (ad 5)) rfl dX1_mount_35 ?_
      refine lv_iload_n C.1.1 C.1.2.1 dX1_mount_38 rfl (lv_at hl 2 rfl) ?_
      refine lv_iconst (v := 1) C.1.1 C.1.2.1 dX1_mount_39 (by decide) ?_
      have hH := AtY.eta hH
      refine stY_5 C hH (by decide) dX1_mount_40 hm (fun H locs hH => ?_)
      refine lv_aload_n C.1.1 C.1.2.1 dX1_mount_41 rfl (lv_at hl 1 rfl) ?_
      refine getY C hH 6 (by decide) q192 rfl (v := .ref (ad 6)) rfl dX1_mount_42 ?_
      refine lv_iload_n C.1.1 C.1.2.1 dX1_mount_45 rfl (lv_at hl 2 rfl) ?_
      refine lv_iload_n C.1.1 C.1.2.1 dX1_mount_46 rfl (lv_at hl 3 rfl) ?_
      refine stY_6 C hH dX1_mount_47 hm (fun H locs hH => ?_)
      refine lv_aload_n C.1.1 C.1.2.1 dX1_mount_48 rfl (lv_at hl 1 rfl) ?_
      refine lv_iload_n C.1.1 C.1.2.1 dX1_mount_49 rfl (lv_at hl 3 rfl) ?_
      refine lv_bipush (v := 6) C.1.1 C.1.2.1 dX1_mount_50 (by decide) ?_
      refine lv_iload_n C.1.1 C.1.2.1 dX1_mount_52 rfl (lv_at hl 2 rfl) ?_
      refine lv_iadd C.1.1 C.1.2.1 dX1_mount_53 ?_
      refine callY_v C hH (av := [.int p2, .int (6 + p1)]) (rest := []) (mY_copy l G ad d ((yDi τ), (yFi τ), (yCo τ), (yBa τ), (yL τ), (upd (yUs τ) p1.toNatClampNeg 1), (upd (yBe τ) p1.toNatClampNeg p2)) p2 (6 + p1) (b_w hla) ht) gwY_copy hdY_copy (by decide) rfl hl.1 rfl (Nat.le_of_ble_eq_true rfl) dX1_mount_54 ⟨Nat.zero_le _, Nat.zero_le _⟩ (fun u_ H locs hH hw_ => ?_)
      subst hw_
      refine lv_iconst (v := 0) C.1.1 C.1.2.1 dX1_mount_57 (by decide) ?_
      exact retY_i C hH dX1_mount_58 (Eq.trans hR (tp c_9 (tn c_28 rfl))).symm
    · refine lv_bipush (v := (-4)) C.1.1 C.1.2.1 dX1_mount_31 (by decide) ?_
      exact retY_i C hH dX1_mount_33 (Eq.trans hR (tp c_9 (tp c_28 rfl))).symm
  · refine lv_iload_n C.1.1 C.1.2.1 dX1_mount_12 rfl (lv_at hl 0 rfl) ?_
    refine lv_if_ne (tgt := 21) C.1.1 C.1.2.1 dX1_mount_13 (by decide) (fun c_13 => ?_) (fun c_13 => ?_)
    · refine lv_iload_n C.1.1 C.1.2.1 dX1_mount_21 rfl (lv_at hl 0 rfl) ?_
      exact retY_i C hH dX1_mount_22 (Eq.trans hR (tn c_9 (tn c_13 rfl))).symm
    · refine lv_bipush (v := (-3)) C.1.1 C.1.2.1 dX1_mount_16 (by decide) ?_
      refine lv_goto (tgt := 22) C.1.1 C.1.2.1 dX1_mount_18 (by decide) ?_
      exact retY_i C hH dX1_mount_22 (Eq.trans hR (tn c_9 (tp c_13 rfl))).symm
-- method unmount
set_option maxHeartbeats 4000000 in
theorem mY_unmount (l : Launch) (G : va_G) (ad : Nat → Nat) (d : Nat → ClassId) (τ : SY) (p1 : Int32) (hO : okY τ) : MetYi l yX1_unmount cX1_unmount 3 .int rmZ1 [.int p1] G ad d τ (fY_unmount τ p1) := by
  refine metY_i (by decide +kernel) rfl (Nat.le_of_ble_eq_true rfl) (fun p e s m below meth c A ls C hH hl => ?_)
  have hl : lv_has ls 3 [(0, .ref (ad 0)), (1, .int p1)] := hl
  have hR : (fY_unmount τ p1) = (fY_unmount τ p1) := rfl
  generalize s.heap = H at hH ⊢
  generalize ([] : List Loc) = locs at hH ⊢
  refine lv_aload_n C.1.1 C.1.2.1 dX1_unmount_0 rfl (lv_at hl 0 rfl) ?_
  refine lv_iload_n C.1.1 C.1.2.1 dX1_unmount_1 rfl (lv_at hl 1 rfl) ?_
  refine callY_i C hH (av := [.int p1]) (rest := []) (mY_test l G ad d τ p1 ) gwY_test hdY_test (by decide) rfl hl.1 rfl (Nat.le_of_ble_eq_true rfl) dX1_unmount_2 ⟨Nat.zero_le _, Nat.zero_le _⟩ (fun r_ u_ H locs hH hw_ => ?_)
  obtain ⟨rfl, rfl⟩ : (fY_test τ p1) = r_ ∧ τ = u_ := ⟨(congrArg Prod.fst hw_).symm, (congrArg Prod.snd hw_).symm⟩
  refine lv_istore_n (lv' := [(2, .int (fY_test τ p1)), (0, .ref (ad 0)), (1, .int p1)]) C.1.1 C.1.2.1 dX1_unmount_5 rfl hl (by decide) rfl (fun ls hl => ?_)
  refine lv_iload_n C.1.1 C.1.2.1 dX1_unmount_6 rfl (lv_at hl 0 rfl) ?_
  refine lv_if_ne (tgt := 17) C.1.1 C.1.2.1 dX1_unmount_7 (by decide) (fun c_7 => ?_) (fun c_7 => ?_)
  · refine lv_iload_n C.1.1 C.1.2.1 dX1_unmount_17 rfl (lv_at hl 0 rfl) ?_
    exact retY_i C hH dX1_unmount_18 (Eq.trans hR (tn c_7 rfl)).symm
  · refine lv_aload_n C.1.1 C.1.2.1 dX1_unmount_10 rfl (lv_at hl 1 rfl) ?_
    refine getY C hH 5 (by decide) q191 rfl (v := .ref (ad 5)) rfl dX1_unmount_11 ?_
    refine lv_iload_n C.1.1 C.1.2.1 dX1_unmount_14 rfl (lv_at hl 2 rfl) ?_
    refine lv_iconst (v := 0) C.1.1 C.1.2.1 dX1_unmount_15 (by decide) ?_
    have hH := AtY.eta hH
    refine stY_5 C hH (by decide) dX1_unmount_16 (b_test c_7) (fun H locs hH => ?_)
    refine lv_iload_n C.1.1 C.1.2.1 dX1_unmount_17 rfl (lv_at hl 0 rfl) ?_
    exact retY_i C hH dX1_unmount_18 (Eq.trans hR (tp c_7 rfl)).symm
-- method mkdir
set_option maxHeartbeats 4000000 in
theorem mY_mkdir (l : Launch) (G : va_G) (ad : Nat → Nat) (d : Nat → ClassId) (τ : SY) (p1 : Int32) (p2 : Int32) (hO : okY τ) : MetYi l yX1_mkdir cX1_mkdir 4 .int rmZ2 [.int p1, .int p2] G ad d τ (fY_mkdir τ p1 p2) := by
  refine metY_i (by decide +kernel) rfl (Nat.le_of_ble_eq_true rfl) (fun p e s m below meth c A ls C hH hl => ?_)
  have hl : lv_has ls 4 [(0, .ref (ad 0)), (1, .int p1), (2, .int p2)] := hl
  have hR : (fY_mkdir τ p1 p2) = (fY_mkdir τ p1 p2) := rfl
  generalize s.heap = H at hH ⊢
  generalize ([] : List Loc) = locs at hH ⊢
  refine lv_aload_n C.1.1 C.1.2.1 dX1_mkdir_0 rfl (lv_at hl 0 rfl) ?_
  refine lv_iload_n C.1.1 C.1.2.1 dX1_mkdir_1 rfl (lv_at hl 1 rfl) ?_
  refine lv_iload_n C.1.1 C.1.2.1 dX1_mkdir_2 rfl (lv_at hl 2 rfl) ?_
  refine callY_i C hH (av := [.int p1, .int p2]) (rest := []) (mY_testDirectory l G ad d τ p1 p2 ) gwY_testDirectory hdY_testDirectory (by decide) rfl hl.1 rfl (Nat.le_of_ble_eq_true rfl) dX1_mkdir_3 ⟨Nat.zero_le _, Nat.zero_le _⟩ (fun r_ u_ H locs hH hw_ => ?_)
  obtain ⟨rfl, rfl⟩ : (fY_testDirectory τ p1 p2) = r_ ∧ τ = u_ := ⟨(congrArg Prod.fst hw_).symm, (congrArg Prod.snd hw_).symm⟩
  refine lv_istore_n (lv' := [(3, .int (fY_testDirectory τ p1 p2)), (0, .ref (ad 0)), (1, .int p1), (2, .int p2)]) C.1.1 C.1.2.1 dX1_mkdir_6 rfl hl (by decide) rfl (fun ls hl => ?_)
  refine lv_iload_n C.1.1 C.1.2.1 dX1_mkdir_7 rfl (lv_at hl 0 rfl) ?_
  refine lv_if_eq (tgt := 13) C.1.1 C.1.2.1 dX1_mkdir_8 (by decide) (fun c_8 => ?_) (fun c_8 => ?_)
  · have hm : vp_in p1 4 := (b_td c_8).1
    have ht : vp_in (6 + p1) 10 := b_top hm
    refine lv_aload_n C.1.1 C.1.2.1 dX1_mkdir_13 rfl (lv_at hl 1 rfl) ?_
    refine lv_bipush (v := 6) C.1.1 C.1.2.1 dX1_mkdir_14 (by decide) ?_
    refine lv_iload_n C.1.1 C.1.2.1 dX1_mkdir_16 rfl (lv_at hl 2 rfl) ?_
    refine lv_iadd C.1.1 C.1.2.1 dX1_mkdir_17 ?_
    refine lv_iload_n C.1.1 C.1.2.1 dX1_mkdir_18 rfl (lv_at hl 3 rfl) ?_
    refine callY_i C hH (av := [.int (6 + p1), .int p2]) (rest := []) (mY_hasDirectory l G ad d τ (6 + p1) p2 ht) gwY_hasDirectory hdY_hasDirectory (by decide) rfl hl.1 rfl (Nat.le_of_ble_eq_true rfl) dX1_mkdir_19 ⟨Nat.zero_le _, Nat.zero_le _⟩ (fun r_ u_ H locs hH hw_ => ?_)
    obtain ⟨rfl, rfl⟩ : (fY_hasDirectory τ (6 + p1) p2) = r_ ∧ τ = u_ := ⟨(congrArg Prod.fst hw_).symm, (congrArg Prod.snd hw_).symm⟩
    refine lv_if_eq (tgt := 28) C.1.1 C.1.2.1 dX1_mkdir_22 (by decide) (fun c_22 => ?_) (fun c_22 => ?_)
    · refine lv_aload_n C.1.1 C.1.2.1 dX1_mkdir_28 rfl (lv_at hl 1 rfl) ?_
      refine getY C hH 0 (by decide) q186 rfl (v := .ref (ad 1)) rfl dX1_mkdir_29 ?_
      refine lv_bipush (v := 6) C.1.1 C.1.2.1 dX1_mkdir_32 (by decide) ?_
      refine lv_iload_n C.1.1 C.1.2.1 dX1_mkdir_34 rfl (lv_at hl 2 rfl) ?_
      refine lv_iadd C.1.1 C.1.2.1 dX1_mkdir_35 ?_
      refine lv_aload_n C.1.1 C.1.2.1 dX1_mkdir_36 rfl (lv_at hl 1 rfl) ?_
      refine getY C hH 0 (by decide) q186 rfl (v := .ref (ad 1)) rfl dX1_mkdir_37 ?_
      refine lv_bipush (v := 6) C.1.1 C.1.2.1 dX1_mkdir_40 (by decide) ?_
      refine lv_iload_n C.1.1 C.1.2.1 dX1_mkdir_42 rfl (lv_at hl 2 rfl) ?_
      refine lv_iadd C.1.1 C.1.2.1 dX1_mkdir_43 ?_
      refine ildY C hH 1 0 (f := (yDi τ)) rfl rfl dX1_mkdir_44 ht ?_
      refine lv_iconst (v := 1) C.1.1 C.1.2.1 dX1_mkdir_45 (by decide) ?_
      refine lv_iload_n C.1.1 C.1.2.1 dX1_mkdir_46 rfl (lv_at hl 3 rfl) ?_
      refine lv_ishl C.1.1 C.1.2.1 dX1_mkdir_47 ?_
      refine lv_ior C.1.1 C.1.2.1 dX1_mkdir_48 ?_
      have hH := AtY.eta hH
      refine stY_1 C hH dX1_mkdir_49 ht (fun H locs hH => ?_)
      refine lv_iconst (v := 0) C.1.1 C.1.2.1 dX1_mkdir_50 (by decide) ?_
      exact retY_i C hH dX1_mkdir_51 (Eq.trans hR (tp c_8 (tp c_22 rfl))).symm
    · refine lv_bipush (v := (-4)) C.1.1 C.1.2.1 dX1_mkdir_25 (by decide) ?_
      exact retY_i C hH dX1_mkdir_27 (Eq.trans hR (tp c_8 (tn c_22 rfl))).symm
  · refine lv_iload_n C.1.1 C.1.2.1 dX1_mkdir_11 rfl (lv_at hl 0 rfl) ?_
    exact retY_i C hH dX1_mkdir_12 (Eq.trans hR (tn c_8 rfl)).symm
-- method rmdir
set_option maxHeartbeats 4000000 in
theorem bY_rmdir_36 {p : Program} {l : Launch} {e : Env} {s : State} {m : MethodId} {args : Array Value} {below : List Frame} {meth : Method} {c : Code} {G : va_G} {ad : Nat → Nat} {d : Nat → ClassId} {A : Nat → Prop} {τ : SY} {p1 : Int32} {p2 : Int32} (C : CX p s m args meth c cX1_rmdir 6 RX1 (some .int)) (ht : vp_in (6 + p1) 10) (dd : Nat) (hdd : p2 = nI dd) (hd2 : dd < 2) : ∀ (n : Nat) (k : Nat) (x4 : Int32) (x5 : Int32) (rv : Int32 × SY) (H : Heap) (locs : List Loc) (ls : Array Slot), k + n = 4 * dd + 4 → x5 = nI k → rv = lY_rmdir_36 τ p1 p2 n x4 x5 → AtY G ad d A s τ H locs → lv_has ls 6 [(0, .ref (ad 0)), (1, .int p1), (2, .int p2), (4, .int x4), (5, .int x5)] → W p l e rmZ2 s m args below meth c H locs 0 0 (QYi below G ad d A args s rv) (F0 m 36 ls []) := by
  intro n
  induction n with
  | zero =>
    intro k x4 x5 rv H locs ls hk hx hR hH hl
    have hz := (show 4 * p2 + 4 ≤ x5 by rw [b_4d4 hdd]; exact lp_z hx hk (by omega))
    refine lv_iload C.1.1 C.1.2.1 dX1_rmdir_36 (lv_at hl 4 rfl) ?_
    refine lv_iconst (v := 4) C.1.1 C.1.2.1 dX1_rmdir_38 (by decide) ?_
    refine lv_iload_n C.1.1 C.1.2.1 dX1_rmdir_39 rfl (lv_at hl 2 rfl) ?_
    refine lv_imul C.1.1 C.1.2.1 dX1_rmdir_40 ?_
    refine lv_iconst (v := 4) C.1.1 C.1.2.1 dX1_rmdir_41 (by decide) ?_
    refine lv_iadd C.1.1 C.1.2.1 dX1_rmdir_42 ?_
    refine lv_icmp_ge (tgt := 76) C.1.1 C.1.2.1 dX1_rmdir_43 (by decide) (fun _ => ?_) (fun c => absurd hz c)
    refine lv_aload_n C.1.1 C.1.2.1 dX1_rmdir_76 rfl (lv_at hl 0 rfl) ?_
    refine getY C hH 1 (by decide) q187 rfl (v := .ref (ad 2)) rfl dX1_rmdir_77 ?_
    refine lv_bipush (v := 6) C.1.1 C.1.2.1 dX1_rmdir_80 (by decide) ?_
    refine lv_iload_n C.1.1 C.1.2.1 dX1_rmdir_82 rfl (lv_at hl 1 rfl) ?_
    refine lv_iadd C.1.1 C.1.2.1 dX1_rmdir_83 ?_
    refine lv_aload_n C.1.1 C.1.2.1 dX1_rmdir_84 rfl (lv_at hl 0 rfl) ?_
    refine getY C hH 1 (by decide) q187 rfl (v := .ref (ad 2)) rfl dX1_rmdir_85 ?_
    refine lv_bipush (v := 6) C.1.1 C.1.2.1 dX1_rmdir_88 (by decide) ?_
    refine lv_iload_n C.1.1 C.1.2.1 dX1_rmdir_90 rfl (lv_at hl 1 rfl) ?_
    refine lv_iadd C.1.1 C.1.2.1 dX1_rmdir_91 ?_
    refine ildY C hH 2 1 (f := (yFi τ)) rfl rfl dX1_rmdir_92 ht ?_
    refine lv_bipush (v := 15) C.1.1 C.1.2.1 dX1_rmdir_93 (by decide) ?_
    refine lv_iconst (v := 4) C.1.1 C.1.2.1 dX1_rmdir_95 (by decide) ?_
    refine lv_iload_n C.1.1 C.1.2.1 dX1_rmdir_96 rfl (lv_at hl 2 rfl) ?_
    refine lv_imul C.1.1 C.1.2.1 dX1_rmdir_97 ?_
    refine lv_ishl C.1.1 C.1.2.1 dX1_rmdir_98 ?_
    refine lv_iconst (v := (-1)) C.1.1 C.1.2.1 dX1_rmdir_99 (by decide) ?_
    refine lv_ixor C.1.1 C.1.2.1 dX1_rmdir_100 ?_
    refine lv_iand C.1.1 C.1.2.1 dX1_rmdir_101 ?_
    have hH := AtY.eta hH
    refine stY_2 C hH dX1_rmdir_102 ht (fun H locs hH => ?_)
    refine lv_aload_n C.1.1 C.1.2.1 dX1_rmdir_103 rfl (lv_at hl 0 rfl) ?_
    refine getY C hH 0 (by decide) q186 rfl (v := .ref (ad 1)) rfl dX1_rmdir_104 ?_
    refine lv_bipush (v := 6) C.1.1 C.1.2.1 dX1_rmdir_107 (by decide) ?_
    refine lv_iload_n C.1.1 C.1.2.1 dX1_rmdir_109 rfl (lv_at hl 1 rfl) ?_
    refine lv_iadd C.1.1 C.1.2.1 dX1_rmdir_110 ?_
    refine lv_aload_n C.1.1 C.1.2.1 dX1_rmdir_111 rfl (lv_at hl 0 rfl) ?_
    refine getY C hH 0 (by decide) q186 rfl (v := .ref (ad 1)) rfl dX1_rmdir_112 ?_
    refine lv_bipush (v := 6) C.1.1 C.1.2.1 dX1_rmdir_115 (by decide) ?_
    refine lv_iload_n C.1.1 C.1.2.1 dX1_rmdir_117 rfl (lv_at hl 1 rfl) ?_
    refine lv_iadd C.1.1 C.1.2.1 dX1_rmdir_118 ?_
    refine ldY_1 C hH dX1_rmdir_119 ht ?_
    refine lv_iconst (v := 1) C.1.1 C.1.2.1 dX1_rmdir_120 (by decide) ?_
    refine lv_iload_n C.1.1 C.1.2.1 dX1_rmdir_121 rfl (lv_at hl 2 rfl) ?_
    refine lv_ishl C.1.1 C.1.2.1 dX1_rmdir_122 ?_
    refine lv_iconst (v := (-1)) C.1.1 C.1.2.1 dX1_rmdir_123 (by decide) ?_
    refine lv_ixor C.1.1 C.1.2.1 dX1_rmdir_124 ?_
    refine lv_iand C.1.1 C.1.2.1 dX1_rmdir_125 ?_
    refine stY_1 C hH dX1_rmdir_126 ht (fun H locs hH => ?_)
    refine lv_iload C.1.1 C.1.2.1 dX1_rmdir_127 (lv_at hl 3 rfl) ?_
    exact retY_i C hH dX1_rmdir_129 (Eq.trans hR rfl).symm
  | succ n ih =>
    intro k x4 x5 rv H locs ls hk hx hR hH hl
    have hz := (show ¬ 4 * p2 + 4 ≤ x5 by rw [b_4d4 hdd]; exact lp_s hx hk (by omega))
    refine lv_iload C.1.1 C.1.2.1 dX1_rmdir_36 (lv_at hl 4 rfl) ?_
    refine lv_iconst (v := 4) C.1.1 C.1.2.1 dX1_rmdir_38 (by decide) ?_
    refine lv_iload_n C.1.1 C.1.2.1 dX1_rmdir_39 rfl (lv_at hl 2 rfl) ?_
    refine lv_imul C.1.1 C.1.2.1 dX1_rmdir_40 ?_
    refine lv_iconst (v := 4) C.1.1 C.1.2.1 dX1_rmdir_41 (by decide) ?_
    refine lv_iadd C.1.1 C.1.2.1 dX1_rmdir_42 ?_
    refine lv_icmp_ge (tgt := 76) C.1.1 C.1.2.1 dX1_rmdir_43 (by decide) (fun c => absurd c hz) (fun _ => ?_)
    refine lv_aload_n C.1.1 C.1.2.1 dX1_rmdir_46 rfl (lv_at hl 0 rfl) ?_
    refine lv_bipush (v := 6) C.1.1 C.1.2.1 dX1_rmdir_47 (by decide) ?_
    refine lv_iload_n C.1.1 C.1.2.1 dX1_rmdir_49 rfl (lv_at hl 1 rfl) ?_
    refine lv_iadd C.1.1 C.1.2.1 dX1_rmdir_50 ?_
    refine lv_iload C.1.1 C.1.2.1 dX1_rmdir_51 (lv_at hl 4 rfl) ?_
    refine callY_i C hH (av := [.int (6 + p1), .int x5]) (rest := []) (mY_has l G ad d τ (6 + p1) x5 ht) gwY_has hdY_has (by decide) rfl hl.1 rfl (Nat.le_of_ble_eq_true rfl) dX1_rmdir_53 ⟨Nat.zero_le _, Nat.zero_le _⟩ (fun r_ u_ H locs hH hw_ => ?_)
    obtain ⟨rfl, rfl⟩ : (fY_has τ (6 + p1) x5) = r_ ∧ τ = u_ := ⟨(congrArg Prod.fst hw_).symm, (congrArg Prod.snd hw_).symm⟩
    refine lv_if_eq (tgt := 66) C.1.1 C.1.2.1 dX1_rmdir_56 (by decide) (fun c_56 => ?_) (fun c_56 => ?_)
    · refine lv_iload C.1.1 C.1.2.1 dX1_rmdir_66 (lv_at hl 3 rfl) ?_
      refine lv_istore (lv' := [(4, .int x4), (0, .ref (ad 0)), (1, .int p1), (2, .int p2), (5, .int x5)]) C.1.1 C.1.2.1 dX1_rmdir_68 hl (by decide) rfl (fun ls hl => ?_)
      refine lv_iinc (v := (x5 + 1)) (lv' := [(5, .int (x5 + 1)), (4, .int x4), (0, .ref (ad 0)), (1, .int p1), (2, .int p2)]) C.1.1 C.1.2.1 dX1_rmdir_70 hl (k := 4) rfl rfl (by decide) rfl (fun ls hl => ?_)
      refine lv_goto (tgt := 36) C.1.1 C.1.2.1 dX1_rmdir_73 (by decide) ?_
      exact ih (k + 1) x4 (x5 + 1) _ _ _ _ (by omega) (lp_x hx) (Eq.trans hR (tp c_56 rfl)) hH (lv_sub hl [2, 3, 4, 1, 0] rfl)
    · refine lv_iload C.1.1 C.1.2.1 dX1_rmdir_59 (lv_at hl 3 rfl) ?_
      refine lv_iconst (v := 1) C.1.1 C.1.2.1 dX1_rmdir_61 (by decide) ?_
      refine lv_iadd C.1.1 C.1.2.1 dX1_rmdir_62 ?_
      refine lv_goto (tgt := 68) C.1.1 C.1.2.1 dX1_rmdir_63 (by decide) ?_
      refine lv_istore (lv' := [(4, .int (x4 + 1)), (0, .ref (ad 0)), (1, .int p1), (2, .int p2), (5, .int x5)]) C.1.1 C.1.2.1 dX1_rmdir_68 hl (by decide) rfl (fun ls hl => ?_)
      refine lv_iinc (v := (x5 + 1)) (lv' := [(5, .int (x5 + 1)), (4, .int (x4 + 1)), (0, .ref (ad 0)), (1, .int p1), (2, .int p2)]) C.1.1 C.1.2.1 dX1_rmdir_70 hl (k := 4) rfl rfl (by decide) rfl (fun ls hl => ?_)
      refine lv_goto (tgt := 36) C.1.1 C.1.2.1 dX1_rmdir_73 (by decide) ?_
      exact ih (k + 1) (x4 + 1) (x5 + 1) _ _ _ _ (by omega) (lp_x hx) (Eq.trans hR (tn c_56 rfl)) hH (lv_sub hl [2, 3, 4, 1, 0] rfl)
set_option maxHeartbeats 4000000 in
theorem mY_rmdir (l : Launch) (G : va_G) (ad : Nat → Nat) (d : Nat → ClassId) (τ : SY) (p1 : Int32) (p2 : Int32) (hO : okY τ) : MetYi l yX1_rmdir cX1_rmdir 6 .int rmZ2 [.int p1, .int p2] G ad d τ (fY_rmdir τ p1 p2) := by
  refine metY_i (by decide +kernel) rfl (Nat.le_of_ble_eq_true rfl) (fun p e s m below meth c A ls C hH hl => ?_)
  have hl : lv_has ls 6 [(0, .ref (ad 0)), (1, .int p1), (2, .int p2)] := hl
  have hR : (fY_rmdir τ p1 p2) = (fY_rmdir τ p1 p2) := rfl
  generalize s.heap = H at hH ⊢
  generalize ([] : List Loc) = locs at hH ⊢
  refine lv_aload_n C.1.1 C.1.2.1 dX1_rmdir_0 rfl (lv_at hl 0 rfl) ?_
  refine lv_iload_n C.1.1 C.1.2.1 dX1_rmdir_1 rfl (lv_at hl 1 rfl) ?_
  refine lv_iload_n C.1.1 C.1.2.1 dX1_rmdir_2 rfl (lv_at hl 2 rfl) ?_
  refine callY_i C hH (av := [.int p1, .int p2]) (rest := []) (mY_testDirectory l G ad d τ p1 p2 ) gwY_testDirectory hdY_testDirectory (by decide) rfl hl.1 rfl (Nat.le_of_ble_eq_true rfl) dX1_rmdir_3 ⟨Nat.zero_le _, Nat.zero_le _⟩ (fun r_ u_ H locs hH hw_ => ?_)
  obtain ⟨rfl, rfl⟩ : (fY_testDirectory τ p1 p2) = r_ ∧ τ = u_ := ⟨(congrArg Prod.fst hw_).symm, (congrArg Prod.snd hw_).symm⟩
  refine lv_istore_n (lv' := [(3, .int (fY_testDirectory τ p1 p2)), (0, .ref (ad 0)), (1, .int p1), (2, .int p2)]) C.1.1 C.1.2.1 dX1_rmdir_6 rfl hl (by decide) rfl (fun ls hl => ?_)
  refine lv_iload_n C.1.1 C.1.2.1 dX1_rmdir_7 rfl (lv_at hl 0 rfl) ?_
  refine lv_if_eq (tgt := 13) C.1.1 C.1.2.1 dX1_rmdir_8 (by decide) (fun c_8 => ?_) (fun c_8 => ?_)
  · have hm : vp_in p1 4 := (b_td c_8).1
    have ht : vp_in (6 + p1) 10 := b_top hm
    refine lv_aload_n C.1.1 C.1.2.1 dX1_rmdir_13 rfl (lv_at hl 1 rfl) ?_
    refine lv_bipush (v := 6) C.1.1 C.1.2.1 dX1_rmdir_14 (by decide) ?_
    refine lv_iload_n C.1.1 C.1.2.1 dX1_rmdir_16 rfl (lv_at hl 2 rfl) ?_
    refine lv_iadd C.1.1 C.1.2.1 dX1_rmdir_17 ?_
    refine lv_iload_n C.1.1 C.1.2.1 dX1_rmdir_18 rfl (lv_at hl 3 rfl) ?_
    refine callY_i C hH (av := [.int (6 + p1), .int p2]) (rest := []) (mY_hasDirectory l G ad d τ (6 + p1) p2 ht) gwY_hasDirectory hdY_hasDirectory (by decide) rfl hl.1 rfl (Nat.le_of_ble_eq_true rfl) dX1_rmdir_19 ⟨Nat.zero_le _, Nat.zero_le _⟩ (fun r_ u_ H locs hH hw_ => ?_)
    obtain ⟨rfl, rfl⟩ : (fY_hasDirectory τ (6 + p1) p2) = r_ ∧ τ = u_ := ⟨(congrArg Prod.fst hw_).symm, (congrArg Prod.snd hw_).symm⟩
    refine lv_if_ne (tgt := 28) C.1.1 C.1.2.1 dX1_rmdir_22 (by decide) (fun c_22 => ?_) (fun c_22 => ?_)
    · obtain ⟨dd, hd2, hdd⟩ := vp_in_of (b_td c_8).2 (by decide)
      refine lv_iconst (v := 0) C.1.1 C.1.2.1 dX1_rmdir_28 (by decide) ?_
      refine lv_istore (lv' := [(4, .int 0), (3, .int (fY_testDirectory τ p1 p2)), (0, .ref (ad 0)), (1, .int p1), (2, .int p2)]) C.1.1 C.1.2.1 dX1_rmdir_29 hl (by decide) rfl (fun ls hl => ?_)
      refine lv_iconst (v := 4) C.1.1 C.1.2.1 dX1_rmdir_31 (by decide) ?_
      refine lv_iload_n C.1.1 C.1.2.1 dX1_rmdir_32 rfl (lv_at hl 4 rfl) ?_
      refine lv_imul C.1.1 C.1.2.1 dX1_rmdir_33 ?_
      refine lv_istore (lv' := [(5, .int (4 * p2)), (4, .int 0), (3, .int (fY_testDirectory τ p1 p2)), (0, .ref (ad 0)), (1, .int p1), (2, .int p2)]) C.1.1 C.1.2.1 dX1_rmdir_34 hl (by decide) rfl (fun ls hl => ?_)
      exact bY_rmdir_36 C ht dd hdd hd2 4 (4 * dd) 0 (4 * p2) _ _ _ _ rfl (b_4d hdd) (Eq.trans hR (tp c_8 (tn c_22 rfl))) hH (lv_sub hl [3, 4, 5, 1, 0] rfl)
    · refine lv_bipush (v := (-4)) C.1.1 C.1.2.1 dX1_rmdir_25 (by decide) ?_
      exact retY_i C hH dX1_rmdir_27 (Eq.trans hR (tp c_8 (tp c_22 rfl))).symm
  · refine lv_iload_n C.1.1 C.1.2.1 dX1_rmdir_11 rfl (lv_at hl 0 rfl) ?_
    exact retY_i C hH dX1_rmdir_12 (Eq.trans hR (tn c_8 rfl)).symm
-- method put
set_option maxHeartbeats 4000000 in
theorem mY_put (l : Launch) (G : va_G) (ad : Nat → Nat) (d : Nat → ClassId) (τ : SY) (p1 : Int32) (p2 : Int32) (p3 : Int32) (h1 : vp_in p1 10) (h2 : vp_in ((8 * p1) + p2) 80) : MetYi l yX1_put cX1_put 5 .int rmZ1 [.int p1, .int p2, .int p3] G ad d τ (fY_put τ p1 p2 p3) := by
  refine metY_i (by decide +kernel) rfl (Nat.le_of_ble_eq_true rfl) (fun p e s m below meth c A ls C hH hl => ?_)
  have hl : lv_has ls 5 [(0, .ref (ad 0)), (1, .int p1), (2, .int p2), (3, .int p3)] := hl
  have hR : (fY_put τ p1 p2 p3) = (fY_put τ p1 p2 p3) := rfl
  generalize s.heap = H at hH ⊢
  generalize ([] : List Loc) = locs at hH ⊢
  refine lv_aload_n C.1.1 C.1.2.1 dX1_put_0 rfl (lv_at hl 0 rfl) ?_
  refine lv_iload_n C.1.1 C.1.2.1 dX1_put_1 rfl (lv_at hl 1 rfl) ?_
  refine lv_iload_n C.1.1 C.1.2.1 dX1_put_2 rfl (lv_at hl 2 rfl) ?_
  refine callY_i C hH (av := [.int p1, .int p2]) (rest := []) (mY_has l G ad d τ p1 p2 h1) gwY_has hdY_has (by decide) rfl hl.1 rfl (Nat.le_of_ble_eq_true rfl) dX1_put_3 ⟨Nat.zero_le _, Nat.zero_le _⟩ (fun r_ u_ H locs hH hw_ => ?_)
  obtain ⟨rfl, rfl⟩ : (fY_has τ p1 p2) = r_ ∧ τ = u_ := ⟨(congrArg Prod.fst hw_).symm, (congrArg Prod.snd hw_).symm⟩
  refine lv_if_eq (tgt := 13) C.1.1 C.1.2.1 dX1_put_6 (by decide) (fun c_6 => ?_) (fun c_6 => ?_)
  · refine lv_iconst (v := 0) C.1.1 C.1.2.1 dX1_put_13 (by decide) ?_
    refine lv_istore (lv' := [(4, .int 0), (0, .ref (ad 0)), (1, .int p1), (2, .int p2), (3, .int p3)]) C.1.1 C.1.2.1 dX1_put_14 hl (by decide) rfl (fun ls hl => ?_)
    refine lv_aload_n C.1.1 C.1.2.1 dX1_put_16 rfl (lv_at hl 1 rfl) ?_
    refine getY C hH 1 (by decide) q187 rfl (v := .ref (ad 2)) rfl dX1_put_17 ?_
    refine lv_iload_n C.1.1 C.1.2.1 dX1_put_20 rfl (lv_at hl 2 rfl) ?_
    refine lv_aload_n C.1.1 C.1.2.1 dX1_put_21 rfl (lv_at hl 1 rfl) ?_
    refine getY C hH 1 (by decide) q187 rfl (v := .ref (ad 2)) rfl dX1_put_22 ?_
    refine lv_iload_n C.1.1 C.1.2.1 dX1_put_25 rfl (lv_at hl 2 rfl) ?_
    refine ildY C hH 2 1 (f := (yFi τ)) rfl rfl dX1_put_26 h1 ?_
    refine lv_iconst (v := 1) C.1.1 C.1.2.1 dX1_put_27 (by decide) ?_
    refine lv_iload_n C.1.1 C.1.2.1 dX1_put_28 rfl (lv_at hl 3 rfl) ?_
    refine lv_ishl C.1.1 C.1.2.1 dX1_put_29 ?_
    refine lv_ior C.1.1 C.1.2.1 dX1_put_30 ?_
    have hH := AtY.eta hH
    refine stY_2 C hH dX1_put_31 h1 (fun H locs hH => ?_)
    refine lv_aload_n C.1.1 C.1.2.1 dX1_put_32 rfl (lv_at hl 1 rfl) ?_
    refine getY C hH 2 (by decide) q188 rfl (v := .ref (ad 3)) rfl dX1_put_33 ?_
    refine lv_bipush (v := 8) C.1.1 C.1.2.1 dX1_put_36 (by decide) ?_
    refine lv_iload_n C.1.1 C.1.2.1 dX1_put_38 rfl (lv_at hl 2 rfl) ?_
    refine lv_imul C.1.1 C.1.2.1 dX1_put_39 ?_
    refine lv_iload_n C.1.1 C.1.2.1 dX1_put_40 rfl (lv_at hl 3 rfl) ?_
    refine lv_iadd C.1.1 C.1.2.1 dX1_put_41 ?_
    refine lv_iload_n C.1.1 C.1.2.1 dX1_put_42 rfl (lv_at hl 4 rfl) ?_
    refine stY_3 C hH dX1_put_43 h2 (fun H locs hH => ?_)
    refine lv_iload C.1.1 C.1.2.1 dX1_put_44 (lv_at hl 0 rfl) ?_
    exact retY_i C hH dX1_put_46 (Eq.trans hR (tp c_6 rfl)).symm
  · refine lv_iconst (v := 1) C.1.1 C.1.2.1 dX1_put_9 (by decide) ?_
    refine lv_goto (tgt := 14) C.1.1 C.1.2.1 dX1_put_10 (by decide) ?_
    refine lv_istore (lv' := [(4, .int 1), (0, .ref (ad 0)), (1, .int p1), (2, .int p2), (3, .int p3)]) C.1.1 C.1.2.1 dX1_put_14 hl (by decide) rfl (fun ls hl => ?_)
    refine lv_aload_n C.1.1 C.1.2.1 dX1_put_16 rfl (lv_at hl 1 rfl) ?_
    refine getY C hH 1 (by decide) q187 rfl (v := .ref (ad 2)) rfl dX1_put_17 ?_
    refine lv_iload_n C.1.1 C.1.2.1 dX1_put_20 rfl (lv_at hl 2 rfl) ?_
    refine lv_aload_n C.1.1 C.1.2.1 dX1_put_21 rfl (lv_at hl 1 rfl) ?_
    refine getY C hH 1 (by decide) q187 rfl (v := .ref (ad 2)) rfl dX1_put_22 ?_
    refine lv_iload_n C.1.1 C.1.2.1 dX1_put_25 rfl (lv_at hl 2 rfl) ?_
    refine ildY C hH 2 1 (f := (yFi τ)) rfl rfl dX1_put_26 h1 ?_
    refine lv_iconst (v := 1) C.1.1 C.1.2.1 dX1_put_27 (by decide) ?_
    refine lv_iload_n C.1.1 C.1.2.1 dX1_put_28 rfl (lv_at hl 3 rfl) ?_
    refine lv_ishl C.1.1 C.1.2.1 dX1_put_29 ?_
    refine lv_ior C.1.1 C.1.2.1 dX1_put_30 ?_
    have hH := AtY.eta hH
    refine stY_2 C hH dX1_put_31 h1 (fun H locs hH => ?_)
    refine lv_aload_n C.1.1 C.1.2.1 dX1_put_32 rfl (lv_at hl 1 rfl) ?_
    refine getY C hH 2 (by decide) q188 rfl (v := .ref (ad 3)) rfl dX1_put_33 ?_
    refine lv_bipush (v := 8) C.1.1 C.1.2.1 dX1_put_36 (by decide) ?_
    refine lv_iload_n C.1.1 C.1.2.1 dX1_put_38 rfl (lv_at hl 2 rfl) ?_
    refine lv_imul C.1.1 C.1.2.1 dX1_put_39 ?_
    refine lv_iload_n C.1.1 C.1.2.1 dX1_put_40 rfl (lv_at hl 3 rfl) ?_
    refine lv_iadd C.1.1 C.1.2.1 dX1_put_41 ?_
    refine lv_iload_n C.1.1 C.1.2.1 dX1_put_42 rfl (lv_at hl 4 rfl) ?_
    refine stY_3 C hH dX1_put_43 h2 (fun H locs hH => ?_)
    refine lv_iload C.1.1 C.1.2.1 dX1_put_44 (lv_at hl 0 rfl) ?_
    exact retY_i C hH dX1_put_46 (Eq.trans hR (tn c_6 rfl)).symm
theorem gwY_put : GoodIn lw_all (wsV RX1 59 RX1 yX1_put (ws_ yX1_put cX1_put 5 (some .int))) := lw_V q256 q258 qs19 q24 q259
theorem hdY_put : yX1_put.cls = RX1 ∧ yX1_put.cls ≠ "java/lang/invoke/MethodHandle" ∧ yX1_put.cls ≠ "java/lang/invoke/VarHandle" ∧ (parseMethodDescriptor yX1_put.desc).map (fun d => d.parameters.length) = some 3 := by decide +kernel
-- method write
set_option maxHeartbeats 4000000 in
theorem mY_write (l : Launch) (G : va_G) (ad : Nat → Nat) (d : Nat → ClassId) (τ : SY) (p1 : Int32) (p2 : Int32) (p3 : Int32) (hO : okY τ) : MetYi l yX1_write cX1_write 5 .int rmZ2 [.int p1, .int p2, .int p3] G ad d τ (fY_write τ p1 p2 p3) := by
  refine metY_i (by decide +kernel) rfl (Nat.le_of_ble_eq_true rfl) (fun p e s m below meth c A ls C hH hl => ?_)
  have hl : lv_has ls 5 [(0, .ref (ad 0)), (1, .int p1), (2, .int p2), (3, .int p3)] := hl
  have hR : (fY_write τ p1 p2 p3) = (fY_write τ p1 p2 p3) := rfl
  generalize s.heap = H at hH ⊢
  generalize ([] : List Loc) = locs at hH ⊢
  refine lv_aload_n C.1.1 C.1.2.1 dX1_write_0 rfl (lv_at hl 0 rfl) ?_
  refine lv_iload_n C.1.1 C.1.2.1 dX1_write_1 rfl (lv_at hl 1 rfl) ?_
  refine lv_iload_n C.1.1 C.1.2.1 dX1_write_2 rfl (lv_at hl 2 rfl) ?_
  refine callY_i C hH (av := [.int p1, .int p2]) (rest := []) (mY_testFile l G ad d τ p1 p2 ) gwY_testFile hdY_testFile (by decide) rfl hl.1 rfl (Nat.le_of_ble_eq_true rfl) dX1_write_3 ⟨Nat.zero_le _, Nat.zero_le _⟩ (fun r_ u_ H locs hH hw_ => ?_)
  obtain ⟨rfl, rfl⟩ : (fY_testFile τ p1 p2) = r_ ∧ τ = u_ := ⟨(congrArg Prod.fst hw_).symm, (congrArg Prod.snd hw_).symm⟩
  refine lv_istore (lv' := [(4, .int (fY_testFile τ p1 p2)), (0, .ref (ad 0)), (1, .int p1), (2, .int p2), (3, .int p3)]) C.1.1 C.1.2.1 dX1_write_6 hl (by decide) rfl (fun ls hl => ?_)
  refine lv_iload C.1.1 C.1.2.1 dX1_write_8 (lv_at hl 0 rfl) ?_
  refine lv_if_eq (tgt := 16) C.1.1 C.1.2.1 dX1_write_10 (by decide) (fun c_10 => ?_) (fun c_10 => ?_)
  · have hm : vp_in p1 4 := (b_tf c_10).1
    have ht : vp_in (6 + p1) 10 := b_top hm
    have hf : vp_in p2 8 := (b_tf c_10).2
    refine lv_aload_n C.1.1 C.1.2.1 dX1_write_16 rfl (lv_at hl 1 rfl) ?_
    refine lv_bipush (v := 6) C.1.1 C.1.2.1 dX1_write_17 (by decide) ?_
    refine lv_iload_n C.1.1 C.1.2.1 dX1_write_19 rfl (lv_at hl 2 rfl) ?_
    refine lv_iadd C.1.1 C.1.2.1 dX1_write_20 ?_
    refine lv_iload_n C.1.1 C.1.2.1 dX1_write_21 rfl (lv_at hl 3 rfl) ?_
    refine lv_iconst (v := 4) C.1.1 C.1.2.1 dX1_write_22 (by decide) ?_
    refine lv_idiv C.1.1 C.1.2.1 dX1_write_23 (by decide) ?_
    refine callY_i C hH (av := [.int (6 + p1), .int (p2 / 4)]) (rest := []) (mY_hasDirectory l G ad d τ (6 + p1) (p2 / 4) ht) gwY_hasDirectory hdY_hasDirectory (by decide) rfl hl.1 rfl (Nat.le_of_ble_eq_true rfl) dX1_write_24 ⟨Nat.zero_le _, Nat.zero_le _⟩ (fun r_ u_ H locs hH hw_ => ?_)
    obtain ⟨rfl, rfl⟩ : (fY_hasDirectory τ (6 + p1) (p2 / 4)) = r_ ∧ τ = u_ := ⟨(congrArg Prod.fst hw_).symm, (congrArg Prod.snd hw_).symm⟩
    refine lv_if_eq (tgt := 43) C.1.1 C.1.2.1 dX1_write_27 (by decide) (fun c_27 => ?_) (fun c_27 => ?_)
    · refine lv_bipush (v := (-4)) C.1.1 C.1.2.1 dX1_write_43 (by decide) ?_
      exact retY_i C hH dX1_write_45 (Eq.trans hR (tp c_10 (tp c_27 rfl))).symm
    · refine lv_aload_n C.1.1 C.1.2.1 dX1_write_30 rfl (lv_at hl 1 rfl) ?_
      refine lv_bipush (v := 6) C.1.1 C.1.2.1 dX1_write_31 (by decide) ?_
      refine lv_iload_n C.1.1 C.1.2.1 dX1_write_33 rfl (lv_at hl 2 rfl) ?_
      refine lv_iadd C.1.1 C.1.2.1 dX1_write_34 ?_
      refine lv_iload_n C.1.1 C.1.2.1 dX1_write_35 rfl (lv_at hl 3 rfl) ?_
      refine lv_iload_n C.1.1 C.1.2.1 dX1_write_36 rfl (lv_at hl 4 rfl) ?_
      refine callY_i C hH (av := [.int (6 + p1), .int p2, .int p3]) (rest := []) (mY_put l G ad d τ (6 + p1) p2 p3 ht (b_ct2 ht hf)) gwY_put hdY_put (by decide) rfl hl.1 rfl (Nat.le_of_ble_eq_true rfl) dX1_write_37 ⟨Nat.zero_le _, Nat.zero_le _⟩ (fun r_ u_ H locs hH hw_ => ?_)
      obtain ⟨rfl, rfl⟩ : (fY_put τ (6 + p1) p2 p3).1 = r_ ∧ (fY_put τ (6 + p1) p2 p3).2 = u_ := ⟨(congrArg Prod.fst hw_).symm, (congrArg Prod.snd hw_).symm⟩
      refine lv_goto (tgt := 45) C.1.1 C.1.2.1 dX1_write_40 (by decide) ?_
      exact retY_i C hH dX1_write_45 (Eq.trans hR (tp c_10 (tn c_27 rfl))).symm
  · refine lv_iload C.1.1 C.1.2.1 dX1_write_13 (lv_at hl 0 rfl) ?_
    exact retY_i C hH dX1_write_15 (Eq.trans hR (tn c_10 rfl)).symm
-- method grow
set_option maxHeartbeats 4000000 in
theorem mY_grow (l : Launch) (G : va_G) (ad : Nat → Nat) (d : Nat → ClassId) (τ : SY) (p1 : Int32) (p2 : Int32) (p3 : Int32) (hO : okY τ) : MetYi l yX1_grow cX1_grow 5 .int rmZ2 [.int p1, .int p2, .int p3] G ad d τ (fY_grow τ p1 p2 p3) := by
  refine metY_i (by decide +kernel) rfl (Nat.le_of_ble_eq_true rfl) (fun p e s m below meth c A ls C hH hl => ?_)
  have hl : lv_has ls 5 [(0, .ref (ad 0)), (1, .int p1), (2, .int p2), (3, .int p3)] := hl
  have hR : (fY_grow τ p1 p2 p3) = (fY_grow τ p1 p2 p3) := rfl
  generalize s.heap = H at hH ⊢
  generalize ([] : List Loc) = locs at hH ⊢
  refine lv_aload_n C.1.1 C.1.2.1 dX1_grow_0 rfl (lv_at hl 0 rfl) ?_
  refine lv_iload_n C.1.1 C.1.2.1 dX1_grow_1 rfl (lv_at hl 1 rfl) ?_
  refine lv_iload_n C.1.1 C.1.2.1 dX1_grow_2 rfl (lv_at hl 2 rfl) ?_
  refine callY_i C hH (av := [.int p1, .int p2]) (rest := []) (mY_testFile l G ad d τ p1 p2 ) gwY_testFile hdY_testFile (by decide) rfl hl.1 rfl (Nat.le_of_ble_eq_true rfl) dX1_grow_3 ⟨Nat.zero_le _, Nat.zero_le _⟩ (fun r_ u_ H locs hH hw_ => ?_)
  obtain ⟨rfl, rfl⟩ : (fY_testFile τ p1 p2) = r_ ∧ τ = u_ := ⟨(congrArg Prod.fst hw_).symm, (congrArg Prod.snd hw_).symm⟩
  refine lv_istore (lv' := [(4, .int (fY_testFile τ p1 p2)), (0, .ref (ad 0)), (1, .int p1), (2, .int p2), (3, .int p3)]) C.1.1 C.1.2.1 dX1_grow_6 hl (by decide) rfl (fun ls hl => ?_)
  refine lv_iload C.1.1 C.1.2.1 dX1_grow_8 (lv_at hl 0 rfl) ?_
  refine lv_if_eq (tgt := 16) C.1.1 C.1.2.1 dX1_grow_10 (by decide) (fun c_10 => ?_) (fun c_10 => ?_)
  · have hm : vp_in p1 4 := (b_tf c_10).1
    have ht : vp_in (6 + p1) 10 := b_top hm
    have hf : vp_in p2 8 := (b_tf c_10).2
    refine lv_aload_n C.1.1 C.1.2.1 dX1_grow_16 rfl (lv_at hl 1 rfl) ?_
    refine lv_bipush (v := 6) C.1.1 C.1.2.1 dX1_grow_17 (by decide) ?_
    refine lv_iload_n C.1.1 C.1.2.1 dX1_grow_19 rfl (lv_at hl 2 rfl) ?_
    refine lv_iadd C.1.1 C.1.2.1 dX1_grow_20 ?_
    refine lv_iload_n C.1.1 C.1.2.1 dX1_grow_21 rfl (lv_at hl 3 rfl) ?_
    refine callY_i C hH (av := [.int (6 + p1), .int p2]) (rest := []) (mY_has l G ad d τ (6 + p1) p2 ht) gwY_has hdY_has (by decide) rfl hl.1 rfl (Nat.le_of_ble_eq_true rfl) dX1_grow_22 ⟨Nat.zero_le _, Nat.zero_le _⟩ (fun r_ u_ H locs hH hw_ => ?_)
    obtain ⟨rfl, rfl⟩ : (fY_has τ (6 + p1) p2) = r_ ∧ τ = u_ := ⟨(congrArg Prod.fst hw_).symm, (congrArg Prod.snd hw_).symm⟩
    refine lv_if_ne (tgt := 31) C.1.1 C.1.2.1 dX1_grow_25 (by decide) (fun c_25 => ?_) (fun c_25 => ?_)
    · refine lv_aload_n C.1.1 C.1.2.1 dX1_grow_31 rfl (lv_at hl 1 rfl) ?_
      refine getY C hH 2 (by decide) q188 rfl (v := .ref (ad 3)) rfl dX1_grow_32 ?_
      refine lv_bipush (v := 8) C.1.1 C.1.2.1 dX1_grow_35 (by decide) ?_
      refine lv_bipush (v := 6) C.1.1 C.1.2.1 dX1_grow_37 (by decide) ?_
      refine lv_iload_n C.1.1 C.1.2.1 dX1_grow_39 rfl (lv_at hl 2 rfl) ?_
      refine lv_iadd C.1.1 C.1.2.1 dX1_grow_40 ?_
      refine lv_imul C.1.1 C.1.2.1 dX1_grow_41 ?_
      refine lv_iload_n C.1.1 C.1.2.1 dX1_grow_42 rfl (lv_at hl 3 rfl) ?_
      refine lv_iadd C.1.1 C.1.2.1 dX1_grow_43 ?_
      refine lv_aload_n C.1.1 C.1.2.1 dX1_grow_44 rfl (lv_at hl 1 rfl) ?_
      refine getY C hH 2 (by decide) q188 rfl (v := .ref (ad 3)) rfl dX1_grow_45 ?_
      refine lv_bipush (v := 8) C.1.1 C.1.2.1 dX1_grow_48 (by decide) ?_
      refine lv_bipush (v := 6) C.1.1 C.1.2.1 dX1_grow_50 (by decide) ?_
      refine lv_iload_n C.1.1 C.1.2.1 dX1_grow_52 rfl (lv_at hl 2 rfl) ?_
      refine lv_iadd C.1.1 C.1.2.1 dX1_grow_53 ?_
      refine lv_imul C.1.1 C.1.2.1 dX1_grow_54 ?_
      refine lv_iload_n C.1.1 C.1.2.1 dX1_grow_55 rfl (lv_at hl 3 rfl) ?_
      refine lv_iadd C.1.1 C.1.2.1 dX1_grow_56 ?_
      refine ildY C hH 3 2 (f := (yCo τ)) rfl rfl dX1_grow_57 (b_ct2 ht hf) ?_
      refine lv_iload_n C.1.1 C.1.2.1 dX1_grow_58 rfl (lv_at hl 4 rfl) ?_
      refine lv_iadd C.1.1 C.1.2.1 dX1_grow_59 ?_
      have hH := AtY.eta hH
      refine stY_3 C hH dX1_grow_60 (b_ct2 ht hf) (fun H locs hH => ?_)
      refine lv_iconst (v := 0) C.1.1 C.1.2.1 dX1_grow_61 (by decide) ?_
      exact retY_i C hH dX1_grow_62 (Eq.trans hR (tp c_10 (tn c_25 rfl))).symm
    · refine lv_bipush (v := (-4)) C.1.1 C.1.2.1 dX1_grow_28 (by decide) ?_
      exact retY_i C hH dX1_grow_30 (Eq.trans hR (tp c_10 (tp c_25 rfl))).symm
  · refine lv_iload C.1.1 C.1.2.1 dX1_grow_13 (lv_at hl 0 rfl) ?_
    exact retY_i C hH dX1_grow_15 (Eq.trans hR (tn c_10 rfl)).symm
end
section
set_option maxRecDepth 100000
-- method remove
set_option maxHeartbeats 4000000 in
theorem mY_remove (l : Launch) (G : va_G) (ad : Nat → Nat) (d : Nat → ClassId) (τ : SY) (p1 : Int32) (p2 : Int32) (hO : okY τ) : MetYi l yX1_remove cX1_remove 4 .int rmZ2 [.int p1, .int p2] G ad d τ (fY_remove τ p1 p2) := by
  refine metY_i (by decide +kernel) rfl (Nat.le_of_ble_eq_true rfl) (fun p e s m below meth c A ls C hH hl => ?_)
  have hl : lv_has ls 4 [(0, .ref (ad 0)), (1, .int p1), (2, .int p2)] := hl
  have hR : (fY_remove τ p1 p2) = (fY_remove τ p1 p2) := rfl
  generalize s.heap = H at hH ⊢
  generalize ([] : List Loc) = locs at hH ⊢
  refine lv_aload_n C.1.1 C.1.2.1 dX1_remove_0 rfl (lv_at hl 0 rfl) ?_
  refine lv_iload_n C.1.1 C.1.2.1 dX1_remove_1 rfl (lv_at hl 1 rfl) ?_
  refine lv_iload_n C.1.1 C.1.2.1 dX1_remove_2 rfl (lv_at hl 2 rfl) ?_
  refine callY_i C hH (av := [.int p1, .int p2]) (rest := []) (mY_testFile l G ad d τ p1 p2 ) gwY_testFile hdY_testFile (by decide) rfl hl.1 rfl (Nat.le_of_ble_eq_true rfl) dX1_remove_3 ⟨Nat.zero_le _, Nat.zero_le _⟩ (fun r_ u_ H locs hH hw_ => ?_)
  obtain ⟨rfl, rfl⟩ : (fY_testFile τ p1 p2) = r_ ∧ τ = u_ := ⟨(congrArg Prod.fst hw_).symm, (congrArg Prod.snd hw_).symm⟩
  refine lv_istore_n (lv' := [(3, .int (fY_testFile τ p1 p2)), (0, .ref (ad 0)), (1, .int p1), (2, .int p2)]) C.1.1 C.1.2.1 dX1_remove_6 rfl hl (by decide) rfl (fun ls hl => ?_)
  refine lv_iload_n C.1.1 C.1.2.1 dX1_remove_7 rfl (lv_at hl 0 rfl) ?_
  refine lv_if_eq (tgt := 13) C.1.1 C.1.2.1 dX1_remove_8 (by decide) (fun c_8 => ?_) (fun c_8 => ?_)
  · have hm : vp_in p1 4 := (b_tf c_8).1
    have ht : vp_in (6 + p1) 10 := b_top hm
    have hf : vp_in p2 8 := (b_tf c_8).2
    refine lv_aload_n C.1.1 C.1.2.1 dX1_remove_13 rfl (lv_at hl 1 rfl) ?_
    refine lv_bipush (v := 6) C.1.1 C.1.2.1 dX1_remove_14 (by decide) ?_
    refine lv_iload_n C.1.1 C.1.2.1 dX1_remove_16 rfl (lv_at hl 2 rfl) ?_
    refine lv_iadd C.1.1 C.1.2.1 dX1_remove_17 ?_
    refine lv_iload_n C.1.1 C.1.2.1 dX1_remove_18 rfl (lv_at hl 3 rfl) ?_
    refine callY_i C hH (av := [.int (6 + p1), .int p2]) (rest := []) (mY_has l G ad d τ (6 + p1) p2 ht) gwY_has hdY_has (by decide) rfl hl.1 rfl (Nat.le_of_ble_eq_true rfl) dX1_remove_19 ⟨Nat.zero_le _, Nat.zero_le _⟩ (fun r_ u_ H locs hH hw_ => ?_)
    obtain ⟨rfl, rfl⟩ : (fY_has τ (6 + p1) p2) = r_ ∧ τ = u_ := ⟨(congrArg Prod.fst hw_).symm, (congrArg Prod.snd hw_).symm⟩
    refine lv_if_ne (tgt := 28) C.1.1 C.1.2.1 dX1_remove_22 (by decide) (fun c_22 => ?_) (fun c_22 => ?_)
    · refine lv_aload_n C.1.1 C.1.2.1 dX1_remove_28 rfl (lv_at hl 1 rfl) ?_
      refine getY C hH 1 (by decide) q187 rfl (v := .ref (ad 2)) rfl dX1_remove_29 ?_
      refine lv_bipush (v := 6) C.1.1 C.1.2.1 dX1_remove_32 (by decide) ?_
      refine lv_iload_n C.1.1 C.1.2.1 dX1_remove_34 rfl (lv_at hl 2 rfl) ?_
      refine lv_iadd C.1.1 C.1.2.1 dX1_remove_35 ?_
      refine lv_aload_n C.1.1 C.1.2.1 dX1_remove_36 rfl (lv_at hl 1 rfl) ?_
      refine getY C hH 1 (by decide) q187 rfl (v := .ref (ad 2)) rfl dX1_remove_37 ?_
      refine lv_bipush (v := 6) C.1.1 C.1.2.1 dX1_remove_40 (by decide) ?_
      refine lv_iload_n C.1.1 C.1.2.1 dX1_remove_42 rfl (lv_at hl 2 rfl) ?_
      refine lv_iadd C.1.1 C.1.2.1 dX1_remove_43 ?_
      refine ildY C hH 2 1 (f := (yFi τ)) rfl rfl dX1_remove_44 ht ?_
      refine lv_iconst (v := 1) C.1.1 C.1.2.1 dX1_remove_45 (by decide) ?_
      refine lv_iload_n C.1.1 C.1.2.1 dX1_remove_46 rfl (lv_at hl 3 rfl) ?_
      refine lv_ishl C.1.1 C.1.2.1 dX1_remove_47 ?_
      refine lv_iconst (v := (-1)) C.1.1 C.1.2.1 dX1_remove_48 (by decide) ?_
      refine lv_ixor C.1.1 C.1.2.1 dX1_remove_49 ?_
      refine lv_iand C.1.1 C.1.2.1 dX1_remove_50 ?_
      have hH := AtY.eta hH
      refine stY_2 C hH dX1_remove_51 ht (fun H locs hH => ?_)
      refine lv_iconst (v := 0) C.1.1 C.1.2.1 dX1_remove_52 (by decide) ?_
      exact retY_i C hH dX1_remove_53 (Eq.trans hR (tp c_8 (tn c_22 rfl))).symm
    · refine lv_bipush (v := (-4)) C.1.1 C.1.2.1 dX1_remove_25 (by decide) ?_
      exact retY_i C hH dX1_remove_27 (Eq.trans hR (tp c_8 (tp c_22 rfl))).symm
  · refine lv_iload_n C.1.1 C.1.2.1 dX1_remove_11 rfl (lv_at hl 0 rfl) ?_
    exact retY_i C hH dX1_remove_12 (Eq.trans hR (tn c_8 rfl)).symm
-- method rename
set_option maxHeartbeats 4000000 in
theorem mY_rename (l : Launch) (G : va_G) (ad : Nat → Nat) (d : Nat → ClassId) (τ : SY) (p1 : Int32) (p2 : Int32) (p3 : Int32) (hO : okY τ) : MetYi l yX1_rename cX1_rename 5 .int rmZ2 [.int p1, .int p2, .int p3] G ad d τ (fY_rename τ p1 p2 p3) := by
  refine metY_i (by decide +kernel) rfl (Nat.le_of_ble_eq_true rfl) (fun p e s m below meth c A ls C hH hl => ?_)
  have hl : lv_has ls 5 [(0, .ref (ad 0)), (1, .int p1), (2, .int p2), (3, .int p3)] := hl
  have hR : (fY_rename τ p1 p2 p3) = (fY_rename τ p1 p2 p3) := rfl
  generalize s.heap = H at hH ⊢
  generalize ([] : List Loc) = locs at hH ⊢
  refine lv_aload_n C.1.1 C.1.2.1 dX1_rename_0 rfl (lv_at hl 0 rfl) ?_
  refine lv_iload_n C.1.1 C.1.2.1 dX1_rename_1 rfl (lv_at hl 1 rfl) ?_
  refine lv_iload_n C.1.1 C.1.2.1 dX1_rename_2 rfl (lv_at hl 2 rfl) ?_
  refine callY_i C hH (av := [.int p1, .int p2]) (rest := []) (mY_testFile l G ad d τ p1 p2 ) gwY_testFile hdY_testFile (by decide) rfl hl.1 rfl (Nat.le_of_ble_eq_true rfl) dX1_rename_3 ⟨Nat.zero_le _, Nat.zero_le _⟩ (fun r_ u_ H locs hH hw_ => ?_)
  obtain ⟨rfl, rfl⟩ : (fY_testFile τ p1 p2) = r_ ∧ τ = u_ := ⟨(congrArg Prod.fst hw_).symm, (congrArg Prod.snd hw_).symm⟩
  refine lv_istore (lv' := [(4, .int (fY_testFile τ p1 p2)), (0, .ref (ad 0)), (1, .int p1), (2, .int p2), (3, .int p3)]) C.1.1 C.1.2.1 dX1_rename_6 hl (by decide) rfl (fun ls hl => ?_)
  refine lv_iload C.1.1 C.1.2.1 dX1_rename_8 (lv_at hl 0 rfl) ?_
  refine lv_if_ne (tgt := 22) C.1.1 C.1.2.1 dX1_rename_10 (by decide) (fun c_10 => ?_) (fun c_10 => ?_)
  · refine lv_iload C.1.1 C.1.2.1 dX1_rename_22 (lv_at hl 0 rfl) ?_
    refine lv_istore (lv' := [(4, .int (fY_testFile τ p1 p2)), (0, .ref (ad 0)), (1, .int p1), (2, .int p2), (3, .int p3)]) C.1.1 C.1.2.1 dX1_rename_24 hl (by decide) rfl (fun ls hl => ?_)
    refine lv_iload C.1.1 C.1.2.1 dX1_rename_26 (lv_at hl 0 rfl) ?_
    refine lv_if_ne (tgt := 40) C.1.1 C.1.2.1 dX1_rename_28 (by decide) (fun _ => ?_) (fun c => absurd c c_10)
    refine lv_iload C.1.1 C.1.2.1 dX1_rename_40 (lv_at hl 0 rfl) ?_
    refine lv_istore (lv' := [(4, .int (fY_testFile τ p1 p2)), (0, .ref (ad 0)), (1, .int p1), (2, .int p2), (3, .int p3)]) C.1.1 C.1.2.1 dX1_rename_42 hl (by decide) rfl (fun ls hl => ?_)
    refine lv_iload C.1.1 C.1.2.1 dX1_rename_44 (lv_at hl 0 rfl) ?_
    refine lv_if_eq (tgt := 52) C.1.1 C.1.2.1 dX1_rename_46 (by decide) (fun c => absurd c c_10) (fun _ => ?_)
    refine lv_iload C.1.1 C.1.2.1 dX1_rename_49 (lv_at hl 0 rfl) ?_
    exact retY_i C hH dX1_rename_51 (Eq.trans hR (tn c_10 rfl)).symm
  · refine lv_aload_n C.1.1 C.1.2.1 dX1_rename_13 rfl (lv_at hl 1 rfl) ?_
    refine lv_iload_n C.1.1 C.1.2.1 dX1_rename_14 rfl (lv_at hl 2 rfl) ?_
    refine lv_iload_n C.1.1 C.1.2.1 dX1_rename_15 rfl (lv_at hl 4 rfl) ?_
    refine callY_i C hH (av := [.int p1, .int p3]) (rest := []) (mY_testFile l G ad d τ p1 p3 ) gwY_testFile hdY_testFile (by decide) rfl hl.1 rfl (Nat.le_of_ble_eq_true rfl) dX1_rename_16 ⟨Nat.zero_le _, Nat.zero_le _⟩ (fun r_ u_ H locs hH hw_ => ?_)
    obtain ⟨rfl, rfl⟩ : (fY_testFile τ p1 p3) = r_ ∧ τ = u_ := ⟨(congrArg Prod.fst hw_).symm, (congrArg Prod.snd hw_).symm⟩
    refine lv_goto (tgt := 24) C.1.1 C.1.2.1 dX1_rename_19 (by decide) ?_
    refine lv_istore (lv' := [(4, .int (fY_testFile τ p1 p3)), (0, .ref (ad 0)), (1, .int p1), (2, .int p2), (3, .int p3)]) C.1.1 C.1.2.1 dX1_rename_24 hl (by decide) rfl (fun ls hl => ?_)
    refine lv_iload C.1.1 C.1.2.1 dX1_rename_26 (lv_at hl 0 rfl) ?_
    refine lv_if_ne (tgt := 40) C.1.1 C.1.2.1 dX1_rename_28 (by decide) (fun c_28 => ?_) (fun c_28 => ?_)
    · refine lv_iload C.1.1 C.1.2.1 dX1_rename_40 (lv_at hl 0 rfl) ?_
      refine lv_istore (lv' := [(4, .int (fY_testFile τ p1 p3)), (0, .ref (ad 0)), (1, .int p1), (2, .int p2), (3, .int p3)]) C.1.1 C.1.2.1 dX1_rename_42 hl (by decide) rfl (fun ls hl => ?_)
      refine lv_iload C.1.1 C.1.2.1 dX1_rename_44 (lv_at hl 0 rfl) ?_
      refine lv_if_eq (tgt := 52) C.1.1 C.1.2.1 dX1_rename_46 (by decide) (fun c => absurd c c_28) (fun _ => ?_)
      refine lv_iload C.1.1 C.1.2.1 dX1_rename_49 (lv_at hl 0 rfl) ?_
      exact retY_i C hH dX1_rename_51 (Eq.trans hR (tp c_10 (tn c_28 rfl))).symm
    · refine lv_iload_n C.1.1 C.1.2.1 dX1_rename_31 rfl (lv_at hl 3 rfl) ?_
      refine lv_iload_n C.1.1 C.1.2.1 dX1_rename_32 rfl (lv_at hl 4 rfl) ?_
      refine lv_icmp_ne (tgt := 40) C.1.1 C.1.2.1 dX1_rename_33 (by decide) (fun c_33 => ?_) (fun c_33 => ?_)
      · refine lv_iload C.1.1 C.1.2.1 dX1_rename_40 (lv_at hl 0 rfl) ?_
        refine lv_istore (lv' := [(4, .int (fY_testFile τ p1 p3)), (0, .ref (ad 0)), (1, .int p1), (2, .int p2), (3, .int p3)]) C.1.1 C.1.2.1 dX1_rename_42 hl (by decide) rfl (fun ls hl => ?_)
        refine lv_iload C.1.1 C.1.2.1 dX1_rename_44 (lv_at hl 0 rfl) ?_
        refine lv_if_eq (tgt := 52) C.1.1 C.1.2.1 dX1_rename_46 (by decide) (fun _ => ?_) (fun c => absurd c_28 c)
        have hm : vp_in p1 4 := (b_tf c_10).1
        have ht : vp_in (6 + p1) 10 := b_top hm
        have hf : vp_in p2 8 := (b_tf c_10).2
        have hg : vp_in p3 8 := (b_tf c_28).2
        refine lv_aload_n C.1.1 C.1.2.1 dX1_rename_52 rfl (lv_at hl 1 rfl) ?_
        refine lv_bipush (v := 6) C.1.1 C.1.2.1 dX1_rename_53 (by decide) ?_
        refine lv_iload_n C.1.1 C.1.2.1 dX1_rename_55 rfl (lv_at hl 2 rfl) ?_
        refine lv_iadd C.1.1 C.1.2.1 dX1_rename_56 ?_
        refine lv_iload_n C.1.1 C.1.2.1 dX1_rename_57 rfl (lv_at hl 3 rfl) ?_
        refine callY_i C hH (av := [.int (6 + p1), .int p2]) (rest := []) (mY_has l G ad d τ (6 + p1) p2 ht) gwY_has hdY_has (by decide) rfl hl.1 rfl (Nat.le_of_ble_eq_true rfl) dX1_rename_58 ⟨Nat.zero_le _, Nat.zero_le _⟩ (fun r_ u_ H locs hH hw_ => ?_)
        obtain ⟨rfl, rfl⟩ : (fY_has τ (6 + p1) p2) = r_ ∧ τ = u_ := ⟨(congrArg Prod.fst hw_).symm, (congrArg Prod.snd hw_).symm⟩
        refine lv_if_eq (tgt := 78) C.1.1 C.1.2.1 dX1_rename_61 (by decide) (fun c_61 => ?_) (fun c_61 => ?_)
        · refine lv_bipush (v := (-4)) C.1.1 C.1.2.1 dX1_rename_78 (by decide) ?_
          exact retY_i C hH dX1_rename_80 (Eq.trans hR (tp c_10 (tp c_28 (tn c_33 (tp c_61 rfl))))).symm
        · refine lv_aload_n C.1.1 C.1.2.1 dX1_rename_64 rfl (lv_at hl 1 rfl) ?_
          refine lv_bipush (v := 6) C.1.1 C.1.2.1 dX1_rename_65 (by decide) ?_
          refine lv_iload_n C.1.1 C.1.2.1 dX1_rename_67 rfl (lv_at hl 2 rfl) ?_
          refine lv_iadd C.1.1 C.1.2.1 dX1_rename_68 ?_
          refine lv_iload_n C.1.1 C.1.2.1 dX1_rename_69 rfl (lv_at hl 4 rfl) ?_
          refine lv_iconst (v := 4) C.1.1 C.1.2.1 dX1_rename_70 (by decide) ?_
          refine lv_idiv C.1.1 C.1.2.1 dX1_rename_71 (by decide) ?_
          refine callY_i C hH (av := [.int (6 + p1), .int (p3 / 4)]) (rest := []) (mY_hasDirectory l G ad d τ (6 + p1) (p3 / 4) ht) gwY_hasDirectory hdY_hasDirectory (by decide) rfl hl.1 rfl (Nat.le_of_ble_eq_true rfl) dX1_rename_72 ⟨Nat.zero_le _, Nat.zero_le _⟩ (fun r_ u_ H locs hH hw_ => ?_)
          obtain ⟨rfl, rfl⟩ : (fY_hasDirectory τ (6 + p1) (p3 / 4)) = r_ ∧ τ = u_ := ⟨(congrArg Prod.fst hw_).symm, (congrArg Prod.snd hw_).symm⟩
          refine lv_if_ne (tgt := 81) C.1.1 C.1.2.1 dX1_rename_75 (by decide) (fun c_75 => ?_) (fun c_75 => ?_)
          · refine lv_aload_n C.1.1 C.1.2.1 dX1_rename_81 rfl (lv_at hl 1 rfl) ?_
            refine getY C hH 1 (by decide) q187 rfl (v := .ref (ad 2)) rfl dX1_rename_82 ?_
            refine lv_bipush (v := 6) C.1.1 C.1.2.1 dX1_rename_85 (by decide) ?_
            refine lv_iload_n C.1.1 C.1.2.1 dX1_rename_87 rfl (lv_at hl 2 rfl) ?_
            refine lv_iadd C.1.1 C.1.2.1 dX1_rename_88 ?_
            refine lv_aload_n C.1.1 C.1.2.1 dX1_rename_89 rfl (lv_at hl 1 rfl) ?_
            refine getY C hH 1 (by decide) q187 rfl (v := .ref (ad 2)) rfl dX1_rename_90 ?_
            refine lv_bipush (v := 6) C.1.1 C.1.2.1 dX1_rename_93 (by decide) ?_
            refine lv_iload_n C.1.1 C.1.2.1 dX1_rename_95 rfl (lv_at hl 2 rfl) ?_
            refine lv_iadd C.1.1 C.1.2.1 dX1_rename_96 ?_
            refine ildY C hH 2 1 (f := (yFi τ)) rfl rfl dX1_rename_97 ht ?_
            refine lv_iconst (v := 1) C.1.1 C.1.2.1 dX1_rename_98 (by decide) ?_
            refine lv_iload_n C.1.1 C.1.2.1 dX1_rename_99 rfl (lv_at hl 3 rfl) ?_
            refine lv_ishl C.1.1 C.1.2.1 dX1_rename_100 ?_
            refine lv_iconst (v := (-1)) C.1.1 C.1.2.1 dX1_rename_101 (by decide) ?_
            refine lv_ixor C.1.1 C.1.2.1 dX1_rename_102 ?_
            refine lv_iand C.1.1 C.1.2.1 dX1_rename_103 ?_
            have hH := AtY.eta hH
            refine stY_2 C hH dX1_rename_104 ht (fun H locs hH => ?_)
            refine lv_aload_n C.1.1 C.1.2.1 dX1_rename_105 rfl (lv_at hl 1 rfl) ?_
            refine lv_bipush (v := 6) C.1.1 C.1.2.1 dX1_rename_106 (by decide) ?_
            refine lv_iload_n C.1.1 C.1.2.1 dX1_rename_108 rfl (lv_at hl 2 rfl) ?_
            refine lv_iadd C.1.1 C.1.2.1 dX1_rename_109 ?_
            refine lv_iload_n C.1.1 C.1.2.1 dX1_rename_110 rfl (lv_at hl 4 rfl) ?_
            refine lv_aload_n C.1.1 C.1.2.1 dX1_rename_111 rfl (lv_at hl 1 rfl) ?_
            refine getY C hH 2 (by decide) q188 rfl (v := .ref (ad 3)) rfl dX1_rename_112 ?_
            refine lv_bipush (v := 8) C.1.1 C.1.2.1 dX1_rename_115 (by decide) ?_
            refine lv_bipush (v := 6) C.1.1 C.1.2.1 dX1_rename_117 (by decide) ?_
            refine lv_iload_n C.1.1 C.1.2.1 dX1_rename_119 rfl (lv_at hl 2 rfl) ?_
            refine lv_iadd C.1.1 C.1.2.1 dX1_rename_120 ?_
            refine lv_imul C.1.1 C.1.2.1 dX1_rename_121 ?_
            refine lv_iload_n C.1.1 C.1.2.1 dX1_rename_122 rfl (lv_at hl 3 rfl) ?_
            refine lv_iadd C.1.1 C.1.2.1 dX1_rename_123 ?_
            refine ldY_3 C hH dX1_rename_124 (b_ct2 ht hf) ?_
            refine callY_i C hH (av := [.int (6 + p1), .int p3, .int ((yCo τ) ((8 * (6 + p1)) + p2).toNatClampNeg)]) (rest := []) (mY_put l G ad d ((yDi τ), (upd (yFi τ) (6 + p1).toNatClampNeg (((yFi τ) (6 + p1).toNatClampNeg) &&& (((1 : Int32) <<< (p2 &&& 31)) ^^^ (-1)))), (yCo τ), (yBa τ), (yL τ), (yUs τ), (yBe τ)) (6 + p1) p3 ((yCo τ) ((8 * (6 + p1)) + p2).toNatClampNeg) ht (b_ct2 ht hg)) gwY_put hdY_put (by decide) rfl hl.1 rfl (Nat.le_of_ble_eq_true rfl) dX1_rename_125 ⟨Nat.zero_le _, Nat.zero_le _⟩ (fun r_ u_ H locs hH hw_ => ?_)
            obtain ⟨rfl, rfl⟩ : (fY_put ((yDi τ), (upd (yFi τ) (6 + p1).toNatClampNeg (((yFi τ) (6 + p1).toNatClampNeg) &&& (((1 : Int32) <<< (p2 &&& 31)) ^^^ (-1)))), (yCo τ), (yBa τ), (yL τ), (yUs τ), (yBe τ)) (6 + p1) p3 ((yCo τ) ((8 * (6 + p1)) + p2).toNatClampNeg)).1 = r_ ∧ (fY_put ((yDi τ), (upd (yFi τ) (6 + p1).toNatClampNeg (((yFi τ) (6 + p1).toNatClampNeg) &&& (((1 : Int32) <<< (p2 &&& 31)) ^^^ (-1)))), (yCo τ), (yBa τ), (yL τ), (yUs τ), (yBe τ)) (6 + p1) p3 ((yCo τ) ((8 * (6 + p1)) + p2).toNatClampNeg)).2 = u_ := ⟨(congrArg Prod.fst hw_).symm, (congrArg Prod.snd hw_).symm⟩
            exact retY_i C hH dX1_rename_128 (Eq.trans hR (tp c_10 (tp c_28 (tn c_33 (tn c_61 (tn c_75 rfl)))))).symm
          · refine lv_bipush (v := (-4)) C.1.1 C.1.2.1 dX1_rename_78 (by decide) ?_
            exact retY_i C hH dX1_rename_80 (Eq.trans hR (tp c_10 (tp c_28 (tn c_33 (tn c_61 (tp c_75 rfl)))))).symm
      · refine lv_iconst (v := (-1)) C.1.1 C.1.2.1 dX1_rename_36 (by decide) ?_
        refine lv_goto (tgt := 42) C.1.1 C.1.2.1 dX1_rename_37 (by decide) ?_
        refine lv_istore (lv' := [(4, .int (-1)), (0, .ref (ad 0)), (1, .int p1), (2, .int p2), (3, .int p3)]) C.1.1 C.1.2.1 dX1_rename_42 hl (by decide) rfl (fun ls hl => ?_)
        refine lv_iload C.1.1 C.1.2.1 dX1_rename_44 (lv_at hl 0 rfl) ?_
        refine lv_if_eq (tgt := 52) C.1.1 C.1.2.1 dX1_rename_46 (by decide) (fun c => absurd c (by decide)) (fun _ => ?_)
        refine lv_iload C.1.1 C.1.2.1 dX1_rename_49 (lv_at hl 0 rfl) ?_
        exact retY_i C hH dX1_rename_51 (Eq.trans hR (tp c_10 (tp c_28 (tp c_33 rfl)))).symm
-- method read
set_option maxHeartbeats 4000000 in
theorem mY_read (l : Launch) (G : va_G) (ad : Nat → Nat) (d : Nat → ClassId) (τ : SY) (p1 : Int32) (p2 : Int32) (hO : okY τ) : MetYi l yX1_read cX1_read 3 .int rmZ2 [.int p1, .int p2] G ad d τ ((fY_read τ p1 p2), τ) := by
  refine metY_i (by decide +kernel) rfl (Nat.le_of_ble_eq_true rfl) (fun p e s m below meth c A ls C hH hl => ?_)
  have hl : lv_has ls 3 [(0, .ref (ad 0)), (1, .int p1), (2, .int p2)] := hl
  have hR : (fY_read τ p1 p2) = (fY_read τ p1 p2) := rfl
  generalize s.heap = H at hH ⊢
  generalize ([] : List Loc) = locs at hH ⊢
  refine lv_aload_n C.1.1 C.1.2.1 dX1_read_0 rfl (lv_at hl 0 rfl) ?_
  refine lv_iload_n C.1.1 C.1.2.1 dX1_read_1 rfl (lv_at hl 1 rfl) ?_
  refine lv_iload_n C.1.1 C.1.2.1 dX1_read_2 rfl (lv_at hl 2 rfl) ?_
  refine callY_i C hH (av := [.int p1, .int p2]) (rest := []) (mY_testFile l G ad d τ p1 p2 ) gwY_testFile hdY_testFile (by decide) rfl hl.1 rfl (Nat.le_of_ble_eq_true rfl) dX1_read_3 ⟨Nat.zero_le _, Nat.zero_le _⟩ (fun r_ u_ H locs hH hw_ => ?_)
  obtain ⟨rfl, rfl⟩ : (fY_testFile τ p1 p2) = r_ ∧ τ = u_ := ⟨(congrArg Prod.fst hw_).symm, (congrArg Prod.snd hw_).symm⟩
  refine lv_if_ne (tgt := 38) C.1.1 C.1.2.1 dX1_read_6 (by decide) (fun c_6 => ?_) (fun c_6 => ?_)
  · refine lv_iconst (v := 0) C.1.1 C.1.2.1 dX1_read_38 (by decide) ?_
    exact retY_i C hH dX1_read_39 (congrArg (fun z => (z, τ)) (Eq.trans hR (tn c_6 rfl))).symm
  · have hm : vp_in p1 4 := (b_tf c_6).1
    have ht : vp_in (6 + p1) 10 := b_top hm
    have hf : vp_in p2 8 := (b_tf c_6).2
    refine lv_aload_n C.1.1 C.1.2.1 dX1_read_9 rfl (lv_at hl 0 rfl) ?_
    refine lv_bipush (v := 6) C.1.1 C.1.2.1 dX1_read_10 (by decide) ?_
    refine lv_iload_n C.1.1 C.1.2.1 dX1_read_12 rfl (lv_at hl 1 rfl) ?_
    refine lv_iadd C.1.1 C.1.2.1 dX1_read_13 ?_
    refine lv_iload_n C.1.1 C.1.2.1 dX1_read_14 rfl (lv_at hl 2 rfl) ?_
    refine callY_i C hH (av := [.int (6 + p1), .int p2]) (rest := []) (mY_has l G ad d τ (6 + p1) p2 ht) gwY_has hdY_has (by decide) rfl hl.1 rfl (Nat.le_of_ble_eq_true rfl) dX1_read_15 ⟨Nat.zero_le _, Nat.zero_le _⟩ (fun r_ u_ H locs hH hw_ => ?_)
    obtain ⟨rfl, rfl⟩ : (fY_has τ (6 + p1) p2) = r_ ∧ τ = u_ := ⟨(congrArg Prod.fst hw_).symm, (congrArg Prod.snd hw_).symm⟩
    refine lv_if_eq (tgt := 38) C.1.1 C.1.2.1 dX1_read_18 (by decide) (fun c_18 => ?_) (fun c_18 => ?_)
    · refine lv_iconst (v := 0) C.1.1 C.1.2.1 dX1_read_38 (by decide) ?_
      exact retY_i C hH dX1_read_39 (congrArg (fun z => (z, τ)) (Eq.trans hR (tp c_6 (tp c_18 rfl)))).symm
    · refine lv_aload_n C.1.1 C.1.2.1 dX1_read_21 rfl (lv_at hl 0 rfl) ?_
      refine getY C hH 2 (by decide) q188 rfl (v := .ref (ad 3)) rfl dX1_read_22 ?_
      refine lv_bipush (v := 8) C.1.1 C.1.2.1 dX1_read_25 (by decide) ?_
      refine lv_bipush (v := 6) C.1.1 C.1.2.1 dX1_read_27 (by decide) ?_
      refine lv_iload_n C.1.1 C.1.2.1 dX1_read_29 rfl (lv_at hl 1 rfl) ?_
      refine lv_iadd C.1.1 C.1.2.1 dX1_read_30 ?_
      refine lv_imul C.1.1 C.1.2.1 dX1_read_31 ?_
      refine lv_iload_n C.1.1 C.1.2.1 dX1_read_32 rfl (lv_at hl 2 rfl) ?_
      refine lv_iadd C.1.1 C.1.2.1 dX1_read_33 ?_
      refine ildY C hH 3 2 (f := (yCo τ)) rfl rfl dX1_read_34 (b_ct2 ht hf) ?_
      refine lv_goto (tgt := 39) C.1.1 C.1.2.1 dX1_read_35 (by decide) ?_
      exact retY_i C hH dX1_read_39 (congrArg (fun z => (z, τ)) (Eq.trans hR (tp c_6 (tn c_18 rfl)))).symm
-- method files
set_option maxHeartbeats 4000000 in
theorem mY_files (l : Launch) (G : va_G) (ad : Nat → Nat) (d : Nat → ClassId) (τ : SY) (p1 : Int32) (hO : okY τ) : MetYi l yX1_files cX1_files 3 .int rmZ1 [.int p1] G ad d τ ((fY_files τ p1), τ) := by
  refine metY_i (by decide +kernel) rfl (Nat.le_of_ble_eq_true rfl) (fun p e s m below meth c A ls C hH hl => ?_)
  have hl : lv_has ls 3 [(0, .ref (ad 0)), (1, .int p1)] := hl
  have hR : (fY_files τ p1) = (fY_files τ p1) := rfl
  generalize s.heap = H at hH ⊢
  generalize ([] : List Loc) = locs at hH ⊢
  refine lv_aload_n C.1.1 C.1.2.1 dX1_files_0 rfl (lv_at hl 0 rfl) ?_
  refine lv_iload_n C.1.1 C.1.2.1 dX1_files_1 rfl (lv_at hl 1 rfl) ?_
  refine callY_i C hH (av := [.int p1]) (rest := []) (mY_test l G ad d τ p1 ) gwY_test hdY_test (by decide) rfl hl.1 rfl (Nat.le_of_ble_eq_true rfl) dX1_files_2 ⟨Nat.zero_le _, Nat.zero_le _⟩ (fun r_ u_ H locs hH hw_ => ?_)
  obtain ⟨rfl, rfl⟩ : (fY_test τ p1) = r_ ∧ τ = u_ := ⟨(congrArg Prod.fst hw_).symm, (congrArg Prod.snd hw_).symm⟩
  refine lv_istore_n (lv' := [(2, .int (fY_test τ p1)), (0, .ref (ad 0)), (1, .int p1)]) C.1.1 C.1.2.1 dX1_files_5 rfl hl (by decide) rfl (fun ls hl => ?_)
  refine lv_iload_n C.1.1 C.1.2.1 dX1_files_6 rfl (lv_at hl 0 rfl) ?_
  refine lv_if_ne (tgt := 22) C.1.1 C.1.2.1 dX1_files_7 (by decide) (fun c_7 => ?_) (fun c_7 => ?_)
  · refine lv_iload_n C.1.1 C.1.2.1 dX1_files_22 rfl (lv_at hl 0 rfl) ?_
    exact retY_i C hH dX1_files_23 (congrArg (fun z => (z, τ)) (Eq.trans hR (tn c_7 rfl))).symm
  · have hm : vp_in p1 4 := b_test c_7
    have ht : vp_in (6 + p1) 10 := b_top hm
    refine lv_aload_n C.1.1 C.1.2.1 dX1_files_10 rfl (lv_at hl 1 rfl) ?_
    refine getY C hH 1 (by decide) q187 rfl (v := .ref (ad 2)) rfl dX1_files_11 ?_
    refine lv_bipush (v := 6) C.1.1 C.1.2.1 dX1_files_14 (by decide) ?_
    refine lv_iload_n C.1.1 C.1.2.1 dX1_files_16 rfl (lv_at hl 2 rfl) ?_
    refine lv_iadd C.1.1 C.1.2.1 dX1_files_17 ?_
    refine ildY C hH 2 1 (f := (yFi τ)) rfl rfl dX1_files_18 ht ?_
    refine lv_goto (tgt := 23) C.1.1 C.1.2.1 dX1_files_19 (by decide) ?_
    exact retY_i C hH dX1_files_23 (congrArg (fun z => (z, τ)) (Eq.trans hR (tp c_7 rfl))).symm
-- method directories
set_option maxHeartbeats 4000000 in
theorem mY_directories (l : Launch) (G : va_G) (ad : Nat → Nat) (d : Nat → ClassId) (τ : SY) (p1 : Int32) (hO : okY τ) : MetYi l yX1_directories cX1_directories 3 .int rmZ1 [.int p1] G ad d τ ((fY_directories τ p1), τ) := by
  refine metY_i (by decide +kernel) rfl (Nat.le_of_ble_eq_true rfl) (fun p e s m below meth c A ls C hH hl => ?_)
  have hl : lv_has ls 3 [(0, .ref (ad 0)), (1, .int p1)] := hl
  have hR : (fY_directories τ p1) = (fY_directories τ p1) := rfl
  generalize s.heap = H at hH ⊢
  generalize ([] : List Loc) = locs at hH ⊢
  refine lv_aload_n C.1.1 C.1.2.1 dX1_directories_0 rfl (lv_at hl 0 rfl) ?_
  refine lv_iload_n C.1.1 C.1.2.1 dX1_directories_1 rfl (lv_at hl 1 rfl) ?_
  refine callY_i C hH (av := [.int p1]) (rest := []) (mY_test l G ad d τ p1 ) gwY_test hdY_test (by decide) rfl hl.1 rfl (Nat.le_of_ble_eq_true rfl) dX1_directories_2 ⟨Nat.zero_le _, Nat.zero_le _⟩ (fun r_ u_ H locs hH hw_ => ?_)
  obtain ⟨rfl, rfl⟩ : (fY_test τ p1) = r_ ∧ τ = u_ := ⟨(congrArg Prod.fst hw_).symm, (congrArg Prod.snd hw_).symm⟩
  refine lv_istore_n (lv' := [(2, .int (fY_test τ p1)), (0, .ref (ad 0)), (1, .int p1)]) C.1.1 C.1.2.1 dX1_directories_5 rfl hl (by decide) rfl (fun ls hl => ?_)
  refine lv_iload_n C.1.1 C.1.2.1 dX1_directories_6 rfl (lv_at hl 0 rfl) ?_
  refine lv_if_ne (tgt := 22) C.1.1 C.1.2.1 dX1_directories_7 (by decide) (fun c_7 => ?_) (fun c_7 => ?_)
  · refine lv_iload_n C.1.1 C.1.2.1 dX1_directories_22 rfl (lv_at hl 0 rfl) ?_
    exact retY_i C hH dX1_directories_23 (congrArg (fun z => (z, τ)) (Eq.trans hR (tn c_7 rfl))).symm
  · have hm : vp_in p1 4 := b_test c_7
    have ht : vp_in (6 + p1) 10 := b_top hm
    refine lv_aload_n C.1.1 C.1.2.1 dX1_directories_10 rfl (lv_at hl 1 rfl) ?_
    refine getY C hH 0 (by decide) q186 rfl (v := .ref (ad 1)) rfl dX1_directories_11 ?_
    refine lv_bipush (v := 6) C.1.1 C.1.2.1 dX1_directories_14 (by decide) ?_
    refine lv_iload_n C.1.1 C.1.2.1 dX1_directories_16 rfl (lv_at hl 2 rfl) ?_
    refine lv_iadd C.1.1 C.1.2.1 dX1_directories_17 ?_
    refine ildY C hH 1 0 (f := (yDi τ)) rfl rfl dX1_directories_18 ht ?_
    refine lv_goto (tgt := 23) C.1.1 C.1.2.1 dX1_directories_19 (by decide) ?_
    exact retY_i C hH dX1_directories_23 (congrArg (fun z => (z, τ)) (Eq.trans hR (tp c_7 rfl))).symm
-- method commit
set_option maxHeartbeats 4000000 in
theorem mY_commit (l : Launch) (G : va_G) (ad : Nat → Nat) (d : Nat → ClassId) (τ : SY) (p1 : Int32) (hO : okY τ) : MetYi l yX1_commit cX1_commit 3 .int rmZ1 [.int p1] G ad d τ (fY_commit τ p1) := by
  refine metY_i (by decide +kernel) rfl (Nat.le_of_ble_eq_true rfl) (fun p e s m below meth c A ls C hH hl => ?_)
  have hl : lv_has ls 3 [(0, .ref (ad 0)), (1, .int p1)] := hl
  have hR : (fY_commit τ p1) = (fY_commit τ p1) := rfl
  generalize s.heap = H at hH ⊢
  generalize ([] : List Loc) = locs at hH ⊢
  refine lv_aload_n C.1.1 C.1.2.1 dX1_commit_0 rfl (lv_at hl 0 rfl) ?_
  refine lv_iload_n C.1.1 C.1.2.1 dX1_commit_1 rfl (lv_at hl 1 rfl) ?_
  refine callY_i C hH (av := [.int p1]) (rest := []) (mY_test l G ad d τ p1 ) gwY_test hdY_test (by decide) rfl hl.1 rfl (Nat.le_of_ble_eq_true rfl) dX1_commit_2 ⟨Nat.zero_le _, Nat.zero_le _⟩ (fun r_ u_ H locs hH hw_ => ?_)
  obtain ⟨rfl, rfl⟩ : (fY_test τ p1) = r_ ∧ τ = u_ := ⟨(congrArg Prod.fst hw_).symm, (congrArg Prod.snd hw_).symm⟩
  refine lv_istore_n (lv' := [(2, .int (fY_test τ p1)), (0, .ref (ad 0)), (1, .int p1)]) C.1.1 C.1.2.1 dX1_commit_5 rfl hl (by decide) rfl (fun ls hl => ?_)
  refine lv_iload_n C.1.1 C.1.2.1 dX1_commit_6 rfl (lv_at hl 0 rfl) ?_
  refine lv_if_eq (tgt := 12) C.1.1 C.1.2.1 dX1_commit_7 (by decide) (fun c_7 => ?_) (fun c_7 => ?_)
  · refine lv_aload_n C.1.1 C.1.2.1 dX1_commit_12 rfl (lv_at hl 1 rfl) ?_
    refine getY C hH 4 (by decide) q190 rfl (v := .int (yL τ)) rfl dX1_commit_13 ?_
    refine lv_bipush (v := 6) C.1.1 C.1.2.1 dX1_commit_16 (by decide) ?_
    refine lv_icmp_ne (tgt := 24) C.1.1 C.1.2.1 dX1_commit_18 (by decide) (fun c_18 => ?_) (fun c_18 => ?_)
    · have hm : vp_in p1 4 := b_test c_7
      have ht : vp_in (6 + p1) 10 := b_top hm
      have hL6 : vp_in (yL τ) 6 := b_yL hO c_18
      refine lv_aload_n C.1.1 C.1.2.1 dX1_commit_24 rfl (lv_at hl 1 rfl) ?_
      refine lv_bipush (v := 6) C.1.1 C.1.2.1 dX1_commit_25 (by decide) ?_
      refine lv_iload_n C.1.1 C.1.2.1 dX1_commit_27 rfl (lv_at hl 2 rfl) ?_
      refine lv_iadd C.1.1 C.1.2.1 dX1_commit_28 ?_
      refine lv_aload_n C.1.1 C.1.2.1 dX1_commit_29 rfl (lv_at hl 1 rfl) ?_
      refine getY C hH 4 (by decide) q190 rfl (v := .int (yL τ)) rfl dX1_commit_30 ?_
      refine callY_v C hH (av := [.int (6 + p1), .int (yL τ)]) (rest := []) (mY_copy l G ad d τ (6 + p1) (yL τ) ht (b_w hL6)) gwY_copy hdY_copy (by decide) rfl hl.1 rfl (Nat.le_of_ble_eq_true rfl) dX1_commit_33 ⟨Nat.zero_le _, Nat.zero_le _⟩ (fun u_ H locs hH hw_ => ?_)
      subst hw_
      refine lv_aload_n C.1.1 C.1.2.1 dX1_commit_36 rfl (lv_at hl 1 rfl) ?_
      refine getY C hH 3 (by decide) q189 rfl (v := .ref (ad 4)) rfl dX1_commit_37 ?_
      refine lv_aload_n C.1.1 C.1.2.1 dX1_commit_40 rfl (lv_at hl 1 rfl) ?_
      refine getY C hH 4 (by decide) q190 rfl (v := .int (yL (fY_copy τ (6 + p1) (yL τ)))) rfl dX1_commit_41 ?_
      refine lv_aload_n C.1.1 C.1.2.1 dX1_commit_44 rfl (lv_at hl 1 rfl) ?_
      refine getY C hH 6 (by decide) q192 rfl (v := .ref (ad 6)) rfl dX1_commit_45 ?_
      refine lv_iload_n C.1.1 C.1.2.1 dX1_commit_48 rfl (lv_at hl 2 rfl) ?_
      refine ildY C hH 6 5 (f := (yBe (fY_copy τ (6 + p1) (yL τ)))) rfl rfl dX1_commit_49 hm ?_
      have hH := AtY.eta hH
      refine stY_4 C hH dX1_commit_50 (by rw [yL_copy]; exact hL6) (fun H locs hH => ?_)
      refine lv_aload_n C.1.1 C.1.2.1 dX1_commit_51 rfl (lv_at hl 1 rfl) ?_
      refine getY C hH 6 (by decide) q192 rfl (v := .ref (ad 6)) rfl dX1_commit_52 ?_
      refine lv_iload_n C.1.1 C.1.2.1 dX1_commit_55 rfl (lv_at hl 2 rfl) ?_
      refine lv_aload_n C.1.1 C.1.2.1 dX1_commit_56 rfl (lv_at hl 1 rfl) ?_
      refine getYt C hH q190 dX1_commit_57 ?_
      refine stY_6 C hH dX1_commit_60 hm (fun H locs hH => ?_)
      refine lv_aload_n C.1.1 C.1.2.1 dX1_commit_61 rfl (lv_at hl 1 rfl) ?_
      refine lv_dup C.1.1 C.1.2.1 dX1_commit_62 rfl ?_
      refine getYt C hH q190 dX1_commit_63 ?_
      refine lv_iconst (v := 1) C.1.1 C.1.2.1 dX1_commit_66 (by decide) ?_
      refine lv_iadd C.1.1 C.1.2.1 dX1_commit_67 ?_
      refine putY C hH q190 dX1_commit_68 (fun H locs hH => ?_)
      refine lv_aload_n C.1.1 C.1.2.1 dX1_commit_71 rfl (lv_at hl 1 rfl) ?_
      refine getYt C hH q190 dX1_commit_72 ?_
      refine lv_iconst (v := 1) C.1.1 C.1.2.1 dX1_commit_75 (by decide) ?_
      refine lv_isub C.1.1 C.1.2.1 dX1_commit_76 ?_
      exact retY_i C hH dX1_commit_77 (Eq.trans hR (tp c_7 (tn c_18 rfl))).symm
    · refine lv_bipush (v := (-2)) C.1.1 C.1.2.1 dX1_commit_21 (by decide) ?_
      exact retY_i C hH dX1_commit_23 (Eq.trans hR (tp c_7 (tp c_18 rfl))).symm
  · refine lv_iload_n C.1.1 C.1.2.1 dX1_commit_10 rfl (lv_at hl 0 rfl) ?_
    exact retY_i C hH dX1_commit_11 (Eq.trans hR (tn c_7 rfl)).symm
-- method isFree
set_option maxHeartbeats 4000000 in
theorem bY_isFree_36 {p : Program} {l : Launch} {e : Env} {s : State} {m : MethodId} {args : Array Value} {below : List Frame} {meth : Method} {c : Code} {G : va_G} {ad : Nat → Nat} {d : Nat → ClassId} {A : Nat → Prop} {τ : SY} {p1 : Int32} (C : CX p s m args meth c cX1_isFree 3 RX1 (some .boolean)) (hL : yL τ = nI (yL τ).toNatClampNeg) (h6 : (yL τ).toNatClampNeg ≤ 6) : ∀ (n : Nat) (k : Nat) (x2 : Int32) (rv : Int32) (H : Heap) (locs : List Loc) (ls : Array Slot), k + n = (yL τ).toNatClampNeg → x2 = nI k → rv = lY_isFree_36 τ p1 n x2 → AtY G ad d A s τ H locs → lv_has ls 3 [(0, .ref (ad 0)), (1, .int p1), (2, .int x2)] → W p l e rmZ0 s m args below meth c H locs 0 0 (QYi below G ad d A args s (rv, τ)) (F0 m 36 ls []) := by
  intro n
  induction n with
  | zero =>
    intro k x2 rv H locs ls hk hx hR hH hl
    have hz := (show yL τ ≤ x2 by rw [hL]; exact lp_z hx hk (by omega))
    refine lv_iload_n C.1.1 C.1.2.1 dX1_isFree_36 rfl (lv_at hl 2 rfl) ?_
    refine lv_aload_n C.1.1 C.1.2.1 dX1_isFree_37 rfl (lv_at hl 0 rfl) ?_
    refine getY C hH 4 (by decide) q190 rfl (v := .int (yL τ)) rfl dX1_isFree_38 ?_
    refine lv_icmp_ge (tgt := 62) C.1.1 C.1.2.1 dX1_isFree_41 (by decide) (fun _ => ?_) (fun c => absurd hz c)
    refine lv_iconst (v := 1) C.1.1 C.1.2.1 dX1_isFree_62 (by decide) ?_
    exact retY_z C hH dX1_isFree_63 rfl (congrArg (fun z => (z, τ)) (Eq.trans hR rfl)).symm
  | succ n ih =>
    intro k x2 rv H locs ls hk hx hR hH hl
    have hz := (show ¬ yL τ ≤ x2 by rw [hL]; exact lp_s hx hk (by omega))
    refine lv_iload_n C.1.1 C.1.2.1 dX1_isFree_36 rfl (lv_at hl 2 rfl) ?_
    refine lv_aload_n C.1.1 C.1.2.1 dX1_isFree_37 rfl (lv_at hl 0 rfl) ?_
    refine getY C hH 4 (by decide) q190 rfl (v := .int (yL τ)) rfl dX1_isFree_38 ?_
    refine lv_icmp_ge (tgt := 62) C.1.1 C.1.2.1 dX1_isFree_41 (by decide) (fun c => absurd c hz) (fun _ => ?_)
    refine lv_aload_n C.1.1 C.1.2.1 dX1_isFree_44 rfl (lv_at hl 0 rfl) ?_
    refine getY C hH 3 (by decide) q189 rfl (v := .ref (ad 4)) rfl dX1_isFree_45 ?_
    refine lv_iload_n C.1.1 C.1.2.1 dX1_isFree_48 rfl (lv_at hl 2 rfl) ?_
    refine ildY C hH 4 3 (f := (yBa τ)) rfl rfl dX1_isFree_49 (lp_in hx hk h6 (by decide)) ?_
    refine lv_iload_n C.1.1 C.1.2.1 dX1_isFree_50 rfl (lv_at hl 1 rfl) ?_
    refine lv_icmp_ne (tgt := 56) C.1.1 C.1.2.1 dX1_isFree_51 (by decide) (fun c_51 => ?_) (fun c_51 => ?_)
    · refine lv_iinc (v := (x2 + 1)) (lv' := [(2, .int (x2 + 1)), (0, .ref (ad 0)), (1, .int p1)]) C.1.1 C.1.2.1 dX1_isFree_56 hl (k := 2) rfl rfl (by decide) rfl (fun ls hl => ?_)
      refine lv_goto (tgt := 36) C.1.1 C.1.2.1 dX1_isFree_59 (by decide) ?_
      exact ih (k + 1) (x2 + 1) _ _ _ _ (by omega) (lp_x hx) (Eq.trans hR (tn c_51 rfl)) hH (lv_sub hl [1, 2, 0] rfl)
    · refine lv_iconst (v := 0) C.1.1 C.1.2.1 dX1_isFree_54 (by decide) ?_
      exact retY_z C hH dX1_isFree_55 rfl (congrArg (fun z => (z, τ)) (Eq.trans hR (tp c_51 rfl))).symm
set_option maxHeartbeats 4000000 in
theorem bY_isFree_2 {p : Program} {l : Launch} {e : Env} {s : State} {m : MethodId} {args : Array Value} {below : List Frame} {meth : Method} {c : Code} {G : va_G} {ad : Nat → Nat} {d : Nat → ClassId} {A : Nat → Prop} {τ : SY} {p1 : Int32} (C : CX p s m args meth c cX1_isFree 3 RX1 (some .boolean)) (hL : yL τ = nI (yL τ).toNatClampNeg) (h6 : (yL τ).toNatClampNeg ≤ 6) : ∀ (n : Nat) (k : Nat) (x2 : Int32) (rv : Int32) (H : Heap) (locs : List Loc) (ls : Array Slot), k + n = 4 → x2 = nI k → rv = lY_isFree_2 τ p1 n x2 → AtY G ad d A s τ H locs → lv_has ls 3 [(0, .ref (ad 0)), (1, .int p1), (2, .int x2)] → W p l e rmZ0 s m args below meth c H locs 0 0 (QYi below G ad d A args s (rv, τ)) (F0 m 2 ls []) := by
  intro n
  induction n with
  | zero =>
    intro k x2 rv H locs ls hk hx hR hH hl
    have hz := lp_z (N := 4) hx hk (by decide)
    refine lv_iload_n C.1.1 C.1.2.1 dX1_isFree_2 rfl (lv_at hl 2 rfl) ?_
    refine lv_iconst (v := 4) C.1.1 C.1.2.1 dX1_isFree_3 (by decide) ?_
    refine lv_icmp_ge (tgt := 34) C.1.1 C.1.2.1 dX1_isFree_4 (by decide) (fun _ => ?_) (fun c => absurd hz c)
    refine lv_iconst (v := 0) C.1.1 C.1.2.1 dX1_isFree_34 (by decide) ?_
    refine lv_istore_n (lv' := [(2, .int 0), (0, .ref (ad 0)), (1, .int p1)]) C.1.1 C.1.2.1 dX1_isFree_35 rfl hl (by decide) rfl (fun ls hl => ?_)
    exact bY_isFree_36 C hL h6 (yL τ).toNatClampNeg 0 0 _ _ _ _ (by omega) nI_0.symm (Eq.trans hR rfl) hH (lv_sub hl [1, 2, 0] rfl)
  | succ n ih =>
    intro k x2 rv H locs ls hk hx hR hH hl
    have hz := lp_s (N := 4) hx hk (by decide)
    refine lv_iload_n C.1.1 C.1.2.1 dX1_isFree_2 rfl (lv_at hl 2 rfl) ?_
    refine lv_iconst (v := 4) C.1.1 C.1.2.1 dX1_isFree_3 (by decide) ?_
    refine lv_icmp_ge (tgt := 34) C.1.1 C.1.2.1 dX1_isFree_4 (by decide) (fun c => absurd c hz) (fun _ => ?_)
    refine lv_aload_n C.1.1 C.1.2.1 dX1_isFree_7 rfl (lv_at hl 0 rfl) ?_
    refine getY C hH 5 (by decide) q191 rfl (v := .ref (ad 5)) rfl dX1_isFree_8 ?_
    refine lv_iload_n C.1.1 C.1.2.1 dX1_isFree_11 rfl (lv_at hl 2 rfl) ?_
    refine zldY C hH 5 4 (f := (yUs τ)) rfl rfl dX1_isFree_12 (lp_in hx hk (N := 4) (M := 4) (by decide) (by decide)) ?_
    refine lv_if_eq (tgt := 28) C.1.1 C.1.2.1 dX1_isFree_13 (by decide) (fun c_13 => ?_) (fun c_13 => ?_)
    · refine lv_iinc (v := (x2 + 1)) (lv' := [(2, .int (x2 + 1)), (0, .ref (ad 0)), (1, .int p1)]) C.1.1 C.1.2.1 dX1_isFree_28 hl (k := 2) rfl rfl (by decide) rfl (fun ls hl => ?_)
      refine lv_goto (tgt := 2) C.1.1 C.1.2.1 dX1_isFree_31 (by decide) ?_
      exact ih (k + 1) (x2 + 1) _ _ _ _ (by omega) (lp_x hx) (Eq.trans hR (tp c_13 rfl)) hH (lv_sub hl [1, 2, 0] rfl)
    · refine lv_aload_n C.1.1 C.1.2.1 dX1_isFree_16 rfl (lv_at hl 0 rfl) ?_
      refine getY C hH 6 (by decide) q192 rfl (v := .ref (ad 6)) rfl dX1_isFree_17 ?_
      refine lv_iload_n C.1.1 C.1.2.1 dX1_isFree_20 rfl (lv_at hl 2 rfl) ?_
      refine ildY C hH 6 5 (f := (yBe τ)) rfl rfl dX1_isFree_21 (lp_in hx hk (N := 4) (M := 4) (by decide) (by decide)) ?_
      refine lv_iload_n C.1.1 C.1.2.1 dX1_isFree_22 rfl (lv_at hl 1 rfl) ?_
      refine lv_icmp_ne (tgt := 28) C.1.1 C.1.2.1 dX1_isFree_23 (by decide) (fun c_23 => ?_) (fun c_23 => ?_)
      · refine lv_iinc (v := (x2 + 1)) (lv' := [(2, .int (x2 + 1)), (0, .ref (ad 0)), (1, .int p1)]) C.1.1 C.1.2.1 dX1_isFree_28 hl (k := 2) rfl rfl (by decide) rfl (fun ls hl => ?_)
        refine lv_goto (tgt := 2) C.1.1 C.1.2.1 dX1_isFree_31 (by decide) ?_
        exact ih (k + 1) (x2 + 1) _ _ _ _ (by omega) (lp_x hx) (Eq.trans hR (tn c_13 (tn c_23 rfl))) hH (lv_sub hl [1, 2, 0] rfl)
      · refine lv_iconst (v := 0) C.1.1 C.1.2.1 dX1_isFree_26 (by decide) ?_
        exact retY_z C hH dX1_isFree_27 rfl (congrArg (fun z => (z, τ)) (Eq.trans hR (tn c_13 (tp c_23 rfl)))).symm
set_option maxHeartbeats 4000000 in
theorem mY_isFree (l : Launch) (G : va_G) (ad : Nat → Nat) (d : Nat → ClassId) (τ : SY) (p1 : Int32) (hO : okY τ) : MetYi l yX1_isFree cX1_isFree 3 .boolean rmZ0 [.int p1] G ad d τ ((fY_isFree τ p1), τ) := by
  refine metY_i (by decide +kernel) rfl (Nat.le_of_ble_eq_true rfl) (fun p e s m below meth c A ls C hH hl => ?_)
  have hl : lv_has ls 3 [(0, .ref (ad 0)), (1, .int p1)] := hl
  have hR : (fY_isFree τ p1) = (fY_isFree τ p1) := rfl
  generalize s.heap = H at hH ⊢
  generalize ([] : List Loc) = locs at hH ⊢
  obtain ⟨hL, h1L, h6⟩ := b_nly hO
  refine lv_iconst (v := 0) C.1.1 C.1.2.1 dX1_isFree_0 (by decide) ?_
  refine lv_istore_n (lv' := [(2, .int 0), (0, .ref (ad 0)), (1, .int p1)]) C.1.1 C.1.2.1 dX1_isFree_1 rfl hl (by decide) rfl (fun ls hl => ?_)
  exact bY_isFree_2 C hL h6 4 0 0 _ _ _ _ rfl nI_0.symm (Eq.trans hR rfl) hH (lv_sub hl [1, 2, 0] rfl)
theorem gwY_isFree : GoodIn lw_all (wsV RX1 63 RX1 yX1_isFree (ws_ yX1_isFree cX1_isFree 3 (some .boolean))) := lw_V q292 q294 qs20 q24 q295
theorem hdY_isFree : yX1_isFree.cls = RX1 ∧ yX1_isFree.cls ≠ "java/lang/invoke/MethodHandle" ∧ yX1_isFree.cls ≠ "java/lang/invoke/VarHandle" ∧ (parseMethodDescriptor yX1_isFree.desc).map (fun d => d.parameters.length) = some 1 := by decide +kernel
-- method drop
set_option maxHeartbeats 4000000 in
theorem mY_drop (l : Launch) (G : va_G) (ad : Nat → Nat) (d : Nat → ClassId) (τ : SY)  (hO : okY τ) : MetYi l yX1_drop cX1_drop 1 .int rmZ1 [] G ad d τ (fY_drop τ) := by
  refine metY_i (by decide +kernel) rfl (Nat.le_of_ble_eq_true rfl) (fun p e s m below meth c A ls C hH hl => ?_)
  have hl : lv_has ls 1 [(0, .ref (ad 0))] := hl
  have hR : (fY_drop τ) = (fY_drop τ) := rfl
  generalize s.heap = H at hH ⊢
  generalize ([] : List Loc) = locs at hH ⊢
  refine lv_aload_n C.1.1 C.1.2.1 dX1_drop_0 rfl (lv_at hl 0 rfl) ?_
  refine getY C hH 4 (by decide) q190 rfl (v := .int (yL τ)) rfl dX1_drop_1 ?_
  refine lv_iconst (v := 1) C.1.1 C.1.2.1 dX1_drop_4 (by decide) ?_
  refine lv_icmp_eq (tgt := 21) C.1.1 C.1.2.1 dX1_drop_5 (by decide) (fun c_5 => ?_) (fun c_5 => ?_)
  · refine lv_bipush (v := (-4)) C.1.1 C.1.2.1 dX1_drop_21 (by decide) ?_
    exact retY_i C hH dX1_drop_23 (Eq.trans hR (tp c_5 rfl)).symm
  · refine lv_aload_n C.1.1 C.1.2.1 dX1_drop_8 rfl (lv_at hl 0 rfl) ?_
    refine lv_aload_n C.1.1 C.1.2.1 dX1_drop_9 rfl (lv_at hl 0 rfl) ?_
    refine getY C hH 4 (by decide) q190 rfl (v := .int (yL τ)) rfl dX1_drop_10 ?_
    refine lv_iconst (v := 1) C.1.1 C.1.2.1 dX1_drop_13 (by decide) ?_
    refine lv_isub C.1.1 C.1.2.1 dX1_drop_14 ?_
    refine callY_i C hH (av := [.int ((yL τ) - 1)]) (rest := []) (mY_isFree l G ad d τ ((yL τ) - 1) hO) gwY_isFree hdY_isFree (by decide) rfl hl.1 rfl (Nat.le_of_ble_eq_true rfl) dX1_drop_15 ⟨Nat.zero_le _, Nat.zero_le _⟩ (fun r_ u_ H locs hH hw_ => ?_)
    obtain ⟨rfl, rfl⟩ : (fY_isFree τ ((yL τ) - 1)) = r_ ∧ τ = u_ := ⟨(congrArg Prod.fst hw_).symm, (congrArg Prod.snd hw_).symm⟩
    refine lv_if_ne (tgt := 24) C.1.1 C.1.2.1 dX1_drop_18 (by decide) (fun c_18 => ?_) (fun c_18 => ?_)
    · refine lv_aload_n C.1.1 C.1.2.1 dX1_drop_24 rfl (lv_at hl 0 rfl) ?_
      refine lv_dup C.1.1 C.1.2.1 dX1_drop_25 rfl ?_
      refine getY C hH 4 (by decide) q190 rfl (v := .int (yL τ)) rfl dX1_drop_26 ?_
      refine lv_iconst (v := 1) C.1.1 C.1.2.1 dX1_drop_29 (by decide) ?_
      refine lv_isub C.1.1 C.1.2.1 dX1_drop_30 ?_
      have hH := AtY.eta hH
      refine putY C hH q190 dX1_drop_31 (fun H locs hH => ?_)
      refine lv_aload_n C.1.1 C.1.2.1 dX1_drop_34 rfl (lv_at hl 0 rfl) ?_
      refine getYt C hH q190 dX1_drop_35 ?_
      exact retY_i C hH dX1_drop_38 (Eq.trans hR (tn c_5 (tn c_18 rfl))).symm
    · refine lv_bipush (v := (-4)) C.1.1 C.1.2.1 dX1_drop_21 (by decide) ?_
      exact retY_i C hH dX1_drop_23 (Eq.trans hR (tn c_5 (tp c_18 rfl))).symm
-- method layers
set_option maxHeartbeats 4000000 in
theorem mY_layers (l : Launch) (G : va_G) (ad : Nat → Nat) (d : Nat → ClassId) (τ : SY)   : MetYi l yX1_layers cX1_layers 1 .int rmZ0 [] G ad d τ ((fY_layers τ), τ) := by
  refine metY_i (by decide +kernel) rfl (Nat.le_of_ble_eq_true rfl) (fun p e s m below meth c A ls C hH hl => ?_)
  have hl : lv_has ls 1 [(0, .ref (ad 0))] := hl
  have hR : (fY_layers τ) = (fY_layers τ) := rfl
  generalize s.heap = H at hH ⊢
  generalize ([] : List Loc) = locs at hH ⊢
  refine lv_aload_n C.1.1 C.1.2.1 dX1_layers_0 rfl (lv_at hl 0 rfl) ?_
  refine getY C hH 4 (by decide) q190 rfl (v := .int (yL τ)) rfl dX1_layers_1 ?_
  exact retY_i C hH dX1_layers_4 (congrArg (fun z => (z, τ)) (Eq.trans hR rfl)).symm
-- method base
set_option maxHeartbeats 4000000 in
theorem mY_base (l : Launch) (G : va_G) (ad : Nat → Nat) (d : Nat → ClassId) (τ : SY) (p1 : Int32) (hO : okY τ) : MetYi l yX1_base cX1_base 2 .int rmZ1 [.int p1] G ad d τ ((fY_base τ p1), τ) := by
  refine metY_i (by decide +kernel) rfl (Nat.le_of_ble_eq_true rfl) (fun p e s m below meth c A ls C hH hl => ?_)
  have hl : lv_has ls 2 [(0, .ref (ad 0)), (1, .int p1)] := hl
  have hR : (fY_base τ p1) = (fY_base τ p1) := rfl
  generalize s.heap = H at hH ⊢
  generalize ([] : List Loc) = locs at hH ⊢
  refine lv_aload_n C.1.1 C.1.2.1 dX1_base_0 rfl (lv_at hl 0 rfl) ?_
  refine lv_iload_n C.1.1 C.1.2.1 dX1_base_1 rfl (lv_at hl 1 rfl) ?_
  refine callY_i C hH (av := [.int p1]) (rest := []) (mY_isLayer l G ad d τ p1 ) gwY_isLayer hdY_isLayer (by decide) rfl hl.1 rfl (Nat.le_of_ble_eq_true rfl) dX1_base_2 ⟨Nat.zero_le _, Nat.zero_le _⟩ (fun r_ u_ H locs hH hw_ => ?_)
  obtain ⟨rfl, rfl⟩ : (fY_isLayer τ p1) = r_ ∧ τ = u_ := ⟨(congrArg Prod.fst hw_).symm, (congrArg Prod.snd hw_).symm⟩
  refine lv_if_eq (tgt := 17) C.1.1 C.1.2.1 dX1_base_5 (by decide) (fun c_5 => ?_) (fun c_5 => ?_)
  · refine lv_bipush (v := (-4)) C.1.1 C.1.2.1 dX1_base_17 (by decide) ?_
    exact retY_i C hH dX1_base_19 (congrArg (fun z => (z, τ)) (Eq.trans hR (tp c_5 rfl))).symm
  · refine lv_aload_n C.1.1 C.1.2.1 dX1_base_8 rfl (lv_at hl 0 rfl) ?_
    refine getY C hH 3 (by decide) q189 rfl (v := .ref (ad 4)) rfl dX1_base_9 ?_
    refine lv_iload_n C.1.1 C.1.2.1 dX1_base_12 rfl (lv_at hl 1 rfl) ?_
    refine ildY C hH 4 3 (f := (yBa τ)) rfl rfl dX1_base_13 (b_isl hO c_5) ?_
    refine lv_goto (tgt := 19) C.1.1 C.1.2.1 dX1_base_14 (by decide) ?_
    exact retY_i C hH dX1_base_19 (congrArg (fun z => (z, τ)) (Eq.trans hR (tn c_5 rfl))).symm
-- method differing
set_option maxHeartbeats 4000000 in
theorem bY_differing_5 {p : Program} {l : Launch} {e : Env} {s : State} {m : MethodId} {args : Array Value} {below : List Frame} {meth : Method} {c : Code} {G : va_G} {ad : Nat → Nat} {d : Nat → ClassId} {A : Nat → Prop} {τ : SY} {p1 : Int32} {p2 : Int32} (C : CX p s m args meth c cX1_differing 6 RX1 (some .int)) (h1 : vp_in p1 10) (h2 : vp_in p2 10) : ∀ (n : Nat) (k : Nat) (x3 : Int32) (x4 : Int32) (rv : Int32) (H : Heap) (locs : List Loc) (ls : Array Slot), k + n = 8 → x4 = nI k → rv = lY_differing_5 τ p1 p2 n x3 x4 → AtY G ad d A s τ H locs → lv_has ls 6 [(0, .ref (ad 0)), (1, .int p1), (2, .int p2), (3, .int x3), (4, .int x4)] → W p l e rmZ1 s m args below meth c H locs 0 0 (QYi below G ad d A args s (rv, τ)) (F0 m 5 ls []) := by
  intro n
  induction n with
  | zero =>
    intro k x3 x4 rv H locs ls hk hx hR hH hl
    have hz := lp_z (N := 8) hx hk (by decide)
    refine lv_iload C.1.1 C.1.2.1 dX1_differing_5 (lv_at hl 4 rfl) ?_
    refine lv_bipush (v := 8) C.1.1 C.1.2.1 dX1_differing_7 (by decide) ?_
    refine lv_icmp_ge (tgt := 95) C.1.1 C.1.2.1 dX1_differing_9 (by decide) (fun _ => ?_) (fun c => absurd hz c)
    refine lv_iload_n C.1.1 C.1.2.1 dX1_differing_95 rfl (lv_at hl 3 rfl) ?_
    exact retY_i C hH dX1_differing_96 (congrArg (fun z => (z, τ)) (Eq.trans hR rfl)).symm
  | succ n ih =>
    intro k x3 x4 rv H locs ls hk hx hR hH hl
    have hz := lp_s (N := 8) hx hk (by decide)
    refine lv_iload C.1.1 C.1.2.1 dX1_differing_5 (lv_at hl 4 rfl) ?_
    refine lv_bipush (v := 8) C.1.1 C.1.2.1 dX1_differing_7 (by decide) ?_
    refine lv_icmp_ge (tgt := 95) C.1.1 C.1.2.1 dX1_differing_9 (by decide) (fun c => absurd c hz) (fun _ => ?_)
    refine lv_aload_n C.1.1 C.1.2.1 dX1_differing_12 rfl (lv_at hl 0 rfl) ?_
    refine lv_iload_n C.1.1 C.1.2.1 dX1_differing_13 rfl (lv_at hl 1 rfl) ?_
    refine lv_iload C.1.1 C.1.2.1 dX1_differing_14 (lv_at hl 4 rfl) ?_
    refine callY_i C hH (av := [.int p1, .int x4]) (rest := []) (mY_has l G ad d τ p1 x4 h1) gwY_has hdY_has (by decide) rfl hl.1 rfl (Nat.le_of_ble_eq_true rfl) dX1_differing_16 ⟨Nat.zero_le _, Nat.zero_le _⟩ (fun r_ u_ H locs hH hw_ => ?_)
    obtain ⟨rfl, rfl⟩ : (fY_has τ p1 x4) = r_ ∧ τ = u_ := ⟨(congrArg Prod.fst hw_).symm, (congrArg Prod.snd hw_).symm⟩
    refine lv_aload_n C.1.1 C.1.2.1 dX1_differing_19 rfl (lv_at hl 0 rfl) ?_
    refine lv_iload_n C.1.1 C.1.2.1 dX1_differing_20 rfl (lv_at hl 2 rfl) ?_
    refine lv_iload C.1.1 C.1.2.1 dX1_differing_21 (lv_at hl 4 rfl) ?_
    refine callY_i C hH (av := [.int p2, .int x4]) (rest := [.int (fY_has τ p1 x4)]) (mY_has l G ad d τ p2 x4 h2) gwY_has hdY_has (by decide) rfl hl.1 rfl (Nat.le_of_ble_eq_true rfl) dX1_differing_23 ⟨Nat.zero_le _, Nat.zero_le _⟩ (fun r_ u_ H locs hH hw_ => ?_)
    obtain ⟨rfl, rfl⟩ : (fY_has τ p2 x4) = r_ ∧ τ = u_ := ⟨(congrArg Prod.fst hw_).symm, (congrArg Prod.snd hw_).symm⟩
    refine lv_icmp_ne (tgt := 66) C.1.1 C.1.2.1 dX1_differing_26 (by decide) (fun c_26 => ?_) (fun c_26 => ?_)
    · refine lv_iconst (v := 1) C.1.1 C.1.2.1 dX1_differing_66 (by decide) ?_
      refine lv_goto (tgt := 71) C.1.1 C.1.2.1 dX1_differing_67 (by decide) ?_
      refine lv_istore (lv' := [(5, .int 1), (0, .ref (ad 0)), (1, .int p1), (2, .int p2), (3, .int x3), (4, .int x4)]) C.1.1 C.1.2.1 dX1_differing_71 hl (by decide) rfl (fun ls hl => ?_)
      refine lv_iload C.1.1 C.1.2.1 dX1_differing_73 (lv_at hl 0 rfl) ?_
      refine lv_if_eq (tgt := 87) C.1.1 C.1.2.1 dX1_differing_75 (by decide) (fun c => absurd c (by decide)) (fun _ => ?_)
      refine lv_iload_n C.1.1 C.1.2.1 dX1_differing_78 rfl (lv_at hl 4 rfl) ?_
      refine lv_iconst (v := 1) C.1.1 C.1.2.1 dX1_differing_79 (by decide) ?_
      refine lv_iload C.1.1 C.1.2.1 dX1_differing_80 (lv_at hl 5 rfl) ?_
      refine lv_ishl C.1.1 C.1.2.1 dX1_differing_82 ?_
      refine lv_ior C.1.1 C.1.2.1 dX1_differing_83 ?_
      refine lv_goto (tgt := 88) C.1.1 C.1.2.1 dX1_differing_84 (by decide) ?_
      refine lv_istore_n (lv' := [(3, .int (x3 ||| ((1 : Int32) <<< (x4 &&& 31)))), (5, .int 1), (0, .ref (ad 0)), (1, .int p1), (2, .int p2), (4, .int x4)]) C.1.1 C.1.2.1 dX1_differing_88 rfl hl (by decide) rfl (fun ls hl => ?_)
      refine lv_iinc (v := (x4 + 1)) (lv' := [(4, .int (x4 + 1)), (3, .int (x3 ||| ((1 : Int32) <<< (x4 &&& 31)))), (5, .int 1), (0, .ref (ad 0)), (1, .int p1), (2, .int p2)]) C.1.1 C.1.2.1 dX1_differing_89 hl (k := 5) rfl rfl (by decide) rfl (fun ls hl => ?_)
      refine lv_goto (tgt := 5) C.1.1 C.1.2.1 dX1_differing_92 (by decide) ?_
      exact ih (k + 1) (x3 ||| ((1 : Int32) <<< (x4 &&& 31))) (x4 + 1) _ _ _ _ (by omega) (lp_x hx) (Eq.trans hR (tn c_26 rfl)) hH (lv_sub hl [3, 4, 5, 1, 0] rfl)
    · refine lv_aload_n C.1.1 C.1.2.1 dX1_differing_29 rfl (lv_at hl 0 rfl) ?_
      refine lv_iload_n C.1.1 C.1.2.1 dX1_differing_30 rfl (lv_at hl 1 rfl) ?_
      refine lv_iload C.1.1 C.1.2.1 dX1_differing_31 (lv_at hl 4 rfl) ?_
      refine callY_i C hH (av := [.int p1, .int x4]) (rest := []) (mY_has l G ad d τ p1 x4 h1) gwY_has hdY_has (by decide) rfl hl.1 rfl (Nat.le_of_ble_eq_true rfl) dX1_differing_33 ⟨Nat.zero_le _, Nat.zero_le _⟩ (fun r_ u_ H locs hH hw_ => ?_)
      obtain ⟨rfl, rfl⟩ : (fY_has τ p1 x4) = r_ ∧ τ = u_ := ⟨(congrArg Prod.fst hw_).symm, (congrArg Prod.snd hw_).symm⟩
      refine lv_if_eq (tgt := 70) C.1.1 C.1.2.1 dX1_differing_36 (by decide) (fun c_36 => ?_) (fun c_36 => ?_)
      · refine lv_iconst (v := 0) C.1.1 C.1.2.1 dX1_differing_70 (by decide) ?_
        refine lv_istore (lv' := [(5, .int 0), (0, .ref (ad 0)), (1, .int p1), (2, .int p2), (3, .int x3), (4, .int x4)]) C.1.1 C.1.2.1 dX1_differing_71 hl (by decide) rfl (fun ls hl => ?_)
        refine lv_iload C.1.1 C.1.2.1 dX1_differing_73 (lv_at hl 0 rfl) ?_
        refine lv_if_eq (tgt := 87) C.1.1 C.1.2.1 dX1_differing_75 (by decide) (fun _ => ?_) (fun c => absurd (by decide) c)
        refine lv_iload_n C.1.1 C.1.2.1 dX1_differing_87 rfl (lv_at hl 4 rfl) ?_
        refine lv_istore_n (lv' := [(3, .int x3), (5, .int 0), (0, .ref (ad 0)), (1, .int p1), (2, .int p2), (4, .int x4)]) C.1.1 C.1.2.1 dX1_differing_88 rfl hl (by decide) rfl (fun ls hl => ?_)
        refine lv_iinc (v := (x4 + 1)) (lv' := [(4, .int (x4 + 1)), (3, .int x3), (5, .int 0), (0, .ref (ad 0)), (1, .int p1), (2, .int p2)]) C.1.1 C.1.2.1 dX1_differing_89 hl (k := 5) rfl rfl (by decide) rfl (fun ls hl => ?_)
        refine lv_goto (tgt := 5) C.1.1 C.1.2.1 dX1_differing_92 (by decide) ?_
        exact ih (k + 1) x3 (x4 + 1) _ _ _ _ (by omega) (lp_x hx) (Eq.trans hR (tp c_26 (tp c_36 rfl))) hH (lv_sub hl [3, 4, 5, 1, 0] rfl)
      · refine lv_aload_n C.1.1 C.1.2.1 dX1_differing_39 rfl (lv_at hl 0 rfl) ?_
        refine getY C hH 2 (by decide) q188 rfl (v := .ref (ad 3)) rfl dX1_differing_40 ?_
        refine lv_bipush (v := 8) C.1.1 C.1.2.1 dX1_differing_43 (by decide) ?_
        refine lv_iload_n C.1.1 C.1.2.1 dX1_differing_45 rfl (lv_at hl 1 rfl) ?_
        refine lv_imul C.1.1 C.1.2.1 dX1_differing_46 ?_
        refine lv_iload C.1.1 C.1.2.1 dX1_differing_47 (lv_at hl 4 rfl) ?_
        refine lv_iadd C.1.1 C.1.2.1 dX1_differing_49 ?_
        refine ildY C hH 3 2 (f := (yCo τ)) rfl rfl dX1_differing_50 (b_ct2 h1 (lp_in hx hk (N := 8) (M := 8) (by decide) (by decide))) ?_
        refine lv_aload_n C.1.1 C.1.2.1 dX1_differing_51 rfl (lv_at hl 0 rfl) ?_
        refine getY C hH 2 (by decide) q188 rfl (v := .ref (ad 3)) rfl dX1_differing_52 ?_
        refine lv_bipush (v := 8) C.1.1 C.1.2.1 dX1_differing_55 (by decide) ?_
        refine lv_iload_n C.1.1 C.1.2.1 dX1_differing_57 rfl (lv_at hl 2 rfl) ?_
        refine lv_imul C.1.1 C.1.2.1 dX1_differing_58 ?_
        refine lv_iload C.1.1 C.1.2.1 dX1_differing_59 (lv_at hl 4 rfl) ?_
        refine lv_iadd C.1.1 C.1.2.1 dX1_differing_61 ?_
        refine ildY C hH 3 2 (f := (yCo τ)) rfl rfl dX1_differing_62 (b_ct2 h2 (lp_in hx hk (N := 8) (M := 8) (by decide) (by decide))) ?_
        refine lv_icmp_eq (tgt := 70) C.1.1 C.1.2.1 dX1_differing_63 (by decide) (fun c_63 => ?_) (fun c_63 => ?_)
        · refine lv_iconst (v := 0) C.1.1 C.1.2.1 dX1_differing_70 (by decide) ?_
          refine lv_istore (lv' := [(5, .int 0), (0, .ref (ad 0)), (1, .int p1), (2, .int p2), (3, .int x3), (4, .int x4)]) C.1.1 C.1.2.1 dX1_differing_71 hl (by decide) rfl (fun ls hl => ?_)
          refine lv_iload C.1.1 C.1.2.1 dX1_differing_73 (lv_at hl 0 rfl) ?_
          refine lv_if_eq (tgt := 87) C.1.1 C.1.2.1 dX1_differing_75 (by decide) (fun _ => ?_) (fun c => absurd (by decide) c)
          refine lv_iload_n C.1.1 C.1.2.1 dX1_differing_87 rfl (lv_at hl 4 rfl) ?_
          refine lv_istore_n (lv' := [(3, .int x3), (5, .int 0), (0, .ref (ad 0)), (1, .int p1), (2, .int p2), (4, .int x4)]) C.1.1 C.1.2.1 dX1_differing_88 rfl hl (by decide) rfl (fun ls hl => ?_)
          refine lv_iinc (v := (x4 + 1)) (lv' := [(4, .int (x4 + 1)), (3, .int x3), (5, .int 0), (0, .ref (ad 0)), (1, .int p1), (2, .int p2)]) C.1.1 C.1.2.1 dX1_differing_89 hl (k := 5) rfl rfl (by decide) rfl (fun ls hl => ?_)
          refine lv_goto (tgt := 5) C.1.1 C.1.2.1 dX1_differing_92 (by decide) ?_
          exact ih (k + 1) x3 (x4 + 1) _ _ _ _ (by omega) (lp_x hx) (Eq.trans hR (tp c_26 (tn c_36 (tp c_63 rfl)))) hH (lv_sub hl [3, 4, 5, 1, 0] rfl)
        · refine lv_iconst (v := 1) C.1.1 C.1.2.1 dX1_differing_66 (by decide) ?_
          refine lv_goto (tgt := 71) C.1.1 C.1.2.1 dX1_differing_67 (by decide) ?_
          refine lv_istore (lv' := [(5, .int 1), (0, .ref (ad 0)), (1, .int p1), (2, .int p2), (3, .int x3), (4, .int x4)]) C.1.1 C.1.2.1 dX1_differing_71 hl (by decide) rfl (fun ls hl => ?_)
          refine lv_iload C.1.1 C.1.2.1 dX1_differing_73 (lv_at hl 0 rfl) ?_
          refine lv_if_eq (tgt := 87) C.1.1 C.1.2.1 dX1_differing_75 (by decide) (fun c => absurd c (by decide)) (fun _ => ?_)
          refine lv_iload_n C.1.1 C.1.2.1 dX1_differing_78 rfl (lv_at hl 4 rfl) ?_
          refine lv_iconst (v := 1) C.1.1 C.1.2.1 dX1_differing_79 (by decide) ?_
          refine lv_iload C.1.1 C.1.2.1 dX1_differing_80 (lv_at hl 5 rfl) ?_
          refine lv_ishl C.1.1 C.1.2.1 dX1_differing_82 ?_
          refine lv_ior C.1.1 C.1.2.1 dX1_differing_83 ?_
          refine lv_goto (tgt := 88) C.1.1 C.1.2.1 dX1_differing_84 (by decide) ?_
          refine lv_istore_n (lv' := [(3, .int (x3 ||| ((1 : Int32) <<< (x4 &&& 31)))), (5, .int 1), (0, .ref (ad 0)), (1, .int p1), (2, .int p2), (4, .int x4)]) C.1.1 C.1.2.1 dX1_differing_88 rfl hl (by decide) rfl (fun ls hl => ?_)
          refine lv_iinc (v := (x4 + 1)) (lv' := [(4, .int (x4 + 1)), (3, .int (x3 ||| ((1 : Int32) <<< (x4 &&& 31)))), (5, .int 1), (0, .ref (ad 0)), (1, .int p1), (2, .int p2)]) C.1.1 C.1.2.1 dX1_differing_89 hl (k := 5) rfl rfl (by decide) rfl (fun ls hl => ?_)
          refine lv_goto (tgt := 5) C.1.1 C.1.2.1 dX1_differing_92 (by decide) ?_
          exact ih (k + 1) (x3 ||| ((1 : Int32) <<< (x4 &&& 31))) (x4 + 1) _ _ _ _ (by omega) (lp_x hx) (Eq.trans hR (tp c_26 (tn c_36 (tn c_63 rfl)))) hH (lv_sub hl [3, 4, 5, 1, 0] rfl)
set_option maxHeartbeats 4000000 in
theorem mY_differing (l : Launch) (G : va_G) (ad : Nat → Nat) (d : Nat → ClassId) (τ : SY) (p1 : Int32) (p2 : Int32) (h1 : vp_in p1 10) (h2 : vp_in p2 10) : MetYi l yX1_differing cX1_differing 6 .int rmZ1 [.int p1, .int p2] G ad d τ ((fY_differing τ p1 p2), τ) := by
  refine metY_i (by decide +kernel) rfl (Nat.le_of_ble_eq_true rfl) (fun p e s m below meth c A ls C hH hl => ?_)
  have hl : lv_has ls 6 [(0, .ref (ad 0)), (1, .int p1), (2, .int p2)] := hl
  have hR : (fY_differing τ p1 p2) = (fY_differing τ p1 p2) := rfl
  generalize s.heap = H at hH ⊢
  generalize ([] : List Loc) = locs at hH ⊢
  refine lv_iconst (v := 0) C.1.1 C.1.2.1 dX1_differing_0 (by decide) ?_
  refine lv_istore_n (lv' := [(3, .int 0), (0, .ref (ad 0)), (1, .int p1), (2, .int p2)]) C.1.1 C.1.2.1 dX1_differing_1 rfl hl (by decide) rfl (fun ls hl => ?_)
  refine lv_iconst (v := 0) C.1.1 C.1.2.1 dX1_differing_2 (by decide) ?_
  refine lv_istore (lv' := [(4, .int 0), (3, .int 0), (0, .ref (ad 0)), (1, .int p1), (2, .int p2)]) C.1.1 C.1.2.1 dX1_differing_3 hl (by decide) rfl (fun ls hl => ?_)
  exact bY_differing_5 C h1 h2 8 0 0 0 _ _ _ _ rfl nI_0.symm (Eq.trans hR rfl) hH (lv_sub hl [2, 3, 4, 1, 0] rfl)
theorem gwY_differing : GoodIn lw_all (wsV RX1 66 RX1 yX1_differing (ws_ yX1_differing cX1_differing 6 (some .int))) := lw_V q308 q310 qs21 q24 q311
theorem hdY_differing : yX1_differing.cls = RX1 ∧ yX1_differing.cls ≠ "java/lang/invoke/MethodHandle" ∧ yX1_differing.cls ≠ "java/lang/invoke/VarHandle" ∧ (parseMethodDescriptor yX1_differing.desc).map (fun d => d.parameters.length) = some 2 := by decide +kernel
-- method changes
set_option maxHeartbeats 4000000 in
theorem bY_changes_33 {p : Program} {l : Launch} {e : Env} {s : State} {m : MethodId} {args : Array Value} {below : List Frame} {meth : Method} {c : Code} {G : va_G} {ad : Nat → Nat} {d : Nat → ClassId} {A : Nat → Prop} {τ : SY} {p1 : Int32} (C : CX p s m args meth c cX1_changes 6 RX1 (some .int))  : ∀ (n : Nat) (k : Nat) (x4 : Int32) (x5 : Int32) (rv : Int32) (H : Heap) (locs : List Loc) (ls : Array Slot), k + n = 8 → x5 = nI k → rv = lY_changes_33 τ p1 n x4 x5 → AtY G ad d A s τ H locs → lv_has ls 6 [(0, .ref (ad 0)), (3, .int (fY_differing τ (6 + p1) ((yBe τ) p1.toNatClampNeg))), (4, .int x4), (5, .int x5)] → W p l e rmZ2 s m args below meth c H locs 0 0 (QYi below G ad d A args s (rv, τ)) (F0 m 33 ls []) := by
  intro n
  induction n with
  | zero =>
    intro k x4 x5 rv H locs ls hk hx hR hH hl
    have hz := lp_z (N := 8) hx hk (by decide)
    refine lv_iload C.1.1 C.1.2.1 dX1_changes_33 (lv_at hl 3 rfl) ?_
    refine lv_bipush (v := 8) C.1.1 C.1.2.1 dX1_changes_35 (by decide) ?_
    refine lv_icmp_ge (tgt := 57) C.1.1 C.1.2.1 dX1_changes_37 (by decide) (fun _ => ?_) (fun c => absurd hz c)
    refine lv_iload C.1.1 C.1.2.1 dX1_changes_57 (lv_at hl 2 rfl) ?_
    exact retY_i C hH dX1_changes_59 (congrArg (fun z => (z, τ)) (Eq.trans hR rfl)).symm
  | succ n ih =>
    intro k x4 x5 rv H locs ls hk hx hR hH hl
    have hz := lp_s (N := 8) hx hk (by decide)
    refine lv_iload C.1.1 C.1.2.1 dX1_changes_33 (lv_at hl 3 rfl) ?_
    refine lv_bipush (v := 8) C.1.1 C.1.2.1 dX1_changes_35 (by decide) ?_
    refine lv_icmp_ge (tgt := 57) C.1.1 C.1.2.1 dX1_changes_37 (by decide) (fun c => absurd c hz) (fun _ => ?_)
    refine lv_iload C.1.1 C.1.2.1 dX1_changes_40 (lv_at hl 2 rfl) ?_
    refine lv_iload_n C.1.1 C.1.2.1 dX1_changes_42 rfl (lv_at hl 1 rfl) ?_
    refine lv_iload C.1.1 C.1.2.1 dX1_changes_43 (lv_at hl 3 rfl) ?_
    refine lv_ishr C.1.1 C.1.2.1 dX1_changes_45 ?_
    refine lv_iconst (v := 1) C.1.1 C.1.2.1 dX1_changes_46 (by decide) ?_
    refine lv_iand C.1.1 C.1.2.1 dX1_changes_47 ?_
    refine lv_iadd C.1.1 C.1.2.1 dX1_changes_48 ?_
    refine lv_istore (lv' := [(4, .int (x4 + (((fY_differing τ (6 + p1) ((yBe τ) p1.toNatClampNeg)) >>> (x5 &&& 31)) &&& 1))), (0, .ref (ad 0)), (3, .int (fY_differing τ (6 + p1) ((yBe τ) p1.toNatClampNeg))), (5, .int x5)]) C.1.1 C.1.2.1 dX1_changes_49 hl (by decide) rfl (fun ls hl => ?_)
    refine lv_iinc (v := (x5 + 1)) (lv' := [(5, .int (x5 + 1)), (4, .int (x4 + (((fY_differing τ (6 + p1) ((yBe τ) p1.toNatClampNeg)) >>> (x5 &&& 31)) &&& 1))), (0, .ref (ad 0)), (3, .int (fY_differing τ (6 + p1) ((yBe τ) p1.toNatClampNeg)))]) C.1.1 C.1.2.1 dX1_changes_51 hl (k := 3) rfl rfl (by decide) rfl (fun ls hl => ?_)
    refine lv_goto (tgt := 33) C.1.1 C.1.2.1 dX1_changes_54 (by decide) ?_
    exact ih (k + 1) (x4 + (((fY_differing τ (6 + p1) ((yBe τ) p1.toNatClampNeg)) >>> (x5 &&& 31)) &&& 1)) (x5 + 1) _ _ _ _ (by omega) (lp_x hx) (Eq.trans hR rfl) hH (lv_sub hl [2, 3, 1, 0] rfl)
set_option maxHeartbeats 4000000 in
theorem mY_changes (l : Launch) (G : va_G) (ad : Nat → Nat) (d : Nat → ClassId) (τ : SY) (p1 : Int32) (hO : okY τ) : MetYi l yX1_changes cX1_changes 6 .int rmZ2 [.int p1] G ad d τ ((fY_changes τ p1), τ) := by
  refine metY_i (by decide +kernel) rfl (Nat.le_of_ble_eq_true rfl) (fun p e s m below meth c A ls C hH hl => ?_)
  have hl : lv_has ls 6 [(0, .ref (ad 0)), (1, .int p1)] := hl
  have hR : (fY_changes τ p1) = (fY_changes τ p1) := rfl
  generalize s.heap = H at hH ⊢
  generalize ([] : List Loc) = locs at hH ⊢
  refine lv_aload_n C.1.1 C.1.2.1 dX1_changes_0 rfl (lv_at hl 0 rfl) ?_
  refine lv_iload_n C.1.1 C.1.2.1 dX1_changes_1 rfl (lv_at hl 1 rfl) ?_
  refine callY_i C hH (av := [.int p1]) (rest := []) (mY_test l G ad d τ p1 ) gwY_test hdY_test (by decide) rfl hl.1 rfl (Nat.le_of_ble_eq_true rfl) dX1_changes_2 ⟨Nat.zero_le _, Nat.zero_le _⟩ (fun r_ u_ H locs hH hw_ => ?_)
  obtain ⟨rfl, rfl⟩ : (fY_test τ p1) = r_ ∧ τ = u_ := ⟨(congrArg Prod.fst hw_).symm, (congrArg Prod.snd hw_).symm⟩
  refine lv_istore_n (lv' := [(2, .int (fY_test τ p1)), (0, .ref (ad 0)), (1, .int p1)]) C.1.1 C.1.2.1 dX1_changes_5 rfl hl (by decide) rfl (fun ls hl => ?_)
  refine lv_iload_n C.1.1 C.1.2.1 dX1_changes_6 rfl (lv_at hl 0 rfl) ?_
  refine lv_if_eq (tgt := 12) C.1.1 C.1.2.1 dX1_changes_7 (by decide) (fun c_7 => ?_) (fun c_7 => ?_)
  · have hm : vp_in p1 4 := b_test c_7
    have ht : vp_in (6 + p1) 10 := b_top hm
    refine lv_aload_n C.1.1 C.1.2.1 dX1_changes_12 rfl (lv_at hl 1 rfl) ?_
    refine lv_bipush (v := 6) C.1.1 C.1.2.1 dX1_changes_13 (by decide) ?_
    refine lv_iload_n C.1.1 C.1.2.1 dX1_changes_15 rfl (lv_at hl 2 rfl) ?_
    refine lv_iadd C.1.1 C.1.2.1 dX1_changes_16 ?_
    refine lv_aload_n C.1.1 C.1.2.1 dX1_changes_17 rfl (lv_at hl 1 rfl) ?_
    refine getY C hH 6 (by decide) q192 rfl (v := .ref (ad 6)) rfl dX1_changes_18 ?_
    refine lv_iload_n C.1.1 C.1.2.1 dX1_changes_21 rfl (lv_at hl 2 rfl) ?_
    refine ildY C hH 6 5 (f := (yBe τ)) rfl rfl dX1_changes_22 hm ?_
    refine callY_i C hH (av := [.int (6 + p1), .int ((yBe τ) p1.toNatClampNeg)]) (rest := []) (mY_differing l G ad d τ (6 + p1) ((yBe τ) p1.toNatClampNeg) ht (hO.2.2 _ (b_cl hm))) gwY_differing hdY_differing (by decide) rfl hl.1 rfl (Nat.le_of_ble_eq_true rfl) dX1_changes_23 ⟨Nat.zero_le _, Nat.zero_le _⟩ (fun r_ u_ H locs hH hw_ => ?_)
    obtain ⟨rfl, rfl⟩ : (fY_differing τ (6 + p1) ((yBe τ) p1.toNatClampNeg)) = r_ ∧ τ = u_ := ⟨(congrArg Prod.fst hw_).symm, (congrArg Prod.snd hw_).symm⟩
    refine lv_istore_n (lv' := [(3, .int (fY_differing τ (6 + p1) ((yBe τ) p1.toNatClampNeg))), (2, .int (fY_test τ p1)), (0, .ref (ad 0)), (1, .int p1)]) C.1.1 C.1.2.1 dX1_changes_26 rfl hl (by decide) rfl (fun ls hl => ?_)
    refine lv_iconst (v := 0) C.1.1 C.1.2.1 dX1_changes_27 (by decide) ?_
    refine lv_istore (lv' := [(4, .int 0), (3, .int (fY_differing τ (6 + p1) ((yBe τ) p1.toNatClampNeg))), (2, .int (fY_test τ p1)), (0, .ref (ad 0)), (1, .int p1)]) C.1.1 C.1.2.1 dX1_changes_28 hl (by decide) rfl (fun ls hl => ?_)
    refine lv_iconst (v := 0) C.1.1 C.1.2.1 dX1_changes_30 (by decide) ?_
    refine lv_istore (lv' := [(5, .int 0), (4, .int 0), (3, .int (fY_differing τ (6 + p1) ((yBe τ) p1.toNatClampNeg))), (2, .int (fY_test τ p1)), (0, .ref (ad 0)), (1, .int p1)]) C.1.1 C.1.2.1 dX1_changes_31 hl (by decide) rfl (fun ls hl => ?_)
    exact bY_changes_33 C  8 0 0 0 _ _ _ _ rfl nI_0.symm (Eq.trans hR (tp c_7 rfl)) hH (lv_sub hl [4, 2, 1, 0] rfl)
  · refine lv_iload_n C.1.1 C.1.2.1 dX1_changes_10 rfl (lv_at hl 0 rfl) ?_
    exact retY_i C hH dX1_changes_11 (congrArg (fun z => (z, τ)) (Eq.trans hR (tn c_7 rfl))).symm
-- method compare
set_option maxHeartbeats 4000000 in
theorem mY_compare (l : Launch) (G : va_G) (ad : Nat → Nat) (d : Nat → ClassId) (τ : SY) (p1 : Int32) (p2 : Int32) (hO : okY τ) : MetYi l yX1_compare cX1_compare 3 .int rmZ2 [.int p1, .int p2] G ad d τ ((fY_compare τ p1 p2), τ) := by
  refine metY_i (by decide +kernel) rfl (Nat.le_of_ble_eq_true rfl) (fun p e s m below meth c A ls C hH hl => ?_)
  have hl : lv_has ls 3 [(0, .ref (ad 0)), (1, .int p1), (2, .int p2)] := hl
  have hR : (fY_compare τ p1 p2) = (fY_compare τ p1 p2) := rfl
  generalize s.heap = H at hH ⊢
  generalize ([] : List Loc) = locs at hH ⊢
  refine lv_aload_n C.1.1 C.1.2.1 dX1_compare_0 rfl (lv_at hl 0 rfl) ?_
  refine lv_iload_n C.1.1 C.1.2.1 dX1_compare_1 rfl (lv_at hl 1 rfl) ?_
  refine callY_i C hH (av := [.int p1]) (rest := []) (mY_isLayer l G ad d τ p1 ) gwY_isLayer hdY_isLayer (by decide) rfl hl.1 rfl (Nat.le_of_ble_eq_true rfl) dX1_compare_2 ⟨Nat.zero_le _, Nat.zero_le _⟩ (fun r_ u_ H locs hH hw_ => ?_)
  obtain ⟨rfl, rfl⟩ : (fY_isLayer τ p1) = r_ ∧ τ = u_ := ⟨(congrArg Prod.fst hw_).symm, (congrArg Prod.snd hw_).symm⟩
  refine lv_if_eq (tgt := 25) C.1.1 C.1.2.1 dX1_compare_5 (by decide) (fun c_5 => ?_) (fun c_5 => ?_)
  · refine lv_bipush (v := (-4)) C.1.1 C.1.2.1 dX1_compare_25 (by decide) ?_
    exact retY_i C hH dX1_compare_27 (congrArg (fun z => (z, τ)) (Eq.trans hR (tp c_5 rfl))).symm
  · refine lv_aload_n C.1.1 C.1.2.1 dX1_compare_8 rfl (lv_at hl 0 rfl) ?_
    refine lv_iload_n C.1.1 C.1.2.1 dX1_compare_9 rfl (lv_at hl 2 rfl) ?_
    refine callY_i C hH (av := [.int p2]) (rest := []) (mY_isLayer l G ad d τ p2 ) gwY_isLayer hdY_isLayer (by decide) rfl hl.1 rfl (Nat.le_of_ble_eq_true rfl) dX1_compare_10 ⟨Nat.zero_le _, Nat.zero_le _⟩ (fun r_ u_ H locs hH hw_ => ?_)
    obtain ⟨rfl, rfl⟩ : (fY_isLayer τ p2) = r_ ∧ τ = u_ := ⟨(congrArg Prod.fst hw_).symm, (congrArg Prod.snd hw_).symm⟩
    refine lv_if_eq (tgt := 25) C.1.1 C.1.2.1 dX1_compare_13 (by decide) (fun c_13 => ?_) (fun c_13 => ?_)
    · refine lv_bipush (v := (-4)) C.1.1 C.1.2.1 dX1_compare_25 (by decide) ?_
      exact retY_i C hH dX1_compare_27 (congrArg (fun z => (z, τ)) (Eq.trans hR (tn c_5 (tp c_13 rfl)))).symm
    · refine lv_aload_n C.1.1 C.1.2.1 dX1_compare_16 rfl (lv_at hl 0 rfl) ?_
      refine lv_iload_n C.1.1 C.1.2.1 dX1_compare_17 rfl (lv_at hl 1 rfl) ?_
      refine lv_iload_n C.1.1 C.1.2.1 dX1_compare_18 rfl (lv_at hl 2 rfl) ?_
      refine callY_i C hH (av := [.int p1, .int p2]) (rest := []) (mY_differing l G ad d τ p1 p2 (b_w (b_isl hO c_5)) (b_w (b_isl hO c_13))) gwY_differing hdY_differing (by decide) rfl hl.1 rfl (Nat.le_of_ble_eq_true rfl) dX1_compare_19 ⟨Nat.zero_le _, Nat.zero_le _⟩ (fun r_ u_ H locs hH hw_ => ?_)
      obtain ⟨rfl, rfl⟩ : (fY_differing τ p1 p2) = r_ ∧ τ = u_ := ⟨(congrArg Prod.fst hw_).symm, (congrArg Prod.snd hw_).symm⟩
      refine lv_goto (tgt := 27) C.1.1 C.1.2.1 dX1_compare_22 (by decide) ?_
      exact retY_i C hH dX1_compare_27 (congrArg (fun z => (z, τ)) (Eq.trans hR (tn c_5 (tn c_13 rfl)))).symm
-- method squash
set_option maxHeartbeats 4000000 in
theorem mY_squash (l : Launch) (G : va_G) (ad : Nat → Nat) (d : Nat → ClassId) (τ : SY) (p1 : Int32) (hO : okY τ) : MetYi l yX1_squash cX1_squash 2 .int rmZ1 [.int p1] G ad d τ ((fY_squash τ p1), τ) := by
  refine metY_i (by decide +kernel) rfl (Nat.le_of_ble_eq_true rfl) (fun p e s m below meth c A ls C hH hl => ?_)
  have hl : lv_has ls 2 [(0, .ref (ad 0)), (1, .int p1)] := hl
  have hR : (fY_squash τ p1) = (fY_squash τ p1) := rfl
  generalize s.heap = H at hH ⊢
  generalize ([] : List Loc) = locs at hH ⊢
  refine lv_aload_n C.1.1 C.1.2.1 dX1_squash_0 rfl (lv_at hl 0 rfl) ?_
  refine lv_iload_n C.1.1 C.1.2.1 dX1_squash_1 rfl (lv_at hl 1 rfl) ?_
  refine callY_i C hH (av := [.int p1]) (rest := []) (mY_test l G ad d τ p1 ) gwY_test hdY_test (by decide) rfl hl.1 rfl (Nat.le_of_ble_eq_true rfl) dX1_squash_2 ⟨Nat.zero_le _, Nat.zero_le _⟩ (fun r_ u_ H locs hH hw_ => ?_)
  obtain ⟨rfl, rfl⟩ : (fY_test τ p1) = r_ ∧ τ = u_ := ⟨(congrArg Prod.fst hw_).symm, (congrArg Prod.snd hw_).symm⟩
  exact retY_i C hH dX1_squash_5 (congrArg (fun z => (z, τ)) (Eq.trans hR rfl)).symm
end
section
set_option maxRecDepth 100000
def fs0X : List Value := [.int 0, .null, .null, .null, .null, .null, .null, .null]
def s0X : SX := (1, upd (fun _ => 0) (0 : Int32).toNatClampNeg (-1), fun _ => 0, fun _ => 0, fun _ => 0, fun _ => 0, fun _ => 0, fun _ => 0)
abbrev rmIX : Room := { frames := 1, cells := 7, slots := 134, locals := 12 }
set_option maxHeartbeats 4000000 in
/-- the constructor of LayerMounts: from a blank object it makes its arrays; behind it stands the world of s0X -/
theorem mX_init (l : Launch) (G : va_G) (h0 sz : Nat) : Met l yX0_init (ws_ yX0_init cX0_init 1 none) rmIX (va_Pc [.ref h0] (fun U => U.heap.size = sz ∧ va_P G vwCl [(h0, .inr (0, fs0X))] U.heap ∧ va_K G vwCl [] U ∧ va_D (fun _ => True) [(h0, .inr (0, fs0X))])) (va_Qv (fun u : (Nat → Nat) × (Nat → ClassId) => u.1 0 = h0) (fun u t => BX G u.1 u.2 (va_A [(h0, .inr (0, fs0X))] sz) s0X t) (va_A [(h0, .inr (0, fs0X))] sz)) 7 134 (va_A [(h0, .inr (0, fs0X))] sz) := by
  refine Met.ofW (cc := cX0_init) (maxL := 1) (ret := none) (by decide +kernel) rfl ?_
  intro p e s m args below meth c s₁ B hml hv
  obtain ⟨rfl, hsz, hP, hK, hD0⟩ := hv
  have hx := B.exec
  have hb := B.bytes
  have hr := B.returns
  have hts := atoms_spec (ws := ws_ yX0_init cX0_init 1 none) B.pre
  have hts : ∀ w ∈ lw_all, w.before _ s = true := fun w h => hts w (List.mem_cons_of_mem _ h)
  have hown : s.vm.findClass RX0 = some m.cls := findClass_of_methodNamed B.named
  have hlocks := B.notSynchronized
  have hin : meth.name = "<init>" := (name_of_methodNamed B.named B.method).1
  subst hsz
  have hD := hD0.self (sz := s.heap.size)
  generalize hAe : va_A [(h0, .inr (0, fs0X))] s.heap.size = A at hD ⊢
  have hA : ∀ q : Nat, s.heap.size ≤ q → A q := fun q h => by rw [← hAe]; exact Or.inr h
  have hS : va_S A s.heap s.heap [] := va_S.rf
  have hP : va_P G vwCl [(h0, .inr (0, [.int 0, .null, .null, .null, .null, .null, .null, .null]))] s.heap := hP
  have hD : va_D A [(h0, .inr (0, [.int 0, .null, .null, .null, .null, .null, .null, .null]))] := hD
  have hl := lv_entry ([.ref h0]) (n := 1) (Nat.le_of_ble_eq_true rfl)
  rw [lg_entry_eq]
  generalize (lg_sl ([.ref h0]) ++ List.replicate (1 - (lg_sl ([.ref h0])).length) Slot.unset).toArray = ls at hl ⊢
  have hl : lv_has ls 1 [(0, .ref h0)] := hl
  refine lv_aload_n hx hb dX0_init_0 rfl (lv_at hl 0 rfl) ?_
  refine W.objInit hx hb hown (hts _ q30) (hts _ q31) (hts _ q32) rfl (by rw [hml]; exact hl.1) rfl dX0_init_1 (Nat.le_of_ble_eq_true rfl) (Nat.le_of_ble_eq_true rfl) ?_
  refine W.eq (g2 := F0 m 4 ls []) rfl ?_
  refine lv_aload_n hx hb dX0_init_4 rfl (lv_at hl 0 rfl) ?_
  refine lv_bipush (v := 10) hx hb dX0_init_5 (by decide) ?_
  refine va_newa (atype := .int) (ty := .int) (N' := 10) (a0 := (10, .inl (fun _ => 0))) hx hb (hts _ q58) rfl hK hP hD hS hA (fun _ => rfl) (by decide) (by decide) (by decide) (Nat.le_of_ble_eq_true rfl) (Nat.le_of_ble_eq_true rfl) dX0_init_7 (fun q1_ c1_ H hK hP hD hS => ?_)
  have hP : va_P G vwCl [(h0, .inr (0, [.int 0, .null, .null, .null, .null, .null, .null, .null])), (q1_, .inl (c1_, 10, .inl (fun _ => 0)))] H := hP
  have hD : va_D A [(h0, .inr (0, [.int 0, .null, .null, .null, .null, .null, .null, .null])), (q1_, .inl (c1_, 10, .inl (fun _ => 0)))] := hD
  have hK : va_K G vwCl [(c1_, .int)] s := hK
  refine va_putF (D := G) (ci := 0) (v := .ref q1_) (ty := .array .int) (C := RX0) (T := TX0) (N := 8) hx hb hts in_X0 tyX0 tyX0_ok nmX0 hown hK hP hD hS 0 rfl rfl 1 (by decide) (hts _ q34) (fun _ h9 => h9) rfl hin rfl (by decide +kernel) rfl rfl (Nat.le_of_ble_eq_true rfl) dX0_init_9 (fun H locs hP hD hS => ?_)
  have hP : va_P G vwCl [(h0, .inr (0, [.int 0, .ref q1_, .null, .null, .null, .null, .null, .null])), (q1_, .inl (c1_, 10, .inl (fun _ => 0)))] H := hP
  have hD : va_D A [(h0, .inr (0, [.int 0, .ref q1_, .null, .null, .null, .null, .null, .null])), (q1_, .inl (c1_, 10, .inl (fun _ => 0)))] := hD
  refine lv_aload_n hx hb dX0_init_12 rfl (lv_at hl 0 rfl) ?_
  refine lv_bipush (v := 10) hx hb dX0_init_13 (by decide) ?_
  refine va_newa (atype := .int) (ty := .int) (N' := 10) (a0 := (10, .inl (fun _ => 0))) hx hb (hts _ q58) rfl hK hP hD hS hA (fun _ => rfl) (by decide) (by decide) (by decide) (Nat.le_of_ble_eq_true rfl) (Nat.le_of_ble_eq_true rfl) dX0_init_15 (fun q2_ c2_ H hK hP hD hS => ?_)
  have hP : va_P G vwCl [(h0, .inr (0, [.int 0, .ref q1_, .null, .null, .null, .null, .null, .null])), (q1_, .inl (c1_, 10, .inl (fun _ => 0))), (q2_, .inl (c2_, 10, .inl (fun _ => 0)))] H := hP
  have hD : va_D A [(h0, .inr (0, [.int 0, .ref q1_, .null, .null, .null, .null, .null, .null])), (q1_, .inl (c1_, 10, .inl (fun _ => 0))), (q2_, .inl (c2_, 10, .inl (fun _ => 0)))] := hD
  have hK : va_K G vwCl [(c1_, .int), (c2_, .int)] s := hK
  refine va_putF (D := G) (ci := 0) (v := .ref q2_) (ty := .array .int) (C := RX0) (T := TX0) (N := 8) hx hb hts in_X0 tyX0 tyX0_ok nmX0 hown hK hP hD hS 0 rfl rfl 2 (by decide) (hts _ q35) (fun _ h9 => h9) rfl hin rfl (by decide +kernel) rfl rfl (Nat.le_of_ble_eq_true rfl) dX0_init_17 (fun H locs hP hD hS => ?_)
  have hP : va_P G vwCl [(h0, .inr (0, [.int 0, .ref q1_, .ref q2_, .null, .null, .null, .null, .null])), (q1_, .inl (c1_, 10, .inl (fun _ => 0))), (q2_, .inl (c2_, 10, .inl (fun _ => 0)))] H := hP
  have hD : va_D A [(h0, .inr (0, [.int 0, .ref q1_, .ref q2_, .null, .null, .null, .null, .null])), (q1_, .inl (c1_, 10, .inl (fun _ => 0))), (q2_, .inl (c2_, 10, .inl (fun _ => 0)))] := hD
  refine lv_aload_n hx hb dX0_init_20 rfl (lv_at hl 0 rfl) ?_
  refine lv_bipush (v := 10) hx hb dX0_init_21 (by decide) ?_
  refine va_newa (atype := .int) (ty := .int) (N' := 10) (a0 := (10, .inl (fun _ => 0))) hx hb (hts _ q58) rfl hK hP hD hS hA (fun _ => rfl) (by decide) (by decide) (by decide) (Nat.le_of_ble_eq_true rfl) (Nat.le_of_ble_eq_true rfl) dX0_init_23 (fun q3_ c3_ H hK hP hD hS => ?_)
  have hP : va_P G vwCl [(h0, .inr (0, [.int 0, .ref q1_, .ref q2_, .null, .null, .null, .null, .null])), (q1_, .inl (c1_, 10, .inl (fun _ => 0))), (q2_, .inl (c2_, 10, .inl (fun _ => 0))), (q3_, .inl (c3_, 10, .inl (fun _ => 0)))] H := hP
  have hD : va_D A [(h0, .inr (0, [.int 0, .ref q1_, .ref q2_, .null, .null, .null, .null, .null])), (q1_, .inl (c1_, 10, .inl (fun _ => 0))), (q2_, .inl (c2_, 10, .inl (fun _ => 0))), (q3_, .inl (c3_, 10, .inl (fun _ => 0)))] := hD
  have hK : va_K G vwCl [(c1_, .int), (c2_, .int), (c3_, .int)] s := hK
  refine va_putF (D := G) (ci := 0) (v := .ref q3_) (ty := .array .int) (C := RX0) (T := TX0) (N := 8) hx hb hts in_X0 tyX0 tyX0_ok nmX0 hown hK hP hD hS 0 rfl rfl 3 (by decide) (hts _ q36) (fun _ h9 => h9) rfl hin rfl (by decide +kernel) rfl rfl (Nat.le_of_ble_eq_true rfl) dX0_init_25 (fun H locs hP hD hS => ?_)
  have hP : va_P G vwCl [(h0, .inr (0, [.int 0, .ref q1_, .ref q2_, .ref q3_, .null, .null, .null, .null])), (q1_, .inl (c1_, 10, .inl (fun _ => 0))), (q2_, .inl (c2_, 10, .inl (fun _ => 0))), (q3_, .inl (c3_, 10, .inl (fun _ => 0)))] H := hP
  have hD : va_D A [(h0, .inr (0, [.int 0, .ref q1_, .ref q2_, .ref q3_, .null, .null, .null, .null])), (q1_, .inl (c1_, 10, .inl (fun _ => 0))), (q2_, .inl (c2_, 10, .inl (fun _ => 0))), (q3_, .inl (c3_, 10, .inl (fun _ => 0)))] := hD
  refine lv_aload_n hx hb dX0_init_28 rfl (lv_at hl 0 rfl) ?_
  refine lv_bipush (v := 10) hx hb dX0_init_29 (by decide) ?_
  refine va_newa (atype := .int) (ty := .int) (N' := 10) (a0 := (10, .inl (fun _ => 0))) hx hb (hts _ q58) rfl hK hP hD hS hA (fun _ => rfl) (by decide) (by decide) (by decide) (Nat.le_of_ble_eq_true rfl) (Nat.le_of_ble_eq_true rfl) dX0_init_31 (fun q4_ c4_ H hK hP hD hS => ?_)
  have hP : va_P G vwCl [(h0, .inr (0, [.int 0, .ref q1_, .ref q2_, .ref q3_, .null, .null, .null, .null])), (q1_, .inl (c1_, 10, .inl (fun _ => 0))), (q2_, .inl (c2_, 10, .inl (fun _ => 0))), (q3_, .inl (c3_, 10, .inl (fun _ => 0))), (q4_, .inl (c4_, 10, .inl (fun _ => 0)))] H := hP
  have hD : va_D A [(h0, .inr (0, [.int 0, .ref q1_, .ref q2_, .ref q3_, .null, .null, .null, .null])), (q1_, .inl (c1_, 10, .inl (fun _ => 0))), (q2_, .inl (c2_, 10, .inl (fun _ => 0))), (q3_, .inl (c3_, 10, .inl (fun _ => 0))), (q4_, .inl (c4_, 10, .inl (fun _ => 0)))] := hD
  have hK : va_K G vwCl [(c1_, .int), (c2_, .int), (c3_, .int), (c4_, .int)] s := hK
  refine va_putF (D := G) (ci := 0) (v := .ref q4_) (ty := .array .int) (C := RX0) (T := TX0) (N := 8) hx hb hts in_X0 tyX0 tyX0_ok nmX0 hown hK hP hD hS 0 rfl rfl 4 (by decide) (hts _ q37) (fun _ h9 => h9) rfl hin rfl (by decide +kernel) rfl rfl (Nat.le_of_ble_eq_true rfl) dX0_init_33 (fun H locs hP hD hS => ?_)
  have hP : va_P G vwCl [(h0, .inr (0, [.int 0, .ref q1_, .ref q2_, .ref q3_, .ref q4_, .null, .null, .null])), (q1_, .inl (c1_, 10, .inl (fun _ => 0))), (q2_, .inl (c2_, 10, .inl (fun _ => 0))), (q3_, .inl (c3_, 10, .inl (fun _ => 0))), (q4_, .inl (c4_, 10, .inl (fun _ => 0)))] H := hP
  have hD : va_D A [(h0, .inr (0, [.int 0, .ref q1_, .ref q2_, .ref q3_, .ref q4_, .null, .null, .null])), (q1_, .inl (c1_, 10, .inl (fun _ => 0))), (q2_, .inl (c2_, 10, .inl (fun _ => 0))), (q3_, .inl (c3_, 10, .inl (fun _ => 0))), (q4_, .inl (c4_, 10, .inl (fun _ => 0)))] := hD
  refine lv_aload_n hx hb dX0_init_36 rfl (lv_at hl 0 rfl) ?_
  refine lv_bipush (v := 10) hx hb dX0_init_37 (by decide) ?_
  refine va_newa (atype := .int) (ty := .int) (N' := 10) (a0 := (10, .inl (fun _ => 0))) hx hb (hts _ q58) rfl hK hP hD hS hA (fun _ => rfl) (by decide) (by decide) (by decide) (Nat.le_of_ble_eq_true rfl) (Nat.le_of_ble_eq_true rfl) dX0_init_39 (fun q5_ c5_ H hK hP hD hS => ?_)
  have hP : va_P G vwCl [(h0, .inr (0, [.int 0, .ref q1_, .ref q2_, .ref q3_, .ref q4_, .null, .null, .null])), (q1_, .inl (c1_, 10, .inl (fun _ => 0))), (q2_, .inl (c2_, 10, .inl (fun _ => 0))), (q3_, .inl (c3_, 10, .inl (fun _ => 0))), (q4_, .inl (c4_, 10, .inl (fun _ => 0))), (q5_, .inl (c5_, 10, .inl (fun _ => 0)))] H := hP
  have hD : va_D A [(h0, .inr (0, [.int 0, .ref q1_, .ref q2_, .ref q3_, .ref q4_, .null, .null, .null])), (q1_, .inl (c1_, 10, .inl (fun _ => 0))), (q2_, .inl (c2_, 10, .inl (fun _ => 0))), (q3_, .inl (c3_, 10, .inl (fun _ => 0))), (q4_, .inl (c4_, 10, .inl (fun _ => 0))), (q5_, .inl (c5_, 10, .inl (fun _ => 0)))] := hD
  have hK : va_K G vwCl [(c1_, .int), (c2_, .int), (c3_, .int), (c4_, .int), (c5_, .int)] s := hK
  refine va_putF (D := G) (ci := 0) (v := .ref q5_) (ty := .array .int) (C := RX0) (T := TX0) (N := 8) hx hb hts in_X0 tyX0 tyX0_ok nmX0 hown hK hP hD hS 0 rfl rfl 5 (by decide) (hts _ q38) (fun _ h9 => h9) rfl hin rfl (by decide +kernel) rfl rfl (Nat.le_of_ble_eq_true rfl) dX0_init_41 (fun H locs hP hD hS => ?_)
  have hP : va_P G vwCl [(h0, .inr (0, [.int 0, .ref q1_, .ref q2_, .ref q3_, .ref q4_, .ref q5_, .null, .null])), (q1_, .inl (c1_, 10, .inl (fun _ => 0))), (q2_, .inl (c2_, 10, .inl (fun _ => 0))), (q3_, .inl (c3_, 10, .inl (fun _ => 0))), (q4_, .inl (c4_, 10, .inl (fun _ => 0))), (q5_, .inl (c5_, 10, .inl (fun _ => 0)))] H := hP
  have hD : va_D A [(h0, .inr (0, [.int 0, .ref q1_, .ref q2_, .ref q3_, .ref q4_, .ref q5_, .null, .null])), (q1_, .inl (c1_, 10, .inl (fun _ => 0))), (q2_, .inl (c2_, 10, .inl (fun _ => 0))), (q3_, .inl (c3_, 10, .inl (fun _ => 0))), (q4_, .inl (c4_, 10, .inl (fun _ => 0))), (q5_, .inl (c5_, 10, .inl (fun _ => 0)))] := hD
  refine lv_aload_n hx hb dX0_init_44 rfl (lv_at hl 0 rfl) ?_
  refine lv_bipush (v := 80) hx hb dX0_init_45 (by decide) ?_
  refine va_newa (atype := .int) (ty := .int) (N' := 80) (a0 := (80, .inl (fun _ => 0))) hx hb (hts _ q58) rfl hK hP hD hS hA (fun _ => rfl) (by decide) (by decide) (by decide) (Nat.le_of_ble_eq_true rfl) (Nat.le_of_ble_eq_true rfl) dX0_init_47 (fun q6_ c6_ H hK hP hD hS => ?_)
  have hP : va_P G vwCl [(h0, .inr (0, [.int 0, .ref q1_, .ref q2_, .ref q3_, .ref q4_, .ref q5_, .null, .null])), (q1_, .inl (c1_, 10, .inl (fun _ => 0))), (q2_, .inl (c2_, 10, .inl (fun _ => 0))), (q3_, .inl (c3_, 10, .inl (fun _ => 0))), (q4_, .inl (c4_, 10, .inl (fun _ => 0))), (q5_, .inl (c5_, 10, .inl (fun _ => 0))), (q6_, .inl (c6_, 80, .inl (fun _ => 0)))] H := hP
  have hD : va_D A [(h0, .inr (0, [.int 0, .ref q1_, .ref q2_, .ref q3_, .ref q4_, .ref q5_, .null, .null])), (q1_, .inl (c1_, 10, .inl (fun _ => 0))), (q2_, .inl (c2_, 10, .inl (fun _ => 0))), (q3_, .inl (c3_, 10, .inl (fun _ => 0))), (q4_, .inl (c4_, 10, .inl (fun _ => 0))), (q5_, .inl (c5_, 10, .inl (fun _ => 0))), (q6_, .inl (c6_, 80, .inl (fun _ => 0)))] := hD
  have hK : va_K G vwCl [(c1_, .int), (c2_, .int), (c3_, .int), (c4_, .int), (c5_, .int), (c6_, .int)] s := hK
  refine va_putF (D := G) (ci := 0) (v := .ref q6_) (ty := .array .int) (C := RX0) (T := TX0) (N := 8) hx hb hts in_X0 tyX0 tyX0_ok nmX0 hown hK hP hD hS 0 rfl rfl 6 (by decide) (hts _ q39) (fun _ h9 => h9) rfl hin rfl (by decide +kernel) rfl rfl (Nat.le_of_ble_eq_true rfl) dX0_init_49 (fun H locs hP hD hS => ?_)
  have hP : va_P G vwCl [(h0, .inr (0, [.int 0, .ref q1_, .ref q2_, .ref q3_, .ref q4_, .ref q5_, .ref q6_, .null])), (q1_, .inl (c1_, 10, .inl (fun _ => 0))), (q2_, .inl (c2_, 10, .inl (fun _ => 0))), (q3_, .inl (c3_, 10, .inl (fun _ => 0))), (q4_, .inl (c4_, 10, .inl (fun _ => 0))), (q5_, .inl (c5_, 10, .inl (fun _ => 0))), (q6_, .inl (c6_, 80, .inl (fun _ => 0)))] H := hP
  have hD : va_D A [(h0, .inr (0, [.int 0, .ref q1_, .ref q2_, .ref q3_, .ref q4_, .ref q5_, .ref q6_, .null])), (q1_, .inl (c1_, 10, .inl (fun _ => 0))), (q2_, .inl (c2_, 10, .inl (fun _ => 0))), (q3_, .inl (c3_, 10, .inl (fun _ => 0))), (q4_, .inl (c4_, 10, .inl (fun _ => 0))), (q5_, .inl (c5_, 10, .inl (fun _ => 0))), (q6_, .inl (c6_, 80, .inl (fun _ => 0)))] := hD
  refine lv_aload_n hx hb dX0_init_52 rfl (lv_at hl 0 rfl) ?_
  refine lv_iconst (v := 4) hx hb dX0_init_53 (by decide) ?_
  refine va_newa (atype := .boolean) (ty := .boolean) (N' := 4) (a0 := (4, .inl (fun _ => 0))) hx hb (hts _ q59) rfl hK hP hD hS hA (fun _ => rfl) (by decide) (by decide) (by decide) (Nat.le_of_ble_eq_true rfl) (Nat.le_of_ble_eq_true rfl) dX0_init_54 (fun q7_ c7_ H hK hP hD hS => ?_)
  have hP : va_P G vwCl [(h0, .inr (0, [.int 0, .ref q1_, .ref q2_, .ref q3_, .ref q4_, .ref q5_, .ref q6_, .null])), (q1_, .inl (c1_, 10, .inl (fun _ => 0))), (q2_, .inl (c2_, 10, .inl (fun _ => 0))), (q3_, .inl (c3_, 10, .inl (fun _ => 0))), (q4_, .inl (c4_, 10, .inl (fun _ => 0))), (q5_, .inl (c5_, 10, .inl (fun _ => 0))), (q6_, .inl (c6_, 80, .inl (fun _ => 0))), (q7_, .inl (c7_, 4, .inl (fun _ => 0)))] H := hP
  have hD : va_D A [(h0, .inr (0, [.int 0, .ref q1_, .ref q2_, .ref q3_, .ref q4_, .ref q5_, .ref q6_, .null])), (q1_, .inl (c1_, 10, .inl (fun _ => 0))), (q2_, .inl (c2_, 10, .inl (fun _ => 0))), (q3_, .inl (c3_, 10, .inl (fun _ => 0))), (q4_, .inl (c4_, 10, .inl (fun _ => 0))), (q5_, .inl (c5_, 10, .inl (fun _ => 0))), (q6_, .inl (c6_, 80, .inl (fun _ => 0))), (q7_, .inl (c7_, 4, .inl (fun _ => 0)))] := hD
  have hK : va_K G vwCl [(c1_, .int), (c2_, .int), (c3_, .int), (c4_, .int), (c5_, .int), (c6_, .int), (c7_, .boolean)] s := hK
  refine va_putF (D := G) (ci := 0) (v := .ref q7_) (ty := .array .boolean) (C := RX0) (T := TX0) (N := 8) hx hb hts in_X0 tyX0 tyX0_ok nmX0 hown hK hP hD hS 0 rfl rfl 7 (by decide) (hts _ q40) (fun _ h9 => h9) rfl hin rfl (by decide +kernel) rfl rfl (Nat.le_of_ble_eq_true rfl) dX0_init_56 (fun H locs hP hD hS => ?_)
  have hP : va_P G vwCl [(h0, .inr (0, [.int 0, .ref q1_, .ref q2_, .ref q3_, .ref q4_, .ref q5_, .ref q6_, .ref q7_])), (q1_, .inl (c1_, 10, .inl (fun _ => 0))), (q2_, .inl (c2_, 10, .inl (fun _ => 0))), (q3_, .inl (c3_, 10, .inl (fun _ => 0))), (q4_, .inl (c4_, 10, .inl (fun _ => 0))), (q5_, .inl (c5_, 10, .inl (fun _ => 0))), (q6_, .inl (c6_, 80, .inl (fun _ => 0))), (q7_, .inl (c7_, 4, .inl (fun _ => 0)))] H := hP
  have hD : va_D A [(h0, .inr (0, [.int 0, .ref q1_, .ref q2_, .ref q3_, .ref q4_, .ref q5_, .ref q6_, .ref q7_])), (q1_, .inl (c1_, 10, .inl (fun _ => 0))), (q2_, .inl (c2_, 10, .inl (fun _ => 0))), (q3_, .inl (c3_, 10, .inl (fun _ => 0))), (q4_, .inl (c4_, 10, .inl (fun _ => 0))), (q5_, .inl (c5_, 10, .inl (fun _ => 0))), (q6_, .inl (c6_, 80, .inl (fun _ => 0))), (q7_, .inl (c7_, 4, .inl (fun _ => 0)))] := hD
  refine lv_aload_n hx hb dX0_init_59 rfl (lv_at hl 0 rfl) ?_
  refine lv_iconst (v := 1) hx hb dX0_init_60 (by decide) ?_
  refine va_put (D := G) (ci := 0) (v := .int 1) (ty := .int) (C := RX0) (T := TX0) (N := 8) hx hb hts in_X0 tyX0 tyX0_ok nmX0 hown hK hP hD hS 0 rfl rfl 0 (by decide) (hts _ q33) (fun _ h9 => h9) rfl (by decide +kernel) rfl rfl (Nat.le_of_ble_eq_true rfl) dX0_init_61 (fun H locs hP hD hS => ?_)
  have hP : va_P G vwCl [(h0, .inr (0, [.int 1, .ref q1_, .ref q2_, .ref q3_, .ref q4_, .ref q5_, .ref q6_, .ref q7_])), (q1_, .inl (c1_, 10, .inl (fun _ => 0))), (q2_, .inl (c2_, 10, .inl (fun _ => 0))), (q3_, .inl (c3_, 10, .inl (fun _ => 0))), (q4_, .inl (c4_, 10, .inl (fun _ => 0))), (q5_, .inl (c5_, 10, .inl (fun _ => 0))), (q6_, .inl (c6_, 80, .inl (fun _ => 0))), (q7_, .inl (c7_, 4, .inl (fun _ => 0)))] H := hP
  have hD : va_D A [(h0, .inr (0, [.int 1, .ref q1_, .ref q2_, .ref q3_, .ref q4_, .ref q5_, .ref q6_, .ref q7_])), (q1_, .inl (c1_, 10, .inl (fun _ => 0))), (q2_, .inl (c2_, 10, .inl (fun _ => 0))), (q3_, .inl (c3_, 10, .inl (fun _ => 0))), (q4_, .inl (c4_, 10, .inl (fun _ => 0))), (q5_, .inl (c5_, 10, .inl (fun _ => 0))), (q6_, .inl (c6_, 80, .inl (fun _ => 0))), (q7_, .inl (c7_, 4, .inl (fun _ => 0)))] := hD
  refine lv_aload_n hx hb dX0_init_64 rfl (lv_at hl 0 rfl) ?_
  refine va_get (D := G) (ci := 0) (v := .ref q1_) (C := RX0) (T := TX0) (N := 8) hx hb hts in_X0 hown hK hP 0 rfl rfl 1 (by decide) (hts _ q34) (fun _ h9 => h9) rfl dX0_init_65 ?_
  refine lv_iconst (v := 0) hx hb dX0_init_68 (by decide) ?_
  refine lv_iconst (v := (-1)) hx hb dX0_init_69 (by decide) ?_
  refine va_iast hx hb hK hP hD hS 1 0 rfl rfl (by unfold vp_in; decide) dX0_init_70 (fun H locs hP hD hS => ?_)
  have hP : va_P G vwCl [(h0, .inr (0, [.int 1, .ref q1_, .ref q2_, .ref q3_, .ref q4_, .ref q5_, .ref q6_, .ref q7_])), (q1_, .inl (c1_, 10, .inl (upd (fun _ => 0) (0 : Int32).toNatClampNeg (-1)))), (q2_, .inl (c2_, 10, .inl (fun _ => 0))), (q3_, .inl (c3_, 10, .inl (fun _ => 0))), (q4_, .inl (c4_, 10, .inl (fun _ => 0))), (q5_, .inl (c5_, 10, .inl (fun _ => 0))), (q6_, .inl (c6_, 80, .inl (fun _ => 0))), (q7_, .inl (c7_, 4, .inl (fun _ => 0)))] H := hP
  have hD : va_D A [(h0, .inr (0, [.int 1, .ref q1_, .ref q2_, .ref q3_, .ref q4_, .ref q5_, .ref q6_, .ref q7_])), (q1_, .inl (c1_, 10, .inl (upd (fun _ => 0) (0 : Int32).toNatClampNeg (-1)))), (q2_, .inl (c2_, 10, .inl (fun _ => 0))), (q3_, .inl (c3_, 10, .inl (fun _ => 0))), (q4_, .inl (c4_, 10, .inl (fun _ => 0))), (q5_, .inl (c5_, 10, .inl (fun _ => 0))), (q6_, .inl (c6_, 80, .inl (fun _ => 0))), (q7_, .inl (c7_, 4, .inl (fun _ => 0)))] := hD
  exact W.vret hx hb hr (fun t ht hW => ⟨⟨((fun k => match k with | 0 => h0 | 1 => q1_ | 2 => q2_ | 3 => q3_ | 4 => q4_ | 5 => q5_ | 6 => q6_ | _ => q7_), (fun k => match k with | 1 => c1_ | 2 => c2_ | 3 => c3_ | 4 => c4_ | 5 => c5_ | 6 => c6_ | _ => c7_)), rfl, rfl, by rw [ht]; exact hP, va_K.moved hW.alike hK, hD⟩, hS.F ht⟩) hS.2.2 dX0_init_71
def fs0Y : List Value := [.null, .null, .null, .null, .int 0, .null, .null]
def s0Y : SY := (fun _ => 0, fun _ => 0, fun _ => 0, upd (fun _ => 0) (0 : Int32).toNatClampNeg (-4), 1, fun _ => 0, fun _ => 0)
abbrev rmIY : Room := { frames := 1, cells := 6, slots := 114, locals := 12 }
set_option maxHeartbeats 4000000 in
/-- the constructor of LayerMountsModel: from a blank object it makes its arrays; behind it stands the world of s0Y -/
theorem mY_init (l : Launch) (G : va_G) (h0 sz : Nat) : Met l yX1_init (ws_ yX1_init cX1_init 1 none) rmIY (va_Pc [.ref h0] (fun U => U.heap.size = sz ∧ va_P G vwCl [(h0, .inr (1, fs0Y))] U.heap ∧ va_K G vwCl [] U ∧ va_D (fun _ => True) [(h0, .inr (1, fs0Y))])) (va_Qv (fun u : (Nat → Nat) × (Nat → ClassId) => u.1 0 = h0) (fun u t => BY G u.1 u.2 (va_A [(h0, .inr (1, fs0Y))] sz) s0Y t) (va_A [(h0, .inr (1, fs0Y))] sz)) 6 114 (va_A [(h0, .inr (1, fs0Y))] sz) := by
  refine Met.ofW (cc := cX1_init) (maxL := 1) (ret := none) (by decide +kernel) rfl ?_
  intro p e s m args below meth c s₁ B hml hv
  obtain ⟨rfl, hsz, hP, hK, hD0⟩ := hv
  have hx := B.exec
  have hb := B.bytes
  have hr := B.returns
  have hts := atoms_spec (ws := ws_ yX1_init cX1_init 1 none) B.pre
  have hts : ∀ w ∈ lw_all, w.before _ s = true := fun w h => hts w (List.mem_cons_of_mem _ h)
  have hown : s.vm.findClass RX1 = some m.cls := findClass_of_methodNamed B.named
  have hlocks := B.notSynchronized
  have hin : meth.name = "<init>" := (name_of_methodNamed B.named B.method).1
  subst hsz
  have hD := hD0.self (sz := s.heap.size)
  generalize hAe : va_A [(h0, .inr (1, fs0Y))] s.heap.size = A at hD ⊢
  have hA : ∀ q : Nat, s.heap.size ≤ q → A q := fun q h => by rw [← hAe]; exact Or.inr h
  have hS : va_S A s.heap s.heap [] := va_S.rf
  have hP : va_P G vwCl [(h0, .inr (1, [.null, .null, .null, .null, .int 0, .null, .null]))] s.heap := hP
  have hD : va_D A [(h0, .inr (1, [.null, .null, .null, .null, .int 0, .null, .null]))] := hD
  have hl := lv_entry ([.ref h0]) (n := 1) (Nat.le_of_ble_eq_true rfl)
  rw [lg_entry_eq]
  generalize (lg_sl ([.ref h0]) ++ List.replicate (1 - (lg_sl ([.ref h0])).length) Slot.unset).toArray = ls at hl ⊢
  have hl : lv_has ls 1 [(0, .ref h0)] := hl
  refine lv_aload_n hx hb dX1_init_0 rfl (lv_at hl 0 rfl) ?_
  refine W.objInit hx hb hown (hts _ q185) (hts _ q31) (hts _ q32) rfl (by rw [hml]; exact hl.1) rfl dX1_init_1 (Nat.le_of_ble_eq_true rfl) (Nat.le_of_ble_eq_true rfl) ?_
  refine W.eq (g2 := F0 m 4 ls []) rfl ?_
  refine lv_aload_n hx hb dX1_init_4 rfl (lv_at hl 0 rfl) ?_
  refine lv_bipush (v := 10) hx hb dX1_init_5 (by decide) ?_
  refine va_newa (atype := .int) (ty := .int) (N' := 10) (a0 := (10, .inl (fun _ => 0))) hx hb (hts _ q58) rfl hK hP hD hS hA (fun _ => rfl) (by decide) (by decide) (by decide) (Nat.le_of_ble_eq_true rfl) (Nat.le_of_ble_eq_true rfl) dX1_init_7 (fun q1_ c1_ H hK hP hD hS => ?_)
  have hP : va_P G vwCl [(h0, .inr (1, [.null, .null, .null, .null, .int 0, .null, .null])), (q1_, .inl (c1_, 10, .inl (fun _ => 0)))] H := hP
  have hD : va_D A [(h0, .inr (1, [.null, .null, .null, .null, .int 0, .null, .null])), (q1_, .inl (c1_, 10, .inl (fun _ => 0)))] := hD
  have hK : va_K G vwCl [(c1_, .int)] s := hK
  refine va_putF (D := G) (ci := 1) (v := .ref q1_) (ty := .array .int) (C := RX1) (T := TX1) (N := 7) hx hb hts in_X1 tyX1 tyX1_ok nmX1 hown hK hP hD hS 0 rfl rfl 0 (by decide) (hts _ q186) (fun _ h9 => h9) rfl hin rfl (by decide +kernel) rfl rfl (Nat.le_of_ble_eq_true rfl) dX1_init_9 (fun H locs hP hD hS => ?_)
  have hP : va_P G vwCl [(h0, .inr (1, [.ref q1_, .null, .null, .null, .int 0, .null, .null])), (q1_, .inl (c1_, 10, .inl (fun _ => 0)))] H := hP
  have hD : va_D A [(h0, .inr (1, [.ref q1_, .null, .null, .null, .int 0, .null, .null])), (q1_, .inl (c1_, 10, .inl (fun _ => 0)))] := hD
  refine lv_aload_n hx hb dX1_init_12 rfl (lv_at hl 0 rfl) ?_
  refine lv_bipush (v := 10) hx hb dX1_init_13 (by decide) ?_
  refine va_newa (atype := .int) (ty := .int) (N' := 10) (a0 := (10, .inl (fun _ => 0))) hx hb (hts _ q58) rfl hK hP hD hS hA (fun _ => rfl) (by decide) (by decide) (by decide) (Nat.le_of_ble_eq_true rfl) (Nat.le_of_ble_eq_true rfl) dX1_init_15 (fun q2_ c2_ H hK hP hD hS => ?_)
  have hP : va_P G vwCl [(h0, .inr (1, [.ref q1_, .null, .null, .null, .int 0, .null, .null])), (q1_, .inl (c1_, 10, .inl (fun _ => 0))), (q2_, .inl (c2_, 10, .inl (fun _ => 0)))] H := hP
  have hD : va_D A [(h0, .inr (1, [.ref q1_, .null, .null, .null, .int 0, .null, .null])), (q1_, .inl (c1_, 10, .inl (fun _ => 0))), (q2_, .inl (c2_, 10, .inl (fun _ => 0)))] := hD
  have hK : va_K G vwCl [(c1_, .int), (c2_, .int)] s := hK
  refine va_putF (D := G) (ci := 1) (v := .ref q2_) (ty := .array .int) (C := RX1) (T := TX1) (N := 7) hx hb hts in_X1 tyX1 tyX1_ok nmX1 hown hK hP hD hS 0 rfl rfl 1 (by decide) (hts _ q187) (fun _ h9 => h9) rfl hin rfl (by decide +kernel) rfl rfl (Nat.le_of_ble_eq_true rfl) dX1_init_17 (fun H locs hP hD hS => ?_)
  have hP : va_P G vwCl [(h0, .inr (1, [.ref q1_, .ref q2_, .null, .null, .int 0, .null, .null])), (q1_, .inl (c1_, 10, .inl (fun _ => 0))), (q2_, .inl (c2_, 10, .inl (fun _ => 0)))] H := hP
  have hD : va_D A [(h0, .inr (1, [.ref q1_, .ref q2_, .null, .null, .int 0, .null, .null])), (q1_, .inl (c1_, 10, .inl (fun _ => 0))), (q2_, .inl (c2_, 10, .inl (fun _ => 0)))] := hD
  refine lv_aload_n hx hb dX1_init_20 rfl (lv_at hl 0 rfl) ?_
  refine lv_bipush (v := 80) hx hb dX1_init_21 (by decide) ?_
  refine va_newa (atype := .int) (ty := .int) (N' := 80) (a0 := (80, .inl (fun _ => 0))) hx hb (hts _ q58) rfl hK hP hD hS hA (fun _ => rfl) (by decide) (by decide) (by decide) (Nat.le_of_ble_eq_true rfl) (Nat.le_of_ble_eq_true rfl) dX1_init_23 (fun q3_ c3_ H hK hP hD hS => ?_)
  have hP : va_P G vwCl [(h0, .inr (1, [.ref q1_, .ref q2_, .null, .null, .int 0, .null, .null])), (q1_, .inl (c1_, 10, .inl (fun _ => 0))), (q2_, .inl (c2_, 10, .inl (fun _ => 0))), (q3_, .inl (c3_, 80, .inl (fun _ => 0)))] H := hP
  have hD : va_D A [(h0, .inr (1, [.ref q1_, .ref q2_, .null, .null, .int 0, .null, .null])), (q1_, .inl (c1_, 10, .inl (fun _ => 0))), (q2_, .inl (c2_, 10, .inl (fun _ => 0))), (q3_, .inl (c3_, 80, .inl (fun _ => 0)))] := hD
  have hK : va_K G vwCl [(c1_, .int), (c2_, .int), (c3_, .int)] s := hK
  refine va_putF (D := G) (ci := 1) (v := .ref q3_) (ty := .array .int) (C := RX1) (T := TX1) (N := 7) hx hb hts in_X1 tyX1 tyX1_ok nmX1 hown hK hP hD hS 0 rfl rfl 2 (by decide) (hts _ q188) (fun _ h9 => h9) rfl hin rfl (by decide +kernel) rfl rfl (Nat.le_of_ble_eq_true rfl) dX1_init_25 (fun H locs hP hD hS => ?_)
  have hP : va_P G vwCl [(h0, .inr (1, [.ref q1_, .ref q2_, .ref q3_, .null, .int 0, .null, .null])), (q1_, .inl (c1_, 10, .inl (fun _ => 0))), (q2_, .inl (c2_, 10, .inl (fun _ => 0))), (q3_, .inl (c3_, 80, .inl (fun _ => 0)))] H := hP
  have hD : va_D A [(h0, .inr (1, [.ref q1_, .ref q2_, .ref q3_, .null, .int 0, .null, .null])), (q1_, .inl (c1_, 10, .inl (fun _ => 0))), (q2_, .inl (c2_, 10, .inl (fun _ => 0))), (q3_, .inl (c3_, 80, .inl (fun _ => 0)))] := hD
  refine lv_aload_n hx hb dX1_init_28 rfl (lv_at hl 0 rfl) ?_
  refine lv_bipush (v := 6) hx hb dX1_init_29 (by decide) ?_
  refine va_newa (atype := .int) (ty := .int) (N' := 6) (a0 := (6, .inl (fun _ => 0))) hx hb (hts _ q58) rfl hK hP hD hS hA (fun _ => rfl) (by decide) (by decide) (by decide) (Nat.le_of_ble_eq_true rfl) (Nat.le_of_ble_eq_true rfl) dX1_init_31 (fun q4_ c4_ H hK hP hD hS => ?_)
  have hP : va_P G vwCl [(h0, .inr (1, [.ref q1_, .ref q2_, .ref q3_, .null, .int 0, .null, .null])), (q1_, .inl (c1_, 10, .inl (fun _ => 0))), (q2_, .inl (c2_, 10, .inl (fun _ => 0))), (q3_, .inl (c3_, 80, .inl (fun _ => 0))), (q4_, .inl (c4_, 6, .inl (fun _ => 0)))] H := hP
  have hD : va_D A [(h0, .inr (1, [.ref q1_, .ref q2_, .ref q3_, .null, .int 0, .null, .null])), (q1_, .inl (c1_, 10, .inl (fun _ => 0))), (q2_, .inl (c2_, 10, .inl (fun _ => 0))), (q3_, .inl (c3_, 80, .inl (fun _ => 0))), (q4_, .inl (c4_, 6, .inl (fun _ => 0)))] := hD
  have hK : va_K G vwCl [(c1_, .int), (c2_, .int), (c3_, .int), (c4_, .int)] s := hK
  refine va_putF (D := G) (ci := 1) (v := .ref q4_) (ty := .array .int) (C := RX1) (T := TX1) (N := 7) hx hb hts in_X1 tyX1 tyX1_ok nmX1 hown hK hP hD hS 0 rfl rfl 3 (by decide) (hts _ q189) (fun _ h9 => h9) rfl hin rfl (by decide +kernel) rfl rfl (Nat.le_of_ble_eq_true rfl) dX1_init_33 (fun H locs hP hD hS => ?_)
  have hP : va_P G vwCl [(h0, .inr (1, [.ref q1_, .ref q2_, .ref q3_, .ref q4_, .int 0, .null, .null])), (q1_, .inl (c1_, 10, .inl (fun _ => 0))), (q2_, .inl (c2_, 10, .inl (fun _ => 0))), (q3_, .inl (c3_, 80, .inl (fun _ => 0))), (q4_, .inl (c4_, 6, .inl (fun _ => 0)))] H := hP
  have hD : va_D A [(h0, .inr (1, [.ref q1_, .ref q2_, .ref q3_, .ref q4_, .int 0, .null, .null])), (q1_, .inl (c1_, 10, .inl (fun _ => 0))), (q2_, .inl (c2_, 10, .inl (fun _ => 0))), (q3_, .inl (c3_, 80, .inl (fun _ => 0))), (q4_, .inl (c4_, 6, .inl (fun _ => 0)))] := hD
  refine lv_aload_n hx hb dX1_init_36 rfl (lv_at hl 0 rfl) ?_
  refine lv_iconst (v := 4) hx hb dX1_init_37 (by decide) ?_
  refine va_newa (atype := .boolean) (ty := .boolean) (N' := 4) (a0 := (4, .inl (fun _ => 0))) hx hb (hts _ q59) rfl hK hP hD hS hA (fun _ => rfl) (by decide) (by decide) (by decide) (Nat.le_of_ble_eq_true rfl) (Nat.le_of_ble_eq_true rfl) dX1_init_38 (fun q5_ c5_ H hK hP hD hS => ?_)
  have hP : va_P G vwCl [(h0, .inr (1, [.ref q1_, .ref q2_, .ref q3_, .ref q4_, .int 0, .null, .null])), (q1_, .inl (c1_, 10, .inl (fun _ => 0))), (q2_, .inl (c2_, 10, .inl (fun _ => 0))), (q3_, .inl (c3_, 80, .inl (fun _ => 0))), (q4_, .inl (c4_, 6, .inl (fun _ => 0))), (q5_, .inl (c5_, 4, .inl (fun _ => 0)))] H := hP
  have hD : va_D A [(h0, .inr (1, [.ref q1_, .ref q2_, .ref q3_, .ref q4_, .int 0, .null, .null])), (q1_, .inl (c1_, 10, .inl (fun _ => 0))), (q2_, .inl (c2_, 10, .inl (fun _ => 0))), (q3_, .inl (c3_, 80, .inl (fun _ => 0))), (q4_, .inl (c4_, 6, .inl (fun _ => 0))), (q5_, .inl (c5_, 4, .inl (fun _ => 0)))] := hD
  have hK : va_K G vwCl [(c1_, .int), (c2_, .int), (c3_, .int), (c4_, .int), (c5_, .boolean)] s := hK
  refine va_putF (D := G) (ci := 1) (v := .ref q5_) (ty := .array .boolean) (C := RX1) (T := TX1) (N := 7) hx hb hts in_X1 tyX1 tyX1_ok nmX1 hown hK hP hD hS 0 rfl rfl 5 (by decide) (hts _ q191) (fun _ h9 => h9) rfl hin rfl (by decide +kernel) rfl rfl (Nat.le_of_ble_eq_true rfl) dX1_init_40 (fun H locs hP hD hS => ?_)
  have hP : va_P G vwCl [(h0, .inr (1, [.ref q1_, .ref q2_, .ref q3_, .ref q4_, .int 0, .ref q5_, .null])), (q1_, .inl (c1_, 10, .inl (fun _ => 0))), (q2_, .inl (c2_, 10, .inl (fun _ => 0))), (q3_, .inl (c3_, 80, .inl (fun _ => 0))), (q4_, .inl (c4_, 6, .inl (fun _ => 0))), (q5_, .inl (c5_, 4, .inl (fun _ => 0)))] H := hP
  have hD : va_D A [(h0, .inr (1, [.ref q1_, .ref q2_, .ref q3_, .ref q4_, .int 0, .ref q5_, .null])), (q1_, .inl (c1_, 10, .inl (fun _ => 0))), (q2_, .inl (c2_, 10, .inl (fun _ => 0))), (q3_, .inl (c3_, 80, .inl (fun _ => 0))), (q4_, .inl (c4_, 6, .inl (fun _ => 0))), (q5_, .inl (c5_, 4, .inl (fun _ => 0)))] := hD
  refine lv_aload_n hx hb dX1_init_43 rfl (lv_at hl 0 rfl) ?_
  refine lv_iconst (v := 4) hx hb dX1_init_44 (by decide) ?_
  refine va_newa (atype := .int) (ty := .int) (N' := 4) (a0 := (4, .inl (fun _ => 0))) hx hb (hts _ q58) rfl hK hP hD hS hA (fun _ => rfl) (by decide) (by decide) (by decide) (Nat.le_of_ble_eq_true rfl) (Nat.le_of_ble_eq_true rfl) dX1_init_45 (fun q6_ c6_ H hK hP hD hS => ?_)
  have hP : va_P G vwCl [(h0, .inr (1, [.ref q1_, .ref q2_, .ref q3_, .ref q4_, .int 0, .ref q5_, .null])), (q1_, .inl (c1_, 10, .inl (fun _ => 0))), (q2_, .inl (c2_, 10, .inl (fun _ => 0))), (q3_, .inl (c3_, 80, .inl (fun _ => 0))), (q4_, .inl (c4_, 6, .inl (fun _ => 0))), (q5_, .inl (c5_, 4, .inl (fun _ => 0))), (q6_, .inl (c6_, 4, .inl (fun _ => 0)))] H := hP
  have hD : va_D A [(h0, .inr (1, [.ref q1_, .ref q2_, .ref q3_, .ref q4_, .int 0, .ref q5_, .null])), (q1_, .inl (c1_, 10, .inl (fun _ => 0))), (q2_, .inl (c2_, 10, .inl (fun _ => 0))), (q3_, .inl (c3_, 80, .inl (fun _ => 0))), (q4_, .inl (c4_, 6, .inl (fun _ => 0))), (q5_, .inl (c5_, 4, .inl (fun _ => 0))), (q6_, .inl (c6_, 4, .inl (fun _ => 0)))] := hD
  have hK : va_K G vwCl [(c1_, .int), (c2_, .int), (c3_, .int), (c4_, .int), (c5_, .boolean), (c6_, .int)] s := hK
  refine va_putF (D := G) (ci := 1) (v := .ref q6_) (ty := .array .int) (C := RX1) (T := TX1) (N := 7) hx hb hts in_X1 tyX1 tyX1_ok nmX1 hown hK hP hD hS 0 rfl rfl 6 (by decide) (hts _ q192) (fun _ h9 => h9) rfl hin rfl (by decide +kernel) rfl rfl (Nat.le_of_ble_eq_true rfl) dX1_init_47 (fun H locs hP hD hS => ?_)
  have hP : va_P G vwCl [(h0, .inr (1, [.ref q1_, .ref q2_, .ref q3_, .ref q4_, .int 0, .ref q5_, .ref q6_])), (q1_, .inl (c1_, 10, .inl (fun _ => 0))), (q2_, .inl (c2_, 10, .inl (fun _ => 0))), (q3_, .inl (c3_, 80, .inl (fun _ => 0))), (q4_, .inl (c4_, 6, .inl (fun _ => 0))), (q5_, .inl (c5_, 4, .inl (fun _ => 0))), (q6_, .inl (c6_, 4, .inl (fun _ => 0)))] H := hP
  have hD : va_D A [(h0, .inr (1, [.ref q1_, .ref q2_, .ref q3_, .ref q4_, .int 0, .ref q5_, .ref q6_])), (q1_, .inl (c1_, 10, .inl (fun _ => 0))), (q2_, .inl (c2_, 10, .inl (fun _ => 0))), (q3_, .inl (c3_, 80, .inl (fun _ => 0))), (q4_, .inl (c4_, 6, .inl (fun _ => 0))), (q5_, .inl (c5_, 4, .inl (fun _ => 0))), (q6_, .inl (c6_, 4, .inl (fun _ => 0)))] := hD
  refine lv_aload_n hx hb dX1_init_50 rfl (lv_at hl 0 rfl) ?_
  refine lv_iconst (v := 1) hx hb dX1_init_51 (by decide) ?_
  refine va_put (D := G) (ci := 1) (v := .int 1) (ty := .int) (C := RX1) (T := TX1) (N := 7) hx hb hts in_X1 tyX1 tyX1_ok nmX1 hown hK hP hD hS 0 rfl rfl 4 (by decide) (hts _ q190) (fun _ h9 => h9) rfl (by decide +kernel) rfl rfl (Nat.le_of_ble_eq_true rfl) dX1_init_52 (fun H locs hP hD hS => ?_)
  have hP : va_P G vwCl [(h0, .inr (1, [.ref q1_, .ref q2_, .ref q3_, .ref q4_, .int 1, .ref q5_, .ref q6_])), (q1_, .inl (c1_, 10, .inl (fun _ => 0))), (q2_, .inl (c2_, 10, .inl (fun _ => 0))), (q3_, .inl (c3_, 80, .inl (fun _ => 0))), (q4_, .inl (c4_, 6, .inl (fun _ => 0))), (q5_, .inl (c5_, 4, .inl (fun _ => 0))), (q6_, .inl (c6_, 4, .inl (fun _ => 0)))] H := hP
  have hD : va_D A [(h0, .inr (1, [.ref q1_, .ref q2_, .ref q3_, .ref q4_, .int 1, .ref q5_, .ref q6_])), (q1_, .inl (c1_, 10, .inl (fun _ => 0))), (q2_, .inl (c2_, 10, .inl (fun _ => 0))), (q3_, .inl (c3_, 80, .inl (fun _ => 0))), (q4_, .inl (c4_, 6, .inl (fun _ => 0))), (q5_, .inl (c5_, 4, .inl (fun _ => 0))), (q6_, .inl (c6_, 4, .inl (fun _ => 0)))] := hD
  refine lv_aload_n hx hb dX1_init_55 rfl (lv_at hl 0 rfl) ?_
  refine va_get (D := G) (ci := 1) (v := .ref q4_) (C := RX1) (T := TX1) (N := 7) hx hb hts in_X1 hown hK hP 0 rfl rfl 3 (by decide) (hts _ q189) (fun _ h9 => h9) rfl dX1_init_56 ?_
  refine lv_iconst (v := 0) hx hb dX1_init_59 (by decide) ?_
  refine lv_bipush (v := (-4)) hx hb dX1_init_60 (by decide) ?_
  refine va_iast hx hb hK hP hD hS 4 3 rfl rfl (by unfold vp_in; decide) dX1_init_62 (fun H locs hP hD hS => ?_)
  have hP : va_P G vwCl [(h0, .inr (1, [.ref q1_, .ref q2_, .ref q3_, .ref q4_, .int 1, .ref q5_, .ref q6_])), (q1_, .inl (c1_, 10, .inl (fun _ => 0))), (q2_, .inl (c2_, 10, .inl (fun _ => 0))), (q3_, .inl (c3_, 80, .inl (fun _ => 0))), (q4_, .inl (c4_, 6, .inl (upd (fun _ => 0) (0 : Int32).toNatClampNeg (-4)))), (q5_, .inl (c5_, 4, .inl (fun _ => 0))), (q6_, .inl (c6_, 4, .inl (fun _ => 0)))] H := hP
  have hD : va_D A [(h0, .inr (1, [.ref q1_, .ref q2_, .ref q3_, .ref q4_, .int 1, .ref q5_, .ref q6_])), (q1_, .inl (c1_, 10, .inl (fun _ => 0))), (q2_, .inl (c2_, 10, .inl (fun _ => 0))), (q3_, .inl (c3_, 80, .inl (fun _ => 0))), (q4_, .inl (c4_, 6, .inl (upd (fun _ => 0) (0 : Int32).toNatClampNeg (-4)))), (q5_, .inl (c5_, 4, .inl (fun _ => 0))), (q6_, .inl (c6_, 4, .inl (fun _ => 0)))] := hD
  exact W.vret hx hb hr (fun t ht hW => ⟨⟨((fun k => match k with | 0 => h0 | 1 => q1_ | 2 => q2_ | 3 => q3_ | 4 => q4_ | 5 => q5_ | _ => q6_), (fun k => match k with | 1 => c1_ | 2 => c2_ | 3 => c3_ | 4 => c4_ | 5 => c5_ | _ => c6_)), rfl, rfl, by rw [ht]; exact hP, va_K.moved hW.alike hK, hD⟩, hS.F ht⟩) hS.2.2 dX1_init_63
end
section
/-! the tie between the two states: bits, what a sheet shows, when the model's trees are what the sheets show -/
set_option maxRecDepth 100000
def bt (x : Int32) (i : Nat) : Bool := x.toBitVec.getLsbD i
/-- looking up from a sheet down, by fuel: g stops with an answer or goes on; z: nothing found -/
def gq {β : Type} (un : Nat → Int32) (g : Nat → Option β) (z : β) : Nat → Nat → β
  | 0, _ => z
  | n + 1, t => match g t with
    | some r => r
    | none => if un t < 0 then z else gq un g z n (un t).toNatClampNeg
def hstop (σ : SX) (f t : Nat) : Option (Option Nat) := if bt (xOw σ t) f = true then some (some t) else if bt (xHi σ t) f = true then some none else if bt (xHd σ t) (f / 4) = true then some none else none
def dstop (σ : SX) (dd t : Nat) : Option Bool := if bt (xOd σ t) dd = true then some true else if bt (xHd σ t) dd = true then some false else none
/-- the sheet that has file f as seen from sheet t -/
def hv (σ : SX) (f t : Nat) : Option Nat := gq (xUn σ) (hstop σ f) none 10 t
/-- whether directory dd is there as seen from sheet t -/
def dv (σ : SX) (dd t : Nat) : Bool := gq (xUn σ) (dstop σ dd) false 10 t
/-- the layers lie on lower layers -/
def chn (un : Nat → Int32) (nl : Nat) : Prop := ∀ k : Nat, k < nl → un k < 0 ∨ ∃ j : Nat, j < k ∧ un k = nI j
/-- tree t of the model is what sheet t shows -/
def Same (σ : SX) (τ : SY) (t : Nat) : Prop :=
  (∀ f : Nat, f < 8 → bt (yFi τ t) f = (hv σ f t).isSome) ∧ (∀ f : Nat, f < 8 → ∀ s : Nat, hv σ f t = some s → yCo τ (8 * t + f) = xCt σ (8 * s + f)) ∧ (∀ dd : Nat, dd < 2 → bt (yDi τ t) dd = dv σ dd t) ∧
  (∀ i : Nat, 8 ≤ i → bt (yFi τ t) i = false) ∧ (∀ i : Nat, 2 ≤ i → bt (yDi τ t) i = false) ∧ (∀ f : Nat, f < 8 → bt (yFi τ t) f = true → bt (yDi τ t) (f / 4) = true) ∧ (∀ f : Nat, f < 8 → bt (xOw σ t) f = true → bt (xHi σ t) f = false)
def alive (σ : SX) (nl t : Nat) : Prop := t < nl ∨ ∃ m : Nat, m < 4 ∧ t = 6 + m ∧ ¬ xIu σ m = 0
def RelN (nl : Nat) (σ : SX) (τ : SY) : Prop :=
  (1 ≤ nl ∧ nl ≤ 6) ∧ (xL σ = nI nl ∧ yL τ = nI nl) ∧ (∀ j : Nat, j < 4 → xIu σ j = yUs τ j) ∧ (xUn σ 0 = -1 ∧ yBa τ 0 = -4) ∧ (∀ k : Nat, 1 ≤ k → k < nl → ∃ j : Nat, j < k ∧ xUn σ k = nI j ∧ yBa τ k = nI j) ∧
  (∀ m : Nat, m < 4 → ¬ xIu σ m = 0 → ∃ j : Nat, j < nl ∧ xUn σ (6 + m) = nI j ∧ yBe τ m = nI j) ∧ okU σ ∧ (∀ m : Nat, m < 4 → vp_in (yBe τ m) 10) ∧ (∀ t : Nat, alive σ nl t → Same σ τ t)
def Rel (σ : SX) (τ : SY) : Prop := ∃ nl : Nat, RelN nl σ τ
end
section
/-! bits of an Int32 (the first rows are of the kit's BITS family, renamed) -/
set_option maxRecDepth 100000
theorem bt_ext {x y : Int32} (h : ∀ i, i < 32 → bt x i = bt y i) : x = y := Int32.toBitVec_inj.mp (BitVec.eq_of_getLsbD_eq (fun i hi => h i hi))
theorem bt_or (x y : Int32) (i : Nat) : bt (x ||| y) i = (bt x i || bt y i) := by unfold bt; rw [Int32.toBitVec_or, BitVec.getLsbD_or]
theorem bt_and (x y : Int32) (i : Nat) : bt (x &&& y) i = (bt x i && bt y i) := by unfold bt; rw [Int32.toBitVec_and, BitVec.getLsbD_and]
theorem bt_xor (x y : Int32) (i : Nat) : bt (x ^^^ y) i = (bt x i ^^ bt y i) := by unfold bt; rw [Int32.toBitVec_xor, BitVec.getLsbD_xor]
theorem bt_big {x : Int32} {i : Nat} (h : 32 ≤ i) : bt x i = false := BitVec.getLsbD_of_ge _ _ h
theorem bt_m1 : ∀ i, i < 32 → bt (-1) i = true := by decide +kernel
theorem bt_0 (i : Nat) : bt 0 i = false := BitVec.getLsbD_zero
theorem bt_sl : ∀ n, n < 32 → ((nI n &&& 31).toBitVec.smod 32).toNat = n := by decide +kernel
theorem bt_sshr (n : Nat) (hn : n < 32) (x : Int32) {i : Nat} (hi : i < 32) : bt (x >>> (nI n &&& 31)) i = if n + i < 32 then bt x (n + i) else bt x 31 := by
  unfold bt
  rw [Int32.toBitVec_shiftRight]
  show (x.toBitVec.sshiftRight ((nI n &&& 31).toBitVec.smod 32).toNat).getLsbD i = _
  rw [bt_sl n hn, BitVec.getLsbD_sshiftRight, BitVec.msb_eq_getLsbD_last]
  simp [hi]
theorem bt_1k : ∀ f, f < 32 → ∀ i, i < 32 → bt ((1 : Int32) <<< (nI f &&& 31)) i = decide (i = f) := by decide +kernel
theorem bt_one {f i : Nat} (hf : f < 32) : bt ((1 : Int32) <<< (nI f &&& 31)) i = decide (i = f) := by
  rcases Nat.lt_or_ge i 32 with h | h
  · exact bt_1k f hf i h
  · rw [bt_big h, decide_eq_false (by omega)]
theorem bt_set {x : Int32} {f i : Nat} (hf : f < 32) : bt (x ||| ((1 : Int32) <<< (nI f &&& 31))) i = (bt x i || decide (i = f)) := by rw [bt_or, bt_one hf]
theorem bt_not {x y : Int32} {i : Nat} : bt (x &&& (y ^^^ (-1))) i = (bt x i && !bt y i) := by
  rcases Nat.lt_or_ge i 32 with h | h
  · rw [bt_and, bt_xor, bt_m1 i h, Bool.xor_true]
  · rw [bt_big h, bt_big h]; rfl
theorem bt_clr {x : Int32} {f i : Nat} (hf : f < 32) : bt (x &&& (((1 : Int32) <<< (nI f &&& 31)) ^^^ (-1))) i = (bt x i && !decide (i = f)) := by rw [bt_not, bt_one hf]
theorem bt_1 : ∀ i, i < 32 → bt 1 i = decide (i = 0) := by decide +kernel
theorem bt_tst {f : Nat} (hf : f < 32) (x : Int32) : ((x >>> (nI f &&& 31)) &&& 1) = if bt x f = true then 1 else 0 := by
  apply bt_ext
  intro i hi
  rw [bt_and, bt_sshr f hf x hi, bt_1 i hi]
  by_cases h : i = 0
  · subst h
    rw [if_pos (by omega), Nat.add_zero]
    cases h2 : bt x f <;> simp <;> decide
  · rw [decide_eq_false h, Bool.and_false]
    cases h2 : bt x f
    · exact (bt_0 i).symm
    · simp [bt_1 i hi, h]
theorem bt_t1 {f : Nat} (hf : f < 32) (x : Int32) : (((x >>> (nI f &&& 31)) &&& 1) = 1) = (bt x f = true) := by
  rw [bt_tst hf]
  cases bt x f <;> simp
theorem sh2 : ∀ f, f < 8 → nI f >>> ((2 : Int32) &&& 31) = nI (f / 4) := by decide +kernel
theorem dv4 : ∀ f, f < 8 → nI f / 4 = nI (f / 4) := by decide +kernel
theorem bt_15k : ∀ dd, dd < 2 → ∀ i, i < 32 → bt ((15 : Int32) <<< ((4 * nI dd) &&& 31)) i = decide (i / 4 = dd) := by decide +kernel
theorem bt_15 {dd i : Nat} (hd : dd < 2) : bt ((15 : Int32) <<< ((4 * nI dd) &&& 31)) i = decide (i / 4 = dd) := by
  rcases Nat.lt_or_ge i 32 with h | h
  · exact bt_15k dd hd i h
  · rw [bt_big h, decide_eq_false (by omega)]
theorem cix {s f : Nat} (hs : s < 10) (hf : f < 8) : ((nI s * 8) + nI f).toNatClampNeg = 8 * s + f := by
  rw [show nI s * 8 = nI (s * 8) from pk_mul s 8, nI_add, nI_clamp (by omega)]
  omega
theorem ciy {s f : Nat} (hs : s < 10) (hf : f < 8) : ((8 * nI s) + nI f).toNatClampNeg = 8 * s + f := by
  rw [show 8 * nI s = nI (8 * s) from pk_mul 8 s, nI_add, nI_clamp (by omega)]
theorem e6 (m : Nat) : (6 : Int32) + nI m = nI (6 + m) := nI_add 6 m
end
section
/-! looking up: fuel, steps, frames; what the two lookups compute -/
set_option maxRecDepth 100000
section GQ
variable {β : Type} {un un' : Nat → Int32} {g g' : Nat → Option β} {z : β} {nl : Nat}
theorem gq_s (un : Nat → Int32) (g : Nat → Option β) (z : β) (n t : Nat) : gq un g z (n + 1) t = match g t with
    | some r => r
    | none => if un t < 0 then z else gq un g z n (un t).toNatClampNeg := rfl
theorem nI_c10 {j : Nat} (h : j < 2 ^ 31) : (nI j).toNatClampNeg = j := nI_clamp h
theorem gq_any (hc : chn un nl) (h6 : nl ≤ 6) : ∀ k : Nat, k < nl → ∀ n n' : Nat, k < n → k < n' → gq un g z n k = gq un g z n' k := by
  intro k
  induction k using Nat.strongRecOn with
  | _ k ih =>
    intro hk n n' hn hn'
    obtain ⟨a, rfl⟩ : ∃ a, n = a + 1 := ⟨n - 1, by omega⟩
    obtain ⟨b, rfl⟩ : ∃ b, n' = b + 1 := ⟨n' - 1, by omega⟩
    rw [gq_s, gq_s]
    cases g k with
    | some r => rfl
    | none =>
      show (if un k < 0 then z else gq un g z a (un k).toNatClampNeg) = (if un k < 0 then z else gq un g z b (un k).toNatClampNeg)
      by_cases hu : un k < 0
      · rw [if_pos hu, if_pos hu]
      · rw [if_neg hu, if_neg hu]
        obtain ⟨j, hj, e⟩ := (hc k hk).resolve_left hu
        rw [e, nI_clamp (by omega)]
        exact ih j hj (by omega) a b (by omega) (by omega)
theorem gq_lay (hc : chn un nl) (h6 : nl ≤ 6) (hu : ∀ k : Nat, k < nl → un' k = un k) (hg : ∀ k : Nat, k < nl → g' k = g k) : ∀ n k : Nat, k < nl → gq un' g' z n k = gq un g z n k := by
  intro n
  induction n with
  | zero => intro k _; rfl
  | succ n ih =>
    intro k hk
    rw [gq_s, gq_s, hg k hk, hu k hk]
    cases g k with
    | some r => rfl
    | none =>
      show (if un k < 0 then z else gq un' g' z n (un k).toNatClampNeg) = (if un k < 0 then z else gq un g z n (un k).toNatClampNeg)
      by_cases h0 : un k < 0
      · rw [if_pos h0, if_pos h0]
      · rw [if_neg h0, if_neg h0]
        obtain ⟨j, hj, e⟩ := (hc k hk).resolve_left h0
        rw [e, nI_clamp (by omega)]
        exact ih j (by omega)
/-- a sheet that lies on layer j -/
theorem gq_top (hc : chn un nl) (h6 : nl ≤ 6) (hu : ∀ k : Nat, k < nl → un' k = un k) (hg : ∀ k : Nat, k < nl → g' k = g k) {t j : Nat} (ht : un' t = nI j) (hj : j < nl) : gq un' g' z 10 t = (g' t).getD (gq un g z 10 j) := by
  rw [gq_s un' g' z 9 t]
  cases g' t with
  | some r => rfl
  | none =>
    show (if un' t < 0 then z else gq un' g' z 9 (un' t).toNatClampNeg) = gq un g z 10 j
    rw [ht, if_neg (nI_pos (by omega)), nI_clamp (by omega), gq_lay hc h6 hu hg 9 j hj]
    exact gq_any hc h6 j hj 9 10 (by omega) (by omega)
end GQ
/-- two states agree at a sheet -/
def Agr (σ σ' : SX) (k : Nat) : Prop := xUn σ' k = xUn σ k ∧ xOw σ' k = xOw σ k ∧ xHi σ' k = xHi σ k ∧ xOd σ' k = xOd σ k ∧ xHd σ' k = xHd σ k
theorem agr_h {σ σ' : SX} {k f : Nat} (h : Agr σ σ' k) : hstop σ' f k = hstop σ f k := by
  unfold hstop; rw [h.2.1, h.2.2.1, h.2.2.2.2]
theorem agr_d {σ σ' : SX} {k f : Nat} (h : Agr σ σ' k) : dstop σ' f k = dstop σ f k := by
  unfold dstop; rw [h.2.2.2.1, h.2.2.2.2]
section VW
variable {σ σ' : SX} {nl t j f : Nat}
theorem hv_top (hc : chn (xUn σ) nl) (h6 : nl ≤ 6) (hl : ∀ k : Nat, k < nl → Agr σ σ' k) (ht : xUn σ' t = nI j) (hj : j < nl) : hv σ' f t = (hstop σ' f t).getD (hv σ f j) := gq_top (g := hstop σ f) (g' := hstop σ' f) hc h6 (fun k h => (hl k h).1) (fun k h => agr_h (hl k h)) ht hj
theorem dv_top (hc : chn (xUn σ) nl) (h6 : nl ≤ 6) (hl : ∀ k : Nat, k < nl → Agr σ σ' k) (ht : xUn σ' t = nI j) (hj : j < nl) : dv σ' f t = (dstop σ' f t).getD (dv σ f j) := gq_top (g := dstop σ f) (g' := dstop σ' f) hc h6 (fun k h => (hl k h).1) (fun k h => agr_d (hl k h)) ht hj
theorem agr_rf : Agr σ σ t := ⟨rfl, rfl, rfl, rfl, rfl⟩
theorem hv_lay (hc : chn (xUn σ) nl) (h6 : nl ≤ 6) (hl : ∀ k : Nat, k < nl → Agr σ σ' k) (ht : t < nl) : hv σ' f t = hv σ f t := gq_lay hc h6 (fun k h => (hl k h).1) (fun k h => agr_h (hl k h)) 10 t ht
theorem dv_lay (hc : chn (xUn σ) nl) (h6 : nl ≤ 6) (hl : ∀ k : Nat, k < nl → Agr σ σ' k) (ht : t < nl) : dv σ' f t = dv σ f t := gq_lay hc h6 (fun k h => (hl k h).1) (fun k h => agr_d (hl k h)) 10 t ht
/-- a live sheet: a layer, or one that lies on a layer -/
theorem hv_fr (hc : chn (xUn σ) nl) (h6 : nl ≤ 6) (hl : ∀ k : Nat, k < nl → Agr σ σ' k) (ht : t < nl ∨ (∃ j : Nat, j < nl ∧ xUn σ t = nI j) ∧ Agr σ σ' t) : hv σ' f t = hv σ f t := by
  rcases ht with ht | ⟨⟨j, hj, e⟩, ha⟩
  · exact hv_lay hc h6 hl ht
  · rw [hv_top hc h6 hl (ha.1.trans e) hj, hv_top (σ' := σ) hc h6 (fun k _ => agr_rf) e hj, agr_h ha]
theorem dv_fr (hc : chn (xUn σ) nl) (h6 : nl ≤ 6) (hl : ∀ k : Nat, k < nl → Agr σ σ' k) (ht : t < nl ∨ (∃ j : Nat, j < nl ∧ xUn σ t = nI j) ∧ Agr σ σ' t) : dv σ' f t = dv σ f t := by
  rcases ht with ht | ⟨⟨j, hj, e⟩, ha⟩
  · exact dv_lay hc h6 hl ht
  · rw [dv_top hc h6 hl (ha.1.trans e) hj, dv_top (σ' := σ) hc h6 (fun k _ => agr_rf) e hj, agr_d ha]
theorem hq_in (hc : chn (xUn σ) nl) (h6 : nl ≤ 6) : ∀ n k s : Nat, k < nl → gq (xUn σ) (hstop σ f) none n k = some s → s < nl := by
  intro n
  induction n with
  | zero => intro k s _ h; cases h
  | succ n ih =>
    intro k s hk h
    rw [gq_s] at h
    cases hg : hstop σ f k with
    | some r =>
      rw [hg] at h
      have h : r = some s := h
      unfold hstop at hg
      split at hg
      · cases hg; cases h; exact hk
      · split at hg
        · cases hg; cases h
        · split at hg
          · cases hg; cases h
          · cases hg
    | none =>
      rw [hg] at h
      have h : (if xUn σ k < 0 then none else gq (xUn σ) (hstop σ f) none n (xUn σ k).toNatClampNeg) = some s := h
      by_cases h0 : xUn σ k < 0
      · rw [if_pos h0] at h; cases h
      · rw [if_neg h0] at h
        obtain ⟨j, hj, e⟩ := (hc k hk).resolve_left h0
        rw [e, nI_clamp (by omega)] at h
        exact ih j s (by omega) h
theorem hv_in (hc : chn (xUn σ) nl) (h6 : nl ≤ 6) (ht : t < nl) {s : Nat} (h : hv σ f t = some s) : s < nl := hq_in hc h6 10 t s ht h
theorem hst_in {s : Nat} (h : hstop σ f t = some (some s)) : s = t := by
  unfold hstop at h
  split at h
  · cases h; rfl
  · split at h
    · cases h
    · split at h
      · cases h
      · cases h
/-- the holder is the sheet itself or a layer -/
theorem hv_or (hc : chn (xUn σ) nl) (h6 : nl ≤ 6) (ht : t < nl ∨ ∃ j : Nat, j < nl ∧ xUn σ t = nI j) {s : Nat} (h : hv σ f t = some s) : s = t ∨ s < nl := by
  rcases ht with ht | ⟨j, hj, e⟩
  · exact Or.inr (hv_in hc h6 ht h)
  · rw [hv_top (σ' := σ) hc h6 (fun k _ => agr_rf) e hj] at h
    cases hg : hstop σ f t with
    | some r =>
      rw [hg] at h
      have h : r = some s := h
      subst h
      exact Or.inl (hst_in hg)
    | none =>
      rw [hg] at h
      exact Or.inr (hv_in hc h6 hj h)
end VW
/-! the code's two lookups -/
def oI : Option Nat → Int32
  | none => -1
  | some s => nI s
theorem hold_neg {σ : SX} {g : Int32} {n : Nat} {x y : Int32} (h : x < 0) : lX_holder_10 σ g n x y = -1 := by
  cases n with
  | zero => rfl
  | succ n => exact if_pos h
theorem dir_neg {σ : SX} {g : Int32} {n : Nat} {x y : Int32} (h : x < 0) : lX_directoryThere_5 σ g n x y = 0 := by
  cases n with
  | zero => rfl
  | succ n => exact if_pos h
theorem hold_q {σ : SX} {f : Nat} (hU : okU σ) (hf : f < 8) : ∀ (n t : Nat) (y : Int32), t < 10 → lX_holder_10 σ (nI f) n (nI t) y = oI (gq (xUn σ) (hstop σ f) none n t) := by
  intro n
  induction n with
  | zero => intro t y _; rfl
  | succ n ih =>
    intro t y ht
    rw [gq_s]
    unfold lX_holder_10
    rw [if_neg (nI_pos (by omega)), nI_clamp (by omega), sh2 f hf]
    simp only [bt_t1 (show f < 32 by omega), bt_t1 (show f / 4 < 32 by omega)]
    unfold hstop
    by_cases h1 : bt (xOw σ t) f = true
    · rw [if_pos h1, if_pos h1]; rfl
    · rw [if_neg h1, if_neg h1]
      by_cases h2 : bt (xHi σ t) f = true
      · rw [if_pos h2, if_pos h2]; rfl
      · rw [if_neg h2, if_neg h2]
        by_cases h3 : bt (xHd σ t) (f / 4) = true
        · rw [if_pos h3, if_pos h3]; rfl
        · rw [if_neg h3, if_neg h3]
          show _ = oI (if xUn σ t < 0 then none else gq (xUn σ) (hstop σ f) none n (xUn σ t).toNatClampNeg)
          by_cases h4 : xUn σ t < 0
          · rw [if_pos h4]; exact hold_neg h4
          · rw [if_neg h4]
            obtain ⟨j, hj, e⟩ := vp_in_of (b_or (hU t ht) h4) (by decide)
            rw [e, nI_clamp (by omega)]
            exact ih j _ hj
theorem dir_q {σ : SX} {dd : Nat} (hU : okU σ) (hd : dd < 2) : ∀ (n t : Nat) (y : Int32), t < 10 → lX_directoryThere_5 σ (nI dd) n (nI t) y = if gq (xUn σ) (dstop σ dd) false n t = true then 1 else 0 := by
  intro n
  induction n with
  | zero => intro t y _; rfl
  | succ n ih =>
    intro t y ht
    rw [gq_s]
    unfold lX_directoryThere_5
    rw [if_neg (nI_pos (by omega)), nI_clamp (by omega)]
    simp only [bt_t1 (show dd < 32 by omega)]
    unfold dstop
    by_cases h1 : bt (xOd σ t) dd = true
    · rw [if_pos h1, if_pos h1]; rfl
    · rw [if_neg h1, if_neg h1]
      by_cases h3 : bt (xHd σ t) dd = true
      · rw [if_pos h3, if_pos h3]; rfl
      · rw [if_neg h3, if_neg h3]
        show _ = if (if xUn σ t < 0 then false else gq (xUn σ) (dstop σ dd) false n (xUn σ t).toNatClampNeg) = true then (1 : Int32) else 0
        by_cases h4 : xUn σ t < 0
        · rw [if_pos h4]; exact dir_neg h4
        · rw [if_neg h4]
          obtain ⟨j, hj, e⟩ := vp_in_of (b_or (hU t ht) h4) (by decide)
          rw [e, nI_clamp (by omega)]
          exact ih j _ hj
theorem hold_eq {σ : SX} {f t : Nat} (hU : okU σ) (hf : f < 8) (ht : t < 10) : fX_holder σ (nI t) (nI f) = oI (hv σ f t) := hold_q hU hf 10 t 0 ht
theorem dir_eq {σ : SX} {dd t : Nat} (hU : okU σ) (hd : dd < 2) (ht : t < 10) : fX_directoryThere σ (nI t) (nI dd) = if dv σ dd t = true then 1 else 0 := dir_q hU hd 10 t 0 ht
theorem oI_n : oI none < 0 := by decide
theorem oI_s {s : Nat} (h : s < 10) : ¬ oI (some s) < 0 := nI_pos (by omega)
theorem oI_ge {s : Nat} (h : s < 10) : 0 ≤ oI (some s) := nI_pos' (by omega)
theorem oI_nge : ¬ 0 ≤ oI none := by decide
end
section
/-! the tie: what it gives, its frame, changes at one top -/
set_option maxRecDepth 100000
section R1
variable {nl m : Nat} {σ σ' : SX} {τ τ' : SY}
theorem RelN.ch (h : RelN nl σ τ) : chn (xUn σ) nl := by
  obtain ⟨-, -, -, hB, hU, -⟩ := h
  intro k hk
  by_cases h0 : k = 0
  · subst h0
    left
    rw [hB.1]
    decide
  · obtain ⟨j, hj, e, -⟩ := hU k (by omega) hk
    exact Or.inr ⟨j, hj, e⟩
theorem RelN.six (h : RelN nl σ τ) : nl ≤ 6 := h.1.2
theorem RelN.u (h : RelN nl σ τ) : okU σ := h.2.2.2.2.2.2.1
theorem RelN.top (h : RelN nl σ τ) (hm : m < 4) (hu : ¬ xIu σ m = 0) : ∃ j : Nat, j < nl ∧ xUn σ (6 + m) = nI j ∧ yBe τ m = nI j := h.2.2.2.2.2.1 m hm hu
theorem RelN.same (h : RelN nl σ τ) (hm : m < 4) (hu : ¬ xIu σ m = 0) : Same σ τ (6 + m) := h.2.2.2.2.2.2.2.2 _ (Or.inr ⟨m, hm, rfl, hu⟩)
theorem RelN.lay (h : RelN nl σ τ) {k : Nat} (hk : k < nl) : Same σ τ k := h.2.2.2.2.2.2.2.2 _ (Or.inl hk)
theorem rel_okX (h : Rel σ τ) : okX σ := by
  obtain ⟨nl, h⟩ := h
  refine ⟨h.u, ?_⟩
  rw [h.2.1.1, nI_toInt (by have := h.six; omega)]
  have := h.1
  omega
theorem rel_okY (h : Rel σ τ) : okY τ := by
  obtain ⟨nl, h⟩ := h
  have h1 := h.1
  refine ⟨?_, ?_, h.2.2.2.2.2.2.2.1⟩
  · rw [h.2.1.2, nI_toInt (by omega)]; omega
  · rw [h.2.1.2, nI_toInt (by omega)]; omega
theorem lt4 {p : Int32} (h : p < 4) : p ≤ 3 := by
  rw [Int32.lt_iff_toInt_lt, show (4 : Int32).toInt = 4 by decide] at h
  rw [Int32.le_iff_toInt_le, show (3 : Int32).toInt = 3 by decide]
  omega
theorem nlt4 {p : Int32} (h : ¬ p < 4) : ¬ p ≤ 3 := by
  rw [Int32.lt_iff_toInt_lt, show (4 : Int32).toInt = 4 by decide] at h
  rw [Int32.le_iff_toInt_le, show (3 : Int32).toInt = 3 by decide]
  omega
/-- a mount's number: refused alike -/
theorem rf_x (h : RelN nl σ τ) (p : Int32) : (fX_refused σ p = -1 ∧ fY_test τ p = -1) ∨ (∃ m : Nat, m < 4 ∧ p = nI m ∧ xIu σ m = 0 ∧ fX_refused σ p = -3 ∧ fY_test τ p = -3) ∨ (∃ m : Nat, m < 4 ∧ p = nI m ∧ ¬ xIu σ m = 0 ∧ fX_refused σ p = 0 ∧ fY_test τ p = 0) := by
  by_cases h0 : p < 0
  · exact Or.inl ⟨tp h0 rfl, tp h0 rfl⟩
  · by_cases h1 : p < 4
    · right
      obtain ⟨m, hm, rfl⟩ := vp_in_of (b_lt (N := 4) h0 h1 (by decide)) (by decide)
      have ei := h.2.2.1 m hm
      have ec : (nI m).toNatClampNeg = m := nI_clamp (by omega)
      by_cases h2 : xIu σ m = 0
      · exact Or.inl ⟨m, hm, rfl, h2, tn h0 (tp h1 (tp (by rw [ec]; exact h2) rfl)), tn h0 (tp (lt4 h1) (tp (by rw [ec, ← ei]; exact h2) rfl))⟩
      · exact Or.inr ⟨m, hm, rfl, h2, tn h0 (tp h1 (tn (by rw [ec]; exact h2) rfl)), tn h0 (tp (lt4 h1) (tn (by rw [ec, ← ei]; exact h2) rfl))⟩
    · exact Or.inl ⟨tn h0 (tn h1 rfl), tn h0 (tn (nlt4 h1) rfl)⟩
theorem rf_2 (h : RelN nl σ τ) (p : Int32) : (fX_refused σ p = fY_test τ p ∧ ¬ 0 ≤ fX_refused σ p ∧ ¬ fY_test τ p = 0) ∨ (∃ m : Nat, m < 4 ∧ p = nI m ∧ ¬ xIu σ m = 0 ∧ fX_refused σ p = 0 ∧ fY_test τ p = 0) := by
  rcases rf_x h p with ⟨e1, e2⟩ | ⟨m, -, -, -, e1, e2⟩ | h
  · left; rw [e1, e2]; exact ⟨rfl, by decide, by decide⟩
  · left; rw [e1, e2]; exact ⟨rfl, by decide, by decide⟩
  · exact Or.inr h
theorem td_n {p q : Int32} (h : ¬ fY_test τ p = 0) : fY_testDirectory τ p q = fY_test τ p := tn h rfl
theorem tf_n {p q : Int32} (h : ¬ fY_test τ p = 0) : fY_testFile τ p q = fY_test τ p := tn h rfl
/-- a live sheet that is not touched -/
theorem same_fr {t : Nat} (hc : chn (xUn σ) nl) (h6 : nl ≤ 6) (hl : ∀ k : Nat, k < nl → Agr σ σ' k) (ht : t < nl ∨ (∃ j : Nat, j < nl ∧ xUn σ t = nI j) ∧ Agr σ σ' t) (eC : ∀ s f : Nat, f < 8 → (s = t ∨ s < nl) → xCt σ' (8 * s + f) = xCt σ (8 * s + f))
    (eF : yFi τ' t = yFi τ t) (eD : yDi τ' t = yDi τ t) (eK : ∀ f : Nat, f < 8 → yCo τ' (8 * t + f) = yCo τ (8 * t + f)) (h : Same σ τ t) : Same σ' τ' t := by
  have eh : ∀ f, hv σ' f t = hv σ f t := fun f => hv_fr hc h6 hl ht
  have ed : ∀ f, dv σ' f t = dv σ f t := fun f => dv_fr hc h6 hl ht
  have ht' : t < nl ∨ ∃ j : Nat, j < nl ∧ xUn σ t = nI j := ht.imp id (fun q => q.1)
  have eA : Agr σ σ' t := by
    rcases ht with q | q
    · exact hl t q
    · exact q.2
  obtain ⟨h1, h2, h3, h4, h5, h7, h8⟩ := h
  refine ⟨fun f hf => ?_, fun f hf s hs => ?_, fun dd hd => ?_, ?_, ?_, ?_, ?_⟩
  · rw [eF, eh]; exact h1 f hf
  · rw [eh] at hs
    rw [eK f hf, h2 f hf s hs, eC s f hf (hv_or hc h6 ht' hs)]
  · rw [eD, ed]; exact h3 dd hd
  · rw [eF]; exact h4
  · rw [eD]; exact h5
  · rw [eF, eD]; exact h7
  · rw [eA.2.1, eA.2.2.1]; exact h8
def TopX (σ σ' : SX) (t0 : Nat) : Prop := xL σ' = xL σ ∧ xUn σ' = xUn σ ∧ xIu σ' = xIu σ ∧ (∀ k : Nat, k ≠ t0 → xOw σ' k = xOw σ k ∧ xHi σ' k = xHi σ k ∧ xOd σ' k = xOd σ k ∧ xHd σ' k = xHd σ k) ∧ (∀ s f : Nat, f < 8 → s ≠ t0 → xCt σ' (8 * s + f) = xCt σ (8 * s + f))
def TopY (τ τ' : SY) (t0 : Nat) : Prop := yL τ' = yL τ ∧ yBa τ' = yBa τ ∧ yUs τ' = yUs τ ∧ yBe τ' = yBe τ ∧ (∀ k : Nat, k ≠ t0 → yDi τ' k = yDi τ k ∧ yFi τ' k = yFi τ k) ∧ (∀ s f : Nat, f < 8 → s ≠ t0 → yCo τ' (8 * s + f) = yCo τ (8 * s + f))
theorem TopX.agr {t0 k : Nat} (h : TopX σ σ' t0) (hk : k ≠ t0) : Agr σ σ' k := ⟨congrFun h.2.1 k, (h.2.2.2.1 k hk).1, (h.2.2.2.1 k hk).2.1, (h.2.2.2.1 k hk).2.2.1, (h.2.2.2.1 k hk).2.2.2⟩
/-- a change at the top of a used mount alone -/
theorem top_upd (h : RelN nl σ τ) (hm : m < 4) (hu : ¬ xIu σ m = 0) (hx : TopX σ σ' (6 + m)) (hy : TopY τ τ' (6 + m)) (hS : Same σ' τ' (6 + m)) : RelN nl σ' τ' := by
  have hc := h.ch
  obtain ⟨h1, hL, hI, hB, hUn, hT, hok, hBe, hS0⟩ := h
  have hAg := fun (k : Nat) (hk : k ≠ 6 + m) => hx.agr hk
  obtain ⟨eL, eU, eI, eS, eC⟩ := hx
  obtain ⟨yl, yB, yU, yE, yS, yC⟩ := hy
  refine ⟨h1, ⟨eL.trans hL.1, yl.trans hL.2⟩, fun j hj => ?_, ?_, ?_, ?_, ?_, ?_, ?_⟩
  · rw [eI, yU]; exact hI j hj
  · rw [eU, yB]; exact hB
  · rw [eU, yB]; exact hUn
  · rw [eI, eU, yE]; exact hT
  · intro j hj
    rw [eU]; exact hok j hj
  · rw [yE]; exact hBe
  · intro t ht
    by_cases e : t = 6 + m
    · subst e; exact hS
    · have ht' : alive σ nl t := by
        unfold alive at ht ⊢
        rw [eI] at ht
        exact ht
      refine same_fr hc h1.2 (fun k hk => hAg k (by omega)) ?_ (fun s f hf hs => eC s f hf ?_) (yS t e).2 (yS t e).1 (fun f hf => yC t f hf e) (hS0 t ht')
      · rcases ht' with ht' | ⟨m', hm', rfl, hu'⟩
        · exact Or.inl ht'
        · obtain ⟨j, hj, ej, -⟩ := hT m' hm' hu'
          exact Or.inr ⟨⟨j, hj, ej⟩, hAg _ e⟩
      · rcases hs with rfl | hs
        · exact e
        · omega
/-- what a used top shows, before and behind such a change -/
theorem top_v (h : RelN nl σ τ) (hm : m < 4) (hu : ¬ xIu σ m = 0) (hx : TopX σ σ' (6 + m)) : ∃ j : Nat, j < nl ∧ xUn σ (6 + m) = nI j ∧ (∀ f, hv σ f (6 + m) = (hstop σ f (6 + m)).getD (hv σ f j)) ∧ (∀ f, hv σ' f (6 + m) = (hstop σ' f (6 + m)).getD (hv σ f j)) ∧ (∀ f, dv σ f (6 + m) = (dstop σ f (6 + m)).getD (dv σ f j)) ∧ (∀ f, dv σ' f (6 + m) = (dstop σ' f (6 + m)).getD (dv σ f j)) := by
  obtain ⟨j, hj, ej, -⟩ := h.top hm hu
  have h6 := h.six
  have hl : ∀ k : Nat, k < nl → Agr σ σ' k := fun k hk => hx.agr (by omega)
  have ej' : xUn σ' (6 + m) = nI j := by rw [hx.2.1]; exact ej
  exact ⟨j, hj, ej, fun f => hv_top h.ch h6 (fun k _ => agr_rf) ej hj, fun f => hv_top h.ch h6 hl ej' hj, fun f => dv_top h.ch h6 (fun k _ => agr_rf) ej hj, fun f => dv_top h.ch h6 hl ej' hj⟩
theorem top_in (h : RelN nl σ τ) (hm : m < 4) (hu : ¬ xIu σ m = 0) {f s : Nat} (hs : hv σ f (6 + m) = some s) : s = 6 + m ∨ s < nl := by
  obtain ⟨j, hj, ej, -⟩ := h.top hm hu
  exact hv_or h.ch h.six (Or.inr ⟨j, hj, ej⟩) hs
theorem hv10 (h : RelN nl σ τ) {t : Nat} (ht : alive σ nl t) {f s : Nat} (hs : hv σ f t = some s) : s < 10 := by
  have h6 := h.six
  rcases ht with ht | ⟨m, hm, rfl, hu⟩
  · have := hv_in h.ch h6 ht hs
    omega
  · have := top_in h hm hu hs
    omega
end R1
end
section
/-! changes at a used top: directory made, removed, file set, cleared, marks dropped -/
set_option maxRecDepth 100000
theorem bF {b : Bool} (h : ¬ b = true) : b = false := by cases b <;> simp_all
theorem hst_o {σ : SX} {f t : Nat} (h : bt (xOw σ t) f = true) : hstop σ f t = some (some t) := if_pos h
theorem hst_h {σ : SX} {f t : Nat} (h : ¬ bt (xOw σ t) f = true) (h2 : bt (xHi σ t) f = true) : hstop σ f t = some none := tn h (tp h2 rfl)
theorem hst_c {σ : SX} {f t : Nat} (h : ¬ bt (xOw σ t) f = true) (h2 : bt (xHd σ t) (f / 4) = true) : hstop σ f t = some none := by
  unfold hstop
  rw [if_neg h]
  by_cases h3 : bt (xHi σ t) f = true
  · rw [if_pos h3]
  · rw [if_neg h3, if_pos h2]
theorem hst_n {σ : SX} {f t : Nat} (h : ¬ bt (xOw σ t) f = true) (h2 : ¬ bt (xHi σ t) f = true) (h3 : ¬ bt (xHd σ t) (f / 4) = true) : hstop σ f t = none := tn h (tn h2 (tn h3 rfl))
theorem hst_eq {σ σ' : SX} {f t : Nat} (h : bt (xOw σ' t) f = bt (xOw σ t) f) (h2 : bt (xHi σ' t) f = bt (xHi σ t) f) (h3 : bt (xHd σ' t) (f / 4) = bt (xHd σ t) (f / 4)) : hstop σ' f t = hstop σ f t := by
  unfold hstop; rw [h, h2, h3]
theorem dst_eq {σ σ' : SX} {f t : Nat} (h : bt (xOd σ' t) f = bt (xOd σ t) f) (h3 : bt (xHd σ' t) f = bt (xHd σ t) f) : dstop σ' f t = dstop σ f t := by
  unfold dstop; rw [h, h3]
section S1
variable {nl m dd g : Nat} {σ σ' : SX} {τ τ' : SY}
theorem mkdir_S (h : RelN nl σ τ) (hm : m < 4) (hu : ¬ xIu σ m = 0) (hd : dd < 2) (hx : TopX σ σ' (6 + m)) (hy : TopY τ τ' (6 + m)) (hn : dv σ dd (6 + m) = false)
    (eO : xOw σ' (6 + m) = xOw σ (6 + m)) (eH : xHi σ' (6 + m) = xHi σ (6 + m)) (eD : ∀ i, bt (xOd σ' (6 + m)) i = (bt (xOd σ (6 + m)) i || decide (i = dd))) (eV : ∀ i, bt (xHd σ' (6 + m)) i = (bt (xHd σ (6 + m)) i || decide (i = dd))) (eC : ∀ f, f < 8 → xCt σ' (8 * (6 + m) + f) = xCt σ (8 * (6 + m) + f))
    (yD : ∀ i, bt (yDi τ' (6 + m)) i = (bt (yDi τ (6 + m)) i || decide (i = dd))) (yF : yFi τ' (6 + m) = yFi τ (6 + m)) (yC : ∀ f, f < 8 → yCo τ' (8 * (6 + m) + f) = yCo τ (8 * (6 + m) + f)) : RelN nl σ' τ' := by
  have hS := h.same hm hu
  obtain ⟨j, hj, ej, V, V', D, D'⟩ := top_v h hm hu hx
  refine top_upd h hm hu hx hy ?_
  generalize 6 + m = t at *
  obtain ⟨h1, h2, h3, h4, h5, h7, h8⟩ := hS
  have K : ∀ f, f < 8 → hv σ' f t = hv σ f t := by
    intro f hf
    by_cases ef : f / 4 = dd
    · have e0 : bt (yFi τ t) f = false := by
        apply bF
        intro q
        have q2 := h7 f hf q
        rw [ef, h3 dd hd, hn] at q2
        cases q2
      have e1 : hv σ f t = none := by
        have q := h1 f hf
        rw [e0] at q
        cases hh : hv σ f t with
        | none => rfl
        | some s => rw [hh] at q; cases q
      have e2 : ¬ bt (xOw σ t) f = true := by
        intro q
        rw [V f, hst_o q] at e1
        cases e1
      rw [e1, V' f, hst_c (by rw [eO]; exact e2) (by rw [eV, ef]; simp)]
      rfl
    · rw [V f, V' f, hst_eq (σ := σ) (σ' := σ') (f := f) (t := t) (by rw [eO]) (by rw [eH]) (by rw [eV, decide_eq_false ef, Bool.or_false])]
  refine ⟨fun f hf => ?_, fun f hf s hs => ?_, fun d' hd' => ?_, ?_, fun i hi => ?_, fun f hf q => ?_, ?_⟩
  · rw [yF, K f hf]; exact h1 f hf
  · rw [K f hf] at hs
    rw [yC f hf, h2 f hf s hs]
    by_cases es : s = t
    · subst es; exact (eC f hf).symm
    · exact (hx.2.2.2.2 s f hf es).symm
  · rw [yD, h3 d' hd']
    by_cases ed : d' = dd
    · subst ed
      rw [D' d', show dstop σ' d' t = some true from if_pos (by rw [eD]; simp)]
      simp
    · rw [D' d', D d', dst_eq (σ := σ) (σ' := σ') (f := d') (t := t) (by rw [eD, decide_eq_false ed, Bool.or_false]) (by rw [eV, decide_eq_false ed, Bool.or_false]), decide_eq_false ed, Bool.or_false]
  · rw [yF]; exact h4
  · rw [yD, h5 i hi, decide_eq_false (by omega)]; rfl
  · rw [yF] at q
    rw [yD, h7 f hf q]; rfl
  · rw [eO, eH]; exact h8
theorem rmdir_S (h : RelN nl σ τ) (hm : m < 4) (hu : ¬ xIu σ m = 0) (hd : dd < 2) (hx : TopX σ σ' (6 + m)) (hy : TopY τ τ' (6 + m))
    (eO : ∀ i, bt (xOw σ' (6 + m)) i = (bt (xOw σ (6 + m)) i && !decide (i / 4 = dd))) (eH : ∀ i, bt (xHi σ' (6 + m)) i = (bt (xHi σ (6 + m)) i && !decide (i / 4 = dd))) (eD : ∀ i, bt (xOd σ' (6 + m)) i = (bt (xOd σ (6 + m)) i && !decide (i = dd))) (eV : ∀ i, bt (xHd σ' (6 + m)) i = (bt (xHd σ (6 + m)) i || decide (i = dd))) (eC : ∀ f, f < 8 → xCt σ' (8 * (6 + m) + f) = xCt σ (8 * (6 + m) + f))
    (yD : ∀ i, bt (yDi τ' (6 + m)) i = (bt (yDi τ (6 + m)) i && !decide (i = dd))) (yF : ∀ i, bt (yFi τ' (6 + m)) i = (bt (yFi τ (6 + m)) i && !decide (i / 4 = dd))) (yC : ∀ f, f < 8 → yCo τ' (8 * (6 + m) + f) = yCo τ (8 * (6 + m) + f)) : RelN nl σ' τ' := by
  have hS := h.same hm hu
  obtain ⟨j, hj, ej, V, V', D, D'⟩ := top_v h hm hu hx
  refine top_upd h hm hu hx hy ?_
  generalize 6 + m = t at *
  obtain ⟨h1, h2, h3, h4, h5, h7, h8⟩ := hS
  have K0 : ∀ f, f / 4 = dd → hv σ' f t = none := by
    intro f ef
    rw [V' f, hst_c (by rw [eO, ef]; simp) (by rw [eV, ef]; simp)]
    rfl
  have K : ∀ f, ¬ f / 4 = dd → hv σ' f t = hv σ f t := by
    intro f ef
    rw [V f, V' f, hst_eq (σ := σ) (σ' := σ') (f := f) (t := t) (by rw [eO, decide_eq_false ef]; first | exact Bool.or_false _ | exact Bool.and_true _) (by rw [eH, decide_eq_false ef]; first | exact Bool.or_false _ | exact Bool.and_true _) (by rw [eV, decide_eq_false ef, Bool.or_false])]
  refine ⟨fun f hf => ?_, fun f hf s hs => ?_, fun d' hd' => ?_, fun i hi => ?_, fun i hi => ?_, fun f hf q => ?_, fun f hf q => ?_⟩
  · rw [yF]
    by_cases ef : f / 4 = dd
    · rw [K0 f ef, decide_eq_true ef]; simp
    · rw [K f ef, decide_eq_false ef, h1 f hf]; simp
  · by_cases ef : f / 4 = dd
    · rw [K0 f ef] at hs; cases hs
    · rw [K f ef] at hs
      rw [yC f hf, h2 f hf s hs]
      by_cases es : s = t
      · subst es; exact (eC f hf).symm
      · exact (hx.2.2.2.2 s f hf es).symm
  · rw [yD, h3 d' hd']
    by_cases ed : d' = dd
    · subst ed
      rw [D' d', show dstop σ' d' t = some false from tn (by rw [eD]; simp) (tp (by rw [eV]; simp) rfl)]
      simp
    · rw [D' d', D d', dst_eq (σ := σ) (σ' := σ') (f := d') (t := t) (by rw [eD, decide_eq_false ed]; first | exact Bool.or_false _ | exact Bool.and_true _) (by rw [eV, decide_eq_false ed, Bool.or_false]), decide_eq_false ed]
      simp
  · rw [yF, h4 i hi]; rfl
  · rw [yD, h5 i hi]; rfl
  · rw [yF] at q
    simp only [Bool.and_eq_true, Bool.not_eq_true', decide_eq_false_iff_not] at q
    rw [yD, h7 f hf q.1, decide_eq_false q.2]; rfl
  · rw [eO] at q
    simp only [Bool.and_eq_true, Bool.not_eq_true', decide_eq_false_iff_not] at q
    rw [eH, h8 f hf q.1]; rfl
theorem set_S {v : Int32} (h : RelN nl σ τ) (hm : m < 4) (hu : ¬ xIu σ m = 0) (hg : g < 8) (hx : TopX σ σ' (6 + m)) (hy : TopY τ τ' (6 + m)) (hn : bt (yDi τ (6 + m)) (g / 4) = true)
    (eO : ∀ i, bt (xOw σ' (6 + m)) i = (bt (xOw σ (6 + m)) i || decide (i = g))) (eH : ∀ i, bt (xHi σ' (6 + m)) i = (bt (xHi σ (6 + m)) i && !decide (i = g))) (eD : xOd σ' (6 + m) = xOd σ (6 + m)) (eV : xHd σ' (6 + m) = xHd σ (6 + m)) (eC : ∀ f, f < 8 → xCt σ' (8 * (6 + m) + f) = if f = g then v else xCt σ (8 * (6 + m) + f))
    (yD : yDi τ' (6 + m) = yDi τ (6 + m)) (yF : ∀ i, bt (yFi τ' (6 + m)) i = (bt (yFi τ (6 + m)) i || decide (i = g))) (yC : ∀ f, f < 8 → yCo τ' (8 * (6 + m) + f) = if f = g then v else yCo τ (8 * (6 + m) + f)) : RelN nl σ' τ' := by
  have hS := h.same hm hu
  obtain ⟨j, hj, ej, V, V', D, D'⟩ := top_v h hm hu hx
  refine top_upd h hm hu hx hy ?_
  generalize 6 + m = t at *
  obtain ⟨h1, h2, h3, h4, h5, h7, h8⟩ := hS
  have K0 : hv σ' g t = some t := by
    rw [V' g, hst_o (by rw [eO]; simp)]
    rfl
  have K : ∀ f, ¬ f = g → hv σ' f t = hv σ f t := by
    intro f ef
    rw [V f, V' f, hst_eq (σ := σ) (σ' := σ') (f := f) (t := t) (by rw [eO, decide_eq_false ef]; first | exact Bool.or_false _ | exact Bool.and_true _) (by rw [eH, decide_eq_false ef]; first | exact Bool.or_false _ | exact Bool.and_true _) (by rw [eV])]
  refine ⟨fun f hf => ?_, fun f hf s hs => ?_, fun d' hd' => ?_, fun i hi => ?_, ?_, fun f hf q => ?_, fun f hf q => ?_⟩
  · rw [yF]
    by_cases ef : f = g
    · subst ef
      rw [K0]; simp
    · rw [K f ef, decide_eq_false ef, h1 f hf]; simp
  · by_cases ef : f = g
    · subst ef
      rw [K0] at hs
      cases hs
      rw [yC f hf, eC f hf, if_pos rfl, if_pos rfl]
    · rw [K f ef] at hs
      rw [yC f hf, if_neg ef, h2 f hf s hs]
      by_cases es : s = t
      · subst es; rw [eC f hf, if_neg ef]
      · exact (hx.2.2.2.2 s f hf es).symm
  · rw [yD, D' d', dst_eq (σ := σ) (σ' := σ') (f := d') (t := t) (by rw [eD]) (by rw [eV]), ← D d']; exact h3 d' hd'
  · rw [yF, h4 i hi, decide_eq_false (by omega)]; rfl
  · rw [yD]; exact h5
  · rw [yF] at q
    rw [yD]
    by_cases ef : f = g
    · subst ef; exact hn
    · rw [decide_eq_false ef, Bool.or_false] at q
      exact h7 f hf q
  · rw [eH]
    by_cases ef : f = g
    · subst ef; simp
    · rw [eO, decide_eq_false ef, Bool.or_false] at q
      rw [h8 f hf q]; rfl
theorem clr_S (h : RelN nl σ τ) (hm : m < 4) (hu : ¬ xIu σ m = 0) (hg : g < 8) (hx : TopX σ σ' (6 + m)) (hy : TopY τ τ' (6 + m))
    (eO : ∀ i, bt (xOw σ' (6 + m)) i = (bt (xOw σ (6 + m)) i && !decide (i = g))) (eH : ∀ i, bt (xHi σ' (6 + m)) i = (bt (xHi σ (6 + m)) i || decide (i = g))) (eD : xOd σ' (6 + m) = xOd σ (6 + m)) (eV : xHd σ' (6 + m) = xHd σ (6 + m)) (eC : ∀ f, f < 8 → xCt σ' (8 * (6 + m) + f) = xCt σ (8 * (6 + m) + f))
    (yD : yDi τ' (6 + m) = yDi τ (6 + m)) (yF : ∀ i, bt (yFi τ' (6 + m)) i = (bt (yFi τ (6 + m)) i && !decide (i = g))) (yC : ∀ f, f < 8 → yCo τ' (8 * (6 + m) + f) = yCo τ (8 * (6 + m) + f)) : RelN nl σ' τ' := by
  have hS := h.same hm hu
  obtain ⟨j, hj, ej, V, V', D, D'⟩ := top_v h hm hu hx
  refine top_upd h hm hu hx hy ?_
  generalize 6 + m = t at *
  obtain ⟨h1, h2, h3, h4, h5, h7, h8⟩ := hS
  have K0 : hv σ' g t = none := by
    rw [V' g, hst_h (by rw [eO]; simp) (by rw [eH]; simp)]
    rfl
  have K : ∀ f, ¬ f = g → hv σ' f t = hv σ f t := by
    intro f ef
    rw [V f, V' f, hst_eq (σ := σ) (σ' := σ') (f := f) (t := t) (by rw [eO, decide_eq_false ef]; first | exact Bool.or_false _ | exact Bool.and_true _) (by rw [eH, decide_eq_false ef]; first | exact Bool.or_false _ | exact Bool.and_true _) (by rw [eV])]
  refine ⟨fun f hf => ?_, fun f hf s hs => ?_, fun d' hd' => ?_, fun i hi => ?_, ?_, fun f hf q => ?_, fun f hf q => ?_⟩
  · rw [yF]
    by_cases ef : f = g
    · subst ef
      rw [K0]; simp
    · rw [K f ef, decide_eq_false ef, h1 f hf]; simp
  · by_cases ef : f = g
    · subst ef
      rw [K0] at hs
      cases hs
    · rw [K f ef] at hs
      rw [yC f hf, h2 f hf s hs]
      by_cases es : s = t
      · subst es; rw [eC f hf]
      · exact (hx.2.2.2.2 s f hf es).symm
  · rw [yD, D' d', dst_eq (σ := σ) (σ' := σ') (f := d') (t := t) (by rw [eD]) (by rw [eV]), ← D d']; exact h3 d' hd'
  · rw [yF, h4 i hi]; rfl
  · rw [yD]; exact h5
  · rw [yF] at q
    simp only [Bool.and_eq_true] at q
    rw [yD]
    exact h7 f hf q.1
  · rw [eO] at q
    simp only [Bool.and_eq_true, Bool.not_eq_true', decide_eq_false_iff_not] at q
    rw [eH, h8 f hf q.1, decide_eq_false q.2]; rfl
/-- squash drops a mark that hides nothing -/
theorem sqh_S (h : RelN nl σ τ) (hm : m < 4) (hu : ¬ xIu σ m = 0) (hx : TopX σ σ' (6 + m)) (hb : bt (xHd σ (6 + m)) (g / 4) = true ∨ ∀ j : Nat, xUn σ (6 + m) = nI j → j < nl → hv σ g j = none)
    (eO : xOw σ' (6 + m) = xOw σ (6 + m)) (eH : ∀ i, bt (xHi σ' (6 + m)) i = (bt (xHi σ (6 + m)) i && !decide (i = g))) (eD : xOd σ' (6 + m) = xOd σ (6 + m)) (eV : xHd σ' (6 + m) = xHd σ (6 + m)) (eC : ∀ f, f < 8 → xCt σ' (8 * (6 + m) + f) = xCt σ (8 * (6 + m) + f)) : RelN nl σ' τ := by
  have hS := h.same hm hu
  obtain ⟨j, hj, ej, V, V', D, D'⟩ := top_v h hm hu hx
  refine top_upd h hm hu hx ⟨rfl, rfl, rfl, rfl, fun _ _ => ⟨rfl, rfl⟩, fun _ _ _ _ => rfl⟩ ?_
  generalize 6 + m = t at *
  obtain ⟨h1, h2, h3, h4, h5, h7, h8⟩ := hS
  have K : ∀ f, hv σ' f t = hv σ f t := by
    intro f
    by_cases ef : f = g
    · subst ef
      by_cases q1 : bt (xOw σ t) f = true
      · rw [V f, V' f, hst_o q1, hst_o (by rw [eO]; exact q1)]
      · have q1' : ¬ bt (xOw σ' t) f = true := by rw [eO]; exact q1
        have q2' : ¬ bt (xHi σ' t) f = true := by rw [eH]; simp
        by_cases q3 : bt (xHd σ t) (f / 4) = true
        · rw [V f, V' f, hst_c q1 q3, hst_c q1' (by rw [eV]; exact q3)]
        · have hbn := hb.resolve_left q3 j ej hj
          rw [V' f, hst_n q1' q2' (by rw [eV]; exact q3), V f, hbn]
          by_cases q2 : bt (xHi σ t) f = true
          · rw [hst_h q1 q2]; rfl
          · rw [hst_n q1 q2 q3]
    · rw [V f, V' f, hst_eq (σ := σ) (σ' := σ') (f := f) (t := t) (by rw [eO]) (by rw [eH, decide_eq_false ef]; first | exact Bool.or_false _ | exact Bool.and_true _) (by rw [eV])]
  refine ⟨fun f hf => ?_, fun f hf s hs => ?_, fun d' hd' => ?_, h4, h5, h7, fun f hf q => ?_⟩
  · rw [K f]; exact h1 f hf
  · rw [K f] at hs
    rw [h2 f hf s hs]
    by_cases es : s = t
    · subst es; rw [eC f hf]
    · exact (hx.2.2.2.2 s f hf es).symm
  · rw [D' d', dst_eq (σ := σ) (σ' := σ') (f := d') (t := t) (by rw [eD]) (by rw [eV]), ← D d']; exact h3 d' hd'
  · rw [eO] at q
    rw [eH, h8 f hf q]; rfl
/-- squash drops a content that is the same below -/
theorem sqo_S {s0 : Nat} (h : RelN nl σ τ) (hm : m < 4) (hu : ¬ xIu σ m = 0) (hg : g < 8) (hx : TopX σ σ' (6 + m)) (ho : bt (xOw σ (6 + m)) g = true) (hc : ¬ bt (xHd σ (6 + m)) (g / 4) = true) (hb : ∀ j : Nat, xUn σ (6 + m) = nI j → j < nl → hv σ g j = some s0) (hs0 : s0 ≠ 6 + m) (hv0 : xCt σ (8 * s0 + g) = xCt σ (8 * (6 + m) + g))
    (eO : ∀ i, bt (xOw σ' (6 + m)) i = (bt (xOw σ (6 + m)) i && !decide (i = g))) (eH : xHi σ' (6 + m) = xHi σ (6 + m)) (eD : xOd σ' (6 + m) = xOd σ (6 + m)) (eV : xHd σ' (6 + m) = xHd σ (6 + m)) (eC : ∀ f, f < 8 → xCt σ' (8 * (6 + m) + f) = xCt σ (8 * (6 + m) + f)) : RelN nl σ' τ := by
  have hS := h.same hm hu
  obtain ⟨j, hj, ej, V, V', D, D'⟩ := top_v h hm hu hx
  refine top_upd h hm hu hx ⟨rfl, rfl, rfl, rfl, fun _ _ => ⟨rfl, rfl⟩, fun _ _ _ _ => rfl⟩ ?_
  generalize 6 + m = t at *
  obtain ⟨h1, h2, h3, h4, h5, h7, h8⟩ := hS
  have hbj := hb j ej hj
  have K1 : hv σ g t = some t := by rw [V g, hst_o ho]; rfl
  have K0 : hv σ' g t = some s0 := by
    rw [V' g, hst_n (by rw [eO]; simp) (by rw [eH, h8 g hg ho]; simp) (by rw [eV]; exact hc), hbj]
    rfl
  have K : ∀ f, ¬ f = g → hv σ' f t = hv σ f t := by
    intro f ef
    rw [V f, V' f, hst_eq (σ := σ) (σ' := σ') (f := f) (t := t) (by rw [eO, decide_eq_false ef]; first | exact Bool.or_false _ | exact Bool.and_true _) (by rw [eH]) (by rw [eV])]
  refine ⟨fun f hf => ?_, fun f hf s hs => ?_, fun d' hd' => ?_, h4, h5, h7, fun f hf q => ?_⟩
  · by_cases ef : f = g
    · subst ef
      rw [K0, h1 f hf, K1]; rfl
    · rw [K f ef]; exact h1 f hf
  · by_cases ef : f = g
    · subst ef
      rw [K0] at hs
      cases hs
      rw [h2 f hf t K1, hx.2.2.2.2 s0 f hf hs0, hv0]
    · rw [K f ef] at hs
      rw [h2 f hf s hs]
      by_cases es : s = t
      · subst es; rw [eC f hf]
      · exact (hx.2.2.2.2 s f hf es).symm
  · rw [D' d', dst_eq (σ := σ) (σ' := σ') (f := d') (t := t) (by rw [eD]) (by rw [eV]), ← D d']; exact h3 d' hd'
  · rw [eO] at q
    simp only [Bool.and_eq_true] at q
    rw [eH]
    exact h8 f hf q.1
end S1
end
section
/-! the calls that leave the layers as they are -/
set_option maxRecDepth 100000
section P3
variable {nl m : Nat} {σ σ' : SX} {τ τ' : SY}
theorem has_eq {t f : Nat} (ht : t < 10) (hf : f < 8) : fY_has τ (nI t) (nI f) = if bt (yFi τ t) f = true then 1 else 0 := by
  unfold fY_has
  rw [nI_clamp (by omega)]
  simp only [bt_t1 (show f < 32 by omega)]
theorem hasD_eq {t f : Nat} (ht : t < 10) (hf : f < 2) : fY_hasDirectory τ (nI t) (nI f) = if bt (yDi τ t) f = true then 1 else 0 := by
  unfold fY_hasDirectory
  rw [nI_clamp (by omega)]
  simp only [bt_t1 (show f < 32 by omega)]
theorem etop (m : Nat) : fX_top (nI m) = nI (6 + m) := e6 m
theorem ctop (hm : m < 4) : (fX_top (nI m)).toNatClampNeg = 6 + m := by rw [etop]; exact nI_clamp (by omega)
theorem c6 (hm : m < 4) : ((6 : Int32) + nI m).toNatClampNeg = 6 + m := by rw [e6]; exact nI_clamp (by omega)
theorem bts {F : Nat → Int32} {t f i : Nat} {x : Int32} (hf : f < 32) : bt (upd F t (x ||| ((1 : Int32) <<< (nI f &&& 31))) t) i = (bt x i || decide (i = f)) := by rw [pk_us]; exact bt_set hf
theorem btc {F : Nat → Int32} {t f i : Nat} {x : Int32} (hf : f < 32) : bt (upd F t (x &&& (((1 : Int32) <<< (nI f &&& 31)) ^^^ (-1))) t) i = (bt x i && !decide (i = f)) := by rw [pk_us]; exact bt_clr hf
theorem btd {F : Nat → Int32} {t f i : Nat} {x : Int32} (hf : f < 2) : bt (upd F t (x &&& (((15 : Int32) <<< ((4 * nI f) &&& 31)) ^^^ (-1))) t) i = (bt x i && !decide (i / 4 = f)) := by rw [pk_us, bt_not, bt_15 hf]
theorem pu_mkdir (hR : Rel σ τ) (p1 : Int32) (p2 : Int32) : (fX_mkdir σ p1 p2).1 = (fY_mkdir τ p1 p2).1 ∧ Rel (fX_mkdir σ p1 p2).2 (fY_mkdir τ p1 p2).2 := by
  obtain ⟨nl, h⟩ := hR
  rcases rf_2 h p1 with ⟨e, nX, nY⟩ | ⟨m, hm, rfl, hu, eX, eY⟩
  · have E1 : fX_mkdir σ p1 p2 = (fX_refused σ p1, σ) := if_neg nX
    have E2 : fY_mkdir τ p1 p2 = (fY_testDirectory τ p1 p2, τ) := if_neg (by rw [td_n nY]; exact nY)
    rw [E1, E2, td_n nY]
    exact ⟨e, nl, h⟩
  · have hX : (0 : Int32) ≤ fX_refused σ (nI m) := by rw [eX]; decide
    by_cases h0 : p2 < 0
    · have E1 : fX_mkdir σ (nI m) p2 = (-1, σ) := tp hX (tp h0 rfl)
      have T : fY_testDirectory τ (nI m) p2 = -1 := tp eY (tp h0 rfl)
      have E2 : fY_mkdir τ (nI m) p2 = (fY_testDirectory τ (nI m) p2, τ) := tn (by rw [T]; decide) rfl
      rw [E1, E2, T]
      exact ⟨rfl, nl, h⟩
    · by_cases h1 : p2 ≤ 1
      · obtain ⟨dd, hd, rfl⟩ := vp_in_of (b_le1 h0 h1) (by decide)
        have T : fY_testDirectory τ (nI m) (nI dd) = 0 := tp eY (tn h0 (tp h1 eY))
        have hS := h.same hm hu
        have ed : fX_directoryThere σ (fX_top (nI m)) (nI dd) = if dv σ dd (6 + m) = true then 1 else 0 := by rw [etop]; exact dir_eq h.u hd (by omega)
        have ed2 : fY_hasDirectory τ (6 + nI m) (nI dd) = if dv σ dd (6 + m) = true then 1 else 0 := by rw [e6, hasD_eq (by omega) hd, hS.2.2.1 dd hd]
        cases hb : dv σ dd (6 + m) with
        | true =>
          rw [hb, if_pos rfl] at ed ed2
          have E1 : fX_mkdir σ (nI m) (nI dd) = (-4, σ) := tp hX (tn h0 (tp h1 (tn (by rw [ed]; decide) rfl)))
          have E2 : fY_mkdir τ (nI m) (nI dd) = (-4, τ) := tp T (tn (by rw [ed2]; decide) rfl)
          rw [E1, E2]
          exact ⟨rfl, nl, h⟩
        | false =>
          rw [hb, if_neg (by decide)] at ed ed2
          have E1 : fX_mkdir σ (nI m) (nI dd) = (0, (xL σ, xUn σ, xOw σ, xHi σ, upd (xOd σ) (6 + m) (xOd σ (6 + m) ||| ((1 : Int32) <<< (nI dd &&& 31))), upd (xHd σ) (6 + m) (xHd σ (6 + m) ||| ((1 : Int32) <<< (nI dd &&& 31))), xCt σ, xIu σ)) := by
            unfold fX_mkdir
            rw [if_pos hX, if_neg h0, if_pos h1, if_pos ed, ctop hm]
          have E2 : fY_mkdir τ (nI m) (nI dd) = (0, (upd (yDi τ) (6 + m) (yDi τ (6 + m) ||| ((1 : Int32) <<< (nI dd &&& 31))), yFi τ, yCo τ, yBa τ, yL τ, yUs τ, yBe τ)) := by
            unfold fY_mkdir
            rw [if_pos T, if_pos ed2, c6 hm]
          rw [E1, E2]
          exact ⟨rfl, nl, mkdir_S h hm hu hd ⟨rfl, rfl, rfl, fun k hk => ⟨rfl, rfl, pk_un hk, pk_un hk⟩, fun _ _ _ _ => rfl⟩ ⟨rfl, rfl, rfl, rfl, fun k hk => ⟨pk_un hk, rfl⟩, fun _ _ _ _ => rfl⟩ hb rfl rfl (fun i => bts (by omega)) (fun i => bts (by omega)) (fun _ _ => rfl) (fun i => bts (by omega)) rfl (fun _ _ => rfl)⟩
      · have E1 : fX_mkdir σ (nI m) p2 = (-1, σ) := tp hX (tn h0 (tn h1 rfl))
        have T : fY_testDirectory τ (nI m) p2 = -1 := tp eY (tn h0 (tn h1 rfl))
        have E2 : fY_mkdir τ (nI m) p2 = (fY_testDirectory τ (nI m) p2, τ) := tn (by rw [T]; decide) rfl
        rw [E1, E2, T]
        exact ⟨rfl, nl, h⟩
/-! counting -/
def cnt (b : Nat → Bool) : Nat → Nat → Nat
  | _, 0 => 0
  | k, n + 1 => (if b k = true then 1 else 0) + cnt b (k + 1) n
theorem sz_q {x : Int32} : ∀ (n k : Nat) (x2 : Int32), k + n ≤ 8 → lX_sizeOf_4 x n x2 (nI k) = x2 + nI (cnt (bt x) k n) := by
  intro n
  induction n with
  | zero => intro k x2 _; show x2 = x2 + nI 0; rw [nI_0, Int32.add_zero]
  | succ n ih =>
    intro k x2 hk
    show lX_sizeOf_4 x n (x2 + ((x >>> (nI k &&& 31)) &&& 1)) (nI k + 1) = x2 + nI ((if bt x k = true then 1 else 0) + cnt (bt x) (k + 1) n)
    rw [nI_1, ih (k + 1) _ (by omega), bt_tst (by omega), ← nI_add, Int32.add_assoc]
    cases bt x k <;> rfl
theorem rm_q {q : Int32} (hm : m < 4) : ∀ (n k : Nat) (x4 : Int32), k + n ≤ 8 → lY_rmdir_36 τ (nI m) q n x4 (nI k) = lY_rmdir_36 τ (nI m) q 0 (x4 + nI (cnt (bt (yFi τ (6 + m))) k n)) 0 := by
  intro n
  induction n with
  | zero => intro k x4 _; show lY_rmdir_36 τ (nI m) q 0 x4 (nI k) = lY_rmdir_36 τ (nI m) q 0 (x4 + nI 0) 0; rw [nI_0, Int32.add_zero]; rfl
  | succ n ih =>
    intro k x4 hk
    show (if fY_has τ (6 + nI m) (nI k) = 0 then lY_rmdir_36 τ (nI m) q n x4 (nI k + 1) else lY_rmdir_36 τ (nI m) q n (x4 + 1) (nI k + 1)) = lY_rmdir_36 τ (nI m) q 0 (x4 + nI ((if bt (yFi τ (6 + m)) k = true then 1 else 0) + cnt (bt (yFi τ (6 + m))) (k + 1) n)) 0
    rw [nI_1, ih (k + 1) _ (by omega), ih (k + 1) _ (by omega), e6, has_eq (by omega) (by omega), ← nI_add]
    cases bt (yFi τ (6 + m)) k with
    | true =>
      rw [if_pos rfl, if_neg (by decide), if_pos rfl, Int32.add_assoc]; rfl
    | false =>
      rw [if_pos (show (if false = true then (1 : Int32) else 0) = 0 from rfl), show nI (if false = true then 1 else 0) = 0 from rfl, Int32.zero_add]
theorem cnt_d {F : Int32} {dd : Nat} (hd : dd < 2) : cnt (bt (F &&& ((15 : Int32) <<< ((4 * nI dd) &&& 31)))) 0 8 = cnt (bt F) (4 * dd) 4 := by
  have e : ∀ k, bt (F &&& ((15 : Int32) <<< ((4 * nI dd) &&& 31))) k = (bt F k && decide (k / 4 = dd)) := fun k => by rw [bt_and, bt_15 hd]
  rcases (show dd = 0 ∨ dd = 1 by omega) with rfl | rfl
  · simp only [cnt, e]; simp
  · simp only [cnt, e]; simp
/-! the set of files seen -/
theorem fs_q {t : Nat} (hU : okU σ) (ht : t < 10) (hs : ∀ f s, hv σ f t = some s → s < 10) : ∀ (n k : Nat) (x2 : Int32), k + n = 8 → ∀ i, bt (lX_filesSeen_4 σ (nI t) n x2 (nI k)) i = (bt x2 i || (decide (k ≤ i ∧ i < 8) && (hv σ i t).isSome)) := by
  intro n
  induction n with
  | zero =>
    intro k x2 hk i
    show bt x2 i = _
    rw [decide_eq_false (by omega)]; simp
  | succ n ih =>
    intro k x2 hk i
    show bt (if fX_holder σ (nI t) (nI k) < 0 then lX_filesSeen_4 σ (nI t) n x2 (nI k + 1) else lX_filesSeen_4 σ (nI t) n (x2 ||| ((1 : Int32) <<< (nI k &&& 31))) (nI k + 1)) i = _
    rw [nI_1, hold_eq hU (by omega) ht]
    cases hh : hv σ k t with
    | none =>
      rw [if_pos oI_n, ih (k + 1) _ (by omega)]
      by_cases e : i = k
      · subst e; rw [hh]; simp
      · rw [show decide (k + 1 ≤ i ∧ i < 8) = decide (k ≤ i ∧ i < 8) from decide_eq_decide.mpr (by omega)]
    | some s =>
      rw [if_neg (oI_s (hs _ _ hh)), ih (k + 1) _ (by omega), bt_set (by omega)]
      by_cases e : i = k
      · subst e; rw [hh]; simp; omega
      · rw [show decide (k + 1 ≤ i ∧ i < 8) = decide (k ≤ i ∧ i < 8) from decide_eq_decide.mpr (by omega), decide_eq_false e, Bool.or_false]
theorem fs_eq (h : RelN nl σ τ) {t : Nat} (ht : alive σ nl t) : fX_filesSeen σ (nI t) = yFi τ t := by
  have ht10 : t < 10 := by
    have := h.six
    rcases ht with q | ⟨m, hm, rfl, -⟩ <;> omega
  have hS := h.2.2.2.2.2.2.2.2 t ht
  apply bt_ext
  intro i hi
  rw [show fX_filesSeen σ (nI t) = lX_filesSeen_4 σ (nI t) 8 0 (nI 0) from rfl, fs_q h.u ht10 (fun f s q => hv10 h ht q) 8 0 0 rfl, bt_0, Bool.false_or]
  by_cases h8 : i < 8
  · rw [decide_eq_true ⟨Nat.zero_le _, h8⟩, Bool.true_and, hS.1 i h8]
  · rw [decide_eq_false (by omega), Bool.false_and, hS.2.2.2.1 i (by omega)]
theorem alv (hm : m < 4) (hu : ¬ xIu σ m = 0) : alive σ nl (6 + m) := Or.inr ⟨m, hm, rfl, hu⟩
theorem pu_rmdir (hR : Rel σ τ) (p1 : Int32) (p2 : Int32) : (fX_rmdir σ p1 p2).1 = (fY_rmdir τ p1 p2).1 ∧ Rel (fX_rmdir σ p1 p2).2 (fY_rmdir τ p1 p2).2 := by
  obtain ⟨nl, h⟩ := hR
  rcases rf_2 h p1 with ⟨e, nX, nY⟩ | ⟨m, hm, rfl, hu, eX, eY⟩
  · have E1 : fX_rmdir σ p1 p2 = (fX_refused σ p1, σ) := if_neg nX
    have E2 : fY_rmdir τ p1 p2 = (fY_testDirectory τ p1 p2, τ) := if_neg (by rw [td_n nY]; exact nY)
    rw [E1, E2, td_n nY]
    exact ⟨e, nl, h⟩
  · have hX : (0 : Int32) ≤ fX_refused σ (nI m) := by rw [eX]; decide
    by_cases h0 : p2 < 0
    · have E1 : fX_rmdir σ (nI m) p2 = (-1, σ) := tp hX (tp h0 rfl)
      have T : fY_testDirectory τ (nI m) p2 = -1 := tp eY (tp h0 rfl)
      have E2 : fY_rmdir τ (nI m) p2 = (fY_testDirectory τ (nI m) p2, τ) := tn (by rw [T]; decide) rfl
      rw [E1, E2, T]
      exact ⟨rfl, nl, h⟩
    · by_cases h1 : p2 ≤ 1
      · obtain ⟨dd, hd, rfl⟩ := vp_in_of (b_le1 h0 h1) (by decide)
        have T : fY_testDirectory τ (nI m) (nI dd) = 0 := tp eY (tn h0 (tp h1 eY))
        have hS := h.same hm hu
        have ed : fX_directoryThere σ (fX_top (nI m)) (nI dd) = if dv σ dd (6 + m) = true then 1 else 0 := by rw [etop]; exact dir_eq h.u hd (by omega)
        have ed2 : fY_hasDirectory τ (6 + nI m) (nI dd) = if dv σ dd (6 + m) = true then 1 else 0 := by rw [e6, hasD_eq (by omega) hd, hS.2.2.1 dd hd]
        cases hb : dv σ dd (6 + m) with
        | false =>
          rw [hb, if_neg (by decide)] at ed ed2
          have E1 : fX_rmdir σ (nI m) (nI dd) = (-4, σ) := tp hX (tn h0 (tp h1 (tp ed rfl)))
          have E2 : fY_rmdir τ (nI m) (nI dd) = (-4, τ) := tp T (tp ed2 rfl)
          rw [E1, E2]
          exact ⟨rfl, nl, h⟩
        | true =>
          rw [hb, if_pos rfl] at ed ed2
          have E1 : fX_rmdir σ (nI m) (nI dd) = (nI (cnt (bt (yFi τ (6 + m))) (4 * dd) 4), (xL σ, xUn σ, upd (xOw σ) (6 + m) (xOw σ (6 + m) &&& (((15 : Int32) <<< ((4 * nI dd) &&& 31)) ^^^ (-1))), upd (xHi σ) (6 + m) (xHi σ (6 + m) &&& (((15 : Int32) <<< ((4 * nI dd) &&& 31)) ^^^ (-1))), upd (xOd σ) (6 + m) (xOd σ (6 + m) &&& (((1 : Int32) <<< (nI dd &&& 31)) ^^^ (-1))), upd (xHd σ) (6 + m) (xHd σ (6 + m) ||| ((1 : Int32) <<< (nI dd &&& 31))), xCt σ, xIu σ)) := by
            unfold fX_rmdir
            rw [if_pos hX, if_neg h0, if_pos h1, if_neg (by rw [ed]; decide), ctop hm]
            rw [show fX_sizeOf (fX_filesSeen σ (fX_top (nI m)) &&& fX_filesOf (nI dd)) = nI (cnt (bt (yFi τ (6 + m))) (4 * dd) 4) from by
              rw [etop, fs_eq h (alv hm hu), show fX_sizeOf (yFi τ (6 + m) &&& fX_filesOf (nI dd)) = lX_sizeOf_4 (yFi τ (6 + m) &&& fX_filesOf (nI dd)) 8 0 (nI 0) from rfl, sz_q 8 0 0 (by omega), Int32.zero_add, show fX_filesOf (nI dd) = (15 : Int32) <<< ((4 * nI dd) &&& 31) from rfl, cnt_d hd]]
            rfl
          have E2 : fY_rmdir τ (nI m) (nI dd) = (nI (cnt (bt (yFi τ (6 + m))) (4 * dd) 4), (upd (yDi τ) (6 + m) (yDi τ (6 + m) &&& (((1 : Int32) <<< (nI dd &&& 31)) ^^^ (-1))), upd (yFi τ) (6 + m) (yFi τ (6 + m) &&& (((15 : Int32) <<< ((4 * nI dd) &&& 31)) ^^^ (-1))), yCo τ, yBa τ, yL τ, yUs τ, yBe τ)) := by
            unfold fY_rmdir
            rw [if_pos T, if_neg (by rw [ed2]; decide), show (4 : Int32) * nI dd = nI (4 * dd) from pk_mul 4 dd, rm_q hm 4 (4 * dd) 0 (by omega), Int32.zero_add]
            unfold lY_rmdir_36
            rw [c6 hm, show nI (4 * dd) = (4 : Int32) * nI dd from (pk_mul 4 dd).symm]
          rw [E1, E2]
          exact ⟨rfl, nl, rmdir_S h hm hu hd ⟨rfl, rfl, rfl, fun k hk => ⟨pk_un hk, pk_un hk, pk_un hk, pk_un hk⟩, fun _ _ _ _ => rfl⟩ ⟨rfl, rfl, rfl, rfl, fun k hk => ⟨pk_un hk, pk_un hk⟩, fun _ _ _ _ => rfl⟩ (fun i => btd hd) (fun i => btd hd) (fun i => btc (by omega)) (fun i => bts (by omega)) (fun _ _ => rfl) (fun i => btc (by omega)) (fun i => btd hd) (fun _ _ => rfl)⟩
      · have E1 : fX_rmdir σ (nI m) p2 = (-1, σ) := tp hX (tn h0 (tn h1 rfl))
        have T : fY_testDirectory τ (nI m) p2 = -1 := tp eY (tn h0 (tn h1 rfl))
        have E2 : fY_rmdir τ (nI m) p2 = (fY_testDirectory τ (nI m) p2, τ) := tn (by rw [T]; decide) rfl
        rw [E1, E2, T]
        exact ⟨rfl, nl, h⟩
end P3
end
section
/-! files: write, grow, remove, rename, read; files, directories -/
set_option maxRecDepth 100000
section P4
variable {nl m : Nat} {σ σ' : SX} {τ τ' : SY}
theorem bf_c (p : Int32) : (¬ fX_badFile p = 0 ∧ ∀ (τ : SY) (q : Int32), fY_test τ q = 0 → fY_testFile τ q p = -1) ∨ (∃ f : Nat, f < 8 ∧ p = nI f ∧ fX_badFile p = 0 ∧ ∀ (τ : SY) (q : Int32), fY_test τ q = 0 → fY_testFile τ q p = 0) := by
  by_cases h0 : p < 0
  · exact Or.inl ⟨by rw [show fX_badFile p = 1 from tp h0 rfl]; decide, fun τ q h => tp h (tp h0 rfl)⟩
  · by_cases h1 : p < 8
    · obtain ⟨f, hf, rfl⟩ := vp_in_of (b_lt (N := 8) h0 h1 (by decide)) (by decide)
      refine Or.inr ⟨f, hf, rfl, tn h0 (tp h1 rfl), fun τ q h => tp h (tn h0 (tp ?_ h))⟩
      rw [Int32.lt_iff_toInt_lt, show (8 : Int32).toInt = 8 by decide] at h1
      rw [Int32.le_iff_toInt_le, show (7 : Int32).toInt = 7 by decide]
      omega
    · refine Or.inl ⟨by rw [show fX_badFile p = 1 from tn h0 (tn h1 rfl)]; decide, fun τ q h => tp h (tn h0 (tn ?_ rfl))⟩
      rw [Int32.lt_iff_toInt_lt, show (8 : Int32).toInt = 8 by decide] at h1
      rw [Int32.le_iff_toInt_le, show (7 : Int32).toInt = 7 by decide]
      omega
theorem upd_c {F : Nat → Int32} {t g s f : Nat} {v : Int32} (hg : g < 8) (hf : f < 8) (hs : s ≠ t) : upd F (8 * t + g) v (8 * s + f) = F (8 * s + f) := pk_un (by omega)
theorem upd_d {F : Nat → Int32} {t g f : Nat} {v : Int32} : upd F (8 * t + g) v (8 * t + f) = if f = g then v else F (8 * t + f) := by
  unfold upd
  by_cases e : f = g
  · subst e; rw [if_pos rfl, if_pos rfl]
  · rw [if_neg (by omega), if_neg e]
theorem set_E {t g : Nat} {v : Int32} (ht : t < 10) (hg : g < 8) : fX_setFile σ (nI t) (nI g) v = (xL σ, xUn σ, upd (xOw σ) t (xOw σ t ||| ((1 : Int32) <<< (nI g &&& 31))), upd (xHi σ) t (xHi σ t &&& (((1 : Int32) <<< (nI g &&& 31)) ^^^ (-1))), xOd σ, xHd σ, upd (xCt σ) (8 * t + g) v, xIu σ) := by
  unfold fX_setFile
  rw [cix ht hg, nI_clamp (by omega)]
theorem clr_E {t g : Nat} (ht : t < 10) : fX_clearFile σ (nI t) (nI g) = (xL σ, xUn σ, upd (xOw σ) t (xOw σ t &&& (((1 : Int32) <<< (nI g &&& 31)) ^^^ (-1))), upd (xHi σ) t (xHi σ t ||| ((1 : Int32) <<< (nI g &&& 31))), xOd σ, xHd σ, xCt σ, xIu σ) := by
  unfold fX_clearFile
  rw [nI_clamp (by omega)]
theorem set_X {t g : Nat} {v : Int32} (ht : t < 10) (hg : g < 8) : TopX σ (fX_setFile σ (nI t) (nI g) v) t := by
  rw [set_E ht hg]
  exact ⟨rfl, rfl, rfl, fun k hk => ⟨pk_un hk, pk_un hk, rfl, rfl⟩, fun s f hf hs => upd_c hg hf hs⟩
theorem clr_X {t g : Nat} (ht : t < 10) : TopX σ (fX_clearFile σ (nI t) (nI g)) t := by
  rw [clr_E ht]
  exact ⟨rfl, rfl, rfl, fun k hk => ⟨pk_un hk, pk_un hk, rfl, rfl⟩, fun s f hf hs => rfl⟩
/-- a file set on both sides -/
theorem wr_S {g : Nat} {v : Int32} (h : RelN nl σ τ) (hm : m < 4) (hu : ¬ xIu σ m = 0) (hg : g < 8) (hy : TopY τ τ' (6 + m)) (hn : bt (yDi τ (6 + m)) (g / 4) = true)
    (yD : yDi τ' (6 + m) = yDi τ (6 + m)) (yF : ∀ i, bt (yFi τ' (6 + m)) i = (bt (yFi τ (6 + m)) i || decide (i = g))) (yC : ∀ f, f < 8 → yCo τ' (8 * (6 + m) + f) = if f = g then v else yCo τ (8 * (6 + m) + f)) : RelN nl (fX_setFile σ (nI (6 + m)) (nI g) v) τ' := by
  refine set_S (v := v) h hm hu hg (set_X (by omega) hg) hy hn (fun i => ?_) (fun i => ?_) ?_ ?_ (fun f hf => ?_) yD yF yC
  · rw [set_E (by omega) hg]; exact bts (by omega)
  · rw [set_E (by omega) hg]; exact btc (by omega)
  · rw [set_E (by omega) hg]
  · rw [set_E (by omega) hg]
  · rw [set_E (by omega) hg]; exact upd_d
theorem cl_S {g : Nat} (h : RelN nl σ τ) (hm : m < 4) (hu : ¬ xIu σ m = 0) (hg : g < 8) (hy : TopY τ τ' (6 + m))
    (yD : yDi τ' (6 + m) = yDi τ (6 + m)) (yF : ∀ i, bt (yFi τ' (6 + m)) i = (bt (yFi τ (6 + m)) i && !decide (i = g))) (yC : ∀ f, f < 8 → yCo τ' (8 * (6 + m) + f) = yCo τ (8 * (6 + m) + f)) : RelN nl (fX_clearFile σ (nI (6 + m)) (nI g)) τ' := by
  refine clr_S h hm hu hg (clr_X (by omega)) hy (fun i => ?_) (fun i => ?_) ?_ ?_ (fun f hf => ?_) yD yF yC
  · rw [clr_E (by omega)]; exact btc (by omega)
  · rw [clr_E (by omega)]; exact bts (by omega)
  · rw [clr_E (by omega)]
  · rw [clr_E (by omega)]
  · rw [clr_E (by omega)]
def pY (τ : SY) (t g : Nat) (v : Int32) : SY := (yDi τ, upd (yFi τ) t (yFi τ t ||| ((1 : Int32) <<< (nI g &&& 31))), upd (yCo τ) (8 * t + g) v, yBa τ, yL τ, yUs τ, yBe τ)
theorem put_E {t g : Nat} {v : Int32} (ht : t < 10) (hg : g < 8) : fY_put τ (nI t) (nI g) v = (if bt (yFi τ t) g = true then 1 else 0, pY τ t g v) := by
  unfold fY_put pY
  rw [ciy ht hg, nI_clamp (by omega), has_eq ht hg]
  cases bt (yFi τ t) g <;> rfl
theorem pY_T {t g : Nat} {v : Int32} (hg : g < 8) : TopY τ (pY τ t g v) t := ⟨rfl, rfl, rfl, rfl, fun k hk => ⟨rfl, pk_un hk⟩, fun s f hf hs => upd_c hg hf hs⟩
/-- the holder on both sides -/
theorem ho_c (h : RelN nl σ τ) (hm : m < 4) (hu : ¬ xIu σ m = 0) {f : Nat} (hf : f < 8) : (hv σ f (6 + m) = none ∧ bt (yFi τ (6 + m)) f = false ∧ fX_holder σ (nI (6 + m)) (nI f) = -1 ∧ fY_has τ (nI (6 + m)) (nI f) = 0) ∨ (∃ s : Nat, s < 10 ∧ hv σ f (6 + m) = some s ∧ bt (yFi τ (6 + m)) f = true ∧ fX_holder σ (nI (6 + m)) (nI f) = nI s ∧ fY_has τ (nI (6 + m)) (nI f) = 1 ∧ yCo τ (8 * (6 + m) + f) = xCt σ (8 * s + f)) := by
  have hS := h.same hm hu
  have e1 := hold_eq (f := f) (t := 6 + m) h.u hf (by omega)
  have e2 := has_eq (τ := τ) (t := 6 + m) (f := f) (by omega) hf
  have e3 := hS.1 f hf
  cases hh : hv σ f (6 + m) with
  | none =>
    rw [hh] at e1 e3
    have e3 : bt (yFi τ (6 + m)) f = false := e3
    rw [e3] at e2
    exact Or.inl ⟨rfl, e3, e1, e2⟩
  | some s =>
    have hs := hv10 h (alv hm hu) hh
    have ec := hS.2.1 f hf s hh
    rw [hh] at e1 e3
    have e3 : bt (yFi τ (6 + m)) f = true := e3
    rw [e3] at e2
    exact Or.inr ⟨s, hs, rfl, e3, e1, e2, ec⟩
theorem di_c (h : RelN nl σ τ) (hm : m < 4) (hu : ¬ xIu σ m = 0) {f : Nat} (hf : f < 8) : (bt (yDi τ (6 + m)) (f / 4) = false ∧ fX_directoryThere σ (nI (6 + m)) (nI f >>> ((2 : Int32) &&& 31)) = 0 ∧ fY_hasDirectory τ (nI (6 + m)) (nI f / 4) = 0) ∨ (bt (yDi τ (6 + m)) (f / 4) = true ∧ fX_directoryThere σ (nI (6 + m)) (nI f >>> ((2 : Int32) &&& 31)) = 1 ∧ fY_hasDirectory τ (nI (6 + m)) (nI f / 4) = 1) := by
  have hS := h.same hm hu
  have e1 := dir_eq (dd := f / 4) (t := 6 + m) h.u (by omega) (by omega)
  have e2 := hasD_eq (τ := τ) (t := 6 + m) (f := f / 4) (by omega) (by omega)
  have e3 := hS.2.2.1 (f / 4) (by omega)
  rw [sh2 f hf, dv4 f hf, e1, e2, ← e3]
  cases bt (yDi τ (6 + m)) (f / 4)
  · exact Or.inl ⟨rfl, rfl, rfl⟩
  · exact Or.inr ⟨rfl, rfl, rfl⟩
theorem pu_write (hR : Rel σ τ) (p1 : Int32) (p2 : Int32) (p3 : Int32) : (fX_write σ p1 p2 p3).1 = (fY_write τ p1 p2 p3).1 ∧ Rel (fX_write σ p1 p2 p3).2 (fY_write τ p1 p2 p3).2 := by
  obtain ⟨nl, h⟩ := hR
  rcases rf_2 h p1 with ⟨e, nX, nY⟩ | ⟨m, hm, rfl, hu, eX, eY⟩
  · have E1 : fX_write σ p1 p2 p3 = (fX_refused σ p1, σ) := if_neg nX
    have E2 : fY_write τ p1 p2 p3 = (fY_testFile τ p1 p2, τ) := if_neg (by rw [tf_n nY]; exact nY)
    rw [E1, E2, tf_n nY]
    exact ⟨e, nl, h⟩
  · have hX : (0 : Int32) ≤ fX_refused σ (nI m) := by rw [eX]; decide
    rcases bf_c p2 with ⟨hb, ht⟩ | ⟨f, hf, rfl, hb, ht⟩
    · have T := ht τ _ eY
      have E1 : fX_write σ (nI m) p2 p3 = (-1, σ) := tp hX (tn hb rfl)
      have E2 : fY_write τ (nI m) p2 p3 = (fY_testFile τ (nI m) p2, τ) := tn (by rw [T]; decide) rfl
      rw [E1, E2, T]
      exact ⟨rfl, nl, h⟩
    · have T := ht τ _ eY
      rcases di_c h hm hu hf with ⟨-, d1, d2⟩ | ⟨dt, d1, d2⟩
      · have E1 : fX_write σ (nI m) (nI f) p3 = (-4, σ) := tp hX (tp hb (tp (by rw [etop]; exact d1) rfl))
        have E2 : fY_write τ (nI m) (nI f) p3 = (-4, τ) := tp T (tp (by rw [e6]; exact d2) rfl)
        rw [E1, E2]
        exact ⟨rfl, nl, h⟩
      · have E2 : fY_write τ (nI m) (nI f) p3 = (if bt (yFi τ (6 + m)) f = true then 1 else 0, pY τ (6 + m) f p3) := by
          have q : fY_write τ (nI m) (nI f) p3 = ((fY_put τ (6 + nI m) (nI f) p3).1, (fY_put τ (6 + nI m) (nI f) p3).2) := tp T (tn (by rw [e6, d2]; decide) rfl)
          rw [q, e6, put_E (by omega) hf]
        have R2 : RelN nl (fX_setFile σ (nI (6 + m)) (nI f) p3) (pY τ (6 + m) f p3) := wr_S h hm hu hf (pY_T hf) dt rfl (fun i => bts (by omega)) (fun g hg => upd_d)
        have hd : ¬ fX_directoryThere σ (fX_top (nI m)) (nI f >>> ((2 : Int32) &&& 31)) = 0 := by rw [etop, d1]; decide
        rcases ho_c h hm hu hf with ⟨-, b1, b2, -⟩ | ⟨s, hs, -, b1, b2, -, -⟩
        · have E1 : fX_write σ (nI m) (nI f) p3 = (0, fX_setFile σ (fX_top (nI m)) (nI f) p3) := tp hX (tp hb (tn hd (tn (by rw [etop, b2]; decide) rfl)))
          rw [E1, E2, b1, etop]
          exact ⟨rfl, nl, R2⟩
        · have E1 : fX_write σ (nI m) (nI f) p3 = (1, fX_setFile σ (fX_top (nI m)) (nI f) p3) := tp hX (tp hb (tn hd (tp (by rw [etop, b2]; exact nI_pos' (by omega)) rfl)))
          rw [E1, E2, b1, etop]
          exact ⟨rfl, nl, R2⟩
theorem pu_grow (hR : Rel σ τ) (p1 : Int32) (p2 : Int32) (p3 : Int32) : (fX_grow σ p1 p2 p3).1 = (fY_grow τ p1 p2 p3).1 ∧ Rel (fX_grow σ p1 p2 p3).2 (fY_grow τ p1 p2 p3).2 := by
  obtain ⟨nl, h⟩ := hR
  rcases rf_2 h p1 with ⟨e, nX, nY⟩ | ⟨m, hm, rfl, hu, eX, eY⟩
  · have E1 : fX_grow σ p1 p2 p3 = (fX_refused σ p1, σ) := if_neg nX
    have E2 : fY_grow τ p1 p2 p3 = (fY_testFile τ p1 p2, τ) := if_neg (by rw [tf_n nY]; exact nY)
    rw [E1, E2, tf_n nY]
    exact ⟨e, nl, h⟩
  · have hX : (0 : Int32) ≤ fX_refused σ (nI m) := by rw [eX]; decide
    rcases bf_c p2 with ⟨hb, ht⟩ | ⟨f, hf, rfl, hb, ht⟩
    · have T := ht τ _ eY
      have E1 : fX_grow σ (nI m) p2 p3 = (-1, σ) := tp hX (tn hb rfl)
      have E2 : fY_grow τ (nI m) p2 p3 = (fY_testFile τ (nI m) p2, τ) := tn (by rw [T]; decide) rfl
      rw [E1, E2, T]
      exact ⟨rfl, nl, h⟩
    · have T := ht τ _ eY
      have hS := h.same hm hu
      rcases ho_c h hm hu hf with ⟨-, b1, b2, b3⟩ | ⟨s, hs, -, b1, b2, b3, b4⟩
      · have E1 : fX_grow σ (nI m) (nI f) p3 = (-4, σ) := tp hX (tp hb (tn (by rw [etop, b2]; decide) rfl))
        have E2 : fY_grow τ (nI m) (nI f) p3 = (-4, τ) := tp T (tp (by rw [e6]; exact b3) rfl)
        rw [E1, E2]
        exact ⟨rfl, nl, h⟩
      · have E1 : fX_grow σ (nI m) (nI f) p3 = (0, fX_setFile σ (nI (6 + m)) (nI f) (xCt σ (8 * s + f) + p3)) := by
          unfold fX_grow
          rw [etop, if_pos hX, if_pos hb, b2, if_pos (nI_pos' (by omega)), cix hs hf]
        have E2 : fY_grow τ (nI m) (nI f) p3 = (0, (yDi τ, yFi τ, upd (yCo τ) (8 * (6 + m) + f) (yCo τ (8 * (6 + m) + f) + p3), yBa τ, yL τ, yUs τ, yBe τ)) := by
          unfold fY_grow
          rw [e6, if_pos T, b3, if_neg (by decide), ciy (by omega) hf]
        rw [E1, E2, b4]
        refine ⟨rfl, nl, wr_S h hm hu hf ⟨rfl, rfl, rfl, rfl, fun k hk => ⟨rfl, rfl⟩, fun s f' hf' hs => upd_c hf hf' hs⟩ (hS.2.2.2.2.2.1 f hf b1) rfl (fun i => ?_) (fun g hg => upd_d)⟩
        by_cases e : i = f
        · subst e
          show bt (yFi τ (6 + m)) i = _
          rw [b1]; rfl
        · rw [decide_eq_false e, Bool.or_false]
theorem pu_remove (hR : Rel σ τ) (p1 : Int32) (p2 : Int32) : (fX_remove σ p1 p2).1 = (fY_remove τ p1 p2).1 ∧ Rel (fX_remove σ p1 p2).2 (fY_remove τ p1 p2).2 := by
  obtain ⟨nl, h⟩ := hR
  rcases rf_2 h p1 with ⟨e, nX, nY⟩ | ⟨m, hm, rfl, hu, eX, eY⟩
  · have E1 : fX_remove σ p1 p2 = (fX_refused σ p1, σ) := if_neg nX
    have E2 : fY_remove τ p1 p2 = (fY_testFile τ p1 p2, τ) := if_neg (by rw [tf_n nY]; exact nY)
    rw [E1, E2, tf_n nY]
    exact ⟨e, nl, h⟩
  · have hX : (0 : Int32) ≤ fX_refused σ (nI m) := by rw [eX]; decide
    rcases bf_c p2 with ⟨hb, ht⟩ | ⟨f, hf, rfl, hb, ht⟩
    · have T := ht τ _ eY
      have E1 : fX_remove σ (nI m) p2 = (-1, σ) := tp hX (tn hb rfl)
      have E2 : fY_remove τ (nI m) p2 = (fY_testFile τ (nI m) p2, τ) := tn (by rw [T]; decide) rfl
      rw [E1, E2, T]
      exact ⟨rfl, nl, h⟩
    · have T := ht τ _ eY
      rcases ho_c h hm hu hf with ⟨-, b1, b2, b3⟩ | ⟨s, hs, -, b1, b2, b3, b4⟩
      · have E1 : fX_remove σ (nI m) (nI f) = (-4, σ) := tp hX (tp hb (tn (by rw [etop, b2]; decide) rfl))
        have E2 : fY_remove τ (nI m) (nI f) = (-4, τ) := tp T (tp (by rw [e6]; exact b3) rfl)
        rw [E1, E2]
        exact ⟨rfl, nl, h⟩
      · have E1 : fX_remove σ (nI m) (nI f) = (0, fX_clearFile σ (nI (6 + m)) (nI f)) := by
          unfold fX_remove
          rw [etop, if_pos hX, if_pos hb, b2, if_pos (nI_pos' (by omega))]
        have E2 : fY_remove τ (nI m) (nI f) = (0, (yDi τ, upd (yFi τ) (6 + m) (yFi τ (6 + m) &&& (((1 : Int32) <<< (nI f &&& 31)) ^^^ (-1))), yCo τ, yBa τ, yL τ, yUs τ, yBe τ)) := by
          unfold fY_remove
          rw [e6, if_pos T, b3, if_neg (by decide), nI_clamp (by omega)]
        rw [E1, E2]
        exact ⟨rfl, nl, cl_S h hm hu hf ⟨rfl, rfl, rfl, rfl, fun k hk => ⟨rfl, pk_un hk⟩, fun _ _ _ _ => rfl⟩ rfl (fun i => btc (by omega)) (fun g hg => rfl)⟩
theorem pu_rename (hR : Rel σ τ) (p1 : Int32) (p2 : Int32) (p3 : Int32) : (fX_rename σ p1 p2 p3).1 = (fY_rename τ p1 p2 p3).1 ∧ Rel (fX_rename σ p1 p2 p3).2 (fY_rename τ p1 p2 p3).2 := by
  obtain ⟨nl, h⟩ := hR
  rcases rf_2 h p1 with ⟨e, nX, nY⟩ | ⟨m, hm, rfl, hu, eX, eY⟩
  · have E1 : fX_rename σ p1 p2 p3 = (fX_refused σ p1, σ) := if_neg nX
    have E2 : fY_rename τ p1 p2 p3 = (fY_testFile τ p1 p2, τ) := if_neg (by rw [tf_n nY]; exact nY)
    rw [E1, E2, tf_n nY]
    exact ⟨e, nl, h⟩
  · have hX : (0 : Int32) ≤ fX_refused σ (nI m) := by rw [eX]; decide
    rcases bf_c p2 with ⟨hb, ht⟩ | ⟨f, hf, rfl, hb, ht⟩
    · have T := ht τ _ eY
      have E1 : fX_rename σ (nI m) p2 p3 = (-1, σ) := tp hX (tn hb rfl)
      have E2 : fY_rename τ (nI m) p2 p3 = (fY_testFile τ (nI m) p2, τ) := tn (by rw [T]; decide) rfl
      rw [E1, E2, T]
      exact ⟨rfl, nl, h⟩
    · have T := ht τ _ eY
      rcases bf_c p3 with ⟨hb3, ht3⟩ | ⟨g, hg, rfl, hb3, ht3⟩
      · have T3 := ht3 τ _ eY
        have E1 : fX_rename σ (nI m) (nI f) p3 = (-1, σ) := tp hX (tp hb (tn hb3 rfl))
        have E2 : fY_rename τ (nI m) (nI f) p3 = (fY_testFile τ (nI m) p3, τ) := tp T (tn (by rw [T3]; decide) rfl)
        rw [E1, E2, T3]
        exact ⟨rfl, nl, h⟩
      · have T3 := ht3 τ _ eY
        by_cases hfg : nI f = nI g
        · have E1 : fX_rename σ (nI m) (nI f) (nI g) = (-1, σ) := tp hX (tp hb (tp hb3 (tp hfg rfl)))
          have E2 : fY_rename τ (nI m) (nI f) (nI g) = (-1, τ) := tp T (tp T3 (tp hfg rfl))
          rw [E1, E2]
          exact ⟨rfl, nl, h⟩
        · have ne : f ≠ g := fun q => hfg (by rw [q])
          rcases ho_c h hm hu hf with ⟨-, b1, b2, b3⟩ | ⟨s, hs, -, b1, b2, b3, b4⟩
          · have E1 : fX_rename σ (nI m) (nI f) (nI g) = (-4, σ) := tp hX (tp hb (tp hb3 (tn hfg (tp (by rw [etop, b2]; decide) rfl))))
            have E2 : fY_rename τ (nI m) (nI f) (nI g) = (-4, τ) := tp T (tp T3 (tn hfg (tp (by rw [e6]; exact b3) rfl)))
            rw [E1, E2]
            exact ⟨rfl, nl, h⟩
          · have hn1 : ¬ fX_holder σ (fX_top (nI m)) (nI f) < 0 := by rw [etop, b2]; exact nI_pos (by omega)
            have hn2 : ¬ fY_has τ (6 + nI m) (nI f) = 0 := by rw [e6, b3]; decide
            rcases di_c h hm hu hg with ⟨-, d1, d2⟩ | ⟨dt, d1, d2⟩
            · have E1 : fX_rename σ (nI m) (nI f) (nI g) = (-4, σ) := tp hX (tp hb (tp hb3 (tn hfg (tn hn1 (tp (by rw [etop]; exact d1) rfl)))))
              have E2 : fY_rename τ (nI m) (nI f) (nI g) = (-4, τ) := tp T (tp T3 (tn hfg (tn hn2 (tp (by rw [e6]; exact d2) rfl))))
              rw [E1, E2]
              exact ⟨rfl, nl, h⟩
            · have hd : ¬ fX_directoryThere σ (fX_top (nI m)) (nI g >>> ((2 : Int32) &&& 31)) = 0 := by rw [etop, d1]; decide
              have hd2 : ¬ fY_hasDirectory τ (6 + nI m) (nI g / 4) = 0 := by rw [e6, d2]; decide
              have ebg : bt (yFi τ (6 + m) &&& (((1 : Int32) <<< (nI f &&& 31)) ^^^ (-1))) g = bt (yFi τ (6 + m)) g := by
                rw [bt_clr (by omega), decide_eq_false (fun q => ne q.symm)]; simp
              have E2 : fY_rename τ (nI m) (nI f) (nI g) = (if bt (yFi τ (6 + m)) g = true then 1 else 0, pY (yDi τ, upd (yFi τ) (6 + m) (yFi τ (6 + m) &&& (((1 : Int32) <<< (nI f &&& 31)) ^^^ (-1))), yCo τ, yBa τ, yL τ, yUs τ, yBe τ) (6 + m) g (xCt σ (8 * s + f))) := by
                unfold fY_rename
                rw [if_pos T, if_pos T3, if_neg hfg, if_neg hn2, if_neg hd2, e6, nI_clamp (by omega), ciy (by omega) hf, put_E (by omega) hg, b4]
                show (if bt (upd (yFi τ) (6 + m) (yFi τ (6 + m) &&& (((1 : Int32) <<< (nI f &&& 31)) ^^^ (-1))) (6 + m)) g = true then (1 : Int32) else 0, _) = _
                rw [pk_us, ebg]
              have R1 : RelN nl (fX_setFile σ (nI (6 + m)) (nI g) (xCt σ (8 * s + f))) (pY τ (6 + m) g (xCt σ (8 * s + f))) := wr_S h hm hu hg (pY_T hg) dt rfl (fun i => bts (by omega)) (fun g hg => upd_d)
              have hu1 : ¬ xIu (fX_setFile σ (nI (6 + m)) (nI g) (xCt σ (8 * s + f))) m = 0 := by rw [(set_X (σ := σ) (t := 6 + m) (g := g) (v := xCt σ (8 * s + f)) (by omega) hg).2.2.1]; exact hu
              have R2 : RelN nl (fX_clearFile (fX_setFile σ (nI (6 + m)) (nI g) (xCt σ (8 * s + f))) (nI (6 + m)) (nI f)) (pY (yDi τ, upd (yFi τ) (6 + m) (yFi τ (6 + m) &&& (((1 : Int32) <<< (nI f &&& 31)) ^^^ (-1))), yCo τ, yBa τ, yL τ, yUs τ, yBe τ) (6 + m) g (xCt σ (8 * s + f))) := by
                refine cl_S R1 hm hu1 hf ⟨rfl, rfl, rfl, rfl, fun k hk => ⟨rfl, ?_⟩, fun _ _ _ _ => rfl⟩ rfl (fun i => ?_) (fun g hg => rfl)
                · show upd (upd (yFi τ) (6 + m) _) (6 + m) _ k = upd (yFi τ) (6 + m) _ k
                  rw [pk_un hk, pk_un hk, pk_un hk]
                · show bt (upd (upd (yFi τ) (6 + m) (yFi τ (6 + m) &&& (((1 : Int32) <<< (nI f &&& 31)) ^^^ (-1)))) (6 + m) (upd (yFi τ) (6 + m) (yFi τ (6 + m) &&& (((1 : Int32) <<< (nI f &&& 31)) ^^^ (-1))) (6 + m) ||| ((1 : Int32) <<< (nI g &&& 31))) (6 + m)) i = (bt (upd (yFi τ) (6 + m) (yFi τ (6 + m) ||| ((1 : Int32) <<< (nI g &&& 31))) (6 + m)) i && !decide (i = f))
                  rw [bts (by omega), bts (by omega), btc (by omega)]
                  by_cases q : i = f
                  · subst q; rw [decide_eq_false ne]; simp
                  · rw [decide_eq_false q]; simp
              rcases ho_c h hm hu hg with ⟨-, b1g, b2g, -⟩ | ⟨s', hs', -, b1g, b2g, -, -⟩
              · have E1 : fX_rename σ (nI m) (nI f) (nI g) = (0, fX_clearFile (fX_setFile σ (nI (6 + m)) (nI g) (xCt σ (8 * s + f))) (nI (6 + m)) (nI f)) := by
                  unfold fX_rename
                  rw [if_pos hX, if_pos hb, if_pos hb3, if_neg hfg, if_neg hn1, if_neg hd, etop, b2g, if_neg (by decide), b2, cix hs hf]
                rw [E1, E2, b1g]
                exact ⟨rfl, nl, R2⟩
              · have E1 : fX_rename σ (nI m) (nI f) (nI g) = (1, fX_clearFile (fX_setFile σ (nI (6 + m)) (nI g) (xCt σ (8 * s + f))) (nI (6 + m)) (nI f)) := by
                  unfold fX_rename
                  rw [if_pos hX, if_pos hb, if_pos hb3, if_neg hfg, if_neg hn1, if_neg hd, etop, b2g, if_pos (nI_pos' (by omega)), b2, cix hs hf]
                rw [E1, E2, b1g]
                exact ⟨rfl, nl, R2⟩
theorem pu_read (hR : Rel σ τ) (p1 : Int32) (p2 : Int32) : fX_read σ p1 p2 = fY_read τ p1 p2 := by
  obtain ⟨nl, h⟩ := hR
  rcases rf_2 h p1 with ⟨e, nX, nY⟩ | ⟨m, hm, rfl, hu, eX, eY⟩
  · have E1 : fX_read σ p1 p2 = 0 := tp (Int32.not_le.mp nX) rfl
    have E2 : fY_read τ p1 p2 = 0 := tn (by rw [tf_n nY]; exact nY) rfl
    rw [E1, E2]
  · have hX : ¬ fX_refused σ (nI m) < 0 := by rw [eX]; decide
    rcases bf_c p2 with ⟨hb, ht⟩ | ⟨f, hf, rfl, hb, ht⟩
    · have T := ht τ _ eY
      have E1 : fX_read σ (nI m) p2 = 0 := tn hX (tn hb rfl)
      have E2 : fY_read τ (nI m) p2 = 0 := tn (by rw [T]; decide) rfl
      rw [E1, E2]
    · have T := ht τ _ eY
      unfold fX_read fY_read
      rw [if_neg hX, if_pos hb, if_pos T, etop, e6]
      rcases ho_c h hm hu hf with ⟨-, b1, b2, b3⟩ | ⟨s, hs, -, b1, b2, b3, b4⟩
      · rw [b2, b3]; rfl
      · rw [b2, b3, if_pos (nI_pos' (by omega)), if_neg (by decide), cix hs hf, ciy (by omega) hf, b4]
theorem pu_files (hR : Rel σ τ) (p1 : Int32) : fX_files σ p1 = fY_files τ p1 := by
  obtain ⟨nl, h⟩ := hR
  rcases rf_2 h p1 with ⟨e, nX, nY⟩ | ⟨m, hm, rfl, hu, eX, eY⟩
  · have E1 : fX_files σ p1 = fX_refused σ p1 := tn nX rfl
    have E2 : fY_files τ p1 = fY_test τ p1 := tn nY rfl
    rw [E1, E2, e]
  · unfold fX_files fY_files
    rw [if_pos (by rw [eX]; decide), if_pos eY, etop, c6 hm, fs_eq h (alv hm hu)]
theorem ds_q (hU : okU σ) (hm : m < 4) : ∀ (n k : Nat) (x3 : Int32), k + n = 2 → ∀ i, bt (lX_directories_17 σ (nI m) n x3 (nI k)) i = (bt x3 i || (decide (k ≤ i ∧ i < 2) && dv σ i (6 + m))) := by
  intro n
  induction n with
  | zero =>
    intro k x2 hk i
    show bt x2 i = _
    rw [decide_eq_false (by omega)]; simp
  | succ n ih =>
    intro k x2 hk i
    show bt (if fX_directoryThere σ (fX_top (nI m)) (nI k) = 0 then lX_directories_17 σ (nI m) n x2 (nI k + 1) else lX_directories_17 σ (nI m) n (x2 ||| ((1 : Int32) <<< (nI k &&& 31))) (nI k + 1)) i = _
    rw [nI_1, etop, dir_eq hU (by omega) (by omega)]
    cases hh : dv σ k (6 + m) with
    | false =>
      rw [if_pos (show (if false = true then (1 : Int32) else 0) = 0 from rfl), ih (k + 1) _ (by omega)]
      by_cases e : i = k
      · subst e; rw [hh]; simp
      · rw [show decide (k + 1 ≤ i ∧ i < 2) = decide (k ≤ i ∧ i < 2) from decide_eq_decide.mpr (by omega)]
    | true =>
      rw [if_neg (show ¬ (if true = true then (1 : Int32) else 0) = 0 by decide), ih (k + 1) _ (by omega), bt_set (by omega)]
      by_cases e : i = k
      · subst e; rw [hh]; simp; omega
      · rw [show decide (k + 1 ≤ i ∧ i < 2) = decide (k ≤ i ∧ i < 2) from decide_eq_decide.mpr (by omega), decide_eq_false e, Bool.or_false]
theorem pu_directories (hR : Rel σ τ) (p1 : Int32) : fX_directories σ p1 = fY_directories τ p1 := by
  obtain ⟨nl, h⟩ := hR
  rcases rf_2 h p1 with ⟨e, nX, nY⟩ | ⟨m, hm, rfl, hu, eX, eY⟩
  · have E1 : fX_directories σ p1 = fX_refused σ p1 := tn nX rfl
    have E2 : fY_directories τ p1 = fY_test τ p1 := tn nY rfl
    rw [E1, E2, e]
  · have hS := h.same hm hu
    unfold fX_directories fY_directories
    rw [if_pos (by rw [eX]; decide), if_pos eY, c6 hm]
    apply bt_ext
    intro i hi
    rw [show lX_directories_17 σ (nI m) 2 0 0 = lX_directories_17 σ (nI m) 2 0 (nI 0) from rfl, ds_q h.u hm 2 0 0 rfl, bt_0, Bool.false_or]
    by_cases h8 : i < 2
    · rw [decide_eq_true ⟨Nat.zero_le _, h8⟩, Bool.true_and, hS.2.2.1 i h8]
    · rw [decide_eq_false (by omega), Bool.false_and, hS.2.2.2.2.1 i (by omega)]
end P4
end
section
/-! layers: mount, unmount, commit, drop; base, changes, compare, squash; the start -/
set_option maxRecDepth 100000
section P5
variable {nl m : Nat} {σ σ' : SX} {τ τ' : SY}
theorem pu_layers (hR : Rel σ τ) : fX_layers σ = fY_layers τ := by
  obtain ⟨nl, h⟩ := hR
  show xL σ = yL τ
  rw [h.2.1.1, h.2.1.2]
/-- a layer's number: refused alike -/
theorem lay_c (h : RelN nl σ τ) (p : Int32) : (fY_isLayer τ p = 0 ∧ (p < 0 ∨ ¬ p < 0 ∧ ¬ p < xL σ)) ∨ (∃ k : Nat, k < nl ∧ p = nI k ∧ ¬ p < 0 ∧ p < xL σ ∧ fY_isLayer τ p = 1) := by
  have h6 := h.six
  by_cases h0 : p < 0
  · exact Or.inl ⟨tp h0 rfl, Or.inl h0⟩
  · by_cases h1 : p < xL σ
    · have h1' := h1
      rw [h.2.1.1] at h1'
      obtain ⟨k, hk, rfl⟩ := vp_in_of (b_lt h0 h1' (by omega)) (by omega)
      refine Or.inr ⟨k, hk, rfl, h0, h1, tn h0 (tn ?_ rfl)⟩
      rw [h.2.1.2]
      exact nI_ge hk (by omega)
    · refine Or.inl ⟨tn h0 (tp ?_ rfl), Or.inr ⟨h0, h1⟩⟩
      rw [h.2.1.2, ← h.2.1.1]
      exact Int32.not_lt.mp h1
theorem pu_base (hR : Rel σ τ) (p1 : Int32) : fX_base σ p1 = fY_base τ p1 := by
  obtain ⟨nl, h⟩ := hR
  have h6 := h.six
  have hl01 : ∀ {q : Int32}, q < 0 → q < 1 := fun hq => by
    rw [Int32.lt_iff_toInt_lt] at hq ⊢
    rw [ti0] at hq
    rw [show (1 : Int32).toInt = 1 by decide]
    omega
  rcases lay_c h p1 with ⟨e, h0 | ⟨h0, h1⟩⟩ | ⟨k, hk, rfl, h0, h1, e⟩
  · have E1 : fX_base σ p1 = -4 := tp (hl01 h0) rfl
    have E2 : fY_base τ p1 = -4 := tp e rfl
    rw [E1, E2]
  · have E1 : fX_base σ p1 = -4 := by
      unfold fX_base
      by_cases h2 : p1 < 1
      · rw [if_pos h2]
      · rw [if_neg h2, if_neg h1]
    have E2 : fY_base τ p1 = -4 := tp e rfl
    rw [E1, E2]
  · unfold fX_base fY_base
    rw [e, if_neg (show ¬ (1 : Int32) = 0 by decide), if_pos h1, nI_clamp (by omega)]
    by_cases hk0 : k = 0
    · subst hk0
      rw [if_pos (by decide), h.2.2.2.1.2]
    · obtain ⟨j, -, e1, e2⟩ := h.2.2.2.2.1 k (by omega) hk
      have hk1 : ¬ nI k < (1 : Int32) := nI_nlt (a := k) (b := 1) (by omega) (by omega)
      rw [if_neg hk1, e1, e2]
/-! the files that differ -/
theorem df_q {a b : Nat} (hU : okU σ) (ha : a < 10) (hb : b < 10) (sa : Same σ τ a) (sb : Same σ τ b) (ia : ∀ f s, hv σ f a = some s → s < 10) (ib : ∀ f s, hv σ f b = some s → s < 10) : ∀ (n k : Nat) (x3 : Int32), k + n = 8 → lX_difference_5 σ (nI a) (nI b) n x3 (nI k) = lY_differing_5 τ (nI a) (nI b) n x3 (nI k) := by
  intro n
  induction n with
  | zero => intro k x3 _; rfl
  | succ n ih =>
    intro k x3 hk
    unfold lX_difference_5 lY_differing_5
    rw [nI_1, hold_eq hU (by omega) ha, hold_eq hU (by omega) hb, has_eq ha (by omega), has_eq hb (by omega), sa.1 k (by omega), sb.1 k (by omega), ciy ha (by omega), ciy hb (by omega)]
    cases e1 : hv σ k a with
    | none =>
      rw [if_neg oI_nge]
      cases e2 : hv σ k b with
      | none =>
        rw [if_neg oI_nge, ih (k + 1) _ (by omega)]
        rfl
      | some t =>
        rw [if_pos (oI_ge (ib _ _ e2)), ih (k + 1) _ (by omega)]
        rfl
    | some s =>
      rw [if_pos (oI_ge (ia _ _ e1))]
      cases e2 : hv σ k b with
      | none =>
        rw [if_neg oI_nge, ih (k + 1) _ (by omega)]
        rfl
      | some t =>
        rw [if_pos (oI_ge (ib _ _ e2)), show oI (some s) = nI s from rfl, show oI (some t) = nI t from rfl, cix (ia _ _ e1) (by omega), cix (ib _ _ e2) (by omega), sa.2.1 k (by omega) s e1, sb.2.1 k (by omega) t e2, ih (k + 1) _ (by omega), ih (k + 1) _ (by omega)]
        rfl
theorem al10 (h : RelN nl σ τ) {t : Nat} (ht : alive σ nl t) : t < 10 := by
  have := h.six
  rcases ht with q | ⟨m, hm, rfl, -⟩ <;> omega
theorem df_eq (h : RelN nl σ τ) {a b : Nat} (ha : alive σ nl a) (hb : alive σ nl b) : fX_difference σ (nI a) (nI b) = fY_differing τ (nI a) (nI b) := by
  have hS := h.2.2.2.2.2.2.2.2
  exact df_q h.u (al10 h ha) (al10 h hb) (hS a ha) (hS b hb) (fun f s q => hv10 h ha q) (fun f s q => hv10 h hb q) 8 0 0 rfl
theorem ch_q {p : Int32} : ∀ (n : Nat) (x4 x5 : Int32), lY_changes_33 τ p n x4 x5 = lX_sizeOf_4 (fY_differing τ (6 + p) (yBe τ p.toNatClampNeg)) n x4 x5 := by
  intro n
  induction n with
  | zero => intro x4 x5; rfl
  | succ n ih => intro x4 x5; exact ih _ _
theorem pu_changes (hR : Rel σ τ) (p1 : Int32) : fX_changes σ p1 = fY_changes τ p1 := by
  obtain ⟨nl, h⟩ := hR
  rcases rf_2 h p1 with ⟨e, nX, nY⟩ | ⟨m, hm, rfl, hu, eX, eY⟩
  · have E1 : fX_changes σ p1 = fX_refused σ p1 := tn nX rfl
    have E2 : fY_changes τ p1 = fY_test τ p1 := tn nY rfl
    rw [E1, E2, e]
  · obtain ⟨j, hj, e1, e2⟩ := h.top hm hu
    unfold fX_changes fY_changes
    rw [if_pos (by rw [eX]; decide), if_pos eY, ch_q, ctop hm, nI_clamp (show m < 2 ^ 31 by omega), e1, e2, etop, e6, df_eq h (alv hm hu) (Or.inl hj)]
    rfl
theorem pu_compare (hR : Rel σ τ) (p1 : Int32) (p2 : Int32) : fX_compare σ p1 p2 = fY_compare τ p1 p2 := by
  obtain ⟨nl, h⟩ := hR
  rcases lay_c h p1 with ⟨e, h0 | ⟨h0, h1⟩⟩ | ⟨k, hk, rfl, h0, h1, e⟩
  · have E1 : fX_compare σ p1 p2 = -4 := tp h0 rfl
    have E2 : fY_compare τ p1 p2 = -4 := tp e rfl
    rw [E1, E2]
  · have E1 : fX_compare σ p1 p2 = -4 := tn h0 (tp (Int32.not_lt.mp h1) rfl)
    have E2 : fY_compare τ p1 p2 = -4 := tp e rfl
    rw [E1, E2]
  · have n1 : ¬ fY_isLayer τ (nI k) = 0 := by rw [e]; decide
    have n2 : ¬ xL σ ≤ nI k := Int32.not_le.mpr h1
    rcases lay_c h p2 with ⟨e', h0' | ⟨h0', h1'⟩⟩ | ⟨k', hk', rfl, h0', h1', e'⟩
    · have E1 : fX_compare σ (nI k) p2 = -4 := tn h0 (tn n2 (tp h0' rfl))
      have E2 : fY_compare τ (nI k) p2 = -4 := tn n1 (tp e' rfl)
      rw [E1, E2]
    · have E1 : fX_compare σ (nI k) p2 = -4 := tn h0 (tn n2 (tn h0' (tn h1' rfl)))
      have E2 : fY_compare τ (nI k) p2 = -4 := tn n1 (tp e' rfl)
      rw [E1, E2]
    · have E1 : fX_compare σ (nI k) (nI k') = fX_difference σ (nI k) (nI k') := tn h0 (tn n2 (tn h0' (tp h1' rfl)))
      have E2 : fY_compare τ (nI k) (nI k') = fY_differing τ (nI k) (nI k') := tn n1 (tn (by rw [e']; decide) rfl)
      rw [E1, E2, df_eq h (Or.inl hk) (Or.inl hk')]
/-! squash -/
theorem sq_q (hm : m < 4) : ∀ (n k : Nat) (σ : SX), k + n = 8 → RelN nl σ τ → ¬ xIu σ m = 0 → (lX_squash_21 (nI m) n σ (nI k)).1 = 0 ∧ RelN nl (lX_squash_21 (nI m) n σ (nI k)).2 τ := by
  intro n
  induction n with
  | zero => intro k σ _ h _; exact ⟨rfl, h⟩
  | succ n ih =>
    intro k σ hk h hu
    have hk8 : k < 8 := by omega
    obtain ⟨j, hj, ej, -⟩ := h.top hm hu
    have h6 := h.six
    have eh := hold_eq (f := k) (t := j) h.u hk8 (by omega)
    unfold lX_squash_21
    simp only [ctop hm, nI_1, sh2 k hk8, bt_t1 (show k < 32 by omega), bt_t1 (show k / 4 < 32 by omega), ej, eh]
    -- the mark dropped
    have Hh : (bt (xHd σ (6 + m)) (k / 4) = true ∨ hv σ k j = none) → (lX_squash_21 (nI m) n (xL σ, xUn σ, xOw σ, upd (xHi σ) (6 + m) (xHi σ (6 + m) &&& (((1 : Int32) <<< (nI k &&& 31)) ^^^ (-1))), xOd σ, xHd σ, xCt σ, xIu σ) (nI (k + 1))).1 = 0 ∧ RelN nl (lX_squash_21 (nI m) n (xL σ, xUn σ, xOw σ, upd (xHi σ) (6 + m) (xHi σ (6 + m) &&& (((1 : Int32) <<< (nI k &&& 31)) ^^^ (-1))), xOd σ, xHd σ, xCt σ, xIu σ) (nI (k + 1))).2 τ := by
      intro hc
      refine ih (k + 1) _ (by omega) (sqh_S (g := k) h hm hu ⟨rfl, rfl, rfl, fun q hq => ⟨rfl, pk_un hq, rfl, rfl⟩, fun _ _ _ _ => rfl⟩ ?_ rfl (fun i => btc (by omega)) rfl rfl (fun _ _ => rfl)) hu
      rcases hc with hc | hc
      · exact Or.inl hc
      · refine Or.inr (fun j' ej' hj' => ?_)
        have : j' = j := (nI_eq (by omega) (by omega)).mp (ej'.symm.trans ej)
        rw [this]; exact hc
    by_cases c1 : bt (xHd σ (6 + m)) (k / 4) = true
    · rw [if_pos c1]
      have := Hh (Or.inl c1)
      split
      · split <;> exact this
      · split <;> exact this
    · rw [if_neg c1]
      cases hh : hv σ k j with
      | none =>
        rw [if_pos oI_n]
        have := Hh (Or.inr hh)
        split <;> exact this
      | some s =>
        have hs : s < nl := hv_in h.ch h6 hj hh
        rw [if_neg (oI_s (by omega))]
        by_cases c3 : bt (xOw σ (6 + m)) k = true
        · rw [if_pos c3]
          split
          · rename_i c4
            rw [show oI (some s) = nI s from rfl, cix (by omega) hk8, etop, cix (by omega) hk8] at c4
            refine ih (k + 1) _ (by omega) (sqo_S (g := k) (s0 := s) h hm hu hk8 ⟨rfl, rfl, rfl, fun q hq => ⟨pk_un hq, rfl, rfl, rfl⟩, fun _ _ _ _ => rfl⟩ c3 c1 (fun j' ej' hj' => ?_) (by omega) c4 (fun i => btc (by omega)) rfl rfl rfl (fun _ _ => rfl)) hu
            have : j' = j := (nI_eq (by omega) (by omega)).mp (ej'.symm.trans ej)
            rw [this]; exact hh
          · exact ih (k + 1) σ (by omega) h hu
        · rw [if_neg c3]
          exact ih (k + 1) σ (by omega) h hu
theorem pu_squash (hR : Rel σ τ) (p1 : Int32) : (fX_squash σ p1).1 = fY_squash τ p1 ∧ Rel (fX_squash σ p1).2 τ := by
  obtain ⟨nl, h⟩ := hR
  rcases rf_2 h p1 with ⟨e, nX, nY⟩ | ⟨m, hm, rfl, hu, eX, eY⟩
  · have E1 : fX_squash σ p1 = (fX_refused σ p1, σ) := if_neg nX
    rw [E1]
    exact ⟨e, nl, h⟩
  · have E1 : fX_squash σ (nI m) = lX_squash_21 (nI m) 8 σ (nI 0) := tp (by rw [eX]; decide) rfl
    have q := sq_q (τ := τ) (nl := nl) hm 8 0 σ rfl h hu
    rw [E1, show fY_squash τ (nI m) = fY_test τ (nI m) from rfl, eY]
    exact ⟨q.1, nl, q.2⟩
/-! unmount -/
theorem pu_unmount (hR : Rel σ τ) (p1 : Int32) : (fX_unmount σ p1).1 = (fY_unmount τ p1).1 ∧ Rel (fX_unmount σ p1).2 (fY_unmount τ p1).2 := by
  obtain ⟨nl, h⟩ := hR
  rcases rf_2 h p1 with ⟨e, nX, nY⟩ | ⟨m, hm, rfl, hu, eX, eY⟩
  · have E1 : fX_unmount σ p1 = (fX_refused σ p1, σ) := if_neg nX
    have E2 : fY_unmount τ p1 = (fY_test τ p1, τ) := if_neg nY
    rw [E1, E2]
    exact ⟨e, nl, h⟩
  · have E1 : fX_unmount σ (nI m) = (0, (xL σ, xUn σ, xOw σ, xHi σ, xOd σ, xHd σ, xCt σ, upd (xIu σ) m 0)) := by
      unfold fX_unmount
      rw [if_pos (by rw [eX]; decide), nI_clamp (by omega)]
    have E2 : fY_unmount τ (nI m) = (0, (yDi τ, yFi τ, yCo τ, yBa τ, yL τ, upd (yUs τ) m 0, yBe τ)) := by
      unfold fY_unmount
      rw [eY, if_pos rfl, nI_clamp (by omega)]
    rw [E1, E2]
    refine ⟨rfl, nl, ?_⟩
    have hc := h.ch
    obtain ⟨h1, hL, hI, hB, hUn, hT, hok, hBe, hS⟩ := h
    have hlt : ∀ m' : Nat, ¬ upd (xIu σ) m 0 m' = 0 → ¬ xIu σ m' = 0 := by
      intro m' q
      by_cases e : m' = m
      · subst e; rw [pk_us] at q; exact absurd rfl q
      · rw [pk_un e] at q; exact q
    refine ⟨h1, hL, fun j hj => ?_, hB, hUn, fun m' hm' hu' => hT m' hm' (hlt m' hu'), hok, hBe, fun t ht => ?_⟩
    · show upd (xIu σ) m 0 j = upd (yUs τ) m 0 j
      unfold upd
      rw [hI j hj]
    · have ht' : alive σ nl t := by
        rcases ht with q | ⟨m', hm', e, q⟩
        · exact Or.inl q
        · exact Or.inr ⟨m', hm', e, hlt m' q⟩
      refine same_fr hc h1.2 (fun k _ => ⟨rfl, rfl, rfl, rfl, rfl⟩) ?_ (fun _ _ _ _ => rfl) rfl rfl (fun _ _ => rfl) (hS t ht')
      rcases ht' with q | ⟨m', hm', rfl, q⟩
      · exact Or.inl q
      · obtain ⟨j, hj, ej, -⟩ := hT m' hm' q
        exact Or.inr ⟨⟨j, hj, ej⟩, ⟨rfl, rfl, rfl, rfl, rfl⟩⟩
/-! the start -/
theorem hv_0 (f : Nat) : hv s0X f 0 = none := by
  unfold hv
  rw [gq_s, show hstop s0X f 0 = none from by
    unfold hstop
    show (if bt 0 f = true then _ else if bt 0 f = true then _ else if bt 0 (f / 4) = true then _ else _) = _
    rw [bt_0, bt_0]; rfl]
  exact if_pos (by decide)
theorem dv_0 (f : Nat) : dv s0X f 0 = false := by
  unfold dv
  rw [gq_s, show dstop s0X f 0 = none from by
    unfold dstop
    show (if bt 0 f = true then _ else if bt 0 f = true then _ else _) = _
    rw [bt_0]; rfl]
  exact if_pos (by decide)
theorem rel_init : Rel s0X s0Y := by
  refine ⟨1, ⟨by decide, by decide⟩, ⟨rfl, rfl⟩, fun _ _ => rfl, ⟨by decide, by decide⟩, fun k h1 h2 => absurd h2 (by omega), fun m _ h => absurd rfl h, ?_, fun m _ => ?_, fun t ht => ?_⟩
  · intro j hj
    by_cases e : j = 0
    · subst e; exact Or.inl (by decide)
    · right
      have : xUn s0X j = 0 := by
        show upd (fun _ => 0) (0 : Int32).toNatClampNeg (-1) j = 0
        exact pk_un (fun q => e (q.trans (by decide)))
      rw [this]
      unfold vp_in; decide
  · show vp_in 0 10
    unfold vp_in; decide
  · have h0 : t = 0 := by
      rcases ht with q | ⟨m, -, -, q⟩
      · omega
      · exact absurd rfl q
    subst h0
    refine ⟨fun f _ => ?_, fun f _ s hs => ?_, fun dd _ => ?_, fun i _ => bt_0 i, fun i _ => bt_0 i, fun f _ q => ?_, fun f _ q => ?_⟩
    · rw [hv_0]; exact bt_0 f
    · rw [hv_0] at hs; cases hs
    · rw [dv_0]; exact bt_0 dd
    · rw [show bt (yFi s0Y 0) f = false from bt_0 f] at q; cases q
    · exact bt_0 f
end P5
end
section
/-! mount, commit, drop -/
set_option maxRecDepth 100000
section P6
variable {nl m : Nat} {σ σ' : SX} {τ τ' : SY}
/-- eight contents copied from tree a to tree b -/
def cpy (a b : Nat) : (Nat → Int32) → Nat → Nat → (Nat → Int32)
  | F, _, 0 => F
  | F, k, n + 1 => cpy a b (upd F (8 * b + k) (F (8 * a + k))) (k + 1) n
theorem cpy_out {a b i : Nat} (hi : i < 8 * b ∨ 8 * b + 8 ≤ i) : ∀ (n k : Nat) (F : Nat → Int32), k + n ≤ 8 → cpy a b F k n i = F i := by
  intro n
  induction n with
  | zero => intro k F _; rfl
  | succ n ih =>
    intro k F hk
    show cpy a b (upd F (8 * b + k) (F (8 * a + k))) (k + 1) n i = F i
    rw [ih (k + 1) _ (by omega), pk_un (by omega)]
theorem cpy_lo {a b f : Nat} : ∀ (n k : Nat) (F : Nat → Int32), f < k → cpy a b F k n (8 * b + f) = F (8 * b + f) := by
  intro n
  induction n with
  | zero => intro k F _; rfl
  | succ n ih =>
    intro k F hk
    show cpy a b (upd F (8 * b + k) (F (8 * a + k))) (k + 1) n (8 * b + f) = F (8 * b + f)
    rw [ih (k + 1) _ (by omega), pk_un (by omega)]
theorem cpy_in {a b f : Nat} (hab : a ≠ b) (hf : f < 8) : ∀ (n k : Nat) (F : Nat → Int32), k + n ≤ 8 → k ≤ f → f < k + n → cpy a b F k n (8 * b + f) = F (8 * a + f) := by
  intro n
  induction n with
  | zero => intro k F _ h1 h2; exact absurd h2 (by omega)
  | succ n ih =>
    intro k F hk h1 h2
    show cpy a b (upd F (8 * b + k) (F (8 * a + k))) (k + 1) n (8 * b + f) = F (8 * a + f)
    by_cases e : f = k
    · subst e
      rw [cpy_lo n (f + 1) _ (by omega), pk_us]
    · rw [ih (k + 1) _ (by omega) (by omega) (by omega), pk_un (by omega)]
theorem cp_o {a b s f : Nat} {F : Nat → Int32} (hf : f < 8) (hs : s ≠ b) : cpy a b F 0 8 (8 * s + f) = F (8 * s + f) := cpy_out (by omega) 8 0 F (by omega)
theorem cp_i {a b f : Nat} {F : Nat → Int32} (hf : f < 8) (hab : a ≠ b) : cpy a b F 0 8 (8 * b + f) = F (8 * a + f) := cpy_in hab hf 8 0 F (by omega) (by omega) (by omega)
theorem cpY_q {a b : Nat} (ha : a < 10) (hb : b < 10) : ∀ (n k : Nat) (τ : SY), k + n ≤ 8 → lY_copy_26 (nI a) (nI b) n τ (nI k) = (yDi τ, yFi τ, cpy a b (yCo τ) k n, yBa τ, yL τ, yUs τ, yBe τ) := by
  intro n
  induction n with
  | zero => intro k τ _; rfl
  | succ n ih =>
    intro k τ hk
    unfold lY_copy_26
    rw [ciy ha (by omega), ciy hb (by omega), nI_1, ih (k + 1) _ (by omega)]
    rfl
theorem cpY_E {a b : Nat} (ha : a < 10) (hb : b < 10) (τ : SY) : fY_copy τ (nI a) (nI b) = (upd (yDi τ) b (yDi τ a), upd (yFi τ) b (yFi τ a), cpy a b (yCo τ) 0 8, yBa τ, yL τ, yUs τ, yBe τ) := by
  unfold fY_copy
  rw [nI_clamp (by omega), nI_clamp (by omega), show (0 : Int32) = nI 0 from rfl, cpY_q ha hb 8 0 _ (by omega)]
/-- a clean sheet that lies on layer j shows what layer j shows -/
theorem cln_v (hc : chn (xUn σ) nl) (h6 : nl ≤ 6) (hl : ∀ k : Nat, k < nl → Agr σ σ' k) {t j : Nat} (ej : xUn σ' t = nI j) (hj : j < nl) (e1 : xOw σ' t = 0) (e2 : xHi σ' t = 0) (e3 : xOd σ' t = 0) (e4 : xHd σ' t = 0) : (∀ f, hv σ' f t = hv σ f j) ∧ (∀ f, dv σ' f t = dv σ f j) := by
  refine ⟨fun f => ?_, fun f => ?_⟩
  · rw [hv_top hc h6 hl ej hj, hst_n (by rw [e1, bt_0]; decide) (by rw [e2, bt_0]; decide) (by rw [e4, bt_0]; decide)]
    rfl
  · rw [dv_top hc h6 hl ej hj, show dstop σ' f t = none from tn (by rw [e3, bt_0]; decide) (tn (by rw [e4, bt_0]; decide) rfl)]
    rfl
theorem pu_mount (hR : Rel σ τ) (p1 : Int32) (p2 : Int32) : (fX_mount σ p1 p2).1 = (fY_mount τ p1 p2).1 ∧ Rel (fX_mount σ p1 p2).2 (fY_mount τ p1 p2).2 := by
  obtain ⟨nl, h⟩ := hR
  rcases rf_x h p1 with ⟨e1, e2⟩ | ⟨m, hm, rfl, hu, e1, e2⟩ | ⟨m, hm, rfl, hu, e1, e2⟩
  · have E1 : fX_mount σ p1 p2 = (-1, σ) := tn (by rw [e1]; decide) (tp e1 rfl)
    have E2 : fY_mount τ p1 p2 = (fY_test τ p1, τ) := tn (by rw [e2]; decide) (tn (by rw [e2]; decide) rfl)
    rw [E1, E2, e2]
    exact ⟨rfl, nl, h⟩
  · rcases lay_c h p2 with ⟨e, h0 | ⟨h0, h1⟩⟩ | ⟨k, hk, rfl, h0, h1, e⟩
    · have E1 : fX_mount σ (nI m) p2 = (-4, σ) := tp e1 (tp h0 rfl)
      have E2 : fY_mount τ (nI m) p2 = (-4, τ) := tp e2 (tp e rfl)
      rw [E1, E2]
      exact ⟨rfl, nl, h⟩
    · have E1 : fX_mount σ (nI m) p2 = (-4, σ) := tp e1 (tn h0 (tn h1 rfl))
      have E2 : fY_mount τ (nI m) p2 = (-4, τ) := tp e2 (tp e rfl)
      rw [E1, E2]
      exact ⟨rfl, nl, h⟩
    · have h6 := h.six
      have E1 : fX_mount σ (nI m) (nI k) = (0, (xL σ, upd (xUn σ) (6 + m) (nI k), upd (xOw σ) (6 + m) 0, upd (xHi σ) (6 + m) 0, upd (xOd σ) (6 + m) 0, upd (xHd σ) (6 + m) 0, xCt σ, upd (xIu σ) m 1)) := by
        unfold fX_mount fX_clean
        rw [if_pos e1, if_neg h0, if_pos h1, ctop hm, nI_clamp (show m < 2 ^ 31 by omega)]
      have E2 : fY_mount τ (nI m) (nI k) = (0, (upd (yDi τ) (6 + m) (yDi τ k), upd (yFi τ) (6 + m) (yFi τ k), cpy k (6 + m) (yCo τ) 0 8, yBa τ, yL τ, upd (yUs τ) m 1, upd (yBe τ) m (nI k))) := by
        unfold fY_mount
        rw [if_pos e2, if_neg (by rw [e]; decide), e6, cpY_E (by omega) (by omega), nI_clamp (show m < 2 ^ 31 by omega)]
      rw [E1, E2]
      refine ⟨rfl, nl, ?_⟩
      have hSk := h.lay hk
      have hc := h.ch
      obtain ⟨g1, hL, hI, hB, hUn, hT, hok, hBe, hS⟩ := h
      have hAg : ∀ q : Nat, q ≠ 6 + m → Agr σ (xL σ, upd (xUn σ) (6 + m) (nI k), upd (xOw σ) (6 + m) 0, upd (xHi σ) (6 + m) 0, upd (xOd σ) (6 + m) 0, upd (xHd σ) (6 + m) 0, xCt σ, upd (xIu σ) m 1) q := fun q hq => ⟨pk_un hq, pk_un hq, pk_un hq, pk_un hq, pk_un hq⟩
      have hV := cln_v (σ := σ) (σ' := (xL σ, upd (xUn σ) (6 + m) (nI k), upd (xOw σ) (6 + m) 0, upd (xHi σ) (6 + m) 0, upd (xOd σ) (6 + m) 0, upd (xHd σ) (6 + m) 0, xCt σ, upd (xIu σ) m 1)) hc h6 (fun q hq => hAg q (by omega)) (t := 6 + m) (j := k) pk_us hk pk_us pk_us pk_us pk_us
      have hlt : ∀ m' : Nat, m' ≠ m → ¬ upd (xIu σ) m 1 m' = 0 → ¬ xIu σ m' = 0 := by
        intro m' e q
        rw [pk_un e] at q; exact q
      refine ⟨g1, hL, fun j hj => ?_, ⟨?_, hB.2⟩, fun q h1 h2 => ?_, fun m' hm' hu' => ?_, fun j hj => ?_, fun m' hm' => ?_, fun t ht => ?_⟩
      · show upd (xIu σ) m 1 j = upd (yUs τ) m 1 j
        unfold upd
        rw [hI j hj]
      · exact (pk_un (by omega)).trans hB.1
      · obtain ⟨j, hj, a1, a2⟩ := hUn q h1 h2
        exact ⟨j, hj, (pk_un (by omega)).trans a1, a2⟩
      · by_cases em : m' = m
        · subst em
          exact ⟨k, hk, pk_us, pk_us⟩
        · obtain ⟨j, hj, a1, a2⟩ := hT m' hm' (hlt m' em hu')
          exact ⟨j, hj, (pk_un (by omega)).trans a1, (pk_un em).trans a2⟩
      · show upd (xUn σ) (6 + m) (nI k) j < 0 ∨ vp_in (upd (xUn σ) (6 + m) (nI k) j) 10
        by_cases ej : j = 6 + m
        · subst ej
          rw [pk_us]
          exact Or.inr (vp_in_nI (by omega) (by decide))
        · rw [pk_un ej]; exact hok j hj
      · show vp_in (upd (yBe τ) m (nI k) m') 10
        by_cases em : m' = m
        · subst em
          rw [pk_us]
          exact vp_in_nI (by omega) (by decide)
        · rw [pk_un em]; exact hBe m' hm'
      · by_cases et : t = 6 + m
        · subst et
          obtain ⟨s1, s2, s3, s4, s5, s7, s8⟩ := hSk
          have eF : upd (yFi τ) (6 + m) (yFi τ k) (6 + m) = yFi τ k := pk_us
          have eD : upd (yDi τ) (6 + m) (yDi τ k) (6 + m) = yDi τ k := pk_us
          refine ⟨fun f hf => ?_, fun f hf s hs => ?_, fun d' hd' => ?_, ?_, ?_, ?_, fun f hf q => ?_⟩
          · rw [hV.1 f]
            show bt (upd (yFi τ) (6 + m) (yFi τ k) (6 + m)) f = _
            rw [eF]; exact s1 f hf
          · rw [hV.1 f] at hs
            show cpy k (6 + m) (yCo τ) 0 8 (8 * (6 + m) + f) = xCt σ (8 * s + f)
            rw [cp_i hf (by omega)]
            exact s2 f hf s hs
          · rw [hV.2 d']
            show bt (upd (yDi τ) (6 + m) (yDi τ k) (6 + m)) d' = _
            rw [eD]; exact s3 d' hd'
          · show ∀ i : Nat, 8 ≤ i → bt (upd (yFi τ) (6 + m) (yFi τ k) (6 + m)) i = false
            rw [eF]; exact s4
          · show ∀ i : Nat, 2 ≤ i → bt (upd (yDi τ) (6 + m) (yDi τ k) (6 + m)) i = false
            rw [eD]; exact s5
          · show ∀ f : Nat, f < 8 → bt (upd (yFi τ) (6 + m) (yFi τ k) (6 + m)) f = true → bt (upd (yDi τ) (6 + m) (yDi τ k) (6 + m)) (f / 4) = true
            rw [eF, eD]; exact s7
          · show bt (upd (xHi σ) (6 + m) 0 (6 + m)) f = false
            rw [pk_us]; exact bt_0 f
        · have ht' : alive σ nl t := by
            rcases ht with q | ⟨m', hm', rfl, q⟩
            · exact Or.inl q
            · exact Or.inr ⟨m', hm', rfl, hlt m' (fun q => et (by rw [q])) q⟩
          refine same_fr hc h6 (fun q hq => hAg q (by omega)) ?_ (fun _ _ _ _ => rfl) (pk_un et) (pk_un et) (fun f hf => cp_o hf et) (hS t ht')
          rcases ht' with q | ⟨m', hm', rfl, q⟩
          · exact Or.inl q
          · obtain ⟨j, hj, ej, -⟩ := hT m' hm' q
            exact Or.inr ⟨⟨j, hj, ej⟩, hAg _ et⟩
  · have E1 : fX_mount σ (nI m) p2 = (-3, σ) := tn (by rw [e1]; decide) (tn (by rw [e1]; decide) rfl)
    have E2 : fY_mount τ (nI m) p2 = (-3, τ) := tn (by rw [e2]; decide) (tp e2 rfl)
    rw [E1, E2]
    exact ⟨rfl, nl, h⟩
/-! commit -/
theorem cmX_q {a b : Nat} (ha : a < 4) (hb : b < 10) : ∀ (n k : Nat) (σ : SX), xL σ = nI b → k + n ≤ 8 → lX_commit_93 (nI a) n σ (nI k) = lX_commit_93 (nI a) 0 (xL σ, xUn σ, xOw σ, xHi σ, xOd σ, xHd σ, cpy (6 + a) b (xCt σ) k n, xIu σ) 0 := by
  intro n
  induction n with
  | zero => intro k σ _ _; rfl
  | succ n ih =>
    intro k σ hL hk
    have q : lX_commit_93 (nI a) (n + 1) σ (nI k) = lX_commit_93 (nI a) n (xL σ, xUn σ, xOw σ, xHi σ, xOd σ, xHd σ, upd (xCt σ) (((xL σ) * 8) + nI k).toNatClampNeg (xCt σ (((fX_top (nI a)) * 8) + nI k).toNatClampNeg), xIu σ) (nI k + 1) := rfl
    rw [q, hL, etop, cix hb (by omega), cix (by omega) (by omega), nI_1, ih (k + 1) _ rfl (by omega)]
    rfl
theorem pu_commit (hR : Rel σ τ) (p1 : Int32) : (fX_commit σ p1).1 = (fY_commit τ p1).1 ∧ Rel (fX_commit σ p1).2 (fY_commit τ p1).2 := by
  obtain ⟨nl, h⟩ := hR
  rcases rf_2 h p1 with ⟨e, nX, nY⟩ | ⟨m, hm, rfl, hu, eX, eY⟩
  · have E1 : fX_commit σ p1 = (fX_refused σ p1, σ) := if_neg nX
    have E2 : fY_commit τ p1 = (fY_test τ p1, τ) := if_neg nY
    rw [E1, E2]
    exact ⟨e, nl, h⟩
  · have h6 := h.six
    have hX : (0 : Int32) ≤ fX_refused σ (nI m) := by rw [eX]; decide
    by_cases h5 : nl = 6
    · have q1 : xL σ = 6 := by rw [h.2.1.1, h5]; rfl
      have q2 : yL τ = 6 := by rw [h.2.1.2, h5]; rfl
      have E1 : fX_commit σ (nI m) = (-2, σ) := tp hX (tp q1 rfl)
      have E2 : fY_commit τ (nI m) = (-2, τ) := tp eY (tp q2 rfl)
      rw [E1, E2]
      exact ⟨rfl, nl, h⟩
    · have n6 : ¬ nI nl = 6 := fun q => h5 ((nI_eq (a := nl) (b := 6) (by omega) (by decide)).mp q)
      have q1 : ¬ xL σ = 6 := by rw [h.2.1.1]; exact n6
      have q2 : ¬ yL τ = 6 := by rw [h.2.1.2]; exact n6
      have er : nI nl + 1 - 1 = nI nl := by rw [nI_1, nI_pred]
      have E1 : fX_commit σ (nI m) = (nI nl, (nI nl + 1, upd (upd (xUn σ) nl (xUn σ (6 + m))) (6 + m) (nI nl), upd (upd (xOw σ) nl (xOw σ (6 + m))) (6 + m) 0, upd (upd (xHi σ) nl (xHi σ (6 + m))) (6 + m) 0, upd (upd (xOd σ) nl (xOd σ (6 + m))) (6 + m) 0, upd (upd (xHd σ) nl (xHd σ (6 + m))) (6 + m) 0, cpy (6 + m) nl (xCt σ) 0 8, xIu σ)) := by
        unfold fX_commit
        rw [if_pos hX, if_neg q1, ctop hm, h.2.1.1, nI_clamp (by omega), show (0 : Int32) = nI 0 from rfl, cmX_q hm (b := nl) (by omega) 8 0 _ rfl (by omega)]
        unfold lX_commit_93 fX_clean
        rw [ctop hm, nI_clamp (show nl < 2 ^ 31 by omega), er]
        rfl
      have E2 : fY_commit τ (nI m) = (nI nl, (upd (yDi τ) nl (yDi τ (6 + m)), upd (yFi τ) nl (yFi τ (6 + m)), cpy (6 + m) nl (yCo τ) 0 8, upd (yBa τ) nl (yBe τ m), nI nl + 1, yUs τ, upd (yBe τ) m (nI nl))) := by
        unfold fY_commit
        rw [if_pos eY, if_neg q2, h.2.1.2, e6, cpY_E (by omega) (by omega), h.2.1.2, nI_clamp (show m < 2 ^ 31 by omega), nI_clamp (show nl < 2 ^ 31 by omega), er]
      rw [E1, E2]
      refine ⟨rfl, nl + 1, ?_⟩
      have hSt := h.same hm hu
      have hc := h.ch
      obtain ⟨j0, hj0, u1, u2⟩ := h.top hm hu
      have V : ∀ f, hv σ f (6 + m) = (hstop σ f (6 + m)).getD (hv σ f j0) := fun f => hv_top h.ch h6 (fun k _ => agr_rf) u1 hj0
      have D : ∀ f, dv σ f (6 + m) = (dstop σ f (6 + m)).getD (dv σ f j0) := fun f => dv_top h.ch h6 (fun k _ => agr_rf) u1 hj0
      obtain ⟨g1, hL, hI, hB, hUn, hT, hok, hBe, hS⟩ := h
      generalize hσ : ((nI nl + 1, upd (upd (xUn σ) nl (xUn σ (6 + m))) (6 + m) (nI nl), upd (upd (xOw σ) nl (xOw σ (6 + m))) (6 + m) 0, upd (upd (xHi σ) nl (xHi σ (6 + m))) (6 + m) 0, upd (upd (xOd σ) nl (xOd σ (6 + m))) (6 + m) 0, upd (upd (xHd σ) nl (xHd σ (6 + m))) (6 + m) 0, cpy (6 + m) nl (xCt σ) 0 8, xIu σ) : SX) = σ'
      generalize hτ : ((upd (yDi τ) nl (yDi τ (6 + m)), upd (yFi τ) nl (yFi τ (6 + m)), cpy (6 + m) nl (yCo τ) 0 8, upd (yBa τ) nl (yBe τ m), nI nl + 1, yUs τ, upd (yBe τ) m (nI nl)) : SY) = τ'
      have eU : xUn σ' = upd (upd (xUn σ) nl (xUn σ (6 + m))) (6 + m) (nI nl) := by rw [← hσ]
      have eO : xOw σ' = upd (upd (xOw σ) nl (xOw σ (6 + m))) (6 + m) 0 := by rw [← hσ]
      have eH : xHi σ' = upd (upd (xHi σ) nl (xHi σ (6 + m))) (6 + m) 0 := by rw [← hσ]
      have eD : xOd σ' = upd (upd (xOd σ) nl (xOd σ (6 + m))) (6 + m) 0 := by rw [← hσ]
      have eV : xHd σ' = upd (upd (xHd σ) nl (xHd σ (6 + m))) (6 + m) 0 := by rw [← hσ]
      have eC : xCt σ' = cpy (6 + m) nl (xCt σ) 0 8 := by rw [← hσ]
      have eI : xIu σ' = xIu σ := by rw [← hσ]
      have eL : xL σ' = nI nl + 1 := by rw [← hσ]
      have yD : yDi τ' = upd (yDi τ) nl (yDi τ (6 + m)) := by rw [← hτ]
      have yF : yFi τ' = upd (yFi τ) nl (yFi τ (6 + m)) := by rw [← hτ]
      have yC : yCo τ' = cpy (6 + m) nl (yCo τ) 0 8 := by rw [← hτ]
      have yB : yBa τ' = upd (yBa τ) nl (yBe τ m) := by rw [← hτ]
      have yl : yL τ' = nI nl + 1 := by rw [← hτ]
      have yU : yUs τ' = yUs τ := by rw [← hτ]
      have yE : yBe τ' = upd (yBe τ) m (nI nl) := by rw [← hτ]
      clear hσ hτ
      have u2x : ∀ {F : Nat → Int32} {v w : Int32} {q : Nat}, q ≠ nl → q ≠ 6 + m → upd (upd F nl v) (6 + m) w q = F q := fun h1 h2 => by rw [pk_un h2, pk_un h1]
      have u2n : ∀ {F : Nat → Int32} {v w : Int32}, upd (upd F nl v) (6 + m) w nl = v := by
        intro F v w
        rw [pk_un (by omega), pk_us]
      have hAg : ∀ q : Nat, q ≠ nl → q ≠ 6 + m → Agr σ σ' q := fun q h1 h2 => ⟨by rw [eU]; exact u2x h1 h2, by rw [eO]; exact u2x h1 h2, by rw [eH]; exact u2x h1 h2, by rw [eD]; exact u2x h1 h2, by rw [eV]; exact u2x h1 h2⟩
      have hl : ∀ q : Nat, q < nl → Agr σ σ' q := fun q hq => hAg q (by omega) (by omega)
      have ejn : xUn σ' nl = nI j0 := by rw [eU, u2n]; exact u1
      -- the new layer
      have Vn : ∀ f, hv σ' f nl = (hstop σ' f nl).getD (hv σ f j0) := fun f => hv_top hc h6 hl ejn hj0
      have Dn : ∀ f, dv σ' f nl = (dstop σ' f nl).getD (dv σ f j0) := fun f => dv_top hc h6 hl ejn hj0
      have bO : xOw σ' nl = xOw σ (6 + m) := by rw [eO, u2n]
      have bH : xHi σ' nl = xHi σ (6 + m) := by rw [eH, u2n]
      have bD : xOd σ' nl = xOd σ (6 + m) := by rw [eD, u2n]
      have bV : xHd σ' nl = xHd σ (6 + m) := by rw [eV, u2n]
      have Kd : ∀ f, dv σ' f nl = dv σ f (6 + m) := by
        intro f
        rw [Dn f, D f]
        unfold dstop
        rw [bD, bV]
      have Kh : ∀ f, (hv σ' f nl = some nl ∧ hv σ f (6 + m) = some (6 + m)) ∨ (hv σ' f nl = hv σ f (6 + m) ∧ ∀ s, hv σ f (6 + m) = some s → s < nl) := by
        intro f
        rw [Vn f, V f]
        unfold hstop
        rw [bO, bH, bV]
        by_cases q1 : bt (xOw σ (6 + m)) f = true
        · rw [if_pos q1, if_pos q1]
          exact Or.inl ⟨rfl, rfl⟩
        · rw [if_neg q1, if_neg q1]
          right
          by_cases q2 : bt (xHi σ (6 + m)) f = true
          · rw [if_pos q2]
            exact ⟨rfl, fun s hs => by cases hs⟩
          · rw [if_neg q2]
            by_cases q3 : bt (xHd σ (6 + m)) (f / 4) = true
            · rw [if_pos q3]
              exact ⟨rfl, fun s hs => by cases hs⟩
            · rw [if_neg q3]
              exact ⟨rfl, fun s hs => hv_in hc h6 hj0 hs⟩
      obtain ⟨s1, s2, s3, s4, s5, s7, s8⟩ := hSt
      have bF : yFi τ' nl = yFi τ (6 + m) := by rw [yF, pk_us]
      have bG : yDi τ' nl = yDi τ (6 + m) := by rw [yD, pk_us]
      have hSn : Same σ' τ' nl := by
        refine ⟨fun f hf => ?_, fun f hf s hs => ?_, fun d' hd' => ?_, ?_, ?_, ?_, ?_⟩
        · rw [bF, s1 f hf]
          rcases Kh f with ⟨a1, a2⟩ | ⟨a1, -⟩
          · rw [a1, a2]; rfl
          · rw [a1]
        · rw [yC, cp_i hf (by omega), eC]
          rcases Kh f with ⟨a1, a2⟩ | ⟨a1, a2⟩
          · rw [a1] at hs
            cases hs
            rw [cp_i hf (by omega)]
            exact s2 f hf _ a2
          · rw [a1] at hs
            rw [cp_o hf (by have := a2 s hs; omega)]
            exact s2 f hf s hs
        · rw [bG, Kd d']; exact s3 d' hd'
        · rw [bF]; exact s4
        · rw [bG]; exact s5
        · rw [bF, bG]; exact s7
        · rw [bO, bH]; exact s8
      have hc' : chn (xUn σ') (nl + 1) := by
        intro q hq
        by_cases e : q = nl
        · subst e
          exact Or.inr ⟨j0, hj0, ejn⟩
        · rcases hc q (by omega) with a | ⟨j, hj, a⟩
          · exact Or.inl (by rw [(hl q (by omega)).1]; exact a)
          · exact Or.inr ⟨j, hj, (hl q (by omega)).1.trans a⟩
      have hT1 := cln_v (σ := σ') (σ' := σ') (nl := nl + 1) hc' (by omega) (fun q _ => agr_rf) (t := 6 + m) (j := nl) (by rw [eU, pk_us]) (by omega) (by rw [eO, pk_us]) (by rw [eH, pk_us]) (by rw [eD, pk_us]) (by rw [eV, pk_us])
      refine ⟨⟨by omega, by omega⟩, ⟨by rw [eL]; exact nI_1 nl, by rw [yl]; exact nI_1 nl⟩, fun j hj => ?_, ⟨?_, ?_⟩, fun q h1 h2 => ?_, fun m' hm' hu' => ?_, fun j hj => ?_, fun m' hm' => ?_, fun t ht => ?_⟩
      · rw [eI, yU]; exact hI j hj
      · rw [(hl 0 (by omega)).1]; exact hB.1
      · rw [yB, pk_un (by omega)]; exact hB.2
      · by_cases e : q = nl
        · subst e
          exact ⟨j0, hj0, ejn, by rw [yB, pk_us]; exact u2⟩
        · obtain ⟨j, hj, a1, a2⟩ := hUn q h1 (by omega)
          exact ⟨j, hj, (hl q (by omega)).1.trans a1, by rw [yB, pk_un e]; exact a2⟩
      · rw [eI] at hu'
        by_cases em : m' = m
        · subst em
          exact ⟨nl, by omega, by rw [eU, pk_us], by rw [yE, pk_us]⟩
        · obtain ⟨j, hj, a1, a2⟩ := hT m' hm' hu'
          exact ⟨j, by omega, by rw [eU, u2x (by omega) (by omega)]; exact a1, by rw [yE, pk_un em]; exact a2⟩
      · by_cases e1 : j = nl
        · subst e1
          rw [ejn]; exact Or.inr (vp_in_nI (by omega) (by decide))
        · by_cases e2 : j = 6 + m
          · subst e2
            rw [eU, pk_us]; exact Or.inr (vp_in_nI (by omega) (by decide))
          · rw [eU, u2x e1 e2]; exact hok j hj
      · rw [yE]
        by_cases em : m' = m
        · subst em
          rw [pk_us]; exact vp_in_nI (by omega) (by decide)
        · rw [pk_un em]; exact hBe m' hm'
      · by_cases et : t = nl
        · subst et; exact hSn
        · by_cases et2 : t = 6 + m
          · subst et2
            obtain ⟨r1, r2, r3, r4, r5, r7, r8⟩ := hSn
            have cF : yFi τ' (6 + m) = yFi τ' nl := by rw [bF, yF, pk_un (by omega)]
            have cD : yDi τ' (6 + m) = yDi τ' nl := by rw [bG, yD, pk_un (by omega)]
            refine ⟨fun f hf => ?_, fun f hf s hs => ?_, fun d' hd' => ?_, ?_, ?_, ?_, fun f hf q => ?_⟩
            · rw [hT1.1 f, cF]; exact r1 f hf
            · rw [hT1.1 f] at hs
              rw [← r2 f hf s hs, yC, cp_i hf (by omega), cp_o hf (by omega)]
            · rw [hT1.2 d', cD]; exact r3 d' hd'
            · rw [cF]; exact r4
            · rw [cD]; exact r5
            · rw [cF, cD]; exact r7
            · rw [eH, pk_us]; exact bt_0 f
          · have ht' : alive σ nl t := by
              rcases ht with q | ⟨m', hm', rfl, q⟩
              · exact Or.inl (by omega)
              · rw [eI] at q
                exact Or.inr ⟨m', hm', rfl, q⟩
            refine same_fr hc h6 hl ?_ (fun s f hf hs => ?_) (by rw [yF, pk_un et]) (by rw [yD, pk_un et]) (fun f hf => by rw [yC]; exact cp_o hf et) (hS t ht')
            · rcases ht' with q | ⟨m', hm', rfl, q⟩
              · exact Or.inl q
              · obtain ⟨j, hj, ej, -⟩ := hT m' hm' q
                exact Or.inr ⟨⟨j, hj, ej⟩, hAg _ et et2⟩
            · rw [eC]
              refine cp_o hf ?_
              rcases hs with rfl | hs
              · exact et
              · omega
/-! drop -/
theorem d55_0 : ∀ (n : Nat) (x : Int32), lX_drop_55 σ n 0 x = (-4, σ) := by
  intro n
  induction n with
  | zero => intro x; exact tp rfl rfl
  | succ n ih => intro x; exact tp rfl (ih _)
theorem d19_0 : ∀ (n : Nat) (x : Int32), lX_drop_19 σ n 0 x = (-4, σ) := by
  intro n
  induction n with
  | zero => intro x; exact d55_0 4 0
  | succ n ih => intro x; exact tp rfl (ih _)
theorem d55_t : ∀ (n k : Nat), k + n = 4 → (∀ i, k ≤ i → i < 4 → xIu σ i = 0 ∨ ¬ xUn σ (6 + i) = xL σ - 1) → lX_drop_55 σ n 1 (nI k) = lX_drop_55 σ 0 1 0 := by
  intro n
  induction n with
  | zero => intro k _ _; rfl
  | succ n ih =>
    intro k hk h
    unfold lX_drop_55
    rw [if_neg (by decide), nI_clamp (by omega), ctop (by omega), nI_1, ih (k + 1) (by omega) (fun i h1 h2 => h i (by omega) h2)]
    rcases h k (Nat.le_refl _) (by omega) with q | q
    · rw [if_pos q]; rfl
    · by_cases q0 : xIu σ k = 0
      · rw [if_pos q0]; rfl
      · rw [if_neg q0, if_neg q]; rfl
theorem d55_f {i : Nat} (hi : i < 4) (h1 : ¬ xIu σ i = 0) (h2 : xUn σ (6 + i) = xL σ - 1) : ∀ (n k : Nat), k + n = 4 → k ≤ i → lX_drop_55 σ n 1 (nI k) = (-4, σ) := by
  intro n
  induction n with
  | zero => intro k hk hki; exact absurd hi (by omega)
  | succ n ih =>
    intro k hk hki
    unfold lX_drop_55
    rw [if_neg (by decide), nI_clamp (by omega), ctop (by omega), nI_1, d55_0]
    by_cases e : k = i
    · subst e
      rw [if_neg h1, if_pos h2]
    · rw [ih (k + 1) (by omega) (by omega)]
      split
      · rfl
      · split <;> rfl
theorem d19_t {N : Nat} (hN : N ≤ 6) : ∀ (n k : Nat), k + n = N → (∀ i, k ≤ i → i < N → ¬ xUn σ i = xL σ - 1) → lX_drop_19 σ n 1 (nI k) = lX_drop_55 σ 4 1 0 := by
  intro n
  induction n with
  | zero => intro k _ _; rfl
  | succ n ih =>
    intro k hk h
    unfold lX_drop_19
    rw [if_neg (by decide), nI_clamp (by omega), nI_1, ih (k + 1) (by omega) (fun i h1 h2 => h i (by omega) h2), if_neg (h k (Nat.le_refl _) (by omega))]
theorem d19_f {N i : Nat} (hN : N ≤ 6) (hi : i < N) (h2 : xUn σ i = xL σ - 1) : ∀ (n k : Nat), k + n = N → k ≤ i → lX_drop_19 σ n 1 (nI k) = (-4, σ) := by
  intro n
  induction n with
  | zero => intro k hk hki; exact absurd hi (by omega)
  | succ n ih =>
    intro k hk hki
    unfold lX_drop_19
    rw [if_neg (by decide), nI_clamp (by omega), nI_1, d19_0]
    by_cases e : k = i
    · subst e
      rw [if_pos h2]
    · rw [ih (k + 1) (by omega) (by omega)]
      split <;> rfl
theorem f36_t {p : Int32} {N : Nat} (hN : N ≤ 6) : ∀ (n k : Nat), k + n = N → (∀ i, k ≤ i → i < N → ¬ yBa τ i = p) → lY_isFree_36 τ p n (nI k) = 1 := by
  intro n
  induction n with
  | zero => intro k _ _; rfl
  | succ n ih =>
    intro k hk h
    unfold lY_isFree_36
    rw [nI_clamp (by omega), nI_1, ih (k + 1) (by omega) (fun i h1 h2 => h i (by omega) h2), if_neg (h k (Nat.le_refl _) (by omega))]
theorem f36_f {p : Int32} {N i : Nat} (hN : N ≤ 6) (hi : i < N) (h2 : yBa τ i = p) : ∀ (n k : Nat), k + n = N → k ≤ i → lY_isFree_36 τ p n (nI k) = 0 := by
  intro n
  induction n with
  | zero => intro k hk hki; exact absurd hi (by omega)
  | succ n ih =>
    intro k hk hki
    unfold lY_isFree_36
    rw [nI_clamp (by omega), nI_1]
    by_cases e : k = i
    · subst e
      rw [if_pos h2]
    · rw [ih (k + 1) (by omega) (by omega)]
      split <;> rfl
theorem f2_t {p : Int32} : ∀ (n k : Nat), k + n = 4 → (∀ i, k ≤ i → i < 4 → yUs τ i = 0 ∨ ¬ yBe τ i = p) → lY_isFree_2 τ p n (nI k) = lY_isFree_36 τ p (yL τ).toNatClampNeg 0 := by
  intro n
  induction n with
  | zero => intro k _ _; rfl
  | succ n ih =>
    intro k hk h
    unfold lY_isFree_2
    rw [nI_clamp (by omega), nI_1, ih (k + 1) (by omega) (fun i h1 h2 => h i (by omega) h2)]
    rcases h k (Nat.le_refl _) (by omega) with q | q
    · rw [if_pos q]
    · by_cases q0 : yUs τ k = 0
      · rw [if_pos q0]
      · rw [if_neg q0, if_neg q]
theorem f2_f {p : Int32} {i : Nat} (hi : i < 4) (h1 : ¬ yUs τ i = 0) (h2 : yBe τ i = p) : ∀ (n k : Nat), k + n = 4 → k ≤ i → lY_isFree_2 τ p n (nI k) = 0 := by
  intro n
  induction n with
  | zero => intro k hk hki; exact absurd hi (by omega)
  | succ n ih =>
    intro k hk hki
    unfold lY_isFree_2
    rw [nI_clamp (by omega), nI_1]
    by_cases e : k = i
    · subst e
      rw [if_neg h1, if_pos h2]
    · rw [ih (k + 1) (by omega) (by omega)]
      split
      · rfl
      · split <;> rfl
theorem pu_drop (hR : Rel σ τ) : (fX_drop σ).1 = (fY_drop τ).1 ∧ Rel (fX_drop σ).2 (fY_drop τ).2 := by
  obtain ⟨nl, h⟩ := hR
  have h6 := h.six
  have h1 := h.1.1
  have hN : (xL σ).toNatClampNeg = nl := by rw [h.2.1.1]; exact nI_clamp (by omega)
  have hNy : (yL τ).toNatClampNeg = nl := by rw [h.2.1.2]; exact nI_clamp (by omega)
  by_cases e1 : nl = 1
  · have q1 : xL σ - 1 ≤ 0 := by rw [h.2.1.1, e1]; decide
    have q2 : yL τ = 1 := by rw [h.2.1.2, e1]; rfl
    have E1 : fX_drop σ = (-4, σ) := tp q1 (d19_0 _ _)
    have E2 : fY_drop τ = (-4, τ) := tp q2 rfl
    rw [E1, E2]
    exact ⟨rfl, nl, h⟩
  · obtain ⟨l1, rfl⟩ : ∃ l1, nl = l1 + 1 := ⟨nl - 1, by omega⟩
    have el : xL σ - 1 = nI l1 := by rw [h.2.1.1, nI_pred]
    have ely : yL τ - 1 = nI l1 := by rw [h.2.1.2, nI_pred]
    have q1 : ¬ xL σ - 1 ≤ 0 := by rw [el]; exact nI_nle (by omega) (by omega)
    have q2 : ¬ yL τ = 1 := by
      rw [h.2.1.2]
      exact fun q => e1 ((nI_eq (a := l1 + 1) (b := 1) (by omega) (by decide)).mp q)
    have hne1 : ¬ (-1 : Int32) = nI l1 := fun q => absurd (by rw [← q]; decide : nI l1 < 0) (nI_pos (by omega))
    have hne4 : ¬ (-4 : Int32) = nI l1 := fun q => absurd (by rw [← q]; decide : nI l1 < 0) (nI_pos (by omega))
    have X1 : fX_drop σ = lX_drop_19 σ (l1 + 1) 1 (nI 0) := by
      have : fX_drop σ = lX_drop_19 σ (xL σ).toNatClampNeg 1 0 := tn q1 rfl
      rw [this, hN]; rfl
    have Y1 : fY_isFree τ (yL τ - 1) = lY_isFree_2 τ (nI l1) 4 (nI 0) := by rw [ely]; rfl
    have hB := h.2.2.2.1
    have hUn := h.2.2.2.2.1
    have hT := h.2.2.2.2.2.1
    have hI := h.2.2.1
    by_cases P2 : ∃ i, i < 4 ∧ ¬ xIu σ i = 0 ∧ xUn σ (6 + i) = nI l1
    · obtain ⟨i, hi, a1, a2⟩ := P2
      obtain ⟨j, hj, b1, b2⟩ := hT i hi a1
      have ey : fY_isFree τ (yL τ - 1) = 0 := by
        rw [Y1]
        exact f2_f hi (by rw [← hI i hi]; exact a1) (by rw [b2, ← b1]; exact a2) 4 0 rfl (Nat.zero_le _)
      have E2 : fY_drop τ = (-4, τ) := tn q2 (tp ey rfl)
      have E1 : fX_drop σ = (-4, σ) := by
        rw [X1]
        by_cases P1 : ∃ i, i < l1 + 1 ∧ xUn σ i = nI l1
        · obtain ⟨i', hi', c1⟩ := P1
          exact d19_f h6 hi' (by rw [el]; exact c1) (l1 + 1) 0 (by omega) (Nat.zero_le _)
        · rw [d19_t h6 (l1 + 1) 0 (by omega) (fun q _ hq => by rw [el]; exact fun c => P1 ⟨q, hq, c⟩)]
          exact d55_f hi a1 (by rw [el]; exact a2) 4 0 rfl (Nat.zero_le _)
      rw [E1, E2]
      exact ⟨rfl, _, h⟩
    · have P2' : ∀ i, i < 4 → ¬ xIu σ i = 0 → ¬ xUn σ (6 + i) = nI l1 := fun i hi a1 a2 => P2 ⟨i, hi, a1, a2⟩
      have y2 : fY_isFree τ (yL τ - 1) = lY_isFree_36 τ (nI l1) (l1 + 1) (nI 0) := by
        rw [Y1, f2_t 4 0 rfl (fun i _ hi => ?_), hNy]
        · rfl
        · by_cases a1 : xIu σ i = 0
          · exact Or.inl (by rw [← hI i hi]; exact a1)
          · obtain ⟨j, hj, b1, b2⟩ := hT i hi a1
            exact Or.inr (by rw [b2, ← b1]; exact P2' i hi a1)
      by_cases P1 : ∃ i, i < l1 + 1 ∧ xUn σ i = nI l1
      · obtain ⟨i, hi, c1⟩ := P1
        have hi0 : ¬ i = 0 := by
          intro q
          subst q
          rw [hB.1] at c1
          exact hne1 c1
        obtain ⟨j, hj, b1, b2⟩ := hUn i (by omega) hi
        have ey : fY_isFree τ (yL τ - 1) = 0 := by
          rw [y2]
          exact f36_f h6 hi (by rw [b2, ← b1]; exact c1) (l1 + 1) 0 (by omega) (Nat.zero_le _)
        have E2 : fY_drop τ = (-4, τ) := tn q2 (tp ey rfl)
        have E1 : fX_drop σ = (-4, σ) := by
          rw [X1]
          exact d19_f h6 hi (by rw [el]; exact c1) (l1 + 1) 0 (by omega) (Nat.zero_le _)
        rw [E1, E2]
        exact ⟨rfl, _, h⟩
      · have P1' : ∀ i, i < l1 + 1 → ¬ xUn σ i = nI l1 := fun i hi c => P1 ⟨i, hi, c⟩
        have ey : fY_isFree τ (yL τ - 1) = 1 := by
          rw [y2]
          refine f36_t h6 (l1 + 1) 0 (by omega) (fun i _ hi => ?_)
          by_cases hi0 : i = 0
          · subst hi0
            rw [hB.2]; exact hne4
          · obtain ⟨j, hj, b1, b2⟩ := hUn i (by omega) hi
            rw [b2, ← b1]; exact P1' i hi
        have E2 : fY_drop τ = (nI l1, (yDi τ, yFi τ, yCo τ, yBa τ, nI l1, yUs τ, yBe τ)) := by
          have : fY_drop τ = (yL τ - 1, (yDi τ, yFi τ, yCo τ, yBa τ, yL τ - 1, yUs τ, yBe τ)) := tn q2 (tn (by rw [ey]; decide) rfl)
          rw [this, ely]
        have E1 : fX_drop σ = (nI l1, (nI l1, xUn σ, upd (xOw σ) l1 0, upd (xHi σ) l1 0, upd (xOd σ) l1 0, upd (xHd σ) l1 0, xCt σ, xIu σ)) := by
          rw [X1, d19_t h6 (l1 + 1) 0 (by omega) (fun q _ hq => by rw [el]; exact P1' q hq), show lX_drop_55 σ 4 1 0 = lX_drop_55 σ 4 1 (nI 0) from rfl, d55_t 4 0 rfl (fun i _ hi => ?_)]
          · unfold lX_drop_55 fX_clean
            rw [if_neg (by decide), el, nI_clamp (by omega), h.2.1.1]
          · by_cases a1 : xIu σ i = 0
            · exact Or.inl a1
            · exact Or.inr (by rw [el]; exact P2' i hi a1)
        rw [E1, E2]
        refine ⟨rfl, l1, ?_⟩
        have hc := h.ch
        obtain ⟨g1, hL, hI, hB, hUn, hT, hok, hBe, hS⟩ := h
        have hc1 : chn (xUn σ) l1 := fun k hk => hc k (by omega)
        have hAg : ∀ q : Nat, q ≠ l1 → Agr σ (nI l1, xUn σ, upd (xOw σ) l1 0, upd (xHi σ) l1 0, upd (xOd σ) l1 0, upd (xHd σ) l1 0, xCt σ, xIu σ) q := fun q hq => ⟨rfl, pk_un hq, pk_un hq, pk_un hq, pk_un hq⟩
        have hT' : ∀ m : Nat, m < 4 → ¬ xIu σ m = 0 → ∃ j : Nat, j < l1 ∧ xUn σ (6 + m) = nI j ∧ yBe τ m = nI j := by
          intro m hm hu
          obtain ⟨j, hj, b1, b2⟩ := hT m hm hu
          have : j ≠ l1 := fun q => P2' m hm hu (by rw [b1, q])
          exact ⟨j, by omega, b1, b2⟩
        refine ⟨⟨by omega, by omega⟩, ⟨rfl, rfl⟩, hI, hB, fun k h1 h2 => hUn k h1 (by omega), hT', hok, hBe, fun t ht => ?_⟩
        have ht' : alive σ (l1 + 1) t := by
          rcases ht with q | q
          · exact Or.inl (by omega)
          · exact Or.inr q
        have hne : t ≠ l1 := by
          rcases ht with q | ⟨m, hm, q, -⟩ <;> omega
        refine same_fr hc1 (by omega) (fun k hk => hAg k (by omega)) ?_ (fun _ _ _ _ => rfl) rfl rfl (fun _ _ => rfl) (hS t ht')
        rcases ht with q | ⟨m, hm, rfl, q⟩
        · exact Or.inl q
        · obtain ⟨j, hj, ej, -⟩ := hT' m hm q
          exact Or.inr ⟨⟨j, hj, ej⟩, hAg _ hne⟩
end P6
end
section
set_option maxRecDepth 100000

/-! THE CLAIM OUT OF ONE WALK OF THE LAW'S BODY. Your part is whole_start (and what it stands on); all else here is the same for every law, but numbers. -/
def R_law : String := "LayerMountsLaw"
def lw_P (b : Addr) (xs : List Int32) (args : Array Value) (s : State) : Prop := args = #[.ref b] ∧ s.IntsAt b xs ∧ xs.length ≤ 256 ∧ (Jvm.Cond.and given_1 narrow_1).before args s = true
def lw_Q (_ : Array Value) (s : State) (o : Outcome) (t : State) : Prop := o = .returned (some (.int 1)) ∧ Framed s o t [] 600000 7290000
def lw_Z (below : List Frame) (a : Array Value) (s : State) : State → Prop := fun t => ∃ o, t.status = .running ∧ Ended t below o ∧ lw_Q a s o t
/-- the law's own end, with 1 on the stack, nothing written that was there before, its room as the claim has it -/
theorem lw_ret {p : Program} {l : Launch} {e : Env} {s : State} {m : MethodId} {below : List Frame} {meth : Method} {c : Code} {b : Nat} (hx : p.tables.exec = Jvm.exec) (hb : c.code = code) (hr : meth.sig.returnType = ret) (hlocks : meth.locks = false) {pc : Nat} {H : Heap} {ls : Array Slot} (hdg : decode code pc = .ok (.ireturn, 1)) : W p l e room_1 s m #[Value.ref b] below meth c H [] 600000 7290000 (lw_Z below #[Value.ref b] s) (F0 m pc ls [.int 1]) := by
  intro T hT X
  obtain ⟨fs, hret, hrun, hended, hW, hframe⟩ := X.leave (v := some (.int 1)) (hlocks := hlocks) (fun h => by rw [hr] at h; cases h)
  have hmeth' : T.vm.method? m = some meth := X.method'
  refine ⟨T.setFrames fs, ?_, .returned (some (.int 1)), hrun, hended, rfl, ⟨_, rfl⟩, hW, hframe⟩
  jvm_step X.here [X.here.top, hx, hb, hdg, hmeth', hr, ret, narrow_b1]
  (try refine ⟨rfl, ?_⟩); (try refine ⟨rfl, ?_⟩)
  first | (intro acts; rw [hret _ acts rfl rfl rfl]) | rw [hret _ _ rfl rfl rfl]
  exact Steps.refl _
/-- what holds at the law's entry: the machine, the code, the tables' words (any of lw_tbl by 'hts w (by decide +kernel)'), the script of L ints xs at the cell b, what the Statement gives of the start (any of its parts by flat_of_before) -/
def lw_At (p : Program) (s : State) (m : MethodId) (meth : Method) (c : Code) (b L : Nat) (xs : Nat → Int32) : Prop :=
  p.tables.exec = Jvm.exec ∧ c.code = code ∧ meth.sig.returnType = ret ∧ c.maxLocals = 4 ∧ s.vm.findClass R_law = some m.cls ∧ (∀ w ∈ lw_tbl, w.before #[Value.ref b] s = true) ∧ va_X b L xs s s.heap ∧ b < s.heap.size ∧ meth.locks = false ∧ (Jvm.Cond.and given_1 narrow_1).before #[Value.ref b] s = true


/-- the law's world: both objects -/
def AtL (G : va_G) (aX : Nat → Nat) (dX : Nat → ClassId) (aY : Nat → Nat) (dY : Nat → ClassId) (A : Nat → Prop) (s : State) (σ : SX) (τ : SY) (H : Heap) (locs : List Loc) : Prop := va_K G vwCl (tX dX ++ tY dY) s ∧ va_P G vwCl (wX aX dX σ ++ wY aY dY τ) H ∧ va_D A (wX aX dX σ ++ wY aY dY τ) ∧ va_S A s.heap H locs ∧ ∀ q : Nat, s.heap.size ≤ q → A q
section WL
variable {p : Program} {l : Launch} {e : Env} {R : Room} {s : State} {m : MethodId} {args : Array Value} {below : List Frame} {meth : Method} {c : Code} {H : Heap} {locs : List Loc} {cells slots : Nat} {Q : State → Prop}
variable {cc : ByteArray} {pc nL : Nat} {ls : Array Slot} {rest : List Value} {G : va_G} {aX aY : Nat → Nat} {dX dY : Nat → ClassId} {A : Nat → Prop} {σ : SX} {τ : SY}

theorem callLX (C : CallFix p m c cc nL s args lw_all R_law) (hH : AtL G aX dX aY dY A s σ τ H locs) {y : MethodName} {cb : ByteArray} {Lb idx n : Nat} {rb : FieldType} {rm : Room} {av st : List Value} {Rv : Int32 × SX} (hM : MetXi l y cb Lb rb rm av G aX dX σ Rv)
    (hw : GoodIn lw_all (wsV R_law idx RX0 y (ws_ y cb Lb (some rb)))) (hd : y.cls = RX0 ∧ y.cls ≠ "java/lang/invoke/MethodHandle" ∧ y.cls ≠ "java/lang/invoke/VarHandle" ∧ (parseMethodDescriptor y.desc).map (fun d => d.parameters.length) = some n) (hrm : rm.cells = 0 ∧ rm.slots = 0 ∧ rm.frames + 1 ≤ R.frames ∧ 8 + (Lb + 11) + rm.locals ≤ R.locals)
    (hn : av.length = n) (hsz : ls.size = nL) (hst : st = av.reverse ++ .ref (aX 0) :: rest) (hre : (rest.map fun v => v.category).sum ≤ 8) (hdg : decode cc pc = .ok (.invokevirtual idx, 3)) (hcs : cells ≤ R.cells ∧ slots ≤ R.slots)
    (kk : ∀ (r : Int32) (u : SX) (H1 : Heap) (locs1 : List Loc), AtL G aX dX aY dY A s u τ H1 locs1 → (r, u) = Rv → W p l e R s m args below meth c H1 locs1 cells slots Q (F0 m (pc + 3) ls (.int r :: rest))) : W p l e R s m args below meth c H locs cells slots Q (F0 m pc ls st) := by
  obtain ⟨hK, hP, hD, hS, hA⟩ := hH
  have hPc := hP.sub (ws' := wX aX dX σ) [0, 1, 2, 3, 4, 5, 6, 7] rfl
  have hDc := hD.sub (ws' := wX aX dX σ) [0, 1, 2, 3, 4, 5, 6, 7] (by decide) rfl
  have hKc := hK.sub (tys' := tX dX) [0, 1, 2, 3, 4, 5, 6] rfl
  have hFc := va_free (wc := wX aX dX σ) hD hS hA [0, 1, 2, 3, 4, 5, 6, 7] rfl
  refine va_calli (va_runV (As := av) (rest := rest) C (hM H.size) (cwV n C.2.2.2.2 hw rfl hrm.1 hrm.2.1 hd hrm.2.2) ⟨fun a U g mk q => by obtain ⟨q0, q1, qP, qK, qD⟩ := q; exact ⟨q0, q1, qP, va_K.moved (u := U) (U := U.calling g mk a) (Vm.Alike.refl U.vm) qK, qD⟩, va_recv hKc hPc (ci := 0) (q0 := 0) rfl rfl, fun U hU hW => ⟨rfl, by rw [hU], by rw [hU]; exact hPc, va_K.moved hW.alike hKc, hDc.weaken (fun _ _ _ _ => trivial)⟩⟩ rfl hn hsz hst (lv_room hre) hdg hcs) hS (fun q _ h => hFc q h) hFc (fun r u t H1 locs1 ht hvm hpo hB hz1 hk1 hS => ?_)
  obtain ⟨hP1, hK1, hD1⟩ := hB
  rw [ht] at hP1
  obtain ⟨hP2, hD2⟩ := va_join (wr := wY aY dY τ) (w1 := wX aX dX u) hP hD [0, 1, 2, 3, 4, 5, 6, 7] [8, 9, 10, 11, 12, 13, 14] rfl rfl (by decide) (by decide) hk1 hFc hP1 hD1
  exact kk r u H1 locs1 ⟨hK, hP2.sub [7, 8, 9, 10, 11, 12, 13, 14, 0, 1, 2, 3, 4, 5, 6] rfl, hD2.sub [7, 8, 9, 10, 11, 12, 13, 14, 0, 1, 2, 3, 4, 5, 6] (by decide) rfl, hS, hA⟩ hpo

theorem callLY (C : CallFix p m c cc nL s args lw_all R_law) (hH : AtL G aX dX aY dY A s σ τ H locs) {y : MethodName} {cb : ByteArray} {Lb idx n : Nat} {rb : FieldType} {rm : Room} {av st : List Value} {Rv : Int32 × SY} (hM : MetYi l y cb Lb rb rm av G aY dY τ Rv)
    (hw : GoodIn lw_all (wsV R_law idx RX1 y (ws_ y cb Lb (some rb)))) (hd : y.cls = RX1 ∧ y.cls ≠ "java/lang/invoke/MethodHandle" ∧ y.cls ≠ "java/lang/invoke/VarHandle" ∧ (parseMethodDescriptor y.desc).map (fun d => d.parameters.length) = some n) (hrm : rm.cells = 0 ∧ rm.slots = 0 ∧ rm.frames + 1 ≤ R.frames ∧ 8 + (Lb + 11) + rm.locals ≤ R.locals)
    (hn : av.length = n) (hsz : ls.size = nL) (hst : st = av.reverse ++ .ref (aY 0) :: rest) (hre : (rest.map fun v => v.category).sum ≤ 8) (hdg : decode cc pc = .ok (.invokevirtual idx, 3)) (hcs : cells ≤ R.cells ∧ slots ≤ R.slots)
    (kk : ∀ (r : Int32) (u : SY) (H1 : Heap) (locs1 : List Loc), AtL G aX dX aY dY A s σ u H1 locs1 → (r, u) = Rv → W p l e R s m args below meth c H1 locs1 cells slots Q (F0 m (pc + 3) ls (.int r :: rest))) : W p l e R s m args below meth c H locs cells slots Q (F0 m pc ls st) := by
  obtain ⟨hK, hP, hD, hS, hA⟩ := hH
  have hPc := hP.sub (ws' := wY aY dY τ) [8, 9, 10, 11, 12, 13, 14] rfl
  have hDc := hD.sub (ws' := wY aY dY τ) [8, 9, 10, 11, 12, 13, 14] (by decide) rfl
  have hKc := hK.sub (tys' := tY dY) [7, 8, 9, 10, 11, 12] rfl
  have hFc := va_free (wc := wY aY dY τ) hD hS hA [8, 9, 10, 11, 12, 13, 14] rfl
  refine va_calli (va_runV (As := av) (rest := rest) C (hM H.size) (cwV n C.2.2.2.2 hw rfl hrm.1 hrm.2.1 hd hrm.2.2) ⟨fun a U g mk q => by obtain ⟨q0, q1, qP, qK, qD⟩ := q; exact ⟨q0, q1, qP, va_K.moved (u := U) (U := U.calling g mk a) (Vm.Alike.refl U.vm) qK, qD⟩, va_recv hKc hPc (ci := 1) (q0 := 0) rfl rfl, fun U hU hW => ⟨rfl, by rw [hU], by rw [hU]; exact hPc, va_K.moved hW.alike hKc, hDc.weaken (fun _ _ _ _ => trivial)⟩⟩ rfl hn hsz hst (lv_room hre) hdg hcs) hS (fun q _ h => hFc q h) hFc (fun r u t H1 locs1 ht hvm hpo hB hz1 hk1 hS => ?_)
  obtain ⟨hP1, hK1, hD1⟩ := hB
  rw [ht] at hP1
  obtain ⟨hP2, hD2⟩ := va_join (wr := wX aX dX σ) (w1 := wY aY dY u) hP hD [8, 9, 10, 11, 12, 13, 14] [0, 1, 2, 3, 4, 5, 6, 7] rfl rfl (by decide) (by decide) hk1 hFc hP1 hD1
  exact kk r u H1 locs1 ⟨hK, hP2.sub [0, 1, 2, 3, 4, 5, 6, 7, 8, 9, 10, 11, 12, 13, 14] rfl, hD2.sub [0, 1, 2, 3, 4, 5, 6, 7, 8, 9, 10, 11, 12, 13, 14] (by decide) rfl, hS, hA⟩ hpo

end WL

theorem gLX_mount : GoodIn lw_all (wsV R_law 13 RX0 yX0_mount (ws_ yX0_mount cX0_mount 4 (some .int))) := lw_V q60 q61 q62 q23 q63
theorem hLX_mount : yX0_mount.cls = RX0 ∧ yX0_mount.cls ≠ "java/lang/invoke/MethodHandle" ∧ yX0_mount.cls ≠ "java/lang/invoke/VarHandle" ∧ (parseMethodDescriptor yX0_mount.desc).map (fun d => d.parameters.length) = some 2 := by decide +kernel
theorem gLY_mount : GoodIn lw_all (wsV R_law 17 RX1 yX1_mount (ws_ yX1_mount cX1_mount 4 (some .int))) := lw_V q208 q209 q210 q24 q211
theorem hLY_mount : yX1_mount.cls = RX1 ∧ yX1_mount.cls ≠ "java/lang/invoke/MethodHandle" ∧ yX1_mount.cls ≠ "java/lang/invoke/VarHandle" ∧ (parseMethodDescriptor yX1_mount.desc).map (fun d => d.parameters.length) = some 2 := by decide +kernel
set_option maxHeartbeats 4000000 in
theorem law_0 {p : Program} {l : Launch} {e : Env} {s : State} {m : MethodId} {below : List Frame} {meth : Method} {c : Code} {b L : Nat} {xs : Nat → Int32} {G : va_G} {aX aY : Nat → Nat} {dX dY : Nat → ClassId} {A : Nat → Prop} {σ : SX} {τ : SY} {x3 : Int32} {H : Heap} {locs : List Loc} {ls : Array Slot} (C : CallFix p m c cL_law 4 s #[Value.ref b] lw_all R_law) (hX : va_X b L xs s s.heap) (hbl : b < s.heap.size) (hbA : ¬ A b) (hin : ∀ j : Int32, j = 1 ∨ j = 2 ∨ j = 3 → vp_in (x3 + j) L) (hR : Rel σ τ) (hH : AtL G aX dX aY dY A s σ τ H locs) (hl : lv_has ls 4 [(0, .ref b), (1, .ref (aX 0)), (2, .ref (aY 0)), (3, .int x3)])
    (kk : ∀ (σ' : SX) (τ' : SY) (H : Heap) (locs : List Loc), Rel σ' τ' → AtL G aX dX aY dY A s σ' τ' H locs → W p l e room_1 s m #[Value.ref b] below meth c H locs 15 263 (lw_Z below #[Value.ref b] s) (F0 m 634 ls [])) : W p l e room_1 s m #[Value.ref b] below meth c H locs 15 263 (lw_Z below #[Value.ref b] s) (F0 m 120 ls []) := by
  refine lv_aload_n C.1 C.2.1 dL_law_120 rfl (lv_at hl 1 rfl) ?_
  refine lv_aload_n C.1 C.2.1 dL_law_121 rfl (lv_at hl 0 rfl) ?_
  refine lv_iload_n C.1 C.2.1 dL_law_122 rfl (lv_at hl 3 rfl) ?_
  refine lv_iconst (v := 1) C.1 C.2.1 dL_law_123 (by decide) ?_
  refine lv_iadd C.1 C.2.1 dL_law_124 ?_
  refine va_sld C.1 C.2.1 hX hbl hbA hH.2.2.2.1 (hin 1 (by decide)) dL_law_125 ?_
  refine lv_aload_n C.1 C.2.1 dL_law_126 rfl (lv_at hl 0 rfl) ?_
  refine lv_iload_n C.1 C.2.1 dL_law_127 rfl (lv_at hl 3 rfl) ?_
  refine lv_iconst (v := 2) C.1 C.2.1 dL_law_128 (by decide) ?_
  refine lv_iadd C.1 C.2.1 dL_law_129 ?_
  refine va_sld C.1 C.2.1 hX hbl hbA hH.2.2.2.1 (hin 2 (by decide)) dL_law_130 ?_
  refine callLX C hH (av := [.int (xs (x3 + 1).toNatClampNeg), .int (xs (x3 + 2).toNatClampNeg)]) (rest := []) (mX_mount l G aX dX σ (xs (x3 + 1).toNatClampNeg) (xs (x3 + 2).toNatClampNeg) (rel_okX hR)) gLX_mount hLX_mount (by decide) rfl hl.1 rfl (Nat.le_of_ble_eq_true rfl) dL_law_131 ⟨Nat.le_of_ble_eq_true rfl, Nat.le_of_ble_eq_true rfl⟩ (fun r_X u_X H locs hH hw_X => ?_)
  refine lv_aload_n C.1 C.2.1 dL_law_134 rfl (lv_at hl 2 rfl) ?_
  refine lv_aload_n C.1 C.2.1 dL_law_135 rfl (lv_at hl 0 rfl) ?_
  refine lv_iload_n C.1 C.2.1 dL_law_136 rfl (lv_at hl 3 rfl) ?_
  refine lv_iconst (v := 1) C.1 C.2.1 dL_law_137 (by decide) ?_
  refine lv_iadd C.1 C.2.1 dL_law_138 ?_
  refine va_sld C.1 C.2.1 hX hbl hbA hH.2.2.2.1 (hin 1 (by decide)) dL_law_139 ?_
  refine lv_aload_n C.1 C.2.1 dL_law_140 rfl (lv_at hl 0 rfl) ?_
  refine lv_iload_n C.1 C.2.1 dL_law_141 rfl (lv_at hl 3 rfl) ?_
  refine lv_iconst (v := 2) C.1 C.2.1 dL_law_142 (by decide) ?_
  refine lv_iadd C.1 C.2.1 dL_law_143 ?_
  refine va_sld C.1 C.2.1 hX hbl hbA hH.2.2.2.1 (hin 2 (by decide)) dL_law_144 ?_
  refine callLY C hH (av := [.int (xs (x3 + 1).toNatClampNeg), .int (xs (x3 + 2).toNatClampNeg)]) (rest := [.int r_X]) (mY_mount l G aY dY τ (xs (x3 + 1).toNatClampNeg) (xs (x3 + 2).toNatClampNeg) (rel_okY hR)) gLY_mount hLY_mount (by decide) rfl hl.1 rfl (Nat.le_of_ble_eq_true rfl) dL_law_145 ⟨Nat.le_of_ble_eq_true rfl, Nat.le_of_ble_eq_true rfl⟩ (fun r_Y u_Y H locs hH hw_Y => ?_)
  obtain ⟨rfl, rfl⟩ : (fX_mount σ (xs (x3 + 1).toNatClampNeg) (xs (x3 + 2).toNatClampNeg)).1 = r_X ∧ (fX_mount σ (xs (x3 + 1).toNatClampNeg) (xs (x3 + 2).toNatClampNeg)).2 = u_X := ⟨(congrArg Prod.fst hw_X).symm, (congrArg Prod.snd hw_X).symm⟩
  obtain ⟨rfl, rfl⟩ : (fY_mount τ (xs (x3 + 1).toNatClampNeg) (xs (x3 + 2).toNatClampNeg)).1 = r_Y ∧ (fY_mount τ (xs (x3 + 1).toNatClampNeg) (xs (x3 + 2).toNatClampNeg)).2 = u_Y := ⟨(congrArg Prod.fst hw_Y).symm, (congrArg Prod.snd hw_Y).symm⟩
  exact lv_icmp_eq (tgt := 634) C.1 C.2.1 dL_law_148 (by decide) (fun _ => kk _ _ _ _ (pu_mount hR (xs (x3 + 1).toNatClampNeg) (xs (x3 + 2).toNatClampNeg)).2 hH) (fun q => absurd (pu_mount hR (xs (x3 + 1).toNatClampNeg) (xs (x3 + 2).toNatClampNeg)).1 q)
theorem gLX_unmount : GoodIn lw_all (wsV R_law 18 RX0 yX0_unmount (ws_ yX0_unmount cX0_unmount 3 (some .int))) := lw_V q76 q77 q78 q23 q79
theorem hLX_unmount : yX0_unmount.cls = RX0 ∧ yX0_unmount.cls ≠ "java/lang/invoke/MethodHandle" ∧ yX0_unmount.cls ≠ "java/lang/invoke/VarHandle" ∧ (parseMethodDescriptor yX0_unmount.desc).map (fun d => d.parameters.length) = some 1 := by decide +kernel
theorem gLY_unmount : GoodIn lw_all (wsV R_law 22 RX1 yX1_unmount (ws_ yX1_unmount cX1_unmount 3 (some .int))) := lw_V q224 q225 q226 q24 q227
theorem hLY_unmount : yX1_unmount.cls = RX1 ∧ yX1_unmount.cls ≠ "java/lang/invoke/MethodHandle" ∧ yX1_unmount.cls ≠ "java/lang/invoke/VarHandle" ∧ (parseMethodDescriptor yX1_unmount.desc).map (fun d => d.parameters.length) = some 1 := by decide +kernel
set_option maxHeartbeats 4000000 in
theorem law_1 {p : Program} {l : Launch} {e : Env} {s : State} {m : MethodId} {below : List Frame} {meth : Method} {c : Code} {b L : Nat} {xs : Nat → Int32} {G : va_G} {aX aY : Nat → Nat} {dX dY : Nat → ClassId} {A : Nat → Prop} {σ : SX} {τ : SY} {x3 : Int32} {H : Heap} {locs : List Loc} {ls : Array Slot} (C : CallFix p m c cL_law 4 s #[Value.ref b] lw_all R_law) (hX : va_X b L xs s s.heap) (hbl : b < s.heap.size) (hbA : ¬ A b) (hin : ∀ j : Int32, j = 1 ∨ j = 2 ∨ j = 3 → vp_in (x3 + j) L) (hR : Rel σ τ) (hH : AtL G aX dX aY dY A s σ τ H locs) (hl : lv_has ls 4 [(0, .ref b), (1, .ref (aX 0)), (2, .ref (aY 0)), (3, .int x3)])
    (kk : ∀ (σ' : SX) (τ' : SY) (H : Heap) (locs : List Loc), Rel σ' τ' → AtL G aX dX aY dY A s σ' τ' H locs → W p l e room_1 s m #[Value.ref b] below meth c H locs 15 263 (lw_Z below #[Value.ref b] s) (F0 m 634 ls [])) : W p l e room_1 s m #[Value.ref b] below meth c H locs 15 263 (lw_Z below #[Value.ref b] s) (F0 m 153 ls []) := by
  refine lv_aload_n C.1 C.2.1 dL_law_153 rfl (lv_at hl 1 rfl) ?_
  refine lv_aload_n C.1 C.2.1 dL_law_154 rfl (lv_at hl 0 rfl) ?_
  refine lv_iload_n C.1 C.2.1 dL_law_155 rfl (lv_at hl 3 rfl) ?_
  refine lv_iconst (v := 1) C.1 C.2.1 dL_law_156 (by decide) ?_
  refine lv_iadd C.1 C.2.1 dL_law_157 ?_
  refine va_sld C.1 C.2.1 hX hbl hbA hH.2.2.2.1 (hin 1 (by decide)) dL_law_158 ?_
  refine callLX C hH (av := [.int (xs (x3 + 1).toNatClampNeg)]) (rest := []) (mX_unmount l G aX dX σ (xs (x3 + 1).toNatClampNeg) (rel_okX hR)) gLX_unmount hLX_unmount (by decide) rfl hl.1 rfl (Nat.le_of_ble_eq_true rfl) dL_law_159 ⟨Nat.le_of_ble_eq_true rfl, Nat.le_of_ble_eq_true rfl⟩ (fun r_X u_X H locs hH hw_X => ?_)
  refine lv_aload_n C.1 C.2.1 dL_law_162 rfl (lv_at hl 2 rfl) ?_
  refine lv_aload_n C.1 C.2.1 dL_law_163 rfl (lv_at hl 0 rfl) ?_
  refine lv_iload_n C.1 C.2.1 dL_law_164 rfl (lv_at hl 3 rfl) ?_
  refine lv_iconst (v := 1) C.1 C.2.1 dL_law_165 (by decide) ?_
  refine lv_iadd C.1 C.2.1 dL_law_166 ?_
  refine va_sld C.1 C.2.1 hX hbl hbA hH.2.2.2.1 (hin 1 (by decide)) dL_law_167 ?_
  refine callLY C hH (av := [.int (xs (x3 + 1).toNatClampNeg)]) (rest := [.int r_X]) (mY_unmount l G aY dY τ (xs (x3 + 1).toNatClampNeg) (rel_okY hR)) gLY_unmount hLY_unmount (by decide) rfl hl.1 rfl (Nat.le_of_ble_eq_true rfl) dL_law_168 ⟨Nat.le_of_ble_eq_true rfl, Nat.le_of_ble_eq_true rfl⟩ (fun r_Y u_Y H locs hH hw_Y => ?_)
  obtain ⟨rfl, rfl⟩ : (fX_unmount σ (xs (x3 + 1).toNatClampNeg)).1 = r_X ∧ (fX_unmount σ (xs (x3 + 1).toNatClampNeg)).2 = u_X := ⟨(congrArg Prod.fst hw_X).symm, (congrArg Prod.snd hw_X).symm⟩
  obtain ⟨rfl, rfl⟩ : (fY_unmount τ (xs (x3 + 1).toNatClampNeg)).1 = r_Y ∧ (fY_unmount τ (xs (x3 + 1).toNatClampNeg)).2 = u_Y := ⟨(congrArg Prod.fst hw_Y).symm, (congrArg Prod.snd hw_Y).symm⟩
  exact lv_icmp_eq (tgt := 634) C.1 C.2.1 dL_law_171 (by decide) (fun _ => kk _ _ _ _ (pu_unmount hR (xs (x3 + 1).toNatClampNeg)).2 hH) (fun q => absurd (pu_unmount hR (xs (x3 + 1).toNatClampNeg)).1 q)
theorem gLX_mkdir : GoodIn lw_all (wsV R_law 23 RX0 yX0_mkdir (ws_ yX0_mkdir cX0_mkdir 6 (some .int))) := lw_V q80 q81 q82 q23 q83
theorem hLX_mkdir : yX0_mkdir.cls = RX0 ∧ yX0_mkdir.cls ≠ "java/lang/invoke/MethodHandle" ∧ yX0_mkdir.cls ≠ "java/lang/invoke/VarHandle" ∧ (parseMethodDescriptor yX0_mkdir.desc).map (fun d => d.parameters.length) = some 2 := by decide +kernel
theorem gLY_mkdir : GoodIn lw_all (wsV R_law 26 RX1 yX1_mkdir (ws_ yX1_mkdir cX1_mkdir 4 (some .int))) := lw_V q228 q229 q230 q24 q231
theorem hLY_mkdir : yX1_mkdir.cls = RX1 ∧ yX1_mkdir.cls ≠ "java/lang/invoke/MethodHandle" ∧ yX1_mkdir.cls ≠ "java/lang/invoke/VarHandle" ∧ (parseMethodDescriptor yX1_mkdir.desc).map (fun d => d.parameters.length) = some 2 := by decide +kernel
set_option maxHeartbeats 4000000 in
theorem law_2 {p : Program} {l : Launch} {e : Env} {s : State} {m : MethodId} {below : List Frame} {meth : Method} {c : Code} {b L : Nat} {xs : Nat → Int32} {G : va_G} {aX aY : Nat → Nat} {dX dY : Nat → ClassId} {A : Nat → Prop} {σ : SX} {τ : SY} {x3 : Int32} {H : Heap} {locs : List Loc} {ls : Array Slot} (C : CallFix p m c cL_law 4 s #[Value.ref b] lw_all R_law) (hX : va_X b L xs s s.heap) (hbl : b < s.heap.size) (hbA : ¬ A b) (hin : ∀ j : Int32, j = 1 ∨ j = 2 ∨ j = 3 → vp_in (x3 + j) L) (hR : Rel σ τ) (hH : AtL G aX dX aY dY A s σ τ H locs) (hl : lv_has ls 4 [(0, .ref b), (1, .ref (aX 0)), (2, .ref (aY 0)), (3, .int x3)])
    (kk : ∀ (σ' : SX) (τ' : SY) (H : Heap) (locs : List Loc), Rel σ' τ' → AtL G aX dX aY dY A s σ' τ' H locs → W p l e room_1 s m #[Value.ref b] below meth c H locs 15 263 (lw_Z below #[Value.ref b] s) (F0 m 634 ls [])) : W p l e room_1 s m #[Value.ref b] below meth c H locs 15 263 (lw_Z below #[Value.ref b] s) (F0 m 176 ls []) := by
  refine lv_aload_n C.1 C.2.1 dL_law_176 rfl (lv_at hl 1 rfl) ?_
  refine lv_aload_n C.1 C.2.1 dL_law_177 rfl (lv_at hl 0 rfl) ?_
  refine lv_iload_n C.1 C.2.1 dL_law_178 rfl (lv_at hl 3 rfl) ?_
  refine lv_iconst (v := 1) C.1 C.2.1 dL_law_179 (by decide) ?_
  refine lv_iadd C.1 C.2.1 dL_law_180 ?_
  refine va_sld C.1 C.2.1 hX hbl hbA hH.2.2.2.1 (hin 1 (by decide)) dL_law_181 ?_
  refine lv_aload_n C.1 C.2.1 dL_law_182 rfl (lv_at hl 0 rfl) ?_
  refine lv_iload_n C.1 C.2.1 dL_law_183 rfl (lv_at hl 3 rfl) ?_
  refine lv_iconst (v := 2) C.1 C.2.1 dL_law_184 (by decide) ?_
  refine lv_iadd C.1 C.2.1 dL_law_185 ?_
  refine va_sld C.1 C.2.1 hX hbl hbA hH.2.2.2.1 (hin 2 (by decide)) dL_law_186 ?_
  refine callLX C hH (av := [.int (xs (x3 + 1).toNatClampNeg), .int (xs (x3 + 2).toNatClampNeg)]) (rest := []) (mX_mkdir l G aX dX σ (xs (x3 + 1).toNatClampNeg) (xs (x3 + 2).toNatClampNeg) (rel_okX hR)) gLX_mkdir hLX_mkdir (by decide) rfl hl.1 rfl (Nat.le_of_ble_eq_true rfl) dL_law_187 ⟨Nat.le_of_ble_eq_true rfl, Nat.le_of_ble_eq_true rfl⟩ (fun r_X u_X H locs hH hw_X => ?_)
  refine lv_aload_n C.1 C.2.1 dL_law_190 rfl (lv_at hl 2 rfl) ?_
  refine lv_aload_n C.1 C.2.1 dL_law_191 rfl (lv_at hl 0 rfl) ?_
  refine lv_iload_n C.1 C.2.1 dL_law_192 rfl (lv_at hl 3 rfl) ?_
  refine lv_iconst (v := 1) C.1 C.2.1 dL_law_193 (by decide) ?_
  refine lv_iadd C.1 C.2.1 dL_law_194 ?_
  refine va_sld C.1 C.2.1 hX hbl hbA hH.2.2.2.1 (hin 1 (by decide)) dL_law_195 ?_
  refine lv_aload_n C.1 C.2.1 dL_law_196 rfl (lv_at hl 0 rfl) ?_
  refine lv_iload_n C.1 C.2.1 dL_law_197 rfl (lv_at hl 3 rfl) ?_
  refine lv_iconst (v := 2) C.1 C.2.1 dL_law_198 (by decide) ?_
  refine lv_iadd C.1 C.2.1 dL_law_199 ?_
  refine va_sld C.1 C.2.1 hX hbl hbA hH.2.2.2.1 (hin 2 (by decide)) dL_law_200 ?_
  refine callLY C hH (av := [.int (xs (x3 + 1).toNatClampNeg), .int (xs (x3 + 2).toNatClampNeg)]) (rest := [.int r_X]) (mY_mkdir l G aY dY τ (xs (x3 + 1).toNatClampNeg) (xs (x3 + 2).toNatClampNeg) (rel_okY hR)) gLY_mkdir hLY_mkdir (by decide) rfl hl.1 rfl (Nat.le_of_ble_eq_true rfl) dL_law_201 ⟨Nat.le_of_ble_eq_true rfl, Nat.le_of_ble_eq_true rfl⟩ (fun r_Y u_Y H locs hH hw_Y => ?_)
  obtain ⟨rfl, rfl⟩ : (fX_mkdir σ (xs (x3 + 1).toNatClampNeg) (xs (x3 + 2).toNatClampNeg)).1 = r_X ∧ (fX_mkdir σ (xs (x3 + 1).toNatClampNeg) (xs (x3 + 2).toNatClampNeg)).2 = u_X := ⟨(congrArg Prod.fst hw_X).symm, (congrArg Prod.snd hw_X).symm⟩
  obtain ⟨rfl, rfl⟩ : (fY_mkdir τ (xs (x3 + 1).toNatClampNeg) (xs (x3 + 2).toNatClampNeg)).1 = r_Y ∧ (fY_mkdir τ (xs (x3 + 1).toNatClampNeg) (xs (x3 + 2).toNatClampNeg)).2 = u_Y := ⟨(congrArg Prod.fst hw_Y).symm, (congrArg Prod.snd hw_Y).symm⟩
  exact lv_icmp_eq (tgt := 634) C.1 C.2.1 dL_law_204 (by decide) (fun _ => kk _ _ _ _ (pu_mkdir hR (xs (x3 + 1).toNatClampNeg) (xs (x3 + 2).toNatClampNeg)).2 hH) (fun q => absurd (pu_mkdir hR (xs (x3 + 1).toNatClampNeg) (xs (x3 + 2).toNatClampNeg)).1 q)
theorem gLX_rmdir : GoodIn lw_all (wsV R_law 27 RX0 yX0_rmdir (ws_ yX0_rmdir cX0_rmdir 8 (some .int))) := lw_V q88 q89 q90 q23 q91
theorem hLX_rmdir : yX0_rmdir.cls = RX0 ∧ yX0_rmdir.cls ≠ "java/lang/invoke/MethodHandle" ∧ yX0_rmdir.cls ≠ "java/lang/invoke/VarHandle" ∧ (parseMethodDescriptor yX0_rmdir.desc).map (fun d => d.parameters.length) = some 2 := by decide +kernel
theorem gLY_rmdir : GoodIn lw_all (wsV R_law 30 RX1 yX1_rmdir (ws_ yX1_rmdir cX1_rmdir 6 (some .int))) := lw_V q240 q241 q242 q24 q243
theorem hLY_rmdir : yX1_rmdir.cls = RX1 ∧ yX1_rmdir.cls ≠ "java/lang/invoke/MethodHandle" ∧ yX1_rmdir.cls ≠ "java/lang/invoke/VarHandle" ∧ (parseMethodDescriptor yX1_rmdir.desc).map (fun d => d.parameters.length) = some 2 := by decide +kernel
set_option maxHeartbeats 4000000 in
theorem law_3 {p : Program} {l : Launch} {e : Env} {s : State} {m : MethodId} {below : List Frame} {meth : Method} {c : Code} {b L : Nat} {xs : Nat → Int32} {G : va_G} {aX aY : Nat → Nat} {dX dY : Nat → ClassId} {A : Nat → Prop} {σ : SX} {τ : SY} {x3 : Int32} {H : Heap} {locs : List Loc} {ls : Array Slot} (C : CallFix p m c cL_law 4 s #[Value.ref b] lw_all R_law) (hX : va_X b L xs s s.heap) (hbl : b < s.heap.size) (hbA : ¬ A b) (hin : ∀ j : Int32, j = 1 ∨ j = 2 ∨ j = 3 → vp_in (x3 + j) L) (hR : Rel σ τ) (hH : AtL G aX dX aY dY A s σ τ H locs) (hl : lv_has ls 4 [(0, .ref b), (1, .ref (aX 0)), (2, .ref (aY 0)), (3, .int x3)])
    (kk : ∀ (σ' : SX) (τ' : SY) (H : Heap) (locs : List Loc), Rel σ' τ' → AtL G aX dX aY dY A s σ' τ' H locs → W p l e room_1 s m #[Value.ref b] below meth c H locs 15 263 (lw_Z below #[Value.ref b] s) (F0 m 634 ls [])) : W p l e room_1 s m #[Value.ref b] below meth c H locs 15 263 (lw_Z below #[Value.ref b] s) (F0 m 209 ls []) := by
  refine lv_aload_n C.1 C.2.1 dL_law_209 rfl (lv_at hl 1 rfl) ?_
  refine lv_aload_n C.1 C.2.1 dL_law_210 rfl (lv_at hl 0 rfl) ?_
  refine lv_iload_n C.1 C.2.1 dL_law_211 rfl (lv_at hl 3 rfl) ?_
  refine lv_iconst (v := 1) C.1 C.2.1 dL_law_212 (by decide) ?_
  refine lv_iadd C.1 C.2.1 dL_law_213 ?_
  refine va_sld C.1 C.2.1 hX hbl hbA hH.2.2.2.1 (hin 1 (by decide)) dL_law_214 ?_
  refine lv_aload_n C.1 C.2.1 dL_law_215 rfl (lv_at hl 0 rfl) ?_
  refine lv_iload_n C.1 C.2.1 dL_law_216 rfl (lv_at hl 3 rfl) ?_
  refine lv_iconst (v := 2) C.1 C.2.1 dL_law_217 (by decide) ?_
  refine lv_iadd C.1 C.2.1 dL_law_218 ?_
  refine va_sld C.1 C.2.1 hX hbl hbA hH.2.2.2.1 (hin 2 (by decide)) dL_law_219 ?_
  refine callLX C hH (av := [.int (xs (x3 + 1).toNatClampNeg), .int (xs (x3 + 2).toNatClampNeg)]) (rest := []) (mX_rmdir l G aX dX σ (xs (x3 + 1).toNatClampNeg) (xs (x3 + 2).toNatClampNeg) (rel_okX hR)) gLX_rmdir hLX_rmdir (by decide) rfl hl.1 rfl (Nat.le_of_ble_eq_true rfl) dL_law_220 ⟨Nat.le_of_ble_eq_true rfl, Nat.le_of_ble_eq_true rfl⟩ (fun r_X u_X H locs hH hw_X => ?_)
  refine lv_aload_n C.1 C.2.1 dL_law_223 rfl (lv_at hl 2 rfl) ?_
  refine lv_aload_n C.1 C.2.1 dL_law_224 rfl (lv_at hl 0 rfl) ?_
  refine lv_iload_n C.1 C.2.1 dL_law_225 rfl (lv_at hl 3 rfl) ?_
  refine lv_iconst (v := 1) C.1 C.2.1 dL_law_226 (by decide) ?_
  refine lv_iadd C.1 C.2.1 dL_law_227 ?_
  refine va_sld C.1 C.2.1 hX hbl hbA hH.2.2.2.1 (hin 1 (by decide)) dL_law_228 ?_
  refine lv_aload_n C.1 C.2.1 dL_law_229 rfl (lv_at hl 0 rfl) ?_
  refine lv_iload_n C.1 C.2.1 dL_law_230 rfl (lv_at hl 3 rfl) ?_
  refine lv_iconst (v := 2) C.1 C.2.1 dL_law_231 (by decide) ?_
  refine lv_iadd C.1 C.2.1 dL_law_232 ?_
  refine va_sld C.1 C.2.1 hX hbl hbA hH.2.2.2.1 (hin 2 (by decide)) dL_law_233 ?_
  refine callLY C hH (av := [.int (xs (x3 + 1).toNatClampNeg), .int (xs (x3 + 2).toNatClampNeg)]) (rest := [.int r_X]) (mY_rmdir l G aY dY τ (xs (x3 + 1).toNatClampNeg) (xs (x3 + 2).toNatClampNeg) (rel_okY hR)) gLY_rmdir hLY_rmdir (by decide) rfl hl.1 rfl (Nat.le_of_ble_eq_true rfl) dL_law_234 ⟨Nat.le_of_ble_eq_true rfl, Nat.le_of_ble_eq_true rfl⟩ (fun r_Y u_Y H locs hH hw_Y => ?_)
  obtain ⟨rfl, rfl⟩ : (fX_rmdir σ (xs (x3 + 1).toNatClampNeg) (xs (x3 + 2).toNatClampNeg)).1 = r_X ∧ (fX_rmdir σ (xs (x3 + 1).toNatClampNeg) (xs (x3 + 2).toNatClampNeg)).2 = u_X := ⟨(congrArg Prod.fst hw_X).symm, (congrArg Prod.snd hw_X).symm⟩
  obtain ⟨rfl, rfl⟩ : (fY_rmdir τ (xs (x3 + 1).toNatClampNeg) (xs (x3 + 2).toNatClampNeg)).1 = r_Y ∧ (fY_rmdir τ (xs (x3 + 1).toNatClampNeg) (xs (x3 + 2).toNatClampNeg)).2 = u_Y := ⟨(congrArg Prod.fst hw_Y).symm, (congrArg Prod.snd hw_Y).symm⟩
  exact lv_icmp_eq (tgt := 634) C.1 C.2.1 dL_law_237 (by decide) (fun _ => kk _ _ _ _ (pu_rmdir hR (xs (x3 + 1).toNatClampNeg) (xs (x3 + 2).toNatClampNeg)).2 hH) (fun q => absurd (pu_rmdir hR (xs (x3 + 1).toNatClampNeg) (xs (x3 + 2).toNatClampNeg)).1 q)
theorem gLX_write : GoodIn lw_all (wsV R_law 31 RX0 yX0_write (ws_ yX0_write cX0_write 8 (some .int))) := lw_V q108 q109 q110 q23 q111
theorem hLX_write : yX0_write.cls = RX0 ∧ yX0_write.cls ≠ "java/lang/invoke/MethodHandle" ∧ yX0_write.cls ≠ "java/lang/invoke/VarHandle" ∧ (parseMethodDescriptor yX0_write.desc).map (fun d => d.parameters.length) = some 3 := by decide +kernel
theorem gLY_write : GoodIn lw_all (wsV R_law 35 RX1 yX1_write (ws_ yX1_write cX1_write 5 (some .int))) := lw_V q248 q249 q250 q24 q251
theorem hLY_write : yX1_write.cls = RX1 ∧ yX1_write.cls ≠ "java/lang/invoke/MethodHandle" ∧ yX1_write.cls ≠ "java/lang/invoke/VarHandle" ∧ (parseMethodDescriptor yX1_write.desc).map (fun d => d.parameters.length) = some 3 := by decide +kernel
set_option maxHeartbeats 4000000 in
theorem law_4 {p : Program} {l : Launch} {e : Env} {s : State} {m : MethodId} {below : List Frame} {meth : Method} {c : Code} {b L : Nat} {xs : Nat → Int32} {G : va_G} {aX aY : Nat → Nat} {dX dY : Nat → ClassId} {A : Nat → Prop} {σ : SX} {τ : SY} {x3 : Int32} {H : Heap} {locs : List Loc} {ls : Array Slot} (C : CallFix p m c cL_law 4 s #[Value.ref b] lw_all R_law) (hX : va_X b L xs s s.heap) (hbl : b < s.heap.size) (hbA : ¬ A b) (hin : ∀ j : Int32, j = 1 ∨ j = 2 ∨ j = 3 → vp_in (x3 + j) L) (hR : Rel σ τ) (hH : AtL G aX dX aY dY A s σ τ H locs) (hl : lv_has ls 4 [(0, .ref b), (1, .ref (aX 0)), (2, .ref (aY 0)), (3, .int x3)])
    (kk : ∀ (σ' : SX) (τ' : SY) (H : Heap) (locs : List Loc), Rel σ' τ' → AtL G aX dX aY dY A s σ' τ' H locs → W p l e room_1 s m #[Value.ref b] below meth c H locs 15 263 (lw_Z below #[Value.ref b] s) (F0 m 634 ls [])) : W p l e room_1 s m #[Value.ref b] below meth c H locs 15 263 (lw_Z below #[Value.ref b] s) (F0 m 242 ls []) := by
  refine lv_aload_n C.1 C.2.1 dL_law_242 rfl (lv_at hl 1 rfl) ?_
  refine lv_aload_n C.1 C.2.1 dL_law_243 rfl (lv_at hl 0 rfl) ?_
  refine lv_iload_n C.1 C.2.1 dL_law_244 rfl (lv_at hl 3 rfl) ?_
  refine lv_iconst (v := 1) C.1 C.2.1 dL_law_245 (by decide) ?_
  refine lv_iadd C.1 C.2.1 dL_law_246 ?_
  refine va_sld C.1 C.2.1 hX hbl hbA hH.2.2.2.1 (hin 1 (by decide)) dL_law_247 ?_
  refine lv_aload_n C.1 C.2.1 dL_law_248 rfl (lv_at hl 0 rfl) ?_
  refine lv_iload_n C.1 C.2.1 dL_law_249 rfl (lv_at hl 3 rfl) ?_
  refine lv_iconst (v := 2) C.1 C.2.1 dL_law_250 (by decide) ?_
  refine lv_iadd C.1 C.2.1 dL_law_251 ?_
  refine va_sld C.1 C.2.1 hX hbl hbA hH.2.2.2.1 (hin 2 (by decide)) dL_law_252 ?_
  refine lv_aload_n C.1 C.2.1 dL_law_253 rfl (lv_at hl 0 rfl) ?_
  refine lv_iload_n C.1 C.2.1 dL_law_254 rfl (lv_at hl 3 rfl) ?_
  refine lv_iconst (v := 3) C.1 C.2.1 dL_law_255 (by decide) ?_
  refine lv_iadd C.1 C.2.1 dL_law_256 ?_
  refine va_sld C.1 C.2.1 hX hbl hbA hH.2.2.2.1 (hin 3 (by decide)) dL_law_257 ?_
  refine callLX C hH (av := [.int (xs (x3 + 1).toNatClampNeg), .int (xs (x3 + 2).toNatClampNeg), .int (xs (x3 + 3).toNatClampNeg)]) (rest := []) (mX_write l G aX dX σ (xs (x3 + 1).toNatClampNeg) (xs (x3 + 2).toNatClampNeg) (xs (x3 + 3).toNatClampNeg) (rel_okX hR)) gLX_write hLX_write (by decide) rfl hl.1 rfl (Nat.le_of_ble_eq_true rfl) dL_law_258 ⟨Nat.le_of_ble_eq_true rfl, Nat.le_of_ble_eq_true rfl⟩ (fun r_X u_X H locs hH hw_X => ?_)
  refine lv_aload_n C.1 C.2.1 dL_law_261 rfl (lv_at hl 2 rfl) ?_
  refine lv_aload_n C.1 C.2.1 dL_law_262 rfl (lv_at hl 0 rfl) ?_
  refine lv_iload_n C.1 C.2.1 dL_law_263 rfl (lv_at hl 3 rfl) ?_
  refine lv_iconst (v := 1) C.1 C.2.1 dL_law_264 (by decide) ?_
  refine lv_iadd C.1 C.2.1 dL_law_265 ?_
  refine va_sld C.1 C.2.1 hX hbl hbA hH.2.2.2.1 (hin 1 (by decide)) dL_law_266 ?_
  refine lv_aload_n C.1 C.2.1 dL_law_267 rfl (lv_at hl 0 rfl) ?_
  refine lv_iload_n C.1 C.2.1 dL_law_268 rfl (lv_at hl 3 rfl) ?_
  refine lv_iconst (v := 2) C.1 C.2.1 dL_law_269 (by decide) ?_
  refine lv_iadd C.1 C.2.1 dL_law_270 ?_
  refine va_sld C.1 C.2.1 hX hbl hbA hH.2.2.2.1 (hin 2 (by decide)) dL_law_271 ?_
  refine lv_aload_n C.1 C.2.1 dL_law_272 rfl (lv_at hl 0 rfl) ?_
  refine lv_iload_n C.1 C.2.1 dL_law_273 rfl (lv_at hl 3 rfl) ?_
  refine lv_iconst (v := 3) C.1 C.2.1 dL_law_274 (by decide) ?_
  refine lv_iadd C.1 C.2.1 dL_law_275 ?_
  refine va_sld C.1 C.2.1 hX hbl hbA hH.2.2.2.1 (hin 3 (by decide)) dL_law_276 ?_
  refine callLY C hH (av := [.int (xs (x3 + 1).toNatClampNeg), .int (xs (x3 + 2).toNatClampNeg), .int (xs (x3 + 3).toNatClampNeg)]) (rest := [.int r_X]) (mY_write l G aY dY τ (xs (x3 + 1).toNatClampNeg) (xs (x3 + 2).toNatClampNeg) (xs (x3 + 3).toNatClampNeg) (rel_okY hR)) gLY_write hLY_write (by decide) rfl hl.1 rfl (Nat.le_of_ble_eq_true rfl) dL_law_277 ⟨Nat.le_of_ble_eq_true rfl, Nat.le_of_ble_eq_true rfl⟩ (fun r_Y u_Y H locs hH hw_Y => ?_)
  obtain ⟨rfl, rfl⟩ : (fX_write σ (xs (x3 + 1).toNatClampNeg) (xs (x3 + 2).toNatClampNeg) (xs (x3 + 3).toNatClampNeg)).1 = r_X ∧ (fX_write σ (xs (x3 + 1).toNatClampNeg) (xs (x3 + 2).toNatClampNeg) (xs (x3 + 3).toNatClampNeg)).2 = u_X := ⟨(congrArg Prod.fst hw_X).symm, (congrArg Prod.snd hw_X).symm⟩
  obtain ⟨rfl, rfl⟩ : (fY_write τ (xs (x3 + 1).toNatClampNeg) (xs (x3 + 2).toNatClampNeg) (xs (x3 + 3).toNatClampNeg)).1 = r_Y ∧ (fY_write τ (xs (x3 + 1).toNatClampNeg) (xs (x3 + 2).toNatClampNeg) (xs (x3 + 3).toNatClampNeg)).2 = u_Y := ⟨(congrArg Prod.fst hw_Y).symm, (congrArg Prod.snd hw_Y).symm⟩
  exact lv_icmp_eq (tgt := 634) C.1 C.2.1 dL_law_280 (by decide) (fun _ => kk _ _ _ _ (pu_write hR (xs (x3 + 1).toNatClampNeg) (xs (x3 + 2).toNatClampNeg) (xs (x3 + 3).toNatClampNeg)).2 hH) (fun q => absurd (pu_write hR (xs (x3 + 1).toNatClampNeg) (xs (x3 + 2).toNatClampNeg) (xs (x3 + 3).toNatClampNeg)).1 q)
theorem gLX_grow : GoodIn lw_all (wsV R_law 36 RX0 yX0_grow (ws_ yX0_grow cX0_grow 7 (some .int))) := lw_V q120 q121 q122 q23 q123
theorem hLX_grow : yX0_grow.cls = RX0 ∧ yX0_grow.cls ≠ "java/lang/invoke/MethodHandle" ∧ yX0_grow.cls ≠ "java/lang/invoke/VarHandle" ∧ (parseMethodDescriptor yX0_grow.desc).map (fun d => d.parameters.length) = some 3 := by decide +kernel
theorem gLY_grow : GoodIn lw_all (wsV R_law 39 RX1 yX1_grow (ws_ yX1_grow cX1_grow 5 (some .int))) := lw_V q260 q261 q262 q24 q263
theorem hLY_grow : yX1_grow.cls = RX1 ∧ yX1_grow.cls ≠ "java/lang/invoke/MethodHandle" ∧ yX1_grow.cls ≠ "java/lang/invoke/VarHandle" ∧ (parseMethodDescriptor yX1_grow.desc).map (fun d => d.parameters.length) = some 3 := by decide +kernel
set_option maxHeartbeats 4000000 in
theorem law_5 {p : Program} {l : Launch} {e : Env} {s : State} {m : MethodId} {below : List Frame} {meth : Method} {c : Code} {b L : Nat} {xs : Nat → Int32} {G : va_G} {aX aY : Nat → Nat} {dX dY : Nat → ClassId} {A : Nat → Prop} {σ : SX} {τ : SY} {x3 : Int32} {H : Heap} {locs : List Loc} {ls : Array Slot} (C : CallFix p m c cL_law 4 s #[Value.ref b] lw_all R_law) (hX : va_X b L xs s s.heap) (hbl : b < s.heap.size) (hbA : ¬ A b) (hin : ∀ j : Int32, j = 1 ∨ j = 2 ∨ j = 3 → vp_in (x3 + j) L) (hR : Rel σ τ) (hH : AtL G aX dX aY dY A s σ τ H locs) (hl : lv_has ls 4 [(0, .ref b), (1, .ref (aX 0)), (2, .ref (aY 0)), (3, .int x3)])
    (kk : ∀ (σ' : SX) (τ' : SY) (H : Heap) (locs : List Loc), Rel σ' τ' → AtL G aX dX aY dY A s σ' τ' H locs → W p l e room_1 s m #[Value.ref b] below meth c H locs 15 263 (lw_Z below #[Value.ref b] s) (F0 m 634 ls [])) : W p l e room_1 s m #[Value.ref b] below meth c H locs 15 263 (lw_Z below #[Value.ref b] s) (F0 m 285 ls []) := by
  refine lv_aload_n C.1 C.2.1 dL_law_285 rfl (lv_at hl 1 rfl) ?_
  refine lv_aload_n C.1 C.2.1 dL_law_286 rfl (lv_at hl 0 rfl) ?_
  refine lv_iload_n C.1 C.2.1 dL_law_287 rfl (lv_at hl 3 rfl) ?_
  refine lv_iconst (v := 1) C.1 C.2.1 dL_law_288 (by decide) ?_
  refine lv_iadd C.1 C.2.1 dL_law_289 ?_
  refine va_sld C.1 C.2.1 hX hbl hbA hH.2.2.2.1 (hin 1 (by decide)) dL_law_290 ?_
  refine lv_aload_n C.1 C.2.1 dL_law_291 rfl (lv_at hl 0 rfl) ?_
  refine lv_iload_n C.1 C.2.1 dL_law_292 rfl (lv_at hl 3 rfl) ?_
  refine lv_iconst (v := 2) C.1 C.2.1 dL_law_293 (by decide) ?_
  refine lv_iadd C.1 C.2.1 dL_law_294 ?_
  refine va_sld C.1 C.2.1 hX hbl hbA hH.2.2.2.1 (hin 2 (by decide)) dL_law_295 ?_
  refine lv_aload_n C.1 C.2.1 dL_law_296 rfl (lv_at hl 0 rfl) ?_
  refine lv_iload_n C.1 C.2.1 dL_law_297 rfl (lv_at hl 3 rfl) ?_
  refine lv_iconst (v := 3) C.1 C.2.1 dL_law_298 (by decide) ?_
  refine lv_iadd C.1 C.2.1 dL_law_299 ?_
  refine va_sld C.1 C.2.1 hX hbl hbA hH.2.2.2.1 (hin 3 (by decide)) dL_law_300 ?_
  refine callLX C hH (av := [.int (xs (x3 + 1).toNatClampNeg), .int (xs (x3 + 2).toNatClampNeg), .int (xs (x3 + 3).toNatClampNeg)]) (rest := []) (mX_grow l G aX dX σ (xs (x3 + 1).toNatClampNeg) (xs (x3 + 2).toNatClampNeg) (xs (x3 + 3).toNatClampNeg) (rel_okX hR)) gLX_grow hLX_grow (by decide) rfl hl.1 rfl (Nat.le_of_ble_eq_true rfl) dL_law_301 ⟨Nat.le_of_ble_eq_true rfl, Nat.le_of_ble_eq_true rfl⟩ (fun r_X u_X H locs hH hw_X => ?_)
  refine lv_aload_n C.1 C.2.1 dL_law_304 rfl (lv_at hl 2 rfl) ?_
  refine lv_aload_n C.1 C.2.1 dL_law_305 rfl (lv_at hl 0 rfl) ?_
  refine lv_iload_n C.1 C.2.1 dL_law_306 rfl (lv_at hl 3 rfl) ?_
  refine lv_iconst (v := 1) C.1 C.2.1 dL_law_307 (by decide) ?_
  refine lv_iadd C.1 C.2.1 dL_law_308 ?_
  refine va_sld C.1 C.2.1 hX hbl hbA hH.2.2.2.1 (hin 1 (by decide)) dL_law_309 ?_
  refine lv_aload_n C.1 C.2.1 dL_law_310 rfl (lv_at hl 0 rfl) ?_
  refine lv_iload_n C.1 C.2.1 dL_law_311 rfl (lv_at hl 3 rfl) ?_
  refine lv_iconst (v := 2) C.1 C.2.1 dL_law_312 (by decide) ?_
  refine lv_iadd C.1 C.2.1 dL_law_313 ?_
  refine va_sld C.1 C.2.1 hX hbl hbA hH.2.2.2.1 (hin 2 (by decide)) dL_law_314 ?_
  refine lv_aload_n C.1 C.2.1 dL_law_315 rfl (lv_at hl 0 rfl) ?_
  refine lv_iload_n C.1 C.2.1 dL_law_316 rfl (lv_at hl 3 rfl) ?_
  refine lv_iconst (v := 3) C.1 C.2.1 dL_law_317 (by decide) ?_
  refine lv_iadd C.1 C.2.1 dL_law_318 ?_
  refine va_sld C.1 C.2.1 hX hbl hbA hH.2.2.2.1 (hin 3 (by decide)) dL_law_319 ?_
  refine callLY C hH (av := [.int (xs (x3 + 1).toNatClampNeg), .int (xs (x3 + 2).toNatClampNeg), .int (xs (x3 + 3).toNatClampNeg)]) (rest := [.int r_X]) (mY_grow l G aY dY τ (xs (x3 + 1).toNatClampNeg) (xs (x3 + 2).toNatClampNeg) (xs (x3 + 3).toNatClampNeg) (rel_okY hR)) gLY_grow hLY_grow (by decide) rfl hl.1 rfl (Nat.le_of_ble_eq_true rfl) dL_law_320 ⟨Nat.le_of_ble_eq_true rfl, Nat.le_of_ble_eq_true rfl⟩ (fun r_Y u_Y H locs hH hw_Y => ?_)
  obtain ⟨rfl, rfl⟩ : (fX_grow σ (xs (x3 + 1).toNatClampNeg) (xs (x3 + 2).toNatClampNeg) (xs (x3 + 3).toNatClampNeg)).1 = r_X ∧ (fX_grow σ (xs (x3 + 1).toNatClampNeg) (xs (x3 + 2).toNatClampNeg) (xs (x3 + 3).toNatClampNeg)).2 = u_X := ⟨(congrArg Prod.fst hw_X).symm, (congrArg Prod.snd hw_X).symm⟩
  obtain ⟨rfl, rfl⟩ : (fY_grow τ (xs (x3 + 1).toNatClampNeg) (xs (x3 + 2).toNatClampNeg) (xs (x3 + 3).toNatClampNeg)).1 = r_Y ∧ (fY_grow τ (xs (x3 + 1).toNatClampNeg) (xs (x3 + 2).toNatClampNeg) (xs (x3 + 3).toNatClampNeg)).2 = u_Y := ⟨(congrArg Prod.fst hw_Y).symm, (congrArg Prod.snd hw_Y).symm⟩
  exact lv_icmp_eq (tgt := 634) C.1 C.2.1 dL_law_323 (by decide) (fun _ => kk _ _ _ _ (pu_grow hR (xs (x3 + 1).toNatClampNeg) (xs (x3 + 2).toNatClampNeg) (xs (x3 + 3).toNatClampNeg)).2 hH) (fun q => absurd (pu_grow hR (xs (x3 + 1).toNatClampNeg) (xs (x3 + 2).toNatClampNeg) (xs (x3 + 3).toNatClampNeg)).1 q)
theorem gLX_remove : GoodIn lw_all (wsV R_law 40 RX0 yX0_remove (ws_ yX0_remove cX0_remove 6 (some .int))) := lw_V q124 q125 q126 q23 q127
theorem hLX_remove : yX0_remove.cls = RX0 ∧ yX0_remove.cls ≠ "java/lang/invoke/MethodHandle" ∧ yX0_remove.cls ≠ "java/lang/invoke/VarHandle" ∧ (parseMethodDescriptor yX0_remove.desc).map (fun d => d.parameters.length) = some 2 := by decide +kernel
theorem gLY_remove : GoodIn lw_all (wsV R_law 43 RX1 yX1_remove (ws_ yX1_remove cX1_remove 4 (some .int))) := lw_V q264 q265 q266 q24 q267
theorem hLY_remove : yX1_remove.cls = RX1 ∧ yX1_remove.cls ≠ "java/lang/invoke/MethodHandle" ∧ yX1_remove.cls ≠ "java/lang/invoke/VarHandle" ∧ (parseMethodDescriptor yX1_remove.desc).map (fun d => d.parameters.length) = some 2 := by decide +kernel
set_option maxHeartbeats 4000000 in
theorem law_6 {p : Program} {l : Launch} {e : Env} {s : State} {m : MethodId} {below : List Frame} {meth : Method} {c : Code} {b L : Nat} {xs : Nat → Int32} {G : va_G} {aX aY : Nat → Nat} {dX dY : Nat → ClassId} {A : Nat → Prop} {σ : SX} {τ : SY} {x3 : Int32} {H : Heap} {locs : List Loc} {ls : Array Slot} (C : CallFix p m c cL_law 4 s #[Value.ref b] lw_all R_law) (hX : va_X b L xs s s.heap) (hbl : b < s.heap.size) (hbA : ¬ A b) (hin : ∀ j : Int32, j = 1 ∨ j = 2 ∨ j = 3 → vp_in (x3 + j) L) (hR : Rel σ τ) (hH : AtL G aX dX aY dY A s σ τ H locs) (hl : lv_has ls 4 [(0, .ref b), (1, .ref (aX 0)), (2, .ref (aY 0)), (3, .int x3)])
    (kk : ∀ (σ' : SX) (τ' : SY) (H : Heap) (locs : List Loc), Rel σ' τ' → AtL G aX dX aY dY A s σ' τ' H locs → W p l e room_1 s m #[Value.ref b] below meth c H locs 15 263 (lw_Z below #[Value.ref b] s) (F0 m 634 ls [])) : W p l e room_1 s m #[Value.ref b] below meth c H locs 15 263 (lw_Z below #[Value.ref b] s) (F0 m 328 ls []) := by
  refine lv_aload_n C.1 C.2.1 dL_law_328 rfl (lv_at hl 1 rfl) ?_
  refine lv_aload_n C.1 C.2.1 dL_law_329 rfl (lv_at hl 0 rfl) ?_
  refine lv_iload_n C.1 C.2.1 dL_law_330 rfl (lv_at hl 3 rfl) ?_
  refine lv_iconst (v := 1) C.1 C.2.1 dL_law_331 (by decide) ?_
  refine lv_iadd C.1 C.2.1 dL_law_332 ?_
  refine va_sld C.1 C.2.1 hX hbl hbA hH.2.2.2.1 (hin 1 (by decide)) dL_law_333 ?_
  refine lv_aload_n C.1 C.2.1 dL_law_334 rfl (lv_at hl 0 rfl) ?_
  refine lv_iload_n C.1 C.2.1 dL_law_335 rfl (lv_at hl 3 rfl) ?_
  refine lv_iconst (v := 2) C.1 C.2.1 dL_law_336 (by decide) ?_
  refine lv_iadd C.1 C.2.1 dL_law_337 ?_
  refine va_sld C.1 C.2.1 hX hbl hbA hH.2.2.2.1 (hin 2 (by decide)) dL_law_338 ?_
  refine callLX C hH (av := [.int (xs (x3 + 1).toNatClampNeg), .int (xs (x3 + 2).toNatClampNeg)]) (rest := []) (mX_remove l G aX dX σ (xs (x3 + 1).toNatClampNeg) (xs (x3 + 2).toNatClampNeg) (rel_okX hR)) gLX_remove hLX_remove (by decide) rfl hl.1 rfl (Nat.le_of_ble_eq_true rfl) dL_law_339 ⟨Nat.le_of_ble_eq_true rfl, Nat.le_of_ble_eq_true rfl⟩ (fun r_X u_X H locs hH hw_X => ?_)
  refine lv_aload_n C.1 C.2.1 dL_law_342 rfl (lv_at hl 2 rfl) ?_
  refine lv_aload_n C.1 C.2.1 dL_law_343 rfl (lv_at hl 0 rfl) ?_
  refine lv_iload_n C.1 C.2.1 dL_law_344 rfl (lv_at hl 3 rfl) ?_
  refine lv_iconst (v := 1) C.1 C.2.1 dL_law_345 (by decide) ?_
  refine lv_iadd C.1 C.2.1 dL_law_346 ?_
  refine va_sld C.1 C.2.1 hX hbl hbA hH.2.2.2.1 (hin 1 (by decide)) dL_law_347 ?_
  refine lv_aload_n C.1 C.2.1 dL_law_348 rfl (lv_at hl 0 rfl) ?_
  refine lv_iload_n C.1 C.2.1 dL_law_349 rfl (lv_at hl 3 rfl) ?_
  refine lv_iconst (v := 2) C.1 C.2.1 dL_law_350 (by decide) ?_
  refine lv_iadd C.1 C.2.1 dL_law_351 ?_
  refine va_sld C.1 C.2.1 hX hbl hbA hH.2.2.2.1 (hin 2 (by decide)) dL_law_352 ?_
  refine callLY C hH (av := [.int (xs (x3 + 1).toNatClampNeg), .int (xs (x3 + 2).toNatClampNeg)]) (rest := [.int r_X]) (mY_remove l G aY dY τ (xs (x3 + 1).toNatClampNeg) (xs (x3 + 2).toNatClampNeg) (rel_okY hR)) gLY_remove hLY_remove (by decide) rfl hl.1 rfl (Nat.le_of_ble_eq_true rfl) dL_law_353 ⟨Nat.le_of_ble_eq_true rfl, Nat.le_of_ble_eq_true rfl⟩ (fun r_Y u_Y H locs hH hw_Y => ?_)
  obtain ⟨rfl, rfl⟩ : (fX_remove σ (xs (x3 + 1).toNatClampNeg) (xs (x3 + 2).toNatClampNeg)).1 = r_X ∧ (fX_remove σ (xs (x3 + 1).toNatClampNeg) (xs (x3 + 2).toNatClampNeg)).2 = u_X := ⟨(congrArg Prod.fst hw_X).symm, (congrArg Prod.snd hw_X).symm⟩
  obtain ⟨rfl, rfl⟩ : (fY_remove τ (xs (x3 + 1).toNatClampNeg) (xs (x3 + 2).toNatClampNeg)).1 = r_Y ∧ (fY_remove τ (xs (x3 + 1).toNatClampNeg) (xs (x3 + 2).toNatClampNeg)).2 = u_Y := ⟨(congrArg Prod.fst hw_Y).symm, (congrArg Prod.snd hw_Y).symm⟩
  exact lv_icmp_eq (tgt := 634) C.1 C.2.1 dL_law_356 (by decide) (fun _ => kk _ _ _ _ (pu_remove hR (xs (x3 + 1).toNatClampNeg) (xs (x3 + 2).toNatClampNeg)).2 hH) (fun q => absurd (pu_remove hR (xs (x3 + 1).toNatClampNeg) (xs (x3 + 2).toNatClampNeg)).1 q)
theorem gLX_rename : GoodIn lw_all (wsV R_law 44 RX0 yX0_rename (ws_ yX0_rename cX0_rename 9 (some .int))) := lw_V q132 q133 q134 q23 q135
theorem hLX_rename : yX0_rename.cls = RX0 ∧ yX0_rename.cls ≠ "java/lang/invoke/MethodHandle" ∧ yX0_rename.cls ≠ "java/lang/invoke/VarHandle" ∧ (parseMethodDescriptor yX0_rename.desc).map (fun d => d.parameters.length) = some 3 := by decide +kernel
theorem gLY_rename : GoodIn lw_all (wsV R_law 47 RX1 yX1_rename (ws_ yX1_rename cX1_rename 5 (some .int))) := lw_V q268 q269 q270 q24 q271
theorem hLY_rename : yX1_rename.cls = RX1 ∧ yX1_rename.cls ≠ "java/lang/invoke/MethodHandle" ∧ yX1_rename.cls ≠ "java/lang/invoke/VarHandle" ∧ (parseMethodDescriptor yX1_rename.desc).map (fun d => d.parameters.length) = some 3 := by decide +kernel
set_option maxHeartbeats 4000000 in
theorem law_7 {p : Program} {l : Launch} {e : Env} {s : State} {m : MethodId} {below : List Frame} {meth : Method} {c : Code} {b L : Nat} {xs : Nat → Int32} {G : va_G} {aX aY : Nat → Nat} {dX dY : Nat → ClassId} {A : Nat → Prop} {σ : SX} {τ : SY} {x3 : Int32} {H : Heap} {locs : List Loc} {ls : Array Slot} (C : CallFix p m c cL_law 4 s #[Value.ref b] lw_all R_law) (hX : va_X b L xs s s.heap) (hbl : b < s.heap.size) (hbA : ¬ A b) (hin : ∀ j : Int32, j = 1 ∨ j = 2 ∨ j = 3 → vp_in (x3 + j) L) (hR : Rel σ τ) (hH : AtL G aX dX aY dY A s σ τ H locs) (hl : lv_has ls 4 [(0, .ref b), (1, .ref (aX 0)), (2, .ref (aY 0)), (3, .int x3)])
    (kk : ∀ (σ' : SX) (τ' : SY) (H : Heap) (locs : List Loc), Rel σ' τ' → AtL G aX dX aY dY A s σ' τ' H locs → W p l e room_1 s m #[Value.ref b] below meth c H locs 15 263 (lw_Z below #[Value.ref b] s) (F0 m 634 ls [])) : W p l e room_1 s m #[Value.ref b] below meth c H locs 15 263 (lw_Z below #[Value.ref b] s) (F0 m 361 ls []) := by
  refine lv_aload_n C.1 C.2.1 dL_law_361 rfl (lv_at hl 1 rfl) ?_
  refine lv_aload_n C.1 C.2.1 dL_law_362 rfl (lv_at hl 0 rfl) ?_
  refine lv_iload_n C.1 C.2.1 dL_law_363 rfl (lv_at hl 3 rfl) ?_
  refine lv_iconst (v := 1) C.1 C.2.1 dL_law_364 (by decide) ?_
  refine lv_iadd C.1 C.2.1 dL_law_365 ?_
  refine va_sld C.1 C.2.1 hX hbl hbA hH.2.2.2.1 (hin 1 (by decide)) dL_law_366 ?_
  refine lv_aload_n C.1 C.2.1 dL_law_367 rfl (lv_at hl 0 rfl) ?_
  refine lv_iload_n C.1 C.2.1 dL_law_368 rfl (lv_at hl 3 rfl) ?_
  refine lv_iconst (v := 2) C.1 C.2.1 dL_law_369 (by decide) ?_
  refine lv_iadd C.1 C.2.1 dL_law_370 ?_
  refine va_sld C.1 C.2.1 hX hbl hbA hH.2.2.2.1 (hin 2 (by decide)) dL_law_371 ?_
  refine lv_aload_n C.1 C.2.1 dL_law_372 rfl (lv_at hl 0 rfl) ?_
  refine lv_iload_n C.1 C.2.1 dL_law_373 rfl (lv_at hl 3 rfl) ?_
  refine lv_iconst (v := 3) C.1 C.2.1 dL_law_374 (by decide) ?_
  refine lv_iadd C.1 C.2.1 dL_law_375 ?_
  refine va_sld C.1 C.2.1 hX hbl hbA hH.2.2.2.1 (hin 3 (by decide)) dL_law_376 ?_
  refine callLX C hH (av := [.int (xs (x3 + 1).toNatClampNeg), .int (xs (x3 + 2).toNatClampNeg), .int (xs (x3 + 3).toNatClampNeg)]) (rest := []) (mX_rename l G aX dX σ (xs (x3 + 1).toNatClampNeg) (xs (x3 + 2).toNatClampNeg) (xs (x3 + 3).toNatClampNeg) (rel_okX hR)) gLX_rename hLX_rename (by decide) rfl hl.1 rfl (Nat.le_of_ble_eq_true rfl) dL_law_377 ⟨Nat.le_of_ble_eq_true rfl, Nat.le_of_ble_eq_true rfl⟩ (fun r_X u_X H locs hH hw_X => ?_)
  refine lv_aload_n C.1 C.2.1 dL_law_380 rfl (lv_at hl 2 rfl) ?_
  refine lv_aload_n C.1 C.2.1 dL_law_381 rfl (lv_at hl 0 rfl) ?_
  refine lv_iload_n C.1 C.2.1 dL_law_382 rfl (lv_at hl 3 rfl) ?_
  refine lv_iconst (v := 1) C.1 C.2.1 dL_law_383 (by decide) ?_
  refine lv_iadd C.1 C.2.1 dL_law_384 ?_
  refine va_sld C.1 C.2.1 hX hbl hbA hH.2.2.2.1 (hin 1 (by decide)) dL_law_385 ?_
  refine lv_aload_n C.1 C.2.1 dL_law_386 rfl (lv_at hl 0 rfl) ?_
  refine lv_iload_n C.1 C.2.1 dL_law_387 rfl (lv_at hl 3 rfl) ?_
  refine lv_iconst (v := 2) C.1 C.2.1 dL_law_388 (by decide) ?_
  refine lv_iadd C.1 C.2.1 dL_law_389 ?_
  refine va_sld C.1 C.2.1 hX hbl hbA hH.2.2.2.1 (hin 2 (by decide)) dL_law_390 ?_
  refine lv_aload_n C.1 C.2.1 dL_law_391 rfl (lv_at hl 0 rfl) ?_
  refine lv_iload_n C.1 C.2.1 dL_law_392 rfl (lv_at hl 3 rfl) ?_
  refine lv_iconst (v := 3) C.1 C.2.1 dL_law_393 (by decide) ?_
  refine lv_iadd C.1 C.2.1 dL_law_394 ?_
  refine va_sld C.1 C.2.1 hX hbl hbA hH.2.2.2.1 (hin 3 (by decide)) dL_law_395 ?_
  refine callLY C hH (av := [.int (xs (x3 + 1).toNatClampNeg), .int (xs (x3 + 2).toNatClampNeg), .int (xs (x3 + 3).toNatClampNeg)]) (rest := [.int r_X]) (mY_rename l G aY dY τ (xs (x3 + 1).toNatClampNeg) (xs (x3 + 2).toNatClampNeg) (xs (x3 + 3).toNatClampNeg) (rel_okY hR)) gLY_rename hLY_rename (by decide) rfl hl.1 rfl (Nat.le_of_ble_eq_true rfl) dL_law_396 ⟨Nat.le_of_ble_eq_true rfl, Nat.le_of_ble_eq_true rfl⟩ (fun r_Y u_Y H locs hH hw_Y => ?_)
  obtain ⟨rfl, rfl⟩ : (fX_rename σ (xs (x3 + 1).toNatClampNeg) (xs (x3 + 2).toNatClampNeg) (xs (x3 + 3).toNatClampNeg)).1 = r_X ∧ (fX_rename σ (xs (x3 + 1).toNatClampNeg) (xs (x3 + 2).toNatClampNeg) (xs (x3 + 3).toNatClampNeg)).2 = u_X := ⟨(congrArg Prod.fst hw_X).symm, (congrArg Prod.snd hw_X).symm⟩
  obtain ⟨rfl, rfl⟩ : (fY_rename τ (xs (x3 + 1).toNatClampNeg) (xs (x3 + 2).toNatClampNeg) (xs (x3 + 3).toNatClampNeg)).1 = r_Y ∧ (fY_rename τ (xs (x3 + 1).toNatClampNeg) (xs (x3 + 2).toNatClampNeg) (xs (x3 + 3).toNatClampNeg)).2 = u_Y := ⟨(congrArg Prod.fst hw_Y).symm, (congrArg Prod.snd hw_Y).symm⟩
  exact lv_icmp_eq (tgt := 634) C.1 C.2.1 dL_law_399 (by decide) (fun _ => kk _ _ _ _ (pu_rename hR (xs (x3 + 1).toNatClampNeg) (xs (x3 + 2).toNatClampNeg) (xs (x3 + 3).toNatClampNeg)).2 hH) (fun q => absurd (pu_rename hR (xs (x3 + 1).toNatClampNeg) (xs (x3 + 2).toNatClampNeg) (xs (x3 + 3).toNatClampNeg)).1 q)
theorem gLX_read : GoodIn lw_all (wsV R_law 48 RX0 yX0_read (ws_ yX0_read cX0_read 5 (some .int))) := lw_V q136 q137 q138 q23 q139
theorem hLX_read : yX0_read.cls = RX0 ∧ yX0_read.cls ≠ "java/lang/invoke/MethodHandle" ∧ yX0_read.cls ≠ "java/lang/invoke/VarHandle" ∧ (parseMethodDescriptor yX0_read.desc).map (fun d => d.parameters.length) = some 2 := by decide +kernel
theorem gLY_read : GoodIn lw_all (wsV R_law 51 RX1 yX1_read (ws_ yX1_read cX1_read 3 (some .int))) := lw_V q272 q273 q274 q24 q275
theorem hLY_read : yX1_read.cls = RX1 ∧ yX1_read.cls ≠ "java/lang/invoke/MethodHandle" ∧ yX1_read.cls ≠ "java/lang/invoke/VarHandle" ∧ (parseMethodDescriptor yX1_read.desc).map (fun d => d.parameters.length) = some 2 := by decide +kernel
set_option maxHeartbeats 4000000 in
theorem law_8 {p : Program} {l : Launch} {e : Env} {s : State} {m : MethodId} {below : List Frame} {meth : Method} {c : Code} {b L : Nat} {xs : Nat → Int32} {G : va_G} {aX aY : Nat → Nat} {dX dY : Nat → ClassId} {A : Nat → Prop} {σ : SX} {τ : SY} {x3 : Int32} {H : Heap} {locs : List Loc} {ls : Array Slot} (C : CallFix p m c cL_law 4 s #[Value.ref b] lw_all R_law) (hX : va_X b L xs s s.heap) (hbl : b < s.heap.size) (hbA : ¬ A b) (hin : ∀ j : Int32, j = 1 ∨ j = 2 ∨ j = 3 → vp_in (x3 + j) L) (hR : Rel σ τ) (hH : AtL G aX dX aY dY A s σ τ H locs) (hl : lv_has ls 4 [(0, .ref b), (1, .ref (aX 0)), (2, .ref (aY 0)), (3, .int x3)])
    (kk : ∀ (σ' : SX) (τ' : SY) (H : Heap) (locs : List Loc), Rel σ' τ' → AtL G aX dX aY dY A s σ' τ' H locs → W p l e room_1 s m #[Value.ref b] below meth c H locs 15 263 (lw_Z below #[Value.ref b] s) (F0 m 634 ls [])) : W p l e room_1 s m #[Value.ref b] below meth c H locs 15 263 (lw_Z below #[Value.ref b] s) (F0 m 404 ls []) := by
  refine lv_aload_n C.1 C.2.1 dL_law_404 rfl (lv_at hl 1 rfl) ?_
  refine lv_aload_n C.1 C.2.1 dL_law_405 rfl (lv_at hl 0 rfl) ?_
  refine lv_iload_n C.1 C.2.1 dL_law_406 rfl (lv_at hl 3 rfl) ?_
  refine lv_iconst (v := 1) C.1 C.2.1 dL_law_407 (by decide) ?_
  refine lv_iadd C.1 C.2.1 dL_law_408 ?_
  refine va_sld C.1 C.2.1 hX hbl hbA hH.2.2.2.1 (hin 1 (by decide)) dL_law_409 ?_
  refine lv_aload_n C.1 C.2.1 dL_law_410 rfl (lv_at hl 0 rfl) ?_
  refine lv_iload_n C.1 C.2.1 dL_law_411 rfl (lv_at hl 3 rfl) ?_
  refine lv_iconst (v := 2) C.1 C.2.1 dL_law_412 (by decide) ?_
  refine lv_iadd C.1 C.2.1 dL_law_413 ?_
  refine va_sld C.1 C.2.1 hX hbl hbA hH.2.2.2.1 (hin 2 (by decide)) dL_law_414 ?_
  refine callLX C hH (av := [.int (xs (x3 + 1).toNatClampNeg), .int (xs (x3 + 2).toNatClampNeg)]) (rest := []) (mX_read l G aX dX σ (xs (x3 + 1).toNatClampNeg) (xs (x3 + 2).toNatClampNeg) (rel_okX hR)) gLX_read hLX_read (by decide) rfl hl.1 rfl (Nat.le_of_ble_eq_true rfl) dL_law_415 ⟨Nat.le_of_ble_eq_true rfl, Nat.le_of_ble_eq_true rfl⟩ (fun r_X u_X H locs hH hw_X => ?_)
  refine lv_aload_n C.1 C.2.1 dL_law_418 rfl (lv_at hl 2 rfl) ?_
  refine lv_aload_n C.1 C.2.1 dL_law_419 rfl (lv_at hl 0 rfl) ?_
  refine lv_iload_n C.1 C.2.1 dL_law_420 rfl (lv_at hl 3 rfl) ?_
  refine lv_iconst (v := 1) C.1 C.2.1 dL_law_421 (by decide) ?_
  refine lv_iadd C.1 C.2.1 dL_law_422 ?_
  refine va_sld C.1 C.2.1 hX hbl hbA hH.2.2.2.1 (hin 1 (by decide)) dL_law_423 ?_
  refine lv_aload_n C.1 C.2.1 dL_law_424 rfl (lv_at hl 0 rfl) ?_
  refine lv_iload_n C.1 C.2.1 dL_law_425 rfl (lv_at hl 3 rfl) ?_
  refine lv_iconst (v := 2) C.1 C.2.1 dL_law_426 (by decide) ?_
  refine lv_iadd C.1 C.2.1 dL_law_427 ?_
  refine va_sld C.1 C.2.1 hX hbl hbA hH.2.2.2.1 (hin 2 (by decide)) dL_law_428 ?_
  refine callLY C hH (av := [.int (xs (x3 + 1).toNatClampNeg), .int (xs (x3 + 2).toNatClampNeg)]) (rest := [.int r_X]) (mY_read l G aY dY τ (xs (x3 + 1).toNatClampNeg) (xs (x3 + 2).toNatClampNeg) (rel_okY hR)) gLY_read hLY_read (by decide) rfl hl.1 rfl (Nat.le_of_ble_eq_true rfl) dL_law_429 ⟨Nat.le_of_ble_eq_true rfl, Nat.le_of_ble_eq_true rfl⟩ (fun r_Y u_Y H locs hH hw_Y => ?_)
  obtain ⟨rfl, rfl⟩ : (fX_read σ (xs (x3 + 1).toNatClampNeg) (xs (x3 + 2).toNatClampNeg)) = r_X ∧ σ = u_X := ⟨(congrArg Prod.fst hw_X).symm, (congrArg Prod.snd hw_X).symm⟩
  obtain ⟨rfl, rfl⟩ : (fY_read τ (xs (x3 + 1).toNatClampNeg) (xs (x3 + 2).toNatClampNeg)) = r_Y ∧ τ = u_Y := ⟨(congrArg Prod.fst hw_Y).symm, (congrArg Prod.snd hw_Y).symm⟩
  exact lv_icmp_eq (tgt := 634) C.1 C.2.1 dL_law_432 (by decide) (fun _ => kk _ _ _ _ hR hH) (fun q => absurd (pu_read hR (xs (x3 + 1).toNatClampNeg) (xs (x3 + 2).toNatClampNeg)) q)
theorem gLX_files : GoodIn lw_all (wsV R_law 52 RX0 yX0_files (ws_ yX0_files cX0_files 3 (some .int))) := lw_V q140 q141 q142 q23 q143
theorem hLX_files : yX0_files.cls = RX0 ∧ yX0_files.cls ≠ "java/lang/invoke/MethodHandle" ∧ yX0_files.cls ≠ "java/lang/invoke/VarHandle" ∧ (parseMethodDescriptor yX0_files.desc).map (fun d => d.parameters.length) = some 1 := by decide +kernel
theorem gLY_files : GoodIn lw_all (wsV R_law 55 RX1 yX1_files (ws_ yX1_files cX1_files 3 (some .int))) := lw_V q276 q277 q278 q24 q279
theorem hLY_files : yX1_files.cls = RX1 ∧ yX1_files.cls ≠ "java/lang/invoke/MethodHandle" ∧ yX1_files.cls ≠ "java/lang/invoke/VarHandle" ∧ (parseMethodDescriptor yX1_files.desc).map (fun d => d.parameters.length) = some 1 := by decide +kernel
set_option maxHeartbeats 4000000 in
theorem law_9 {p : Program} {l : Launch} {e : Env} {s : State} {m : MethodId} {below : List Frame} {meth : Method} {c : Code} {b L : Nat} {xs : Nat → Int32} {G : va_G} {aX aY : Nat → Nat} {dX dY : Nat → ClassId} {A : Nat → Prop} {σ : SX} {τ : SY} {x3 : Int32} {H : Heap} {locs : List Loc} {ls : Array Slot} (C : CallFix p m c cL_law 4 s #[Value.ref b] lw_all R_law) (hX : va_X b L xs s s.heap) (hbl : b < s.heap.size) (hbA : ¬ A b) (hin : ∀ j : Int32, j = 1 ∨ j = 2 ∨ j = 3 → vp_in (x3 + j) L) (hR : Rel σ τ) (hH : AtL G aX dX aY dY A s σ τ H locs) (hl : lv_has ls 4 [(0, .ref b), (1, .ref (aX 0)), (2, .ref (aY 0)), (3, .int x3)])
    (kk : ∀ (σ' : SX) (τ' : SY) (H : Heap) (locs : List Loc), Rel σ' τ' → AtL G aX dX aY dY A s σ' τ' H locs → W p l e room_1 s m #[Value.ref b] below meth c H locs 15 263 (lw_Z below #[Value.ref b] s) (F0 m 634 ls [])) : W p l e room_1 s m #[Value.ref b] below meth c H locs 15 263 (lw_Z below #[Value.ref b] s) (F0 m 437 ls []) := by
  refine lv_aload_n C.1 C.2.1 dL_law_437 rfl (lv_at hl 1 rfl) ?_
  refine lv_aload_n C.1 C.2.1 dL_law_438 rfl (lv_at hl 0 rfl) ?_
  refine lv_iload_n C.1 C.2.1 dL_law_439 rfl (lv_at hl 3 rfl) ?_
  refine lv_iconst (v := 1) C.1 C.2.1 dL_law_440 (by decide) ?_
  refine lv_iadd C.1 C.2.1 dL_law_441 ?_
  refine va_sld C.1 C.2.1 hX hbl hbA hH.2.2.2.1 (hin 1 (by decide)) dL_law_442 ?_
  refine callLX C hH (av := [.int (xs (x3 + 1).toNatClampNeg)]) (rest := []) (mX_files l G aX dX σ (xs (x3 + 1).toNatClampNeg) (rel_okX hR)) gLX_files hLX_files (by decide) rfl hl.1 rfl (Nat.le_of_ble_eq_true rfl) dL_law_443 ⟨Nat.le_of_ble_eq_true rfl, Nat.le_of_ble_eq_true rfl⟩ (fun r_X u_X H locs hH hw_X => ?_)
  refine lv_aload_n C.1 C.2.1 dL_law_446 rfl (lv_at hl 2 rfl) ?_
  refine lv_aload_n C.1 C.2.1 dL_law_447 rfl (lv_at hl 0 rfl) ?_
  refine lv_iload_n C.1 C.2.1 dL_law_448 rfl (lv_at hl 3 rfl) ?_
  refine lv_iconst (v := 1) C.1 C.2.1 dL_law_449 (by decide) ?_
  refine lv_iadd C.1 C.2.1 dL_law_450 ?_
  refine va_sld C.1 C.2.1 hX hbl hbA hH.2.2.2.1 (hin 1 (by decide)) dL_law_451 ?_
  refine callLY C hH (av := [.int (xs (x3 + 1).toNatClampNeg)]) (rest := [.int r_X]) (mY_files l G aY dY τ (xs (x3 + 1).toNatClampNeg) (rel_okY hR)) gLY_files hLY_files (by decide) rfl hl.1 rfl (Nat.le_of_ble_eq_true rfl) dL_law_452 ⟨Nat.le_of_ble_eq_true rfl, Nat.le_of_ble_eq_true rfl⟩ (fun r_Y u_Y H locs hH hw_Y => ?_)
  obtain ⟨rfl, rfl⟩ : (fX_files σ (xs (x3 + 1).toNatClampNeg)) = r_X ∧ σ = u_X := ⟨(congrArg Prod.fst hw_X).symm, (congrArg Prod.snd hw_X).symm⟩
  obtain ⟨rfl, rfl⟩ : (fY_files τ (xs (x3 + 1).toNatClampNeg)) = r_Y ∧ τ = u_Y := ⟨(congrArg Prod.fst hw_Y).symm, (congrArg Prod.snd hw_Y).symm⟩
  exact lv_icmp_eq (tgt := 634) C.1 C.2.1 dL_law_455 (by decide) (fun _ => kk _ _ _ _ hR hH) (fun q => absurd (pu_files hR (xs (x3 + 1).toNatClampNeg)) q)
theorem gLX_directories : GoodIn lw_all (wsV R_law 56 RX0 yX0_directories (ws_ yX0_directories cX0_directories 6 (some .int))) := lw_V q144 q145 q146 q23 q147
theorem hLX_directories : yX0_directories.cls = RX0 ∧ yX0_directories.cls ≠ "java/lang/invoke/MethodHandle" ∧ yX0_directories.cls ≠ "java/lang/invoke/VarHandle" ∧ (parseMethodDescriptor yX0_directories.desc).map (fun d => d.parameters.length) = some 1 := by decide +kernel
theorem gLY_directories : GoodIn lw_all (wsV R_law 59 RX1 yX1_directories (ws_ yX1_directories cX1_directories 3 (some .int))) := lw_V q280 q281 q282 q24 q283
theorem hLY_directories : yX1_directories.cls = RX1 ∧ yX1_directories.cls ≠ "java/lang/invoke/MethodHandle" ∧ yX1_directories.cls ≠ "java/lang/invoke/VarHandle" ∧ (parseMethodDescriptor yX1_directories.desc).map (fun d => d.parameters.length) = some 1 := by decide +kernel
set_option maxHeartbeats 4000000 in
theorem law_10 {p : Program} {l : Launch} {e : Env} {s : State} {m : MethodId} {below : List Frame} {meth : Method} {c : Code} {b L : Nat} {xs : Nat → Int32} {G : va_G} {aX aY : Nat → Nat} {dX dY : Nat → ClassId} {A : Nat → Prop} {σ : SX} {τ : SY} {x3 : Int32} {H : Heap} {locs : List Loc} {ls : Array Slot} (C : CallFix p m c cL_law 4 s #[Value.ref b] lw_all R_law) (hX : va_X b L xs s s.heap) (hbl : b < s.heap.size) (hbA : ¬ A b) (hin : ∀ j : Int32, j = 1 ∨ j = 2 ∨ j = 3 → vp_in (x3 + j) L) (hR : Rel σ τ) (hH : AtL G aX dX aY dY A s σ τ H locs) (hl : lv_has ls 4 [(0, .ref b), (1, .ref (aX 0)), (2, .ref (aY 0)), (3, .int x3)])
    (kk : ∀ (σ' : SX) (τ' : SY) (H : Heap) (locs : List Loc), Rel σ' τ' → AtL G aX dX aY dY A s σ' τ' H locs → W p l e room_1 s m #[Value.ref b] below meth c H locs 15 263 (lw_Z below #[Value.ref b] s) (F0 m 634 ls [])) : W p l e room_1 s m #[Value.ref b] below meth c H locs 15 263 (lw_Z below #[Value.ref b] s) (F0 m 460 ls []) := by
  refine lv_aload_n C.1 C.2.1 dL_law_460 rfl (lv_at hl 1 rfl) ?_
  refine lv_aload_n C.1 C.2.1 dL_law_461 rfl (lv_at hl 0 rfl) ?_
  refine lv_iload_n C.1 C.2.1 dL_law_462 rfl (lv_at hl 3 rfl) ?_
  refine lv_iconst (v := 1) C.1 C.2.1 dL_law_463 (by decide) ?_
  refine lv_iadd C.1 C.2.1 dL_law_464 ?_
  refine va_sld C.1 C.2.1 hX hbl hbA hH.2.2.2.1 (hin 1 (by decide)) dL_law_465 ?_
  refine callLX C hH (av := [.int (xs (x3 + 1).toNatClampNeg)]) (rest := []) (mX_directories l G aX dX σ (xs (x3 + 1).toNatClampNeg) (rel_okX hR)) gLX_directories hLX_directories (by decide) rfl hl.1 rfl (Nat.le_of_ble_eq_true rfl) dL_law_466 ⟨Nat.le_of_ble_eq_true rfl, Nat.le_of_ble_eq_true rfl⟩ (fun r_X u_X H locs hH hw_X => ?_)
  refine lv_aload_n C.1 C.2.1 dL_law_469 rfl (lv_at hl 2 rfl) ?_
  refine lv_aload_n C.1 C.2.1 dL_law_470 rfl (lv_at hl 0 rfl) ?_
  refine lv_iload_n C.1 C.2.1 dL_law_471 rfl (lv_at hl 3 rfl) ?_
  refine lv_iconst (v := 1) C.1 C.2.1 dL_law_472 (by decide) ?_
  refine lv_iadd C.1 C.2.1 dL_law_473 ?_
  refine va_sld C.1 C.2.1 hX hbl hbA hH.2.2.2.1 (hin 1 (by decide)) dL_law_474 ?_
  refine callLY C hH (av := [.int (xs (x3 + 1).toNatClampNeg)]) (rest := [.int r_X]) (mY_directories l G aY dY τ (xs (x3 + 1).toNatClampNeg) (rel_okY hR)) gLY_directories hLY_directories (by decide) rfl hl.1 rfl (Nat.le_of_ble_eq_true rfl) dL_law_475 ⟨Nat.le_of_ble_eq_true rfl, Nat.le_of_ble_eq_true rfl⟩ (fun r_Y u_Y H locs hH hw_Y => ?_)
  obtain ⟨rfl, rfl⟩ : (fX_directories σ (xs (x3 + 1).toNatClampNeg)) = r_X ∧ σ = u_X := ⟨(congrArg Prod.fst hw_X).symm, (congrArg Prod.snd hw_X).symm⟩
  obtain ⟨rfl, rfl⟩ : (fY_directories τ (xs (x3 + 1).toNatClampNeg)) = r_Y ∧ τ = u_Y := ⟨(congrArg Prod.fst hw_Y).symm, (congrArg Prod.snd hw_Y).symm⟩
  exact lv_icmp_eq (tgt := 634) C.1 C.2.1 dL_law_478 (by decide) (fun _ => kk _ _ _ _ hR hH) (fun q => absurd (pu_directories hR (xs (x3 + 1).toNatClampNeg)) q)
theorem gLX_commit : GoodIn lw_all (wsV R_law 60 RX0 yX0_commit (ws_ yX0_commit cX0_commit 5 (some .int))) := lw_V q148 q149 q150 q23 q151
theorem hLX_commit : yX0_commit.cls = RX0 ∧ yX0_commit.cls ≠ "java/lang/invoke/MethodHandle" ∧ yX0_commit.cls ≠ "java/lang/invoke/VarHandle" ∧ (parseMethodDescriptor yX0_commit.desc).map (fun d => d.parameters.length) = some 1 := by decide +kernel
theorem gLY_commit : GoodIn lw_all (wsV R_law 63 RX1 yX1_commit (ws_ yX1_commit cX1_commit 3 (some .int))) := lw_V q284 q285 q286 q24 q287
theorem hLY_commit : yX1_commit.cls = RX1 ∧ yX1_commit.cls ≠ "java/lang/invoke/MethodHandle" ∧ yX1_commit.cls ≠ "java/lang/invoke/VarHandle" ∧ (parseMethodDescriptor yX1_commit.desc).map (fun d => d.parameters.length) = some 1 := by decide +kernel
set_option maxHeartbeats 4000000 in
theorem law_11 {p : Program} {l : Launch} {e : Env} {s : State} {m : MethodId} {below : List Frame} {meth : Method} {c : Code} {b L : Nat} {xs : Nat → Int32} {G : va_G} {aX aY : Nat → Nat} {dX dY : Nat → ClassId} {A : Nat → Prop} {σ : SX} {τ : SY} {x3 : Int32} {H : Heap} {locs : List Loc} {ls : Array Slot} (C : CallFix p m c cL_law 4 s #[Value.ref b] lw_all R_law) (hX : va_X b L xs s s.heap) (hbl : b < s.heap.size) (hbA : ¬ A b) (hin : ∀ j : Int32, j = 1 ∨ j = 2 ∨ j = 3 → vp_in (x3 + j) L) (hR : Rel σ τ) (hH : AtL G aX dX aY dY A s σ τ H locs) (hl : lv_has ls 4 [(0, .ref b), (1, .ref (aX 0)), (2, .ref (aY 0)), (3, .int x3)])
    (kk : ∀ (σ' : SX) (τ' : SY) (H : Heap) (locs : List Loc), Rel σ' τ' → AtL G aX dX aY dY A s σ' τ' H locs → W p l e room_1 s m #[Value.ref b] below meth c H locs 15 263 (lw_Z below #[Value.ref b] s) (F0 m 634 ls [])) : W p l e room_1 s m #[Value.ref b] below meth c H locs 15 263 (lw_Z below #[Value.ref b] s) (F0 m 483 ls []) := by
  refine lv_aload_n C.1 C.2.1 dL_law_483 rfl (lv_at hl 1 rfl) ?_
  refine lv_aload_n C.1 C.2.1 dL_law_484 rfl (lv_at hl 0 rfl) ?_
  refine lv_iload_n C.1 C.2.1 dL_law_485 rfl (lv_at hl 3 rfl) ?_
  refine lv_iconst (v := 1) C.1 C.2.1 dL_law_486 (by decide) ?_
  refine lv_iadd C.1 C.2.1 dL_law_487 ?_
  refine va_sld C.1 C.2.1 hX hbl hbA hH.2.2.2.1 (hin 1 (by decide)) dL_law_488 ?_
  refine callLX C hH (av := [.int (xs (x3 + 1).toNatClampNeg)]) (rest := []) (mX_commit l G aX dX σ (xs (x3 + 1).toNatClampNeg) (rel_okX hR)) gLX_commit hLX_commit (by decide) rfl hl.1 rfl (Nat.le_of_ble_eq_true rfl) dL_law_489 ⟨Nat.le_of_ble_eq_true rfl, Nat.le_of_ble_eq_true rfl⟩ (fun r_X u_X H locs hH hw_X => ?_)
  refine lv_aload_n C.1 C.2.1 dL_law_492 rfl (lv_at hl 2 rfl) ?_
  refine lv_aload_n C.1 C.2.1 dL_law_493 rfl (lv_at hl 0 rfl) ?_
  refine lv_iload_n C.1 C.2.1 dL_law_494 rfl (lv_at hl 3 rfl) ?_
  refine lv_iconst (v := 1) C.1 C.2.1 dL_law_495 (by decide) ?_
  refine lv_iadd C.1 C.2.1 dL_law_496 ?_
  refine va_sld C.1 C.2.1 hX hbl hbA hH.2.2.2.1 (hin 1 (by decide)) dL_law_497 ?_
  refine callLY C hH (av := [.int (xs (x3 + 1).toNatClampNeg)]) (rest := [.int r_X]) (mY_commit l G aY dY τ (xs (x3 + 1).toNatClampNeg) (rel_okY hR)) gLY_commit hLY_commit (by decide) rfl hl.1 rfl (Nat.le_of_ble_eq_true rfl) dL_law_498 ⟨Nat.le_of_ble_eq_true rfl, Nat.le_of_ble_eq_true rfl⟩ (fun r_Y u_Y H locs hH hw_Y => ?_)
  obtain ⟨rfl, rfl⟩ : (fX_commit σ (xs (x3 + 1).toNatClampNeg)).1 = r_X ∧ (fX_commit σ (xs (x3 + 1).toNatClampNeg)).2 = u_X := ⟨(congrArg Prod.fst hw_X).symm, (congrArg Prod.snd hw_X).symm⟩
  obtain ⟨rfl, rfl⟩ : (fY_commit τ (xs (x3 + 1).toNatClampNeg)).1 = r_Y ∧ (fY_commit τ (xs (x3 + 1).toNatClampNeg)).2 = u_Y := ⟨(congrArg Prod.fst hw_Y).symm, (congrArg Prod.snd hw_Y).symm⟩
  exact lv_icmp_eq (tgt := 634) C.1 C.2.1 dL_law_501 (by decide) (fun _ => kk _ _ _ _ (pu_commit hR (xs (x3 + 1).toNatClampNeg)).2 hH) (fun q => absurd (pu_commit hR (xs (x3 + 1).toNatClampNeg)).1 q)
theorem gLX_drop : GoodIn lw_all (wsV R_law 64 RX0 yX0_drop (ws_ yX0_drop cX0_drop 4 (some .int))) := lw_V q152 q153 q154 q23 q155
theorem hLX_drop : yX0_drop.cls = RX0 ∧ yX0_drop.cls ≠ "java/lang/invoke/MethodHandle" ∧ yX0_drop.cls ≠ "java/lang/invoke/VarHandle" ∧ (parseMethodDescriptor yX0_drop.desc).map (fun d => d.parameters.length) = some 0 := by decide +kernel
theorem gLY_drop : GoodIn lw_all (wsV R_law 68 RX1 yX1_drop (ws_ yX1_drop cX1_drop 1 (some .int))) := lw_V q288 q289 q290 q24 q291
theorem hLY_drop : yX1_drop.cls = RX1 ∧ yX1_drop.cls ≠ "java/lang/invoke/MethodHandle" ∧ yX1_drop.cls ≠ "java/lang/invoke/VarHandle" ∧ (parseMethodDescriptor yX1_drop.desc).map (fun d => d.parameters.length) = some 0 := by decide +kernel
set_option maxHeartbeats 4000000 in
theorem law_12 {p : Program} {l : Launch} {e : Env} {s : State} {m : MethodId} {below : List Frame} {meth : Method} {c : Code} {b L : Nat} {xs : Nat → Int32} {G : va_G} {aX aY : Nat → Nat} {dX dY : Nat → ClassId} {A : Nat → Prop} {σ : SX} {τ : SY} {x3 : Int32} {H : Heap} {locs : List Loc} {ls : Array Slot} (C : CallFix p m c cL_law 4 s #[Value.ref b] lw_all R_law) (hX : va_X b L xs s s.heap) (hbl : b < s.heap.size) (hbA : ¬ A b) (hin : ∀ j : Int32, j = 1 ∨ j = 2 ∨ j = 3 → vp_in (x3 + j) L) (hR : Rel σ τ) (hH : AtL G aX dX aY dY A s σ τ H locs) (hl : lv_has ls 4 [(0, .ref b), (1, .ref (aX 0)), (2, .ref (aY 0)), (3, .int x3)])
    (kk : ∀ (σ' : SX) (τ' : SY) (H : Heap) (locs : List Loc), Rel σ' τ' → AtL G aX dX aY dY A s σ' τ' H locs → W p l e room_1 s m #[Value.ref b] below meth c H locs 15 263 (lw_Z below #[Value.ref b] s) (F0 m 634 ls [])) : W p l e room_1 s m #[Value.ref b] below meth c H locs 15 263 (lw_Z below #[Value.ref b] s) (F0 m 506 ls []) := by
  refine lv_aload_n C.1 C.2.1 dL_law_506 rfl (lv_at hl 1 rfl) ?_
  refine callLX C hH (av := []) (rest := []) (mX_drop l G aX dX σ  (rel_okX hR)) gLX_drop hLX_drop (by decide) rfl hl.1 rfl (Nat.le_of_ble_eq_true rfl) dL_law_507 ⟨Nat.le_of_ble_eq_true rfl, Nat.le_of_ble_eq_true rfl⟩ (fun r_X u_X H locs hH hw_X => ?_)
  refine lv_aload_n C.1 C.2.1 dL_law_510 rfl (lv_at hl 2 rfl) ?_
  refine callLY C hH (av := []) (rest := [.int r_X]) (mY_drop l G aY dY τ  (rel_okY hR)) gLY_drop hLY_drop (by decide) rfl hl.1 rfl (Nat.le_of_ble_eq_true rfl) dL_law_511 ⟨Nat.le_of_ble_eq_true rfl, Nat.le_of_ble_eq_true rfl⟩ (fun r_Y u_Y H locs hH hw_Y => ?_)
  obtain ⟨rfl, rfl⟩ : (fX_drop σ).1 = r_X ∧ (fX_drop σ).2 = u_X := ⟨(congrArg Prod.fst hw_X).symm, (congrArg Prod.snd hw_X).symm⟩
  obtain ⟨rfl, rfl⟩ : (fY_drop τ).1 = r_Y ∧ (fY_drop τ).2 = u_Y := ⟨(congrArg Prod.fst hw_Y).symm, (congrArg Prod.snd hw_Y).symm⟩
  exact lv_icmp_eq (tgt := 634) C.1 C.2.1 dL_law_514 (by decide) (fun _ => kk _ _ _ _ (pu_drop hR).2 hH) (fun q => absurd (pu_drop hR).1 q)
theorem gLX_layers : GoodIn lw_all (wsV R_law 69 RX0 yX0_layers (ws_ yX0_layers cX0_layers 1 (some .int))) := lw_V q156 q157 q158 q23 q159
theorem hLX_layers : yX0_layers.cls = RX0 ∧ yX0_layers.cls ≠ "java/lang/invoke/MethodHandle" ∧ yX0_layers.cls ≠ "java/lang/invoke/VarHandle" ∧ (parseMethodDescriptor yX0_layers.desc).map (fun d => d.parameters.length) = some 0 := by decide +kernel
theorem gLY_layers : GoodIn lw_all (wsV R_law 72 RX1 yX1_layers (ws_ yX1_layers cX1_layers 1 (some .int))) := lw_V q296 q297 q298 q24 q299
theorem hLY_layers : yX1_layers.cls = RX1 ∧ yX1_layers.cls ≠ "java/lang/invoke/MethodHandle" ∧ yX1_layers.cls ≠ "java/lang/invoke/VarHandle" ∧ (parseMethodDescriptor yX1_layers.desc).map (fun d => d.parameters.length) = some 0 := by decide +kernel
set_option maxHeartbeats 4000000 in
theorem law_13 {p : Program} {l : Launch} {e : Env} {s : State} {m : MethodId} {below : List Frame} {meth : Method} {c : Code} {b L : Nat} {xs : Nat → Int32} {G : va_G} {aX aY : Nat → Nat} {dX dY : Nat → ClassId} {A : Nat → Prop} {σ : SX} {τ : SY} {x3 : Int32} {H : Heap} {locs : List Loc} {ls : Array Slot} (C : CallFix p m c cL_law 4 s #[Value.ref b] lw_all R_law) (hX : va_X b L xs s s.heap) (hbl : b < s.heap.size) (hbA : ¬ A b) (hin : ∀ j : Int32, j = 1 ∨ j = 2 ∨ j = 3 → vp_in (x3 + j) L) (hR : Rel σ τ) (hH : AtL G aX dX aY dY A s σ τ H locs) (hl : lv_has ls 4 [(0, .ref b), (1, .ref (aX 0)), (2, .ref (aY 0)), (3, .int x3)])
    (kk : ∀ (σ' : SX) (τ' : SY) (H : Heap) (locs : List Loc), Rel σ' τ' → AtL G aX dX aY dY A s σ' τ' H locs → W p l e room_1 s m #[Value.ref b] below meth c H locs 15 263 (lw_Z below #[Value.ref b] s) (F0 m 634 ls [])) : W p l e room_1 s m #[Value.ref b] below meth c H locs 15 263 (lw_Z below #[Value.ref b] s) (F0 m 519 ls []) := by
  refine lv_aload_n C.1 C.2.1 dL_law_519 rfl (lv_at hl 1 rfl) ?_
  refine callLX C hH (av := []) (rest := []) (mX_layers l G aX dX σ  ) gLX_layers hLX_layers (by decide) rfl hl.1 rfl (Nat.le_of_ble_eq_true rfl) dL_law_520 ⟨Nat.le_of_ble_eq_true rfl, Nat.le_of_ble_eq_true rfl⟩ (fun r_X u_X H locs hH hw_X => ?_)
  refine lv_aload_n C.1 C.2.1 dL_law_523 rfl (lv_at hl 2 rfl) ?_
  refine callLY C hH (av := []) (rest := [.int r_X]) (mY_layers l G aY dY τ  ) gLY_layers hLY_layers (by decide) rfl hl.1 rfl (Nat.le_of_ble_eq_true rfl) dL_law_524 ⟨Nat.le_of_ble_eq_true rfl, Nat.le_of_ble_eq_true rfl⟩ (fun r_Y u_Y H locs hH hw_Y => ?_)
  obtain ⟨rfl, rfl⟩ : (fX_layers σ) = r_X ∧ σ = u_X := ⟨(congrArg Prod.fst hw_X).symm, (congrArg Prod.snd hw_X).symm⟩
  obtain ⟨rfl, rfl⟩ : (fY_layers τ) = r_Y ∧ τ = u_Y := ⟨(congrArg Prod.fst hw_Y).symm, (congrArg Prod.snd hw_Y).symm⟩
  exact lv_icmp_eq (tgt := 634) C.1 C.2.1 dL_law_527 (by decide) (fun _ => kk _ _ _ _ hR hH) (fun q => absurd (pu_layers hR) q)
theorem gLX_base : GoodIn lw_all (wsV R_law 73 RX0 yX0_base (ws_ yX0_base cX0_base 2 (some .int))) := lw_V q160 q161 q162 q23 q163
theorem hLX_base : yX0_base.cls = RX0 ∧ yX0_base.cls ≠ "java/lang/invoke/MethodHandle" ∧ yX0_base.cls ≠ "java/lang/invoke/VarHandle" ∧ (parseMethodDescriptor yX0_base.desc).map (fun d => d.parameters.length) = some 1 := by decide +kernel
theorem gLY_base : GoodIn lw_all (wsV R_law 76 RX1 yX1_base (ws_ yX1_base cX1_base 2 (some .int))) := lw_V q300 q301 q302 q24 q303
theorem hLY_base : yX1_base.cls = RX1 ∧ yX1_base.cls ≠ "java/lang/invoke/MethodHandle" ∧ yX1_base.cls ≠ "java/lang/invoke/VarHandle" ∧ (parseMethodDescriptor yX1_base.desc).map (fun d => d.parameters.length) = some 1 := by decide +kernel
set_option maxHeartbeats 4000000 in
theorem law_14 {p : Program} {l : Launch} {e : Env} {s : State} {m : MethodId} {below : List Frame} {meth : Method} {c : Code} {b L : Nat} {xs : Nat → Int32} {G : va_G} {aX aY : Nat → Nat} {dX dY : Nat → ClassId} {A : Nat → Prop} {σ : SX} {τ : SY} {x3 : Int32} {H : Heap} {locs : List Loc} {ls : Array Slot} (C : CallFix p m c cL_law 4 s #[Value.ref b] lw_all R_law) (hX : va_X b L xs s s.heap) (hbl : b < s.heap.size) (hbA : ¬ A b) (hin : ∀ j : Int32, j = 1 ∨ j = 2 ∨ j = 3 → vp_in (x3 + j) L) (hR : Rel σ τ) (hH : AtL G aX dX aY dY A s σ τ H locs) (hl : lv_has ls 4 [(0, .ref b), (1, .ref (aX 0)), (2, .ref (aY 0)), (3, .int x3)])
    (kk : ∀ (σ' : SX) (τ' : SY) (H : Heap) (locs : List Loc), Rel σ' τ' → AtL G aX dX aY dY A s σ' τ' H locs → W p l e room_1 s m #[Value.ref b] below meth c H locs 15 263 (lw_Z below #[Value.ref b] s) (F0 m 634 ls [])) : W p l e room_1 s m #[Value.ref b] below meth c H locs 15 263 (lw_Z below #[Value.ref b] s) (F0 m 532 ls []) := by
  refine lv_aload_n C.1 C.2.1 dL_law_532 rfl (lv_at hl 1 rfl) ?_
  refine lv_aload_n C.1 C.2.1 dL_law_533 rfl (lv_at hl 0 rfl) ?_
  refine lv_iload_n C.1 C.2.1 dL_law_534 rfl (lv_at hl 3 rfl) ?_
  refine lv_iconst (v := 1) C.1 C.2.1 dL_law_535 (by decide) ?_
  refine lv_iadd C.1 C.2.1 dL_law_536 ?_
  refine va_sld C.1 C.2.1 hX hbl hbA hH.2.2.2.1 (hin 1 (by decide)) dL_law_537 ?_
  refine callLX C hH (av := [.int (xs (x3 + 1).toNatClampNeg)]) (rest := []) (mX_base l G aX dX σ (xs (x3 + 1).toNatClampNeg) (rel_okX hR)) gLX_base hLX_base (by decide) rfl hl.1 rfl (Nat.le_of_ble_eq_true rfl) dL_law_538 ⟨Nat.le_of_ble_eq_true rfl, Nat.le_of_ble_eq_true rfl⟩ (fun r_X u_X H locs hH hw_X => ?_)
  refine lv_aload_n C.1 C.2.1 dL_law_541 rfl (lv_at hl 2 rfl) ?_
  refine lv_aload_n C.1 C.2.1 dL_law_542 rfl (lv_at hl 0 rfl) ?_
  refine lv_iload_n C.1 C.2.1 dL_law_543 rfl (lv_at hl 3 rfl) ?_
  refine lv_iconst (v := 1) C.1 C.2.1 dL_law_544 (by decide) ?_
  refine lv_iadd C.1 C.2.1 dL_law_545 ?_
  refine va_sld C.1 C.2.1 hX hbl hbA hH.2.2.2.1 (hin 1 (by decide)) dL_law_546 ?_
  refine callLY C hH (av := [.int (xs (x3 + 1).toNatClampNeg)]) (rest := [.int r_X]) (mY_base l G aY dY τ (xs (x3 + 1).toNatClampNeg) (rel_okY hR)) gLY_base hLY_base (by decide) rfl hl.1 rfl (Nat.le_of_ble_eq_true rfl) dL_law_547 ⟨Nat.le_of_ble_eq_true rfl, Nat.le_of_ble_eq_true rfl⟩ (fun r_Y u_Y H locs hH hw_Y => ?_)
  obtain ⟨rfl, rfl⟩ : (fX_base σ (xs (x3 + 1).toNatClampNeg)) = r_X ∧ σ = u_X := ⟨(congrArg Prod.fst hw_X).symm, (congrArg Prod.snd hw_X).symm⟩
  obtain ⟨rfl, rfl⟩ : (fY_base τ (xs (x3 + 1).toNatClampNeg)) = r_Y ∧ τ = u_Y := ⟨(congrArg Prod.fst hw_Y).symm, (congrArg Prod.snd hw_Y).symm⟩
  exact lv_icmp_eq (tgt := 634) C.1 C.2.1 dL_law_550 (by decide) (fun _ => kk _ _ _ _ hR hH) (fun q => absurd (pu_base hR (xs (x3 + 1).toNatClampNeg)) q)
theorem gLX_changes : GoodIn lw_all (wsV R_law 77 RX0 yX0_changes (ws_ yX0_changes cX0_changes 5 (some .int))) := lw_V q164 q165 q166 q23 q167
theorem hLX_changes : yX0_changes.cls = RX0 ∧ yX0_changes.cls ≠ "java/lang/invoke/MethodHandle" ∧ yX0_changes.cls ≠ "java/lang/invoke/VarHandle" ∧ (parseMethodDescriptor yX0_changes.desc).map (fun d => d.parameters.length) = some 1 := by decide +kernel
theorem gLY_changes : GoodIn lw_all (wsV R_law 80 RX1 yX1_changes (ws_ yX1_changes cX1_changes 6 (some .int))) := lw_V q304 q305 q306 q24 q307
theorem hLY_changes : yX1_changes.cls = RX1 ∧ yX1_changes.cls ≠ "java/lang/invoke/MethodHandle" ∧ yX1_changes.cls ≠ "java/lang/invoke/VarHandle" ∧ (parseMethodDescriptor yX1_changes.desc).map (fun d => d.parameters.length) = some 1 := by decide +kernel
set_option maxHeartbeats 4000000 in
theorem law_15 {p : Program} {l : Launch} {e : Env} {s : State} {m : MethodId} {below : List Frame} {meth : Method} {c : Code} {b L : Nat} {xs : Nat → Int32} {G : va_G} {aX aY : Nat → Nat} {dX dY : Nat → ClassId} {A : Nat → Prop} {σ : SX} {τ : SY} {x3 : Int32} {H : Heap} {locs : List Loc} {ls : Array Slot} (C : CallFix p m c cL_law 4 s #[Value.ref b] lw_all R_law) (hX : va_X b L xs s s.heap) (hbl : b < s.heap.size) (hbA : ¬ A b) (hin : ∀ j : Int32, j = 1 ∨ j = 2 ∨ j = 3 → vp_in (x3 + j) L) (hR : Rel σ τ) (hH : AtL G aX dX aY dY A s σ τ H locs) (hl : lv_has ls 4 [(0, .ref b), (1, .ref (aX 0)), (2, .ref (aY 0)), (3, .int x3)])
    (kk : ∀ (σ' : SX) (τ' : SY) (H : Heap) (locs : List Loc), Rel σ' τ' → AtL G aX dX aY dY A s σ' τ' H locs → W p l e room_1 s m #[Value.ref b] below meth c H locs 15 263 (lw_Z below #[Value.ref b] s) (F0 m 634 ls [])) : W p l e room_1 s m #[Value.ref b] below meth c H locs 15 263 (lw_Z below #[Value.ref b] s) (F0 m 555 ls []) := by
  refine lv_aload_n C.1 C.2.1 dL_law_555 rfl (lv_at hl 1 rfl) ?_
  refine lv_aload_n C.1 C.2.1 dL_law_556 rfl (lv_at hl 0 rfl) ?_
  refine lv_iload_n C.1 C.2.1 dL_law_557 rfl (lv_at hl 3 rfl) ?_
  refine lv_iconst (v := 1) C.1 C.2.1 dL_law_558 (by decide) ?_
  refine lv_iadd C.1 C.2.1 dL_law_559 ?_
  refine va_sld C.1 C.2.1 hX hbl hbA hH.2.2.2.1 (hin 1 (by decide)) dL_law_560 ?_
  refine callLX C hH (av := [.int (xs (x3 + 1).toNatClampNeg)]) (rest := []) (mX_changes l G aX dX σ (xs (x3 + 1).toNatClampNeg) (rel_okX hR)) gLX_changes hLX_changes (by decide) rfl hl.1 rfl (Nat.le_of_ble_eq_true rfl) dL_law_561 ⟨Nat.le_of_ble_eq_true rfl, Nat.le_of_ble_eq_true rfl⟩ (fun r_X u_X H locs hH hw_X => ?_)
  refine lv_aload_n C.1 C.2.1 dL_law_564 rfl (lv_at hl 2 rfl) ?_
  refine lv_aload_n C.1 C.2.1 dL_law_565 rfl (lv_at hl 0 rfl) ?_
  refine lv_iload_n C.1 C.2.1 dL_law_566 rfl (lv_at hl 3 rfl) ?_
  refine lv_iconst (v := 1) C.1 C.2.1 dL_law_567 (by decide) ?_
  refine lv_iadd C.1 C.2.1 dL_law_568 ?_
  refine va_sld C.1 C.2.1 hX hbl hbA hH.2.2.2.1 (hin 1 (by decide)) dL_law_569 ?_
  refine callLY C hH (av := [.int (xs (x3 + 1).toNatClampNeg)]) (rest := [.int r_X]) (mY_changes l G aY dY τ (xs (x3 + 1).toNatClampNeg) (rel_okY hR)) gLY_changes hLY_changes (by decide) rfl hl.1 rfl (Nat.le_of_ble_eq_true rfl) dL_law_570 ⟨Nat.le_of_ble_eq_true rfl, Nat.le_of_ble_eq_true rfl⟩ (fun r_Y u_Y H locs hH hw_Y => ?_)
  obtain ⟨rfl, rfl⟩ : (fX_changes σ (xs (x3 + 1).toNatClampNeg)) = r_X ∧ σ = u_X := ⟨(congrArg Prod.fst hw_X).symm, (congrArg Prod.snd hw_X).symm⟩
  obtain ⟨rfl, rfl⟩ : (fY_changes τ (xs (x3 + 1).toNatClampNeg)) = r_Y ∧ τ = u_Y := ⟨(congrArg Prod.fst hw_Y).symm, (congrArg Prod.snd hw_Y).symm⟩
  exact lv_icmp_eq (tgt := 634) C.1 C.2.1 dL_law_573 (by decide) (fun _ => kk _ _ _ _ hR hH) (fun q => absurd (pu_changes hR (xs (x3 + 1).toNatClampNeg)) q)
theorem gLX_compare : GoodIn lw_all (wsV R_law 81 RX0 yX0_compare (ws_ yX0_compare cX0_compare 3 (some .int))) := lw_V q172 q173 q174 q23 q175
theorem hLX_compare : yX0_compare.cls = RX0 ∧ yX0_compare.cls ≠ "java/lang/invoke/MethodHandle" ∧ yX0_compare.cls ≠ "java/lang/invoke/VarHandle" ∧ (parseMethodDescriptor yX0_compare.desc).map (fun d => d.parameters.length) = some 2 := by decide +kernel
theorem gLY_compare : GoodIn lw_all (wsV R_law 84 RX1 yX1_compare (ws_ yX1_compare cX1_compare 3 (some .int))) := lw_V q312 q313 q314 q24 q315
theorem hLY_compare : yX1_compare.cls = RX1 ∧ yX1_compare.cls ≠ "java/lang/invoke/MethodHandle" ∧ yX1_compare.cls ≠ "java/lang/invoke/VarHandle" ∧ (parseMethodDescriptor yX1_compare.desc).map (fun d => d.parameters.length) = some 2 := by decide +kernel
set_option maxHeartbeats 4000000 in
theorem law_16 {p : Program} {l : Launch} {e : Env} {s : State} {m : MethodId} {below : List Frame} {meth : Method} {c : Code} {b L : Nat} {xs : Nat → Int32} {G : va_G} {aX aY : Nat → Nat} {dX dY : Nat → ClassId} {A : Nat → Prop} {σ : SX} {τ : SY} {x3 : Int32} {H : Heap} {locs : List Loc} {ls : Array Slot} (C : CallFix p m c cL_law 4 s #[Value.ref b] lw_all R_law) (hX : va_X b L xs s s.heap) (hbl : b < s.heap.size) (hbA : ¬ A b) (hin : ∀ j : Int32, j = 1 ∨ j = 2 ∨ j = 3 → vp_in (x3 + j) L) (hR : Rel σ τ) (hH : AtL G aX dX aY dY A s σ τ H locs) (hl : lv_has ls 4 [(0, .ref b), (1, .ref (aX 0)), (2, .ref (aY 0)), (3, .int x3)])
    (kk : ∀ (σ' : SX) (τ' : SY) (H : Heap) (locs : List Loc), Rel σ' τ' → AtL G aX dX aY dY A s σ' τ' H locs → W p l e room_1 s m #[Value.ref b] below meth c H locs 15 263 (lw_Z below #[Value.ref b] s) (F0 m 634 ls [])) : W p l e room_1 s m #[Value.ref b] below meth c H locs 15 263 (lw_Z below #[Value.ref b] s) (F0 m 578 ls []) := by
  refine lv_aload_n C.1 C.2.1 dL_law_578 rfl (lv_at hl 1 rfl) ?_
  refine lv_aload_n C.1 C.2.1 dL_law_579 rfl (lv_at hl 0 rfl) ?_
  refine lv_iload_n C.1 C.2.1 dL_law_580 rfl (lv_at hl 3 rfl) ?_
  refine lv_iconst (v := 1) C.1 C.2.1 dL_law_581 (by decide) ?_
  refine lv_iadd C.1 C.2.1 dL_law_582 ?_
  refine va_sld C.1 C.2.1 hX hbl hbA hH.2.2.2.1 (hin 1 (by decide)) dL_law_583 ?_
  refine lv_aload_n C.1 C.2.1 dL_law_584 rfl (lv_at hl 0 rfl) ?_
  refine lv_iload_n C.1 C.2.1 dL_law_585 rfl (lv_at hl 3 rfl) ?_
  refine lv_iconst (v := 2) C.1 C.2.1 dL_law_586 (by decide) ?_
  refine lv_iadd C.1 C.2.1 dL_law_587 ?_
  refine va_sld C.1 C.2.1 hX hbl hbA hH.2.2.2.1 (hin 2 (by decide)) dL_law_588 ?_
  refine callLX C hH (av := [.int (xs (x3 + 1).toNatClampNeg), .int (xs (x3 + 2).toNatClampNeg)]) (rest := []) (mX_compare l G aX dX σ (xs (x3 + 1).toNatClampNeg) (xs (x3 + 2).toNatClampNeg) (rel_okX hR)) gLX_compare hLX_compare (by decide) rfl hl.1 rfl (Nat.le_of_ble_eq_true rfl) dL_law_589 ⟨Nat.le_of_ble_eq_true rfl, Nat.le_of_ble_eq_true rfl⟩ (fun r_X u_X H locs hH hw_X => ?_)
  refine lv_aload_n C.1 C.2.1 dL_law_592 rfl (lv_at hl 2 rfl) ?_
  refine lv_aload_n C.1 C.2.1 dL_law_593 rfl (lv_at hl 0 rfl) ?_
  refine lv_iload_n C.1 C.2.1 dL_law_594 rfl (lv_at hl 3 rfl) ?_
  refine lv_iconst (v := 1) C.1 C.2.1 dL_law_595 (by decide) ?_
  refine lv_iadd C.1 C.2.1 dL_law_596 ?_
  refine va_sld C.1 C.2.1 hX hbl hbA hH.2.2.2.1 (hin 1 (by decide)) dL_law_597 ?_
  refine lv_aload_n C.1 C.2.1 dL_law_598 rfl (lv_at hl 0 rfl) ?_
  refine lv_iload_n C.1 C.2.1 dL_law_599 rfl (lv_at hl 3 rfl) ?_
  refine lv_iconst (v := 2) C.1 C.2.1 dL_law_600 (by decide) ?_
  refine lv_iadd C.1 C.2.1 dL_law_601 ?_
  refine va_sld C.1 C.2.1 hX hbl hbA hH.2.2.2.1 (hin 2 (by decide)) dL_law_602 ?_
  refine callLY C hH (av := [.int (xs (x3 + 1).toNatClampNeg), .int (xs (x3 + 2).toNatClampNeg)]) (rest := [.int r_X]) (mY_compare l G aY dY τ (xs (x3 + 1).toNatClampNeg) (xs (x3 + 2).toNatClampNeg) (rel_okY hR)) gLY_compare hLY_compare (by decide) rfl hl.1 rfl (Nat.le_of_ble_eq_true rfl) dL_law_603 ⟨Nat.le_of_ble_eq_true rfl, Nat.le_of_ble_eq_true rfl⟩ (fun r_Y u_Y H locs hH hw_Y => ?_)
  obtain ⟨rfl, rfl⟩ : (fX_compare σ (xs (x3 + 1).toNatClampNeg) (xs (x3 + 2).toNatClampNeg)) = r_X ∧ σ = u_X := ⟨(congrArg Prod.fst hw_X).symm, (congrArg Prod.snd hw_X).symm⟩
  obtain ⟨rfl, rfl⟩ : (fY_compare τ (xs (x3 + 1).toNatClampNeg) (xs (x3 + 2).toNatClampNeg)) = r_Y ∧ τ = u_Y := ⟨(congrArg Prod.fst hw_Y).symm, (congrArg Prod.snd hw_Y).symm⟩
  exact lv_icmp_eq (tgt := 634) C.1 C.2.1 dL_law_606 (by decide) (fun _ => kk _ _ _ _ hR hH) (fun q => absurd (pu_compare hR (xs (x3 + 1).toNatClampNeg) (xs (x3 + 2).toNatClampNeg)) q)
theorem gLX_squash : GoodIn lw_all (wsV R_law 85 RX0 yX0_squash (ws_ yX0_squash cX0_squash 8 (some .int))) := lw_V q176 q177 q178 q23 q179
theorem hLX_squash : yX0_squash.cls = RX0 ∧ yX0_squash.cls ≠ "java/lang/invoke/MethodHandle" ∧ yX0_squash.cls ≠ "java/lang/invoke/VarHandle" ∧ (parseMethodDescriptor yX0_squash.desc).map (fun d => d.parameters.length) = some 1 := by decide +kernel
theorem gLY_squash : GoodIn lw_all (wsV R_law 88 RX1 yX1_squash (ws_ yX1_squash cX1_squash 2 (some .int))) := lw_V q316 q317 q318 q24 q319
theorem hLY_squash : yX1_squash.cls = RX1 ∧ yX1_squash.cls ≠ "java/lang/invoke/MethodHandle" ∧ yX1_squash.cls ≠ "java/lang/invoke/VarHandle" ∧ (parseMethodDescriptor yX1_squash.desc).map (fun d => d.parameters.length) = some 1 := by decide +kernel
set_option maxHeartbeats 4000000 in
theorem law_17 {p : Program} {l : Launch} {e : Env} {s : State} {m : MethodId} {below : List Frame} {meth : Method} {c : Code} {b L : Nat} {xs : Nat → Int32} {G : va_G} {aX aY : Nat → Nat} {dX dY : Nat → ClassId} {A : Nat → Prop} {σ : SX} {τ : SY} {x3 : Int32} {H : Heap} {locs : List Loc} {ls : Array Slot} (C : CallFix p m c cL_law 4 s #[Value.ref b] lw_all R_law) (hX : va_X b L xs s s.heap) (hbl : b < s.heap.size) (hbA : ¬ A b) (hin : ∀ j : Int32, j = 1 ∨ j = 2 ∨ j = 3 → vp_in (x3 + j) L) (hR : Rel σ τ) (hH : AtL G aX dX aY dY A s σ τ H locs) (hl : lv_has ls 4 [(0, .ref b), (1, .ref (aX 0)), (2, .ref (aY 0)), (3, .int x3)])
    (kk : ∀ (σ' : SX) (τ' : SY) (H : Heap) (locs : List Loc), Rel σ' τ' → AtL G aX dX aY dY A s σ' τ' H locs → W p l e room_1 s m #[Value.ref b] below meth c H locs 15 263 (lw_Z below #[Value.ref b] s) (F0 m 634 ls [])) : W p l e room_1 s m #[Value.ref b] below meth c H locs 15 263 (lw_Z below #[Value.ref b] s) (F0 m 611 ls []) := by
  refine lv_aload_n C.1 C.2.1 dL_law_611 rfl (lv_at hl 1 rfl) ?_
  refine lv_aload_n C.1 C.2.1 dL_law_612 rfl (lv_at hl 0 rfl) ?_
  refine lv_iload_n C.1 C.2.1 dL_law_613 rfl (lv_at hl 3 rfl) ?_
  refine lv_iconst (v := 1) C.1 C.2.1 dL_law_614 (by decide) ?_
  refine lv_iadd C.1 C.2.1 dL_law_615 ?_
  refine va_sld C.1 C.2.1 hX hbl hbA hH.2.2.2.1 (hin 1 (by decide)) dL_law_616 ?_
  refine callLX C hH (av := [.int (xs (x3 + 1).toNatClampNeg)]) (rest := []) (mX_squash l G aX dX σ (xs (x3 + 1).toNatClampNeg) (rel_okX hR)) gLX_squash hLX_squash (by decide) rfl hl.1 rfl (Nat.le_of_ble_eq_true rfl) dL_law_617 ⟨Nat.le_of_ble_eq_true rfl, Nat.le_of_ble_eq_true rfl⟩ (fun r_X u_X H locs hH hw_X => ?_)
  refine lv_aload_n C.1 C.2.1 dL_law_620 rfl (lv_at hl 2 rfl) ?_
  refine lv_aload_n C.1 C.2.1 dL_law_621 rfl (lv_at hl 0 rfl) ?_
  refine lv_iload_n C.1 C.2.1 dL_law_622 rfl (lv_at hl 3 rfl) ?_
  refine lv_iconst (v := 1) C.1 C.2.1 dL_law_623 (by decide) ?_
  refine lv_iadd C.1 C.2.1 dL_law_624 ?_
  refine va_sld C.1 C.2.1 hX hbl hbA hH.2.2.2.1 (hin 1 (by decide)) dL_law_625 ?_
  refine callLY C hH (av := [.int (xs (x3 + 1).toNatClampNeg)]) (rest := [.int r_X]) (mY_squash l G aY dY τ (xs (x3 + 1).toNatClampNeg) (rel_okY hR)) gLY_squash hLY_squash (by decide) rfl hl.1 rfl (Nat.le_of_ble_eq_true rfl) dL_law_626 ⟨Nat.le_of_ble_eq_true rfl, Nat.le_of_ble_eq_true rfl⟩ (fun r_Y u_Y H locs hH hw_Y => ?_)
  obtain ⟨rfl, rfl⟩ : (fX_squash σ (xs (x3 + 1).toNatClampNeg)).1 = r_X ∧ (fX_squash σ (xs (x3 + 1).toNatClampNeg)).2 = u_X := ⟨(congrArg Prod.fst hw_X).symm, (congrArg Prod.snd hw_X).symm⟩
  obtain ⟨rfl, rfl⟩ : (fY_squash τ (xs (x3 + 1).toNatClampNeg)) = r_Y ∧ τ = u_Y := ⟨(congrArg Prod.fst hw_Y).symm, (congrArg Prod.snd hw_Y).symm⟩
  exact lv_icmp_eq (tgt := 634) C.1 C.2.1 dL_law_629 (by decide) (fun _ => kk _ _ _ _ (pu_squash hR (xs (x3 + 1).toNatClampNeg)).2 hH) (fun q => absurd (pu_squash hR (xs (x3 + 1).toNatClampNeg)).1 q)
theorem law_i1 {L i : Nat} {x3 : Int32} (hL : L ≤ 256) (hx : x3 = nI i) (h : ¬ (nI L - 4 < x3)) : i + 4 ≤ L ∨ 2 ^ 30 ≤ i := by
  rcases Nat.lt_or_ge i (2 ^ 30) with hi | hi
  · left
    rw [hx, Int32.lt_iff_toInt_lt, show nI L - 4 = nI L - nI 4 from rfl, pk_sub_toInt (by omega) (by decide), nI_toInt (by omega)] at h
    omega
  · exact Or.inr hi
theorem law_in {L i : Nat} {x3 : Int32} (hL : L ≤ 256) (hx : x3 = nI i) (h : i + 4 ≤ L) : ∀ j : Int32, j = 1 ∨ j = 2 ∨ j = 3 → vp_in (x3 + j) L := by
  intro j hj
  rw [hx]
  rcases hj with rfl | rfl | rfl
  · rw [show nI i + 1 = nI (i + 1) from nI_add i 1]; exact vp_in_nI (by omega) (by omega)
  · rw [show nI i + 2 = nI (i + 2) from nI_add i 2]; exact vp_in_nI (by omega) (by omega)
  · rw [show nI i + 3 = nI (i + 3) from nI_add i 3]; exact vp_in_nI (by omega) (by omega)
set_option maxHeartbeats 4000000 in
theorem law_sw {p : Program} {l : Launch} {e : Env} {s : State} {m : MethodId} {below : List Frame} {meth : Method} {c : Code} {b L : Nat} {xs : Nat → Int32} {G : va_G} {aX aY : Nat → Nat} {dX dY : Nat → ClassId} {A : Nat → Prop} {σ : SX} {τ : SY} {x3 w : Int32} {H : Heap} {locs : List Loc} {ls : Array Slot} (C : CallFix p m c cL_law 4 s #[Value.ref b] lw_all R_law) (hX : va_X b L xs s s.heap) (hbl : b < s.heap.size) (hbA : ¬ A b) (hin : ∀ j : Int32, j = 1 ∨ j = 2 ∨ j = 3 → vp_in (x3 + j) L) (hR : Rel σ τ) (hH : AtL G aX dX aY dY A s σ τ H locs) (hl : lv_has ls 4 [(0, .ref b), (1, .ref (aX 0)), (2, .ref (aY 0)), (3, .int x3)])
    (kk : ∀ (σ' : SX) (τ' : SY) (H : Heap) (locs : List Loc), Rel σ' τ' → AtL G aX dX aY dY A s σ' τ' H locs → W p l e room_1 s m #[Value.ref b] below meth c H locs 15 263 (lw_Z below #[Value.ref b] s) (F0 m 634 ls [])) : W p l e room_1 s m #[Value.ref b] below meth c H locs 15 263 (lw_Z below #[Value.ref b] s) (F0 m 32 ls [.int (w &&& 31)]) := by
  obtain ⟨j, hj, ej⟩ := pk_andE w (m := 31) 5 (by decide)
  rw [ej]
  clear ej
  rcases Nat.lt_or_ge j 18 with h18 | h18
  · clear hj
    match j, h18 with
    | 0, _ =>
      refine lv_tableIn (tgt := 120) (off := 88) C.1 C.2.1 dL_law_32 (by decide) (by decide) (by decide) (by decide) ?_
      exact law_0 C hX hbl hbA hin hR hH hl kk
    | 1, _ =>
      refine lv_tableIn (tgt := 153) (off := 121) C.1 C.2.1 dL_law_32 (by decide) (by decide) (by decide) (by decide) ?_
      exact law_1 C hX hbl hbA hin hR hH hl kk
    | 2, _ =>
      refine lv_tableIn (tgt := 176) (off := 144) C.1 C.2.1 dL_law_32 (by decide) (by decide) (by decide) (by decide) ?_
      exact law_2 C hX hbl hbA hin hR hH hl kk
    | 3, _ =>
      refine lv_tableIn (tgt := 209) (off := 177) C.1 C.2.1 dL_law_32 (by decide) (by decide) (by decide) (by decide) ?_
      exact law_3 C hX hbl hbA hin hR hH hl kk
    | 4, _ =>
      refine lv_tableIn (tgt := 242) (off := 210) C.1 C.2.1 dL_law_32 (by decide) (by decide) (by decide) (by decide) ?_
      exact law_4 C hX hbl hbA hin hR hH hl kk
    | 5, _ =>
      refine lv_tableIn (tgt := 285) (off := 253) C.1 C.2.1 dL_law_32 (by decide) (by decide) (by decide) (by decide) ?_
      exact law_5 C hX hbl hbA hin hR hH hl kk
    | 6, _ =>
      refine lv_tableIn (tgt := 328) (off := 296) C.1 C.2.1 dL_law_32 (by decide) (by decide) (by decide) (by decide) ?_
      exact law_6 C hX hbl hbA hin hR hH hl kk
    | 7, _ =>
      refine lv_tableIn (tgt := 361) (off := 329) C.1 C.2.1 dL_law_32 (by decide) (by decide) (by decide) (by decide) ?_
      exact law_7 C hX hbl hbA hin hR hH hl kk
    | 8, _ =>
      refine lv_tableIn (tgt := 404) (off := 372) C.1 C.2.1 dL_law_32 (by decide) (by decide) (by decide) (by decide) ?_
      exact law_8 C hX hbl hbA hin hR hH hl kk
    | 9, _ =>
      refine lv_tableIn (tgt := 437) (off := 405) C.1 C.2.1 dL_law_32 (by decide) (by decide) (by decide) (by decide) ?_
      exact law_9 C hX hbl hbA hin hR hH hl kk
    | 10, _ =>
      refine lv_tableIn (tgt := 460) (off := 428) C.1 C.2.1 dL_law_32 (by decide) (by decide) (by decide) (by decide) ?_
      exact law_10 C hX hbl hbA hin hR hH hl kk
    | 11, _ =>
      refine lv_tableIn (tgt := 483) (off := 451) C.1 C.2.1 dL_law_32 (by decide) (by decide) (by decide) (by decide) ?_
      exact law_11 C hX hbl hbA hin hR hH hl kk
    | 12, _ =>
      refine lv_tableIn (tgt := 506) (off := 474) C.1 C.2.1 dL_law_32 (by decide) (by decide) (by decide) (by decide) ?_
      exact law_12 C hX hbl hbA hin hR hH hl kk
    | 13, _ =>
      refine lv_tableIn (tgt := 519) (off := 487) C.1 C.2.1 dL_law_32 (by decide) (by decide) (by decide) (by decide) ?_
      exact law_13 C hX hbl hbA hin hR hH hl kk
    | 14, _ =>
      refine lv_tableIn (tgt := 532) (off := 500) C.1 C.2.1 dL_law_32 (by decide) (by decide) (by decide) (by decide) ?_
      exact law_14 C hX hbl hbA hin hR hH hl kk
    | 15, _ =>
      refine lv_tableIn (tgt := 555) (off := 523) C.1 C.2.1 dL_law_32 (by decide) (by decide) (by decide) (by decide) ?_
      exact law_15 C hX hbl hbA hin hR hH hl kk
    | 16, _ =>
      refine lv_tableIn (tgt := 578) (off := 546) C.1 C.2.1 dL_law_32 (by decide) (by decide) (by decide) (by decide) ?_
      exact law_16 C hX hbl hbA hin hR hH hl kk
    | 17, _ =>
      refine lv_tableIn (tgt := 611) (off := 579) C.1 C.2.1 dL_law_32 (by decide) (by decide) (by decide) (by decide) ?_
      exact law_17 C hX hbl hbA hin hR hH hl kk
    | j + 18, h => exact absurd h (by omega)
  · refine lv_tableOut (tgt := 634) C.1 C.2.1 dL_law_32 (Or.inr ?_) (by decide) (kk _ _ _ _ hR hH)
    rw [nI_toInt (by omega)]
    omega
set_option maxHeartbeats 4000000 in
theorem law_loop {p : Program} {l : Launch} {e : Env} {s : State} {m : MethodId} {below : List Frame} {meth : Method} {c : Code} {b L : Nat} {xs : Nat → Int32} {G : va_G} {aX aY : Nat → Nat} {dX dY : Nat → ClassId} {A : Nat → Prop} (C : CallFix p m c cL_law 4 s #[Value.ref b] lw_all R_law) (hX : va_X b L xs s s.heap) (hbl : b < s.heap.size) (hbA : ¬ A b) (hb0 : c.code = code) (hr : meth.sig.returnType = ret) (hlk : meth.locks = false) (hL : L ≤ 256) (hAs : ∀ q, A q → s.heap.size ≤ q) : ∀ (n i : Nat) (x3 : Int32) (σ : SX) (τ : SY) (H : Heap) (locs : List Loc) (ls : Array Slot), x3 = nI i → i ≤ L → L < i + n → Rel σ τ → AtL G aX dX aY dY A s σ τ H locs → lv_has ls 4 [(0, .ref b), (1, .ref (aX 0)), (2, .ref (aY 0)), (3, .int x3)] → W p l e room_1 s m #[Value.ref b] below meth c H locs 15 263 (lw_Z below #[Value.ref b] s) (F0 m 18 ls []) := by
  intro n
  induction n with
  | zero =>
    intro i x3 σ τ H locs ls hx hi hn
    exact absurd hn (by omega)
  | succ n ih =>
    intro i x3 σ τ H locs ls hx hi hn hR hH hl
    refine lv_iload_n C.1 C.2.1 dL_law_18 rfl (lv_at hl 3 rfl) ?_
    refine lv_aload_n C.1 C.2.1 dL_law_19 rfl (lv_at hl 0 rfl) ?_
    refine va_slen C.1 C.2.1 hX hbl hbA hH.2.2.2.1 dL_law_20 ?_
    refine lv_iconst (v := 4) C.1 C.2.1 dL_law_21 (by decide) ?_
    refine lv_isub C.1 C.2.1 dL_law_22 ?_
    refine lv_icmp_gt (tgt := 640) C.1 C.2.1 dL_law_23 (by decide) (fun _ => ?_) (fun c_23 => ?_)
    · refine lv_iconst (v := 1) C.1 C.2.1 dL_law_640 (by decide) ?_
      refine va_forget (fun q hq => hAs _ (hH.2.2.2.1.2.2 q hq)) ?_
      refine W.widen (k := 600000) (n := 7290000) (by decide) (by decide) ?_
      exact lw_ret C.1 hb0 hr hlk dL_law_641
    · have h4 : i + 4 ≤ L := (law_i1 hL hx c_23).resolve_right (by omega)
      have hin := law_in hL hx h4
      refine lv_aload_n C.1 C.2.1 dL_law_26 rfl (lv_at hl 0 rfl) ?_
      refine lv_iload_n C.1 C.2.1 dL_law_27 rfl (lv_at hl 3 rfl) ?_
      refine va_sld C.1 C.2.1 hX hbl hbA hH.2.2.2.1 (by rw [hx]; exact vp_in_nI (by omega) (by omega)) dL_law_28 ?_
      refine lv_bipush (v := 31) C.1 C.2.1 dL_law_29 (by decide) ?_
      refine lv_iand C.1 C.2.1 dL_law_31 ?_
      refine law_sw C hX hbl hbA hin hR hH hl (fun σ' τ' H locs hR hH => ?_)
      refine lv_iinc (v := x3 + 4) (lv' := [(3, .int (x3 + 4)), (0, .ref b), (1, .ref (aX 0)), (2, .ref (aY 0))]) C.1 C.2.1 dL_law_634 hl (k := 3) rfl rfl (by decide) rfl (fun ls hl => ?_)
      refine lv_goto (tgt := 18) C.1 C.2.1 dL_law_637 (by decide) ?_
      exact ih (i + 4) (x3 + 4) σ' τ' H locs ls (by rw [hx]; exact nI_add i 4) h4 (by omega) hR hH (lv_sub hl [1, 2, 3, 0] rfl)
/-- both classes, known at the claim's start -/
theorem classes_L {s0 : State} {b0 : Addr} (ht0 : ∀ w ∈ lw_tbl, w.before #[Value.ref b0] s0 = true) : ∃ (dC : Nat → ClassId) (dI : Nat → Nat → Nat), ∀ (k : Nat) (q : vw_C), vwCl[k]? = some q → u_Kn s0 q.1 q.2.1 q.2.2 (dC k) (dI k) := by
  obtain ⟨c0_, iS0, hKn0⟩ := u_known (C := RX0) (T := TX0) (N := 8) (n := 8) ht0 (fun w h => lw_all_tbl (in_X0 w h)) (ht0 _ (lw_all_tbl q26))
  obtain ⟨c1_, iS1, hKn1⟩ := u_known (C := RX1) (T := TX1) (N := 7) (n := 7) ht0 (fun w h => lw_all_tbl (in_X1 w h)) (ht0 _ (lw_all_tbl q181))
  refine ⟨fun k => if k = 0 then c0_ else c1_, fun k => if k = 0 then iS0 else iS1, ?_⟩
  intro k q hq
  match k, hq with
  | 0, hq => cases hq; exact hKn0
  | 1, hq => cases hq; exact hKn1
  | k + 2, hq => simp [vwCl] at hq
set_option maxHeartbeats 4000000 in
/-- from the entry, for every script of at most 256 ints, the law comes to its end with true -/
theorem whole_start {p : Program} {e : Env} {s : State} {m : MethodId} {below : List Frame} {meth : Method} {c : Code} (l : Launch) {b L : Nat} {xs : Nat → Int32} (hL : L ≤ 256) (C0 : lw_At p s m meth c b L xs) : W p l e room_1 s m #[Value.ref b] below meth c s.heap [] 0 0 (lw_Z below #[Value.ref b] s) (entryFrame m ([Value.ref b] : List Value).toArray 4) := by
  obtain ⟨hx, hb, hr, hml, hown, hts0, hX, hbl, hlk, -⟩ := C0
  have hts : ∀ w ∈ lw_all, w.before #[Value.ref b] s = true := fun w h => hts0 w (lw_all_tbl h)
  obtain ⟨dC, dI, hKn⟩ := classes_L hts0
  generalize hG : (dC, dI) = G
  have hK : va_K G vwCl [] s := ⟨fun k q h => by rw [← hG]; exact hKn k q h, fun k q h => by cases h⟩
  have hP : va_P G vwCl [] s.heap := fun k q h => by cases h
  have hD : va_D (fun q : Nat => s.heap.size ≤ q) [] := ⟨fun i j p q h => (by cases h), fun k q h => (by cases h)⟩
  have hS : va_S (fun q : Nat => s.heap.size ≤ q) s.heap s.heap [] := va_S.rf
  have hA : ∀ q : Nat, s.heap.size ≤ q → s.heap.size ≤ q := fun _ h => h
  have hbA : ¬ (s.heap.size ≤ b) := by omega
  have C : CallFix p m c cL_law 4 s #[Value.ref b] lw_all R_law := ⟨hx, hb, hml, hown, hts⟩
  have hl := lv_entry ([Value.ref b]) (n := 4) (Nat.le_of_ble_eq_true rfl)
  rw [lg_entry_eq]
  generalize (lg_sl ([Value.ref b]) ++ List.replicate (4 - (lg_sl ([Value.ref b])).length) Slot.unset).toArray = ls at hl ⊢
  have hl : lv_has ls 4 [(0, .ref b)] := hl
  refine va_new (ci := 0) (fs := fs0X) (C := RX0) (T := TX0) (N := 8) hx hb hts in_X0 tyX0 tyX0_ok hown (hts _ q25) (hts _ q26) (hts _ q23) hK hP hD hS hA rfl (fun j hj => by rcases (show j = 0 ∨ j = 1 ∨ j = 2 ∨ j = 3 ∨ j = 4 ∨ j = 5 ∨ j = 6 ∨ j = 7 by omega) with rfl | rfl | rfl | rfl | rfl | rfl | rfl | rfl <;> rfl) (by decide) (by decide) dL_law_0 (fun hx0 H hP hD hS => ?_)
  have hP : va_P G vwCl [(hx0, .inr (0, fs0X))] H := hP
  have hD : va_D (fun q : Nat => s.heap.size ≤ q) [(hx0, .inr (0, fs0X))] := hD
  refine lv_dup hx hb dL_law_3 rfl ?_
  have hFc := va_free (wc := [(hx0, .inr (0, fs0X))]) hD hS hA [0] rfl
  refine va_callv (va_runI (As := []) (rest := [.ref hx0]) C (mX_init l G hx0 H.size) (cwI 0 hts (lw_meth q29) rfl rfl rfl (hts _ q23) (hts _ q27) (hts _ q28) rfl (by decide +kernel) ⟨by decide, by decide⟩) ⟨fun a U g mk q => by obtain ⟨q0, q1, qP, qK, qD⟩ := q; exact ⟨q0, q1, qP, va_K.moved (u := U) (U := U.calling g mk a) (Vm.Alike.refl U.vm) qK, qD⟩, fun U hU hW => ⟨rfl, by rw [hU], by rw [hU]; exact hP, va_K.moved hW.alike hK, hD.weaken (fun _ _ _ _ => trivial)⟩⟩ rfl rfl hl.1 rfl (lv_room (Nat.le_of_ble_eq_true rfl)) dL_law_4 ⟨by decide, by decide⟩) hS (fun q _ h => hFc q h) hFc (fun u t H1 locs ht hvm hu hB hz1 hk1 hS => ?_)
  obtain ⟨aX, dX⟩ := u
  have hu : aX 0 = hx0 := hu
  subst hu
  obtain ⟨hP1, hK1, hD1⟩ := hB
  rw [ht] at hP1
  have hK1 := va_K.moved hvm.symm hK1
  have hP : va_P G vwCl (wX aX dX s0X) H1 := hP1
  have hD : va_D (fun q : Nat => s.heap.size ≤ q) (wX aX dX s0X) := hD1.weaken (fun _ q _ h => hFc q.1 h)
  have hK : va_K G vwCl (tX dX) s := hK1
  generalize H1 = H at hP hS ⊢
  refine lv_astore_n (lv' := [(1, .ref (aX 0)), (0, .ref b)]) hx hb dL_law_7 rfl hl (by decide) rfl (fun ls hl => ?_)
  refine va_new (ci := 1) (fs := fs0Y) (C := RX1) (T := TX1) (N := 7) hx hb hts in_X1 tyX1 tyX1_ok hown (hts _ q180) (hts _ q181) (hts _ q24) hK hP hD hS hA rfl (fun j hj => by rcases (show j = 0 ∨ j = 1 ∨ j = 2 ∨ j = 3 ∨ j = 4 ∨ j = 5 ∨ j = 6 by omega) with rfl | rfl | rfl | rfl | rfl | rfl | rfl <;> rfl) (by decide) (by decide) dL_law_8 (fun hy0 H hP hD hS => ?_)
  refine lv_dup hx hb dL_law_11 rfl ?_
  have hPc := hP.sub (ws' := [(hy0, .inr (1, fs0Y))]) [8] rfl
  have hDc := hD.sub (ws' := [(hy0, .inr (1, fs0Y))]) [8] (by decide) rfl
  have hKc := hK.sub (tys' := []) [] rfl
  have hFc := va_free (wc := [(hy0, .inr (1, fs0Y))]) hD hS hA [8] rfl
  refine va_callv (va_runI (As := []) (rest := [.ref hy0]) C (mY_init l G hy0 H.size) (cwI 0 hts (lw_meth q184) rfl rfl rfl (hts _ q24) (hts _ q182) (hts _ q183) rfl (by decide +kernel) ⟨by decide, by decide⟩) ⟨fun a U g mk q => by obtain ⟨q0, q1, qP, qK, qD⟩ := q; exact ⟨q0, q1, qP, va_K.moved (u := U) (U := U.calling g mk a) (Vm.Alike.refl U.vm) qK, qD⟩, fun U hU hW => ⟨rfl, by rw [hU], by rw [hU]; exact hPc, va_K.moved hW.alike hKc, hDc.weaken (fun _ _ _ _ => trivial)⟩⟩ rfl rfl hl.1 rfl (lv_room (Nat.le_of_ble_eq_true rfl)) dL_law_12 ⟨by decide, by decide⟩) hS (fun q _ h => hFc q h) hFc (fun u t H1 locs ht hvm hu hB hz1 hk1 hS => ?_)
  obtain ⟨aY, dY⟩ := u
  have hu : aY 0 = hy0 := hu
  subst hu
  obtain ⟨hP1, hK1, hD1⟩ := hB
  rw [ht] at hP1
  have hK1 := va_K.moved hvm.symm hK1
  obtain ⟨hP, hD⟩ := va_join (wr := wX aX dX s0X) (w1 := wY aY dY s0Y) hP hD [8] [0, 1, 2, 3, 4, 5, 6, 7] rfl rfl (by decide) (by decide) hk1 hFc hP1 hD1
  have hK : va_K G vwCl (tX dX ++ tY dY) s := hK.app hK1
  generalize H1 = H at hP hS ⊢
  refine lv_astore_n (lv' := [(2, .ref (aY 0)), (1, .ref (aX 0)), (0, .ref b)]) hx hb dL_law_15 rfl hl (by decide) rfl (fun ls hl => ?_)
  refine lv_iconst (v := 0) hx hb dL_law_16 (by decide) ?_
  refine lv_istore_n (lv' := [(3, .int 0), (2, .ref (aY 0)), (1, .ref (aX 0)), (0, .ref b)]) hx hb dL_law_17 rfl hl (by decide) rfl (fun ls hl => ?_)
  exact law_loop C hX hbl hbA hb hr hlk hL (fun _ h => h) (L + 1) 0 0 s0X s0Y H _ ls nI_0.symm (Nat.zero_le _) (by omega) rel_init ⟨hK, hP, hD, hS, hA⟩ (lv_sub hl [3, 2, 1, 0] rfl)
end
section
-- ===== YOUR PART ENDS =====
set_option maxHeartbeats 4000000 in
theorem lw_walk (l : Launch) (b : Addr) (xs : List Int32) : MetFree l x (headSpec (Jvm.Cond.code x code maxLocals ret :: tables_1) room_1) (lw_P b xs) (fun _ _ _ _ _ => True) lw_Q := by
  refine MetFree.of_bodyS (code := code) (maxLocals := maxLocals) (ret := ret) (by decide) ?_ ?_
  · intro args s m h hn
    obtain ⟨meth, c, h1, h2, h3, h4, h5, h6, -, -⟩ := Cond.code_spec hn (atoms_spec (ws := Jvm.Cond.code x code maxLocals ret :: tables_1) h _ List.mem_cons_self)
    exact ⟨meth, c, h1, h2, h3, h4, h5, h6⟩
  · intro p e s m args below meth c s₁ B hml0 hP _
    obtain ⟨rfl, hx, hbd, hgv⟩ := hP
    obtain ⟨scr, harrAt, hlist, hof, hsmall⟩ := hx
    obtain ⟨hcb, hkn, -, -⟩ := State.arrayAt?_spec harrAt
    have hown : s.vm.findClass R_law = some m.cls := findClass_of_methodNamed B.named
    have hts0 : ∀ c ∈ (Jvm.Cond.code x code maxLocals ret :: tables_1), c.before #[Value.ref b] s = true := atoms_spec (ws := Jvm.Cond.code x code maxLocals ret :: tables_1) B.pre
    have hts : ∀ w ∈ lw_tbl, w.before #[Value.ref b] s = true := k2_hts_sels lw_privs (fun w hw => hts0 w (List.mem_cons_of_mem _ hw)) lw_privs_ok
    have hml : c.maxLocals = 4 := B.maxLocals_eq (hts0 _ List.mem_cons_self)
    have X₀ : Stand p l e room_1 s m #[Value.ref b] below meth c s₁ [] 0 0 := Stand.of_body B
    have hh0 : s₁.heap = s.heap := by rw [B.state]; rfl
    have hsz : scr.slots.size = xs.length := by rw [← Array.length_toList, hlist, List.length_map]
    have hval : ∀ j : Nat, j < xs.length → scr.slots[j]? = some (.int (xs.getD j 0)) := fun j hj => by
      rw [← Array.getElem?_toList, hlist]
      simp [hj]
    have hbl : b < s.heap.size := (Array.getElem?_eq_some_iff.mp hcb).1
    have hX : va_X b xs.length (fun j => xs.getD j 0) s s.heap := ⟨scr, hcb, hof, hkn, hsz, hval⟩
    have K : W p l e room_1 s m #[Value.ref b] below meth c s₁.heap [] 0 0 (lw_Z below #[Value.ref b] s) (entryFrame m ([Value.ref b] : List Value).toArray 4) := by
      rw [hh0]
      exact whole_start l hbd ⟨B.exec, B.bytes, B.returns, hml, hown, hts, hX, hbl, B.notSynchronized, hgv⟩
    obtain ⟨t, a1, o, b1, b2, b3⟩ := K s₁ rfl X₀
    exact ⟨t, o, a1, b1, b2, b3⟩
theorem lw_pre_spec {args : Array Value} {s : State} (h : (Jvm.Cond.and given_1 narrow_1).before args s = true) (hr : rest_1_c.before args s = true) : ∃ (b : Addr) (xs : List Int32), lw_P b xs args s := by
  have hs := flat_of_before _ h
  have hq := flat_of_before _ hr
  have hc : (Cond.count 1).before args s = true := hs _ (by decide +kernel)
  have harr : (Cond.arrayOf (.arg 0) .int).before args s = true := hs _ (by decide +kernel)
  have hle : (Cond.le (.length (.arg 0)) (.int 256)).before args s = true := hs _ (by decide +kernel)
  have hlen : (Cond.isInt (.length (.arg 0))).before args s = true := hq _ (by decide +kernel)
  have hall : (Cond.all (.arg 0) (.isInt (.elem (.arg 0) (.index 0)))).before args s = true := hq _ (by decide +kernel)
  obtain ⟨b, xs, hb, hx⟩ := State.ints_of_pre rfl harr hlen hall
  have hsm : xs.length < 2 ^ 31 := hx.choose_spec.2.2.2
  have hev : (Term.length (.arg 0)).eval args s none [] s = some (.int xs.length.toInt32) := hx.length_eval hb
  have hv := Cond.le_ints hev (show (Term.int 256).eval args s none [] s = some (.int 256) from rfl)
  have hd : xs.length.toInt32 ≤ 256 := by
    simpa [Cond.before, Cond.holds, hv] using hle
  have hN : xs.length ≤ 256 := (Int32.ofNat_le_ofNat hsm (by decide)).mp (show Int32.ofNat xs.length ≤ Int32.ofNat 256 from hd)
  exact ⟨b, xs, Cond.one_arg hc (show args[0]? = some (.ref b) from hb), hx, hN, h⟩
theorem lw_comes (l : Launch) : Comes l x (Jvm.Cond.code x code maxLocals ret :: tables_1) room_1 (fun tb e args s => Calls_1 tb e args s ∧ rest_1 tb e args s ∧ Pre_1 tb e args s)
    (fun _ _ args s o t => lw_Q args s o t) := by
  intro p e ha hc hk s m args below hf hfit hheap happ hpre
  obtain ⟨b, xs, hP⟩ := lw_pre_spec hpre.2.2 hpre.2.1
  obtain ⟨k, o, h1, h2, h3, hQ⟩ := lw_walk l b xs p e ha hc hk s m args below hf ((Spec.applies_iff_loose hf).mp happ).1 hP trivial
  exact ⟨k, o, h1, h2, h3, hQ⟩
theorem lw_frame {s t : State} {o : Outcome} {args : Array Value} (h : Framed s o t [] 600000 7290000) :
    Framed s o t (fieldLocs frame_1_writes args s ++ arrayLocs frame_1_arrays args s ++ staticLocs frame_1_statics s) 600000 7290000 := h
theorem lw_limb (L : Cond) (hL : ∀ (args : Array Value) (s t : State), L.after args s (.returned (some (.int 1))) t = true) :
    ArmFor flags0 classFile x code maxLocals ret World_1 tables_1 room_1 Calls_1 rest_1 Pre_1
      (fun tb e a s o t => postC L tb e a s o t ∧ Framed s o t (fieldLocs frame_1_writes a s ++ arrayLocs frame_1_arrays a s ++ staticLocs frame_1_statics s) 600000 7290000) := by
  intro l _ _ _ p e ha hc hk s m args below hf hfit hheap happ hpre
  obtain ⟨k, o, h1, h2, h3, rfl, hF⟩ := lw_comes l p e ha hc hk s m args below hf hfit hheap happ hpre
  exact ⟨k, _, h1, h2, h3, hL args s _, lw_frame hF⟩
theorem i_vc : Claimed_1_1 ∧ Claimed_1_2 := ⟨lw_limb limb_1_1 (fun args s t => by simp [limb_1_1, Cond.after, Cond.holds, Cond.value]), lw_limb limb_1_2 (fun args s t => Cond.after_iff.mpr (by
  first | (rw [show limb_1_2 = Cond.eq .result (.int 1) from rfl, Cond.eq_ints (x := 1) (y := 1) rfl rfl]; simp; done) | (simp [limb_1_2, Cond.value, Term.eval]; done)))⟩
end
