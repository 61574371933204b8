section
-- ===== PART A: goes FIRST, ahead of the names: the tables' words, and 'selects' of the private methods out of them =====
/-- a private method of a class that the tables say can be made, by its rows of tables_1 -/
def lw_okq (q : MethodName × Nat) : Prop := (q.1.cls ≠ "java/lang/invoke/MethodHandle" ∧ q.1.cls ≠ "java/lang/invoke/VarHandle") ∧ Cond.instantiable q.1.cls q.2 ∈ tables_1 ∧ Cond.privateMethod q.1 ∈ tables_1 ∧ Cond.instanceMethod q.1 ∈ tables_1
set_option maxRecDepth 100000
theorem lw_p0 : lw_okq (⟨"SnapshotTree", "holds", "(II)Z"⟩, 8) := ⟨⟨by decide +kernel, by decide +kernel⟩, List.mem_of_getElem? (i := 4) rfl, List.mem_of_getElem? (i := 43) rfl, List.mem_of_getElem? (i := 44) rfl⟩
theorem lw_p1 : lw_okq (⟨"SnapshotTree", "leafFor", "(II)I"⟩, 8) := ⟨⟨by decide +kernel, by decide +kernel⟩, List.mem_of_getElem? (i := 4) rfl, List.mem_of_getElem? (i := 47) rfl, List.mem_of_getElem? (i := 48) rfl⟩
theorem lw_p2 : lw_okq (⟨"SnapshotTree", "ownPath", "(I)I"⟩, 8) := ⟨⟨by decide +kernel, by decide +kernel⟩, List.mem_of_getElem? (i := 4) rfl, List.mem_of_getElem? (i := 54) rfl, List.mem_of_getElem? (i := 55) rfl⟩
theorem lw_p3 : lw_okq (⟨"SnapshotTree", "ownNode", "(II)I"⟩, 8) := ⟨⟨by decide +kernel, by decide +kernel⟩, List.mem_of_getElem? (i := 4) rfl, List.mem_of_getElem? (i := 58) rfl, List.mem_of_getElem? (i := 59) rfl⟩
theorem lw_p4 : lw_okq (⟨"SnapshotTree", "freeNode", "()I"⟩, 8) := ⟨⟨by decide +kernel, by decide +kernel⟩, List.mem_of_getElem? (i := 4) rfl, List.mem_of_getElem? (i := 62) rfl, List.mem_of_getElem? (i := 63) rfl⟩
theorem lw_p5 : lw_okq (⟨"SnapshotTree", "levelMark", "(II)V"⟩, 8) := ⟨⟨by decide +kernel, by decide +kernel⟩, List.mem_of_getElem? (i := 4) rfl, List.mem_of_getElem? (i := 66) rfl, List.mem_of_getElem? (i := 67) rfl⟩
theorem lw_p6 : lw_okq (⟨"SnapshotTree", "prune", "(I)V"⟩, 8) := ⟨⟨by decide +kernel, by decide +kernel⟩, List.mem_of_getElem? (i := 4) rfl, List.mem_of_getElem? (i := 74) rfl, List.mem_of_getElem? (i := 75) rfl⟩
theorem lw_p7 : lw_okq (⟨"SnapshotTree", "leadsOn", "(I)Z"⟩, 8) := ⟨⟨by decide +kernel, by decide +kernel⟩, List.mem_of_getElem? (i := 4) rfl, List.mem_of_getElem? (i := 78) rfl, List.mem_of_getElem? (i := 79) rfl⟩
theorem lw_p8 : lw_okq (⟨"SnapshotTree", "share", "(II)V"⟩, 8) := ⟨⟨by decide +kernel, by decide +kernel⟩, List.mem_of_getElem? (i := 4) rfl, List.mem_of_getElem? (i := 86) rfl, List.mem_of_getElem? (i := 87) rfl⟩
theorem lw_p9 : lw_okq (⟨"SnapshotTree", "giveBack", "(I)V"⟩, 8) := ⟨⟨by decide +kernel, by decide +kernel⟩, List.mem_of_getElem? (i := 4) rfl, List.mem_of_getElem? (i := 94) rfl, List.mem_of_getElem? (i := 95) rfl⟩
theorem lw_p10 : lw_okq (⟨"SnapshotTree", "isMap", "(I)Z"⟩, 8) := ⟨⟨by decide +kernel, by decide +kernel⟩, List.mem_of_getElem? (i := 4) rfl, List.mem_of_getElem? (i := 106) rfl, List.mem_of_getElem? (i := 107) rfl⟩
theorem lw_p11 : lw_okq (⟨"SnapshotTree", "missingLevel", "(II)I"⟩, 8) := ⟨⟨by decide +kernel, by decide +kernel⟩, List.mem_of_getElem? (i := 4) rfl, List.mem_of_getElem? (i := 122) rfl, List.mem_of_getElem? (i := 123) rfl⟩
theorem lw_p12 : lw_okq (⟨"SnapshotTree", "sharedLevel", "(III)I"⟩, 8) := ⟨⟨by decide +kernel, by decide +kernel⟩, List.mem_of_getElem? (i := 4) rfl, List.mem_of_getElem? (i := 133) rfl, List.mem_of_getElem? (i := 134) rfl⟩
theorem lw_p13 : lw_okq (⟨"SnapshotTreeModel", "count", "(I)I"⟩, 3) := ⟨⟨by decide +kernel, by decide +kernel⟩, List.mem_of_getElem? (i := 142) rfl, List.mem_of_getElem? (i := 165) rfl, List.mem_of_getElem? (i := 166) rfl⟩
theorem lw_p14 : lw_okq (⟨"SnapshotTreeModel", "copy", "(II)V"⟩, 3) := ⟨⟨by decide +kernel, by decide +kernel⟩, List.mem_of_getElem? (i := 142) rfl, List.mem_of_getElem? (i := 177) rfl, List.mem_of_getElem? (i := 178) rfl⟩
theorem lw_p15 : lw_okq (⟨"SnapshotTreeModel", "free", "(I)Z"⟩, 3) := ⟨⟨by decide +kernel, by decide +kernel⟩, List.mem_of_getElem? (i := 142) rfl, List.mem_of_getElem? (i := 185) rfl, List.mem_of_getElem? (i := 186) rfl⟩
def lw_privs_1 : List (MethodName × Nat) := [(⟨"SnapshotTree", "holds", "(II)Z"⟩, 8), (⟨"SnapshotTree", "leafFor", "(II)I"⟩, 8), (⟨"SnapshotTree", "ownPath", "(I)I"⟩, 8), (⟨"SnapshotTree", "ownNode", "(II)I"⟩, 8), (⟨"SnapshotTree", "freeNode", "()I"⟩, 8), (⟨"SnapshotTree", "levelMark", "(II)V"⟩, 8), (⟨"SnapshotTree", "prune", "(I)V"⟩, 8), (⟨"SnapshotTree", "leadsOn", "(I)Z"⟩, 8), (⟨"SnapshotTree", "share", "(II)V"⟩, 8), (⟨"SnapshotTree", "giveBack", "(I)V"⟩, 8), (⟨"SnapshotTree", "isMap", "(I)Z"⟩, 8), (⟨"SnapshotTree", "missingLevel", "(II)I"⟩, 8), (⟨"SnapshotTree", "sharedLevel", "(III)I"⟩, 8), (⟨"SnapshotTreeModel", "count", "(I)I"⟩, 3), (⟨"SnapshotTreeModel", "copy", "(II)V"⟩, 3), (⟨"SnapshotTreeModel", "free", "(I)Z"⟩, 3)]
theorem lw_r1 : ∀ q ∈ lw_privs_1, lw_okq q := List.forall_mem_cons.mpr ⟨lw_p0, List.forall_mem_cons.mpr ⟨lw_p1, List.forall_mem_cons.mpr ⟨lw_p2, List.forall_mem_cons.mpr ⟨lw_p3, List.forall_mem_cons.mpr ⟨lw_p4, List.forall_mem_cons.mpr ⟨lw_p5, List.forall_mem_cons.mpr ⟨lw_p6, List.forall_mem_cons.mpr ⟨lw_p7, List.forall_mem_cons.mpr ⟨lw_p8, List.forall_mem_cons.mpr ⟨lw_p9, List.forall_mem_cons.mpr ⟨lw_p10, List.forall_mem_cons.mpr ⟨lw_p11, List.forall_mem_cons.mpr ⟨lw_p12, List.forall_mem_cons.mpr ⟨lw_p13, List.forall_mem_cons.mpr ⟨lw_p14, List.forall_mem_cons.mpr ⟨lw_p15, fun _ h => absurd h List.not_mem_nil⟩⟩⟩⟩⟩⟩⟩⟩⟩⟩⟩⟩⟩⟩⟩⟩
theorem lw_p16 : lw_okq (⟨"SnapshotTreeModel", "place", "(I)I"⟩, 3) := ⟨⟨by decide +kernel, by decide +kernel⟩, List.mem_of_getElem? (i := 142) rfl, List.mem_of_getElem? (i := 197) rfl, List.mem_of_getElem? (i := 198) rfl⟩
theorem lw_p17 : lw_okq (⟨"SnapshotTreeModel", "differ", "(III)Z"⟩, 3) := ⟨⟨by decide +kernel, by decide +kernel⟩, List.mem_of_getElem? (i := 142) rfl, List.mem_of_getElem? (i := 217) rfl, List.mem_of_getElem? (i := 218) rfl⟩
def lw_privs_2 : List (MethodName × Nat) := [(⟨"SnapshotTreeModel", "place", "(I)I"⟩, 3), (⟨"SnapshotTreeModel", "differ", "(III)Z"⟩, 3)]
theorem lw_r2 : ∀ q ∈ lw_privs_2, lw_okq q := List.forall_mem_cons.mpr ⟨lw_p16, List.forall_mem_cons.mpr ⟨lw_p17, fun _ h => absurd h List.not_mem_nil⟩⟩
def lw_privs : List (MethodName × Nat) := lw_privs_1 ++ (lw_privs_2)
def lw_tbl : List Cond := k2_sels lw_privs ++ tables_1
theorem lw_privs_ok : ∀ q ∈ lw_privs, lw_okq q := by
  show ∀ q ∈ lw_privs_1 ++ (lw_privs_2), lw_okq q
  exact List.forall_mem_append.mpr ⟨lw_r1, lw_r2⟩
-- ===== ONE list of words for every method: the tables' words that hold all through a run =====
def lw_all : List Cond := lw_tbl.filter goodWord
/-- a word of the tables by its place: claim/WORDS.tsv -/
theorem lw_w {w : Cond} (i : Nat) (h : lw_tbl[i]? = some w) (g : goodWord w = true) : w ∈ lw_all := List.mem_filter.mpr ⟨List.mem_of_getElem? h, g⟩
theorem lw_all_tbl {w : Cond} (h : w ∈ lw_all) : w ∈ lw_tbl := (List.mem_filter.mp h).1
theorem lw_self : GoodIn lw_all lw_all := fun w h => ⟨h, good_of_word (List.mem_filter.mp h).2⟩
/-- a class's field words, by their places -/
theorem lw_in (ws : List Cond) (ps : List Nat) (hp : ws = ps.filterMap (fun i => lw_tbl[i]?)) (hg : ws.all goodWord = true) : ∀ w ∈ ws, w ∈ lw_all := by
  intro w h
  have h1 := List.all_eq_true.mp hg w h
  rw [hp] at h
  obtain ⟨i, -, hi⟩ := List.mem_filterMap.mp h
  exact lw_w i hi h1
/-- the words of a contract for the method y with code b, L locals, answer r -/
abbrev ws_ (y : MethodName) (b : ByteArray) (L : Nat) (r : Option FieldType) : List Cond := Cond.code y b L r :: lw_all
theorem lw_meth {y : MethodName} {b : ByteArray} {L : Nat} {r : Option FieldType} (h : Cond.code y b L r ∈ lw_all) : GoodIn lw_all (ws_ y b L r) := by
  intro w hw
  rcases List.mem_cons.mp hw with e | e
  · rw [e]
    exact lw_self _ h
  · exact lw_self _ e
theorem lw_app {a c : List Cond} (ha : ∀ w ∈ a, w ∈ lw_all) (hc : GoodIn lw_all c) : GoodIn lw_all (a ++ c) := by
  intro w hw
  rcases List.mem_append.mp hw with e | e
  · exact lw_self w (ha w e)
  · exact hc w e
/-- what a call through an object asks: cwV n hts (lw_V ..) -/
theorem lw_V {own : String} {idx : Nat} {C : String} {y : MethodName} {b : ByteArray} {L : Nat} {r : Option FieldType} (h1 : Cond.methodLink own idx y ∈ lw_all) (h2 : Cond.instanceMethod y ∈ lw_all) (h3 : Cond.selects C y y ∈ lw_all) (h4 : Cond.initialized C ∈ lw_all) (h5 : Cond.code y b L r ∈ lw_all) : GoodIn lw_all (wsV own idx C y (ws_ y b L r)) := by
  refine lw_app ?_ (lw_meth h5)
  intro w hw
  simp only [List.mem_cons, List.not_mem_nil, or_false] at hw
  rcases hw with e | e | e | e
  · rw [e]; exact h1
  · rw [e]; exact h2
  · rw [e]; exact h3
  · rw [e]; exact h4
/-- what a static call asks: va_cwS n hts (lw_S ..) -/
theorem lw_S {own : String} {idx : Nat} {y : MethodName} {b : ByteArray} {L : Nat} {r : Option FieldType} (h1 : Cond.methodLink own idx y ∈ lw_all) (h2 : Cond.static y ∈ lw_all) (h3 : Cond.initialized y.cls ∈ lw_all) (h4 : Cond.code y b L r ∈ lw_all) : GoodIn lw_all (va_wsS own idx y (ws_ y b L r)) := by
  refine lw_app ?_ (lw_meth h4)
  intro w hw
  simp only [List.mem_cons, List.not_mem_nil, or_false] at hw
  rcases hw with e | e | e
  · rw [e]; exact h1
  · rw [e]; exact h2
  · rw [e]; exact h3
/-- the words of a contract for a method WITH HANDLERS (hh: its table) -/
abbrev wsW_ (y : MethodName) (b : ByteArray) (L : Nat) (r : Option FieldType) (hh : List (Nat × Nat × Nat × Nat)) : List Cond := Cond.codeWith y b L r hh :: lw_all
theorem lw_methW {y : MethodName} {b : ByteArray} {L : Nat} {r : Option FieldType} {hh : List (Nat × Nat × Nat × Nat)} (h : Cond.codeWith y b L r hh ∈ lw_all) : GoodIn lw_all (wsW_ y b L r hh) := by
  intro w hw
  rcases List.mem_cons.mp hw with e | e
  · rw [e]
    exact lw_self _ h
  · exact lw_self _ e
/-- any list of words by their places (lw_in), good -/
theorem lw_good {ws : List Cond} (h : ∀ w ∈ ws, w ∈ lw_all) : GoodIn lw_all ws := fun w hw => lw_self w (h w hw)
/-- what a call of a method with handlers asks: vx_cwVW n hts (lw_VW ..), vx_cwSW n hts (lw_SW ..) -/
theorem lw_VW {own : String} {idx : Nat} {C : String} {y : MethodName} {b : ByteArray} {L : Nat} {r : Option FieldType} {hh : List (Nat × Nat × Nat × Nat)} (h1 : Cond.methodLink own idx y ∈ lw_all) (h2 : Cond.instanceMethod y ∈ lw_all) (h3 : Cond.selects C y y ∈ lw_all) (h4 : Cond.initialized C ∈ lw_all) (h5 : Cond.codeWith y b L r hh ∈ lw_all) : GoodIn lw_all (wsV own idx C y (wsW_ y b L r hh)) := by
  refine lw_app ?_ (lw_methW h5)
  intro w hw
  simp only [List.mem_cons, List.not_mem_nil, or_false] at hw
  rcases hw with e | e | e | e
  · rw [e]; exact h1
  · rw [e]; exact h2
  · rw [e]; exact h3
  · rw [e]; exact h4
theorem lw_SW {own : String} {idx : Nat} {y : MethodName} {b : ByteArray} {L : Nat} {r : Option FieldType} {hh : List (Nat × Nat × Nat × Nat)} (h1 : Cond.methodLink own idx y ∈ lw_all) (h2 : Cond.static y ∈ lw_all) (h3 : Cond.initialized y.cls ∈ lw_all) (h4 : Cond.codeWith y b L r hh ∈ lw_all) : GoodIn lw_all (va_wsS own idx y (wsW_ y b L r hh)) := by
  refine lw_app ?_ (lw_methW h4)
  intro w hw
  simp only [List.mem_cons, List.not_mem_nil, or_false] at hw
  rcases hw with e | e | e
  · rw [e]; exact h1
  · rw [e]; exact h2
  · rw [e]; exact h3
/-- a word by its place in its run of the tables -/
theorem lw_at {r : List Cond} (hr : ∀ w ∈ r, w ∈ lw_tbl) {w : Cond} (i : Nat) (h : r[i]? = some w) : w ∈ lw_tbl := hr w (List.mem_of_getElem? h)
theorem lw_g {w : Cond} (h : w ∈ lw_tbl) (g : goodWord w = true) : w ∈ lw_all := List.mem_filter.mpr ⟨h, g⟩
theorem lw_ms : ∀ w ∈ k2_sels lw_privs, w ∈ lw_tbl := fun w h => show w ∈ k2_sels lw_privs ++ tables_1 from List.mem_append_left _ h
theorem lw_m0 : ∀ w ∈ tables_1, w ∈ lw_tbl := fun w h => show w ∈ k2_sels lw_privs ++ tables_1 from List.mem_append_right (k2_sels lw_privs) h
theorem qs0 : (Cond.selects "SnapshotTree" ⟨"SnapshotTree", "holds", "(II)Z"⟩ ⟨"SnapshotTree", "holds", "(II)Z"⟩) ∈ lw_all := lw_g (lw_at lw_ms 0 rfl) rfl
theorem qs1 : (Cond.selects "SnapshotTree" ⟨"SnapshotTree", "leafFor", "(II)I"⟩ ⟨"SnapshotTree", "leafFor", "(II)I"⟩) ∈ lw_all := lw_g (lw_at lw_ms 1 rfl) rfl
theorem qs2 : (Cond.selects "SnapshotTree" ⟨"SnapshotTree", "ownPath", "(I)I"⟩ ⟨"SnapshotTree", "ownPath", "(I)I"⟩) ∈ lw_all := lw_g (lw_at lw_ms 2 rfl) rfl
theorem qs3 : (Cond.selects "SnapshotTree" ⟨"SnapshotTree", "ownNode", "(II)I"⟩ ⟨"SnapshotTree", "ownNode", "(II)I"⟩) ∈ lw_all := lw_g (lw_at lw_ms 3 rfl) rfl
theorem qs4 : (Cond.selects "SnapshotTree" ⟨"SnapshotTree", "freeNode", "()I"⟩ ⟨"SnapshotTree", "freeNode", "()I"⟩) ∈ lw_all := lw_g (lw_at lw_ms 4 rfl) rfl
theorem qs5 : (Cond.selects "SnapshotTree" ⟨"SnapshotTree", "levelMark", "(II)V"⟩ ⟨"SnapshotTree", "levelMark", "(II)V"⟩) ∈ lw_all := lw_g (lw_at lw_ms 5 rfl) rfl
theorem qs6 : (Cond.selects "SnapshotTree" ⟨"SnapshotTree", "prune", "(I)V"⟩ ⟨"SnapshotTree", "prune", "(I)V"⟩) ∈ lw_all := lw_g (lw_at lw_ms 6 rfl) rfl
theorem qs7 : (Cond.selects "SnapshotTree" ⟨"SnapshotTree", "leadsOn", "(I)Z"⟩ ⟨"SnapshotTree", "leadsOn", "(I)Z"⟩) ∈ lw_all := lw_g (lw_at lw_ms 7 rfl) rfl
theorem qs8 : (Cond.selects "SnapshotTree" ⟨"SnapshotTree", "share", "(II)V"⟩ ⟨"SnapshotTree", "share", "(II)V"⟩) ∈ lw_all := lw_g (lw_at lw_ms 8 rfl) rfl
theorem qs9 : (Cond.selects "SnapshotTree" ⟨"SnapshotTree", "giveBack", "(I)V"⟩ ⟨"SnapshotTree", "giveBack", "(I)V"⟩) ∈ lw_all := lw_g (lw_at lw_ms 9 rfl) rfl
theorem qs10 : (Cond.selects "SnapshotTree" ⟨"SnapshotTree", "isMap", "(I)Z"⟩ ⟨"SnapshotTree", "isMap", "(I)Z"⟩) ∈ lw_all := lw_g (lw_at lw_ms 10 rfl) rfl
theorem qs11 : (Cond.selects "SnapshotTree" ⟨"SnapshotTree", "missingLevel", "(II)I"⟩ ⟨"SnapshotTree", "missingLevel", "(II)I"⟩) ∈ lw_all := lw_g (lw_at lw_ms 11 rfl) rfl
theorem qs12 : (Cond.selects "SnapshotTree" ⟨"SnapshotTree", "sharedLevel", "(III)I"⟩ ⟨"SnapshotTree", "sharedLevel", "(III)I"⟩) ∈ lw_all := lw_g (lw_at lw_ms 12 rfl) rfl
theorem qs13 : (Cond.selects "SnapshotTreeModel" ⟨"SnapshotTreeModel", "count", "(I)I"⟩ ⟨"SnapshotTreeModel", "count", "(I)I"⟩) ∈ lw_all := lw_g (lw_at lw_ms 13 rfl) rfl
theorem qs14 : (Cond.selects "SnapshotTreeModel" ⟨"SnapshotTreeModel", "copy", "(II)V"⟩ ⟨"SnapshotTreeModel", "copy", "(II)V"⟩) ∈ lw_all := lw_g (lw_at lw_ms 14 rfl) rfl
theorem qs15 : (Cond.selects "SnapshotTreeModel" ⟨"SnapshotTreeModel", "free", "(I)Z"⟩ ⟨"SnapshotTreeModel", "free", "(I)Z"⟩) ∈ lw_all := lw_g (lw_at lw_ms 15 rfl) rfl
theorem qs16 : (Cond.selects "SnapshotTreeModel" ⟨"SnapshotTreeModel", "place", "(I)I"⟩ ⟨"SnapshotTreeModel", "place", "(I)I"⟩) ∈ lw_all := lw_g (lw_at lw_ms 16 rfl) rfl
theorem qs17 : (Cond.selects "SnapshotTreeModel" ⟨"SnapshotTreeModel", "differ", "(III)Z"⟩ ⟨"SnapshotTreeModel", "differ", "(III)Z"⟩) ∈ lw_all := lw_g (lw_at lw_ms 17 rfl) rfl
end
section
set_option maxRecDepth 100000
/-! SnapshotTree -/
def RX0 : String := "SnapshotTree"
def TX0 : u_T := fun k => match k with
  | 0 => ("SnapshotTree", "way", "[I", true)
  | 1 => ("SnapshotTree", "heldBits", "[I", true)
  | 2 => ("SnapshotTree", "users", "[I", true)
  | 3 => ("SnapshotTree", "there", "[Z", true)
  | 4 => ("SnapshotTree", "root", "[I", true)
  | 5 => ("SnapshotTree", "sizeOf", "[I", true)
  | 6 => ("SnapshotTree", "path", "[I", true)
  | _ => ("SnapshotTree", "stack", "[I", true)
def tyX0 : Nat → FieldType := fun k => match k with
  | 0 => .array .int
  | 1 => .array .int
  | 2 => .array .int
  | 3 => .array .boolean
  | 4 => .array .int
  | 5 => .array .int
  | 6 => .array .int
  | _ => .array .int
abbrev wsX00 : List Cond := u_ws RX0 TX0 8
theorem nmX0 : ∀ a, a < 8 → ∀ b, b < 8 → a ≠ b → (TX0 a).2.1 ≠ (TX0 b).2.1 := by decide +kernel
theorem tyX0_ok : ∀ k, k < 8 → parseFieldDescriptor (TX0 k).2.2.1 = some (tyX0 k) := by decide +kernel
abbrev cX0_init : ByteArray := prog_1_method_1_code
def yX0_init : MethodName := ⟨RX0, "<init>", "()V"⟩
abbrev cX0_put : ByteArray := prog_1_method_2_code
def yX0_put : MethodName := ⟨RX0, "put", "(II)I"⟩
abbrev cX0_holds : ByteArray := prog_1_method_16_code
def yX0_holds : MethodName := ⟨RX0, "holds", "(II)Z"⟩
abbrev cX0_leafFor : ByteArray := prog_1_method_15_code
def yX0_leafFor : MethodName := ⟨RX0, "leafFor", "(II)I"⟩
abbrev cX0_turn : ByteArray := prog_1_method_14_code
def yX0_turn : MethodName := ⟨RX0, "turn", "(II)I"⟩
abbrev cX0_ownPath : ByteArray := prog_1_method_21_code
def yX0_ownPath : MethodName := ⟨RX0, "ownPath", "(I)I"⟩
abbrev cX0_ownNode : ByteArray := prog_1_method_22_code
def yX0_ownNode : MethodName := ⟨RX0, "ownNode", "(II)I"⟩
abbrev cX0_freeNode : ByteArray := prog_1_method_23_code
def yX0_freeNode : MethodName := ⟨RX0, "freeNode", "()I"⟩
abbrev cX0_levelMark : ByteArray := prog_1_method_24_code
def yX0_levelMark : MethodName := ⟨RX0, "levelMark", "(II)V"⟩
abbrev cX0_remove : ByteArray := prog_1_method_3_code
def yX0_remove : MethodName := ⟨RX0, "remove", "(I)I"⟩
abbrev cX0_prune : ByteArray := prog_1_method_25_code
def yX0_prune : MethodName := ⟨RX0, "prune", "(I)V"⟩
abbrev cX0_leadsOn : ByteArray := prog_1_method_26_code
def yX0_leadsOn : MethodName := ⟨RX0, "leadsOn", "(I)Z"⟩
abbrev cX0_commit : ByteArray := prog_1_method_4_code
def yX0_commit : MethodName := ⟨RX0, "commit", "()I"⟩
abbrev cX0_share : ByteArray := prog_1_method_20_code
def yX0_share : MethodName := ⟨RX0, "share", "(II)V"⟩
abbrev cX0_restore : ByteArray := prog_1_method_5_code
def yX0_restore : MethodName := ⟨RX0, "restore", "(I)I"⟩
abbrev cX0_giveBack : ByteArray := prog_1_method_27_code
def yX0_giveBack : MethodName := ⟨RX0, "giveBack", "(I)V"⟩
abbrev cX0_drop : ByteArray := prog_1_method_6_code
def yX0_drop : MethodName := ⟨RX0, "drop", "(I)I"⟩
abbrev cX0_get : ByteArray := prog_1_method_7_code
def yX0_get : MethodName := ⟨RX0, "get", "(II)I"⟩
abbrev cX0_isMap : ByteArray := prog_1_method_13_code
def yX0_isMap : MethodName := ⟨RX0, "isMap", "(I)Z"⟩
abbrev cX0_has : ByteArray := prog_1_method_8_code
def yX0_has : MethodName := ⟨RX0, "has", "(II)I"⟩
abbrev cX0_size : ByteArray := prog_1_method_9_code
def yX0_size : MethodName := ⟨RX0, "size", "(I)I"⟩
abbrev cX0_next : ByteArray := prog_1_method_10_code
def yX0_next : MethodName := ⟨RX0, "next", "(II)I"⟩
abbrev cX0_missingLevel : ByteArray := prog_1_method_18_code
def yX0_missingLevel : MethodName := ⟨RX0, "missingLevel", "(II)I"⟩
abbrev cX0_behind : ByteArray := prog_1_method_17_code
def yX0_behind : MethodName := ⟨RX0, "behind", "(II)I"⟩
abbrev cX0_nextChange : ByteArray := prog_1_method_11_code
def yX0_nextChange : MethodName := ⟨RX0, "nextChange", "(III)I"⟩
abbrev cX0_sharedLevel : ByteArray := prog_1_method_19_code
def yX0_sharedLevel : MethodName := ⟨RX0, "sharedLevel", "(III)I"⟩
abbrev cX0_changes : ByteArray := prog_1_method_12_code
def yX0_changes : MethodName := ⟨RX0, "changes", "(II)I"⟩
theorem q19 : (Jvm.Cond.initialized "SnapshotTree") ∈ lw_all := lw_g (lw_at lw_m0 1 rfl) rfl
theorem q22 : (Jvm.Cond.instantiable "SnapshotTree" (8 : Nat)) ∈ lw_all := lw_g (lw_at lw_m0 4 rfl) rfl
theorem q24 : (Jvm.Cond.instanceMethod ({ cls := "SnapshotTree", name := "<init>", desc := "()V" } : Jvm.MethodName)) ∈ lw_all := lw_g (lw_at lw_m0 6 rfl) rfl
theorem q25 : (Jvm.Cond.code ({ cls := "SnapshotTree", name := "<init>", desc := "()V" } : Jvm.MethodName) prog_1_method_1_code (2 : Nat) (Option.none : Option Jvm.ClassFile.FieldType)) ∈ lw_all := lw_g (lw_at lw_m0 7 rfl) rfl
theorem q26 : (Jvm.Cond.methodLink "SnapshotTree" (1 : Nat) ({ cls := "java/lang/Object", name := "<init>", desc := "()V" } : Jvm.MethodName)) ∈ lw_all := lw_g (lw_at lw_m0 8 rfl) rfl
theorem q29 : (Jvm.Cond.fieldLink "SnapshotTree" (7 : Nat) "SnapshotTree" "way" "[I") ∈ lw_all := lw_g (lw_at lw_m0 11 rfl) rfl
theorem q30 : (Jvm.Cond.fieldLink "SnapshotTree" (13 : Nat) "SnapshotTree" "heldBits" "[I") ∈ lw_all := lw_g (lw_at lw_m0 12 rfl) rfl
theorem q31 : (Jvm.Cond.fieldLink "SnapshotTree" (16 : Nat) "SnapshotTree" "users" "[I") ∈ lw_all := lw_g (lw_at lw_m0 13 rfl) rfl
theorem q32 : (Jvm.Cond.fieldLink "SnapshotTree" (19 : Nat) "SnapshotTree" "there" "[Z") ∈ lw_all := lw_g (lw_at lw_m0 14 rfl) rfl
theorem q33 : (Jvm.Cond.fieldLink "SnapshotTree" (23 : Nat) "SnapshotTree" "root" "[I") ∈ lw_all := lw_g (lw_at lw_m0 15 rfl) rfl
theorem q34 : (Jvm.Cond.fieldLink "SnapshotTree" (26 : Nat) "SnapshotTree" "sizeOf" "[I") ∈ lw_all := lw_g (lw_at lw_m0 16 rfl) rfl
theorem q35 : (Jvm.Cond.fieldLink "SnapshotTree" (29 : Nat) "SnapshotTree" "path" "[I") ∈ lw_all := lw_g (lw_at lw_m0 17 rfl) rfl
theorem q36 : (Jvm.Cond.fieldLink "SnapshotTree" (32 : Nat) "SnapshotTree" "stack" "[I") ∈ lw_all := lw_g (lw_at lw_m0 18 rfl) rfl
theorem q37 : (Jvm.Cond.laysFinal "SnapshotTree" "SnapshotTree" "way" "[I") ∈ lw_all := lw_g (lw_at lw_m0 19 rfl) rfl
theorem q38 : (Jvm.Cond.soleField "SnapshotTree" "way") ∈ lw_all := lw_g (lw_at lw_m0 20 rfl) rfl
theorem q39 : (Jvm.Cond.laysFinal "SnapshotTree" "SnapshotTree" "heldBits" "[I") ∈ lw_all := lw_g (lw_at lw_m0 21 rfl) rfl
theorem q40 : (Jvm.Cond.soleField "SnapshotTree" "heldBits") ∈ lw_all := lw_g (lw_at lw_m0 22 rfl) rfl
theorem q41 : (Jvm.Cond.laysFinal "SnapshotTree" "SnapshotTree" "users" "[I") ∈ lw_all := lw_g (lw_at lw_m0 23 rfl) rfl
theorem q42 : (Jvm.Cond.soleField "SnapshotTree" "users") ∈ lw_all := lw_g (lw_at lw_m0 24 rfl) rfl
theorem q43 : (Jvm.Cond.laysFinal "SnapshotTree" "SnapshotTree" "there" "[Z") ∈ lw_all := lw_g (lw_at lw_m0 25 rfl) rfl
theorem q44 : (Jvm.Cond.soleField "SnapshotTree" "there") ∈ lw_all := lw_g (lw_at lw_m0 26 rfl) rfl
theorem q45 : (Jvm.Cond.laysFinal "SnapshotTree" "SnapshotTree" "root" "[I") ∈ lw_all := lw_g (lw_at lw_m0 27 rfl) rfl
theorem q46 : (Jvm.Cond.soleField "SnapshotTree" "root") ∈ lw_all := lw_g (lw_at lw_m0 28 rfl) rfl
theorem q47 : (Jvm.Cond.laysFinal "SnapshotTree" "SnapshotTree" "sizeOf" "[I") ∈ lw_all := lw_g (lw_at lw_m0 29 rfl) rfl
theorem q48 : (Jvm.Cond.soleField "SnapshotTree" "sizeOf") ∈ lw_all := lw_g (lw_at lw_m0 30 rfl) rfl
theorem q49 : (Jvm.Cond.laysFinal "SnapshotTree" "SnapshotTree" "path" "[I") ∈ lw_all := lw_g (lw_at lw_m0 31 rfl) rfl
theorem q50 : (Jvm.Cond.soleField "SnapshotTree" "path") ∈ lw_all := lw_g (lw_at lw_m0 32 rfl) rfl
theorem q51 : (Jvm.Cond.laysFinal "SnapshotTree" "SnapshotTree" "stack" "[I") ∈ lw_all := lw_g (lw_at lw_m0 33 rfl) rfl
theorem q52 : (Jvm.Cond.soleField "SnapshotTree" "stack") ∈ lw_all := lw_g (lw_at lw_m0 34 rfl) rfl
theorem q53 : (Jvm.Cond.superclass "SnapshotTree" "java/lang/Object") ∈ lw_all := lw_g (lw_at lw_m0 35 rfl) rfl
theorem q57 : (Jvm.Cond.instanceMethod ({ cls := "SnapshotTree", name := "put", desc := "(II)I" } : Jvm.MethodName)) ∈ lw_all := lw_g (lw_at lw_m0 39 rfl) rfl
theorem q58 : (Jvm.Cond.selects "SnapshotTree" ({ cls := "SnapshotTree", name := "put", desc := "(II)I" } : Jvm.MethodName) ({ cls := "SnapshotTree", name := "put", desc := "(II)I" } : Jvm.MethodName)) ∈ lw_all := lw_g (lw_at lw_m0 40 rfl) rfl
theorem q59 : (Jvm.Cond.code ({ cls := "SnapshotTree", name := "put", desc := "(II)I" } : Jvm.MethodName) prog_1_method_2_code (5 : Nat) (Option.some Jvm.ClassFile.FieldType.int)) ∈ lw_all := lw_g (lw_at lw_m0 41 rfl) rfl
theorem q60 : (Jvm.Cond.methodLink "SnapshotTree" (35 : Nat) ({ cls := "SnapshotTree", name := "holds", desc := "(II)Z" } : Jvm.MethodName)) ∈ lw_all := lw_g (lw_at lw_m0 42 rfl) rfl
theorem q61 : (Jvm.Cond.privateMethod ({ cls := "SnapshotTree", name := "holds", desc := "(II)Z" } : Jvm.MethodName)) ∈ lw_tbl := lw_at lw_m0 43 rfl
theorem q62 : (Jvm.Cond.instanceMethod ({ cls := "SnapshotTree", name := "holds", desc := "(II)Z" } : Jvm.MethodName)) ∈ lw_all := lw_g (lw_at lw_m0 44 rfl) rfl
theorem q63 : (Jvm.Cond.code ({ cls := "SnapshotTree", name := "holds", desc := "(II)Z" } : Jvm.MethodName) prog_1_method_16_code (4 : Nat) (Option.some Jvm.ClassFile.FieldType.boolean)) ∈ lw_all := lw_g (lw_at lw_m0 45 rfl) rfl
theorem q64 : (Jvm.Cond.methodLink "SnapshotTree" (58 : Nat) ({ cls := "SnapshotTree", name := "leafFor", desc := "(II)I" } : Jvm.MethodName)) ∈ lw_all := lw_g (lw_at lw_m0 46 rfl) rfl
theorem q65 : (Jvm.Cond.privateMethod ({ cls := "SnapshotTree", name := "leafFor", desc := "(II)I" } : Jvm.MethodName)) ∈ lw_tbl := lw_at lw_m0 47 rfl
theorem q66 : (Jvm.Cond.instanceMethod ({ cls := "SnapshotTree", name := "leafFor", desc := "(II)I" } : Jvm.MethodName)) ∈ lw_all := lw_g (lw_at lw_m0 48 rfl) rfl
theorem q67 : (Jvm.Cond.code ({ cls := "SnapshotTree", name := "leafFor", desc := "(II)I" } : Jvm.MethodName) prog_1_method_15_code (5 : Nat) (Option.some Jvm.ClassFile.FieldType.int)) ∈ lw_all := lw_g (lw_at lw_m0 49 rfl) rfl
theorem q68 : (Jvm.Cond.methodLink "SnapshotTree" (75 : Nat) ({ cls := "SnapshotTree", name := "turn", desc := "(II)I" } : Jvm.MethodName)) ∈ lw_all := lw_g (lw_at lw_m0 50 rfl) rfl
theorem q69 : (Jvm.Cond.static ({ cls := "SnapshotTree", name := "turn", desc := "(II)I" } : Jvm.MethodName)) ∈ lw_all := lw_g (lw_at lw_m0 51 rfl) rfl
theorem q70 : (Jvm.Cond.code ({ cls := "SnapshotTree", name := "turn", desc := "(II)I" } : Jvm.MethodName) prog_1_method_14_code (2 : Nat) (Option.some Jvm.ClassFile.FieldType.int)) ∈ lw_all := lw_g (lw_at lw_m0 52 rfl) rfl
theorem q71 : (Jvm.Cond.methodLink "SnapshotTree" (39 : Nat) ({ cls := "SnapshotTree", name := "ownPath", desc := "(I)I" } : Jvm.MethodName)) ∈ lw_all := lw_g (lw_at lw_m0 53 rfl) rfl
theorem q72 : (Jvm.Cond.privateMethod ({ cls := "SnapshotTree", name := "ownPath", desc := "(I)I" } : Jvm.MethodName)) ∈ lw_tbl := lw_at lw_m0 54 rfl
theorem q73 : (Jvm.Cond.instanceMethod ({ cls := "SnapshotTree", name := "ownPath", desc := "(I)I" } : Jvm.MethodName)) ∈ lw_all := lw_g (lw_at lw_m0 55 rfl) rfl
theorem q74 : (Jvm.Cond.code ({ cls := "SnapshotTree", name := "ownPath", desc := "(I)I" } : Jvm.MethodName) prog_1_method_21_code (4 : Nat) (Option.some Jvm.ClassFile.FieldType.int)) ∈ lw_all := lw_g (lw_at lw_m0 56 rfl) rfl
theorem q75 : (Jvm.Cond.methodLink "SnapshotTree" (78 : Nat) ({ cls := "SnapshotTree", name := "ownNode", desc := "(II)I" } : Jvm.MethodName)) ∈ lw_all := lw_g (lw_at lw_m0 57 rfl) rfl
theorem q76 : (Jvm.Cond.privateMethod ({ cls := "SnapshotTree", name := "ownNode", desc := "(II)I" } : Jvm.MethodName)) ∈ lw_tbl := lw_at lw_m0 58 rfl
theorem q77 : (Jvm.Cond.instanceMethod ({ cls := "SnapshotTree", name := "ownNode", desc := "(II)I" } : Jvm.MethodName)) ∈ lw_all := lw_g (lw_at lw_m0 59 rfl) rfl
theorem q78 : (Jvm.Cond.code ({ cls := "SnapshotTree", name := "ownNode", desc := "(II)I" } : Jvm.MethodName) prog_1_method_22_code (5 : Nat) (Option.some Jvm.ClassFile.FieldType.int)) ∈ lw_all := lw_g (lw_at lw_m0 60 rfl) rfl
theorem q79 : (Jvm.Cond.methodLink "SnapshotTree" (81 : Nat) ({ cls := "SnapshotTree", name := "freeNode", desc := "()I" } : Jvm.MethodName)) ∈ lw_all := lw_g (lw_at lw_m0 61 rfl) rfl
theorem q80 : (Jvm.Cond.privateMethod ({ cls := "SnapshotTree", name := "freeNode", desc := "()I" } : Jvm.MethodName)) ∈ lw_tbl := lw_at lw_m0 62 rfl
theorem q81 : (Jvm.Cond.instanceMethod ({ cls := "SnapshotTree", name := "freeNode", desc := "()I" } : Jvm.MethodName)) ∈ lw_all := lw_g (lw_at lw_m0 63 rfl) rfl
theorem q82 : (Jvm.Cond.code ({ cls := "SnapshotTree", name := "freeNode", desc := "()I" } : Jvm.MethodName) prog_1_method_23_code (2 : Nat) (Option.some Jvm.ClassFile.FieldType.int)) ∈ lw_all := lw_g (lw_at lw_m0 64 rfl) rfl
theorem q83 : (Jvm.Cond.methodLink "SnapshotTree" (85 : Nat) ({ cls := "SnapshotTree", name := "levelMark", desc := "(II)V" } : Jvm.MethodName)) ∈ lw_all := lw_g (lw_at lw_m0 65 rfl) rfl
theorem q84 : (Jvm.Cond.privateMethod ({ cls := "SnapshotTree", name := "levelMark", desc := "(II)V" } : Jvm.MethodName)) ∈ lw_tbl := lw_at lw_m0 66 rfl
theorem q85 : (Jvm.Cond.instanceMethod ({ cls := "SnapshotTree", name := "levelMark", desc := "(II)V" } : Jvm.MethodName)) ∈ lw_all := lw_g (lw_at lw_m0 67 rfl) rfl
theorem q86 : (Jvm.Cond.code ({ cls := "SnapshotTree", name := "levelMark", desc := "(II)V" } : Jvm.MethodName) prog_1_method_24_code (3 : Nat) (Option.none : Option Jvm.ClassFile.FieldType)) ∈ lw_all := lw_g (lw_at lw_m0 68 rfl) rfl
theorem q88 : (Jvm.Cond.instanceMethod ({ cls := "SnapshotTree", name := "remove", desc := "(I)I" } : Jvm.MethodName)) ∈ lw_all := lw_g (lw_at lw_m0 70 rfl) rfl
theorem q89 : (Jvm.Cond.selects "SnapshotTree" ({ cls := "SnapshotTree", name := "remove", desc := "(I)I" } : Jvm.MethodName) ({ cls := "SnapshotTree", name := "remove", desc := "(I)I" } : Jvm.MethodName)) ∈ lw_all := lw_g (lw_at lw_m0 71 rfl) rfl
theorem q90 : (Jvm.Cond.code ({ cls := "SnapshotTree", name := "remove", desc := "(I)I" } : Jvm.MethodName) prog_1_method_3_code (3 : Nat) (Option.some Jvm.ClassFile.FieldType.int)) ∈ lw_all := lw_g (lw_at lw_m0 72 rfl) rfl
theorem q91 : (Jvm.Cond.methodLink "SnapshotTree" (43 : Nat) ({ cls := "SnapshotTree", name := "prune", desc := "(I)V" } : Jvm.MethodName)) ∈ lw_all := lw_g (lw_at lw_m0 73 rfl) rfl
theorem q92 : (Jvm.Cond.privateMethod ({ cls := "SnapshotTree", name := "prune", desc := "(I)V" } : Jvm.MethodName)) ∈ lw_tbl := lw_at lw_m0 74 rfl
theorem q93 : (Jvm.Cond.instanceMethod ({ cls := "SnapshotTree", name := "prune", desc := "(I)V" } : Jvm.MethodName)) ∈ lw_all := lw_g (lw_at lw_m0 75 rfl) rfl
theorem q94 : (Jvm.Cond.code ({ cls := "SnapshotTree", name := "prune", desc := "(I)V" } : Jvm.MethodName) prog_1_method_25_code (3 : Nat) (Option.none : Option Jvm.ClassFile.FieldType)) ∈ lw_all := lw_g (lw_at lw_m0 76 rfl) rfl
theorem q95 : (Jvm.Cond.methodLink "SnapshotTree" (88 : Nat) ({ cls := "SnapshotTree", name := "leadsOn", desc := "(I)Z" } : Jvm.MethodName)) ∈ lw_all := lw_g (lw_at lw_m0 77 rfl) rfl
theorem q96 : (Jvm.Cond.privateMethod ({ cls := "SnapshotTree", name := "leadsOn", desc := "(I)Z" } : Jvm.MethodName)) ∈ lw_tbl := lw_at lw_m0 78 rfl
theorem q97 : (Jvm.Cond.instanceMethod ({ cls := "SnapshotTree", name := "leadsOn", desc := "(I)Z" } : Jvm.MethodName)) ∈ lw_all := lw_g (lw_at lw_m0 79 rfl) rfl
theorem q98 : (Jvm.Cond.code ({ cls := "SnapshotTree", name := "leadsOn", desc := "(I)Z" } : Jvm.MethodName) prog_1_method_26_code (3 : Nat) (Option.some Jvm.ClassFile.FieldType.boolean)) ∈ lw_all := lw_g (lw_at lw_m0 80 rfl) rfl
theorem q100 : (Jvm.Cond.instanceMethod ({ cls := "SnapshotTree", name := "commit", desc := "()I" } : Jvm.MethodName)) ∈ lw_all := lw_g (lw_at lw_m0 82 rfl) rfl
theorem q101 : (Jvm.Cond.selects "SnapshotTree" ({ cls := "SnapshotTree", name := "commit", desc := "()I" } : Jvm.MethodName) ({ cls := "SnapshotTree", name := "commit", desc := "()I" } : Jvm.MethodName)) ∈ lw_all := lw_g (lw_at lw_m0 83 rfl) rfl
theorem q102 : (Jvm.Cond.code ({ cls := "SnapshotTree", name := "commit", desc := "()I" } : Jvm.MethodName) prog_1_method_4_code (2 : Nat) (Option.some Jvm.ClassFile.FieldType.int)) ∈ lw_all := lw_g (lw_at lw_m0 84 rfl) rfl
theorem q103 : (Jvm.Cond.methodLink "SnapshotTree" (47 : Nat) ({ cls := "SnapshotTree", name := "share", desc := "(II)V" } : Jvm.MethodName)) ∈ lw_all := lw_g (lw_at lw_m0 85 rfl) rfl
theorem q104 : (Jvm.Cond.privateMethod ({ cls := "SnapshotTree", name := "share", desc := "(II)V" } : Jvm.MethodName)) ∈ lw_tbl := lw_at lw_m0 86 rfl
theorem q105 : (Jvm.Cond.instanceMethod ({ cls := "SnapshotTree", name := "share", desc := "(II)V" } : Jvm.MethodName)) ∈ lw_all := lw_g (lw_at lw_m0 87 rfl) rfl
theorem q106 : (Jvm.Cond.code ({ cls := "SnapshotTree", name := "share", desc := "(II)V" } : Jvm.MethodName) prog_1_method_20_code (3 : Nat) (Option.none : Option Jvm.ClassFile.FieldType)) ∈ lw_all := lw_g (lw_at lw_m0 88 rfl) rfl
theorem q108 : (Jvm.Cond.instanceMethod ({ cls := "SnapshotTree", name := "restore", desc := "(I)I" } : Jvm.MethodName)) ∈ lw_all := lw_g (lw_at lw_m0 90 rfl) rfl
theorem q109 : (Jvm.Cond.selects "SnapshotTree" ({ cls := "SnapshotTree", name := "restore", desc := "(I)I" } : Jvm.MethodName) ({ cls := "SnapshotTree", name := "restore", desc := "(I)I" } : Jvm.MethodName)) ∈ lw_all := lw_g (lw_at lw_m0 91 rfl) rfl
theorem q110 : (Jvm.Cond.code ({ cls := "SnapshotTree", name := "restore", desc := "(I)I" } : Jvm.MethodName) prog_1_method_5_code (3 : Nat) (Option.some Jvm.ClassFile.FieldType.int)) ∈ lw_all := lw_g (lw_at lw_m0 92 rfl) rfl
theorem q111 : (Jvm.Cond.methodLink "SnapshotTree" (51 : Nat) ({ cls := "SnapshotTree", name := "giveBack", desc := "(I)V" } : Jvm.MethodName)) ∈ lw_all := lw_g (lw_at lw_m0 93 rfl) rfl
theorem q112 : (Jvm.Cond.privateMethod ({ cls := "SnapshotTree", name := "giveBack", desc := "(I)V" } : Jvm.MethodName)) ∈ lw_tbl := lw_at lw_m0 94 rfl
theorem q113 : (Jvm.Cond.instanceMethod ({ cls := "SnapshotTree", name := "giveBack", desc := "(I)V" } : Jvm.MethodName)) ∈ lw_all := lw_g (lw_at lw_m0 95 rfl) rfl
theorem q114 : (Jvm.Cond.code ({ cls := "SnapshotTree", name := "giveBack", desc := "(I)V" } : Jvm.MethodName) prog_1_method_27_code (6 : Nat) (Option.none : Option Jvm.ClassFile.FieldType)) ∈ lw_all := lw_g (lw_at lw_m0 96 rfl) rfl
theorem q116 : (Jvm.Cond.instanceMethod ({ cls := "SnapshotTree", name := "drop", desc := "(I)I" } : Jvm.MethodName)) ∈ lw_all := lw_g (lw_at lw_m0 98 rfl) rfl
theorem q117 : (Jvm.Cond.selects "SnapshotTree" ({ cls := "SnapshotTree", name := "drop", desc := "(I)I" } : Jvm.MethodName) ({ cls := "SnapshotTree", name := "drop", desc := "(I)I" } : Jvm.MethodName)) ∈ lw_all := lw_g (lw_at lw_m0 99 rfl) rfl
theorem q118 : (Jvm.Cond.code ({ cls := "SnapshotTree", name := "drop", desc := "(I)I" } : Jvm.MethodName) prog_1_method_6_code (2 : Nat) (Option.some Jvm.ClassFile.FieldType.int)) ∈ lw_all := lw_g (lw_at lw_m0 100 rfl) rfl
theorem q120 : (Jvm.Cond.instanceMethod ({ cls := "SnapshotTree", name := "get", desc := "(II)I" } : Jvm.MethodName)) ∈ lw_all := lw_g (lw_at lw_m0 102 rfl) rfl
theorem q121 : (Jvm.Cond.selects "SnapshotTree" ({ cls := "SnapshotTree", name := "get", desc := "(II)I" } : Jvm.MethodName) ({ cls := "SnapshotTree", name := "get", desc := "(II)I" } : Jvm.MethodName)) ∈ lw_all := lw_g (lw_at lw_m0 103 rfl) rfl
theorem q122 : (Jvm.Cond.code ({ cls := "SnapshotTree", name := "get", desc := "(II)I" } : Jvm.MethodName) prog_1_method_7_code (4 : Nat) (Option.some Jvm.ClassFile.FieldType.int)) ∈ lw_all := lw_g (lw_at lw_m0 104 rfl) rfl
theorem q123 : (Jvm.Cond.methodLink "SnapshotTree" (54 : Nat) ({ cls := "SnapshotTree", name := "isMap", desc := "(I)Z" } : Jvm.MethodName)) ∈ lw_all := lw_g (lw_at lw_m0 105 rfl) rfl
theorem q124 : (Jvm.Cond.privateMethod ({ cls := "SnapshotTree", name := "isMap", desc := "(I)Z" } : Jvm.MethodName)) ∈ lw_tbl := lw_at lw_m0 106 rfl
theorem q125 : (Jvm.Cond.instanceMethod ({ cls := "SnapshotTree", name := "isMap", desc := "(I)Z" } : Jvm.MethodName)) ∈ lw_all := lw_g (lw_at lw_m0 107 rfl) rfl
theorem q126 : (Jvm.Cond.code ({ cls := "SnapshotTree", name := "isMap", desc := "(I)Z" } : Jvm.MethodName) prog_1_method_13_code (2 : Nat) (Option.some Jvm.ClassFile.FieldType.boolean)) ∈ lw_all := lw_g (lw_at lw_m0 108 rfl) rfl
theorem q128 : (Jvm.Cond.instanceMethod ({ cls := "SnapshotTree", name := "has", desc := "(II)I" } : Jvm.MethodName)) ∈ lw_all := lw_g (lw_at lw_m0 110 rfl) rfl
theorem q129 : (Jvm.Cond.selects "SnapshotTree" ({ cls := "SnapshotTree", name := "has", desc := "(II)I" } : Jvm.MethodName) ({ cls := "SnapshotTree", name := "has", desc := "(II)I" } : Jvm.MethodName)) ∈ lw_all := lw_g (lw_at lw_m0 111 rfl) rfl
theorem q130 : (Jvm.Cond.code ({ cls := "SnapshotTree", name := "has", desc := "(II)I" } : Jvm.MethodName) prog_1_method_8_code (3 : Nat) (Option.some Jvm.ClassFile.FieldType.int)) ∈ lw_all := lw_g (lw_at lw_m0 112 rfl) rfl
theorem q132 : (Jvm.Cond.instanceMethod ({ cls := "SnapshotTree", name := "size", desc := "(I)I" } : Jvm.MethodName)) ∈ lw_all := lw_g (lw_at lw_m0 114 rfl) rfl
theorem q133 : (Jvm.Cond.selects "SnapshotTree" ({ cls := "SnapshotTree", name := "size", desc := "(I)I" } : Jvm.MethodName) ({ cls := "SnapshotTree", name := "size", desc := "(I)I" } : Jvm.MethodName)) ∈ lw_all := lw_g (lw_at lw_m0 115 rfl) rfl
theorem q134 : (Jvm.Cond.code ({ cls := "SnapshotTree", name := "size", desc := "(I)I" } : Jvm.MethodName) prog_1_method_9_code (2 : Nat) (Option.some Jvm.ClassFile.FieldType.int)) ∈ lw_all := lw_g (lw_at lw_m0 116 rfl) rfl
theorem q136 : (Jvm.Cond.instanceMethod ({ cls := "SnapshotTree", name := "next", desc := "(II)I" } : Jvm.MethodName)) ∈ lw_all := lw_g (lw_at lw_m0 118 rfl) rfl
theorem q137 : (Jvm.Cond.selects "SnapshotTree" ({ cls := "SnapshotTree", name := "next", desc := "(II)I" } : Jvm.MethodName) ({ cls := "SnapshotTree", name := "next", desc := "(II)I" } : Jvm.MethodName)) ∈ lw_all := lw_g (lw_at lw_m0 119 rfl) rfl
theorem q138 : (Jvm.Cond.code ({ cls := "SnapshotTree", name := "next", desc := "(II)I" } : Jvm.MethodName) prog_1_method_10_code (6 : Nat) (Option.some Jvm.ClassFile.FieldType.int)) ∈ lw_all := lw_g (lw_at lw_m0 120 rfl) rfl
theorem q139 : (Jvm.Cond.methodLink "SnapshotTree" (62 : Nat) ({ cls := "SnapshotTree", name := "missingLevel", desc := "(II)I" } : Jvm.MethodName)) ∈ lw_all := lw_g (lw_at lw_m0 121 rfl) rfl
theorem q140 : (Jvm.Cond.privateMethod ({ cls := "SnapshotTree", name := "missingLevel", desc := "(II)I" } : Jvm.MethodName)) ∈ lw_tbl := lw_at lw_m0 122 rfl
theorem q141 : (Jvm.Cond.instanceMethod ({ cls := "SnapshotTree", name := "missingLevel", desc := "(II)I" } : Jvm.MethodName)) ∈ lw_all := lw_g (lw_at lw_m0 123 rfl) rfl
theorem q142 : (Jvm.Cond.code ({ cls := "SnapshotTree", name := "missingLevel", desc := "(II)I" } : Jvm.MethodName) prog_1_method_18_code (5 : Nat) (Option.some Jvm.ClassFile.FieldType.int)) ∈ lw_all := lw_g (lw_at lw_m0 124 rfl) rfl
theorem q143 : (Jvm.Cond.methodLink "SnapshotTree" (65 : Nat) ({ cls := "SnapshotTree", name := "behind", desc := "(II)I" } : Jvm.MethodName)) ∈ lw_all := lw_g (lw_at lw_m0 125 rfl) rfl
theorem q144 : (Jvm.Cond.static ({ cls := "SnapshotTree", name := "behind", desc := "(II)I" } : Jvm.MethodName)) ∈ lw_all := lw_g (lw_at lw_m0 126 rfl) rfl
theorem q145 : (Jvm.Cond.code ({ cls := "SnapshotTree", name := "behind", desc := "(II)I" } : Jvm.MethodName) prog_1_method_17_code (3 : Nat) (Option.some Jvm.ClassFile.FieldType.int)) ∈ lw_all := lw_g (lw_at lw_m0 127 rfl) rfl
theorem q147 : (Jvm.Cond.instanceMethod ({ cls := "SnapshotTree", name := "nextChange", desc := "(III)I" } : Jvm.MethodName)) ∈ lw_all := lw_g (lw_at lw_m0 129 rfl) rfl
theorem q148 : (Jvm.Cond.selects "SnapshotTree" ({ cls := "SnapshotTree", name := "nextChange", desc := "(III)I" } : Jvm.MethodName) ({ cls := "SnapshotTree", name := "nextChange", desc := "(III)I" } : Jvm.MethodName)) ∈ lw_all := lw_g (lw_at lw_m0 130 rfl) rfl
theorem q149 : (Jvm.Cond.code ({ cls := "SnapshotTree", name := "nextChange", desc := "(III)I" } : Jvm.MethodName) prog_1_method_11_code (7 : Nat) (Option.some Jvm.ClassFile.FieldType.int)) ∈ lw_all := lw_g (lw_at lw_m0 131 rfl) rfl
theorem q150 : (Jvm.Cond.methodLink "SnapshotTree" (68 : Nat) ({ cls := "SnapshotTree", name := "sharedLevel", desc := "(III)I" } : Jvm.MethodName)) ∈ lw_all := lw_g (lw_at lw_m0 132 rfl) rfl
theorem q151 : (Jvm.Cond.privateMethod ({ cls := "SnapshotTree", name := "sharedLevel", desc := "(III)I" } : Jvm.MethodName)) ∈ lw_tbl := lw_at lw_m0 133 rfl
theorem q152 : (Jvm.Cond.instanceMethod ({ cls := "SnapshotTree", name := "sharedLevel", desc := "(III)I" } : Jvm.MethodName)) ∈ lw_all := lw_g (lw_at lw_m0 134 rfl) rfl
theorem q153 : (Jvm.Cond.code ({ cls := "SnapshotTree", name := "sharedLevel", desc := "(III)I" } : Jvm.MethodName) prog_1_method_19_code (8 : Nat) (Option.some Jvm.ClassFile.FieldType.int)) ∈ lw_all := lw_g (lw_at lw_m0 135 rfl) rfl
theorem q155 : (Jvm.Cond.instanceMethod ({ cls := "SnapshotTree", name := "changes", desc := "(II)I" } : Jvm.MethodName)) ∈ lw_all := lw_g (lw_at lw_m0 137 rfl) rfl
theorem q156 : (Jvm.Cond.selects "SnapshotTree" ({ cls := "SnapshotTree", name := "changes", desc := "(II)I" } : Jvm.MethodName) ({ cls := "SnapshotTree", name := "changes", desc := "(II)I" } : Jvm.MethodName)) ∈ lw_all := lw_g (lw_at lw_m0 138 rfl) rfl
theorem q157 : (Jvm.Cond.code ({ cls := "SnapshotTree", name := "changes", desc := "(II)I" } : Jvm.MethodName) prog_1_method_12_code (6 : Nat) (Option.some Jvm.ClassFile.FieldType.int)) ∈ lw_all := lw_g (lw_at lw_m0 139 rfl) rfl
theorem q158 : (Jvm.Cond.methodLink "SnapshotTree" (72 : Nat) ({ cls := "SnapshotTree", name := "nextChange", desc := "(III)I" } : Jvm.MethodName)) ∈ lw_all := lw_g (lw_at lw_m0 140 rfl) rfl
theorem in_X0 : ∀ w ∈ wsX00, w ∈ lw_all := lw_in wsX00 [37, 39, 41, 43, 45, 47, 49, 51] (by decide +kernel) (by decide +kernel)
/-! SnapshotTreeModel -/
def RX1 : String := "SnapshotTreeModel"
def TX1 : u_T := fun k => match k with
  | 0 => ("SnapshotTreeModel", "used", "[Z", true)
  | 1 => ("SnapshotTreeModel", "holds", "[Z", true)
  | _ => ("SnapshotTreeModel", "values", "[I", true)
def tyX1 : Nat → FieldType := fun k => match k with
  | 0 => .array .boolean
  | 1 => .array .boolean
  | _ => .array .int
abbrev wsX10 : List Cond := u_ws RX1 TX1 3
theorem nmX1 : ∀ a, a < 3 → ∀ b, b < 3 → a ≠ b → (TX1 a).2.1 ≠ (TX1 b).2.1 := by decide +kernel
theorem tyX1_ok : ∀ k, k < 3 → parseFieldDescriptor (TX1 k).2.2.1 = some (tyX1 k) := by decide +kernel
abbrev cX1_init : ByteArray := prog_3_method_1_code
def yX1_init : MethodName := ⟨RX1, "<init>", "()V"⟩
abbrev cX1_put : ByteArray := prog_3_method_5_code
def yX1_put : MethodName := ⟨RX1, "put", "(II)I"⟩
abbrev cX1_badKey : ByteArray := prog_3_method_3_code
def yX1_badKey : MethodName := ⟨RX1, "badKey", "(I)Z"⟩
abbrev cX1_count : ByteArray := prog_3_method_4_code
def yX1_count : MethodName := ⟨RX1, "count", "(I)I"⟩
abbrev cX1_remove : ByteArray := prog_3_method_6_code
def yX1_remove : MethodName := ⟨RX1, "remove", "(I)I"⟩
abbrev cX1_commit : ByteArray := prog_3_method_8_code
def yX1_commit : MethodName := ⟨RX1, "commit", "()I"⟩
abbrev cX1_copy : ByteArray := prog_3_method_7_code
def yX1_copy : MethodName := ⟨RX1, "copy", "(II)V"⟩
abbrev cX1_restore : ByteArray := prog_3_method_10_code
def yX1_restore : MethodName := ⟨RX1, "restore", "(I)I"⟩
abbrev cX1_free : ByteArray := prog_3_method_9_code
def yX1_free : MethodName := ⟨RX1, "free", "(I)Z"⟩
abbrev cX1_drop : ByteArray := prog_3_method_11_code
def yX1_drop : MethodName := ⟨RX1, "drop", "(I)I"⟩
abbrev cX1_get : ByteArray := prog_3_method_12_code
def yX1_get : MethodName := ⟨RX1, "get", "(II)I"⟩
abbrev cX1_place : ByteArray := prog_3_method_2_code
def yX1_place : MethodName := ⟨RX1, "place", "(I)I"⟩
abbrev cX1_has : ByteArray := prog_3_method_13_code
def yX1_has : MethodName := ⟨RX1, "has", "(II)I"⟩
abbrev cX1_size : ByteArray := prog_3_method_14_code
def yX1_size : MethodName := ⟨RX1, "size", "(I)I"⟩
abbrev cX1_next : ByteArray := prog_3_method_15_code
def yX1_next : MethodName := ⟨RX1, "next", "(II)I"⟩
abbrev cX1_nextChange : ByteArray := prog_3_method_17_code
def yX1_nextChange : MethodName := ⟨RX1, "nextChange", "(III)I"⟩
abbrev cX1_differ : ByteArray := prog_3_method_16_code
def yX1_differ : MethodName := ⟨RX1, "differ", "(III)Z"⟩
abbrev cX1_changes : ByteArray := prog_3_method_18_code
def yX1_changes : MethodName := ⟨RX1, "changes", "(II)I"⟩
theorem q20 : (Jvm.Cond.initialized "SnapshotTreeModel") ∈ lw_all := lw_g (lw_at lw_m0 2 rfl) rfl
theorem q160 : (Jvm.Cond.instantiable "SnapshotTreeModel" (3 : Nat)) ∈ lw_all := lw_g (lw_at lw_m0 142 rfl) rfl
theorem q162 : (Jvm.Cond.instanceMethod ({ cls := "SnapshotTreeModel", name := "<init>", desc := "()V" } : Jvm.MethodName)) ∈ lw_all := lw_g (lw_at lw_m0 144 rfl) rfl
theorem q163 : (Jvm.Cond.code ({ cls := "SnapshotTreeModel", name := "<init>", desc := "()V" } : Jvm.MethodName) prog_3_method_1_code (1 : Nat) (Option.none : Option Jvm.ClassFile.FieldType)) ∈ lw_all := lw_g (lw_at lw_m0 145 rfl) rfl
theorem q164 : (Jvm.Cond.methodLink "SnapshotTreeModel" (1 : Nat) ({ cls := "java/lang/Object", name := "<init>", desc := "()V" } : Jvm.MethodName)) ∈ lw_all := lw_g (lw_at lw_m0 146 rfl) rfl
theorem q165 : (Jvm.Cond.fieldLink "SnapshotTreeModel" (7 : Nat) "SnapshotTreeModel" "used" "[Z") ∈ lw_all := lw_g (lw_at lw_m0 147 rfl) rfl
theorem q166 : (Jvm.Cond.fieldLink "SnapshotTreeModel" (13 : Nat) "SnapshotTreeModel" "holds" "[Z") ∈ lw_all := lw_g (lw_at lw_m0 148 rfl) rfl
theorem q167 : (Jvm.Cond.fieldLink "SnapshotTreeModel" (16 : Nat) "SnapshotTreeModel" "values" "[I") ∈ lw_all := lw_g (lw_at lw_m0 149 rfl) rfl
theorem q168 : (Jvm.Cond.laysFinal "SnapshotTreeModel" "SnapshotTreeModel" "used" "[Z") ∈ lw_all := lw_g (lw_at lw_m0 150 rfl) rfl
theorem q169 : (Jvm.Cond.soleField "SnapshotTreeModel" "used") ∈ lw_all := lw_g (lw_at lw_m0 151 rfl) rfl
theorem q170 : (Jvm.Cond.laysFinal "SnapshotTreeModel" "SnapshotTreeModel" "holds" "[Z") ∈ lw_all := lw_g (lw_at lw_m0 152 rfl) rfl
theorem q171 : (Jvm.Cond.soleField "SnapshotTreeModel" "holds") ∈ lw_all := lw_g (lw_at lw_m0 153 rfl) rfl
theorem q172 : (Jvm.Cond.laysFinal "SnapshotTreeModel" "SnapshotTreeModel" "values" "[I") ∈ lw_all := lw_g (lw_at lw_m0 154 rfl) rfl
theorem q173 : (Jvm.Cond.soleField "SnapshotTreeModel" "values") ∈ lw_all := lw_g (lw_at lw_m0 155 rfl) rfl
theorem q174 : (Jvm.Cond.superclass "SnapshotTreeModel" "java/lang/Object") ∈ lw_all := lw_g (lw_at lw_m0 156 rfl) rfl
theorem q176 : (Jvm.Cond.instanceMethod ({ cls := "SnapshotTreeModel", name := "put", desc := "(II)I" } : Jvm.MethodName)) ∈ lw_all := lw_g (lw_at lw_m0 158 rfl) rfl
theorem q177 : (Jvm.Cond.selects "SnapshotTreeModel" ({ cls := "SnapshotTreeModel", name := "put", desc := "(II)I" } : Jvm.MethodName) ({ cls := "SnapshotTreeModel", name := "put", desc := "(II)I" } : Jvm.MethodName)) ∈ lw_all := lw_g (lw_at lw_m0 159 rfl) rfl
theorem q178 : (Jvm.Cond.code ({ cls := "SnapshotTreeModel", name := "put", desc := "(II)I" } : Jvm.MethodName) prog_3_method_5_code (3 : Nat) (Option.some Jvm.ClassFile.FieldType.int)) ∈ lw_all := lw_g (lw_at lw_m0 160 rfl) rfl
theorem q179 : (Jvm.Cond.methodLink "SnapshotTreeModel" (20 : Nat) ({ cls := "SnapshotTreeModel", name := "badKey", desc := "(I)Z" } : Jvm.MethodName)) ∈ lw_all := lw_g (lw_at lw_m0 161 rfl) rfl
theorem q180 : (Jvm.Cond.static ({ cls := "SnapshotTreeModel", name := "badKey", desc := "(I)Z" } : Jvm.MethodName)) ∈ lw_all := lw_g (lw_at lw_m0 162 rfl) rfl
theorem q181 : (Jvm.Cond.code ({ cls := "SnapshotTreeModel", name := "badKey", desc := "(I)Z" } : Jvm.MethodName) prog_3_method_3_code (1 : Nat) (Option.some Jvm.ClassFile.FieldType.boolean)) ∈ lw_all := lw_g (lw_at lw_m0 163 rfl) rfl
theorem q182 : (Jvm.Cond.methodLink "SnapshotTreeModel" (24 : Nat) ({ cls := "SnapshotTreeModel", name := "count", desc := "(I)I" } : Jvm.MethodName)) ∈ lw_all := lw_g (lw_at lw_m0 164 rfl) rfl
theorem q183 : (Jvm.Cond.privateMethod ({ cls := "SnapshotTreeModel", name := "count", desc := "(I)I" } : Jvm.MethodName)) ∈ lw_tbl := lw_at lw_m0 165 rfl
theorem q184 : (Jvm.Cond.instanceMethod ({ cls := "SnapshotTreeModel", name := "count", desc := "(I)I" } : Jvm.MethodName)) ∈ lw_all := lw_g (lw_at lw_m0 166 rfl) rfl
theorem q185 : (Jvm.Cond.code ({ cls := "SnapshotTreeModel", name := "count", desc := "(I)I" } : Jvm.MethodName) prog_3_method_4_code (4 : Nat) (Option.some Jvm.ClassFile.FieldType.int)) ∈ lw_all := lw_g (lw_at lw_m0 167 rfl) rfl
theorem q187 : (Jvm.Cond.instanceMethod ({ cls := "SnapshotTreeModel", name := "remove", desc := "(I)I" } : Jvm.MethodName)) ∈ lw_all := lw_g (lw_at lw_m0 169 rfl) rfl
theorem q188 : (Jvm.Cond.selects "SnapshotTreeModel" ({ cls := "SnapshotTreeModel", name := "remove", desc := "(I)I" } : Jvm.MethodName) ({ cls := "SnapshotTreeModel", name := "remove", desc := "(I)I" } : Jvm.MethodName)) ∈ lw_all := lw_g (lw_at lw_m0 170 rfl) rfl
theorem q189 : (Jvm.Cond.code ({ cls := "SnapshotTreeModel", name := "remove", desc := "(I)I" } : Jvm.MethodName) prog_3_method_6_code (2 : Nat) (Option.some Jvm.ClassFile.FieldType.int)) ∈ lw_all := lw_g (lw_at lw_m0 171 rfl) rfl
theorem q191 : (Jvm.Cond.instanceMethod ({ cls := "SnapshotTreeModel", name := "commit", desc := "()I" } : Jvm.MethodName)) ∈ lw_all := lw_g (lw_at lw_m0 173 rfl) rfl
theorem q192 : (Jvm.Cond.selects "SnapshotTreeModel" ({ cls := "SnapshotTreeModel", name := "commit", desc := "()I" } : Jvm.MethodName) ({ cls := "SnapshotTreeModel", name := "commit", desc := "()I" } : Jvm.MethodName)) ∈ lw_all := lw_g (lw_at lw_m0 174 rfl) rfl
theorem q193 : (Jvm.Cond.code ({ cls := "SnapshotTreeModel", name := "commit", desc := "()I" } : Jvm.MethodName) prog_3_method_8_code (2 : Nat) (Option.some Jvm.ClassFile.FieldType.int)) ∈ lw_all := lw_g (lw_at lw_m0 175 rfl) rfl
theorem q194 : (Jvm.Cond.methodLink "SnapshotTreeModel" (28 : Nat) ({ cls := "SnapshotTreeModel", name := "copy", desc := "(II)V" } : Jvm.MethodName)) ∈ lw_all := lw_g (lw_at lw_m0 176 rfl) rfl
theorem q195 : (Jvm.Cond.privateMethod ({ cls := "SnapshotTreeModel", name := "copy", desc := "(II)V" } : Jvm.MethodName)) ∈ lw_tbl := lw_at lw_m0 177 rfl
theorem q196 : (Jvm.Cond.instanceMethod ({ cls := "SnapshotTreeModel", name := "copy", desc := "(II)V" } : Jvm.MethodName)) ∈ lw_all := lw_g (lw_at lw_m0 178 rfl) rfl
theorem q197 : (Jvm.Cond.code ({ cls := "SnapshotTreeModel", name := "copy", desc := "(II)V" } : Jvm.MethodName) prog_3_method_7_code (4 : Nat) (Option.none : Option Jvm.ClassFile.FieldType)) ∈ lw_all := lw_g (lw_at lw_m0 179 rfl) rfl
theorem q199 : (Jvm.Cond.instanceMethod ({ cls := "SnapshotTreeModel", name := "restore", desc := "(I)I" } : Jvm.MethodName)) ∈ lw_all := lw_g (lw_at lw_m0 181 rfl) rfl
theorem q200 : (Jvm.Cond.selects "SnapshotTreeModel" ({ cls := "SnapshotTreeModel", name := "restore", desc := "(I)I" } : Jvm.MethodName) ({ cls := "SnapshotTreeModel", name := "restore", desc := "(I)I" } : Jvm.MethodName)) ∈ lw_all := lw_g (lw_at lw_m0 182 rfl) rfl
theorem q201 : (Jvm.Cond.code ({ cls := "SnapshotTreeModel", name := "restore", desc := "(I)I" } : Jvm.MethodName) prog_3_method_10_code (2 : Nat) (Option.some Jvm.ClassFile.FieldType.int)) ∈ lw_all := lw_g (lw_at lw_m0 183 rfl) rfl
theorem q202 : (Jvm.Cond.methodLink "SnapshotTreeModel" (32 : Nat) ({ cls := "SnapshotTreeModel", name := "free", desc := "(I)Z" } : Jvm.MethodName)) ∈ lw_all := lw_g (lw_at lw_m0 184 rfl) rfl
theorem q203 : (Jvm.Cond.privateMethod ({ cls := "SnapshotTreeModel", name := "free", desc := "(I)Z" } : Jvm.MethodName)) ∈ lw_tbl := lw_at lw_m0 185 rfl
theorem q204 : (Jvm.Cond.instanceMethod ({ cls := "SnapshotTreeModel", name := "free", desc := "(I)Z" } : Jvm.MethodName)) ∈ lw_all := lw_g (lw_at lw_m0 186 rfl) rfl
theorem q205 : (Jvm.Cond.code ({ cls := "SnapshotTreeModel", name := "free", desc := "(I)Z" } : Jvm.MethodName) prog_3_method_9_code (2 : Nat) (Option.some Jvm.ClassFile.FieldType.boolean)) ∈ lw_all := lw_g (lw_at lw_m0 187 rfl) rfl
theorem q207 : (Jvm.Cond.instanceMethod ({ cls := "SnapshotTreeModel", name := "drop", desc := "(I)I" } : Jvm.MethodName)) ∈ lw_all := lw_g (lw_at lw_m0 189 rfl) rfl
theorem q208 : (Jvm.Cond.selects "SnapshotTreeModel" ({ cls := "SnapshotTreeModel", name := "drop", desc := "(I)I" } : Jvm.MethodName) ({ cls := "SnapshotTreeModel", name := "drop", desc := "(I)I" } : Jvm.MethodName)) ∈ lw_all := lw_g (lw_at lw_m0 190 rfl) rfl
theorem q209 : (Jvm.Cond.code ({ cls := "SnapshotTreeModel", name := "drop", desc := "(I)I" } : Jvm.MethodName) prog_3_method_11_code (2 : Nat) (Option.some Jvm.ClassFile.FieldType.int)) ∈ lw_all := lw_g (lw_at lw_m0 191 rfl) rfl
theorem q211 : (Jvm.Cond.instanceMethod ({ cls := "SnapshotTreeModel", name := "get", desc := "(II)I" } : Jvm.MethodName)) ∈ lw_all := lw_g (lw_at lw_m0 193 rfl) rfl
theorem q212 : (Jvm.Cond.selects "SnapshotTreeModel" ({ cls := "SnapshotTreeModel", name := "get", desc := "(II)I" } : Jvm.MethodName) ({ cls := "SnapshotTreeModel", name := "get", desc := "(II)I" } : Jvm.MethodName)) ∈ lw_all := lw_g (lw_at lw_m0 194 rfl) rfl
theorem q213 : (Jvm.Cond.code ({ cls := "SnapshotTreeModel", name := "get", desc := "(II)I" } : Jvm.MethodName) prog_3_method_12_code (4 : Nat) (Option.some Jvm.ClassFile.FieldType.int)) ∈ lw_all := lw_g (lw_at lw_m0 195 rfl) rfl
theorem q214 : (Jvm.Cond.methodLink "SnapshotTreeModel" (35 : Nat) ({ cls := "SnapshotTreeModel", name := "place", desc := "(I)I" } : Jvm.MethodName)) ∈ lw_all := lw_g (lw_at lw_m0 196 rfl) rfl
theorem q215 : (Jvm.Cond.privateMethod ({ cls := "SnapshotTreeModel", name := "place", desc := "(I)I" } : Jvm.MethodName)) ∈ lw_tbl := lw_at lw_m0 197 rfl
theorem q216 : (Jvm.Cond.instanceMethod ({ cls := "SnapshotTreeModel", name := "place", desc := "(I)I" } : Jvm.MethodName)) ∈ lw_all := lw_g (lw_at lw_m0 198 rfl) rfl
theorem q217 : (Jvm.Cond.code ({ cls := "SnapshotTreeModel", name := "place", desc := "(I)I" } : Jvm.MethodName) prog_3_method_2_code (2 : Nat) (Option.some Jvm.ClassFile.FieldType.int)) ∈ lw_all := lw_g (lw_at lw_m0 199 rfl) rfl
theorem q219 : (Jvm.Cond.instanceMethod ({ cls := "SnapshotTreeModel", name := "has", desc := "(II)I" } : Jvm.MethodName)) ∈ lw_all := lw_g (lw_at lw_m0 201 rfl) rfl
theorem q220 : (Jvm.Cond.selects "SnapshotTreeModel" ({ cls := "SnapshotTreeModel", name := "has", desc := "(II)I" } : Jvm.MethodName) ({ cls := "SnapshotTreeModel", name := "has", desc := "(II)I" } : Jvm.MethodName)) ∈ lw_all := lw_g (lw_at lw_m0 202 rfl) rfl
theorem q221 : (Jvm.Cond.code ({ cls := "SnapshotTreeModel", name := "has", desc := "(II)I" } : Jvm.MethodName) prog_3_method_13_code (4 : Nat) (Option.some Jvm.ClassFile.FieldType.int)) ∈ lw_all := lw_g (lw_at lw_m0 203 rfl) rfl
theorem q223 : (Jvm.Cond.instanceMethod ({ cls := "SnapshotTreeModel", name := "size", desc := "(I)I" } : Jvm.MethodName)) ∈ lw_all := lw_g (lw_at lw_m0 205 rfl) rfl
theorem q224 : (Jvm.Cond.selects "SnapshotTreeModel" ({ cls := "SnapshotTreeModel", name := "size", desc := "(I)I" } : Jvm.MethodName) ({ cls := "SnapshotTreeModel", name := "size", desc := "(I)I" } : Jvm.MethodName)) ∈ lw_all := lw_g (lw_at lw_m0 206 rfl) rfl
theorem q225 : (Jvm.Cond.code ({ cls := "SnapshotTreeModel", name := "size", desc := "(I)I" } : Jvm.MethodName) prog_3_method_14_code (3 : Nat) (Option.some Jvm.ClassFile.FieldType.int)) ∈ lw_all := lw_g (lw_at lw_m0 207 rfl) rfl
theorem q227 : (Jvm.Cond.instanceMethod ({ cls := "SnapshotTreeModel", name := "next", desc := "(II)I" } : Jvm.MethodName)) ∈ lw_all := lw_g (lw_at lw_m0 209 rfl) rfl
theorem q228 : (Jvm.Cond.selects "SnapshotTreeModel" ({ cls := "SnapshotTreeModel", name := "next", desc := "(II)I" } : Jvm.MethodName) ({ cls := "SnapshotTreeModel", name := "next", desc := "(II)I" } : Jvm.MethodName)) ∈ lw_all := lw_g (lw_at lw_m0 210 rfl) rfl
theorem q229 : (Jvm.Cond.code ({ cls := "SnapshotTreeModel", name := "next", desc := "(II)I" } : Jvm.MethodName) prog_3_method_15_code (5 : Nat) (Option.some Jvm.ClassFile.FieldType.int)) ∈ lw_all := lw_g (lw_at lw_m0 211 rfl) rfl
theorem q231 : (Jvm.Cond.instanceMethod ({ cls := "SnapshotTreeModel", name := "nextChange", desc := "(III)I" } : Jvm.MethodName)) ∈ lw_all := lw_g (lw_at lw_m0 213 rfl) rfl
theorem q232 : (Jvm.Cond.selects "SnapshotTreeModel" ({ cls := "SnapshotTreeModel", name := "nextChange", desc := "(III)I" } : Jvm.MethodName) ({ cls := "SnapshotTreeModel", name := "nextChange", desc := "(III)I" } : Jvm.MethodName)) ∈ lw_all := lw_g (lw_at lw_m0 214 rfl) rfl
theorem q233 : (Jvm.Cond.code ({ cls := "SnapshotTreeModel", name := "nextChange", desc := "(III)I" } : Jvm.MethodName) prog_3_method_17_code (7 : Nat) (Option.some Jvm.ClassFile.FieldType.int)) ∈ lw_all := lw_g (lw_at lw_m0 215 rfl) rfl
theorem q234 : (Jvm.Cond.methodLink "SnapshotTreeModel" (38 : Nat) ({ cls := "SnapshotTreeModel", name := "differ", desc := "(III)Z" } : Jvm.MethodName)) ∈ lw_all := lw_g (lw_at lw_m0 216 rfl) rfl
theorem q235 : (Jvm.Cond.privateMethod ({ cls := "SnapshotTreeModel", name := "differ", desc := "(III)Z" } : Jvm.MethodName)) ∈ lw_tbl := lw_at lw_m0 217 rfl
theorem q236 : (Jvm.Cond.instanceMethod ({ cls := "SnapshotTreeModel", name := "differ", desc := "(III)Z" } : Jvm.MethodName)) ∈ lw_all := lw_g (lw_at lw_m0 218 rfl) rfl
theorem q237 : (Jvm.Cond.code ({ cls := "SnapshotTreeModel", name := "differ", desc := "(III)Z" } : Jvm.MethodName) prog_3_method_16_code (4 : Nat) (Option.some Jvm.ClassFile.FieldType.boolean)) ∈ lw_all := lw_g (lw_at lw_m0 219 rfl) rfl
theorem q239 : (Jvm.Cond.instanceMethod ({ cls := "SnapshotTreeModel", name := "changes", desc := "(II)I" } : Jvm.MethodName)) ∈ lw_all := lw_g (lw_at lw_m0 221 rfl) rfl
theorem q240 : (Jvm.Cond.selects "SnapshotTreeModel" ({ cls := "SnapshotTreeModel", name := "changes", desc := "(II)I" } : Jvm.MethodName) ({ cls := "SnapshotTreeModel", name := "changes", desc := "(II)I" } : Jvm.MethodName)) ∈ lw_all := lw_g (lw_at lw_m0 222 rfl) rfl
theorem q241 : (Jvm.Cond.code ({ cls := "SnapshotTreeModel", name := "changes", desc := "(II)I" } : Jvm.MethodName) prog_3_method_18_code (7 : Nat) (Option.some Jvm.ClassFile.FieldType.int)) ∈ lw_all := lw_g (lw_at lw_m0 223 rfl) rfl
theorem in_X1 : ∀ w ∈ wsX10, w ∈ lw_all := lw_in wsX10 [168, 170, 172] (by decide +kernel) (by decide +kernel)
/-! the law's own entry -/
abbrev cL_law : ByteArray := code
/-! java/lang/Object -/
def RJ0 : String := "java/lang/Object"
abbrev cJ0_init : ByteArray := object_method_1_code
def yJ0_init : MethodName := ⟨RJ0, "<init>", "()V"⟩
theorem q27 : (Jvm.Cond.instanceMethod ({ cls := "java/lang/Object", name := "<init>", desc := "()V" } : Jvm.MethodName)) ∈ lw_all := lw_g (lw_at lw_m0 9 rfl) rfl
theorem q28 : (Jvm.Cond.code ({ cls := "java/lang/Object", name := "<init>", desc := "()V" } : Jvm.MethodName) object_method_1_code (1 : Nat) (Option.none : Option Jvm.ClassFile.FieldType)) ∈ lw_all := lw_g (lw_at lw_m0 10 rfl) rfl
theorem q54 : (Jvm.Cond.arrayClass Jvm.ClassFile.FieldType.int) ∈ lw_all := lw_g (lw_at lw_m0 36 rfl) rfl
theorem q55 : (Jvm.Cond.arrayClass Jvm.ClassFile.FieldType.boolean) ∈ lw_all := lw_g (lw_at lw_m0 37 rfl) rfl
theorem q18 : (Jvm.Cond.initialized "SnapshotTreeLaw") ∈ lw_all := lw_g (lw_at lw_m0 0 rfl) rfl
theorem q21 : (Jvm.Cond.classLink "SnapshotTreeLaw" (7 : Nat) "SnapshotTree") ∈ lw_all := lw_g (lw_at lw_m0 3 rfl) rfl
theorem q23 : (Jvm.Cond.methodLink "SnapshotTreeLaw" (9 : Nat) ({ cls := "SnapshotTree", name := "<init>", desc := "()V" } : Jvm.MethodName)) ∈ lw_all := lw_g (lw_at lw_m0 5 rfl) rfl
theorem q56 : (Jvm.Cond.methodLink "SnapshotTreeLaw" (13 : Nat) ({ cls := "SnapshotTree", name := "put", desc := "(II)I" } : Jvm.MethodName)) ∈ lw_all := lw_g (lw_at lw_m0 38 rfl) rfl
theorem q87 : (Jvm.Cond.methodLink "SnapshotTreeLaw" (18 : Nat) ({ cls := "SnapshotTree", name := "remove", desc := "(I)I" } : Jvm.MethodName)) ∈ lw_all := lw_g (lw_at lw_m0 69 rfl) rfl
theorem q99 : (Jvm.Cond.methodLink "SnapshotTreeLaw" (23 : Nat) ({ cls := "SnapshotTree", name := "commit", desc := "()I" } : Jvm.MethodName)) ∈ lw_all := lw_g (lw_at lw_m0 81 rfl) rfl
theorem q107 : (Jvm.Cond.methodLink "SnapshotTreeLaw" (28 : Nat) ({ cls := "SnapshotTree", name := "restore", desc := "(I)I" } : Jvm.MethodName)) ∈ lw_all := lw_g (lw_at lw_m0 89 rfl) rfl
theorem q115 : (Jvm.Cond.methodLink "SnapshotTreeLaw" (32 : Nat) ({ cls := "SnapshotTree", name := "drop", desc := "(I)I" } : Jvm.MethodName)) ∈ lw_all := lw_g (lw_at lw_m0 97 rfl) rfl
theorem q119 : (Jvm.Cond.methodLink "SnapshotTreeLaw" (36 : Nat) ({ cls := "SnapshotTree", name := "get", desc := "(II)I" } : Jvm.MethodName)) ∈ lw_all := lw_g (lw_at lw_m0 101 rfl) rfl
theorem q127 : (Jvm.Cond.methodLink "SnapshotTreeLaw" (40 : Nat) ({ cls := "SnapshotTree", name := "has", desc := "(II)I" } : Jvm.MethodName)) ∈ lw_all := lw_g (lw_at lw_m0 109 rfl) rfl
theorem q131 : (Jvm.Cond.methodLink "SnapshotTreeLaw" (44 : Nat) ({ cls := "SnapshotTree", name := "size", desc := "(I)I" } : Jvm.MethodName)) ∈ lw_all := lw_g (lw_at lw_m0 113 rfl) rfl
theorem q135 : (Jvm.Cond.methodLink "SnapshotTreeLaw" (48 : Nat) ({ cls := "SnapshotTree", name := "next", desc := "(II)I" } : Jvm.MethodName)) ∈ lw_all := lw_g (lw_at lw_m0 117 rfl) rfl
theorem q146 : (Jvm.Cond.methodLink "SnapshotTreeLaw" (52 : Nat) ({ cls := "SnapshotTree", name := "nextChange", desc := "(III)I" } : Jvm.MethodName)) ∈ lw_all := lw_g (lw_at lw_m0 128 rfl) rfl
theorem q154 : (Jvm.Cond.methodLink "SnapshotTreeLaw" (57 : Nat) ({ cls := "SnapshotTree", name := "changes", desc := "(II)I" } : Jvm.MethodName)) ∈ lw_all := lw_g (lw_at lw_m0 136 rfl) rfl
theorem q159 : (Jvm.Cond.classLink "SnapshotTreeLaw" (10 : Nat) "SnapshotTreeModel") ∈ lw_all := lw_g (lw_at lw_m0 141 rfl) rfl
theorem q161 : (Jvm.Cond.methodLink "SnapshotTreeLaw" (12 : Nat) ({ cls := "SnapshotTreeModel", name := "<init>", desc := "()V" } : Jvm.MethodName)) ∈ lw_all := lw_g (lw_at lw_m0 143 rfl) rfl
theorem q175 : (Jvm.Cond.methodLink "SnapshotTreeLaw" (17 : Nat) ({ cls := "SnapshotTreeModel", name := "put", desc := "(II)I" } : Jvm.MethodName)) ∈ lw_all := lw_g (lw_at lw_m0 157 rfl) rfl
theorem q186 : (Jvm.Cond.methodLink "SnapshotTreeLaw" (22 : Nat) ({ cls := "SnapshotTreeModel", name := "remove", desc := "(I)I" } : Jvm.MethodName)) ∈ lw_all := lw_g (lw_at lw_m0 168 rfl) rfl
theorem q190 : (Jvm.Cond.methodLink "SnapshotTreeLaw" (27 : Nat) ({ cls := "SnapshotTreeModel", name := "commit", desc := "()I" } : Jvm.MethodName)) ∈ lw_all := lw_g (lw_at lw_m0 172 rfl) rfl
theorem q198 : (Jvm.Cond.methodLink "SnapshotTreeLaw" (31 : Nat) ({ cls := "SnapshotTreeModel", name := "restore", desc := "(I)I" } : Jvm.MethodName)) ∈ lw_all := lw_g (lw_at lw_m0 180 rfl) rfl
theorem q206 : (Jvm.Cond.methodLink "SnapshotTreeLaw" (35 : Nat) ({ cls := "SnapshotTreeModel", name := "drop", desc := "(I)I" } : Jvm.MethodName)) ∈ lw_all := lw_g (lw_at lw_m0 188 rfl) rfl
theorem q210 : (Jvm.Cond.methodLink "SnapshotTreeLaw" (39 : Nat) ({ cls := "SnapshotTreeModel", name := "get", desc := "(II)I" } : Jvm.MethodName)) ∈ lw_all := lw_g (lw_at lw_m0 192 rfl) rfl
theorem q218 : (Jvm.Cond.methodLink "SnapshotTreeLaw" (43 : Nat) ({ cls := "SnapshotTreeModel", name := "has", desc := "(II)I" } : Jvm.MethodName)) ∈ lw_all := lw_g (lw_at lw_m0 200 rfl) rfl
theorem q222 : (Jvm.Cond.methodLink "SnapshotTreeLaw" (47 : Nat) ({ cls := "SnapshotTreeModel", name := "size", desc := "(I)I" } : Jvm.MethodName)) ∈ lw_all := lw_g (lw_at lw_m0 204 rfl) rfl
theorem q226 : (Jvm.Cond.methodLink "SnapshotTreeLaw" (51 : Nat) ({ cls := "SnapshotTreeModel", name := "next", desc := "(II)I" } : Jvm.MethodName)) ∈ lw_all := lw_g (lw_at lw_m0 208 rfl) rfl
theorem q230 : (Jvm.Cond.methodLink "SnapshotTreeLaw" (56 : Nat) ({ cls := "SnapshotTreeModel", name := "nextChange", desc := "(III)I" } : Jvm.MethodName)) ∈ lw_all := lw_g (lw_at lw_m0 212 rfl) rfl
theorem q238 : (Jvm.Cond.methodLink "SnapshotTreeLaw" (60 : Nat) ({ cls := "SnapshotTreeModel", name := "changes", desc := "(II)I" } : Jvm.MethodName)) ∈ lw_all := lw_g (lw_at lw_m0 220 rfl) rfl
theorem dJ0_init_0 : decode cJ0_init 0 = .ok (.return_, 1) := by decide +kernel
end
section
set_option maxRecDepth 100000
theorem dX0_init_0 : decode cX0_init 0 = .ok (.aload_n 0, 1) := by decide +kernel
theorem dX0_init_1 : decode cX0_init 1 = .ok (.invokespecial 1, 3) := by decide +kernel
theorem dX0_init_4 : decode cX0_init 4 = .ok (.aload_n 0, 1) := by decide +kernel
theorem dX0_init_5 : decode cX0_init 5 = .ok (.sipush 1600, 3) := by decide +kernel
theorem dX0_init_8 : decode cX0_init 8 = .ok (.newarray .int, 2) := by decide +kernel
theorem dX0_init_10 : decode cX0_init 10 = .ok (.putfield 7, 3) := by decide +kernel
theorem dX0_init_13 : decode cX0_init 13 = .ok (.aload_n 0, 1) := by decide +kernel
theorem dX0_init_14 : decode cX0_init 14 = .ok (.sipush 400, 3) := by decide +kernel
theorem dX0_init_17 : decode cX0_init 17 = .ok (.newarray .int, 2) := by decide +kernel
theorem dX0_init_19 : decode cX0_init 19 = .ok (.putfield 13, 3) := by decide +kernel
theorem dX0_init_22 : decode cX0_init 22 = .ok (.aload_n 0, 1) := by decide +kernel
theorem dX0_init_23 : decode cX0_init 23 = .ok (.sipush 400, 3) := by decide +kernel
theorem dX0_init_26 : decode cX0_init 26 = .ok (.newarray .int, 2) := by decide +kernel
theorem dX0_init_28 : decode cX0_init 28 = .ok (.putfield 16, 3) := by decide +kernel
theorem dX0_init_31 : decode cX0_init 31 = .ok (.aload_n 0, 1) := by decide +kernel
theorem dX0_init_32 : decode cX0_init 32 = .ok (.bipush 8, 2) := by decide +kernel
theorem dX0_init_34 : decode cX0_init 34 = .ok (.newarray .boolean, 2) := by decide +kernel
theorem dX0_init_36 : decode cX0_init 36 = .ok (.putfield 19, 3) := by decide +kernel
theorem dX0_init_39 : decode cX0_init 39 = .ok (.aload_n 0, 1) := by decide +kernel
theorem dX0_init_40 : decode cX0_init 40 = .ok (.bipush 8, 2) := by decide +kernel
theorem dX0_init_42 : decode cX0_init 42 = .ok (.newarray .int, 2) := by decide +kernel
theorem dX0_init_44 : decode cX0_init 44 = .ok (.putfield 23, 3) := by decide +kernel
theorem dX0_init_47 : decode cX0_init 47 = .ok (.aload_n 0, 1) := by decide +kernel
theorem dX0_init_48 : decode cX0_init 48 = .ok (.bipush 8, 2) := by decide +kernel
theorem dX0_init_50 : decode cX0_init 50 = .ok (.newarray .int, 2) := by decide +kernel
theorem dX0_init_52 : decode cX0_init 52 = .ok (.putfield 26, 3) := by decide +kernel
theorem dX0_init_55 : decode cX0_init 55 = .ok (.aload_n 0, 1) := by decide +kernel
theorem dX0_init_56 : decode cX0_init 56 = .ok (.iconst 4, 1) := by decide +kernel
theorem dX0_init_57 : decode cX0_init 57 = .ok (.newarray .int, 2) := by decide +kernel
theorem dX0_init_59 : decode cX0_init 59 = .ok (.putfield 29, 3) := by decide +kernel
theorem dX0_init_62 : decode cX0_init 62 = .ok (.aload_n 0, 1) := by decide +kernel
theorem dX0_init_63 : decode cX0_init 63 = .ok (.bipush 16, 2) := by decide +kernel
theorem dX0_init_65 : decode cX0_init 65 = .ok (.newarray .int, 2) := by decide +kernel
theorem dX0_init_67 : decode cX0_init 67 = .ok (.putfield 32, 3) := by decide +kernel
theorem dX0_init_70 : decode cX0_init 70 = .ok (.aload_n 0, 1) := by decide +kernel
theorem dX0_init_71 : decode cX0_init 71 = .ok (.getfield 19, 3) := by decide +kernel
theorem dX0_init_74 : decode cX0_init 74 = .ok (.iconst 0, 1) := by decide +kernel
theorem dX0_init_75 : decode cX0_init 75 = .ok (.iconst 1, 1) := by decide +kernel
theorem dX0_init_76 : decode cX0_init 76 = .ok (.bastore, 1) := by decide +kernel
theorem dX0_init_77 : decode cX0_init 77 = .ok (.iconst 0, 1) := by decide +kernel
theorem dX0_init_78 : decode cX0_init 78 = .ok (.istore_n 1, 1) := by decide +kernel
theorem dX0_init_79 : decode cX0_init 79 = .ok (.iload_n 1, 1) := by decide +kernel
theorem dX0_init_80 : decode cX0_init 80 = .ok (.bipush 8, 2) := by decide +kernel
theorem dX0_init_82 : decode cX0_init 82 = .ok (.if_icmp .ge 16, 3) := by decide +kernel
theorem dX0_init_85 : decode cX0_init 85 = .ok (.aload_n 0, 1) := by decide +kernel
theorem dX0_init_86 : decode cX0_init 86 = .ok (.getfield 23, 3) := by decide +kernel
theorem dX0_init_89 : decode cX0_init 89 = .ok (.iload_n 1, 1) := by decide +kernel
theorem dX0_init_90 : decode cX0_init 90 = .ok (.iconst (-1), 1) := by decide +kernel
theorem dX0_init_91 : decode cX0_init 91 = .ok (.iastore, 1) := by decide +kernel
theorem dX0_init_92 : decode cX0_init 92 = .ok (.iinc 1 1, 3) := by decide +kernel
theorem dX0_init_95 : decode cX0_init 95 = .ok (.goto (-16), 3) := by decide +kernel
theorem dX0_init_98 : decode cX0_init 98 = .ok (.return_, 1) := by decide +kernel
theorem dX0_put_0 : decode cX0_put 0 = .ok (.iload_n 1, 1) := by decide +kernel
theorem dX0_put_1 : decode cX0_put 1 = .ok (.ifCond .lt 10, 3) := by decide +kernel
theorem dX0_put_4 : decode cX0_put 4 = .ok (.iload_n 1, 1) := by decide +kernel
theorem dX0_put_5 : decode cX0_put 5 = .ok (.sipush 255, 3) := by decide +kernel
theorem dX0_put_8 : decode cX0_put 8 = .ok (.if_icmp .le 5, 3) := by decide +kernel
theorem dX0_put_11 : decode cX0_put 11 = .ok (.iconst (-1), 1) := by decide +kernel
theorem dX0_put_12 : decode cX0_put 12 = .ok (.ireturn, 1) := by decide +kernel
theorem dX0_put_13 : decode cX0_put 13 = .ok (.aload_n 0, 1) := by decide +kernel
theorem dX0_put_14 : decode cX0_put 14 = .ok (.iconst 0, 1) := by decide +kernel
theorem dX0_put_15 : decode cX0_put 15 = .ok (.iload_n 1, 1) := by decide +kernel
theorem dX0_put_16 : decode cX0_put 16 = .ok (.invokevirtual 35, 3) := by decide +kernel
theorem dX0_put_19 : decode cX0_put 19 = .ok (.istore_n 3, 1) := by decide +kernel
theorem dX0_put_20 : decode cX0_put 20 = .ok (.iload_n 3, 1) := by decide +kernel
theorem dX0_put_21 : decode cX0_put 21 = .ok (.ifCond .ne 16, 3) := by decide +kernel
theorem dX0_put_24 : decode cX0_put 24 = .ok (.aload_n 0, 1) := by decide +kernel
theorem dX0_put_25 : decode cX0_put 25 = .ok (.getfield 26, 3) := by decide +kernel
theorem dX0_put_28 : decode cX0_put 28 = .ok (.iconst 0, 1) := by decide +kernel
theorem dX0_put_29 : decode cX0_put 29 = .ok (.iaload, 1) := by decide +kernel
theorem dX0_put_30 : decode cX0_put 30 = .ok (.bipush 16, 2) := by decide +kernel
theorem dX0_put_32 : decode cX0_put 32 = .ok (.if_icmp .lt 5, 3) := by decide +kernel
theorem dX0_put_35 : decode cX0_put 35 = .ok (.iconst (-1), 1) := by decide +kernel
theorem dX0_put_36 : decode cX0_put 36 = .ok (.ireturn, 1) := by decide +kernel
theorem dX0_put_37 : decode cX0_put 37 = .ok (.aload_n 0, 1) := by decide +kernel
theorem dX0_put_38 : decode cX0_put 38 = .ok (.iload_n 1, 1) := by decide +kernel
theorem dX0_put_39 : decode cX0_put 39 = .ok (.invokevirtual 39, 3) := by decide +kernel
theorem dX0_put_42 : decode cX0_put 42 = .ok (.istore 4, 2) := by decide +kernel
theorem dX0_put_44 : decode cX0_put 44 = .ok (.aload_n 0, 1) := by decide +kernel
theorem dX0_put_45 : decode cX0_put 45 = .ok (.getfield 7, 3) := by decide +kernel
theorem dX0_put_48 : decode cX0_put 48 = .ok (.iconst 4, 1) := by decide +kernel
theorem dX0_put_49 : decode cX0_put 49 = .ok (.iload 4, 2) := by decide +kernel
theorem dX0_put_51 : decode cX0_put 51 = .ok (.imul, 1) := by decide +kernel
theorem dX0_put_52 : decode cX0_put 52 = .ok (.iload_n 1, 1) := by decide +kernel
theorem dX0_put_53 : decode cX0_put 53 = .ok (.iconst 3, 1) := by decide +kernel
theorem dX0_put_54 : decode cX0_put 54 = .ok (.iand, 1) := by decide +kernel
theorem dX0_put_55 : decode cX0_put 55 = .ok (.iadd, 1) := by decide +kernel
theorem dX0_put_56 : decode cX0_put 56 = .ok (.iload_n 2, 1) := by decide +kernel
theorem dX0_put_57 : decode cX0_put 57 = .ok (.iastore, 1) := by decide +kernel
theorem dX0_put_58 : decode cX0_put 58 = .ok (.aload_n 0, 1) := by decide +kernel
theorem dX0_put_59 : decode cX0_put 59 = .ok (.getfield 13, 3) := by decide +kernel
theorem dX0_put_62 : decode cX0_put 62 = .ok (.iload 4, 2) := by decide +kernel
theorem dX0_put_64 : decode cX0_put 64 = .ok (.dup2, 1) := by decide +kernel
theorem dX0_put_65 : decode cX0_put 65 = .ok (.iaload, 1) := by decide +kernel
theorem dX0_put_66 : decode cX0_put 66 = .ok (.iconst 1, 1) := by decide +kernel
theorem dX0_put_67 : decode cX0_put 67 = .ok (.iload_n 1, 1) := by decide +kernel
theorem dX0_put_68 : decode cX0_put 68 = .ok (.iconst 3, 1) := by decide +kernel
theorem dX0_put_69 : decode cX0_put 69 = .ok (.iand, 1) := by decide +kernel
theorem dX0_put_70 : decode cX0_put 70 = .ok (.ishl, 1) := by decide +kernel
theorem dX0_put_71 : decode cX0_put 71 = .ok (.ior, 1) := by decide +kernel
theorem dX0_put_72 : decode cX0_put 72 = .ok (.iastore, 1) := by decide +kernel
theorem dX0_put_73 : decode cX0_put 73 = .ok (.aload_n 0, 1) := by decide +kernel
theorem dX0_put_74 : decode cX0_put 74 = .ok (.getfield 26, 3) := by decide +kernel
theorem dX0_put_77 : decode cX0_put 77 = .ok (.iconst 0, 1) := by decide +kernel
theorem dX0_put_78 : decode cX0_put 78 = .ok (.dup2, 1) := by decide +kernel
theorem dX0_put_79 : decode cX0_put 79 = .ok (.iaload, 1) := by decide +kernel
theorem dX0_put_80 : decode cX0_put 80 = .ok (.iload_n 3, 1) := by decide +kernel
theorem dX0_put_81 : decode cX0_put 81 = .ok (.ifCond .eq 7, 3) := by decide +kernel
theorem dX0_put_84 : decode cX0_put 84 = .ok (.iconst 0, 1) := by decide +kernel
theorem dX0_put_85 : decode cX0_put 85 = .ok (.goto 4, 3) := by decide +kernel
theorem dX0_put_88 : decode cX0_put 88 = .ok (.iconst 1, 1) := by decide +kernel
theorem dX0_put_89 : decode cX0_put 89 = .ok (.iadd, 1) := by decide +kernel
theorem dX0_put_90 : decode cX0_put 90 = .ok (.iastore, 1) := by decide +kernel
theorem dX0_put_91 : decode cX0_put 91 = .ok (.aload_n 0, 1) := by decide +kernel
theorem dX0_put_92 : decode cX0_put 92 = .ok (.getfield 26, 3) := by decide +kernel
theorem dX0_put_95 : decode cX0_put 95 = .ok (.iconst 0, 1) := by decide +kernel
theorem dX0_put_96 : decode cX0_put 96 = .ok (.iaload, 1) := by decide +kernel
theorem dX0_put_97 : decode cX0_put 97 = .ok (.ireturn, 1) := by decide +kernel
theorem dX0_holds_0 : decode cX0_holds 0 = .ok (.aload_n 0, 1) := by decide +kernel
theorem dX0_holds_1 : decode cX0_holds 1 = .ok (.iload_n 1, 1) := by decide +kernel
theorem dX0_holds_2 : decode cX0_holds 2 = .ok (.iload_n 2, 1) := by decide +kernel
theorem dX0_holds_3 : decode cX0_holds 3 = .ok (.invokevirtual 58, 3) := by decide +kernel
theorem dX0_holds_6 : decode cX0_holds 6 = .ok (.istore_n 3, 1) := by decide +kernel
theorem dX0_holds_7 : decode cX0_holds 7 = .ok (.iload_n 3, 1) := by decide +kernel
theorem dX0_holds_8 : decode cX0_holds 8 = .ok (.ifCond .lt 22, 3) := by decide +kernel
theorem dX0_holds_11 : decode cX0_holds 11 = .ok (.aload_n 0, 1) := by decide +kernel
theorem dX0_holds_12 : decode cX0_holds 12 = .ok (.getfield 13, 3) := by decide +kernel
theorem dX0_holds_15 : decode cX0_holds 15 = .ok (.iload_n 3, 1) := by decide +kernel
theorem dX0_holds_16 : decode cX0_holds 16 = .ok (.iaload, 1) := by decide +kernel
theorem dX0_holds_17 : decode cX0_holds 17 = .ok (.iload_n 2, 1) := by decide +kernel
theorem dX0_holds_18 : decode cX0_holds 18 = .ok (.iconst 3, 1) := by decide +kernel
theorem dX0_holds_19 : decode cX0_holds 19 = .ok (.iand, 1) := by decide +kernel
theorem dX0_holds_20 : decode cX0_holds 20 = .ok (.iushr, 1) := by decide +kernel
theorem dX0_holds_21 : decode cX0_holds 21 = .ok (.iconst 1, 1) := by decide +kernel
theorem dX0_holds_22 : decode cX0_holds 22 = .ok (.iand, 1) := by decide +kernel
theorem dX0_holds_23 : decode cX0_holds 23 = .ok (.ifCond .eq 7, 3) := by decide +kernel
theorem dX0_holds_26 : decode cX0_holds 26 = .ok (.iconst 1, 1) := by decide +kernel
theorem dX0_holds_27 : decode cX0_holds 27 = .ok (.goto 4, 3) := by decide +kernel
theorem dX0_holds_30 : decode cX0_holds 30 = .ok (.iconst 0, 1) := by decide +kernel
theorem dX0_holds_31 : decode cX0_holds 31 = .ok (.ireturn, 1) := by decide +kernel
theorem dX0_leafFor_0 : decode cX0_leafFor 0 = .ok (.aload_n 0, 1) := by decide +kernel
theorem dX0_leafFor_1 : decode cX0_leafFor 1 = .ok (.getfield 23, 3) := by decide +kernel
theorem dX0_leafFor_4 : decode cX0_leafFor 4 = .ok (.iload_n 1, 1) := by decide +kernel
theorem dX0_leafFor_5 : decode cX0_leafFor 5 = .ok (.iaload, 1) := by decide +kernel
theorem dX0_leafFor_6 : decode cX0_leafFor 6 = .ok (.istore_n 3, 1) := by decide +kernel
theorem dX0_leafFor_7 : decode cX0_leafFor 7 = .ok (.iconst 0, 1) := by decide +kernel
theorem dX0_leafFor_8 : decode cX0_leafFor 8 = .ok (.istore 4, 2) := by decide +kernel
theorem dX0_leafFor_10 : decode cX0_leafFor 10 = .ok (.iload 4, 2) := by decide +kernel
theorem dX0_leafFor_12 : decode cX0_leafFor 12 = .ok (.iconst 3, 1) := by decide +kernel
theorem dX0_leafFor_13 : decode cX0_leafFor 13 = .ok (.if_icmp .ge 29, 3) := by decide +kernel
theorem dX0_leafFor_16 : decode cX0_leafFor 16 = .ok (.iload_n 3, 1) := by decide +kernel
theorem dX0_leafFor_17 : decode cX0_leafFor 17 = .ok (.ifCond .lt 25, 3) := by decide +kernel
theorem dX0_leafFor_20 : decode cX0_leafFor 20 = .ok (.aload_n 0, 1) := by decide +kernel
theorem dX0_leafFor_21 : decode cX0_leafFor 21 = .ok (.getfield 7, 3) := by decide +kernel
theorem dX0_leafFor_24 : decode cX0_leafFor 24 = .ok (.iconst 4, 1) := by decide +kernel
theorem dX0_leafFor_25 : decode cX0_leafFor 25 = .ok (.iload_n 3, 1) := by decide +kernel
theorem dX0_leafFor_26 : decode cX0_leafFor 26 = .ok (.imul, 1) := by decide +kernel
theorem dX0_leafFor_27 : decode cX0_leafFor 27 = .ok (.iload_n 2, 1) := by decide +kernel
theorem dX0_leafFor_28 : decode cX0_leafFor 28 = .ok (.iload 4, 2) := by decide +kernel
theorem dX0_leafFor_30 : decode cX0_leafFor 30 = .ok (.invokestatic 75, 3) := by decide +kernel
theorem dX0_leafFor_33 : decode cX0_leafFor 33 = .ok (.iadd, 1) := by decide +kernel
theorem dX0_leafFor_34 : decode cX0_leafFor 34 = .ok (.iaload, 1) := by decide +kernel
theorem dX0_leafFor_35 : decode cX0_leafFor 35 = .ok (.istore_n 3, 1) := by decide +kernel
theorem dX0_leafFor_36 : decode cX0_leafFor 36 = .ok (.iinc 4 1, 3) := by decide +kernel
theorem dX0_leafFor_39 : decode cX0_leafFor 39 = .ok (.goto (-29), 3) := by decide +kernel
theorem dX0_leafFor_42 : decode cX0_leafFor 42 = .ok (.iload_n 3, 1) := by decide +kernel
theorem dX0_leafFor_43 : decode cX0_leafFor 43 = .ok (.ireturn, 1) := by decide +kernel
theorem dX0_turn_0 : decode cX0_turn 0 = .ok (.iload_n 0, 1) := by decide +kernel
theorem dX0_turn_1 : decode cX0_turn 1 = .ok (.bipush 6, 2) := by decide +kernel
theorem dX0_turn_3 : decode cX0_turn 3 = .ok (.iconst 2, 1) := by decide +kernel
theorem dX0_turn_4 : decode cX0_turn 4 = .ok (.iload_n 1, 1) := by decide +kernel
theorem dX0_turn_5 : decode cX0_turn 5 = .ok (.imul, 1) := by decide +kernel
theorem dX0_turn_6 : decode cX0_turn 6 = .ok (.isub, 1) := by decide +kernel
theorem dX0_turn_7 : decode cX0_turn 7 = .ok (.iushr, 1) := by decide +kernel
theorem dX0_turn_8 : decode cX0_turn 8 = .ok (.iconst 3, 1) := by decide +kernel
theorem dX0_turn_9 : decode cX0_turn 9 = .ok (.iand, 1) := by decide +kernel
theorem dX0_turn_10 : decode cX0_turn 10 = .ok (.ireturn, 1) := by decide +kernel
theorem dX0_ownPath_0 : decode cX0_ownPath 0 = .ok (.aload_n 0, 1) := by decide +kernel
theorem dX0_ownPath_1 : decode cX0_ownPath 1 = .ok (.getfield 23, 3) := by decide +kernel
theorem dX0_ownPath_4 : decode cX0_ownPath 4 = .ok (.iconst 0, 1) := by decide +kernel
theorem dX0_ownPath_5 : decode cX0_ownPath 5 = .ok (.aload_n 0, 1) := by decide +kernel
theorem dX0_ownPath_6 : decode cX0_ownPath 6 = .ok (.aload_n 0, 1) := by decide +kernel
theorem dX0_ownPath_7 : decode cX0_ownPath 7 = .ok (.getfield 23, 3) := by decide +kernel
theorem dX0_ownPath_10 : decode cX0_ownPath 10 = .ok (.iconst 0, 1) := by decide +kernel
theorem dX0_ownPath_11 : decode cX0_ownPath 11 = .ok (.iaload, 1) := by decide +kernel
theorem dX0_ownPath_12 : decode cX0_ownPath 12 = .ok (.iconst 0, 1) := by decide +kernel
theorem dX0_ownPath_13 : decode cX0_ownPath 13 = .ok (.invokevirtual 78, 3) := by decide +kernel
theorem dX0_ownPath_16 : decode cX0_ownPath 16 = .ok (.iastore, 1) := by decide +kernel
theorem dX0_ownPath_17 : decode cX0_ownPath 17 = .ok (.aload_n 0, 1) := by decide +kernel
theorem dX0_ownPath_18 : decode cX0_ownPath 18 = .ok (.getfield 29, 3) := by decide +kernel
theorem dX0_ownPath_21 : decode cX0_ownPath 21 = .ok (.iconst 0, 1) := by decide +kernel
theorem dX0_ownPath_22 : decode cX0_ownPath 22 = .ok (.aload_n 0, 1) := by decide +kernel
theorem dX0_ownPath_23 : decode cX0_ownPath 23 = .ok (.getfield 23, 3) := by decide +kernel
theorem dX0_ownPath_26 : decode cX0_ownPath 26 = .ok (.iconst 0, 1) := by decide +kernel
theorem dX0_ownPath_27 : decode cX0_ownPath 27 = .ok (.iaload, 1) := by decide +kernel
theorem dX0_ownPath_28 : decode cX0_ownPath 28 = .ok (.iastore, 1) := by decide +kernel
theorem dX0_ownPath_29 : decode cX0_ownPath 29 = .ok (.iconst 0, 1) := by decide +kernel
theorem dX0_ownPath_30 : decode cX0_ownPath 30 = .ok (.istore_n 2, 1) := by decide +kernel
theorem dX0_ownPath_31 : decode cX0_ownPath 31 = .ok (.iload_n 2, 1) := by decide +kernel
theorem dX0_ownPath_32 : decode cX0_ownPath 32 = .ok (.iconst 3, 1) := by decide +kernel
theorem dX0_ownPath_33 : decode cX0_ownPath 33 = .ok (.if_icmp .ge 57, 3) := by decide +kernel
theorem dX0_ownPath_36 : decode cX0_ownPath 36 = .ok (.iconst 4, 1) := by decide +kernel
theorem dX0_ownPath_37 : decode cX0_ownPath 37 = .ok (.aload_n 0, 1) := by decide +kernel
theorem dX0_ownPath_38 : decode cX0_ownPath 38 = .ok (.getfield 29, 3) := by decide +kernel
theorem dX0_ownPath_41 : decode cX0_ownPath 41 = .ok (.iload_n 2, 1) := by decide +kernel
theorem dX0_ownPath_42 : decode cX0_ownPath 42 = .ok (.iaload, 1) := by decide +kernel
theorem dX0_ownPath_43 : decode cX0_ownPath 43 = .ok (.imul, 1) := by decide +kernel
theorem dX0_ownPath_44 : decode cX0_ownPath 44 = .ok (.iload_n 1, 1) := by decide +kernel
theorem dX0_ownPath_45 : decode cX0_ownPath 45 = .ok (.iload_n 2, 1) := by decide +kernel
theorem dX0_ownPath_46 : decode cX0_ownPath 46 = .ok (.invokestatic 75, 3) := by decide +kernel
theorem dX0_ownPath_49 : decode cX0_ownPath 49 = .ok (.iadd, 1) := by decide +kernel
theorem dX0_ownPath_50 : decode cX0_ownPath 50 = .ok (.istore_n 3, 1) := by decide +kernel
theorem dX0_ownPath_51 : decode cX0_ownPath 51 = .ok (.aload_n 0, 1) := by decide +kernel
theorem dX0_ownPath_52 : decode cX0_ownPath 52 = .ok (.getfield 7, 3) := by decide +kernel
theorem dX0_ownPath_55 : decode cX0_ownPath 55 = .ok (.iload_n 3, 1) := by decide +kernel
theorem dX0_ownPath_56 : decode cX0_ownPath 56 = .ok (.aload_n 0, 1) := by decide +kernel
theorem dX0_ownPath_57 : decode cX0_ownPath 57 = .ok (.aload_n 0, 1) := by decide +kernel
theorem dX0_ownPath_58 : decode cX0_ownPath 58 = .ok (.getfield 7, 3) := by decide +kernel
theorem dX0_ownPath_61 : decode cX0_ownPath 61 = .ok (.iload_n 3, 1) := by decide +kernel
theorem dX0_ownPath_62 : decode cX0_ownPath 62 = .ok (.iaload, 1) := by decide +kernel
theorem dX0_ownPath_63 : decode cX0_ownPath 63 = .ok (.iload_n 2, 1) := by decide +kernel
theorem dX0_ownPath_64 : decode cX0_ownPath 64 = .ok (.iconst 1, 1) := by decide +kernel
theorem dX0_ownPath_65 : decode cX0_ownPath 65 = .ok (.iadd, 1) := by decide +kernel
theorem dX0_ownPath_66 : decode cX0_ownPath 66 = .ok (.invokevirtual 78, 3) := by decide +kernel
theorem dX0_ownPath_69 : decode cX0_ownPath 69 = .ok (.iastore, 1) := by decide +kernel
theorem dX0_ownPath_70 : decode cX0_ownPath 70 = .ok (.aload_n 0, 1) := by decide +kernel
theorem dX0_ownPath_71 : decode cX0_ownPath 71 = .ok (.getfield 29, 3) := by decide +kernel
theorem dX0_ownPath_74 : decode cX0_ownPath 74 = .ok (.iload_n 2, 1) := by decide +kernel
theorem dX0_ownPath_75 : decode cX0_ownPath 75 = .ok (.iconst 1, 1) := by decide +kernel
theorem dX0_ownPath_76 : decode cX0_ownPath 76 = .ok (.iadd, 1) := by decide +kernel
theorem dX0_ownPath_77 : decode cX0_ownPath 77 = .ok (.aload_n 0, 1) := by decide +kernel
theorem dX0_ownPath_78 : decode cX0_ownPath 78 = .ok (.getfield 7, 3) := by decide +kernel
theorem dX0_ownPath_81 : decode cX0_ownPath 81 = .ok (.iload_n 3, 1) := by decide +kernel
theorem dX0_ownPath_82 : decode cX0_ownPath 82 = .ok (.iaload, 1) := by decide +kernel
theorem dX0_ownPath_83 : decode cX0_ownPath 83 = .ok (.iastore, 1) := by decide +kernel
theorem dX0_ownPath_84 : decode cX0_ownPath 84 = .ok (.iinc 2 1, 3) := by decide +kernel
theorem dX0_ownPath_87 : decode cX0_ownPath 87 = .ok (.goto (-56), 3) := by decide +kernel
theorem dX0_ownPath_90 : decode cX0_ownPath 90 = .ok (.aload_n 0, 1) := by decide +kernel
theorem dX0_ownPath_91 : decode cX0_ownPath 91 = .ok (.getfield 29, 3) := by decide +kernel
theorem dX0_ownPath_94 : decode cX0_ownPath 94 = .ok (.iconst 3, 1) := by decide +kernel
theorem dX0_ownPath_95 : decode cX0_ownPath 95 = .ok (.iaload, 1) := by decide +kernel
theorem dX0_ownPath_96 : decode cX0_ownPath 96 = .ok (.ireturn, 1) := by decide +kernel
theorem dX0_ownNode_0 : decode cX0_ownNode 0 = .ok (.iload_n 1, 1) := by decide +kernel
theorem dX0_ownNode_1 : decode cX0_ownNode 1 = .ok (.ifCond .lt 15, 3) := by decide +kernel
theorem dX0_ownNode_4 : decode cX0_ownNode 4 = .ok (.aload_n 0, 1) := by decide +kernel
theorem dX0_ownNode_5 : decode cX0_ownNode 5 = .ok (.getfield 16, 3) := by decide +kernel
theorem dX0_ownNode_8 : decode cX0_ownNode 8 = .ok (.iload_n 1, 1) := by decide +kernel
theorem dX0_ownNode_9 : decode cX0_ownNode 9 = .ok (.iaload, 1) := by decide +kernel
theorem dX0_ownNode_10 : decode cX0_ownNode 10 = .ok (.iconst 1, 1) := by decide +kernel
theorem dX0_ownNode_11 : decode cX0_ownNode 11 = .ok (.if_icmp .ne 5, 3) := by decide +kernel
theorem dX0_ownNode_14 : decode cX0_ownNode 14 = .ok (.iload_n 1, 1) := by decide +kernel
theorem dX0_ownNode_15 : decode cX0_ownNode 15 = .ok (.ireturn, 1) := by decide +kernel
theorem dX0_ownNode_16 : decode cX0_ownNode 16 = .ok (.aload_n 0, 1) := by decide +kernel
theorem dX0_ownNode_17 : decode cX0_ownNode 17 = .ok (.invokevirtual 81, 3) := by decide +kernel
theorem dX0_ownNode_20 : decode cX0_ownNode 20 = .ok (.istore_n 3, 1) := by decide +kernel
theorem dX0_ownNode_21 : decode cX0_ownNode 21 = .ok (.aload_n 0, 1) := by decide +kernel
theorem dX0_ownNode_22 : decode cX0_ownNode 22 = .ok (.getfield 16, 3) := by decide +kernel
theorem dX0_ownNode_25 : decode cX0_ownNode 25 = .ok (.iload_n 3, 1) := by decide +kernel
theorem dX0_ownNode_26 : decode cX0_ownNode 26 = .ok (.iconst 1, 1) := by decide +kernel
theorem dX0_ownNode_27 : decode cX0_ownNode 27 = .ok (.iastore, 1) := by decide +kernel
theorem dX0_ownNode_28 : decode cX0_ownNode 28 = .ok (.iconst 0, 1) := by decide +kernel
theorem dX0_ownNode_29 : decode cX0_ownNode 29 = .ok (.istore 4, 2) := by decide +kernel
theorem dX0_ownNode_31 : decode cX0_ownNode 31 = .ok (.iload 4, 2) := by decide +kernel
theorem dX0_ownNode_33 : decode cX0_ownNode 33 = .ok (.iconst 4, 1) := by decide +kernel
theorem dX0_ownNode_34 : decode cX0_ownNode 34 = .ok (.if_icmp .ge 87, 3) := by decide +kernel
theorem dX0_ownNode_37 : decode cX0_ownNode 37 = .ok (.aload_n 0, 1) := by decide +kernel
theorem dX0_ownNode_38 : decode cX0_ownNode 38 = .ok (.getfield 7, 3) := by decide +kernel
theorem dX0_ownNode_41 : decode cX0_ownNode 41 = .ok (.iconst 4, 1) := by decide +kernel
theorem dX0_ownNode_42 : decode cX0_ownNode 42 = .ok (.iload_n 3, 1) := by decide +kernel
theorem dX0_ownNode_43 : decode cX0_ownNode 43 = .ok (.imul, 1) := by decide +kernel
theorem dX0_ownNode_44 : decode cX0_ownNode 44 = .ok (.iload 4, 2) := by decide +kernel
theorem dX0_ownNode_46 : decode cX0_ownNode 46 = .ok (.iadd, 1) := by decide +kernel
theorem dX0_ownNode_47 : decode cX0_ownNode 47 = .ok (.iload_n 1, 1) := by decide +kernel
theorem dX0_ownNode_48 : decode cX0_ownNode 48 = .ok (.ifCond .ge 16, 3) := by decide +kernel
theorem dX0_ownNode_51 : decode cX0_ownNode 51 = .ok (.iload_n 2, 1) := by decide +kernel
theorem dX0_ownNode_52 : decode cX0_ownNode 52 = .ok (.iconst 3, 1) := by decide +kernel
theorem dX0_ownNode_53 : decode cX0_ownNode 53 = .ok (.if_icmp .ge 7, 3) := by decide +kernel
theorem dX0_ownNode_56 : decode cX0_ownNode 56 = .ok (.iconst (-1), 1) := by decide +kernel
theorem dX0_ownNode_57 : decode cX0_ownNode 57 = .ok (.goto 18, 3) := by decide +kernel
theorem dX0_ownNode_60 : decode cX0_ownNode 60 = .ok (.iconst 0, 1) := by decide +kernel
theorem dX0_ownNode_61 : decode cX0_ownNode 61 = .ok (.goto 14, 3) := by decide +kernel
theorem dX0_ownNode_64 : decode cX0_ownNode 64 = .ok (.aload_n 0, 1) := by decide +kernel
end
section
set_option maxRecDepth 100000
theorem dX0_ownNode_65 : decode cX0_ownNode 65 = .ok (.getfield 7, 3) := by decide +kernel
theorem dX0_ownNode_68 : decode cX0_ownNode 68 = .ok (.iconst 4, 1) := by decide +kernel
theorem dX0_ownNode_69 : decode cX0_ownNode 69 = .ok (.iload_n 1, 1) := by decide +kernel
theorem dX0_ownNode_70 : decode cX0_ownNode 70 = .ok (.imul, 1) := by decide +kernel
theorem dX0_ownNode_71 : decode cX0_ownNode 71 = .ok (.iload 4, 2) := by decide +kernel
theorem dX0_ownNode_73 : decode cX0_ownNode 73 = .ok (.iadd, 1) := by decide +kernel
theorem dX0_ownNode_74 : decode cX0_ownNode 74 = .ok (.iaload, 1) := by decide +kernel
theorem dX0_ownNode_75 : decode cX0_ownNode 75 = .ok (.iastore, 1) := by decide +kernel
theorem dX0_ownNode_76 : decode cX0_ownNode 76 = .ok (.iload_n 2, 1) := by decide +kernel
theorem dX0_ownNode_77 : decode cX0_ownNode 77 = .ok (.iconst 3, 1) := by decide +kernel
theorem dX0_ownNode_78 : decode cX0_ownNode 78 = .ok (.if_icmp .ge 37, 3) := by decide +kernel
theorem dX0_ownNode_81 : decode cX0_ownNode 81 = .ok (.aload_n 0, 1) := by decide +kernel
theorem dX0_ownNode_82 : decode cX0_ownNode 82 = .ok (.getfield 7, 3) := by decide +kernel
theorem dX0_ownNode_85 : decode cX0_ownNode 85 = .ok (.iconst 4, 1) := by decide +kernel
theorem dX0_ownNode_86 : decode cX0_ownNode 86 = .ok (.iload_n 3, 1) := by decide +kernel
theorem dX0_ownNode_87 : decode cX0_ownNode 87 = .ok (.imul, 1) := by decide +kernel
theorem dX0_ownNode_88 : decode cX0_ownNode 88 = .ok (.iload 4, 2) := by decide +kernel
theorem dX0_ownNode_90 : decode cX0_ownNode 90 = .ok (.iadd, 1) := by decide +kernel
theorem dX0_ownNode_91 : decode cX0_ownNode 91 = .ok (.iaload, 1) := by decide +kernel
theorem dX0_ownNode_92 : decode cX0_ownNode 92 = .ok (.ifCond .lt 23, 3) := by decide +kernel
theorem dX0_ownNode_95 : decode cX0_ownNode 95 = .ok (.aload_n 0, 1) := by decide +kernel
theorem dX0_ownNode_96 : decode cX0_ownNode 96 = .ok (.getfield 16, 3) := by decide +kernel
theorem dX0_ownNode_99 : decode cX0_ownNode 99 = .ok (.aload_n 0, 1) := by decide +kernel
theorem dX0_ownNode_100 : decode cX0_ownNode 100 = .ok (.getfield 7, 3) := by decide +kernel
theorem dX0_ownNode_103 : decode cX0_ownNode 103 = .ok (.iconst 4, 1) := by decide +kernel
theorem dX0_ownNode_104 : decode cX0_ownNode 104 = .ok (.iload_n 3, 1) := by decide +kernel
theorem dX0_ownNode_105 : decode cX0_ownNode 105 = .ok (.imul, 1) := by decide +kernel
theorem dX0_ownNode_106 : decode cX0_ownNode 106 = .ok (.iload 4, 2) := by decide +kernel
theorem dX0_ownNode_108 : decode cX0_ownNode 108 = .ok (.iadd, 1) := by decide +kernel
theorem dX0_ownNode_109 : decode cX0_ownNode 109 = .ok (.iaload, 1) := by decide +kernel
theorem dX0_ownNode_110 : decode cX0_ownNode 110 = .ok (.dup2, 1) := by decide +kernel
theorem dX0_ownNode_111 : decode cX0_ownNode 111 = .ok (.iaload, 1) := by decide +kernel
theorem dX0_ownNode_112 : decode cX0_ownNode 112 = .ok (.iconst 1, 1) := by decide +kernel
theorem dX0_ownNode_113 : decode cX0_ownNode 113 = .ok (.iadd, 1) := by decide +kernel
theorem dX0_ownNode_114 : decode cX0_ownNode 114 = .ok (.iastore, 1) := by decide +kernel
theorem dX0_ownNode_115 : decode cX0_ownNode 115 = .ok (.iinc 4 1, 3) := by decide +kernel
theorem dX0_ownNode_118 : decode cX0_ownNode 118 = .ok (.goto (-87), 3) := by decide +kernel
theorem dX0_ownNode_121 : decode cX0_ownNode 121 = .ok (.aload_n 0, 1) := by decide +kernel
theorem dX0_ownNode_122 : decode cX0_ownNode 122 = .ok (.getfield 13, 3) := by decide +kernel
theorem dX0_ownNode_125 : decode cX0_ownNode 125 = .ok (.iload_n 3, 1) := by decide +kernel
theorem dX0_ownNode_126 : decode cX0_ownNode 126 = .ok (.iload_n 1, 1) := by decide +kernel
theorem dX0_ownNode_127 : decode cX0_ownNode 127 = .ok (.ifCond .ge 7, 3) := by decide +kernel
theorem dX0_ownNode_130 : decode cX0_ownNode 130 = .ok (.iconst 0, 1) := by decide +kernel
theorem dX0_ownNode_131 : decode cX0_ownNode 131 = .ok (.goto 9, 3) := by decide +kernel
theorem dX0_ownNode_134 : decode cX0_ownNode 134 = .ok (.aload_n 0, 1) := by decide +kernel
theorem dX0_ownNode_135 : decode cX0_ownNode 135 = .ok (.getfield 13, 3) := by decide +kernel
theorem dX0_ownNode_138 : decode cX0_ownNode 138 = .ok (.iload_n 1, 1) := by decide +kernel
theorem dX0_ownNode_139 : decode cX0_ownNode 139 = .ok (.iaload, 1) := by decide +kernel
theorem dX0_ownNode_140 : decode cX0_ownNode 140 = .ok (.iastore, 1) := by decide +kernel
theorem dX0_ownNode_141 : decode cX0_ownNode 141 = .ok (.aload_n 0, 1) := by decide +kernel
theorem dX0_ownNode_142 : decode cX0_ownNode 142 = .ok (.iload_n 3, 1) := by decide +kernel
theorem dX0_ownNode_143 : decode cX0_ownNode 143 = .ok (.iload_n 2, 1) := by decide +kernel
theorem dX0_ownNode_144 : decode cX0_ownNode 144 = .ok (.invokevirtual 85, 3) := by decide +kernel
theorem dX0_ownNode_147 : decode cX0_ownNode 147 = .ok (.iload_n 1, 1) := by decide +kernel
theorem dX0_ownNode_148 : decode cX0_ownNode 148 = .ok (.ifCond .lt 13, 3) := by decide +kernel
theorem dX0_ownNode_151 : decode cX0_ownNode 151 = .ok (.aload_n 0, 1) := by decide +kernel
theorem dX0_ownNode_152 : decode cX0_ownNode 152 = .ok (.getfield 16, 3) := by decide +kernel
theorem dX0_ownNode_155 : decode cX0_ownNode 155 = .ok (.iload_n 1, 1) := by decide +kernel
theorem dX0_ownNode_156 : decode cX0_ownNode 156 = .ok (.dup2, 1) := by decide +kernel
theorem dX0_ownNode_157 : decode cX0_ownNode 157 = .ok (.iaload, 1) := by decide +kernel
theorem dX0_ownNode_158 : decode cX0_ownNode 158 = .ok (.iconst 1, 1) := by decide +kernel
theorem dX0_ownNode_159 : decode cX0_ownNode 159 = .ok (.isub, 1) := by decide +kernel
theorem dX0_ownNode_160 : decode cX0_ownNode 160 = .ok (.iastore, 1) := by decide +kernel
theorem dX0_ownNode_161 : decode cX0_ownNode 161 = .ok (.iload_n 3, 1) := by decide +kernel
theorem dX0_ownNode_162 : decode cX0_ownNode 162 = .ok (.ireturn, 1) := by decide +kernel
theorem dX0_freeNode_0 : decode cX0_freeNode 0 = .ok (.iconst 0, 1) := by decide +kernel
theorem dX0_freeNode_1 : decode cX0_freeNode 1 = .ok (.istore_n 1, 1) := by decide +kernel
theorem dX0_freeNode_2 : decode cX0_freeNode 2 = .ok (.iload_n 1, 1) := by decide +kernel
theorem dX0_freeNode_3 : decode cX0_freeNode 3 = .ok (.sipush 400, 3) := by decide +kernel
theorem dX0_freeNode_6 : decode cX0_freeNode 6 = .ok (.if_icmp .ge 20, 3) := by decide +kernel
theorem dX0_freeNode_9 : decode cX0_freeNode 9 = .ok (.aload_n 0, 1) := by decide +kernel
theorem dX0_freeNode_10 : decode cX0_freeNode 10 = .ok (.getfield 16, 3) := by decide +kernel
theorem dX0_freeNode_13 : decode cX0_freeNode 13 = .ok (.iload_n 1, 1) := by decide +kernel
theorem dX0_freeNode_14 : decode cX0_freeNode 14 = .ok (.iaload, 1) := by decide +kernel
theorem dX0_freeNode_15 : decode cX0_freeNode 15 = .ok (.ifCond .ne 5, 3) := by decide +kernel
theorem dX0_freeNode_18 : decode cX0_freeNode 18 = .ok (.iload_n 1, 1) := by decide +kernel
theorem dX0_freeNode_19 : decode cX0_freeNode 19 = .ok (.ireturn, 1) := by decide +kernel
theorem dX0_freeNode_20 : decode cX0_freeNode 20 = .ok (.iinc 1 1, 3) := by decide +kernel
theorem dX0_freeNode_23 : decode cX0_freeNode 23 = .ok (.goto (-21), 3) := by decide +kernel
theorem dX0_freeNode_26 : decode cX0_freeNode 26 = .ok (.sipush 399, 3) := by decide +kernel
theorem dX0_freeNode_29 : decode cX0_freeNode 29 = .ok (.ireturn, 1) := by decide +kernel
theorem dX0_levelMark_0 : decode cX0_levelMark 0 = .ok (.aload_n 0, 1) := by decide +kernel
theorem dX0_levelMark_1 : decode cX0_levelMark 1 = .ok (.getfield 13, 3) := by decide +kernel
theorem dX0_levelMark_4 : decode cX0_levelMark 4 = .ok (.iload_n 1, 1) := by decide +kernel
theorem dX0_levelMark_5 : decode cX0_levelMark 5 = .ok (.iload_n 2, 1) := by decide +kernel
theorem dX0_levelMark_6 : decode cX0_levelMark 6 = .ok (.iconst 3, 1) := by decide +kernel
theorem dX0_levelMark_7 : decode cX0_levelMark 7 = .ok (.if_icmp .ne 16, 3) := by decide +kernel
theorem dX0_levelMark_10 : decode cX0_levelMark 10 = .ok (.aload_n 0, 1) := by decide +kernel
theorem dX0_levelMark_11 : decode cX0_levelMark 11 = .ok (.getfield 13, 3) := by decide +kernel
theorem dX0_levelMark_14 : decode cX0_levelMark 14 = .ok (.iload_n 1, 1) := by decide +kernel
theorem dX0_levelMark_15 : decode cX0_levelMark 15 = .ok (.iaload, 1) := by decide +kernel
theorem dX0_levelMark_16 : decode cX0_levelMark 16 = .ok (.sipush 256, 3) := by decide +kernel
theorem dX0_levelMark_19 : decode cX0_levelMark 19 = .ok (.ior, 1) := by decide +kernel
theorem dX0_levelMark_20 : decode cX0_levelMark 20 = .ok (.goto 4, 3) := by decide +kernel
theorem dX0_levelMark_23 : decode cX0_levelMark 23 = .ok (.iconst 0, 1) := by decide +kernel
theorem dX0_levelMark_24 : decode cX0_levelMark 24 = .ok (.iastore, 1) := by decide +kernel
theorem dX0_levelMark_25 : decode cX0_levelMark 25 = .ok (.return_, 1) := by decide +kernel
theorem dX0_remove_0 : decode cX0_remove 0 = .ok (.iload_n 1, 1) := by decide +kernel
theorem dX0_remove_1 : decode cX0_remove 1 = .ok (.ifCond .lt 19, 3) := by decide +kernel
theorem dX0_remove_4 : decode cX0_remove 4 = .ok (.iload_n 1, 1) := by decide +kernel
theorem dX0_remove_5 : decode cX0_remove 5 = .ok (.sipush 255, 3) := by decide +kernel
theorem dX0_remove_8 : decode cX0_remove 8 = .ok (.if_icmp .gt 12, 3) := by decide +kernel
theorem dX0_remove_11 : decode cX0_remove 11 = .ok (.aload_n 0, 1) := by decide +kernel
theorem dX0_remove_12 : decode cX0_remove 12 = .ok (.iconst 0, 1) := by decide +kernel
theorem dX0_remove_13 : decode cX0_remove 13 = .ok (.iload_n 1, 1) := by decide +kernel
theorem dX0_remove_14 : decode cX0_remove 14 = .ok (.invokevirtual 35, 3) := by decide +kernel
theorem dX0_remove_17 : decode cX0_remove 17 = .ok (.ifCond .ne 5, 3) := by decide +kernel
theorem dX0_remove_20 : decode cX0_remove 20 = .ok (.iconst (-1), 1) := by decide +kernel
theorem dX0_remove_21 : decode cX0_remove 21 = .ok (.ireturn, 1) := by decide +kernel
theorem dX0_remove_22 : decode cX0_remove 22 = .ok (.aload_n 0, 1) := by decide +kernel
theorem dX0_remove_23 : decode cX0_remove 23 = .ok (.iload_n 1, 1) := by decide +kernel
theorem dX0_remove_24 : decode cX0_remove 24 = .ok (.invokevirtual 39, 3) := by decide +kernel
theorem dX0_remove_27 : decode cX0_remove 27 = .ok (.istore_n 2, 1) := by decide +kernel
theorem dX0_remove_28 : decode cX0_remove 28 = .ok (.aload_n 0, 1) := by decide +kernel
theorem dX0_remove_29 : decode cX0_remove 29 = .ok (.getfield 13, 3) := by decide +kernel
theorem dX0_remove_32 : decode cX0_remove 32 = .ok (.iload_n 2, 1) := by decide +kernel
theorem dX0_remove_33 : decode cX0_remove 33 = .ok (.dup2, 1) := by decide +kernel
theorem dX0_remove_34 : decode cX0_remove 34 = .ok (.iaload, 1) := by decide +kernel
theorem dX0_remove_35 : decode cX0_remove 35 = .ok (.iconst 1, 1) := by decide +kernel
theorem dX0_remove_36 : decode cX0_remove 36 = .ok (.iload_n 1, 1) := by decide +kernel
theorem dX0_remove_37 : decode cX0_remove 37 = .ok (.iconst 3, 1) := by decide +kernel
theorem dX0_remove_38 : decode cX0_remove 38 = .ok (.iand, 1) := by decide +kernel
theorem dX0_remove_39 : decode cX0_remove 39 = .ok (.ishl, 1) := by decide +kernel
theorem dX0_remove_40 : decode cX0_remove 40 = .ok (.iconst (-1), 1) := by decide +kernel
theorem dX0_remove_41 : decode cX0_remove 41 = .ok (.ixor, 1) := by decide +kernel
theorem dX0_remove_42 : decode cX0_remove 42 = .ok (.iand, 1) := by decide +kernel
theorem dX0_remove_43 : decode cX0_remove 43 = .ok (.iastore, 1) := by decide +kernel
theorem dX0_remove_44 : decode cX0_remove 44 = .ok (.aload_n 0, 1) := by decide +kernel
theorem dX0_remove_45 : decode cX0_remove 45 = .ok (.iload_n 1, 1) := by decide +kernel
theorem dX0_remove_46 : decode cX0_remove 46 = .ok (.invokevirtual 43, 3) := by decide +kernel
theorem dX0_remove_49 : decode cX0_remove 49 = .ok (.aload_n 0, 1) := by decide +kernel
theorem dX0_remove_50 : decode cX0_remove 50 = .ok (.getfield 26, 3) := by decide +kernel
theorem dX0_remove_53 : decode cX0_remove 53 = .ok (.iconst 0, 1) := by decide +kernel
theorem dX0_remove_54 : decode cX0_remove 54 = .ok (.dup2, 1) := by decide +kernel
theorem dX0_remove_55 : decode cX0_remove 55 = .ok (.iaload, 1) := by decide +kernel
theorem dX0_remove_56 : decode cX0_remove 56 = .ok (.iconst 1, 1) := by decide +kernel
theorem dX0_remove_57 : decode cX0_remove 57 = .ok (.isub, 1) := by decide +kernel
theorem dX0_remove_58 : decode cX0_remove 58 = .ok (.iastore, 1) := by decide +kernel
theorem dX0_remove_59 : decode cX0_remove 59 = .ok (.aload_n 0, 1) := by decide +kernel
theorem dX0_remove_60 : decode cX0_remove 60 = .ok (.getfield 26, 3) := by decide +kernel
theorem dX0_remove_63 : decode cX0_remove 63 = .ok (.iconst 0, 1) := by decide +kernel
theorem dX0_remove_64 : decode cX0_remove 64 = .ok (.iaload, 1) := by decide +kernel
theorem dX0_remove_65 : decode cX0_remove 65 = .ok (.ireturn, 1) := by decide +kernel
theorem dX0_prune_0 : decode cX0_prune 0 = .ok (.aload_n 0, 1) := by decide +kernel
theorem dX0_prune_1 : decode cX0_prune 1 = .ok (.getfield 13, 3) := by decide +kernel
theorem dX0_prune_4 : decode cX0_prune 4 = .ok (.aload_n 0, 1) := by decide +kernel
theorem dX0_prune_5 : decode cX0_prune 5 = .ok (.getfield 29, 3) := by decide +kernel
theorem dX0_prune_8 : decode cX0_prune 8 = .ok (.iconst 3, 1) := by decide +kernel
theorem dX0_prune_9 : decode cX0_prune 9 = .ok (.iaload, 1) := by decide +kernel
theorem dX0_prune_10 : decode cX0_prune 10 = .ok (.iaload, 1) := by decide +kernel
theorem dX0_prune_11 : decode cX0_prune 11 = .ok (.bipush 15, 2) := by decide +kernel
theorem dX0_prune_13 : decode cX0_prune 13 = .ok (.iand, 1) := by decide +kernel
theorem dX0_prune_14 : decode cX0_prune 14 = .ok (.ifCond .eq 4, 3) := by decide +kernel
theorem dX0_prune_17 : decode cX0_prune 17 = .ok (.return_, 1) := by decide +kernel
theorem dX0_prune_18 : decode cX0_prune 18 = .ok (.aload_n 0, 1) := by decide +kernel
theorem dX0_prune_19 : decode cX0_prune 19 = .ok (.getfield 16, 3) := by decide +kernel
theorem dX0_prune_22 : decode cX0_prune 22 = .ok (.aload_n 0, 1) := by decide +kernel
theorem dX0_prune_23 : decode cX0_prune 23 = .ok (.getfield 29, 3) := by decide +kernel
theorem dX0_prune_26 : decode cX0_prune 26 = .ok (.iconst 3, 1) := by decide +kernel
theorem dX0_prune_27 : decode cX0_prune 27 = .ok (.iaload, 1) := by decide +kernel
theorem dX0_prune_28 : decode cX0_prune 28 = .ok (.iconst 0, 1) := by decide +kernel
theorem dX0_prune_29 : decode cX0_prune 29 = .ok (.iastore, 1) := by decide +kernel
theorem dX0_prune_30 : decode cX0_prune 30 = .ok (.iconst 2, 1) := by decide +kernel
theorem dX0_prune_31 : decode cX0_prune 31 = .ok (.istore_n 2, 1) := by decide +kernel
theorem dX0_prune_32 : decode cX0_prune 32 = .ok (.iload_n 2, 1) := by decide +kernel
theorem dX0_prune_33 : decode cX0_prune 33 = .ok (.ifCond .lt 55, 3) := by decide +kernel
theorem dX0_prune_36 : decode cX0_prune 36 = .ok (.aload_n 0, 1) := by decide +kernel
theorem dX0_prune_37 : decode cX0_prune 37 = .ok (.getfield 7, 3) := by decide +kernel
theorem dX0_prune_40 : decode cX0_prune 40 = .ok (.iconst 4, 1) := by decide +kernel
theorem dX0_prune_41 : decode cX0_prune 41 = .ok (.aload_n 0, 1) := by decide +kernel
theorem dX0_prune_42 : decode cX0_prune 42 = .ok (.getfield 29, 3) := by decide +kernel
theorem dX0_prune_45 : decode cX0_prune 45 = .ok (.iload_n 2, 1) := by decide +kernel
theorem dX0_prune_46 : decode cX0_prune 46 = .ok (.iaload, 1) := by decide +kernel
theorem dX0_prune_47 : decode cX0_prune 47 = .ok (.imul, 1) := by decide +kernel
theorem dX0_prune_48 : decode cX0_prune 48 = .ok (.iload_n 1, 1) := by decide +kernel
theorem dX0_prune_49 : decode cX0_prune 49 = .ok (.iload_n 2, 1) := by decide +kernel
theorem dX0_prune_50 : decode cX0_prune 50 = .ok (.invokestatic 75, 3) := by decide +kernel
theorem dX0_prune_53 : decode cX0_prune 53 = .ok (.iadd, 1) := by decide +kernel
theorem dX0_prune_54 : decode cX0_prune 54 = .ok (.iconst (-1), 1) := by decide +kernel
theorem dX0_prune_55 : decode cX0_prune 55 = .ok (.iastore, 1) := by decide +kernel
theorem dX0_prune_56 : decode cX0_prune 56 = .ok (.aload_n 0, 1) := by decide +kernel
theorem dX0_prune_57 : decode cX0_prune 57 = .ok (.aload_n 0, 1) := by decide +kernel
theorem dX0_prune_58 : decode cX0_prune 58 = .ok (.getfield 29, 3) := by decide +kernel
theorem dX0_prune_61 : decode cX0_prune 61 = .ok (.iload_n 2, 1) := by decide +kernel
theorem dX0_prune_62 : decode cX0_prune 62 = .ok (.iaload, 1) := by decide +kernel
theorem dX0_prune_63 : decode cX0_prune 63 = .ok (.invokevirtual 88, 3) := by decide +kernel
theorem dX0_prune_66 : decode cX0_prune 66 = .ok (.ifCond .eq 4, 3) := by decide +kernel
theorem dX0_prune_69 : decode cX0_prune 69 = .ok (.return_, 1) := by decide +kernel
theorem dX0_prune_70 : decode cX0_prune 70 = .ok (.aload_n 0, 1) := by decide +kernel
theorem dX0_prune_71 : decode cX0_prune 71 = .ok (.getfield 16, 3) := by decide +kernel
theorem dX0_prune_74 : decode cX0_prune 74 = .ok (.aload_n 0, 1) := by decide +kernel
theorem dX0_prune_75 : decode cX0_prune 75 = .ok (.getfield 29, 3) := by decide +kernel
theorem dX0_prune_78 : decode cX0_prune 78 = .ok (.iload_n 2, 1) := by decide +kernel
theorem dX0_prune_79 : decode cX0_prune 79 = .ok (.iaload, 1) := by decide +kernel
theorem dX0_prune_80 : decode cX0_prune 80 = .ok (.iconst 0, 1) := by decide +kernel
theorem dX0_prune_81 : decode cX0_prune 81 = .ok (.iastore, 1) := by decide +kernel
theorem dX0_prune_82 : decode cX0_prune 82 = .ok (.iinc 2 (-1), 3) := by decide +kernel
theorem dX0_prune_85 : decode cX0_prune 85 = .ok (.goto (-53), 3) := by decide +kernel
theorem dX0_prune_88 : decode cX0_prune 88 = .ok (.aload_n 0, 1) := by decide +kernel
theorem dX0_prune_89 : decode cX0_prune 89 = .ok (.getfield 23, 3) := by decide +kernel
theorem dX0_prune_92 : decode cX0_prune 92 = .ok (.iconst 0, 1) := by decide +kernel
theorem dX0_prune_93 : decode cX0_prune 93 = .ok (.iconst (-1), 1) := by decide +kernel
theorem dX0_prune_94 : decode cX0_prune 94 = .ok (.iastore, 1) := by decide +kernel
theorem dX0_prune_95 : decode cX0_prune 95 = .ok (.return_, 1) := by decide +kernel
theorem dX0_leadsOn_0 : decode cX0_leadsOn 0 = .ok (.iconst 0, 1) := by decide +kernel
theorem dX0_leadsOn_1 : decode cX0_leadsOn 1 = .ok (.istore_n 2, 1) := by decide +kernel
theorem dX0_leadsOn_2 : decode cX0_leadsOn 2 = .ok (.iload_n 2, 1) := by decide +kernel
theorem dX0_leadsOn_3 : decode cX0_leadsOn 3 = .ok (.iconst 4, 1) := by decide +kernel
theorem dX0_leadsOn_4 : decode cX0_leadsOn 4 = .ok (.if_icmp .ge 24, 3) := by decide +kernel
theorem dX0_leadsOn_7 : decode cX0_leadsOn 7 = .ok (.aload_n 0, 1) := by decide +kernel
theorem dX0_leadsOn_8 : decode cX0_leadsOn 8 = .ok (.getfield 7, 3) := by decide +kernel
theorem dX0_leadsOn_11 : decode cX0_leadsOn 11 = .ok (.iconst 4, 1) := by decide +kernel
theorem dX0_leadsOn_12 : decode cX0_leadsOn 12 = .ok (.iload_n 1, 1) := by decide +kernel
theorem dX0_leadsOn_13 : decode cX0_leadsOn 13 = .ok (.imul, 1) := by decide +kernel
theorem dX0_leadsOn_14 : decode cX0_leadsOn 14 = .ok (.iload_n 2, 1) := by decide +kernel
theorem dX0_leadsOn_15 : decode cX0_leadsOn 15 = .ok (.iadd, 1) := by decide +kernel
theorem dX0_leadsOn_16 : decode cX0_leadsOn 16 = .ok (.iaload, 1) := by decide +kernel
theorem dX0_leadsOn_17 : decode cX0_leadsOn 17 = .ok (.ifCond .lt 5, 3) := by decide +kernel
theorem dX0_leadsOn_20 : decode cX0_leadsOn 20 = .ok (.iconst 1, 1) := by decide +kernel
theorem dX0_leadsOn_21 : decode cX0_leadsOn 21 = .ok (.ireturn, 1) := by decide +kernel
theorem dX0_leadsOn_22 : decode cX0_leadsOn 22 = .ok (.iinc 2 1, 3) := by decide +kernel
theorem dX0_leadsOn_25 : decode cX0_leadsOn 25 = .ok (.goto (-23), 3) := by decide +kernel
theorem dX0_leadsOn_28 : decode cX0_leadsOn 28 = .ok (.iconst 0, 1) := by decide +kernel
theorem dX0_leadsOn_29 : decode cX0_leadsOn 29 = .ok (.ireturn, 1) := by decide +kernel
theorem dX0_commit_0 : decode cX0_commit 0 = .ok (.iconst 1, 1) := by decide +kernel
theorem dX0_commit_1 : decode cX0_commit 1 = .ok (.istore_n 1, 1) := by decide +kernel
theorem dX0_commit_2 : decode cX0_commit 2 = .ok (.iload_n 1, 1) := by decide +kernel
theorem dX0_commit_3 : decode cX0_commit 3 = .ok (.bipush 8, 2) := by decide +kernel
theorem dX0_commit_5 : decode cX0_commit 5 = .ok (.if_icmp .ge 35, 3) := by decide +kernel
theorem dX0_commit_8 : decode cX0_commit 8 = .ok (.aload_n 0, 1) := by decide +kernel
theorem dX0_commit_9 : decode cX0_commit 9 = .ok (.getfield 19, 3) := by decide +kernel
theorem dX0_commit_12 : decode cX0_commit 12 = .ok (.iload_n 1, 1) := by decide +kernel
theorem dX0_commit_13 : decode cX0_commit 13 = .ok (.baload, 1) := by decide +kernel
theorem dX0_commit_14 : decode cX0_commit 14 = .ok (.ifCond .ne 20, 3) := by decide +kernel
theorem dX0_commit_17 : decode cX0_commit 17 = .ok (.aload_n 0, 1) := by decide +kernel
theorem dX0_commit_18 : decode cX0_commit 18 = .ok (.getfield 19, 3) := by decide +kernel
theorem dX0_commit_21 : decode cX0_commit 21 = .ok (.iload_n 1, 1) := by decide +kernel
theorem dX0_commit_22 : decode cX0_commit 22 = .ok (.iconst 1, 1) := by decide +kernel
theorem dX0_commit_23 : decode cX0_commit 23 = .ok (.bastore, 1) := by decide +kernel
theorem dX0_commit_24 : decode cX0_commit 24 = .ok (.aload_n 0, 1) := by decide +kernel
theorem dX0_commit_25 : decode cX0_commit 25 = .ok (.iconst 0, 1) := by decide +kernel
theorem dX0_commit_26 : decode cX0_commit 26 = .ok (.iload_n 1, 1) := by decide +kernel
theorem dX0_commit_27 : decode cX0_commit 27 = .ok (.invokevirtual 47, 3) := by decide +kernel
theorem dX0_commit_30 : decode cX0_commit 30 = .ok (.iload_n 1, 1) := by decide +kernel
theorem dX0_commit_31 : decode cX0_commit 31 = .ok (.iconst 1, 1) := by decide +kernel
theorem dX0_commit_32 : decode cX0_commit 32 = .ok (.isub, 1) := by decide +kernel
theorem dX0_commit_33 : decode cX0_commit 33 = .ok (.ireturn, 1) := by decide +kernel
theorem dX0_commit_34 : decode cX0_commit 34 = .ok (.iinc 1 1, 3) := by decide +kernel
theorem dX0_commit_37 : decode cX0_commit 37 = .ok (.goto (-35), 3) := by decide +kernel
theorem dX0_commit_40 : decode cX0_commit 40 = .ok (.iconst (-1), 1) := by decide +kernel
theorem dX0_commit_41 : decode cX0_commit 41 = .ok (.ireturn, 1) := by decide +kernel
theorem dX0_share_0 : decode cX0_share 0 = .ok (.aload_n 0, 1) := by decide +kernel
theorem dX0_share_1 : decode cX0_share 1 = .ok (.getfield 23, 3) := by decide +kernel
theorem dX0_share_4 : decode cX0_share 4 = .ok (.iload_n 2, 1) := by decide +kernel
theorem dX0_share_5 : decode cX0_share 5 = .ok (.aload_n 0, 1) := by decide +kernel
theorem dX0_share_6 : decode cX0_share 6 = .ok (.getfield 23, 3) := by decide +kernel
theorem dX0_share_9 : decode cX0_share 9 = .ok (.iload_n 1, 1) := by decide +kernel
theorem dX0_share_10 : decode cX0_share 10 = .ok (.iaload, 1) := by decide +kernel
theorem dX0_share_11 : decode cX0_share 11 = .ok (.iastore, 1) := by decide +kernel
theorem dX0_share_12 : decode cX0_share 12 = .ok (.aload_n 0, 1) := by decide +kernel
theorem dX0_share_13 : decode cX0_share 13 = .ok (.getfield 26, 3) := by decide +kernel
theorem dX0_share_16 : decode cX0_share 16 = .ok (.iload_n 2, 1) := by decide +kernel
theorem dX0_share_17 : decode cX0_share 17 = .ok (.aload_n 0, 1) := by decide +kernel
theorem dX0_share_18 : decode cX0_share 18 = .ok (.getfield 26, 3) := by decide +kernel
theorem dX0_share_21 : decode cX0_share 21 = .ok (.iload_n 1, 1) := by decide +kernel
theorem dX0_share_22 : decode cX0_share 22 = .ok (.iaload, 1) := by decide +kernel
theorem dX0_share_23 : decode cX0_share 23 = .ok (.iastore, 1) := by decide +kernel
theorem dX0_share_24 : decode cX0_share 24 = .ok (.aload_n 0, 1) := by decide +kernel
theorem dX0_share_25 : decode cX0_share 25 = .ok (.getfield 23, 3) := by decide +kernel
theorem dX0_share_28 : decode cX0_share 28 = .ok (.iload_n 2, 1) := by decide +kernel
theorem dX0_share_29 : decode cX0_share 29 = .ok (.iaload, 1) := by decide +kernel
theorem dX0_share_30 : decode cX0_share 30 = .ok (.ifCond .lt 18, 3) := by decide +kernel
theorem dX0_share_33 : decode cX0_share 33 = .ok (.aload_n 0, 1) := by decide +kernel
theorem dX0_share_34 : decode cX0_share 34 = .ok (.getfield 16, 3) := by decide +kernel
theorem dX0_share_37 : decode cX0_share 37 = .ok (.aload_n 0, 1) := by decide +kernel
theorem dX0_share_38 : decode cX0_share 38 = .ok (.getfield 23, 3) := by decide +kernel
theorem dX0_share_41 : decode cX0_share 41 = .ok (.iload_n 2, 1) := by decide +kernel
theorem dX0_share_42 : decode cX0_share 42 = .ok (.iaload, 1) := by decide +kernel
theorem dX0_share_43 : decode cX0_share 43 = .ok (.dup2, 1) := by decide +kernel
theorem dX0_share_44 : decode cX0_share 44 = .ok (.iaload, 1) := by decide +kernel
theorem dX0_share_45 : decode cX0_share 45 = .ok (.iconst 1, 1) := by decide +kernel
theorem dX0_share_46 : decode cX0_share 46 = .ok (.iadd, 1) := by decide +kernel
end
section
set_option maxRecDepth 100000
theorem dX0_share_47 : decode cX0_share 47 = .ok (.iastore, 1) := by decide +kernel
theorem dX0_share_48 : decode cX0_share 48 = .ok (.return_, 1) := by decide +kernel
theorem dX0_restore_0 : decode cX0_restore 0 = .ok (.iload_n 1, 1) := by decide +kernel
theorem dX0_restore_1 : decode cX0_restore 1 = .ok (.ifCond .lt 20, 3) := by decide +kernel
theorem dX0_restore_4 : decode cX0_restore 4 = .ok (.iload_n 1, 1) := by decide +kernel
theorem dX0_restore_5 : decode cX0_restore 5 = .ok (.bipush 6, 2) := by decide +kernel
theorem dX0_restore_7 : decode cX0_restore 7 = .ok (.if_icmp .gt 14, 3) := by decide +kernel
theorem dX0_restore_10 : decode cX0_restore 10 = .ok (.aload_n 0, 1) := by decide +kernel
theorem dX0_restore_11 : decode cX0_restore 11 = .ok (.getfield 19, 3) := by decide +kernel
theorem dX0_restore_14 : decode cX0_restore 14 = .ok (.iload_n 1, 1) := by decide +kernel
theorem dX0_restore_15 : decode cX0_restore 15 = .ok (.iconst 1, 1) := by decide +kernel
theorem dX0_restore_16 : decode cX0_restore 16 = .ok (.iadd, 1) := by decide +kernel
theorem dX0_restore_17 : decode cX0_restore 17 = .ok (.baload, 1) := by decide +kernel
theorem dX0_restore_18 : decode cX0_restore 18 = .ok (.ifCond .ne 5, 3) := by decide +kernel
theorem dX0_restore_21 : decode cX0_restore 21 = .ok (.iconst (-1), 1) := by decide +kernel
theorem dX0_restore_22 : decode cX0_restore 22 = .ok (.ireturn, 1) := by decide +kernel
theorem dX0_restore_23 : decode cX0_restore 23 = .ok (.aload_n 0, 1) := by decide +kernel
theorem dX0_restore_24 : decode cX0_restore 24 = .ok (.getfield 23, 3) := by decide +kernel
theorem dX0_restore_27 : decode cX0_restore 27 = .ok (.iconst 0, 1) := by decide +kernel
theorem dX0_restore_28 : decode cX0_restore 28 = .ok (.iaload, 1) := by decide +kernel
theorem dX0_restore_29 : decode cX0_restore 29 = .ok (.istore_n 2, 1) := by decide +kernel
theorem dX0_restore_30 : decode cX0_restore 30 = .ok (.aload_n 0, 1) := by decide +kernel
theorem dX0_restore_31 : decode cX0_restore 31 = .ok (.iload_n 1, 1) := by decide +kernel
theorem dX0_restore_32 : decode cX0_restore 32 = .ok (.iconst 1, 1) := by decide +kernel
theorem dX0_restore_33 : decode cX0_restore 33 = .ok (.iadd, 1) := by decide +kernel
theorem dX0_restore_34 : decode cX0_restore 34 = .ok (.iconst 0, 1) := by decide +kernel
theorem dX0_restore_35 : decode cX0_restore 35 = .ok (.invokevirtual 47, 3) := by decide +kernel
theorem dX0_restore_38 : decode cX0_restore 38 = .ok (.aload_n 0, 1) := by decide +kernel
theorem dX0_restore_39 : decode cX0_restore 39 = .ok (.iload_n 2, 1) := by decide +kernel
theorem dX0_restore_40 : decode cX0_restore 40 = .ok (.invokevirtual 51, 3) := by decide +kernel
theorem dX0_restore_43 : decode cX0_restore 43 = .ok (.aload_n 0, 1) := by decide +kernel
theorem dX0_restore_44 : decode cX0_restore 44 = .ok (.getfield 26, 3) := by decide +kernel
theorem dX0_restore_47 : decode cX0_restore 47 = .ok (.iconst 0, 1) := by decide +kernel
theorem dX0_restore_48 : decode cX0_restore 48 = .ok (.iaload, 1) := by decide +kernel
theorem dX0_restore_49 : decode cX0_restore 49 = .ok (.ireturn, 1) := by decide +kernel
theorem dX0_giveBack_0 : decode cX0_giveBack 0 = .ok (.iload_n 1, 1) := by decide +kernel
theorem dX0_giveBack_1 : decode cX0_giveBack 1 = .ok (.ifCond .ge 4, 3) := by decide +kernel
theorem dX0_giveBack_4 : decode cX0_giveBack 4 = .ok (.return_, 1) := by decide +kernel
theorem dX0_giveBack_5 : decode cX0_giveBack 5 = .ok (.aload_n 0, 1) := by decide +kernel
theorem dX0_giveBack_6 : decode cX0_giveBack 6 = .ok (.getfield 32, 3) := by decide +kernel
theorem dX0_giveBack_9 : decode cX0_giveBack 9 = .ok (.iconst 0, 1) := by decide +kernel
theorem dX0_giveBack_10 : decode cX0_giveBack 10 = .ok (.iload_n 1, 1) := by decide +kernel
theorem dX0_giveBack_11 : decode cX0_giveBack 11 = .ok (.iastore, 1) := by decide +kernel
theorem dX0_giveBack_12 : decode cX0_giveBack 12 = .ok (.iconst 1, 1) := by decide +kernel
theorem dX0_giveBack_13 : decode cX0_giveBack 13 = .ok (.istore_n 2, 1) := by decide +kernel
theorem dX0_giveBack_14 : decode cX0_giveBack 14 = .ok (.iconst 0, 1) := by decide +kernel
theorem dX0_giveBack_15 : decode cX0_giveBack 15 = .ok (.istore_n 3, 1) := by decide +kernel
theorem dX0_giveBack_16 : decode cX0_giveBack 16 = .ok (.iload_n 3, 1) := by decide +kernel
theorem dX0_giveBack_17 : decode cX0_giveBack 17 = .ok (.sipush 400, 3) := by decide +kernel
theorem dX0_giveBack_20 : decode cX0_giveBack 20 = .ok (.if_icmp .ge 110, 3) := by decide +kernel
theorem dX0_giveBack_23 : decode cX0_giveBack 23 = .ok (.iload_n 2, 1) := by decide +kernel
theorem dX0_giveBack_24 : decode cX0_giveBack 24 = .ok (.ifCond .le 106, 3) := by decide +kernel
theorem dX0_giveBack_27 : decode cX0_giveBack 27 = .ok (.iinc 2 (-1), 3) := by decide +kernel
theorem dX0_giveBack_30 : decode cX0_giveBack 30 = .ok (.aload_n 0, 1) := by decide +kernel
theorem dX0_giveBack_31 : decode cX0_giveBack 31 = .ok (.getfield 32, 3) := by decide +kernel
theorem dX0_giveBack_34 : decode cX0_giveBack 34 = .ok (.iload_n 2, 1) := by decide +kernel
theorem dX0_giveBack_35 : decode cX0_giveBack 35 = .ok (.iaload, 1) := by decide +kernel
theorem dX0_giveBack_36 : decode cX0_giveBack 36 = .ok (.istore 4, 2) := by decide +kernel
theorem dX0_giveBack_38 : decode cX0_giveBack 38 = .ok (.aload_n 0, 1) := by decide +kernel
theorem dX0_giveBack_39 : decode cX0_giveBack 39 = .ok (.getfield 16, 3) := by decide +kernel
theorem dX0_giveBack_42 : decode cX0_giveBack 42 = .ok (.iload 4, 2) := by decide +kernel
theorem dX0_giveBack_44 : decode cX0_giveBack 44 = .ok (.dup2, 1) := by decide +kernel
theorem dX0_giveBack_45 : decode cX0_giveBack 45 = .ok (.iaload, 1) := by decide +kernel
theorem dX0_giveBack_46 : decode cX0_giveBack 46 = .ok (.iconst 1, 1) := by decide +kernel
theorem dX0_giveBack_47 : decode cX0_giveBack 47 = .ok (.isub, 1) := by decide +kernel
theorem dX0_giveBack_48 : decode cX0_giveBack 48 = .ok (.iastore, 1) := by decide +kernel
theorem dX0_giveBack_49 : decode cX0_giveBack 49 = .ok (.aload_n 0, 1) := by decide +kernel
theorem dX0_giveBack_50 : decode cX0_giveBack 50 = .ok (.getfield 16, 3) := by decide +kernel
theorem dX0_giveBack_53 : decode cX0_giveBack 53 = .ok (.iload 4, 2) := by decide +kernel
theorem dX0_giveBack_55 : decode cX0_giveBack 55 = .ok (.iaload, 1) := by decide +kernel
theorem dX0_giveBack_56 : decode cX0_giveBack 56 = .ok (.ifCond .ne 68, 3) := by decide +kernel
theorem dX0_giveBack_59 : decode cX0_giveBack 59 = .ok (.aload_n 0, 1) := by decide +kernel
theorem dX0_giveBack_60 : decode cX0_giveBack 60 = .ok (.getfield 13, 3) := by decide +kernel
theorem dX0_giveBack_63 : decode cX0_giveBack 63 = .ok (.iload 4, 2) := by decide +kernel
theorem dX0_giveBack_65 : decode cX0_giveBack 65 = .ok (.iaload, 1) := by decide +kernel
theorem dX0_giveBack_66 : decode cX0_giveBack 66 = .ok (.sipush 256, 3) := by decide +kernel
theorem dX0_giveBack_69 : decode cX0_giveBack 69 = .ok (.iand, 1) := by decide +kernel
theorem dX0_giveBack_70 : decode cX0_giveBack 70 = .ok (.ifCond .ne 54, 3) := by decide +kernel
theorem dX0_giveBack_73 : decode cX0_giveBack 73 = .ok (.iconst 0, 1) := by decide +kernel
theorem dX0_giveBack_74 : decode cX0_giveBack 74 = .ok (.istore 5, 2) := by decide +kernel
theorem dX0_giveBack_76 : decode cX0_giveBack 76 = .ok (.iload 5, 2) := by decide +kernel
theorem dX0_giveBack_78 : decode cX0_giveBack 78 = .ok (.iconst 4, 1) := by decide +kernel
theorem dX0_giveBack_79 : decode cX0_giveBack 79 = .ok (.if_icmp .ge 45, 3) := by decide +kernel
theorem dX0_giveBack_82 : decode cX0_giveBack 82 = .ok (.aload_n 0, 1) := by decide +kernel
theorem dX0_giveBack_83 : decode cX0_giveBack 83 = .ok (.getfield 7, 3) := by decide +kernel
theorem dX0_giveBack_86 : decode cX0_giveBack 86 = .ok (.iconst 4, 1) := by decide +kernel
theorem dX0_giveBack_87 : decode cX0_giveBack 87 = .ok (.iload 4, 2) := by decide +kernel
theorem dX0_giveBack_89 : decode cX0_giveBack 89 = .ok (.imul, 1) := by decide +kernel
theorem dX0_giveBack_90 : decode cX0_giveBack 90 = .ok (.iload 5, 2) := by decide +kernel
theorem dX0_giveBack_92 : decode cX0_giveBack 92 = .ok (.iadd, 1) := by decide +kernel
theorem dX0_giveBack_93 : decode cX0_giveBack 93 = .ok (.iaload, 1) := by decide +kernel
theorem dX0_giveBack_94 : decode cX0_giveBack 94 = .ok (.ifCond .lt 24, 3) := by decide +kernel
theorem dX0_giveBack_97 : decode cX0_giveBack 97 = .ok (.aload_n 0, 1) := by decide +kernel
theorem dX0_giveBack_98 : decode cX0_giveBack 98 = .ok (.getfield 32, 3) := by decide +kernel
theorem dX0_giveBack_101 : decode cX0_giveBack 101 = .ok (.iload_n 2, 1) := by decide +kernel
theorem dX0_giveBack_102 : decode cX0_giveBack 102 = .ok (.aload_n 0, 1) := by decide +kernel
theorem dX0_giveBack_103 : decode cX0_giveBack 103 = .ok (.getfield 7, 3) := by decide +kernel
theorem dX0_giveBack_106 : decode cX0_giveBack 106 = .ok (.iconst 4, 1) := by decide +kernel
theorem dX0_giveBack_107 : decode cX0_giveBack 107 = .ok (.iload 4, 2) := by decide +kernel
theorem dX0_giveBack_109 : decode cX0_giveBack 109 = .ok (.imul, 1) := by decide +kernel
theorem dX0_giveBack_110 : decode cX0_giveBack 110 = .ok (.iload 5, 2) := by decide +kernel
theorem dX0_giveBack_112 : decode cX0_giveBack 112 = .ok (.iadd, 1) := by decide +kernel
theorem dX0_giveBack_113 : decode cX0_giveBack 113 = .ok (.iaload, 1) := by decide +kernel
theorem dX0_giveBack_114 : decode cX0_giveBack 114 = .ok (.iastore, 1) := by decide +kernel
theorem dX0_giveBack_115 : decode cX0_giveBack 115 = .ok (.iinc 2 1, 3) := by decide +kernel
theorem dX0_giveBack_118 : decode cX0_giveBack 118 = .ok (.iinc 5 1, 3) := by decide +kernel
theorem dX0_giveBack_121 : decode cX0_giveBack 121 = .ok (.goto (-45), 3) := by decide +kernel
theorem dX0_giveBack_124 : decode cX0_giveBack 124 = .ok (.iinc 3 1, 3) := by decide +kernel
theorem dX0_giveBack_127 : decode cX0_giveBack 127 = .ok (.goto (-111), 3) := by decide +kernel
theorem dX0_giveBack_130 : decode cX0_giveBack 130 = .ok (.return_, 1) := by decide +kernel
theorem dX0_drop_0 : decode cX0_drop 0 = .ok (.iload_n 1, 1) := by decide +kernel
theorem dX0_drop_1 : decode cX0_drop 1 = .ok (.ifCond .lt 20, 3) := by decide +kernel
theorem dX0_drop_4 : decode cX0_drop 4 = .ok (.iload_n 1, 1) := by decide +kernel
theorem dX0_drop_5 : decode cX0_drop 5 = .ok (.bipush 6, 2) := by decide +kernel
theorem dX0_drop_7 : decode cX0_drop 7 = .ok (.if_icmp .gt 14, 3) := by decide +kernel
theorem dX0_drop_10 : decode cX0_drop 10 = .ok (.aload_n 0, 1) := by decide +kernel
theorem dX0_drop_11 : decode cX0_drop 11 = .ok (.getfield 19, 3) := by decide +kernel
theorem dX0_drop_14 : decode cX0_drop 14 = .ok (.iload_n 1, 1) := by decide +kernel
theorem dX0_drop_15 : decode cX0_drop 15 = .ok (.iconst 1, 1) := by decide +kernel
theorem dX0_drop_16 : decode cX0_drop 16 = .ok (.iadd, 1) := by decide +kernel
theorem dX0_drop_17 : decode cX0_drop 17 = .ok (.baload, 1) := by decide +kernel
theorem dX0_drop_18 : decode cX0_drop 18 = .ok (.ifCond .ne 5, 3) := by decide +kernel
theorem dX0_drop_21 : decode cX0_drop 21 = .ok (.iconst (-1), 1) := by decide +kernel
theorem dX0_drop_22 : decode cX0_drop 22 = .ok (.ireturn, 1) := by decide +kernel
theorem dX0_drop_23 : decode cX0_drop 23 = .ok (.aload_n 0, 1) := by decide +kernel
theorem dX0_drop_24 : decode cX0_drop 24 = .ok (.getfield 19, 3) := by decide +kernel
theorem dX0_drop_27 : decode cX0_drop 27 = .ok (.iload_n 1, 1) := by decide +kernel
theorem dX0_drop_28 : decode cX0_drop 28 = .ok (.iconst 1, 1) := by decide +kernel
theorem dX0_drop_29 : decode cX0_drop 29 = .ok (.iadd, 1) := by decide +kernel
theorem dX0_drop_30 : decode cX0_drop 30 = .ok (.iconst 0, 1) := by decide +kernel
theorem dX0_drop_31 : decode cX0_drop 31 = .ok (.bastore, 1) := by decide +kernel
theorem dX0_drop_32 : decode cX0_drop 32 = .ok (.aload_n 0, 1) := by decide +kernel
theorem dX0_drop_33 : decode cX0_drop 33 = .ok (.aload_n 0, 1) := by decide +kernel
theorem dX0_drop_34 : decode cX0_drop 34 = .ok (.getfield 23, 3) := by decide +kernel
theorem dX0_drop_37 : decode cX0_drop 37 = .ok (.iload_n 1, 1) := by decide +kernel
theorem dX0_drop_38 : decode cX0_drop 38 = .ok (.iconst 1, 1) := by decide +kernel
theorem dX0_drop_39 : decode cX0_drop 39 = .ok (.iadd, 1) := by decide +kernel
theorem dX0_drop_40 : decode cX0_drop 40 = .ok (.iaload, 1) := by decide +kernel
theorem dX0_drop_41 : decode cX0_drop 41 = .ok (.invokevirtual 51, 3) := by decide +kernel
theorem dX0_drop_44 : decode cX0_drop 44 = .ok (.aload_n 0, 1) := by decide +kernel
theorem dX0_drop_45 : decode cX0_drop 45 = .ok (.getfield 23, 3) := by decide +kernel
theorem dX0_drop_48 : decode cX0_drop 48 = .ok (.iload_n 1, 1) := by decide +kernel
theorem dX0_drop_49 : decode cX0_drop 49 = .ok (.iconst 1, 1) := by decide +kernel
theorem dX0_drop_50 : decode cX0_drop 50 = .ok (.iadd, 1) := by decide +kernel
theorem dX0_drop_51 : decode cX0_drop 51 = .ok (.iconst (-1), 1) := by decide +kernel
theorem dX0_drop_52 : decode cX0_drop 52 = .ok (.iastore, 1) := by decide +kernel
theorem dX0_drop_53 : decode cX0_drop 53 = .ok (.aload_n 0, 1) := by decide +kernel
theorem dX0_drop_54 : decode cX0_drop 54 = .ok (.getfield 26, 3) := by decide +kernel
theorem dX0_drop_57 : decode cX0_drop 57 = .ok (.iload_n 1, 1) := by decide +kernel
theorem dX0_drop_58 : decode cX0_drop 58 = .ok (.iconst 1, 1) := by decide +kernel
theorem dX0_drop_59 : decode cX0_drop 59 = .ok (.iadd, 1) := by decide +kernel
theorem dX0_drop_60 : decode cX0_drop 60 = .ok (.iconst 0, 1) := by decide +kernel
theorem dX0_drop_61 : decode cX0_drop 61 = .ok (.iastore, 1) := by decide +kernel
theorem dX0_drop_62 : decode cX0_drop 62 = .ok (.iconst 0, 1) := by decide +kernel
theorem dX0_drop_63 : decode cX0_drop 63 = .ok (.ireturn, 1) := by decide +kernel
theorem dX0_get_0 : decode cX0_get 0 = .ok (.aload_n 0, 1) := by decide +kernel
theorem dX0_get_1 : decode cX0_get 1 = .ok (.iload_n 1, 1) := by decide +kernel
theorem dX0_get_2 : decode cX0_get 2 = .ok (.invokevirtual 54, 3) := by decide +kernel
theorem dX0_get_5 : decode cX0_get 5 = .ok (.ifCond .eq 14, 3) := by decide +kernel
theorem dX0_get_8 : decode cX0_get 8 = .ok (.iload_n 2, 1) := by decide +kernel
theorem dX0_get_9 : decode cX0_get 9 = .ok (.ifCond .lt 10, 3) := by decide +kernel
theorem dX0_get_12 : decode cX0_get 12 = .ok (.iload_n 2, 1) := by decide +kernel
theorem dX0_get_13 : decode cX0_get 13 = .ok (.sipush 255, 3) := by decide +kernel
theorem dX0_get_16 : decode cX0_get 16 = .ok (.if_icmp .le 5, 3) := by decide +kernel
theorem dX0_get_19 : decode cX0_get 19 = .ok (.iconst 0, 1) := by decide +kernel
theorem dX0_get_20 : decode cX0_get 20 = .ok (.ireturn, 1) := by decide +kernel
theorem dX0_get_21 : decode cX0_get 21 = .ok (.aload_n 0, 1) := by decide +kernel
theorem dX0_get_22 : decode cX0_get 22 = .ok (.iload_n 1, 1) := by decide +kernel
theorem dX0_get_23 : decode cX0_get 23 = .ok (.iconst 1, 1) := by decide +kernel
theorem dX0_get_24 : decode cX0_get 24 = .ok (.iadd, 1) := by decide +kernel
theorem dX0_get_25 : decode cX0_get 25 = .ok (.iload_n 2, 1) := by decide +kernel
theorem dX0_get_26 : decode cX0_get 26 = .ok (.invokevirtual 58, 3) := by decide +kernel
theorem dX0_get_29 : decode cX0_get 29 = .ok (.istore_n 3, 1) := by decide +kernel
theorem dX0_get_30 : decode cX0_get 30 = .ok (.iload_n 3, 1) := by decide +kernel
theorem dX0_get_31 : decode cX0_get 31 = .ok (.ifCond .lt 33, 3) := by decide +kernel
theorem dX0_get_34 : decode cX0_get 34 = .ok (.aload_n 0, 1) := by decide +kernel
theorem dX0_get_35 : decode cX0_get 35 = .ok (.getfield 13, 3) := by decide +kernel
theorem dX0_get_38 : decode cX0_get 38 = .ok (.iload_n 3, 1) := by decide +kernel
theorem dX0_get_39 : decode cX0_get 39 = .ok (.iaload, 1) := by decide +kernel
theorem dX0_get_40 : decode cX0_get 40 = .ok (.iload_n 2, 1) := by decide +kernel
theorem dX0_get_41 : decode cX0_get 41 = .ok (.iconst 3, 1) := by decide +kernel
theorem dX0_get_42 : decode cX0_get 42 = .ok (.iand, 1) := by decide +kernel
theorem dX0_get_43 : decode cX0_get 43 = .ok (.iushr, 1) := by decide +kernel
theorem dX0_get_44 : decode cX0_get 44 = .ok (.iconst 1, 1) := by decide +kernel
theorem dX0_get_45 : decode cX0_get 45 = .ok (.iand, 1) := by decide +kernel
theorem dX0_get_46 : decode cX0_get 46 = .ok (.ifCond .eq 18, 3) := by decide +kernel
theorem dX0_get_49 : decode cX0_get 49 = .ok (.aload_n 0, 1) := by decide +kernel
theorem dX0_get_50 : decode cX0_get 50 = .ok (.getfield 7, 3) := by decide +kernel
theorem dX0_get_53 : decode cX0_get 53 = .ok (.iconst 4, 1) := by decide +kernel
theorem dX0_get_54 : decode cX0_get 54 = .ok (.iload_n 3, 1) := by decide +kernel
theorem dX0_get_55 : decode cX0_get 55 = .ok (.imul, 1) := by decide +kernel
theorem dX0_get_56 : decode cX0_get 56 = .ok (.iload_n 2, 1) := by decide +kernel
theorem dX0_get_57 : decode cX0_get 57 = .ok (.iconst 3, 1) := by decide +kernel
theorem dX0_get_58 : decode cX0_get 58 = .ok (.iand, 1) := by decide +kernel
theorem dX0_get_59 : decode cX0_get 59 = .ok (.iadd, 1) := by decide +kernel
theorem dX0_get_60 : decode cX0_get 60 = .ok (.iaload, 1) := by decide +kernel
theorem dX0_get_61 : decode cX0_get 61 = .ok (.goto 4, 3) := by decide +kernel
theorem dX0_get_64 : decode cX0_get 64 = .ok (.iconst 0, 1) := by decide +kernel
theorem dX0_get_65 : decode cX0_get 65 = .ok (.ireturn, 1) := by decide +kernel
theorem dX0_isMap_0 : decode cX0_isMap 0 = .ok (.iload_n 1, 1) := by decide +kernel
theorem dX0_isMap_1 : decode cX0_isMap 1 = .ok (.iconst (-1), 1) := by decide +kernel
theorem dX0_isMap_2 : decode cX0_isMap 2 = .ok (.if_icmp .lt 24, 3) := by decide +kernel
theorem dX0_isMap_5 : decode cX0_isMap 5 = .ok (.iload_n 1, 1) := by decide +kernel
theorem dX0_isMap_6 : decode cX0_isMap 6 = .ok (.bipush 6, 2) := by decide +kernel
theorem dX0_isMap_8 : decode cX0_isMap 8 = .ok (.if_icmp .gt 18, 3) := by decide +kernel
theorem dX0_isMap_11 : decode cX0_isMap 11 = .ok (.aload_n 0, 1) := by decide +kernel
theorem dX0_isMap_12 : decode cX0_isMap 12 = .ok (.getfield 19, 3) := by decide +kernel
theorem dX0_isMap_15 : decode cX0_isMap 15 = .ok (.iload_n 1, 1) := by decide +kernel
theorem dX0_isMap_16 : decode cX0_isMap 16 = .ok (.iconst 1, 1) := by decide +kernel
theorem dX0_isMap_17 : decode cX0_isMap 17 = .ok (.iadd, 1) := by decide +kernel
theorem dX0_isMap_18 : decode cX0_isMap 18 = .ok (.baload, 1) := by decide +kernel
theorem dX0_isMap_19 : decode cX0_isMap 19 = .ok (.ifCond .eq 7, 3) := by decide +kernel
theorem dX0_isMap_22 : decode cX0_isMap 22 = .ok (.iconst 1, 1) := by decide +kernel
theorem dX0_isMap_23 : decode cX0_isMap 23 = .ok (.goto 4, 3) := by decide +kernel
theorem dX0_isMap_26 : decode cX0_isMap 26 = .ok (.iconst 0, 1) := by decide +kernel
theorem dX0_isMap_27 : decode cX0_isMap 27 = .ok (.ireturn, 1) := by decide +kernel
theorem dX0_has_0 : decode cX0_has 0 = .ok (.aload_n 0, 1) := by decide +kernel
theorem dX0_has_1 : decode cX0_has 1 = .ok (.iload_n 1, 1) := by decide +kernel
theorem dX0_has_2 : decode cX0_has 2 = .ok (.invokevirtual 54, 3) := by decide +kernel
theorem dX0_has_5 : decode cX0_has 5 = .ok (.ifCond .ne 5, 3) := by decide +kernel
theorem dX0_has_8 : decode cX0_has 8 = .ok (.iconst (-1), 1) := by decide +kernel
theorem dX0_has_9 : decode cX0_has 9 = .ok (.ireturn, 1) := by decide +kernel
theorem dX0_has_10 : decode cX0_has 10 = .ok (.iload_n 2, 1) := by decide +kernel
theorem dX0_has_11 : decode cX0_has 11 = .ok (.ifCond .lt 25, 3) := by decide +kernel
theorem dX0_has_14 : decode cX0_has 14 = .ok (.iload_n 2, 1) := by decide +kernel
theorem dX0_has_15 : decode cX0_has 15 = .ok (.sipush 255, 3) := by decide +kernel
theorem dX0_has_18 : decode cX0_has 18 = .ok (.if_icmp .gt 18, 3) := by decide +kernel
theorem dX0_has_21 : decode cX0_has 21 = .ok (.aload_n 0, 1) := by decide +kernel
theorem dX0_has_22 : decode cX0_has 22 = .ok (.iload_n 1, 1) := by decide +kernel
theorem dX0_has_23 : decode cX0_has 23 = .ok (.iconst 1, 1) := by decide +kernel
theorem dX0_has_24 : decode cX0_has 24 = .ok (.iadd, 1) := by decide +kernel
theorem dX0_has_25 : decode cX0_has 25 = .ok (.iload_n 2, 1) := by decide +kernel
theorem dX0_has_26 : decode cX0_has 26 = .ok (.invokevirtual 35, 3) := by decide +kernel
theorem dX0_has_29 : decode cX0_has 29 = .ok (.ifCond .eq 7, 3) := by decide +kernel
theorem dX0_has_32 : decode cX0_has 32 = .ok (.iconst 1, 1) := by decide +kernel
theorem dX0_has_33 : decode cX0_has 33 = .ok (.goto 4, 3) := by decide +kernel
theorem dX0_has_36 : decode cX0_has 36 = .ok (.iconst 0, 1) := by decide +kernel
theorem dX0_has_37 : decode cX0_has 37 = .ok (.ireturn, 1) := by decide +kernel
theorem dX0_size_0 : decode cX0_size 0 = .ok (.aload_n 0, 1) := by decide +kernel
theorem dX0_size_1 : decode cX0_size 1 = .ok (.iload_n 1, 1) := by decide +kernel
theorem dX0_size_2 : decode cX0_size 2 = .ok (.invokevirtual 54, 3) := by decide +kernel
theorem dX0_size_5 : decode cX0_size 5 = .ok (.ifCond .eq 14, 3) := by decide +kernel
theorem dX0_size_8 : decode cX0_size 8 = .ok (.aload_n 0, 1) := by decide +kernel
theorem dX0_size_9 : decode cX0_size 9 = .ok (.getfield 26, 3) := by decide +kernel
theorem dX0_size_12 : decode cX0_size 12 = .ok (.iload_n 1, 1) := by decide +kernel
theorem dX0_size_13 : decode cX0_size 13 = .ok (.iconst 1, 1) := by decide +kernel
theorem dX0_size_14 : decode cX0_size 14 = .ok (.iadd, 1) := by decide +kernel
theorem dX0_size_15 : decode cX0_size 15 = .ok (.iaload, 1) := by decide +kernel
theorem dX0_size_16 : decode cX0_size 16 = .ok (.goto 4, 3) := by decide +kernel
theorem dX0_size_19 : decode cX0_size 19 = .ok (.iconst (-1), 1) := by decide +kernel
theorem dX0_size_20 : decode cX0_size 20 = .ok (.ireturn, 1) := by decide +kernel
theorem dX0_next_0 : decode cX0_next 0 = .ok (.aload_n 0, 1) := by decide +kernel
theorem dX0_next_1 : decode cX0_next 1 = .ok (.iload_n 1, 1) := by decide +kernel
theorem dX0_next_2 : decode cX0_next 2 = .ok (.invokevirtual 54, 3) := by decide +kernel
theorem dX0_next_5 : decode cX0_next 5 = .ok (.ifCond .ne 5, 3) := by decide +kernel
theorem dX0_next_8 : decode cX0_next 8 = .ok (.iconst (-1), 1) := by decide +kernel
theorem dX0_next_9 : decode cX0_next 9 = .ok (.ireturn, 1) := by decide +kernel
theorem dX0_next_10 : decode cX0_next 10 = .ok (.iload_n 2, 1) := by decide +kernel
theorem dX0_next_11 : decode cX0_next 11 = .ok (.ifCond .ge 7, 3) := by decide +kernel
theorem dX0_next_14 : decode cX0_next 14 = .ok (.iconst 0, 1) := by decide +kernel
theorem dX0_next_15 : decode cX0_next 15 = .ok (.goto 4, 3) := by decide +kernel
theorem dX0_next_18 : decode cX0_next 18 = .ok (.iload_n 2, 1) := by decide +kernel
theorem dX0_next_19 : decode cX0_next 19 = .ok (.istore_n 3, 1) := by decide +kernel
theorem dX0_next_20 : decode cX0_next 20 = .ok (.iconst 0, 1) := by decide +kernel
theorem dX0_next_21 : decode cX0_next 21 = .ok (.istore 4, 2) := by decide +kernel
theorem dX0_next_23 : decode cX0_next 23 = .ok (.iload 4, 2) := by decide +kernel
theorem dX0_next_25 : decode cX0_next 25 = .ok (.sipush 256, 3) := by decide +kernel
theorem dX0_next_28 : decode cX0_next 28 = .ok (.if_icmp .ge 41, 3) := by decide +kernel
theorem dX0_next_31 : decode cX0_next 31 = .ok (.iload_n 3, 1) := by decide +kernel
theorem dX0_next_32 : decode cX0_next 32 = .ok (.sipush 256, 3) := by decide +kernel
theorem dX0_next_35 : decode cX0_next 35 = .ok (.if_icmp .ge 34, 3) := by decide +kernel
theorem dX0_next_38 : decode cX0_next 38 = .ok (.aload_n 0, 1) := by decide +kernel
theorem dX0_next_39 : decode cX0_next 39 = .ok (.iload_n 1, 1) := by decide +kernel
theorem dX0_next_40 : decode cX0_next 40 = .ok (.iconst 1, 1) := by decide +kernel
theorem dX0_next_41 : decode cX0_next 41 = .ok (.iadd, 1) := by decide +kernel
theorem dX0_next_42 : decode cX0_next 42 = .ok (.iload_n 3, 1) := by decide +kernel
theorem dX0_next_43 : decode cX0_next 43 = .ok (.invokevirtual 62, 3) := by decide +kernel
theorem dX0_next_46 : decode cX0_next 46 = .ok (.istore 5, 2) := by decide +kernel
theorem dX0_next_48 : decode cX0_next 48 = .ok (.iload 5, 2) := by decide +kernel
theorem dX0_next_50 : decode cX0_next 50 = .ok (.iconst 4, 1) := by decide +kernel
theorem dX0_next_51 : decode cX0_next 51 = .ok (.if_icmp .le 5, 3) := by decide +kernel
theorem dX0_next_54 : decode cX0_next 54 = .ok (.iload_n 3, 1) := by decide +kernel
end
section
set_option maxRecDepth 100000
theorem dX0_next_55 : decode cX0_next 55 = .ok (.ireturn, 1) := by decide +kernel
theorem dX0_next_56 : decode cX0_next 56 = .ok (.iload_n 3, 1) := by decide +kernel
theorem dX0_next_57 : decode cX0_next 57 = .ok (.iload 5, 2) := by decide +kernel
theorem dX0_next_59 : decode cX0_next 59 = .ok (.invokestatic 65, 3) := by decide +kernel
theorem dX0_next_62 : decode cX0_next 62 = .ok (.istore_n 3, 1) := by decide +kernel
theorem dX0_next_63 : decode cX0_next 63 = .ok (.iinc 4 1, 3) := by decide +kernel
theorem dX0_next_66 : decode cX0_next 66 = .ok (.goto (-43), 3) := by decide +kernel
theorem dX0_next_69 : decode cX0_next 69 = .ok (.sipush 256, 3) := by decide +kernel
theorem dX0_next_72 : decode cX0_next 72 = .ok (.ireturn, 1) := by decide +kernel
theorem dX0_missingLevel_0 : decode cX0_missingLevel 0 = .ok (.aload_n 0, 1) := by decide +kernel
theorem dX0_missingLevel_1 : decode cX0_missingLevel 1 = .ok (.getfield 23, 3) := by decide +kernel
theorem dX0_missingLevel_4 : decode cX0_missingLevel 4 = .ok (.iload_n 1, 1) := by decide +kernel
theorem dX0_missingLevel_5 : decode cX0_missingLevel 5 = .ok (.iaload, 1) := by decide +kernel
theorem dX0_missingLevel_6 : decode cX0_missingLevel 6 = .ok (.istore_n 3, 1) := by decide +kernel
theorem dX0_missingLevel_7 : decode cX0_missingLevel 7 = .ok (.iconst 0, 1) := by decide +kernel
theorem dX0_missingLevel_8 : decode cX0_missingLevel 8 = .ok (.istore 4, 2) := by decide +kernel
theorem dX0_missingLevel_10 : decode cX0_missingLevel 10 = .ok (.iload 4, 2) := by decide +kernel
theorem dX0_missingLevel_12 : decode cX0_missingLevel 12 = .ok (.iconst 3, 1) := by decide +kernel
theorem dX0_missingLevel_13 : decode cX0_missingLevel 13 = .ok (.if_icmp .ge 32, 3) := by decide +kernel
theorem dX0_missingLevel_16 : decode cX0_missingLevel 16 = .ok (.iload_n 3, 1) := by decide +kernel
theorem dX0_missingLevel_17 : decode cX0_missingLevel 17 = .ok (.ifCond .ge 6, 3) := by decide +kernel
theorem dX0_missingLevel_20 : decode cX0_missingLevel 20 = .ok (.iload 4, 2) := by decide +kernel
theorem dX0_missingLevel_22 : decode cX0_missingLevel 22 = .ok (.ireturn, 1) := by decide +kernel
theorem dX0_missingLevel_23 : decode cX0_missingLevel 23 = .ok (.aload_n 0, 1) := by decide +kernel
theorem dX0_missingLevel_24 : decode cX0_missingLevel 24 = .ok (.getfield 7, 3) := by decide +kernel
theorem dX0_missingLevel_27 : decode cX0_missingLevel 27 = .ok (.iconst 4, 1) := by decide +kernel
theorem dX0_missingLevel_28 : decode cX0_missingLevel 28 = .ok (.iload_n 3, 1) := by decide +kernel
theorem dX0_missingLevel_29 : decode cX0_missingLevel 29 = .ok (.imul, 1) := by decide +kernel
theorem dX0_missingLevel_30 : decode cX0_missingLevel 30 = .ok (.iload_n 2, 1) := by decide +kernel
theorem dX0_missingLevel_31 : decode cX0_missingLevel 31 = .ok (.iload 4, 2) := by decide +kernel
theorem dX0_missingLevel_33 : decode cX0_missingLevel 33 = .ok (.invokestatic 75, 3) := by decide +kernel
theorem dX0_missingLevel_36 : decode cX0_missingLevel 36 = .ok (.iadd, 1) := by decide +kernel
theorem dX0_missingLevel_37 : decode cX0_missingLevel 37 = .ok (.iaload, 1) := by decide +kernel
theorem dX0_missingLevel_38 : decode cX0_missingLevel 38 = .ok (.istore_n 3, 1) := by decide +kernel
theorem dX0_missingLevel_39 : decode cX0_missingLevel 39 = .ok (.iinc 4 1, 3) := by decide +kernel
theorem dX0_missingLevel_42 : decode cX0_missingLevel 42 = .ok (.goto (-32), 3) := by decide +kernel
theorem dX0_missingLevel_45 : decode cX0_missingLevel 45 = .ok (.iload_n 3, 1) := by decide +kernel
theorem dX0_missingLevel_46 : decode cX0_missingLevel 46 = .ok (.ifCond .ge 5, 3) := by decide +kernel
theorem dX0_missingLevel_49 : decode cX0_missingLevel 49 = .ok (.iconst 3, 1) := by decide +kernel
theorem dX0_missingLevel_50 : decode cX0_missingLevel 50 = .ok (.ireturn, 1) := by decide +kernel
theorem dX0_missingLevel_51 : decode cX0_missingLevel 51 = .ok (.aload_n 0, 1) := by decide +kernel
theorem dX0_missingLevel_52 : decode cX0_missingLevel 52 = .ok (.getfield 13, 3) := by decide +kernel
theorem dX0_missingLevel_55 : decode cX0_missingLevel 55 = .ok (.iload_n 3, 1) := by decide +kernel
theorem dX0_missingLevel_56 : decode cX0_missingLevel 56 = .ok (.iaload, 1) := by decide +kernel
theorem dX0_missingLevel_57 : decode cX0_missingLevel 57 = .ok (.iload_n 2, 1) := by decide +kernel
theorem dX0_missingLevel_58 : decode cX0_missingLevel 58 = .ok (.iconst 3, 1) := by decide +kernel
theorem dX0_missingLevel_59 : decode cX0_missingLevel 59 = .ok (.iand, 1) := by decide +kernel
theorem dX0_missingLevel_60 : decode cX0_missingLevel 60 = .ok (.iushr, 1) := by decide +kernel
theorem dX0_missingLevel_61 : decode cX0_missingLevel 61 = .ok (.iconst 1, 1) := by decide +kernel
theorem dX0_missingLevel_62 : decode cX0_missingLevel 62 = .ok (.iand, 1) := by decide +kernel
theorem dX0_missingLevel_63 : decode cX0_missingLevel 63 = .ok (.ifCond .eq 7, 3) := by decide +kernel
theorem dX0_missingLevel_66 : decode cX0_missingLevel 66 = .ok (.iconst 5, 1) := by decide +kernel
theorem dX0_missingLevel_67 : decode cX0_missingLevel 67 = .ok (.goto 4, 3) := by decide +kernel
theorem dX0_missingLevel_70 : decode cX0_missingLevel 70 = .ok (.iconst 4, 1) := by decide +kernel
theorem dX0_missingLevel_71 : decode cX0_missingLevel 71 = .ok (.ireturn, 1) := by decide +kernel
theorem dX0_behind_0 : decode cX0_behind 0 = .ok (.sipush 256, 3) := by decide +kernel
theorem dX0_behind_3 : decode cX0_behind 3 = .ok (.iconst 2, 1) := by decide +kernel
theorem dX0_behind_4 : decode cX0_behind 4 = .ok (.iload_n 1, 1) := by decide +kernel
theorem dX0_behind_5 : decode cX0_behind 5 = .ok (.imul, 1) := by decide +kernel
theorem dX0_behind_6 : decode cX0_behind 6 = .ok (.iushr, 1) := by decide +kernel
theorem dX0_behind_7 : decode cX0_behind 7 = .ok (.istore_n 2, 1) := by decide +kernel
theorem dX0_behind_8 : decode cX0_behind 8 = .ok (.iload_n 0, 1) := by decide +kernel
theorem dX0_behind_9 : decode cX0_behind 9 = .ok (.iload_n 2, 1) := by decide +kernel
theorem dX0_behind_10 : decode cX0_behind 10 = .ok (.iconst 1, 1) := by decide +kernel
theorem dX0_behind_11 : decode cX0_behind 11 = .ok (.isub, 1) := by decide +kernel
theorem dX0_behind_12 : decode cX0_behind 12 = .ok (.iconst (-1), 1) := by decide +kernel
theorem dX0_behind_13 : decode cX0_behind 13 = .ok (.ixor, 1) := by decide +kernel
theorem dX0_behind_14 : decode cX0_behind 14 = .ok (.iand, 1) := by decide +kernel
theorem dX0_behind_15 : decode cX0_behind 15 = .ok (.iload_n 2, 1) := by decide +kernel
theorem dX0_behind_16 : decode cX0_behind 16 = .ok (.iadd, 1) := by decide +kernel
theorem dX0_behind_17 : decode cX0_behind 17 = .ok (.ireturn, 1) := by decide +kernel
theorem dX0_nextChange_0 : decode cX0_nextChange 0 = .ok (.aload_n 0, 1) := by decide +kernel
theorem dX0_nextChange_1 : decode cX0_nextChange 1 = .ok (.iload_n 1, 1) := by decide +kernel
theorem dX0_nextChange_2 : decode cX0_nextChange 2 = .ok (.invokevirtual 54, 3) := by decide +kernel
theorem dX0_nextChange_5 : decode cX0_nextChange 5 = .ok (.ifCond .eq 11, 3) := by decide +kernel
theorem dX0_nextChange_8 : decode cX0_nextChange 8 = .ok (.aload_n 0, 1) := by decide +kernel
theorem dX0_nextChange_9 : decode cX0_nextChange 9 = .ok (.iload_n 2, 1) := by decide +kernel
theorem dX0_nextChange_10 : decode cX0_nextChange 10 = .ok (.invokevirtual 54, 3) := by decide +kernel
theorem dX0_nextChange_13 : decode cX0_nextChange 13 = .ok (.ifCond .ne 5, 3) := by decide +kernel
theorem dX0_nextChange_16 : decode cX0_nextChange 16 = .ok (.iconst (-1), 1) := by decide +kernel
theorem dX0_nextChange_17 : decode cX0_nextChange 17 = .ok (.ireturn, 1) := by decide +kernel
theorem dX0_nextChange_18 : decode cX0_nextChange 18 = .ok (.iload_n 3, 1) := by decide +kernel
theorem dX0_nextChange_19 : decode cX0_nextChange 19 = .ok (.ifCond .ge 7, 3) := by decide +kernel
theorem dX0_nextChange_22 : decode cX0_nextChange 22 = .ok (.iconst 0, 1) := by decide +kernel
theorem dX0_nextChange_23 : decode cX0_nextChange 23 = .ok (.goto 4, 3) := by decide +kernel
theorem dX0_nextChange_26 : decode cX0_nextChange 26 = .ok (.iload_n 3, 1) := by decide +kernel
theorem dX0_nextChange_27 : decode cX0_nextChange 27 = .ok (.istore 4, 2) := by decide +kernel
theorem dX0_nextChange_29 : decode cX0_nextChange 29 = .ok (.iconst 0, 1) := by decide +kernel
theorem dX0_nextChange_30 : decode cX0_nextChange 30 = .ok (.istore 5, 2) := by decide +kernel
theorem dX0_nextChange_32 : decode cX0_nextChange 32 = .ok (.iload 5, 2) := by decide +kernel
theorem dX0_nextChange_34 : decode cX0_nextChange 34 = .ok (.sipush 256, 3) := by decide +kernel
theorem dX0_nextChange_37 : decode cX0_nextChange 37 = .ok (.if_icmp .ge 49, 3) := by decide +kernel
theorem dX0_nextChange_40 : decode cX0_nextChange 40 = .ok (.iload 4, 2) := by decide +kernel
theorem dX0_nextChange_42 : decode cX0_nextChange 42 = .ok (.sipush 256, 3) := by decide +kernel
theorem dX0_nextChange_45 : decode cX0_nextChange 45 = .ok (.if_icmp .ge 41, 3) := by decide +kernel
theorem dX0_nextChange_48 : decode cX0_nextChange 48 = .ok (.aload_n 0, 1) := by decide +kernel
theorem dX0_nextChange_49 : decode cX0_nextChange 49 = .ok (.iload_n 1, 1) := by decide +kernel
theorem dX0_nextChange_50 : decode cX0_nextChange 50 = .ok (.iconst 1, 1) := by decide +kernel
theorem dX0_nextChange_51 : decode cX0_nextChange 51 = .ok (.iadd, 1) := by decide +kernel
theorem dX0_nextChange_52 : decode cX0_nextChange 52 = .ok (.iload_n 2, 1) := by decide +kernel
theorem dX0_nextChange_53 : decode cX0_nextChange 53 = .ok (.iconst 1, 1) := by decide +kernel
theorem dX0_nextChange_54 : decode cX0_nextChange 54 = .ok (.iadd, 1) := by decide +kernel
theorem dX0_nextChange_55 : decode cX0_nextChange 55 = .ok (.iload 4, 2) := by decide +kernel
theorem dX0_nextChange_57 : decode cX0_nextChange 57 = .ok (.invokevirtual 68, 3) := by decide +kernel
theorem dX0_nextChange_60 : decode cX0_nextChange 60 = .ok (.istore 6, 2) := by decide +kernel
theorem dX0_nextChange_62 : decode cX0_nextChange 62 = .ok (.iload 6, 2) := by decide +kernel
theorem dX0_nextChange_64 : decode cX0_nextChange 64 = .ok (.iconst 4, 1) := by decide +kernel
theorem dX0_nextChange_65 : decode cX0_nextChange 65 = .ok (.if_icmp .le 6, 3) := by decide +kernel
theorem dX0_nextChange_68 : decode cX0_nextChange 68 = .ok (.iload 4, 2) := by decide +kernel
theorem dX0_nextChange_70 : decode cX0_nextChange 70 = .ok (.ireturn, 1) := by decide +kernel
theorem dX0_nextChange_71 : decode cX0_nextChange 71 = .ok (.iload 4, 2) := by decide +kernel
theorem dX0_nextChange_73 : decode cX0_nextChange 73 = .ok (.iload 6, 2) := by decide +kernel
theorem dX0_nextChange_75 : decode cX0_nextChange 75 = .ok (.invokestatic 65, 3) := by decide +kernel
theorem dX0_nextChange_78 : decode cX0_nextChange 78 = .ok (.istore 4, 2) := by decide +kernel
theorem dX0_nextChange_80 : decode cX0_nextChange 80 = .ok (.iinc 5 1, 3) := by decide +kernel
theorem dX0_nextChange_83 : decode cX0_nextChange 83 = .ok (.goto (-51), 3) := by decide +kernel
theorem dX0_nextChange_86 : decode cX0_nextChange 86 = .ok (.sipush 256, 3) := by decide +kernel
theorem dX0_nextChange_89 : decode cX0_nextChange 89 = .ok (.ireturn, 1) := by decide +kernel
theorem dX0_sharedLevel_0 : decode cX0_sharedLevel 0 = .ok (.aload_n 0, 1) := by decide +kernel
theorem dX0_sharedLevel_1 : decode cX0_sharedLevel 1 = .ok (.getfield 23, 3) := by decide +kernel
theorem dX0_sharedLevel_4 : decode cX0_sharedLevel 4 = .ok (.iload_n 1, 1) := by decide +kernel
theorem dX0_sharedLevel_5 : decode cX0_sharedLevel 5 = .ok (.iaload, 1) := by decide +kernel
theorem dX0_sharedLevel_6 : decode cX0_sharedLevel 6 = .ok (.istore 4, 2) := by decide +kernel
theorem dX0_sharedLevel_8 : decode cX0_sharedLevel 8 = .ok (.aload_n 0, 1) := by decide +kernel
theorem dX0_sharedLevel_9 : decode cX0_sharedLevel 9 = .ok (.getfield 23, 3) := by decide +kernel
theorem dX0_sharedLevel_12 : decode cX0_sharedLevel 12 = .ok (.iload_n 2, 1) := by decide +kernel
theorem dX0_sharedLevel_13 : decode cX0_sharedLevel 13 = .ok (.iaload, 1) := by decide +kernel
theorem dX0_sharedLevel_14 : decode cX0_sharedLevel 14 = .ok (.istore 5, 2) := by decide +kernel
theorem dX0_sharedLevel_16 : decode cX0_sharedLevel 16 = .ok (.iconst 0, 1) := by decide +kernel
theorem dX0_sharedLevel_17 : decode cX0_sharedLevel 17 = .ok (.istore 6, 2) := by decide +kernel
theorem dX0_sharedLevel_19 : decode cX0_sharedLevel 19 = .ok (.iload 6, 2) := by decide +kernel
theorem dX0_sharedLevel_21 : decode cX0_sharedLevel 21 = .ok (.iconst 3, 1) := by decide +kernel
theorem dX0_sharedLevel_22 : decode cX0_sharedLevel 22 = .ok (.if_icmp .ge 73, 3) := by decide +kernel
theorem dX0_sharedLevel_25 : decode cX0_sharedLevel 25 = .ok (.iload 4, 2) := by decide +kernel
theorem dX0_sharedLevel_27 : decode cX0_sharedLevel 27 = .ok (.iload 5, 2) := by decide +kernel
theorem dX0_sharedLevel_29 : decode cX0_sharedLevel 29 = .ok (.if_icmp .ne 6, 3) := by decide +kernel
theorem dX0_sharedLevel_32 : decode cX0_sharedLevel 32 = .ok (.iload 6, 2) := by decide +kernel
theorem dX0_sharedLevel_34 : decode cX0_sharedLevel 34 = .ok (.ireturn, 1) := by decide +kernel
theorem dX0_sharedLevel_35 : decode cX0_sharedLevel 35 = .ok (.iload 4, 2) := by decide +kernel
theorem dX0_sharedLevel_37 : decode cX0_sharedLevel 37 = .ok (.ifCond .ge 7, 3) := by decide +kernel
theorem dX0_sharedLevel_40 : decode cX0_sharedLevel 40 = .ok (.iconst (-1), 1) := by decide +kernel
theorem dX0_sharedLevel_41 : decode cX0_sharedLevel 41 = .ok (.goto 19, 3) := by decide +kernel
theorem dX0_sharedLevel_44 : decode cX0_sharedLevel 44 = .ok (.aload_n 0, 1) := by decide +kernel
theorem dX0_sharedLevel_45 : decode cX0_sharedLevel 45 = .ok (.getfield 7, 3) := by decide +kernel
theorem dX0_sharedLevel_48 : decode cX0_sharedLevel 48 = .ok (.iconst 4, 1) := by decide +kernel
theorem dX0_sharedLevel_49 : decode cX0_sharedLevel 49 = .ok (.iload 4, 2) := by decide +kernel
theorem dX0_sharedLevel_51 : decode cX0_sharedLevel 51 = .ok (.imul, 1) := by decide +kernel
theorem dX0_sharedLevel_52 : decode cX0_sharedLevel 52 = .ok (.iload_n 3, 1) := by decide +kernel
theorem dX0_sharedLevel_53 : decode cX0_sharedLevel 53 = .ok (.iload 6, 2) := by decide +kernel
theorem dX0_sharedLevel_55 : decode cX0_sharedLevel 55 = .ok (.invokestatic 75, 3) := by decide +kernel
theorem dX0_sharedLevel_58 : decode cX0_sharedLevel 58 = .ok (.iadd, 1) := by decide +kernel
theorem dX0_sharedLevel_59 : decode cX0_sharedLevel 59 = .ok (.iaload, 1) := by decide +kernel
theorem dX0_sharedLevel_60 : decode cX0_sharedLevel 60 = .ok (.istore 4, 2) := by decide +kernel
theorem dX0_sharedLevel_62 : decode cX0_sharedLevel 62 = .ok (.iload 5, 2) := by decide +kernel
theorem dX0_sharedLevel_64 : decode cX0_sharedLevel 64 = .ok (.ifCond .ge 7, 3) := by decide +kernel
theorem dX0_sharedLevel_67 : decode cX0_sharedLevel 67 = .ok (.iconst (-1), 1) := by decide +kernel
theorem dX0_sharedLevel_68 : decode cX0_sharedLevel 68 = .ok (.goto 19, 3) := by decide +kernel
theorem dX0_sharedLevel_71 : decode cX0_sharedLevel 71 = .ok (.aload_n 0, 1) := by decide +kernel
theorem dX0_sharedLevel_72 : decode cX0_sharedLevel 72 = .ok (.getfield 7, 3) := by decide +kernel
theorem dX0_sharedLevel_75 : decode cX0_sharedLevel 75 = .ok (.iconst 4, 1) := by decide +kernel
theorem dX0_sharedLevel_76 : decode cX0_sharedLevel 76 = .ok (.iload 5, 2) := by decide +kernel
theorem dX0_sharedLevel_78 : decode cX0_sharedLevel 78 = .ok (.imul, 1) := by decide +kernel
theorem dX0_sharedLevel_79 : decode cX0_sharedLevel 79 = .ok (.iload_n 3, 1) := by decide +kernel
theorem dX0_sharedLevel_80 : decode cX0_sharedLevel 80 = .ok (.iload 6, 2) := by decide +kernel
theorem dX0_sharedLevel_82 : decode cX0_sharedLevel 82 = .ok (.invokestatic 75, 3) := by decide +kernel
theorem dX0_sharedLevel_85 : decode cX0_sharedLevel 85 = .ok (.iadd, 1) := by decide +kernel
theorem dX0_sharedLevel_86 : decode cX0_sharedLevel 86 = .ok (.iaload, 1) := by decide +kernel
theorem dX0_sharedLevel_87 : decode cX0_sharedLevel 87 = .ok (.istore 5, 2) := by decide +kernel
theorem dX0_sharedLevel_89 : decode cX0_sharedLevel 89 = .ok (.iinc 6 1, 3) := by decide +kernel
theorem dX0_sharedLevel_92 : decode cX0_sharedLevel 92 = .ok (.goto (-73), 3) := by decide +kernel
theorem dX0_sharedLevel_95 : decode cX0_sharedLevel 95 = .ok (.iload 4, 2) := by decide +kernel
theorem dX0_sharedLevel_97 : decode cX0_sharedLevel 97 = .ok (.iload 5, 2) := by decide +kernel
theorem dX0_sharedLevel_99 : decode cX0_sharedLevel 99 = .ok (.if_icmp .ne 5, 3) := by decide +kernel
theorem dX0_sharedLevel_102 : decode cX0_sharedLevel 102 = .ok (.iconst 3, 1) := by decide +kernel
theorem dX0_sharedLevel_103 : decode cX0_sharedLevel 103 = .ok (.ireturn, 1) := by decide +kernel
theorem dX0_sharedLevel_104 : decode cX0_sharedLevel 104 = .ok (.iload 4, 2) := by decide +kernel
theorem dX0_sharedLevel_106 : decode cX0_sharedLevel 106 = .ok (.ifCond .lt 23, 3) := by decide +kernel
theorem dX0_sharedLevel_109 : decode cX0_sharedLevel 109 = .ok (.aload_n 0, 1) := by decide +kernel
theorem dX0_sharedLevel_110 : decode cX0_sharedLevel 110 = .ok (.getfield 13, 3) := by decide +kernel
theorem dX0_sharedLevel_113 : decode cX0_sharedLevel 113 = .ok (.iload 4, 2) := by decide +kernel
theorem dX0_sharedLevel_115 : decode cX0_sharedLevel 115 = .ok (.iaload, 1) := by decide +kernel
theorem dX0_sharedLevel_116 : decode cX0_sharedLevel 116 = .ok (.iload_n 3, 1) := by decide +kernel
theorem dX0_sharedLevel_117 : decode cX0_sharedLevel 117 = .ok (.iconst 3, 1) := by decide +kernel
theorem dX0_sharedLevel_118 : decode cX0_sharedLevel 118 = .ok (.iand, 1) := by decide +kernel
theorem dX0_sharedLevel_119 : decode cX0_sharedLevel 119 = .ok (.iushr, 1) := by decide +kernel
theorem dX0_sharedLevel_120 : decode cX0_sharedLevel 120 = .ok (.iconst 1, 1) := by decide +kernel
theorem dX0_sharedLevel_121 : decode cX0_sharedLevel 121 = .ok (.iand, 1) := by decide +kernel
theorem dX0_sharedLevel_122 : decode cX0_sharedLevel 122 = .ok (.ifCond .eq 7, 3) := by decide +kernel
theorem dX0_sharedLevel_125 : decode cX0_sharedLevel 125 = .ok (.iconst 1, 1) := by decide +kernel
theorem dX0_sharedLevel_126 : decode cX0_sharedLevel 126 = .ok (.goto 4, 3) := by decide +kernel
theorem dX0_sharedLevel_129 : decode cX0_sharedLevel 129 = .ok (.iconst 0, 1) := by decide +kernel
theorem dX0_sharedLevel_130 : decode cX0_sharedLevel 130 = .ok (.istore 6, 2) := by decide +kernel
theorem dX0_sharedLevel_132 : decode cX0_sharedLevel 132 = .ok (.iload 5, 2) := by decide +kernel
theorem dX0_sharedLevel_134 : decode cX0_sharedLevel 134 = .ok (.ifCond .lt 23, 3) := by decide +kernel
theorem dX0_sharedLevel_137 : decode cX0_sharedLevel 137 = .ok (.aload_n 0, 1) := by decide +kernel
theorem dX0_sharedLevel_138 : decode cX0_sharedLevel 138 = .ok (.getfield 13, 3) := by decide +kernel
theorem dX0_sharedLevel_141 : decode cX0_sharedLevel 141 = .ok (.iload 5, 2) := by decide +kernel
theorem dX0_sharedLevel_143 : decode cX0_sharedLevel 143 = .ok (.iaload, 1) := by decide +kernel
theorem dX0_sharedLevel_144 : decode cX0_sharedLevel 144 = .ok (.iload_n 3, 1) := by decide +kernel
theorem dX0_sharedLevel_145 : decode cX0_sharedLevel 145 = .ok (.iconst 3, 1) := by decide +kernel
theorem dX0_sharedLevel_146 : decode cX0_sharedLevel 146 = .ok (.iand, 1) := by decide +kernel
theorem dX0_sharedLevel_147 : decode cX0_sharedLevel 147 = .ok (.iushr, 1) := by decide +kernel
theorem dX0_sharedLevel_148 : decode cX0_sharedLevel 148 = .ok (.iconst 1, 1) := by decide +kernel
theorem dX0_sharedLevel_149 : decode cX0_sharedLevel 149 = .ok (.iand, 1) := by decide +kernel
theorem dX0_sharedLevel_150 : decode cX0_sharedLevel 150 = .ok (.ifCond .eq 7, 3) := by decide +kernel
theorem dX0_sharedLevel_153 : decode cX0_sharedLevel 153 = .ok (.iconst 1, 1) := by decide +kernel
theorem dX0_sharedLevel_154 : decode cX0_sharedLevel 154 = .ok (.goto 4, 3) := by decide +kernel
theorem dX0_sharedLevel_157 : decode cX0_sharedLevel 157 = .ok (.iconst 0, 1) := by decide +kernel
theorem dX0_sharedLevel_158 : decode cX0_sharedLevel 158 = .ok (.istore 7, 2) := by decide +kernel
theorem dX0_sharedLevel_160 : decode cX0_sharedLevel 160 = .ok (.iload 6, 2) := by decide +kernel
theorem dX0_sharedLevel_162 : decode cX0_sharedLevel 162 = .ok (.iload 7, 2) := by decide +kernel
theorem dX0_sharedLevel_164 : decode cX0_sharedLevel 164 = .ok (.if_icmp .eq 5, 3) := by decide +kernel
theorem dX0_sharedLevel_167 : decode cX0_sharedLevel 167 = .ok (.iconst 5, 1) := by decide +kernel
theorem dX0_sharedLevel_168 : decode cX0_sharedLevel 168 = .ok (.ireturn, 1) := by decide +kernel
theorem dX0_sharedLevel_169 : decode cX0_sharedLevel 169 = .ok (.iload 6, 2) := by decide +kernel
theorem dX0_sharedLevel_171 : decode cX0_sharedLevel 171 = .ok (.ifCond .eq 36, 3) := by decide +kernel
theorem dX0_sharedLevel_174 : decode cX0_sharedLevel 174 = .ok (.aload_n 0, 1) := by decide +kernel
theorem dX0_sharedLevel_175 : decode cX0_sharedLevel 175 = .ok (.getfield 7, 3) := by decide +kernel
theorem dX0_sharedLevel_178 : decode cX0_sharedLevel 178 = .ok (.iconst 4, 1) := by decide +kernel
theorem dX0_sharedLevel_179 : decode cX0_sharedLevel 179 = .ok (.iload 4, 2) := by decide +kernel
theorem dX0_sharedLevel_181 : decode cX0_sharedLevel 181 = .ok (.imul, 1) := by decide +kernel
theorem dX0_sharedLevel_182 : decode cX0_sharedLevel 182 = .ok (.iload_n 3, 1) := by decide +kernel
theorem dX0_sharedLevel_183 : decode cX0_sharedLevel 183 = .ok (.iconst 3, 1) := by decide +kernel
theorem dX0_sharedLevel_184 : decode cX0_sharedLevel 184 = .ok (.iand, 1) := by decide +kernel
theorem dX0_sharedLevel_185 : decode cX0_sharedLevel 185 = .ok (.iadd, 1) := by decide +kernel
theorem dX0_sharedLevel_186 : decode cX0_sharedLevel 186 = .ok (.iaload, 1) := by decide +kernel
theorem dX0_sharedLevel_187 : decode cX0_sharedLevel 187 = .ok (.aload_n 0, 1) := by decide +kernel
theorem dX0_sharedLevel_188 : decode cX0_sharedLevel 188 = .ok (.getfield 7, 3) := by decide +kernel
theorem dX0_sharedLevel_191 : decode cX0_sharedLevel 191 = .ok (.iconst 4, 1) := by decide +kernel
theorem dX0_sharedLevel_192 : decode cX0_sharedLevel 192 = .ok (.iload 5, 2) := by decide +kernel
theorem dX0_sharedLevel_194 : decode cX0_sharedLevel 194 = .ok (.imul, 1) := by decide +kernel
theorem dX0_sharedLevel_195 : decode cX0_sharedLevel 195 = .ok (.iload_n 3, 1) := by decide +kernel
theorem dX0_sharedLevel_196 : decode cX0_sharedLevel 196 = .ok (.iconst 3, 1) := by decide +kernel
theorem dX0_sharedLevel_197 : decode cX0_sharedLevel 197 = .ok (.iand, 1) := by decide +kernel
theorem dX0_sharedLevel_198 : decode cX0_sharedLevel 198 = .ok (.iadd, 1) := by decide +kernel
theorem dX0_sharedLevel_199 : decode cX0_sharedLevel 199 = .ok (.iaload, 1) := by decide +kernel
theorem dX0_sharedLevel_200 : decode cX0_sharedLevel 200 = .ok (.if_icmp .eq 7, 3) := by decide +kernel
theorem dX0_sharedLevel_203 : decode cX0_sharedLevel 203 = .ok (.iconst 5, 1) := by decide +kernel
theorem dX0_sharedLevel_204 : decode cX0_sharedLevel 204 = .ok (.goto 4, 3) := by decide +kernel
theorem dX0_sharedLevel_207 : decode cX0_sharedLevel 207 = .ok (.iconst 4, 1) := by decide +kernel
theorem dX0_sharedLevel_208 : decode cX0_sharedLevel 208 = .ok (.ireturn, 1) := by decide +kernel
theorem dX0_changes_0 : decode cX0_changes 0 = .ok (.aload_n 0, 1) := by decide +kernel
theorem dX0_changes_1 : decode cX0_changes 1 = .ok (.iload_n 1, 1) := by decide +kernel
theorem dX0_changes_2 : decode cX0_changes 2 = .ok (.invokevirtual 54, 3) := by decide +kernel
theorem dX0_changes_5 : decode cX0_changes 5 = .ok (.ifCond .eq 11, 3) := by decide +kernel
theorem dX0_changes_8 : decode cX0_changes 8 = .ok (.aload_n 0, 1) := by decide +kernel
theorem dX0_changes_9 : decode cX0_changes 9 = .ok (.iload_n 2, 1) := by decide +kernel
theorem dX0_changes_10 : decode cX0_changes 10 = .ok (.invokevirtual 54, 3) := by decide +kernel
theorem dX0_changes_13 : decode cX0_changes 13 = .ok (.ifCond .ne 5, 3) := by decide +kernel
theorem dX0_changes_16 : decode cX0_changes 16 = .ok (.iconst (-1), 1) := by decide +kernel
theorem dX0_changes_17 : decode cX0_changes 17 = .ok (.ireturn, 1) := by decide +kernel
theorem dX0_changes_18 : decode cX0_changes 18 = .ok (.iconst 0, 1) := by decide +kernel
theorem dX0_changes_19 : decode cX0_changes 19 = .ok (.istore_n 3, 1) := by decide +kernel
theorem dX0_changes_20 : decode cX0_changes 20 = .ok (.aload_n 0, 1) := by decide +kernel
theorem dX0_changes_21 : decode cX0_changes 21 = .ok (.iload_n 1, 1) := by decide +kernel
theorem dX0_changes_22 : decode cX0_changes 22 = .ok (.iload_n 2, 1) := by decide +kernel
theorem dX0_changes_23 : decode cX0_changes 23 = .ok (.iconst 0, 1) := by decide +kernel
theorem dX0_changes_24 : decode cX0_changes 24 = .ok (.invokevirtual 72, 3) := by decide +kernel
theorem dX0_changes_27 : decode cX0_changes 27 = .ok (.istore 4, 2) := by decide +kernel
theorem dX0_changes_29 : decode cX0_changes 29 = .ok (.iconst 0, 1) := by decide +kernel
theorem dX0_changes_30 : decode cX0_changes 30 = .ok (.istore 5, 2) := by decide +kernel
theorem dX0_changes_32 : decode cX0_changes 32 = .ok (.iload 5, 2) := by decide +kernel
theorem dX0_changes_34 : decode cX0_changes 34 = .ok (.sipush 256, 3) := by decide +kernel
theorem dX0_changes_37 : decode cX0_changes 37 = .ok (.if_icmp .ge 32, 3) := by decide +kernel
theorem dX0_changes_40 : decode cX0_changes 40 = .ok (.iload 4, 2) := by decide +kernel
theorem dX0_changes_42 : decode cX0_changes 42 = .ok (.sipush 256, 3) := by decide +kernel
theorem dX0_changes_45 : decode cX0_changes 45 = .ok (.if_icmp .ge 24, 3) := by decide +kernel
theorem dX0_changes_48 : decode cX0_changes 48 = .ok (.iinc 3 1, 3) := by decide +kernel
theorem dX0_changes_51 : decode cX0_changes 51 = .ok (.aload_n 0, 1) := by decide +kernel
theorem dX0_changes_52 : decode cX0_changes 52 = .ok (.iload_n 1, 1) := by decide +kernel
theorem dX0_changes_53 : decode cX0_changes 53 = .ok (.iload_n 2, 1) := by decide +kernel
theorem dX0_changes_54 : decode cX0_changes 54 = .ok (.iload 4, 2) := by decide +kernel
theorem dX0_changes_56 : decode cX0_changes 56 = .ok (.iconst 1, 1) := by decide +kernel
theorem dX0_changes_57 : decode cX0_changes 57 = .ok (.iadd, 1) := by decide +kernel
theorem dX0_changes_58 : decode cX0_changes 58 = .ok (.invokevirtual 72, 3) := by decide +kernel
theorem dX0_changes_61 : decode cX0_changes 61 = .ok (.istore 4, 2) := by decide +kernel
theorem dX0_changes_63 : decode cX0_changes 63 = .ok (.iinc 5 1, 3) := by decide +kernel
theorem dX0_changes_66 : decode cX0_changes 66 = .ok (.goto (-34), 3) := by decide +kernel
theorem dX0_changes_69 : decode cX0_changes 69 = .ok (.iload_n 3, 1) := by decide +kernel
theorem dX0_changes_70 : decode cX0_changes 70 = .ok (.ireturn, 1) := by decide +kernel
end
section
set_option maxRecDepth 100000
theorem dX1_init_0 : decode cX1_init 0 = .ok (.aload_n 0, 1) := by decide +kernel
theorem dX1_init_1 : decode cX1_init 1 = .ok (.invokespecial 1, 3) := by decide +kernel
theorem dX1_init_4 : decode cX1_init 4 = .ok (.aload_n 0, 1) := by decide +kernel
theorem dX1_init_5 : decode cX1_init 5 = .ok (.bipush 8, 2) := by decide +kernel
theorem dX1_init_7 : decode cX1_init 7 = .ok (.newarray .boolean, 2) := by decide +kernel
theorem dX1_init_9 : decode cX1_init 9 = .ok (.putfield 7, 3) := by decide +kernel
theorem dX1_init_12 : decode cX1_init 12 = .ok (.aload_n 0, 1) := by decide +kernel
theorem dX1_init_13 : decode cX1_init 13 = .ok (.sipush 2048, 3) := by decide +kernel
theorem dX1_init_16 : decode cX1_init 16 = .ok (.newarray .boolean, 2) := by decide +kernel
theorem dX1_init_18 : decode cX1_init 18 = .ok (.putfield 13, 3) := by decide +kernel
theorem dX1_init_21 : decode cX1_init 21 = .ok (.aload_n 0, 1) := by decide +kernel
theorem dX1_init_22 : decode cX1_init 22 = .ok (.sipush 2048, 3) := by decide +kernel
theorem dX1_init_25 : decode cX1_init 25 = .ok (.newarray .int, 2) := by decide +kernel
theorem dX1_init_27 : decode cX1_init 27 = .ok (.putfield 16, 3) := by decide +kernel
theorem dX1_init_30 : decode cX1_init 30 = .ok (.aload_n 0, 1) := by decide +kernel
theorem dX1_init_31 : decode cX1_init 31 = .ok (.getfield 7, 3) := by decide +kernel
theorem dX1_init_34 : decode cX1_init 34 = .ok (.bipush 7, 2) := by decide +kernel
theorem dX1_init_36 : decode cX1_init 36 = .ok (.iconst 1, 1) := by decide +kernel
theorem dX1_init_37 : decode cX1_init 37 = .ok (.bastore, 1) := by decide +kernel
theorem dX1_init_38 : decode cX1_init 38 = .ok (.return_, 1) := by decide +kernel
theorem dX1_put_0 : decode cX1_put 0 = .ok (.iload_n 1, 1) := by decide +kernel
theorem dX1_put_1 : decode cX1_put 1 = .ok (.invokestatic 20, 3) := by decide +kernel
theorem dX1_put_4 : decode cX1_put 4 = .ok (.ifCond .ne 27, 3) := by decide +kernel
theorem dX1_put_7 : decode cX1_put 7 = .ok (.aload_n 0, 1) := by decide +kernel
theorem dX1_put_8 : decode cX1_put 8 = .ok (.getfield 13, 3) := by decide +kernel
theorem dX1_put_11 : decode cX1_put 11 = .ok (.sipush 1792, 3) := by decide +kernel
theorem dX1_put_14 : decode cX1_put 14 = .ok (.iload_n 1, 1) := by decide +kernel
theorem dX1_put_15 : decode cX1_put 15 = .ok (.iadd, 1) := by decide +kernel
theorem dX1_put_16 : decode cX1_put 16 = .ok (.baload, 1) := by decide +kernel
theorem dX1_put_17 : decode cX1_put 17 = .ok (.ifCond .ne 16, 3) := by decide +kernel
theorem dX1_put_20 : decode cX1_put 20 = .ok (.aload_n 0, 1) := by decide +kernel
theorem dX1_put_21 : decode cX1_put 21 = .ok (.bipush 7, 2) := by decide +kernel
theorem dX1_put_23 : decode cX1_put 23 = .ok (.invokevirtual 24, 3) := by decide +kernel
theorem dX1_put_26 : decode cX1_put 26 = .ok (.bipush 16, 2) := by decide +kernel
theorem dX1_put_28 : decode cX1_put 28 = .ok (.if_icmp .ne 5, 3) := by decide +kernel
theorem dX1_put_31 : decode cX1_put 31 = .ok (.iconst (-1), 1) := by decide +kernel
theorem dX1_put_32 : decode cX1_put 32 = .ok (.ireturn, 1) := by decide +kernel
theorem dX1_put_33 : decode cX1_put 33 = .ok (.aload_n 0, 1) := by decide +kernel
theorem dX1_put_34 : decode cX1_put 34 = .ok (.getfield 13, 3) := by decide +kernel
theorem dX1_put_37 : decode cX1_put 37 = .ok (.sipush 1792, 3) := by decide +kernel
theorem dX1_put_40 : decode cX1_put 40 = .ok (.iload_n 1, 1) := by decide +kernel
theorem dX1_put_41 : decode cX1_put 41 = .ok (.iadd, 1) := by decide +kernel
theorem dX1_put_42 : decode cX1_put 42 = .ok (.iconst 1, 1) := by decide +kernel
theorem dX1_put_43 : decode cX1_put 43 = .ok (.bastore, 1) := by decide +kernel
theorem dX1_put_44 : decode cX1_put 44 = .ok (.aload_n 0, 1) := by decide +kernel
theorem dX1_put_45 : decode cX1_put 45 = .ok (.getfield 16, 3) := by decide +kernel
theorem dX1_put_48 : decode cX1_put 48 = .ok (.sipush 1792, 3) := by decide +kernel
theorem dX1_put_51 : decode cX1_put 51 = .ok (.iload_n 1, 1) := by decide +kernel
theorem dX1_put_52 : decode cX1_put 52 = .ok (.iadd, 1) := by decide +kernel
theorem dX1_put_53 : decode cX1_put 53 = .ok (.iload_n 2, 1) := by decide +kernel
theorem dX1_put_54 : decode cX1_put 54 = .ok (.iastore, 1) := by decide +kernel
theorem dX1_put_55 : decode cX1_put 55 = .ok (.aload_n 0, 1) := by decide +kernel
theorem dX1_put_56 : decode cX1_put 56 = .ok (.bipush 7, 2) := by decide +kernel
theorem dX1_put_58 : decode cX1_put 58 = .ok (.invokevirtual 24, 3) := by decide +kernel
theorem dX1_put_61 : decode cX1_put 61 = .ok (.ireturn, 1) := by decide +kernel
theorem dX1_badKey_0 : decode cX1_badKey 0 = .ok (.iload_n 0, 1) := by decide +kernel
theorem dX1_badKey_1 : decode cX1_badKey 1 = .ok (.ifCond .lt 10, 3) := by decide +kernel
theorem dX1_badKey_4 : decode cX1_badKey 4 = .ok (.iload_n 0, 1) := by decide +kernel
theorem dX1_badKey_5 : decode cX1_badKey 5 = .ok (.sipush 255, 3) := by decide +kernel
theorem dX1_badKey_8 : decode cX1_badKey 8 = .ok (.if_icmp .le 7, 3) := by decide +kernel
theorem dX1_badKey_11 : decode cX1_badKey 11 = .ok (.iconst 1, 1) := by decide +kernel
theorem dX1_badKey_12 : decode cX1_badKey 12 = .ok (.goto 4, 3) := by decide +kernel
theorem dX1_badKey_15 : decode cX1_badKey 15 = .ok (.iconst 0, 1) := by decide +kernel
theorem dX1_badKey_16 : decode cX1_badKey 16 = .ok (.ireturn, 1) := by decide +kernel
theorem dX1_count_0 : decode cX1_count 0 = .ok (.iconst 0, 1) := by decide +kernel
theorem dX1_count_1 : decode cX1_count 1 = .ok (.istore_n 2, 1) := by decide +kernel
theorem dX1_count_2 : decode cX1_count 2 = .ok (.iconst 0, 1) := by decide +kernel
theorem dX1_count_3 : decode cX1_count 3 = .ok (.istore_n 3, 1) := by decide +kernel
theorem dX1_count_4 : decode cX1_count 4 = .ok (.iload_n 3, 1) := by decide +kernel
theorem dX1_count_5 : decode cX1_count 5 = .ok (.sipush 256, 3) := by decide +kernel
theorem dX1_count_8 : decode cX1_count 8 = .ok (.if_icmp .ge 27, 3) := by decide +kernel
theorem dX1_count_11 : decode cX1_count 11 = .ok (.aload_n 0, 1) := by decide +kernel
theorem dX1_count_12 : decode cX1_count 12 = .ok (.getfield 13, 3) := by decide +kernel
theorem dX1_count_15 : decode cX1_count 15 = .ok (.sipush 256, 3) := by decide +kernel
theorem dX1_count_18 : decode cX1_count 18 = .ok (.iload_n 1, 1) := by decide +kernel
theorem dX1_count_19 : decode cX1_count 19 = .ok (.imul, 1) := by decide +kernel
theorem dX1_count_20 : decode cX1_count 20 = .ok (.iload_n 3, 1) := by decide +kernel
theorem dX1_count_21 : decode cX1_count 21 = .ok (.iadd, 1) := by decide +kernel
theorem dX1_count_22 : decode cX1_count 22 = .ok (.baload, 1) := by decide +kernel
theorem dX1_count_23 : decode cX1_count 23 = .ok (.ifCond .eq 6, 3) := by decide +kernel
theorem dX1_count_26 : decode cX1_count 26 = .ok (.iinc 2 1, 3) := by decide +kernel
theorem dX1_count_29 : decode cX1_count 29 = .ok (.iinc 3 1, 3) := by decide +kernel
theorem dX1_count_32 : decode cX1_count 32 = .ok (.goto (-28), 3) := by decide +kernel
theorem dX1_count_35 : decode cX1_count 35 = .ok (.iload_n 2, 1) := by decide +kernel
theorem dX1_count_36 : decode cX1_count 36 = .ok (.ireturn, 1) := by decide +kernel
theorem dX1_remove_0 : decode cX1_remove 0 = .ok (.iload_n 1, 1) := by decide +kernel
theorem dX1_remove_1 : decode cX1_remove 1 = .ok (.invokestatic 20, 3) := by decide +kernel
theorem dX1_remove_4 : decode cX1_remove 4 = .ok (.ifCond .ne 16, 3) := by decide +kernel
theorem dX1_remove_7 : decode cX1_remove 7 = .ok (.aload_n 0, 1) := by decide +kernel
theorem dX1_remove_8 : decode cX1_remove 8 = .ok (.getfield 13, 3) := by decide +kernel
theorem dX1_remove_11 : decode cX1_remove 11 = .ok (.sipush 1792, 3) := by decide +kernel
theorem dX1_remove_14 : decode cX1_remove 14 = .ok (.iload_n 1, 1) := by decide +kernel
theorem dX1_remove_15 : decode cX1_remove 15 = .ok (.iadd, 1) := by decide +kernel
theorem dX1_remove_16 : decode cX1_remove 16 = .ok (.baload, 1) := by decide +kernel
theorem dX1_remove_17 : decode cX1_remove 17 = .ok (.ifCond .ne 5, 3) := by decide +kernel
theorem dX1_remove_20 : decode cX1_remove 20 = .ok (.iconst (-1), 1) := by decide +kernel
theorem dX1_remove_21 : decode cX1_remove 21 = .ok (.ireturn, 1) := by decide +kernel
theorem dX1_remove_22 : decode cX1_remove 22 = .ok (.aload_n 0, 1) := by decide +kernel
theorem dX1_remove_23 : decode cX1_remove 23 = .ok (.getfield 13, 3) := by decide +kernel
theorem dX1_remove_26 : decode cX1_remove 26 = .ok (.sipush 1792, 3) := by decide +kernel
theorem dX1_remove_29 : decode cX1_remove 29 = .ok (.iload_n 1, 1) := by decide +kernel
theorem dX1_remove_30 : decode cX1_remove 30 = .ok (.iadd, 1) := by decide +kernel
theorem dX1_remove_31 : decode cX1_remove 31 = .ok (.iconst 0, 1) := by decide +kernel
theorem dX1_remove_32 : decode cX1_remove 32 = .ok (.bastore, 1) := by decide +kernel
theorem dX1_remove_33 : decode cX1_remove 33 = .ok (.aload_n 0, 1) := by decide +kernel
theorem dX1_remove_34 : decode cX1_remove 34 = .ok (.bipush 7, 2) := by decide +kernel
theorem dX1_remove_36 : decode cX1_remove 36 = .ok (.invokevirtual 24, 3) := by decide +kernel
theorem dX1_remove_39 : decode cX1_remove 39 = .ok (.ireturn, 1) := by decide +kernel
theorem dX1_commit_0 : decode cX1_commit 0 = .ok (.iconst 0, 1) := by decide +kernel
theorem dX1_commit_1 : decode cX1_commit 1 = .ok (.istore_n 1, 1) := by decide +kernel
theorem dX1_commit_2 : decode cX1_commit 2 = .ok (.iload_n 1, 1) := by decide +kernel
theorem dX1_commit_3 : decode cX1_commit 3 = .ok (.bipush 7, 2) := by decide +kernel
theorem dX1_commit_5 : decode cX1_commit 5 = .ok (.if_icmp .ge 34, 3) := by decide +kernel
theorem dX1_commit_8 : decode cX1_commit 8 = .ok (.aload_n 0, 1) := by decide +kernel
theorem dX1_commit_9 : decode cX1_commit 9 = .ok (.getfield 7, 3) := by decide +kernel
theorem dX1_commit_12 : decode cX1_commit 12 = .ok (.iload_n 1, 1) := by decide +kernel
theorem dX1_commit_13 : decode cX1_commit 13 = .ok (.baload, 1) := by decide +kernel
theorem dX1_commit_14 : decode cX1_commit 14 = .ok (.ifCond .ne 19, 3) := by decide +kernel
theorem dX1_commit_17 : decode cX1_commit 17 = .ok (.aload_n 0, 1) := by decide +kernel
theorem dX1_commit_18 : decode cX1_commit 18 = .ok (.getfield 7, 3) := by decide +kernel
theorem dX1_commit_21 : decode cX1_commit 21 = .ok (.iload_n 1, 1) := by decide +kernel
theorem dX1_commit_22 : decode cX1_commit 22 = .ok (.iconst 1, 1) := by decide +kernel
theorem dX1_commit_23 : decode cX1_commit 23 = .ok (.bastore, 1) := by decide +kernel
theorem dX1_commit_24 : decode cX1_commit 24 = .ok (.aload_n 0, 1) := by decide +kernel
theorem dX1_commit_25 : decode cX1_commit 25 = .ok (.bipush 7, 2) := by decide +kernel
theorem dX1_commit_27 : decode cX1_commit 27 = .ok (.iload_n 1, 1) := by decide +kernel
theorem dX1_commit_28 : decode cX1_commit 28 = .ok (.invokevirtual 28, 3) := by decide +kernel
theorem dX1_commit_31 : decode cX1_commit 31 = .ok (.iload_n 1, 1) := by decide +kernel
theorem dX1_commit_32 : decode cX1_commit 32 = .ok (.ireturn, 1) := by decide +kernel
theorem dX1_commit_33 : decode cX1_commit 33 = .ok (.iinc 1 1, 3) := by decide +kernel
theorem dX1_commit_36 : decode cX1_commit 36 = .ok (.goto (-34), 3) := by decide +kernel
theorem dX1_commit_39 : decode cX1_commit 39 = .ok (.iconst (-1), 1) := by decide +kernel
theorem dX1_commit_40 : decode cX1_commit 40 = .ok (.ireturn, 1) := by decide +kernel
theorem dX1_copy_0 : decode cX1_copy 0 = .ok (.iconst 0, 1) := by decide +kernel
theorem dX1_copy_1 : decode cX1_copy 1 = .ok (.istore_n 3, 1) := by decide +kernel
theorem dX1_copy_2 : decode cX1_copy 2 = .ok (.iload_n 3, 1) := by decide +kernel
theorem dX1_copy_3 : decode cX1_copy 3 = .ok (.sipush 256, 3) := by decide +kernel
theorem dX1_copy_6 : decode cX1_copy 6 = .ok (.if_icmp .ge 57, 3) := by decide +kernel
theorem dX1_copy_9 : decode cX1_copy 9 = .ok (.aload_n 0, 1) := by decide +kernel
theorem dX1_copy_10 : decode cX1_copy 10 = .ok (.getfield 13, 3) := by decide +kernel
theorem dX1_copy_13 : decode cX1_copy 13 = .ok (.sipush 256, 3) := by decide +kernel
theorem dX1_copy_16 : decode cX1_copy 16 = .ok (.iload_n 2, 1) := by decide +kernel
theorem dX1_copy_17 : decode cX1_copy 17 = .ok (.imul, 1) := by decide +kernel
theorem dX1_copy_18 : decode cX1_copy 18 = .ok (.iload_n 3, 1) := by decide +kernel
theorem dX1_copy_19 : decode cX1_copy 19 = .ok (.iadd, 1) := by decide +kernel
theorem dX1_copy_20 : decode cX1_copy 20 = .ok (.aload_n 0, 1) := by decide +kernel
theorem dX1_copy_21 : decode cX1_copy 21 = .ok (.getfield 13, 3) := by decide +kernel
theorem dX1_copy_24 : decode cX1_copy 24 = .ok (.sipush 256, 3) := by decide +kernel
theorem dX1_copy_27 : decode cX1_copy 27 = .ok (.iload_n 1, 1) := by decide +kernel
theorem dX1_copy_28 : decode cX1_copy 28 = .ok (.imul, 1) := by decide +kernel
theorem dX1_copy_29 : decode cX1_copy 29 = .ok (.iload_n 3, 1) := by decide +kernel
theorem dX1_copy_30 : decode cX1_copy 30 = .ok (.iadd, 1) := by decide +kernel
theorem dX1_copy_31 : decode cX1_copy 31 = .ok (.baload, 1) := by decide +kernel
theorem dX1_copy_32 : decode cX1_copy 32 = .ok (.bastore, 1) := by decide +kernel
theorem dX1_copy_33 : decode cX1_copy 33 = .ok (.aload_n 0, 1) := by decide +kernel
theorem dX1_copy_34 : decode cX1_copy 34 = .ok (.getfield 16, 3) := by decide +kernel
theorem dX1_copy_37 : decode cX1_copy 37 = .ok (.sipush 256, 3) := by decide +kernel
theorem dX1_copy_40 : decode cX1_copy 40 = .ok (.iload_n 2, 1) := by decide +kernel
theorem dX1_copy_41 : decode cX1_copy 41 = .ok (.imul, 1) := by decide +kernel
theorem dX1_copy_42 : decode cX1_copy 42 = .ok (.iload_n 3, 1) := by decide +kernel
theorem dX1_copy_43 : decode cX1_copy 43 = .ok (.iadd, 1) := by decide +kernel
theorem dX1_copy_44 : decode cX1_copy 44 = .ok (.aload_n 0, 1) := by decide +kernel
theorem dX1_copy_45 : decode cX1_copy 45 = .ok (.getfield 16, 3) := by decide +kernel
theorem dX1_copy_48 : decode cX1_copy 48 = .ok (.sipush 256, 3) := by decide +kernel
theorem dX1_copy_51 : decode cX1_copy 51 = .ok (.iload_n 1, 1) := by decide +kernel
theorem dX1_copy_52 : decode cX1_copy 52 = .ok (.imul, 1) := by decide +kernel
theorem dX1_copy_53 : decode cX1_copy 53 = .ok (.iload_n 3, 1) := by decide +kernel
theorem dX1_copy_54 : decode cX1_copy 54 = .ok (.iadd, 1) := by decide +kernel
theorem dX1_copy_55 : decode cX1_copy 55 = .ok (.iaload, 1) := by decide +kernel
theorem dX1_copy_56 : decode cX1_copy 56 = .ok (.iastore, 1) := by decide +kernel
theorem dX1_copy_57 : decode cX1_copy 57 = .ok (.iinc 3 1, 3) := by decide +kernel
theorem dX1_copy_60 : decode cX1_copy 60 = .ok (.goto (-58), 3) := by decide +kernel
theorem dX1_copy_63 : decode cX1_copy 63 = .ok (.return_, 1) := by decide +kernel
theorem dX1_restore_0 : decode cX1_restore 0 = .ok (.aload_n 0, 1) := by decide +kernel
theorem dX1_restore_1 : decode cX1_restore 1 = .ok (.iload_n 1, 1) := by decide +kernel
theorem dX1_restore_2 : decode cX1_restore 2 = .ok (.invokevirtual 32, 3) := by decide +kernel
theorem dX1_restore_5 : decode cX1_restore 5 = .ok (.ifCond .eq 5, 3) := by decide +kernel
theorem dX1_restore_8 : decode cX1_restore 8 = .ok (.iconst (-1), 1) := by decide +kernel
theorem dX1_restore_9 : decode cX1_restore 9 = .ok (.ireturn, 1) := by decide +kernel
theorem dX1_restore_10 : decode cX1_restore 10 = .ok (.aload_n 0, 1) := by decide +kernel
theorem dX1_restore_11 : decode cX1_restore 11 = .ok (.iload_n 1, 1) := by decide +kernel
theorem dX1_restore_12 : decode cX1_restore 12 = .ok (.bipush 7, 2) := by decide +kernel
theorem dX1_restore_14 : decode cX1_restore 14 = .ok (.invokevirtual 28, 3) := by decide +kernel
theorem dX1_restore_17 : decode cX1_restore 17 = .ok (.aload_n 0, 1) := by decide +kernel
theorem dX1_restore_18 : decode cX1_restore 18 = .ok (.bipush 7, 2) := by decide +kernel
theorem dX1_restore_20 : decode cX1_restore 20 = .ok (.invokevirtual 24, 3) := by decide +kernel
theorem dX1_restore_23 : decode cX1_restore 23 = .ok (.ireturn, 1) := by decide +kernel
theorem dX1_free_0 : decode cX1_free 0 = .ok (.iload_n 1, 1) := by decide +kernel
theorem dX1_free_1 : decode cX1_free 1 = .ok (.ifCond .lt 18, 3) := by decide +kernel
theorem dX1_free_4 : decode cX1_free 4 = .ok (.iload_n 1, 1) := by decide +kernel
theorem dX1_free_5 : decode cX1_free 5 = .ok (.bipush 6, 2) := by decide +kernel
theorem dX1_free_7 : decode cX1_free 7 = .ok (.if_icmp .gt 12, 3) := by decide +kernel
theorem dX1_free_10 : decode cX1_free 10 = .ok (.aload_n 0, 1) := by decide +kernel
theorem dX1_free_11 : decode cX1_free 11 = .ok (.getfield 7, 3) := by decide +kernel
theorem dX1_free_14 : decode cX1_free 14 = .ok (.iload_n 1, 1) := by decide +kernel
theorem dX1_free_15 : decode cX1_free 15 = .ok (.baload, 1) := by decide +kernel
theorem dX1_free_16 : decode cX1_free 16 = .ok (.ifCond .ne 7, 3) := by decide +kernel
theorem dX1_free_19 : decode cX1_free 19 = .ok (.iconst 1, 1) := by decide +kernel
theorem dX1_free_20 : decode cX1_free 20 = .ok (.goto 4, 3) := by decide +kernel
theorem dX1_free_23 : decode cX1_free 23 = .ok (.iconst 0, 1) := by decide +kernel
theorem dX1_free_24 : decode cX1_free 24 = .ok (.ireturn, 1) := by decide +kernel
theorem dX1_drop_0 : decode cX1_drop 0 = .ok (.aload_n 0, 1) := by decide +kernel
theorem dX1_drop_1 : decode cX1_drop 1 = .ok (.iload_n 1, 1) := by decide +kernel
theorem dX1_drop_2 : decode cX1_drop 2 = .ok (.invokevirtual 32, 3) := by decide +kernel
theorem dX1_drop_5 : decode cX1_drop 5 = .ok (.ifCond .eq 5, 3) := by decide +kernel
theorem dX1_drop_8 : decode cX1_drop 8 = .ok (.iconst (-1), 1) := by decide +kernel
theorem dX1_drop_9 : decode cX1_drop 9 = .ok (.ireturn, 1) := by decide +kernel
theorem dX1_drop_10 : decode cX1_drop 10 = .ok (.aload_n 0, 1) := by decide +kernel
theorem dX1_drop_11 : decode cX1_drop 11 = .ok (.getfield 7, 3) := by decide +kernel
theorem dX1_drop_14 : decode cX1_drop 14 = .ok (.iload_n 1, 1) := by decide +kernel
theorem dX1_drop_15 : decode cX1_drop 15 = .ok (.iconst 0, 1) := by decide +kernel
theorem dX1_drop_16 : decode cX1_drop 16 = .ok (.bastore, 1) := by decide +kernel
theorem dX1_drop_17 : decode cX1_drop 17 = .ok (.iconst 0, 1) := by decide +kernel
theorem dX1_drop_18 : decode cX1_drop 18 = .ok (.ireturn, 1) := by decide +kernel
theorem dX1_get_0 : decode cX1_get 0 = .ok (.aload_n 0, 1) := by decide +kernel
theorem dX1_get_1 : decode cX1_get 1 = .ok (.iload_n 1, 1) := by decide +kernel
theorem dX1_get_2 : decode cX1_get 2 = .ok (.invokevirtual 35, 3) := by decide +kernel
theorem dX1_get_5 : decode cX1_get 5 = .ok (.istore_n 3, 1) := by decide +kernel
theorem dX1_get_6 : decode cX1_get 6 = .ok (.iload_n 3, 1) := by decide +kernel
theorem dX1_get_7 : decode cX1_get 7 = .ok (.ifCond .lt 25, 3) := by decide +kernel
theorem dX1_get_10 : decode cX1_get 10 = .ok (.iload_n 2, 1) := by decide +kernel
theorem dX1_get_11 : decode cX1_get 11 = .ok (.invokestatic 20, 3) := by decide +kernel
end
section
set_option maxRecDepth 100000
theorem dX1_get_14 : decode cX1_get 14 = .ok (.ifCond .ne 18, 3) := by decide +kernel
theorem dX1_get_17 : decode cX1_get 17 = .ok (.aload_n 0, 1) := by decide +kernel
theorem dX1_get_18 : decode cX1_get 18 = .ok (.getfield 13, 3) := by decide +kernel
theorem dX1_get_21 : decode cX1_get 21 = .ok (.sipush 256, 3) := by decide +kernel
theorem dX1_get_24 : decode cX1_get 24 = .ok (.iload_n 3, 1) := by decide +kernel
theorem dX1_get_25 : decode cX1_get 25 = .ok (.imul, 1) := by decide +kernel
theorem dX1_get_26 : decode cX1_get 26 = .ok (.iload_n 2, 1) := by decide +kernel
theorem dX1_get_27 : decode cX1_get 27 = .ok (.iadd, 1) := by decide +kernel
theorem dX1_get_28 : decode cX1_get 28 = .ok (.baload, 1) := by decide +kernel
theorem dX1_get_29 : decode cX1_get 29 = .ok (.ifCond .ne 5, 3) := by decide +kernel
theorem dX1_get_32 : decode cX1_get 32 = .ok (.iconst 0, 1) := by decide +kernel
theorem dX1_get_33 : decode cX1_get 33 = .ok (.ireturn, 1) := by decide +kernel
theorem dX1_get_34 : decode cX1_get 34 = .ok (.aload_n 0, 1) := by decide +kernel
theorem dX1_get_35 : decode cX1_get 35 = .ok (.getfield 16, 3) := by decide +kernel
theorem dX1_get_38 : decode cX1_get 38 = .ok (.sipush 256, 3) := by decide +kernel
theorem dX1_get_41 : decode cX1_get 41 = .ok (.iload_n 3, 1) := by decide +kernel
theorem dX1_get_42 : decode cX1_get 42 = .ok (.imul, 1) := by decide +kernel
theorem dX1_get_43 : decode cX1_get 43 = .ok (.iload_n 2, 1) := by decide +kernel
theorem dX1_get_44 : decode cX1_get 44 = .ok (.iadd, 1) := by decide +kernel
theorem dX1_get_45 : decode cX1_get 45 = .ok (.iaload, 1) := by decide +kernel
theorem dX1_get_46 : decode cX1_get 46 = .ok (.ireturn, 1) := by decide +kernel
theorem dX1_place_0 : decode cX1_place 0 = .ok (.iload_n 1, 1) := by decide +kernel
theorem dX1_place_1 : decode cX1_place 1 = .ok (.iconst (-1), 1) := by decide +kernel
theorem dX1_place_2 : decode cX1_place 2 = .ok (.if_icmp .ne 6, 3) := by decide +kernel
theorem dX1_place_5 : decode cX1_place 5 = .ok (.bipush 7, 2) := by decide +kernel
theorem dX1_place_7 : decode cX1_place 7 = .ok (.ireturn, 1) := by decide +kernel
theorem dX1_place_8 : decode cX1_place 8 = .ok (.iload_n 1, 1) := by decide +kernel
theorem dX1_place_9 : decode cX1_place 9 = .ok (.ifCond .lt 22, 3) := by decide +kernel
theorem dX1_place_12 : decode cX1_place 12 = .ok (.iload_n 1, 1) := by decide +kernel
theorem dX1_place_13 : decode cX1_place 13 = .ok (.bipush 6, 2) := by decide +kernel
theorem dX1_place_15 : decode cX1_place 15 = .ok (.if_icmp .gt 16, 3) := by decide +kernel
theorem dX1_place_18 : decode cX1_place 18 = .ok (.aload_n 0, 1) := by decide +kernel
theorem dX1_place_19 : decode cX1_place 19 = .ok (.getfield 7, 3) := by decide +kernel
theorem dX1_place_22 : decode cX1_place 22 = .ok (.iload_n 1, 1) := by decide +kernel
theorem dX1_place_23 : decode cX1_place 23 = .ok (.baload, 1) := by decide +kernel
theorem dX1_place_24 : decode cX1_place 24 = .ok (.ifCond .eq 7, 3) := by decide +kernel
theorem dX1_place_27 : decode cX1_place 27 = .ok (.iload_n 1, 1) := by decide +kernel
theorem dX1_place_28 : decode cX1_place 28 = .ok (.goto 4, 3) := by decide +kernel
theorem dX1_place_31 : decode cX1_place 31 = .ok (.iconst (-1), 1) := by decide +kernel
theorem dX1_place_32 : decode cX1_place 32 = .ok (.ireturn, 1) := by decide +kernel
theorem dX1_has_0 : decode cX1_has 0 = .ok (.aload_n 0, 1) := by decide +kernel
theorem dX1_has_1 : decode cX1_has 1 = .ok (.iload_n 1, 1) := by decide +kernel
theorem dX1_has_2 : decode cX1_has 2 = .ok (.invokevirtual 35, 3) := by decide +kernel
theorem dX1_has_5 : decode cX1_has 5 = .ok (.istore_n 3, 1) := by decide +kernel
theorem dX1_has_6 : decode cX1_has 6 = .ok (.iload_n 3, 1) := by decide +kernel
theorem dX1_has_7 : decode cX1_has 7 = .ok (.ifCond .ge 5, 3) := by decide +kernel
theorem dX1_has_10 : decode cX1_has 10 = .ok (.iconst (-1), 1) := by decide +kernel
theorem dX1_has_11 : decode cX1_has 11 = .ok (.ireturn, 1) := by decide +kernel
theorem dX1_has_12 : decode cX1_has 12 = .ok (.iload_n 2, 1) := by decide +kernel
theorem dX1_has_13 : decode cX1_has 13 = .ok (.invokestatic 20, 3) := by decide +kernel
theorem dX1_has_16 : decode cX1_has 16 = .ok (.ifCond .ne 22, 3) := by decide +kernel
theorem dX1_has_19 : decode cX1_has 19 = .ok (.aload_n 0, 1) := by decide +kernel
theorem dX1_has_20 : decode cX1_has 20 = .ok (.getfield 13, 3) := by decide +kernel
theorem dX1_has_23 : decode cX1_has 23 = .ok (.sipush 256, 3) := by decide +kernel
theorem dX1_has_26 : decode cX1_has 26 = .ok (.iload_n 3, 1) := by decide +kernel
theorem dX1_has_27 : decode cX1_has 27 = .ok (.imul, 1) := by decide +kernel
theorem dX1_has_28 : decode cX1_has 28 = .ok (.iload_n 2, 1) := by decide +kernel
theorem dX1_has_29 : decode cX1_has 29 = .ok (.iadd, 1) := by decide +kernel
theorem dX1_has_30 : decode cX1_has 30 = .ok (.baload, 1) := by decide +kernel
theorem dX1_has_31 : decode cX1_has 31 = .ok (.ifCond .eq 7, 3) := by decide +kernel
theorem dX1_has_34 : decode cX1_has 34 = .ok (.iconst 1, 1) := by decide +kernel
theorem dX1_has_35 : decode cX1_has 35 = .ok (.goto 4, 3) := by decide +kernel
theorem dX1_has_38 : decode cX1_has 38 = .ok (.iconst 0, 1) := by decide +kernel
theorem dX1_has_39 : decode cX1_has 39 = .ok (.ireturn, 1) := by decide +kernel
theorem dX1_size_0 : decode cX1_size 0 = .ok (.aload_n 0, 1) := by decide +kernel
theorem dX1_size_1 : decode cX1_size 1 = .ok (.iload_n 1, 1) := by decide +kernel
theorem dX1_size_2 : decode cX1_size 2 = .ok (.invokevirtual 35, 3) := by decide +kernel
theorem dX1_size_5 : decode cX1_size 5 = .ok (.istore_n 2, 1) := by decide +kernel
theorem dX1_size_6 : decode cX1_size 6 = .ok (.iload_n 2, 1) := by decide +kernel
theorem dX1_size_7 : decode cX1_size 7 = .ok (.ifCond .ge 7, 3) := by decide +kernel
theorem dX1_size_10 : decode cX1_size 10 = .ok (.iconst (-1), 1) := by decide +kernel
theorem dX1_size_11 : decode cX1_size 11 = .ok (.goto 8, 3) := by decide +kernel
theorem dX1_size_14 : decode cX1_size 14 = .ok (.aload_n 0, 1) := by decide +kernel
theorem dX1_size_15 : decode cX1_size 15 = .ok (.iload_n 2, 1) := by decide +kernel
theorem dX1_size_16 : decode cX1_size 16 = .ok (.invokevirtual 24, 3) := by decide +kernel
theorem dX1_size_19 : decode cX1_size 19 = .ok (.ireturn, 1) := by decide +kernel
theorem dX1_next_0 : decode cX1_next 0 = .ok (.aload_n 0, 1) := by decide +kernel
theorem dX1_next_1 : decode cX1_next 1 = .ok (.iload_n 1, 1) := by decide +kernel
theorem dX1_next_2 : decode cX1_next 2 = .ok (.invokevirtual 35, 3) := by decide +kernel
theorem dX1_next_5 : decode cX1_next 5 = .ok (.istore_n 3, 1) := by decide +kernel
theorem dX1_next_6 : decode cX1_next 6 = .ok (.iload_n 3, 1) := by decide +kernel
theorem dX1_next_7 : decode cX1_next 7 = .ok (.ifCond .ge 5, 3) := by decide +kernel
theorem dX1_next_10 : decode cX1_next 10 = .ok (.iconst (-1), 1) := by decide +kernel
theorem dX1_next_11 : decode cX1_next 11 = .ok (.ireturn, 1) := by decide +kernel
theorem dX1_next_12 : decode cX1_next 12 = .ok (.iconst 0, 1) := by decide +kernel
theorem dX1_next_13 : decode cX1_next 13 = .ok (.istore 4, 2) := by decide +kernel
theorem dX1_next_15 : decode cX1_next 15 = .ok (.iload 4, 2) := by decide +kernel
theorem dX1_next_17 : decode cX1_next 17 = .ok (.sipush 256, 3) := by decide +kernel
theorem dX1_next_20 : decode cX1_next 20 = .ok (.if_icmp .ge 34, 3) := by decide +kernel
theorem dX1_next_23 : decode cX1_next 23 = .ok (.iload 4, 2) := by decide +kernel
theorem dX1_next_25 : decode cX1_next 25 = .ok (.iload_n 2, 1) := by decide +kernel
theorem dX1_next_26 : decode cX1_next 26 = .ok (.if_icmp .lt 22, 3) := by decide +kernel
theorem dX1_next_29 : decode cX1_next 29 = .ok (.aload_n 0, 1) := by decide +kernel
theorem dX1_next_30 : decode cX1_next 30 = .ok (.getfield 13, 3) := by decide +kernel
theorem dX1_next_33 : decode cX1_next 33 = .ok (.sipush 256, 3) := by decide +kernel
theorem dX1_next_36 : decode cX1_next 36 = .ok (.iload_n 3, 1) := by decide +kernel
theorem dX1_next_37 : decode cX1_next 37 = .ok (.imul, 1) := by decide +kernel
theorem dX1_next_38 : decode cX1_next 38 = .ok (.iload 4, 2) := by decide +kernel
theorem dX1_next_40 : decode cX1_next 40 = .ok (.iadd, 1) := by decide +kernel
theorem dX1_next_41 : decode cX1_next 41 = .ok (.baload, 1) := by decide +kernel
theorem dX1_next_42 : decode cX1_next 42 = .ok (.ifCond .eq 6, 3) := by decide +kernel
theorem dX1_next_45 : decode cX1_next 45 = .ok (.iload 4, 2) := by decide +kernel
theorem dX1_next_47 : decode cX1_next 47 = .ok (.ireturn, 1) := by decide +kernel
theorem dX1_next_48 : decode cX1_next 48 = .ok (.iinc 4 1, 3) := by decide +kernel
theorem dX1_next_51 : decode cX1_next 51 = .ok (.goto (-36), 3) := by decide +kernel
theorem dX1_next_54 : decode cX1_next 54 = .ok (.sipush 256, 3) := by decide +kernel
theorem dX1_next_57 : decode cX1_next 57 = .ok (.ireturn, 1) := by decide +kernel
theorem dX1_nextChange_0 : decode cX1_nextChange 0 = .ok (.aload_n 0, 1) := by decide +kernel
theorem dX1_nextChange_1 : decode cX1_nextChange 1 = .ok (.iload_n 1, 1) := by decide +kernel
theorem dX1_nextChange_2 : decode cX1_nextChange 2 = .ok (.invokevirtual 35, 3) := by decide +kernel
theorem dX1_nextChange_5 : decode cX1_nextChange 5 = .ok (.istore 4, 2) := by decide +kernel
theorem dX1_nextChange_7 : decode cX1_nextChange 7 = .ok (.aload_n 0, 1) := by decide +kernel
theorem dX1_nextChange_8 : decode cX1_nextChange 8 = .ok (.iload_n 2, 1) := by decide +kernel
theorem dX1_nextChange_9 : decode cX1_nextChange 9 = .ok (.invokevirtual 35, 3) := by decide +kernel
theorem dX1_nextChange_12 : decode cX1_nextChange 12 = .ok (.istore 5, 2) := by decide +kernel
theorem dX1_nextChange_14 : decode cX1_nextChange 14 = .ok (.iload 4, 2) := by decide +kernel
theorem dX1_nextChange_16 : decode cX1_nextChange 16 = .ok (.ifCond .lt 8, 3) := by decide +kernel
theorem dX1_nextChange_19 : decode cX1_nextChange 19 = .ok (.iload 5, 2) := by decide +kernel
theorem dX1_nextChange_21 : decode cX1_nextChange 21 = .ok (.ifCond .ge 5, 3) := by decide +kernel
theorem dX1_nextChange_24 : decode cX1_nextChange 24 = .ok (.iconst (-1), 1) := by decide +kernel
theorem dX1_nextChange_25 : decode cX1_nextChange 25 = .ok (.ireturn, 1) := by decide +kernel
theorem dX1_nextChange_26 : decode cX1_nextChange 26 = .ok (.iconst 0, 1) := by decide +kernel
theorem dX1_nextChange_27 : decode cX1_nextChange 27 = .ok (.istore 6, 2) := by decide +kernel
theorem dX1_nextChange_29 : decode cX1_nextChange 29 = .ok (.iload 6, 2) := by decide +kernel
theorem dX1_nextChange_31 : decode cX1_nextChange 31 = .ok (.sipush 256, 3) := by decide +kernel
theorem dX1_nextChange_34 : decode cX1_nextChange 34 = .ok (.if_icmp .ge 31, 3) := by decide +kernel
theorem dX1_nextChange_37 : decode cX1_nextChange 37 = .ok (.iload 6, 2) := by decide +kernel
theorem dX1_nextChange_39 : decode cX1_nextChange 39 = .ok (.iload_n 3, 1) := by decide +kernel
theorem dX1_nextChange_40 : decode cX1_nextChange 40 = .ok (.if_icmp .lt 19, 3) := by decide +kernel
theorem dX1_nextChange_43 : decode cX1_nextChange 43 = .ok (.aload_n 0, 1) := by decide +kernel
theorem dX1_nextChange_44 : decode cX1_nextChange 44 = .ok (.iload 4, 2) := by decide +kernel
theorem dX1_nextChange_46 : decode cX1_nextChange 46 = .ok (.iload 5, 2) := by decide +kernel
theorem dX1_nextChange_48 : decode cX1_nextChange 48 = .ok (.iload 6, 2) := by decide +kernel
theorem dX1_nextChange_50 : decode cX1_nextChange 50 = .ok (.invokevirtual 38, 3) := by decide +kernel
theorem dX1_nextChange_53 : decode cX1_nextChange 53 = .ok (.ifCond .eq 6, 3) := by decide +kernel
theorem dX1_nextChange_56 : decode cX1_nextChange 56 = .ok (.iload 6, 2) := by decide +kernel
theorem dX1_nextChange_58 : decode cX1_nextChange 58 = .ok (.ireturn, 1) := by decide +kernel
theorem dX1_nextChange_59 : decode cX1_nextChange 59 = .ok (.iinc 6 1, 3) := by decide +kernel
theorem dX1_nextChange_62 : decode cX1_nextChange 62 = .ok (.goto (-33), 3) := by decide +kernel
theorem dX1_nextChange_65 : decode cX1_nextChange 65 = .ok (.sipush 256, 3) := by decide +kernel
theorem dX1_nextChange_68 : decode cX1_nextChange 68 = .ok (.ireturn, 1) := by decide +kernel
theorem dX1_differ_0 : decode cX1_differ 0 = .ok (.aload_n 0, 1) := by decide +kernel
theorem dX1_differ_1 : decode cX1_differ 1 = .ok (.getfield 13, 3) := by decide +kernel
theorem dX1_differ_4 : decode cX1_differ 4 = .ok (.sipush 256, 3) := by decide +kernel
theorem dX1_differ_7 : decode cX1_differ 7 = .ok (.iload_n 1, 1) := by decide +kernel
theorem dX1_differ_8 : decode cX1_differ 8 = .ok (.imul, 1) := by decide +kernel
theorem dX1_differ_9 : decode cX1_differ 9 = .ok (.iload_n 3, 1) := by decide +kernel
theorem dX1_differ_10 : decode cX1_differ 10 = .ok (.iadd, 1) := by decide +kernel
theorem dX1_differ_11 : decode cX1_differ 11 = .ok (.baload, 1) := by decide +kernel
theorem dX1_differ_12 : decode cX1_differ 12 = .ok (.aload_n 0, 1) := by decide +kernel
theorem dX1_differ_13 : decode cX1_differ 13 = .ok (.getfield 13, 3) := by decide +kernel
theorem dX1_differ_16 : decode cX1_differ 16 = .ok (.sipush 256, 3) := by decide +kernel
theorem dX1_differ_19 : decode cX1_differ 19 = .ok (.iload_n 2, 1) := by decide +kernel
theorem dX1_differ_20 : decode cX1_differ 20 = .ok (.imul, 1) := by decide +kernel
theorem dX1_differ_21 : decode cX1_differ 21 = .ok (.iload_n 3, 1) := by decide +kernel
theorem dX1_differ_22 : decode cX1_differ 22 = .ok (.iadd, 1) := by decide +kernel
theorem dX1_differ_23 : decode cX1_differ 23 = .ok (.baload, 1) := by decide +kernel
theorem dX1_differ_24 : decode cX1_differ 24 = .ok (.if_icmp .eq 5, 3) := by decide +kernel
theorem dX1_differ_27 : decode cX1_differ 27 = .ok (.iconst 1, 1) := by decide +kernel
theorem dX1_differ_28 : decode cX1_differ 28 = .ok (.ireturn, 1) := by decide +kernel
theorem dX1_differ_29 : decode cX1_differ 29 = .ok (.aload_n 0, 1) := by decide +kernel
theorem dX1_differ_30 : decode cX1_differ 30 = .ok (.getfield 13, 3) := by decide +kernel
theorem dX1_differ_33 : decode cX1_differ 33 = .ok (.sipush 256, 3) := by decide +kernel
theorem dX1_differ_36 : decode cX1_differ 36 = .ok (.iload_n 1, 1) := by decide +kernel
theorem dX1_differ_37 : decode cX1_differ 37 = .ok (.imul, 1) := by decide +kernel
theorem dX1_differ_38 : decode cX1_differ 38 = .ok (.iload_n 3, 1) := by decide +kernel
theorem dX1_differ_39 : decode cX1_differ 39 = .ok (.iadd, 1) := by decide +kernel
theorem dX1_differ_40 : decode cX1_differ 40 = .ok (.baload, 1) := by decide +kernel
theorem dX1_differ_41 : decode cX1_differ 41 = .ok (.ifCond .eq 34, 3) := by decide +kernel
theorem dX1_differ_44 : decode cX1_differ 44 = .ok (.aload_n 0, 1) := by decide +kernel
theorem dX1_differ_45 : decode cX1_differ 45 = .ok (.getfield 16, 3) := by decide +kernel
theorem dX1_differ_48 : decode cX1_differ 48 = .ok (.sipush 256, 3) := by decide +kernel
theorem dX1_differ_51 : decode cX1_differ 51 = .ok (.iload_n 1, 1) := by decide +kernel
theorem dX1_differ_52 : decode cX1_differ 52 = .ok (.imul, 1) := by decide +kernel
theorem dX1_differ_53 : decode cX1_differ 53 = .ok (.iload_n 3, 1) := by decide +kernel
theorem dX1_differ_54 : decode cX1_differ 54 = .ok (.iadd, 1) := by decide +kernel
theorem dX1_differ_55 : decode cX1_differ 55 = .ok (.iaload, 1) := by decide +kernel
theorem dX1_differ_56 : decode cX1_differ 56 = .ok (.aload_n 0, 1) := by decide +kernel
theorem dX1_differ_57 : decode cX1_differ 57 = .ok (.getfield 16, 3) := by decide +kernel
theorem dX1_differ_60 : decode cX1_differ 60 = .ok (.sipush 256, 3) := by decide +kernel
theorem dX1_differ_63 : decode cX1_differ 63 = .ok (.iload_n 2, 1) := by decide +kernel
theorem dX1_differ_64 : decode cX1_differ 64 = .ok (.imul, 1) := by decide +kernel
theorem dX1_differ_65 : decode cX1_differ 65 = .ok (.iload_n 3, 1) := by decide +kernel
theorem dX1_differ_66 : decode cX1_differ 66 = .ok (.iadd, 1) := by decide +kernel
theorem dX1_differ_67 : decode cX1_differ 67 = .ok (.iaload, 1) := by decide +kernel
theorem dX1_differ_68 : decode cX1_differ 68 = .ok (.if_icmp .eq 7, 3) := by decide +kernel
theorem dX1_differ_71 : decode cX1_differ 71 = .ok (.iconst 1, 1) := by decide +kernel
theorem dX1_differ_72 : decode cX1_differ 72 = .ok (.goto 4, 3) := by decide +kernel
theorem dX1_differ_75 : decode cX1_differ 75 = .ok (.iconst 0, 1) := by decide +kernel
theorem dX1_differ_76 : decode cX1_differ 76 = .ok (.ireturn, 1) := by decide +kernel
theorem dX1_changes_0 : decode cX1_changes 0 = .ok (.aload_n 0, 1) := by decide +kernel
theorem dX1_changes_1 : decode cX1_changes 1 = .ok (.iload_n 1, 1) := by decide +kernel
theorem dX1_changes_2 : decode cX1_changes 2 = .ok (.invokevirtual 35, 3) := by decide +kernel
theorem dX1_changes_5 : decode cX1_changes 5 = .ok (.istore_n 3, 1) := by decide +kernel
theorem dX1_changes_6 : decode cX1_changes 6 = .ok (.aload_n 0, 1) := by decide +kernel
theorem dX1_changes_7 : decode cX1_changes 7 = .ok (.iload_n 2, 1) := by decide +kernel
theorem dX1_changes_8 : decode cX1_changes 8 = .ok (.invokevirtual 35, 3) := by decide +kernel
theorem dX1_changes_11 : decode cX1_changes 11 = .ok (.istore 4, 2) := by decide +kernel
theorem dX1_changes_13 : decode cX1_changes 13 = .ok (.iload_n 3, 1) := by decide +kernel
theorem dX1_changes_14 : decode cX1_changes 14 = .ok (.ifCond .lt 8, 3) := by decide +kernel
theorem dX1_changes_17 : decode cX1_changes 17 = .ok (.iload 4, 2) := by decide +kernel
theorem dX1_changes_19 : decode cX1_changes 19 = .ok (.ifCond .ge 5, 3) := by decide +kernel
theorem dX1_changes_22 : decode cX1_changes 22 = .ok (.iconst (-1), 1) := by decide +kernel
theorem dX1_changes_23 : decode cX1_changes 23 = .ok (.ireturn, 1) := by decide +kernel
theorem dX1_changes_24 : decode cX1_changes 24 = .ok (.iconst 0, 1) := by decide +kernel
theorem dX1_changes_25 : decode cX1_changes 25 = .ok (.istore 5, 2) := by decide +kernel
theorem dX1_changes_27 : decode cX1_changes 27 = .ok (.iconst 0, 1) := by decide +kernel
theorem dX1_changes_28 : decode cX1_changes 28 = .ok (.istore 6, 2) := by decide +kernel
theorem dX1_changes_30 : decode cX1_changes 30 = .ok (.iload 6, 2) := by decide +kernel
theorem dX1_changes_32 : decode cX1_changes 32 = .ok (.sipush 256, 3) := by decide +kernel
theorem dX1_changes_35 : decode cX1_changes 35 = .ok (.if_icmp .ge 24, 3) := by decide +kernel
theorem dX1_changes_38 : decode cX1_changes 38 = .ok (.aload_n 0, 1) := by decide +kernel
theorem dX1_changes_39 : decode cX1_changes 39 = .ok (.iload_n 3, 1) := by decide +kernel
theorem dX1_changes_40 : decode cX1_changes 40 = .ok (.iload 4, 2) := by decide +kernel
theorem dX1_changes_42 : decode cX1_changes 42 = .ok (.iload 6, 2) := by decide +kernel
theorem dX1_changes_44 : decode cX1_changes 44 = .ok (.invokevirtual 38, 3) := by decide +kernel
theorem dX1_changes_47 : decode cX1_changes 47 = .ok (.ifCond .eq 6, 3) := by decide +kernel
theorem dX1_changes_50 : decode cX1_changes 50 = .ok (.iinc 5 1, 3) := by decide +kernel
theorem dX1_changes_53 : decode cX1_changes 53 = .ok (.iinc 6 1, 3) := by decide +kernel
theorem dX1_changes_56 : decode cX1_changes 56 = .ok (.goto (-26), 3) := by decide +kernel
theorem dX1_changes_59 : decode cX1_changes 59 = .ok (.iload 5, 2) := by decide +kernel
theorem dX1_changes_61 : decode cX1_changes 61 = .ok (.ireturn, 1) := by decide +kernel
end
section
set_option maxRecDepth 100000
theorem dL_law_0 : decode cL_law 0 = .ok (.new 7, 3) := by decide +kernel
theorem dL_law_3 : decode cL_law 3 = .ok (.dup, 1) := by decide +kernel
theorem dL_law_4 : decode cL_law 4 = .ok (.invokespecial 9, 3) := by decide +kernel
theorem dL_law_7 : decode cL_law 7 = .ok (.astore_n 1, 1) := by decide +kernel
theorem dL_law_8 : decode cL_law 8 = .ok (.new 10, 3) := by decide +kernel
theorem dL_law_11 : decode cL_law 11 = .ok (.dup, 1) := by decide +kernel
theorem dL_law_12 : decode cL_law 12 = .ok (.invokespecial 12, 3) := by decide +kernel
theorem dL_law_15 : decode cL_law 15 = .ok (.astore_n 2, 1) := by decide +kernel
theorem dL_law_16 : decode cL_law 16 = .ok (.iconst 0, 1) := by decide +kernel
theorem dL_law_17 : decode cL_law 17 = .ok (.istore_n 3, 1) := by decide +kernel
theorem dL_law_18 : decode cL_law 18 = .ok (.iload_n 3, 1) := by decide +kernel
theorem dL_law_19 : decode cL_law 19 = .ok (.aload_n 0, 1) := by decide +kernel
theorem dL_law_20 : decode cL_law 20 = .ok (.arraylength, 1) := by decide +kernel
theorem dL_law_21 : decode cL_law 21 = .ok (.iconst 4, 1) := by decide +kernel
theorem dL_law_22 : decode cL_law 22 = .ok (.isub, 1) := by decide +kernel
theorem dL_law_23 : decode cL_law 23 = .ok (.if_icmp .gt 388, 3) := by decide +kernel
theorem dL_law_26 : decode cL_law 26 = .ok (.aload_n 0, 1) := by decide +kernel
theorem dL_law_27 : decode cL_law 27 = .ok (.iload_n 3, 1) := by decide +kernel
theorem dL_law_28 : decode cL_law 28 = .ok (.iaload, 1) := by decide +kernel
theorem dL_law_29 : decode cL_law 29 = .ok (.bipush 15, 2) := by decide +kernel
theorem dL_law_31 : decode cL_law 31 = .ok (.iand, 1) := by decide +kernel
theorem dL_law_32 : decode cL_law 32 = .ok (.tableswitch 373 0 10 #[60, 93, 116, 129, 152, 175, 208, 241, 264, 297, 340], 60) := by decide +kernel
theorem dL_law_92 : decode cL_law 92 = .ok (.aload_n 1, 1) := by decide +kernel
theorem dL_law_93 : decode cL_law 93 = .ok (.aload_n 0, 1) := by decide +kernel
theorem dL_law_94 : decode cL_law 94 = .ok (.iload_n 3, 1) := by decide +kernel
theorem dL_law_95 : decode cL_law 95 = .ok (.iconst 1, 1) := by decide +kernel
theorem dL_law_96 : decode cL_law 96 = .ok (.iadd, 1) := by decide +kernel
theorem dL_law_97 : decode cL_law 97 = .ok (.iaload, 1) := by decide +kernel
theorem dL_law_98 : decode cL_law 98 = .ok (.aload_n 0, 1) := by decide +kernel
theorem dL_law_99 : decode cL_law 99 = .ok (.iload_n 3, 1) := by decide +kernel
theorem dL_law_100 : decode cL_law 100 = .ok (.iconst 2, 1) := by decide +kernel
theorem dL_law_101 : decode cL_law 101 = .ok (.iadd, 1) := by decide +kernel
theorem dL_law_102 : decode cL_law 102 = .ok (.iaload, 1) := by decide +kernel
theorem dL_law_103 : decode cL_law 103 = .ok (.invokevirtual 13, 3) := by decide +kernel
theorem dL_law_106 : decode cL_law 106 = .ok (.aload_n 2, 1) := by decide +kernel
theorem dL_law_107 : decode cL_law 107 = .ok (.aload_n 0, 1) := by decide +kernel
theorem dL_law_108 : decode cL_law 108 = .ok (.iload_n 3, 1) := by decide +kernel
theorem dL_law_109 : decode cL_law 109 = .ok (.iconst 1, 1) := by decide +kernel
theorem dL_law_110 : decode cL_law 110 = .ok (.iadd, 1) := by decide +kernel
theorem dL_law_111 : decode cL_law 111 = .ok (.iaload, 1) := by decide +kernel
theorem dL_law_112 : decode cL_law 112 = .ok (.aload_n 0, 1) := by decide +kernel
theorem dL_law_113 : decode cL_law 113 = .ok (.iload_n 3, 1) := by decide +kernel
theorem dL_law_114 : decode cL_law 114 = .ok (.iconst 2, 1) := by decide +kernel
theorem dL_law_115 : decode cL_law 115 = .ok (.iadd, 1) := by decide +kernel
theorem dL_law_116 : decode cL_law 116 = .ok (.iaload, 1) := by decide +kernel
theorem dL_law_117 : decode cL_law 117 = .ok (.invokevirtual 17, 3) := by decide +kernel
theorem dL_law_120 : decode cL_law 120 = .ok (.if_icmp .eq 285, 3) := by decide +kernel
theorem dL_law_123 : decode cL_law 123 = .ok (.iconst 0, 1) := by decide +kernel
theorem dL_law_124 : decode cL_law 124 = .ok (.ireturn, 1) := by decide +kernel
theorem dL_law_125 : decode cL_law 125 = .ok (.aload_n 1, 1) := by decide +kernel
theorem dL_law_126 : decode cL_law 126 = .ok (.aload_n 0, 1) := by decide +kernel
theorem dL_law_127 : decode cL_law 127 = .ok (.iload_n 3, 1) := by decide +kernel
theorem dL_law_128 : decode cL_law 128 = .ok (.iconst 1, 1) := by decide +kernel
theorem dL_law_129 : decode cL_law 129 = .ok (.iadd, 1) := by decide +kernel
theorem dL_law_130 : decode cL_law 130 = .ok (.iaload, 1) := by decide +kernel
theorem dL_law_131 : decode cL_law 131 = .ok (.invokevirtual 18, 3) := by decide +kernel
theorem dL_law_134 : decode cL_law 134 = .ok (.aload_n 2, 1) := by decide +kernel
theorem dL_law_135 : decode cL_law 135 = .ok (.aload_n 0, 1) := by decide +kernel
theorem dL_law_136 : decode cL_law 136 = .ok (.iload_n 3, 1) := by decide +kernel
theorem dL_law_137 : decode cL_law 137 = .ok (.iconst 1, 1) := by decide +kernel
theorem dL_law_138 : decode cL_law 138 = .ok (.iadd, 1) := by decide +kernel
theorem dL_law_139 : decode cL_law 139 = .ok (.iaload, 1) := by decide +kernel
theorem dL_law_140 : decode cL_law 140 = .ok (.invokevirtual 22, 3) := by decide +kernel
theorem dL_law_143 : decode cL_law 143 = .ok (.if_icmp .eq 262, 3) := by decide +kernel
theorem dL_law_146 : decode cL_law 146 = .ok (.iconst 0, 1) := by decide +kernel
theorem dL_law_147 : decode cL_law 147 = .ok (.ireturn, 1) := by decide +kernel
theorem dL_law_148 : decode cL_law 148 = .ok (.aload_n 1, 1) := by decide +kernel
theorem dL_law_149 : decode cL_law 149 = .ok (.invokevirtual 23, 3) := by decide +kernel
theorem dL_law_152 : decode cL_law 152 = .ok (.aload_n 2, 1) := by decide +kernel
theorem dL_law_153 : decode cL_law 153 = .ok (.invokevirtual 27, 3) := by decide +kernel
theorem dL_law_156 : decode cL_law 156 = .ok (.if_icmp .eq 249, 3) := by decide +kernel
theorem dL_law_159 : decode cL_law 159 = .ok (.iconst 0, 1) := by decide +kernel
theorem dL_law_160 : decode cL_law 160 = .ok (.ireturn, 1) := by decide +kernel
theorem dL_law_161 : decode cL_law 161 = .ok (.aload_n 1, 1) := by decide +kernel
theorem dL_law_162 : decode cL_law 162 = .ok (.aload_n 0, 1) := by decide +kernel
theorem dL_law_163 : decode cL_law 163 = .ok (.iload_n 3, 1) := by decide +kernel
theorem dL_law_164 : decode cL_law 164 = .ok (.iconst 1, 1) := by decide +kernel
theorem dL_law_165 : decode cL_law 165 = .ok (.iadd, 1) := by decide +kernel
theorem dL_law_166 : decode cL_law 166 = .ok (.iaload, 1) := by decide +kernel
theorem dL_law_167 : decode cL_law 167 = .ok (.invokevirtual 28, 3) := by decide +kernel
theorem dL_law_170 : decode cL_law 170 = .ok (.aload_n 2, 1) := by decide +kernel
theorem dL_law_171 : decode cL_law 171 = .ok (.aload_n 0, 1) := by decide +kernel
theorem dL_law_172 : decode cL_law 172 = .ok (.iload_n 3, 1) := by decide +kernel
theorem dL_law_173 : decode cL_law 173 = .ok (.iconst 1, 1) := by decide +kernel
theorem dL_law_174 : decode cL_law 174 = .ok (.iadd, 1) := by decide +kernel
theorem dL_law_175 : decode cL_law 175 = .ok (.iaload, 1) := by decide +kernel
theorem dL_law_176 : decode cL_law 176 = .ok (.invokevirtual 31, 3) := by decide +kernel
theorem dL_law_179 : decode cL_law 179 = .ok (.if_icmp .eq 226, 3) := by decide +kernel
theorem dL_law_182 : decode cL_law 182 = .ok (.iconst 0, 1) := by decide +kernel
theorem dL_law_183 : decode cL_law 183 = .ok (.ireturn, 1) := by decide +kernel
theorem dL_law_184 : decode cL_law 184 = .ok (.aload_n 1, 1) := by decide +kernel
theorem dL_law_185 : decode cL_law 185 = .ok (.aload_n 0, 1) := by decide +kernel
theorem dL_law_186 : decode cL_law 186 = .ok (.iload_n 3, 1) := by decide +kernel
theorem dL_law_187 : decode cL_law 187 = .ok (.iconst 1, 1) := by decide +kernel
theorem dL_law_188 : decode cL_law 188 = .ok (.iadd, 1) := by decide +kernel
theorem dL_law_189 : decode cL_law 189 = .ok (.iaload, 1) := by decide +kernel
theorem dL_law_190 : decode cL_law 190 = .ok (.invokevirtual 32, 3) := by decide +kernel
theorem dL_law_193 : decode cL_law 193 = .ok (.aload_n 2, 1) := by decide +kernel
theorem dL_law_194 : decode cL_law 194 = .ok (.aload_n 0, 1) := by decide +kernel
theorem dL_law_195 : decode cL_law 195 = .ok (.iload_n 3, 1) := by decide +kernel
theorem dL_law_196 : decode cL_law 196 = .ok (.iconst 1, 1) := by decide +kernel
theorem dL_law_197 : decode cL_law 197 = .ok (.iadd, 1) := by decide +kernel
theorem dL_law_198 : decode cL_law 198 = .ok (.iaload, 1) := by decide +kernel
theorem dL_law_199 : decode cL_law 199 = .ok (.invokevirtual 35, 3) := by decide +kernel
theorem dL_law_202 : decode cL_law 202 = .ok (.if_icmp .eq 203, 3) := by decide +kernel
theorem dL_law_205 : decode cL_law 205 = .ok (.iconst 0, 1) := by decide +kernel
theorem dL_law_206 : decode cL_law 206 = .ok (.ireturn, 1) := by decide +kernel
theorem dL_law_207 : decode cL_law 207 = .ok (.aload_n 1, 1) := by decide +kernel
theorem dL_law_208 : decode cL_law 208 = .ok (.aload_n 0, 1) := by decide +kernel
theorem dL_law_209 : decode cL_law 209 = .ok (.iload_n 3, 1) := by decide +kernel
theorem dL_law_210 : decode cL_law 210 = .ok (.iconst 1, 1) := by decide +kernel
theorem dL_law_211 : decode cL_law 211 = .ok (.iadd, 1) := by decide +kernel
theorem dL_law_212 : decode cL_law 212 = .ok (.iaload, 1) := by decide +kernel
theorem dL_law_213 : decode cL_law 213 = .ok (.aload_n 0, 1) := by decide +kernel
theorem dL_law_214 : decode cL_law 214 = .ok (.iload_n 3, 1) := by decide +kernel
theorem dL_law_215 : decode cL_law 215 = .ok (.iconst 2, 1) := by decide +kernel
theorem dL_law_216 : decode cL_law 216 = .ok (.iadd, 1) := by decide +kernel
theorem dL_law_217 : decode cL_law 217 = .ok (.iaload, 1) := by decide +kernel
theorem dL_law_218 : decode cL_law 218 = .ok (.invokevirtual 36, 3) := by decide +kernel
theorem dL_law_221 : decode cL_law 221 = .ok (.aload_n 2, 1) := by decide +kernel
theorem dL_law_222 : decode cL_law 222 = .ok (.aload_n 0, 1) := by decide +kernel
theorem dL_law_223 : decode cL_law 223 = .ok (.iload_n 3, 1) := by decide +kernel
theorem dL_law_224 : decode cL_law 224 = .ok (.iconst 1, 1) := by decide +kernel
theorem dL_law_225 : decode cL_law 225 = .ok (.iadd, 1) := by decide +kernel
theorem dL_law_226 : decode cL_law 226 = .ok (.iaload, 1) := by decide +kernel
theorem dL_law_227 : decode cL_law 227 = .ok (.aload_n 0, 1) := by decide +kernel
theorem dL_law_228 : decode cL_law 228 = .ok (.iload_n 3, 1) := by decide +kernel
theorem dL_law_229 : decode cL_law 229 = .ok (.iconst 2, 1) := by decide +kernel
theorem dL_law_230 : decode cL_law 230 = .ok (.iadd, 1) := by decide +kernel
theorem dL_law_231 : decode cL_law 231 = .ok (.iaload, 1) := by decide +kernel
theorem dL_law_232 : decode cL_law 232 = .ok (.invokevirtual 39, 3) := by decide +kernel
theorem dL_law_235 : decode cL_law 235 = .ok (.if_icmp .eq 170, 3) := by decide +kernel
theorem dL_law_238 : decode cL_law 238 = .ok (.iconst 0, 1) := by decide +kernel
theorem dL_law_239 : decode cL_law 239 = .ok (.ireturn, 1) := by decide +kernel
theorem dL_law_240 : decode cL_law 240 = .ok (.aload_n 1, 1) := by decide +kernel
theorem dL_law_241 : decode cL_law 241 = .ok (.aload_n 0, 1) := by decide +kernel
theorem dL_law_242 : decode cL_law 242 = .ok (.iload_n 3, 1) := by decide +kernel
end
section
set_option maxRecDepth 100000
theorem dL_law_243 : decode cL_law 243 = .ok (.iconst 1, 1) := by decide +kernel
theorem dL_law_244 : decode cL_law 244 = .ok (.iadd, 1) := by decide +kernel
theorem dL_law_245 : decode cL_law 245 = .ok (.iaload, 1) := by decide +kernel
theorem dL_law_246 : decode cL_law 246 = .ok (.aload_n 0, 1) := by decide +kernel
theorem dL_law_247 : decode cL_law 247 = .ok (.iload_n 3, 1) := by decide +kernel
theorem dL_law_248 : decode cL_law 248 = .ok (.iconst 2, 1) := by decide +kernel
theorem dL_law_249 : decode cL_law 249 = .ok (.iadd, 1) := by decide +kernel
theorem dL_law_250 : decode cL_law 250 = .ok (.iaload, 1) := by decide +kernel
theorem dL_law_251 : decode cL_law 251 = .ok (.invokevirtual 40, 3) := by decide +kernel
theorem dL_law_254 : decode cL_law 254 = .ok (.aload_n 2, 1) := by decide +kernel
theorem dL_law_255 : decode cL_law 255 = .ok (.aload_n 0, 1) := by decide +kernel
theorem dL_law_256 : decode cL_law 256 = .ok (.iload_n 3, 1) := by decide +kernel
theorem dL_law_257 : decode cL_law 257 = .ok (.iconst 1, 1) := by decide +kernel
theorem dL_law_258 : decode cL_law 258 = .ok (.iadd, 1) := by decide +kernel
theorem dL_law_259 : decode cL_law 259 = .ok (.iaload, 1) := by decide +kernel
theorem dL_law_260 : decode cL_law 260 = .ok (.aload_n 0, 1) := by decide +kernel
theorem dL_law_261 : decode cL_law 261 = .ok (.iload_n 3, 1) := by decide +kernel
theorem dL_law_262 : decode cL_law 262 = .ok (.iconst 2, 1) := by decide +kernel
theorem dL_law_263 : decode cL_law 263 = .ok (.iadd, 1) := by decide +kernel
theorem dL_law_264 : decode cL_law 264 = .ok (.iaload, 1) := by decide +kernel
theorem dL_law_265 : decode cL_law 265 = .ok (.invokevirtual 43, 3) := by decide +kernel
theorem dL_law_268 : decode cL_law 268 = .ok (.if_icmp .eq 137, 3) := by decide +kernel
theorem dL_law_271 : decode cL_law 271 = .ok (.iconst 0, 1) := by decide +kernel
theorem dL_law_272 : decode cL_law 272 = .ok (.ireturn, 1) := by decide +kernel
theorem dL_law_273 : decode cL_law 273 = .ok (.aload_n 1, 1) := by decide +kernel
theorem dL_law_274 : decode cL_law 274 = .ok (.aload_n 0, 1) := by decide +kernel
theorem dL_law_275 : decode cL_law 275 = .ok (.iload_n 3, 1) := by decide +kernel
theorem dL_law_276 : decode cL_law 276 = .ok (.iconst 1, 1) := by decide +kernel
theorem dL_law_277 : decode cL_law 277 = .ok (.iadd, 1) := by decide +kernel
theorem dL_law_278 : decode cL_law 278 = .ok (.iaload, 1) := by decide +kernel
theorem dL_law_279 : decode cL_law 279 = .ok (.invokevirtual 44, 3) := by decide +kernel
theorem dL_law_282 : decode cL_law 282 = .ok (.aload_n 2, 1) := by decide +kernel
theorem dL_law_283 : decode cL_law 283 = .ok (.aload_n 0, 1) := by decide +kernel
theorem dL_law_284 : decode cL_law 284 = .ok (.iload_n 3, 1) := by decide +kernel
theorem dL_law_285 : decode cL_law 285 = .ok (.iconst 1, 1) := by decide +kernel
theorem dL_law_286 : decode cL_law 286 = .ok (.iadd, 1) := by decide +kernel
theorem dL_law_287 : decode cL_law 287 = .ok (.iaload, 1) := by decide +kernel
theorem dL_law_288 : decode cL_law 288 = .ok (.invokevirtual 47, 3) := by decide +kernel
theorem dL_law_291 : decode cL_law 291 = .ok (.if_icmp .eq 114, 3) := by decide +kernel
theorem dL_law_294 : decode cL_law 294 = .ok (.iconst 0, 1) := by decide +kernel
theorem dL_law_295 : decode cL_law 295 = .ok (.ireturn, 1) := by decide +kernel
theorem dL_law_296 : decode cL_law 296 = .ok (.aload_n 1, 1) := by decide +kernel
theorem dL_law_297 : decode cL_law 297 = .ok (.aload_n 0, 1) := by decide +kernel
theorem dL_law_298 : decode cL_law 298 = .ok (.iload_n 3, 1) := by decide +kernel
theorem dL_law_299 : decode cL_law 299 = .ok (.iconst 1, 1) := by decide +kernel
theorem dL_law_300 : decode cL_law 300 = .ok (.iadd, 1) := by decide +kernel
theorem dL_law_301 : decode cL_law 301 = .ok (.iaload, 1) := by decide +kernel
theorem dL_law_302 : decode cL_law 302 = .ok (.aload_n 0, 1) := by decide +kernel
theorem dL_law_303 : decode cL_law 303 = .ok (.iload_n 3, 1) := by decide +kernel
theorem dL_law_304 : decode cL_law 304 = .ok (.iconst 2, 1) := by decide +kernel
theorem dL_law_305 : decode cL_law 305 = .ok (.iadd, 1) := by decide +kernel
theorem dL_law_306 : decode cL_law 306 = .ok (.iaload, 1) := by decide +kernel
theorem dL_law_307 : decode cL_law 307 = .ok (.invokevirtual 48, 3) := by decide +kernel
theorem dL_law_310 : decode cL_law 310 = .ok (.aload_n 2, 1) := by decide +kernel
theorem dL_law_311 : decode cL_law 311 = .ok (.aload_n 0, 1) := by decide +kernel
theorem dL_law_312 : decode cL_law 312 = .ok (.iload_n 3, 1) := by decide +kernel
theorem dL_law_313 : decode cL_law 313 = .ok (.iconst 1, 1) := by decide +kernel
theorem dL_law_314 : decode cL_law 314 = .ok (.iadd, 1) := by decide +kernel
theorem dL_law_315 : decode cL_law 315 = .ok (.iaload, 1) := by decide +kernel
theorem dL_law_316 : decode cL_law 316 = .ok (.aload_n 0, 1) := by decide +kernel
theorem dL_law_317 : decode cL_law 317 = .ok (.iload_n 3, 1) := by decide +kernel
theorem dL_law_318 : decode cL_law 318 = .ok (.iconst 2, 1) := by decide +kernel
theorem dL_law_319 : decode cL_law 319 = .ok (.iadd, 1) := by decide +kernel
theorem dL_law_320 : decode cL_law 320 = .ok (.iaload, 1) := by decide +kernel
theorem dL_law_321 : decode cL_law 321 = .ok (.invokevirtual 51, 3) := by decide +kernel
theorem dL_law_324 : decode cL_law 324 = .ok (.if_icmp .eq 81, 3) := by decide +kernel
theorem dL_law_327 : decode cL_law 327 = .ok (.iconst 0, 1) := by decide +kernel
theorem dL_law_328 : decode cL_law 328 = .ok (.ireturn, 1) := by decide +kernel
theorem dL_law_329 : decode cL_law 329 = .ok (.aload_n 1, 1) := by decide +kernel
theorem dL_law_330 : decode cL_law 330 = .ok (.aload_n 0, 1) := by decide +kernel
theorem dL_law_331 : decode cL_law 331 = .ok (.iload_n 3, 1) := by decide +kernel
theorem dL_law_332 : decode cL_law 332 = .ok (.iconst 1, 1) := by decide +kernel
theorem dL_law_333 : decode cL_law 333 = .ok (.iadd, 1) := by decide +kernel
theorem dL_law_334 : decode cL_law 334 = .ok (.iaload, 1) := by decide +kernel
theorem dL_law_335 : decode cL_law 335 = .ok (.aload_n 0, 1) := by decide +kernel
theorem dL_law_336 : decode cL_law 336 = .ok (.iload_n 3, 1) := by decide +kernel
theorem dL_law_337 : decode cL_law 337 = .ok (.iconst 2, 1) := by decide +kernel
theorem dL_law_338 : decode cL_law 338 = .ok (.iadd, 1) := by decide +kernel
theorem dL_law_339 : decode cL_law 339 = .ok (.iaload, 1) := by decide +kernel
theorem dL_law_340 : decode cL_law 340 = .ok (.aload_n 0, 1) := by decide +kernel
theorem dL_law_341 : decode cL_law 341 = .ok (.iload_n 3, 1) := by decide +kernel
theorem dL_law_342 : decode cL_law 342 = .ok (.iconst 3, 1) := by decide +kernel
theorem dL_law_343 : decode cL_law 343 = .ok (.iadd, 1) := by decide +kernel
theorem dL_law_344 : decode cL_law 344 = .ok (.iaload, 1) := by decide +kernel
theorem dL_law_345 : decode cL_law 345 = .ok (.invokevirtual 52, 3) := by decide +kernel
theorem dL_law_348 : decode cL_law 348 = .ok (.aload_n 2, 1) := by decide +kernel
theorem dL_law_349 : decode cL_law 349 = .ok (.aload_n 0, 1) := by decide +kernel
theorem dL_law_350 : decode cL_law 350 = .ok (.iload_n 3, 1) := by decide +kernel
theorem dL_law_351 : decode cL_law 351 = .ok (.iconst 1, 1) := by decide +kernel
theorem dL_law_352 : decode cL_law 352 = .ok (.iadd, 1) := by decide +kernel
theorem dL_law_353 : decode cL_law 353 = .ok (.iaload, 1) := by decide +kernel
theorem dL_law_354 : decode cL_law 354 = .ok (.aload_n 0, 1) := by decide +kernel
theorem dL_law_355 : decode cL_law 355 = .ok (.iload_n 3, 1) := by decide +kernel
theorem dL_law_356 : decode cL_law 356 = .ok (.iconst 2, 1) := by decide +kernel
theorem dL_law_357 : decode cL_law 357 = .ok (.iadd, 1) := by decide +kernel
theorem dL_law_358 : decode cL_law 358 = .ok (.iaload, 1) := by decide +kernel
theorem dL_law_359 : decode cL_law 359 = .ok (.aload_n 0, 1) := by decide +kernel
theorem dL_law_360 : decode cL_law 360 = .ok (.iload_n 3, 1) := by decide +kernel
theorem dL_law_361 : decode cL_law 361 = .ok (.iconst 3, 1) := by decide +kernel
theorem dL_law_362 : decode cL_law 362 = .ok (.iadd, 1) := by decide +kernel
theorem dL_law_363 : decode cL_law 363 = .ok (.iaload, 1) := by decide +kernel
theorem dL_law_364 : decode cL_law 364 = .ok (.invokevirtual 56, 3) := by decide +kernel
theorem dL_law_367 : decode cL_law 367 = .ok (.if_icmp .eq 38, 3) := by decide +kernel
theorem dL_law_370 : decode cL_law 370 = .ok (.iconst 0, 1) := by decide +kernel
theorem dL_law_371 : decode cL_law 371 = .ok (.ireturn, 1) := by decide +kernel
theorem dL_law_372 : decode cL_law 372 = .ok (.aload_n 1, 1) := by decide +kernel
theorem dL_law_373 : decode cL_law 373 = .ok (.aload_n 0, 1) := by decide +kernel
theorem dL_law_374 : decode cL_law 374 = .ok (.iload_n 3, 1) := by decide +kernel
theorem dL_law_375 : decode cL_law 375 = .ok (.iconst 1, 1) := by decide +kernel
theorem dL_law_376 : decode cL_law 376 = .ok (.iadd, 1) := by decide +kernel
theorem dL_law_377 : decode cL_law 377 = .ok (.iaload, 1) := by decide +kernel
theorem dL_law_378 : decode cL_law 378 = .ok (.aload_n 0, 1) := by decide +kernel
theorem dL_law_379 : decode cL_law 379 = .ok (.iload_n 3, 1) := by decide +kernel
theorem dL_law_380 : decode cL_law 380 = .ok (.iconst 2, 1) := by decide +kernel
theorem dL_law_381 : decode cL_law 381 = .ok (.iadd, 1) := by decide +kernel
theorem dL_law_382 : decode cL_law 382 = .ok (.iaload, 1) := by decide +kernel
theorem dL_law_383 : decode cL_law 383 = .ok (.invokevirtual 57, 3) := by decide +kernel
theorem dL_law_386 : decode cL_law 386 = .ok (.aload_n 2, 1) := by decide +kernel
theorem dL_law_387 : decode cL_law 387 = .ok (.aload_n 0, 1) := by decide +kernel
theorem dL_law_388 : decode cL_law 388 = .ok (.iload_n 3, 1) := by decide +kernel
theorem dL_law_389 : decode cL_law 389 = .ok (.iconst 1, 1) := by decide +kernel
theorem dL_law_390 : decode cL_law 390 = .ok (.iadd, 1) := by decide +kernel
theorem dL_law_391 : decode cL_law 391 = .ok (.iaload, 1) := by decide +kernel
theorem dL_law_392 : decode cL_law 392 = .ok (.aload_n 0, 1) := by decide +kernel
theorem dL_law_393 : decode cL_law 393 = .ok (.iload_n 3, 1) := by decide +kernel
theorem dL_law_394 : decode cL_law 394 = .ok (.iconst 2, 1) := by decide +kernel
theorem dL_law_395 : decode cL_law 395 = .ok (.iadd, 1) := by decide +kernel
theorem dL_law_396 : decode cL_law 396 = .ok (.iaload, 1) := by decide +kernel
theorem dL_law_397 : decode cL_law 397 = .ok (.invokevirtual 60, 3) := by decide +kernel
theorem dL_law_400 : decode cL_law 400 = .ok (.if_icmp .eq 5, 3) := by decide +kernel
theorem dL_law_403 : decode cL_law 403 = .ok (.iconst 0, 1) := by decide +kernel
theorem dL_law_404 : decode cL_law 404 = .ok (.ireturn, 1) := by decide +kernel
theorem dL_law_405 : decode cL_law 405 = .ok (.iinc 3 4, 3) := by decide +kernel
theorem dL_law_408 : decode cL_law 408 = .ok (.goto (-390), 3) := by decide +kernel
theorem dL_law_411 : decode cL_law 411 = .ok (.iconst 1, 1) := by decide +kernel
theorem dL_law_412 : decode cL_law 412 = .ok (.ireturn, 1) := by decide +kernel
end
section
/-! base: the worlds of the two classes, rows for their fields and arrays, calls, contracts -/
abbrev sn_cl : List vw_C := [(RX0, TX0, 8), (RX1, TX1, 3)]
def sn_ushr (x y : Int32) : Int32 := (x.toUInt32 >>> (y.toUInt32 &&& Int32.toUInt32 31)).toInt32
abbrev sn_pwX0 (h0 : Nat) (ad : Nat → Nat) (cs : Nat → ClassId) (f0 f1 f2 f3 f4 f5 f6 f7 : Nat → Int32) : va_W := [(h0, .inr (0, [.ref (ad 0), .ref (ad 1), .ref (ad 2), .ref (ad 3), .ref (ad 4), .ref (ad 5), .ref (ad 6), .ref (ad 7)])), (ad 0, .inl (cs 0, 1600, .inl f0)), (ad 1, .inl (cs 1, 400, .inl f1)), (ad 2, .inl (cs 2, 400, .inl f2)), (ad 3, .inl (cs 3, 8, .inl f3)), (ad 4, .inl (cs 4, 8, .inl f4)), (ad 5, .inl (cs 5, 8, .inl f5)), (ad 6, .inl (cs 6, 4, .inl f6)), (ad 7, .inl (cs 7, 16, .inl f7))]
abbrev sn_tyX0 (cs : Nat → ClassId) : List (ClassId × FieldType) := [(cs 0, .int), (cs 1, .int), (cs 2, .int), (cs 3, .boolean), (cs 4, .int), (cs 5, .int), (cs 6, .int), (cs 7, .int)]
abbrev sn_pwX1 (h0 : Nat) (ad : Nat → Nat) (cs : Nat → ClassId) (f0 f1 f2 : Nat → Int32) : va_W := [(h0, .inr (1, [.ref (ad 0), .ref (ad 1), .ref (ad 2)])), (ad 0, .inl (cs 0, 8, .inl f0)), (ad 1, .inl (cs 1, 2048, .inl f1)), (ad 2, .inl (cs 2, 2048, .inl f2))]
abbrev sn_tyX1 (cs : Nat → ClassId) : List (ClassId × FieldType) := [(cs 0, .boolean), (cs 1, .boolean), (cs 2, .int)]
abbrev sn_PX (D : va_G) (tys : List (ClassId × FieldType)) (ws : va_W) (sz : Nat) : State → Prop := fun U => U.heap.size = sz ∧ va_P D sn_cl ws U.heap ∧ va_K D sn_cl tys U ∧ va_D (fun _ => True) ws
abbrev sn_BX (D : va_G) (tys : List (ClassId × FieldType)) (A : Nat → Prop) (ws : va_W) (t : State) : Prop := va_P D sn_cl ws t.heap ∧ va_K D sn_cl tys t ∧ va_D A ws
abbrev sn_BX0 (D : va_G) (A : Nat → Prop) (h0 : Nat) (ad : Nat → Nat) (cs : Nat → ClassId) (f0 f1 f2 f3 f4 f5 f6 f7 : Nat → Int32) (t : State) : Prop := sn_BX D (sn_tyX0 cs) A (sn_pwX0 h0 ad cs f0 f1 f2 f3 f4 f5 f6 f7) t
abbrev sn_BX1 (D : va_G) (A : Nat → Prop) (h0 : Nat) (ad : Nat → Nat) (cs : Nat → ClassId) (f0 f1 f2 : Nat → Int32) (t : State) : Prop := sn_BX D (sn_tyX1 cs) A (sn_pwX1 h0 ad cs f0 f1 f2) t
/-- what holds all through a method -/
def sn_Cx (cc : ByteArray) (nL : Nat) (ret : Option FieldType) (RC : String) (p : Program) (s : State) (m : MethodId) (meth : Method) (c : Code) (args : Array Value) (A : Nat → Prop) (D : va_G) (tys : List (ClassId × FieldType)) : Prop := p.tables.exec = Jvm.exec ∧ c.code = cc ∧ meth.sig.returnType = ret ∧ meth.locks = false ∧ c.maxLocals = nL ∧ s.vm.findClass RC = some m.cls ∧ (∀ w ∈ lw_all, w.before args s = true) ∧ (∀ q : Nat, s.heap.size ≤ q → A q) ∧ va_K D sn_cl tys s
def sn_CxS (cc : ByteArray) (nL : Nat) (ret : Option FieldType) (RC : String) (p : Program) (s : State) (m : MethodId) (meth : Method) (c : Code) (args : Array Value) (A : Nat → Prop) : Prop := p.tables.exec = Jvm.exec ∧ c.code = cc ∧ meth.sig.returnType = ret ∧ meth.locks = false ∧ c.maxLocals = nL ∧ s.vm.findClass RC = some m.cls ∧ (∀ w ∈ lw_all, w.before args s = true) ∧ ∀ q : Nat, s.heap.size ≤ q → A q
section GTX0
variable {p : Program} {l : Launch} {e : Env} {R : Room} {s : State} {m : MethodId} {args : Array Value} {below : List Frame} {meth : Method} {c : Code} {H : Heap} {locs : List Loc} {cells slots : Nat} {Q : State → Prop} {cc : ByteArray} {nL : Nat} {ret : Option FieldType} {pc : Nat} {ls : Array Slot} {rest : List Value} {A : Nat → Prop} {D : va_G} {h0 : Nat} {ad : Nat → Nat} {cs : Nat → ClassId} {f0 f1 f2 f3 f4 f5 f6 f7 : Nat → Int32}
theorem sn_gtX0_0 (C0 : sn_Cx cc nL ret RX0 p s m meth c args A D (sn_tyX0 cs)) (hP : va_P D sn_cl (sn_pwX0 h0 ad cs f0 f1 f2 f3 f4 f5 f6 f7) H) (hdg : decode cc pc = .ok (.getfield 7, 3)) (kk : W p l e R s m args below meth c H locs cells slots Q (F0 m (pc + 3) ls (.ref (ad 0) :: rest))) : W p l e R s m args below meth c H locs cells slots Q (F0 m pc ls (.ref h0 :: rest)) := by
  obtain ⟨hx, hb, hr, hlocks, hml, hown, hts, hA, hK⟩ := C0
  exact va_get (D := D) (ci := 0) (v := .ref (ad 0)) (C := RX0) (T := TX0) (N := 8) hx hb hts in_X0 hown hK hP 0 rfl rfl 0 (by decide) (hts _ q29) (fun _ h9 => h9) rfl hdg kk
theorem sn_ldX0_0 (C0 : sn_Cx cc nL ret RX0 p s m meth c args A D (sn_tyX0 cs)) (hP : va_P D sn_cl (sn_pwX0 h0 ad cs f0 f1 f2 f3 f4 f5 f6 f7) H) {i : Int32} (hin : vp_in i 1600) (hdg : decode cc pc = .ok (.iaload, 1)) (kk : W p l e R s m args below meth c H locs cells slots Q (F0 m (pc + 1) ls (.int (f0 i.toNatClampNeg) :: rest))) : W p l e R s m args below meth c H locs cells slots Q (F0 m pc ls (.int i :: .ref (ad 0) :: rest)) := by
  obtain ⟨hx, hb, hr, hlocks, hml, hown, hts, hA, hK⟩ := C0
  exact va_iald hx hb hK hP 1 0 rfl rfl hin hdg kk
theorem sn_stX0_0 (C0 : sn_Cx cc nL ret RX0 p s m meth c args A D (sn_tyX0 cs)) (hP : va_P D sn_cl (sn_pwX0 h0 ad cs f0 f1 f2 f3 f4 f5 f6 f7) H) (hD : va_D A (sn_pwX0 h0 ad cs f0 f1 f2 f3 f4 f5 f6 f7)) (hS : va_S A s.heap H locs) {i x : Int32} (hin : vp_in i 1600) (hdg : decode cc pc = .ok (.iastore, 1)) (kk : ∀ (H1 : Heap) (locs1 : List Loc), va_P D sn_cl (sn_pwX0 h0 ad cs (upd f0 i.toNatClampNeg x) f1 f2 f3 f4 f5 f6 f7) H1 → va_D A (sn_pwX0 h0 ad cs (upd f0 i.toNatClampNeg x) f1 f2 f3 f4 f5 f6 f7) → va_S A s.heap H1 locs1 → W p l e R s m args below meth c H1 locs1 cells slots Q (F0 m (pc + 1) ls rest)) : W p l e R s m args below meth c H locs cells slots Q (F0 m pc ls (.int x :: .int i :: .ref (ad 0) :: rest)) := by
  obtain ⟨hx, hb, hr, hlocks, hml, hown, hts, hA, hK⟩ := C0
  exact va_iast hx hb hK hP hD hS 1 0 rfl rfl hin hdg kk
theorem sn_gtX0_1 (C0 : sn_Cx cc nL ret RX0 p s m meth c args A D (sn_tyX0 cs)) (hP : va_P D sn_cl (sn_pwX0 h0 ad cs f0 f1 f2 f3 f4 f5 f6 f7) H) (hdg : decode cc pc = .ok (.getfield 13, 3)) (kk : W p l e R s m args below meth c H locs cells slots Q (F0 m (pc + 3) ls (.ref (ad 1) :: rest))) : W p l e R s m args below meth c H locs cells slots Q (F0 m pc ls (.ref h0 :: rest)) := by
  obtain ⟨hx, hb, hr, hlocks, hml, hown, hts, hA, hK⟩ := C0
  exact va_get (D := D) (ci := 0) (v := .ref (ad 1)) (C := RX0) (T := TX0) (N := 8) hx hb hts in_X0 hown hK hP 0 rfl rfl 1 (by decide) (hts _ q30) (fun _ h9 => h9) rfl hdg kk
theorem sn_ldX0_1 (C0 : sn_Cx cc nL ret RX0 p s m meth c args A D (sn_tyX0 cs)) (hP : va_P D sn_cl (sn_pwX0 h0 ad cs f0 f1 f2 f3 f4 f5 f6 f7) H) {i : Int32} (hin : vp_in i 400) (hdg : decode cc pc = .ok (.iaload, 1)) (kk : W p l e R s m args below meth c H locs cells slots Q (F0 m (pc + 1) ls (.int (f1 i.toNatClampNeg) :: rest))) : W p l e R s m args below meth c H locs cells slots Q (F0 m pc ls (.int i :: .ref (ad 1) :: rest)) := by
  obtain ⟨hx, hb, hr, hlocks, hml, hown, hts, hA, hK⟩ := C0
  exact va_iald hx hb hK hP 2 1 rfl rfl hin hdg kk
theorem sn_stX0_1 (C0 : sn_Cx cc nL ret RX0 p s m meth c args A D (sn_tyX0 cs)) (hP : va_P D sn_cl (sn_pwX0 h0 ad cs f0 f1 f2 f3 f4 f5 f6 f7) H) (hD : va_D A (sn_pwX0 h0 ad cs f0 f1 f2 f3 f4 f5 f6 f7)) (hS : va_S A s.heap H locs) {i x : Int32} (hin : vp_in i 400) (hdg : decode cc pc = .ok (.iastore, 1)) (kk : ∀ (H1 : Heap) (locs1 : List Loc), va_P D sn_cl (sn_pwX0 h0 ad cs f0 (upd f1 i.toNatClampNeg x) f2 f3 f4 f5 f6 f7) H1 → va_D A (sn_pwX0 h0 ad cs f0 (upd f1 i.toNatClampNeg x) f2 f3 f4 f5 f6 f7) → va_S A s.heap H1 locs1 → W p l e R s m args below meth c H1 locs1 cells slots Q (F0 m (pc + 1) ls rest)) : W p l e R s m args below meth c H locs cells slots Q (F0 m pc ls (.int x :: .int i :: .ref (ad 1) :: rest)) := by
  obtain ⟨hx, hb, hr, hlocks, hml, hown, hts, hA, hK⟩ := C0
  exact va_iast hx hb hK hP hD hS 2 1 rfl rfl hin hdg kk
theorem sn_gtX0_2 (C0 : sn_Cx cc nL ret RX0 p s m meth c args A D (sn_tyX0 cs)) (hP : va_P D sn_cl (sn_pwX0 h0 ad cs f0 f1 f2 f3 f4 f5 f6 f7) H) (hdg : decode cc pc = .ok (.getfield 16, 3)) (kk : W p l e R s m args below meth c H locs cells slots Q (F0 m (pc + 3) ls (.ref (ad 2) :: rest))) : W p l e R s m args below meth c H locs cells slots Q (F0 m pc ls (.ref h0 :: rest)) := by
  obtain ⟨hx, hb, hr, hlocks, hml, hown, hts, hA, hK⟩ := C0
  exact va_get (D := D) (ci := 0) (v := .ref (ad 2)) (C := RX0) (T := TX0) (N := 8) hx hb hts in_X0 hown hK hP 0 rfl rfl 2 (by decide) (hts _ q31) (fun _ h9 => h9) rfl hdg kk
theorem sn_ldX0_2 (C0 : sn_Cx cc nL ret RX0 p s m meth c args A D (sn_tyX0 cs)) (hP : va_P D sn_cl (sn_pwX0 h0 ad cs f0 f1 f2 f3 f4 f5 f6 f7) H) {i : Int32} (hin : vp_in i 400) (hdg : decode cc pc = .ok (.iaload, 1)) (kk : W p l e R s m args below meth c H locs cells slots Q (F0 m (pc + 1) ls (.int (f2 i.toNatClampNeg) :: rest))) : W p l e R s m args below meth c H locs cells slots Q (F0 m pc ls (.int i :: .ref (ad 2) :: rest)) := by
  obtain ⟨hx, hb, hr, hlocks, hml, hown, hts, hA, hK⟩ := C0
  exact va_iald hx hb hK hP 3 2 rfl rfl hin hdg kk
theorem sn_stX0_2 (C0 : sn_Cx cc nL ret RX0 p s m meth c args A D (sn_tyX0 cs)) (hP : va_P D sn_cl (sn_pwX0 h0 ad cs f0 f1 f2 f3 f4 f5 f6 f7) H) (hD : va_D A (sn_pwX0 h0 ad cs f0 f1 f2 f3 f4 f5 f6 f7)) (hS : va_S A s.heap H locs) {i x : Int32} (hin : vp_in i 400) (hdg : decode cc pc = .ok (.iastore, 1)) (kk : ∀ (H1 : Heap) (locs1 : List Loc), va_P D sn_cl (sn_pwX0 h0 ad cs f0 f1 (upd f2 i.toNatClampNeg x) f3 f4 f5 f6 f7) H1 → va_D A (sn_pwX0 h0 ad cs f0 f1 (upd f2 i.toNatClampNeg x) f3 f4 f5 f6 f7) → va_S A s.heap H1 locs1 → W p l e R s m args below meth c H1 locs1 cells slots Q (F0 m (pc + 1) ls rest)) : W p l e R s m args below meth c H locs cells slots Q (F0 m pc ls (.int x :: .int i :: .ref (ad 2) :: rest)) := by
  obtain ⟨hx, hb, hr, hlocks, hml, hown, hts, hA, hK⟩ := C0
  exact va_iast hx hb hK hP hD hS 3 2 rfl rfl hin hdg kk
theorem sn_gtX0_3 (C0 : sn_Cx cc nL ret RX0 p s m meth c args A D (sn_tyX0 cs)) (hP : va_P D sn_cl (sn_pwX0 h0 ad cs f0 f1 f2 f3 f4 f5 f6 f7) H) (hdg : decode cc pc = .ok (.getfield 19, 3)) (kk : W p l e R s m args below meth c H locs cells slots Q (F0 m (pc + 3) ls (.ref (ad 3) :: rest))) : W p l e R s m args below meth c H locs cells slots Q (F0 m pc ls (.ref h0 :: rest)) := by
  obtain ⟨hx, hb, hr, hlocks, hml, hown, hts, hA, hK⟩ := C0
  exact va_get (D := D) (ci := 0) (v := .ref (ad 3)) (C := RX0) (T := TX0) (N := 8) hx hb hts in_X0 hown hK hP 0 rfl rfl 3 (by decide) (hts _ q32) (fun _ h9 => h9) rfl hdg kk
theorem sn_ldX0_3 (C0 : sn_Cx cc nL ret RX0 p s m meth c args A D (sn_tyX0 cs)) (hP : va_P D sn_cl (sn_pwX0 h0 ad cs f0 f1 f2 f3 f4 f5 f6 f7) H) {i : Int32} (hin : vp_in i 8) (hdg : decode cc pc = .ok (.baload, 1)) (kk : W p l e R s m args below meth c H locs cells slots Q (F0 m (pc + 1) ls (.int (f3 i.toNatClampNeg) :: rest))) : W p l e R s m args below meth c H locs cells slots Q (F0 m pc ls (.int i :: .ref (ad 3) :: rest)) := by
  obtain ⟨hx, hb, hr, hlocks, hml, hown, hts, hA, hK⟩ := C0
  exact va_zald hx hb hK hP 4 3 rfl rfl hin hdg kk
theorem sn_stX0_3 (C0 : sn_Cx cc nL ret RX0 p s m meth c args A D (sn_tyX0 cs)) (hP : va_P D sn_cl (sn_pwX0 h0 ad cs f0 f1 f2 f3 f4 f5 f6 f7) H) (hD : va_D A (sn_pwX0 h0 ad cs f0 f1 f2 f3 f4 f5 f6 f7)) (hS : va_S A s.heap H locs) {i x : Int32} (hin : vp_in i 8) (hdg : decode cc pc = .ok (.bastore, 1)) (kk : ∀ (H1 : Heap) (locs1 : List Loc), va_P D sn_cl (sn_pwX0 h0 ad cs f0 f1 f2 (upd f3 i.toNatClampNeg (vp_nar .boolean x)) f4 f5 f6 f7) H1 → va_D A (sn_pwX0 h0 ad cs f0 f1 f2 (upd f3 i.toNatClampNeg (vp_nar .boolean x)) f4 f5 f6 f7) → va_S A s.heap H1 locs1 → W p l e R s m args below meth c H1 locs1 cells slots Q (F0 m (pc + 1) ls rest)) : W p l e R s m args below meth c H locs cells slots Q (F0 m pc ls (.int x :: .int i :: .ref (ad 3) :: rest)) := by
  obtain ⟨hx, hb, hr, hlocks, hml, hown, hts, hA, hK⟩ := C0
  exact va_zast hx hb hK hP hD hS 4 3 rfl rfl hin hdg kk
theorem sn_gtX0_4 (C0 : sn_Cx cc nL ret RX0 p s m meth c args A D (sn_tyX0 cs)) (hP : va_P D sn_cl (sn_pwX0 h0 ad cs f0 f1 f2 f3 f4 f5 f6 f7) H) (hdg : decode cc pc = .ok (.getfield 23, 3)) (kk : W p l e R s m args below meth c H locs cells slots Q (F0 m (pc + 3) ls (.ref (ad 4) :: rest))) : W p l e R s m args below meth c H locs cells slots Q (F0 m pc ls (.ref h0 :: rest)) := by
  obtain ⟨hx, hb, hr, hlocks, hml, hown, hts, hA, hK⟩ := C0
  exact va_get (D := D) (ci := 0) (v := .ref (ad 4)) (C := RX0) (T := TX0) (N := 8) hx hb hts in_X0 hown hK hP 0 rfl rfl 4 (by decide) (hts _ q33) (fun _ h9 => h9) rfl hdg kk
theorem sn_ldX0_4 (C0 : sn_Cx cc nL ret RX0 p s m meth c args A D (sn_tyX0 cs)) (hP : va_P D sn_cl (sn_pwX0 h0 ad cs f0 f1 f2 f3 f4 f5 f6 f7) H) {i : Int32} (hin : vp_in i 8) (hdg : decode cc pc = .ok (.iaload, 1)) (kk : W p l e R s m args below meth c H locs cells slots Q (F0 m (pc + 1) ls (.int (f4 i.toNatClampNeg) :: rest))) : W p l e R s m args below meth c H locs cells slots Q (F0 m pc ls (.int i :: .ref (ad 4) :: rest)) := by
  obtain ⟨hx, hb, hr, hlocks, hml, hown, hts, hA, hK⟩ := C0
  exact va_iald hx hb hK hP 5 4 rfl rfl hin hdg kk
theorem sn_stX0_4 (C0 : sn_Cx cc nL ret RX0 p s m meth c args A D (sn_tyX0 cs)) (hP : va_P D sn_cl (sn_pwX0 h0 ad cs f0 f1 f2 f3 f4 f5 f6 f7) H) (hD : va_D A (sn_pwX0 h0 ad cs f0 f1 f2 f3 f4 f5 f6 f7)) (hS : va_S A s.heap H locs) {i x : Int32} (hin : vp_in i 8) (hdg : decode cc pc = .ok (.iastore, 1)) (kk : ∀ (H1 : Heap) (locs1 : List Loc), va_P D sn_cl (sn_pwX0 h0 ad cs f0 f1 f2 f3 (upd f4 i.toNatClampNeg x) f5 f6 f7) H1 → va_D A (sn_pwX0 h0 ad cs f0 f1 f2 f3 (upd f4 i.toNatClampNeg x) f5 f6 f7) → va_S A s.heap H1 locs1 → W p l e R s m args below meth c H1 locs1 cells slots Q (F0 m (pc + 1) ls rest)) : W p l e R s m args below meth c H locs cells slots Q (F0 m pc ls (.int x :: .int i :: .ref (ad 4) :: rest)) := by
  obtain ⟨hx, hb, hr, hlocks, hml, hown, hts, hA, hK⟩ := C0
  exact va_iast hx hb hK hP hD hS 5 4 rfl rfl hin hdg kk
theorem sn_gtX0_5 (C0 : sn_Cx cc nL ret RX0 p s m meth c args A D (sn_tyX0 cs)) (hP : va_P D sn_cl (sn_pwX0 h0 ad cs f0 f1 f2 f3 f4 f5 f6 f7) H) (hdg : decode cc pc = .ok (.getfield 26, 3)) (kk : W p l e R s m args below meth c H locs cells slots Q (F0 m (pc + 3) ls (.ref (ad 5) :: rest))) : W p l e R s m args below meth c H locs cells slots Q (F0 m pc ls (.ref h0 :: rest)) := by
  obtain ⟨hx, hb, hr, hlocks, hml, hown, hts, hA, hK⟩ := C0
  exact va_get (D := D) (ci := 0) (v := .ref (ad 5)) (C := RX0) (T := TX0) (N := 8) hx hb hts in_X0 hown hK hP 0 rfl rfl 5 (by decide) (hts _ q34) (fun _ h9 => h9) rfl hdg kk
theorem sn_ldX0_5 (C0 : sn_Cx cc nL ret RX0 p s m meth c args A D (sn_tyX0 cs)) (hP : va_P D sn_cl (sn_pwX0 h0 ad cs f0 f1 f2 f3 f4 f5 f6 f7) H) {i : Int32} (hin : vp_in i 8) (hdg : decode cc pc = .ok (.iaload, 1)) (kk : W p l e R s m args below meth c H locs cells slots Q (F0 m (pc + 1) ls (.int (f5 i.toNatClampNeg) :: rest))) : W p l e R s m args below meth c H locs cells slots Q (F0 m pc ls (.int i :: .ref (ad 5) :: rest)) := by
  obtain ⟨hx, hb, hr, hlocks, hml, hown, hts, hA, hK⟩ := C0
  exact va_iald hx hb hK hP 6 5 rfl rfl hin hdg kk
theorem sn_stX0_5 (C0 : sn_Cx cc nL ret RX0 p s m meth c args A D (sn_tyX0 cs)) (hP : va_P D sn_cl (sn_pwX0 h0 ad cs f0 f1 f2 f3 f4 f5 f6 f7) H) (hD : va_D A (sn_pwX0 h0 ad cs f0 f1 f2 f3 f4 f5 f6 f7)) (hS : va_S A s.heap H locs) {i x : Int32} (hin : vp_in i 8) (hdg : decode cc pc = .ok (.iastore, 1)) (kk : ∀ (H1 : Heap) (locs1 : List Loc), va_P D sn_cl (sn_pwX0 h0 ad cs f0 f1 f2 f3 f4 (upd f5 i.toNatClampNeg x) f6 f7) H1 → va_D A (sn_pwX0 h0 ad cs f0 f1 f2 f3 f4 (upd f5 i.toNatClampNeg x) f6 f7) → va_S A s.heap H1 locs1 → W p l e R s m args below meth c H1 locs1 cells slots Q (F0 m (pc + 1) ls rest)) : W p l e R s m args below meth c H locs cells slots Q (F0 m pc ls (.int x :: .int i :: .ref (ad 5) :: rest)) := by
  obtain ⟨hx, hb, hr, hlocks, hml, hown, hts, hA, hK⟩ := C0
  exact va_iast hx hb hK hP hD hS 6 5 rfl rfl hin hdg kk
theorem sn_gtX0_6 (C0 : sn_Cx cc nL ret RX0 p s m meth c args A D (sn_tyX0 cs)) (hP : va_P D sn_cl (sn_pwX0 h0 ad cs f0 f1 f2 f3 f4 f5 f6 f7) H) (hdg : decode cc pc = .ok (.getfield 29, 3)) (kk : W p l e R s m args below meth c H locs cells slots Q (F0 m (pc + 3) ls (.ref (ad 6) :: rest))) : W p l e R s m args below meth c H locs cells slots Q (F0 m pc ls (.ref h0 :: rest)) := by
  obtain ⟨hx, hb, hr, hlocks, hml, hown, hts, hA, hK⟩ := C0
  exact va_get (D := D) (ci := 0) (v := .ref (ad 6)) (C := RX0) (T := TX0) (N := 8) hx hb hts in_X0 hown hK hP 0 rfl rfl 6 (by decide) (hts _ q35) (fun _ h9 => h9) rfl hdg kk
theorem sn_ldX0_6 (C0 : sn_Cx cc nL ret RX0 p s m meth c args A D (sn_tyX0 cs)) (hP : va_P D sn_cl (sn_pwX0 h0 ad cs f0 f1 f2 f3 f4 f5 f6 f7) H) {i : Int32} (hin : vp_in i 4) (hdg : decode cc pc = .ok (.iaload, 1)) (kk : W p l e R s m args below meth c H locs cells slots Q (F0 m (pc + 1) ls (.int (f6 i.toNatClampNeg) :: rest))) : W p l e R s m args below meth c H locs cells slots Q (F0 m pc ls (.int i :: .ref (ad 6) :: rest)) := by
  obtain ⟨hx, hb, hr, hlocks, hml, hown, hts, hA, hK⟩ := C0
  exact va_iald hx hb hK hP 7 6 rfl rfl hin hdg kk
theorem sn_stX0_6 (C0 : sn_Cx cc nL ret RX0 p s m meth c args A D (sn_tyX0 cs)) (hP : va_P D sn_cl (sn_pwX0 h0 ad cs f0 f1 f2 f3 f4 f5 f6 f7) H) (hD : va_D A (sn_pwX0 h0 ad cs f0 f1 f2 f3 f4 f5 f6 f7)) (hS : va_S A s.heap H locs) {i x : Int32} (hin : vp_in i 4) (hdg : decode cc pc = .ok (.iastore, 1)) (kk : ∀ (H1 : Heap) (locs1 : List Loc), va_P D sn_cl (sn_pwX0 h0 ad cs f0 f1 f2 f3 f4 f5 (upd f6 i.toNatClampNeg x) f7) H1 → va_D A (sn_pwX0 h0 ad cs f0 f1 f2 f3 f4 f5 (upd f6 i.toNatClampNeg x) f7) → va_S A s.heap H1 locs1 → W p l e R s m args below meth c H1 locs1 cells slots Q (F0 m (pc + 1) ls rest)) : W p l e R s m args below meth c H locs cells slots Q (F0 m pc ls (.int x :: .int i :: .ref (ad 6) :: rest)) := by
  obtain ⟨hx, hb, hr, hlocks, hml, hown, hts, hA, hK⟩ := C0
  exact va_iast hx hb hK hP hD hS 7 6 rfl rfl hin hdg kk
theorem sn_gtX0_7 (C0 : sn_Cx cc nL ret RX0 p s m meth c args A D (sn_tyX0 cs)) (hP : va_P D sn_cl (sn_pwX0 h0 ad cs f0 f1 f2 f3 f4 f5 f6 f7) H) (hdg : decode cc pc = .ok (.getfield 32, 3)) (kk : W p l e R s m args below meth c H locs cells slots Q (F0 m (pc + 3) ls (.ref (ad 7) :: rest))) : W p l e R s m args below meth c H locs cells slots Q (F0 m pc ls (.ref h0 :: rest)) := by
  obtain ⟨hx, hb, hr, hlocks, hml, hown, hts, hA, hK⟩ := C0
  exact va_get (D := D) (ci := 0) (v := .ref (ad 7)) (C := RX0) (T := TX0) (N := 8) hx hb hts in_X0 hown hK hP 0 rfl rfl 7 (by decide) (hts _ q36) (fun _ h9 => h9) rfl hdg kk
theorem sn_ldX0_7 (C0 : sn_Cx cc nL ret RX0 p s m meth c args A D (sn_tyX0 cs)) (hP : va_P D sn_cl (sn_pwX0 h0 ad cs f0 f1 f2 f3 f4 f5 f6 f7) H) {i : Int32} (hin : vp_in i 16) (hdg : decode cc pc = .ok (.iaload, 1)) (kk : W p l e R s m args below meth c H locs cells slots Q (F0 m (pc + 1) ls (.int (f7 i.toNatClampNeg) :: rest))) : W p l e R s m args below meth c H locs cells slots Q (F0 m pc ls (.int i :: .ref (ad 7) :: rest)) := by
  obtain ⟨hx, hb, hr, hlocks, hml, hown, hts, hA, hK⟩ := C0
  exact va_iald hx hb hK hP 8 7 rfl rfl hin hdg kk
theorem sn_stX0_7 (C0 : sn_Cx cc nL ret RX0 p s m meth c args A D (sn_tyX0 cs)) (hP : va_P D sn_cl (sn_pwX0 h0 ad cs f0 f1 f2 f3 f4 f5 f6 f7) H) (hD : va_D A (sn_pwX0 h0 ad cs f0 f1 f2 f3 f4 f5 f6 f7)) (hS : va_S A s.heap H locs) {i x : Int32} (hin : vp_in i 16) (hdg : decode cc pc = .ok (.iastore, 1)) (kk : ∀ (H1 : Heap) (locs1 : List Loc), va_P D sn_cl (sn_pwX0 h0 ad cs f0 f1 f2 f3 f4 f5 f6 (upd f7 i.toNatClampNeg x)) H1 → va_D A (sn_pwX0 h0 ad cs f0 f1 f2 f3 f4 f5 f6 (upd f7 i.toNatClampNeg x)) → va_S A s.heap H1 locs1 → W p l e R s m args below meth c H1 locs1 cells slots Q (F0 m (pc + 1) ls rest)) : W p l e R s m args below meth c H locs cells slots Q (F0 m pc ls (.int x :: .int i :: .ref (ad 7) :: rest)) := by
  obtain ⟨hx, hb, hr, hlocks, hml, hown, hts, hA, hK⟩ := C0
  exact va_iast hx hb hK hP hD hS 8 7 rfl rfl hin hdg kk
end GTX0
section GTX1
variable {p : Program} {l : Launch} {e : Env} {R : Room} {s : State} {m : MethodId} {args : Array Value} {below : List Frame} {meth : Method} {c : Code} {H : Heap} {locs : List Loc} {cells slots : Nat} {Q : State → Prop} {cc : ByteArray} {nL : Nat} {ret : Option FieldType} {pc : Nat} {ls : Array Slot} {rest : List Value} {A : Nat → Prop} {D : va_G} {h0 : Nat} {ad : Nat → Nat} {cs : Nat → ClassId} {f0 f1 f2 : Nat → Int32}
theorem sn_gtX1_0 (C0 : sn_Cx cc nL ret RX1 p s m meth c args A D (sn_tyX1 cs)) (hP : va_P D sn_cl (sn_pwX1 h0 ad cs f0 f1 f2) H) (hdg : decode cc pc = .ok (.getfield 7, 3)) (kk : W p l e R s m args below meth c H locs cells slots Q (F0 m (pc + 3) ls (.ref (ad 0) :: rest))) : W p l e R s m args below meth c H locs cells slots Q (F0 m pc ls (.ref h0 :: rest)) := by
  obtain ⟨hx, hb, hr, hlocks, hml, hown, hts, hA, hK⟩ := C0
  exact va_get (D := D) (ci := 1) (v := .ref (ad 0)) (C := RX1) (T := TX1) (N := 3) hx hb hts in_X1 hown hK hP 0 rfl rfl 0 (by decide) (hts _ q165) (fun _ h9 => h9) rfl hdg kk
theorem sn_ldX1_0 (C0 : sn_Cx cc nL ret RX1 p s m meth c args A D (sn_tyX1 cs)) (hP : va_P D sn_cl (sn_pwX1 h0 ad cs f0 f1 f2) H) {i : Int32} (hin : vp_in i 8) (hdg : decode cc pc = .ok (.baload, 1)) (kk : W p l e R s m args below meth c H locs cells slots Q (F0 m (pc + 1) ls (.int (f0 i.toNatClampNeg) :: rest))) : W p l e R s m args below meth c H locs cells slots Q (F0 m pc ls (.int i :: .ref (ad 0) :: rest)) := by
  obtain ⟨hx, hb, hr, hlocks, hml, hown, hts, hA, hK⟩ := C0
  exact va_zald hx hb hK hP 1 0 rfl rfl hin hdg kk
theorem sn_stX1_0 (C0 : sn_Cx cc nL ret RX1 p s m meth c args A D (sn_tyX1 cs)) (hP : va_P D sn_cl (sn_pwX1 h0 ad cs f0 f1 f2) H) (hD : va_D A (sn_pwX1 h0 ad cs f0 f1 f2)) (hS : va_S A s.heap H locs) {i x : Int32} (hin : vp_in i 8) (hdg : decode cc pc = .ok (.bastore, 1)) (kk : ∀ (H1 : Heap) (locs1 : List Loc), va_P D sn_cl (sn_pwX1 h0 ad cs (upd f0 i.toNatClampNeg (vp_nar .boolean x)) f1 f2) H1 → va_D A (sn_pwX1 h0 ad cs (upd f0 i.toNatClampNeg (vp_nar .boolean x)) f1 f2) → va_S A s.heap H1 locs1 → W p l e R s m args below meth c H1 locs1 cells slots Q (F0 m (pc + 1) ls rest)) : W p l e R s m args below meth c H locs cells slots Q (F0 m pc ls (.int x :: .int i :: .ref (ad 0) :: rest)) := by
  obtain ⟨hx, hb, hr, hlocks, hml, hown, hts, hA, hK⟩ := C0
  exact va_zast hx hb hK hP hD hS 1 0 rfl rfl hin hdg kk
theorem sn_gtX1_1 (C0 : sn_Cx cc nL ret RX1 p s m meth c args A D (sn_tyX1 cs)) (hP : va_P D sn_cl (sn_pwX1 h0 ad cs f0 f1 f2) H) (hdg : decode cc pc = .ok (.getfield 13, 3)) (kk : W p l e R s m args below meth c H locs cells slots Q (F0 m (pc + 3) ls (.ref (ad 1) :: rest))) : W p l e R s m args below meth c H locs cells slots Q (F0 m pc ls (.ref h0 :: rest)) := by
  obtain ⟨hx, hb, hr, hlocks, hml, hown, hts, hA, hK⟩ := C0
  exact va_get (D := D) (ci := 1) (v := .ref (ad 1)) (C := RX1) (T := TX1) (N := 3) hx hb hts in_X1 hown hK hP 0 rfl rfl 1 (by decide) (hts _ q166) (fun _ h9 => h9) rfl hdg kk
theorem sn_ldX1_1 (C0 : sn_Cx cc nL ret RX1 p s m meth c args A D (sn_tyX1 cs)) (hP : va_P D sn_cl (sn_pwX1 h0 ad cs f0 f1 f2) H) {i : Int32} (hin : vp_in i 2048) (hdg : decode cc pc = .ok (.baload, 1)) (kk : W p l e R s m args below meth c H locs cells slots Q (F0 m (pc + 1) ls (.int (f1 i.toNatClampNeg) :: rest))) : W p l e R s m args below meth c H locs cells slots Q (F0 m pc ls (.int i :: .ref (ad 1) :: rest)) := by
  obtain ⟨hx, hb, hr, hlocks, hml, hown, hts, hA, hK⟩ := C0
  exact va_zald hx hb hK hP 2 1 rfl rfl hin hdg kk
theorem sn_stX1_1 (C0 : sn_Cx cc nL ret RX1 p s m meth c args A D (sn_tyX1 cs)) (hP : va_P D sn_cl (sn_pwX1 h0 ad cs f0 f1 f2) H) (hD : va_D A (sn_pwX1 h0 ad cs f0 f1 f2)) (hS : va_S A s.heap H locs) {i x : Int32} (hin : vp_in i 2048) (hdg : decode cc pc = .ok (.bastore, 1)) (kk : ∀ (H1 : Heap) (locs1 : List Loc), va_P D sn_cl (sn_pwX1 h0 ad cs f0 (upd f1 i.toNatClampNeg (vp_nar .boolean x)) f2) H1 → va_D A (sn_pwX1 h0 ad cs f0 (upd f1 i.toNatClampNeg (vp_nar .boolean x)) f2) → va_S A s.heap H1 locs1 → W p l e R s m args below meth c H1 locs1 cells slots Q (F0 m (pc + 1) ls rest)) : W p l e R s m args below meth c H locs cells slots Q (F0 m pc ls (.int x :: .int i :: .ref (ad 1) :: rest)) := by
  obtain ⟨hx, hb, hr, hlocks, hml, hown, hts, hA, hK⟩ := C0
  exact va_zast hx hb hK hP hD hS 2 1 rfl rfl hin hdg kk
theorem sn_gtX1_2 (C0 : sn_Cx cc nL ret RX1 p s m meth c args A D (sn_tyX1 cs)) (hP : va_P D sn_cl (sn_pwX1 h0 ad cs f0 f1 f2) H) (hdg : decode cc pc = .ok (.getfield 16, 3)) (kk : W p l e R s m args below meth c H locs cells slots Q (F0 m (pc + 3) ls (.ref (ad 2) :: rest))) : W p l e R s m args below meth c H locs cells slots Q (F0 m pc ls (.ref h0 :: rest)) := by
  obtain ⟨hx, hb, hr, hlocks, hml, hown, hts, hA, hK⟩ := C0
  exact va_get (D := D) (ci := 1) (v := .ref (ad 2)) (C := RX1) (T := TX1) (N := 3) hx hb hts in_X1 hown hK hP 0 rfl rfl 2 (by decide) (hts _ q167) (fun _ h9 => h9) rfl hdg kk
theorem sn_ldX1_2 (C0 : sn_Cx cc nL ret RX1 p s m meth c args A D (sn_tyX1 cs)) (hP : va_P D sn_cl (sn_pwX1 h0 ad cs f0 f1 f2) H) {i : Int32} (hin : vp_in i 2048) (hdg : decode cc pc = .ok (.iaload, 1)) (kk : W p l e R s m args below meth c H locs cells slots Q (F0 m (pc + 1) ls (.int (f2 i.toNatClampNeg) :: rest))) : W p l e R s m args below meth c H locs cells slots Q (F0 m pc ls (.int i :: .ref (ad 2) :: rest)) := by
  obtain ⟨hx, hb, hr, hlocks, hml, hown, hts, hA, hK⟩ := C0
  exact va_iald hx hb hK hP 3 2 rfl rfl hin hdg kk
theorem sn_stX1_2 (C0 : sn_Cx cc nL ret RX1 p s m meth c args A D (sn_tyX1 cs)) (hP : va_P D sn_cl (sn_pwX1 h0 ad cs f0 f1 f2) H) (hD : va_D A (sn_pwX1 h0 ad cs f0 f1 f2)) (hS : va_S A s.heap H locs) {i x : Int32} (hin : vp_in i 2048) (hdg : decode cc pc = .ok (.iastore, 1)) (kk : ∀ (H1 : Heap) (locs1 : List Loc), va_P D sn_cl (sn_pwX1 h0 ad cs f0 f1 (upd f2 i.toNatClampNeg x)) H1 → va_D A (sn_pwX1 h0 ad cs f0 f1 (upd f2 i.toNatClampNeg x)) → va_S A s.heap H1 locs1 → W p l e R s m args below meth c H1 locs1 cells slots Q (F0 m (pc + 1) ls rest)) : W p l e R s m args below meth c H locs cells slots Q (F0 m pc ls (.int x :: .int i :: .ref (ad 2) :: rest)) := by
  obtain ⟨hx, hb, hr, hlocks, hml, hown, hts, hA, hK⟩ := C0
  exact va_iast hx hb hK hP hD hS 3 2 rfl rfl hin hdg kk
end GTX1
section CL
variable {p : Program} {l : Launch} {e : Env} {R : Room} {s : State} {m : MethodId} {args : Array Value} {below : List Frame} {meth : Method} {c : Code} {H : Heap} {locs : List Loc} {cells slots : Nat} {Q : State → Prop} {cc : ByteArray} {nL : Nat} {ret : Option FieldType} {pc : Nat} {ls : Array Slot} {rest : List Value} {A : Nat → Prop} {D : va_G} {y : MethodName} {bytes : ByteArray} {maxL n index : Nat} {retc : Option FieldType} {wsc : List Cond} {rm : Room} {own C : String} {b : Addr} {As st0 : List Value} {ws0 : va_W} {tys : List (ClassId × FieldType)}
theorem sn_A0 {sz q : Nat} (h : va_A [] sz q) : sz ≤ q := by
  rcases h with ⟨k, e, h⟩ | h
  · simp at h
  · exact h
theorem sn_A1 {H0 H : Heap} {locs : List Loc} {ws0 : va_W} (hD : va_D A ws0) (hS : va_S A H0 H locs) (hA : ∀ q : Nat, H0.size ≤ q → A q) : ∀ q, va_A ws0 H.size q → A q := by
  intro q h
  rcases h with ⟨k, e, h⟩ | h
  · exact hD.2 k _ h
  · exact hA q (Nat.le_trans hS.1 h)
/-- a call of a static method: its answer, nothing changed -/
theorem sn_cl_S {post : Int32 → Prop} (S : CallFix p m c cc nL s args lw_all own) (hM : Met l y wsc rm (va_Pc As (fun U => U.heap.size = H.size)) (va_Qi (S := Unit) (fun r _ => post r) (fun _ _ => True) (va_A [] H.size)) 0 0 (va_A [] H.size)) (cw : CallB R s args own index y bytes maxL retc wsc rm 0 0 n ∧ (Cond.static y).before args s = true) (hP : va_P D sn_cl ws0 H) (hS : va_S A s.heap H locs) (hA : ∀ q : Nat, s.heap.size ≤ q → A q) (hn : As.length = n) (hsize : ls.size = nL) (hst : st0 = As.reverse ++ rest) (hW : 2 * (F0 m pc ls st0).monitorRoom + (rest.map fun v => v.category).sum ≤ 8) (hdg : decode cc pc = .ok (.invokestatic index, 3)) (hf : cells + 0 ≤ R.cells ∧ slots + 0 ≤ R.slots)
    (kk : ∀ (r : Int32) (H1 : Heap) (locs1 : List Loc), post r → va_P D sn_cl ws0 H1 → va_S A s.heap H1 locs1 → W p l e R s m args below meth c H1 locs1 cells slots Q (F0 m (pc + 3) ls (.int r :: rest))) : W p l e R s m args below meth c H locs cells slots Q (F0 m pc ls st0) := by
  refine va_calli (va_runS (As := As) (rest := rest) S hM cw ⟨fun a U g mk q => ⟨q.1, q.2⟩, fun U hU _ => ⟨rfl, by show U.heap.size = _; rw [hU]⟩⟩ rfl hn hsize hst hW hdg hf) hS (fun q _ h => hA q (Nat.le_trans hS.1 (sn_A0 h))) (fun q h => hA q (Nat.le_trans hS.1 (sn_A0 h))) (fun r u t H1 locs1 ht hvm hp hB hz hk hS1 => ?_)
  exact kk r H1 locs1 hp (hP.kept (fun k q hq => hk q.1 (hP k q hq).lt (fun h => absurd (sn_A0 h) (Nat.not_le.mpr (hP k q hq).lt)))) hS1
theorem sn_fb {av : List Value} {D : va_G} {tys : List (ClassId × FieldType)} {ws : va_W} {sz : Nat} : FrameBlind (va_Pc av (sn_PX D tys ws sz)) := by
  intro a U g mk q
  obtain ⟨q0, q1, qP, qK, qD⟩ := q
  exact ⟨q0, q1, qP, va_K.moved (u := U) (U := U.calling g mk a) (Vm.Alike.refl U.vm) qK, qD⟩
/-- a call of a method of the same object (its world is the whole world): int answer -/
theorem sn_cl_Vi {S0 : Type} {post : Int32 → S0 → Prop} {w1 : S0 → va_W} (S : CallFix p m c cc nL s args lw_all own) (hM : Met l y wsc rm (va_Pc (.ref b :: As) (sn_PX D tys ws0 H.size)) (va_Qi post (fun u t => sn_BX D tys (va_A ws0 H.size) (w1 u) t) (va_A ws0 H.size)) 0 0 (va_A ws0 H.size)) (cw : CallW R s args own C index y bytes maxL retc wsc rm 0 0 n) (hrecv : ∃ cell : Cell, H[b]? = some cell ∧ cell.vm.isStatics = false ∧ s.vm.findClass C = some cell.cls) (hP : va_P D sn_cl ws0 H) (hD : va_D A ws0) (hK : va_K D sn_cl tys s) (hS : va_S A s.heap H locs) (hA : ∀ q : Nat, s.heap.size ≤ q → A q) (hn : As.length = n) (hsize : ls.size = nL) (hst : st0 = As.reverse ++ .ref b :: rest) (hW : 2 * (F0 m pc ls st0).monitorRoom + (rest.map fun v => v.category).sum ≤ 8) (hdg : decode cc pc = .ok (.invokevirtual index, 3)) (hf : cells + 0 ≤ R.cells ∧ slots + 0 ≤ R.slots)
    (kk : ∀ (r : Int32) (u : S0) (H1 : Heap) (locs1 : List Loc), post r u → va_P D sn_cl (w1 u) H1 → va_D A (w1 u) → va_S A s.heap H1 locs1 → W p l e R s m args below meth c H1 locs1 cells slots Q (F0 m (pc + 3) ls (.int r :: rest))) : W p l e R s m args below meth c H locs cells slots Q (F0 m pc ls st0) := by
  have hF := sn_A1 hD hS hA
  refine va_calli (va_runV (As := As) (rest := rest) S hM cw ⟨sn_fb, hrecv, fun U hU hW => ⟨rfl, by rw [hU], by rw [hU]; exact hP, va_K.moved hW.alike hK, hD.weaken (fun _ _ _ _ => trivial)⟩⟩ rfl hn hsize hst hW hdg hf) hS (fun q _ h => hF q h) hF (fun r u t H1 locs1 ht hvm hp hB hz hk hS1 => ?_)
  obtain ⟨hP1, hK1, hD1⟩ := hB
  rw [ht] at hP1
  exact kk r u H1 locs1 hp hP1 (hD1.weaken (fun k q _ h => hF q.1 h)) hS1
theorem sn_cl_Vv {S0 : Type} {post : S0 → Prop} {w1 : S0 → va_W} (S : CallFix p m c cc nL s args lw_all own) (hM : Met l y wsc rm (va_Pc (.ref b :: As) (sn_PX D tys ws0 H.size)) (va_Qv post (fun u t => sn_BX D tys (va_A ws0 H.size) (w1 u) t) (va_A ws0 H.size)) 0 0 (va_A ws0 H.size)) (cw : CallW R s args own C index y bytes maxL retc wsc rm 0 0 n) (hrecv : ∃ cell : Cell, H[b]? = some cell ∧ cell.vm.isStatics = false ∧ s.vm.findClass C = some cell.cls) (hP : va_P D sn_cl ws0 H) (hD : va_D A ws0) (hK : va_K D sn_cl tys s) (hS : va_S A s.heap H locs) (hA : ∀ q : Nat, s.heap.size ≤ q → A q) (hn : As.length = n) (hsize : ls.size = nL) (hst : st0 = As.reverse ++ .ref b :: rest) (hW : 2 * (F0 m pc ls st0).monitorRoom + (rest.map fun v => v.category).sum ≤ 8) (hdg : decode cc pc = .ok (.invokevirtual index, 3)) (hf : cells + 0 ≤ R.cells ∧ slots + 0 ≤ R.slots)
    (kk : ∀ (u : S0) (H1 : Heap) (locs1 : List Loc), post u → va_P D sn_cl (w1 u) H1 → va_D A (w1 u) → va_S A s.heap H1 locs1 → W p l e R s m args below meth c H1 locs1 cells slots Q (F0 m (pc + 3) ls rest)) : W p l e R s m args below meth c H locs cells slots Q (F0 m pc ls st0) := by
  have hF := sn_A1 hD hS hA
  refine va_callv (va_runV (As := As) (rest := rest) S hM cw ⟨sn_fb, hrecv, fun U hU hW => ⟨rfl, by rw [hU], by rw [hU]; exact hP, va_K.moved hW.alike hK, hD.weaken (fun _ _ _ _ => trivial)⟩⟩ rfl hn hsize hst hW hdg hf) hS (fun q _ h => hF q h) hF (fun u t H1 locs1 ht hvm hp hB hz hk hS1 => ?_)
  obtain ⟨hP1, hK1, hD1⟩ := hB
  rw [ht] at hP1
  exact kk u H1 locs1 hp hP1 (hD1.weaken (fun k q _ h => hF q.1 h)) hS1
end CL
/-- a contract out of the walk of its body -/
theorem sn_mk_V {l : Launch} {y : MethodName} {cc : ByteArray} {n : Nat} {ret : Option FieldType} {rm : Room} {D : va_G} {tys : List (ClassId × FieldType)} {ws0 : va_W} {sz : Nat} {vs : List Value} {RC : String} {Q : (Nat → Prop) → Array Value → State → Outcome → State → Prop} (hy : plainName y.cls = true) (hRC : y.cls = RC) (hlen : (lg_sl vs).length ≤ n)
    (body : ∀ (p : Program) (e : Env) (s : State) (m : MethodId) (below : List Frame) (meth : Method) (c : Code) (A : Nat → Prop) (ls : Array Slot), sn_Cx cc n ret RC p s m meth c vs.toArray A D tys → va_P D sn_cl ws0 s.heap → va_D A ws0 → lv_has ls n (lv_args 0 vs) → W p l e (headSpec (ws_ y cc n ret) rm).room s m vs.toArray below meth c s.heap [] 0 0 (MQ below (Q A) vs.toArray s 0 0 A) (F0 m 0 ls [])) : Met l y (ws_ y cc n ret) rm (va_Pc vs (sn_PX D tys ws0 sz)) (Q (va_A ws0 sz)) 0 0 (va_A ws0 sz) := by
  refine Met.ofW (cc := cc) (maxL := n) (ret := ret) hy rfl ?_
  intro p e s m args below meth c s₁ B hml hv
  obtain ⟨rfl, hsz, hP, hK, hD0⟩ := hv
  have hts := atoms_spec (ws := ws_ y cc n ret) B.pre
  have hts : ∀ w ∈ lw_all, w.before _ s = true := fun w h => hts w (List.mem_cons_of_mem _ h)
  have hown : s.vm.findClass RC = some m.cls := by rw [← hRC]; exact findClass_of_methodNamed B.named
  subst hsz
  have hl := lv_entry vs (n := n) hlen
  rw [lg_entry_eq]
  exact body p e s m below meth c _ _ ⟨B.exec, B.bytes, B.returns, B.notSynchronized, hml, hown, hts, fun q h => Or.inr h, hK⟩ hP hD0.self hl
theorem sn_mk_S {l : Launch} {y : MethodName} {cc : ByteArray} {n : Nat} {ret : Option FieldType} {rm : Room} {sz : Nat} {vs : List Value} {RC : String} {Q : (Nat → Prop) → Array Value → State → Outcome → State → Prop} (hy : plainName y.cls = true) (hRC : y.cls = RC) (hlen : (lg_sl vs).length ≤ n)
    (body : ∀ (p : Program) (e : Env) (s : State) (m : MethodId) (below : List Frame) (meth : Method) (c : Code) (A : Nat → Prop) (ls : Array Slot), sn_CxS cc n ret RC p s m meth c vs.toArray A → lv_has ls n (lv_args 0 vs) → W p l e (headSpec (ws_ y cc n ret) rm).room s m vs.toArray below meth c s.heap [] 0 0 (MQ below (Q A) vs.toArray s 0 0 A) (F0 m 0 ls [])) : Met l y (ws_ y cc n ret) rm (va_Pc vs (fun U => U.heap.size = sz)) (Q (va_A [] sz)) 0 0 (va_A [] sz) := by
  refine Met.ofW (cc := cc) (maxL := n) (ret := ret) hy rfl ?_
  intro p e s m args below meth c s₁ B hml hv
  obtain ⟨rfl, hsz⟩ := hv
  have hts := atoms_spec (ws := ws_ y cc n ret) B.pre
  have hts : ∀ w ∈ lw_all, w.before _ s = true := fun w h => hts w (List.mem_cons_of_mem _ h)
  have hown : s.vm.findClass RC = some m.cls := by rw [← hRC]; exact findClass_of_methodNamed B.named
  subst hsz
  have hl := lv_entry vs (n := n) hlen
  rw [lg_entry_eq]
  exact body p e s m below meth c _ _ ⟨B.exec, B.bytes, B.returns, B.notSynchronized, hml, hown, hts, fun q h => Or.inr h⟩ hl
end
section
/-! what each method does, as a precondition of a postcondition (printed by gen.py out of the bytecode) -/
def mX0_turn (x0 x1 : Int32) (post : Int32 → Prop) : Prop := post ((sn_ushr x0 ((6 : Int32) - ((2 : Int32) * x1))) &&& (3 : Int32)) 
def mX0_leafFor_10 : Nat → (Nat → Int32) → (Nat → Int32) → Int32 → Int32 → Int32 → (Int32 → Prop) → Prop
  | 0, _, _, _, _, _, _ => False
  | n10 + 1, f0, f4, x2, x3, x4, post => (((3 : Int32) ≤ x4 → (post x3 )) ∧ (¬ (3 : Int32) ≤ x4 → (((x3 < (0 : Int32) → (post x3 )) ∧ (¬ x3 < (0 : Int32) → (mX0_turn x2 x4 (fun r_3 => vp_in (((4 : Int32) * x3) + r_3) 1600 ∧ mX0_leafFor_10 n10 f0 f4 x2 (f0 (((4 : Int32) * x3) + r_3).toNatClampNeg) (x4 + (1 : Int32)) post)))))))
def mX0_leafFor (f0 f4 : Nat → Int32) (x1 x2 : Int32) (post : Int32 → Prop) : Prop := vp_in x1 8 ∧ ∃ n10 : Nat, mX0_leafFor_10 n10 f0 f4 x2 (f4 (x1).toNatClampNeg) (0 : Int32) post
def mX0_holds (f0 f1 f4 : Nat → Int32) (x1 x2 : Int32) (post : Int32 → Prop) : Prop := mX0_leafFor f0 f4 x1 x2 (fun r_1 => ((r_1 < (0 : Int32) → (post (0 : Int32) )) ∧ (¬ r_1 < (0 : Int32) → (vp_in r_1 400 ∧ ((((sn_ushr (f1 (r_1).toNatClampNeg) (x2 &&& (3 : Int32))) &&& (1 : Int32)) = (0 : Int32) → (post (0 : Int32) )) ∧ (¬ ((sn_ushr (f1 (r_1).toNatClampNeg) (x2 &&& (3 : Int32))) &&& (1 : Int32)) = (0 : Int32) → (post (1 : Int32) )))))))
def mX0_freeNode_2 : Nat → (Nat → Int32) → Int32 → (Int32 → Prop) → Prop
  | 0, _, _, _ => False
  | n2 + 1, f2, x1, post => (((400 : Int32) ≤ x1 → (post (399 : Int32) )) ∧ (¬ (400 : Int32) ≤ x1 → (vp_in x1 400 ∧ ((¬ (f2 (x1).toNatClampNeg) = (0 : Int32) → (mX0_freeNode_2 n2 f2 (x1 + (1 : Int32)) post)) ∧ ((f2 (x1).toNatClampNeg) = (0 : Int32) → (post x1 ))))))
def mX0_freeNode (f2 : Nat → Int32) (post : Int32 → Prop) : Prop := ∃ n2 : Nat, mX0_freeNode_2 n2 f2 (0 : Int32) post
def mX0_levelMark (f1 : Nat → Int32) (x1 x2 : Int32) (post : (Nat → Int32) → Prop) : Prop := ((¬ x2 = (3 : Int32) → (vp_in x1 400 ∧ post (upd f1 (x1).toNatClampNeg (0 : Int32)))) ∧ (x2 = (3 : Int32) → (vp_in x1 400 ∧ vp_in x1 400 ∧ post (upd f1 (x1).toNatClampNeg ((f1 (x1).toNatClampNeg) ||| (256 : Int32))))))
def mX0_ownNode_141 (f0 f1 f2 : Nat → Int32) (x1 x2 x3 : Int32) (post : Int32 → (Nat → Int32) → (Nat → Int32) → (Nat → Int32) → Prop) : Prop := mX0_levelMark f1 x3 x2 (fun f1_1 => ((x1 < (0 : Int32) → (post x3 f0 f1_1 f2)) ∧ (¬ x1 < (0 : Int32) → (vp_in x1 400 ∧ vp_in x1 400 ∧ post x3 f0 f1_1 (upd f2 (x1).toNatClampNeg ((f2 (x1).toNatClampNeg) - (1 : Int32)))))))
def mX0_ownNode_31 : Nat → (Nat → Int32) → (Nat → Int32) → (Nat → Int32) → Int32 → Int32 → Int32 → Int32 → (Int32 → (Nat → Int32) → (Nat → Int32) → (Nat → Int32) → Prop) → Prop
  | 0, _, _, _, _, _, _, _, _ => False
  | n31 + 1, f0, f1, f2, x1, x2, x3, x4, post => (((4 : Int32) ≤ x4 → ((((0 : Int32) ≤ x1 → (vp_in x1 400 ∧ vp_in x3 400 ∧ mX0_ownNode_141 f0 (upd f1 (x3).toNatClampNeg (f1 (x1).toNatClampNeg)) f2 x1 x2 x3  post)) ∧ (¬ (0 : Int32) ≤ x1 → (vp_in x3 400 ∧ mX0_ownNode_141 f0 (upd f1 (x3).toNatClampNeg (0 : Int32)) f2 x1 x2 x3  post))))) ∧ (¬ (4 : Int32) ≤ x4 → ((((0 : Int32) ≤ x1 → (vp_in (((4 : Int32) * x1) + x4) 1600 ∧ vp_in (((4 : Int32) * x3) + x4) 1600 ∧ (((3 : Int32) ≤ x2 → (mX0_ownNode_31 n31 (upd f0 (((4 : Int32) * x3) + x4).toNatClampNeg (f0 (((4 : Int32) * x1) + x4).toNatClampNeg)) f1 f2 x1 x2 x3 (x4 + (1 : Int32)) post)) ∧ (¬ (3 : Int32) ≤ x2 → (vp_in (((4 : Int32) * x3) + x4) 1600 ∧ ((((upd f0 (((4 : Int32) * x3) + x4).toNatClampNeg (f0 (((4 : Int32) * x1) + x4).toNatClampNeg)) (((4 : Int32) * x3) + x4).toNatClampNeg) < (0 : Int32) → (mX0_ownNode_31 n31 (upd f0 (((4 : Int32) * x3) + x4).toNatClampNeg (f0 (((4 : Int32) * x1) + x4).toNatClampNeg)) f1 f2 x1 x2 x3 (x4 + (1 : Int32)) post)) ∧ (¬ ((upd f0 (((4 : Int32) * x3) + x4).toNatClampNeg (f0 (((4 : Int32) * x1) + x4).toNatClampNeg)) (((4 : Int32) * x3) + x4).toNatClampNeg) < (0 : Int32) → (vp_in (((4 : Int32) * x3) + x4) 1600 ∧ vp_in ((upd f0 (((4 : Int32) * x3) + x4).toNatClampNeg (f0 (((4 : Int32) * x1) + x4).toNatClampNeg)) (((4 : Int32) * x3) + x4).toNatClampNeg) 400 ∧ vp_in ((upd f0 (((4 : Int32) * x3) + x4).toNatClampNeg (f0 (((4 : Int32) * x1) + x4).toNatClampNeg)) (((4 : Int32) * x3) + x4).toNatClampNeg) 400 ∧ mX0_ownNode_31 n31 (upd f0 (((4 : Int32) * x3) + x4).toNatClampNeg (f0 (((4 : Int32) * x1) + x4).toNatClampNeg)) f1 (upd f2 ((upd f0 (((4 : Int32) * x3) + x4).toNatClampNeg (f0 (((4 : Int32) * x1) + x4).toNatClampNeg)) (((4 : Int32) * x3) + x4).toNatClampNeg).toNatClampNeg ((f2 ((upd f0 (((4 : Int32) * x3) + x4).toNatClampNeg (f0 (((4 : Int32) * x1) + x4).toNatClampNeg)) (((4 : Int32) * x3) + x4).toNatClampNeg).toNatClampNeg) + (1 : Int32))) x1 x2 x3 (x4 + (1 : Int32)) post)))))))) ∧ (¬ (0 : Int32) ≤ x1 → ((((3 : Int32) ≤ x2 → (vp_in (((4 : Int32) * x3) + x4) 1600 ∧ (((3 : Int32) ≤ x2 → (mX0_ownNode_31 n31 (upd f0 (((4 : Int32) * x3) + x4).toNatClampNeg (0 : Int32)) f1 f2 x1 x2 x3 (x4 + (1 : Int32)) post)) ∧ (¬ (3 : Int32) ≤ x2 → (vp_in (((4 : Int32) * x3) + x4) 1600 ∧ ((((upd f0 (((4 : Int32) * x3) + x4).toNatClampNeg (0 : Int32)) (((4 : Int32) * x3) + x4).toNatClampNeg) < (0 : Int32) → (mX0_ownNode_31 n31 (upd f0 (((4 : Int32) * x3) + x4).toNatClampNeg (0 : Int32)) f1 f2 x1 x2 x3 (x4 + (1 : Int32)) post)) ∧ (¬ ((upd f0 (((4 : Int32) * x3) + x4).toNatClampNeg (0 : Int32)) (((4 : Int32) * x3) + x4).toNatClampNeg) < (0 : Int32) → (vp_in (((4 : Int32) * x3) + x4) 1600 ∧ vp_in ((upd f0 (((4 : Int32) * x3) + x4).toNatClampNeg (0 : Int32)) (((4 : Int32) * x3) + x4).toNatClampNeg) 400 ∧ vp_in ((upd f0 (((4 : Int32) * x3) + x4).toNatClampNeg (0 : Int32)) (((4 : Int32) * x3) + x4).toNatClampNeg) 400 ∧ mX0_ownNode_31 n31 (upd f0 (((4 : Int32) * x3) + x4).toNatClampNeg (0 : Int32)) f1 (upd f2 ((upd f0 (((4 : Int32) * x3) + x4).toNatClampNeg (0 : Int32)) (((4 : Int32) * x3) + x4).toNatClampNeg).toNatClampNeg ((f2 ((upd f0 (((4 : Int32) * x3) + x4).toNatClampNeg (0 : Int32)) (((4 : Int32) * x3) + x4).toNatClampNeg).toNatClampNeg) + (1 : Int32))) x1 x2 x3 (x4 + (1 : Int32)) post)))))))) ∧ (¬ (3 : Int32) ≤ x2 → (vp_in (((4 : Int32) * x3) + x4) 1600 ∧ (((3 : Int32) ≤ x2 → (mX0_ownNode_31 n31 (upd f0 (((4 : Int32) * x3) + x4).toNatClampNeg (-1 : Int32)) f1 f2 x1 x2 x3 (x4 + (1 : Int32)) post)) ∧ (¬ (3 : Int32) ≤ x2 → (vp_in (((4 : Int32) * x3) + x4) 1600 ∧ ((((upd f0 (((4 : Int32) * x3) + x4).toNatClampNeg (-1 : Int32)) (((4 : Int32) * x3) + x4).toNatClampNeg) < (0 : Int32) → (mX0_ownNode_31 n31 (upd f0 (((4 : Int32) * x3) + x4).toNatClampNeg (-1 : Int32)) f1 f2 x1 x2 x3 (x4 + (1 : Int32)) post)) ∧ (¬ ((upd f0 (((4 : Int32) * x3) + x4).toNatClampNeg (-1 : Int32)) (((4 : Int32) * x3) + x4).toNatClampNeg) < (0 : Int32) → (vp_in (((4 : Int32) * x3) + x4) 1600 ∧ vp_in ((upd f0 (((4 : Int32) * x3) + x4).toNatClampNeg (-1 : Int32)) (((4 : Int32) * x3) + x4).toNatClampNeg) 400 ∧ vp_in ((upd f0 (((4 : Int32) * x3) + x4).toNatClampNeg (-1 : Int32)) (((4 : Int32) * x3) + x4).toNatClampNeg) 400 ∧ mX0_ownNode_31 n31 (upd f0 (((4 : Int32) * x3) + x4).toNatClampNeg (-1 : Int32)) f1 (upd f2 ((upd f0 (((4 : Int32) * x3) + x4).toNatClampNeg (-1 : Int32)) (((4 : Int32) * x3) + x4).toNatClampNeg).toNatClampNeg ((f2 ((upd f0 (((4 : Int32) * x3) + x4).toNatClampNeg (-1 : Int32)) (((4 : Int32) * x3) + x4).toNatClampNeg).toNatClampNeg) + (1 : Int32))) x1 x2 x3 (x4 + (1 : Int32)) post)))))))))))))))
def mX0_ownNode (f0 f1 f2 : Nat → Int32) (x1 x2 : Int32) (post : Int32 → (Nat → Int32) → (Nat → Int32) → (Nat → Int32) → Prop) : Prop := ((x1 < (0 : Int32) → (mX0_freeNode f2  (fun r_2 => vp_in r_2 400 ∧ ∃ n31 : Nat, mX0_ownNode_31 n31 f0 f1 (upd f2 (r_2).toNatClampNeg (1 : Int32)) x1 x2 r_2 (0 : Int32) post))) ∧ (¬ x1 < (0 : Int32) → (vp_in x1 400 ∧ ((¬ (f2 (x1).toNatClampNeg) = (1 : Int32) → (mX0_freeNode f2  (fun r_6 => vp_in r_6 400 ∧ ∃ n31 : Nat, mX0_ownNode_31 n31 f0 f1 (upd f2 (r_6).toNatClampNeg (1 : Int32)) x1 x2 r_6 (0 : Int32) post))) ∧ ((f2 (x1).toNatClampNeg) = (1 : Int32) → (post x1 f0 f1 f2))))))
def mX0_ownPath_31 : Nat → (Nat → Int32) → (Nat → Int32) → (Nat → Int32) → (Nat → Int32) → (Nat → Int32) → Int32 → Int32 → (Int32 → (Nat → Int32) → (Nat → Int32) → (Nat → Int32) → (Nat → Int32) → (Nat → Int32) → Prop) → Prop
  | 0, _, _, _, _, _, _, _, _ => False
  | n31 + 1, f0, f1, f2, f4, f6, x1, x2, post => (((3 : Int32) ≤ x2 → (vp_in (3 : Int32) 4 ∧ post (f6 (3 : Int32).toNatClampNeg) f0 f1 f2 f4 f6)) ∧ (¬ (3 : Int32) ≤ x2 → (vp_in x2 4 ∧ mX0_turn x1 x2 (fun r_4 => vp_in (((4 : Int32) * (f6 (x2).toNatClampNeg)) + r_4) 1600 ∧ mX0_ownNode f0 f1 f2 (f0 (((4 : Int32) * (f6 (x2).toNatClampNeg)) + r_4).toNatClampNeg) (x2 + (1 : Int32)) (fun r_6 f0_6 f1_6 f2_6 => vp_in (((4 : Int32) * (f6 (x2).toNatClampNeg)) + r_4) 1600 ∧ vp_in (((4 : Int32) * (f6 (x2).toNatClampNeg)) + r_4) 1600 ∧ vp_in (x2 + (1 : Int32)) 4 ∧ mX0_ownPath_31 n31 (upd f0_6 (((4 : Int32) * (f6 (x2).toNatClampNeg)) + r_4).toNatClampNeg r_6) f1_6 f2_6 f4 (upd f6 (x2 + (1 : Int32)).toNatClampNeg ((upd f0_6 (((4 : Int32) * (f6 (x2).toNatClampNeg)) + r_4).toNatClampNeg r_6) (((4 : Int32) * (f6 (x2).toNatClampNeg)) + r_4).toNatClampNeg)) x1 (x2 + (1 : Int32)) post)))))
def mX0_ownPath (f0 f1 f2 f4 f6 : Nat → Int32) (x1 : Int32) (post : Int32 → (Nat → Int32) → (Nat → Int32) → (Nat → Int32) → (Nat → Int32) → (Nat → Int32) → Prop) : Prop := vp_in (0 : Int32) 8 ∧ mX0_ownNode f0 f1 f2 (f4 (0 : Int32).toNatClampNeg) (0 : Int32) (fun r_2 f0_2 f1_2 f2_2 => vp_in (0 : Int32) 8 ∧ vp_in (0 : Int32) 8 ∧ vp_in (0 : Int32) 4 ∧ ∃ n31 : Nat, mX0_ownPath_31 n31 f0_2 f1_2 f2_2 (upd f4 (0 : Int32).toNatClampNeg r_2) (upd f6 (0 : Int32).toNatClampNeg ((upd f4 (0 : Int32).toNatClampNeg r_2) (0 : Int32).toNatClampNeg)) x1 (0 : Int32) post)
def mX0_put_37 (f0 f1 f2 f4 f5 f6 : Nat → Int32) (x1 x2 x3 : Int32) (post : Int32 → (Nat → Int32) → (Nat → Int32) → (Nat → Int32) → (Nat → Int32) → (Nat → Int32) → (Nat → Int32) → Prop) : Prop := mX0_ownPath f0 f1 f2 f4 f6 x1 (fun r_1 f0_1 f1_1 f2_1 f4_1 f6_1 => vp_in (((4 : Int32) * r_1) + (x1 &&& (3 : Int32))) 1600 ∧ vp_in r_1 400 ∧ vp_in r_1 400 ∧ vp_in (0 : Int32) 8 ∧ ((x3 = (0 : Int32) → (vp_in (0 : Int32) 8 ∧ vp_in (0 : Int32) 8 ∧ post ((upd f5 (0 : Int32).toNatClampNeg ((f5 (0 : Int32).toNatClampNeg) + (1 : Int32))) (0 : Int32).toNatClampNeg) (upd f0_1 (((4 : Int32) * r_1) + (x1 &&& (3 : Int32))).toNatClampNeg x2) (upd f1_1 (r_1).toNatClampNeg ((f1_1 (r_1).toNatClampNeg) ||| ((1 : Int32) <<< ((x1 &&& (3 : Int32)) &&& 31)))) f2_1 f4_1 (upd f5 (0 : Int32).toNatClampNeg ((f5 (0 : Int32).toNatClampNeg) + (1 : Int32))) f6_1)) ∧ (¬ x3 = (0 : Int32) → (vp_in (0 : Int32) 8 ∧ vp_in (0 : Int32) 8 ∧ post ((upd f5 (0 : Int32).toNatClampNeg ((f5 (0 : Int32).toNatClampNeg) + (0 : Int32))) (0 : Int32).toNatClampNeg) (upd f0_1 (((4 : Int32) * r_1) + (x1 &&& (3 : Int32))).toNatClampNeg x2) (upd f1_1 (r_1).toNatClampNeg ((f1_1 (r_1).toNatClampNeg) ||| ((1 : Int32) <<< ((x1 &&& (3 : Int32)) &&& 31)))) f2_1 f4_1 (upd f5 (0 : Int32).toNatClampNeg ((f5 (0 : Int32).toNatClampNeg) + (0 : Int32))) f6_1))))
def mX0_put (f0 f1 f2 f4 f5 f6 : Nat → Int32) (x1 x2 : Int32) (post : Int32 → (Nat → Int32) → (Nat → Int32) → (Nat → Int32) → (Nat → Int32) → (Nat → Int32) → (Nat → Int32) → Prop) : Prop := ((x1 < (0 : Int32) → (post (-1 : Int32) f0 f1 f2 f4 f5 f6)) ∧ (¬ x1 < (0 : Int32) → (((x1 ≤ (255 : Int32) → (mX0_holds f0 f1 f4 (0 : Int32) x1 (fun r_3 => ((¬ r_3 = (0 : Int32) → (mX0_put_37 f0 f1 f2 f4 f5 f6 x1 x2 r_3  post)) ∧ (r_3 = (0 : Int32) → (vp_in (0 : Int32) 8 ∧ (((f5 (0 : Int32).toNatClampNeg) < (16 : Int32) → (mX0_put_37 f0 f1 f2 f4 f5 f6 x1 x2 r_3  post)) ∧ (¬ (f5 (0 : Int32).toNatClampNeg) < (16 : Int32) → (post (-1 : Int32) f0 f1 f2 f4 f5 f6))))))))) ∧ (¬ x1 ≤ (255 : Int32) → (post (-1 : Int32) f0 f1 f2 f4 f5 f6))))))
def mX0_leadsOn_2 : Nat → (Nat → Int32) → Int32 → Int32 → (Int32 → Prop) → Prop
  | 0, _, _, _, _ => False
  | n2 + 1, f0, x1, x2, post => (((4 : Int32) ≤ x2 → (post (0 : Int32) )) ∧ (¬ (4 : Int32) ≤ x2 → (vp_in (((4 : Int32) * x1) + x2) 1600 ∧ (((f0 (((4 : Int32) * x1) + x2).toNatClampNeg) < (0 : Int32) → (mX0_leadsOn_2 n2 f0 x1 (x2 + (1 : Int32)) post)) ∧ (¬ (f0 (((4 : Int32) * x1) + x2).toNatClampNeg) < (0 : Int32) → (post (1 : Int32) ))))))
def mX0_leadsOn (f0 : Nat → Int32) (x1 : Int32) (post : Int32 → Prop) : Prop := ∃ n2 : Nat, mX0_leadsOn_2 n2 f0 x1 (0 : Int32) post
def mX0_prune_32 : Nat → (Nat → Int32) → (Nat → Int32) → (Nat → Int32) → (Nat → Int32) → (Nat → Int32) → Int32 → Int32 → ((Nat → Int32) → (Nat → Int32) → (Nat → Int32) → Prop) → Prop
  | 0, _, _, _, _, _, _, _, _ => False
  | n32 + 1, f0, f1, f2, f4, f6, x1, x2, post => ((x2 < (0 : Int32) → (vp_in (0 : Int32) 8 ∧ post f0 f2 (upd f4 (0 : Int32).toNatClampNeg (-1 : Int32)))) ∧ (¬ x2 < (0 : Int32) → (vp_in x2 4 ∧ mX0_turn x1 x2 (fun r_4 => vp_in (((4 : Int32) * (f6 (x2).toNatClampNeg)) + r_4) 1600 ∧ vp_in x2 4 ∧ mX0_leadsOn (upd f0 (((4 : Int32) * (f6 (x2).toNatClampNeg)) + r_4).toNatClampNeg (-1 : Int32)) (f6 (x2).toNatClampNeg) (fun r_7 => ((r_7 = (0 : Int32) → (vp_in x2 4 ∧ vp_in (f6 (x2).toNatClampNeg) 400 ∧ mX0_prune_32 n32 (upd f0 (((4 : Int32) * (f6 (x2).toNatClampNeg)) + r_4).toNatClampNeg (-1 : Int32)) f1 (upd f2 (f6 (x2).toNatClampNeg).toNatClampNeg (0 : Int32)) f4 f6 x1 (x2 + (-1 : Int32)) post)) ∧ (¬ r_7 = (0 : Int32) → (post (upd f0 (((4 : Int32) * (f6 (x2).toNatClampNeg)) + r_4).toNatClampNeg (-1 : Int32)) f2 f4))))))))
def mX0_prune (f0 f1 f2 f4 f6 : Nat → Int32) (x1 : Int32) (post : (Nat → Int32) → (Nat → Int32) → (Nat → Int32) → Prop) : Prop := vp_in (3 : Int32) 4 ∧ vp_in (f6 (3 : Int32).toNatClampNeg) 400 ∧ ((((f1 (f6 (3 : Int32).toNatClampNeg).toNatClampNeg) &&& (15 : Int32)) = (0 : Int32) → (vp_in (3 : Int32) 4 ∧ vp_in (f6 (3 : Int32).toNatClampNeg) 400 ∧ ∃ n32 : Nat, mX0_prune_32 n32 f0 f1 (upd f2 (f6 (3 : Int32).toNatClampNeg).toNatClampNeg (0 : Int32)) f4 f6 x1 (2 : Int32) post)) ∧ (¬ ((f1 (f6 (3 : Int32).toNatClampNeg).toNatClampNeg) &&& (15 : Int32)) = (0 : Int32) → (post f0 f2 f4)))
def mX0_remove (f0 f1 f2 f4 f5 f6 : Nat → Int32) (x1 : Int32) (post : Int32 → (Nat → Int32) → (Nat → Int32) → (Nat → Int32) → (Nat → Int32) → (Nat → Int32) → (Nat → Int32) → Prop) : Prop := ((x1 < (0 : Int32) → (post (-1 : Int32) f0 f1 f2 f4 f5 f6)) ∧ (¬ x1 < (0 : Int32) → ((((255 : Int32) < x1 → (post (-1 : Int32) f0 f1 f2 f4 f5 f6)) ∧ (¬ (255 : Int32) < x1 → (mX0_holds f0 f1 f4 (0 : Int32) x1 (fun r_3 => ((¬ r_3 = (0 : Int32) → (mX0_ownPath f0 f1 f2 f4 f6 x1 (fun r_5 f0_5 f1_5 f2_5 f4_5 f6_5 => vp_in r_5 400 ∧ vp_in r_5 400 ∧ mX0_prune f0_5 (upd f1_5 (r_5).toNatClampNeg ((f1_5 (r_5).toNatClampNeg) &&& (((1 : Int32) <<< ((x1 &&& (3 : Int32)) &&& 31)) ^^^ (-1 : Int32)))) f2_5 f4_5 f6_5 x1 (fun f0_8 f2_8 f4_8 => vp_in (0 : Int32) 8 ∧ vp_in (0 : Int32) 8 ∧ vp_in (0 : Int32) 8 ∧ post ((upd f5 (0 : Int32).toNatClampNeg ((f5 (0 : Int32).toNatClampNeg) - (1 : Int32))) (0 : Int32).toNatClampNeg) f0_8 (upd f1_5 (r_5).toNatClampNeg ((f1_5 (r_5).toNatClampNeg) &&& (((1 : Int32) <<< ((x1 &&& (3 : Int32)) &&& 31)) ^^^ (-1 : Int32)))) f2_8 f4_8 (upd f5 (0 : Int32).toNatClampNeg ((f5 (0 : Int32).toNatClampNeg) - (1 : Int32))) f6_5)))) ∧ (r_3 = (0 : Int32) → (post (-1 : Int32) f0 f1 f2 f4 f5 f6))))))))))
def mX0_share (f2 f4 f5 : Nat → Int32) (x1 x2 : Int32) (post : (Nat → Int32) → (Nat → Int32) → (Nat → Int32) → Prop) : Prop := vp_in x1 8 ∧ vp_in x2 8 ∧ vp_in x1 8 ∧ vp_in x2 8 ∧ vp_in x2 8 ∧ ((((upd f4 (x2).toNatClampNeg (f4 (x1).toNatClampNeg)) (x2).toNatClampNeg) < (0 : Int32) → (post f2 (upd f4 (x2).toNatClampNeg (f4 (x1).toNatClampNeg)) (upd f5 (x2).toNatClampNeg (f5 (x1).toNatClampNeg)))) ∧ (¬ ((upd f4 (x2).toNatClampNeg (f4 (x1).toNatClampNeg)) (x2).toNatClampNeg) < (0 : Int32) → (vp_in x2 8 ∧ vp_in ((upd f4 (x2).toNatClampNeg (f4 (x1).toNatClampNeg)) (x2).toNatClampNeg) 400 ∧ vp_in ((upd f4 (x2).toNatClampNeg (f4 (x1).toNatClampNeg)) (x2).toNatClampNeg) 400 ∧ post (upd f2 ((upd f4 (x2).toNatClampNeg (f4 (x1).toNatClampNeg)) (x2).toNatClampNeg).toNatClampNeg ((f2 ((upd f4 (x2).toNatClampNeg (f4 (x1).toNatClampNeg)) (x2).toNatClampNeg).toNatClampNeg) + (1 : Int32))) (upd f4 (x2).toNatClampNeg (f4 (x1).toNatClampNeg)) (upd f5 (x2).toNatClampNeg (f5 (x1).toNatClampNeg)))))
def mX0_commit_2 : Nat → (Nat → Int32) → (Nat → Int32) → (Nat → Int32) → (Nat → Int32) → Int32 → (Int32 → (Nat → Int32) → (Nat → Int32) → (Nat → Int32) → (Nat → Int32) → Prop) → Prop
  | 0, _, _, _, _, _, _ => False
  | n2 + 1, f2, f3, f4, f5, x1, post => (((8 : Int32) ≤ x1 → (post (-1 : Int32) f2 f3 f4 f5)) ∧ (¬ (8 : Int32) ≤ x1 → (vp_in x1 8 ∧ ((¬ (f3 (x1).toNatClampNeg) = (0 : Int32) → (mX0_commit_2 n2 f2 f3 f4 f5 (x1 + (1 : Int32)) post)) ∧ ((f3 (x1).toNatClampNeg) = (0 : Int32) → (vp_in x1 8 ∧ mX0_share f2 f4 f5 (0 : Int32) x1 (fun f2_5 f4_5 f5_5 => post (x1 - (1 : Int32)) f2_5 (upd f3 (x1).toNatClampNeg (vp_nar .boolean (1 : Int32))) f4_5 f5_5)))))))
def mX0_commit (f2 f3 f4 f5 : Nat → Int32) (post : Int32 → (Nat → Int32) → (Nat → Int32) → (Nat → Int32) → (Nat → Int32) → Prop) : Prop := ∃ n2 : Nat, mX0_commit_2 n2 f2 f3 f4 f5 (1 : Int32) post
def mX0_giveBack_76 : Nat → (Nat → Int32) → (Nat → Int32) → (Nat → Int32) → (Nat → Int32) → Int32 → Int32 → Int32 → Int32 → (Int32 → (Nat → Int32) → Prop) → Prop
  | 0, _, _, _, _, _, _, _, _, _ => False
  | n76 + 1, f0, f1, f2, f7, x2, x3, x4, x5, kx => (((4 : Int32) ≤ x5 → (kx x2 f7)) ∧ (¬ (4 : Int32) ≤ x5 → (vp_in (((4 : Int32) * x4) + x5) 1600 ∧ (((f0 (((4 : Int32) * x4) + x5).toNatClampNeg) < (0 : Int32) → (mX0_giveBack_76 n76 f0 f1 f2 f7 x2 x3 x4 (x5 + (1 : Int32)) kx)) ∧ (¬ (f0 (((4 : Int32) * x4) + x5).toNatClampNeg) < (0 : Int32) → (vp_in (((4 : Int32) * x4) + x5) 1600 ∧ vp_in x2 16 ∧ mX0_giveBack_76 n76 f0 f1 f2 (upd f7 (x2).toNatClampNeg (f0 (((4 : Int32) * x4) + x5).toNatClampNeg)) (x2 + (1 : Int32)) x3 x4 (x5 + (1 : Int32)) kx))))))
def mX0_giveBack_16 : Nat → (Nat → Int32) → (Nat → Int32) → (Nat → Int32) → (Nat → Int32) → Int32 → Int32 → ((Nat → Int32) → (Nat → Int32) → Prop) → Prop
  | 0, _, _, _, _, _, _, _ => False
  | n16 + 1, f0, f1, f2, f7, x2, x3, post => (((400 : Int32) ≤ x3 → (post f2 f7)) ∧ (¬ (400 : Int32) ≤ x3 → (((x2 ≤ (0 : Int32) → (post f2 f7)) ∧ (¬ x2 ≤ (0 : Int32) → (vp_in (x2 + (-1 : Int32)) 16 ∧ vp_in (f7 (x2 + (-1 : Int32)).toNatClampNeg) 400 ∧ vp_in (f7 (x2 + (-1 : Int32)).toNatClampNeg) 400 ∧ vp_in (f7 (x2 + (-1 : Int32)).toNatClampNeg) 400 ∧ ((¬ ((upd f2 (f7 (x2 + (-1 : Int32)).toNatClampNeg).toNatClampNeg ((f2 (f7 (x2 + (-1 : Int32)).toNatClampNeg).toNatClampNeg) - (1 : Int32))) (f7 (x2 + (-1 : Int32)).toNatClampNeg).toNatClampNeg) = (0 : Int32) → (mX0_giveBack_16 n16 f0 f1 (upd f2 (f7 (x2 + (-1 : Int32)).toNatClampNeg).toNatClampNeg ((f2 (f7 (x2 + (-1 : Int32)).toNatClampNeg).toNatClampNeg) - (1 : Int32))) f7 (x2 + (-1 : Int32)) (x3 + (1 : Int32)) post)) ∧ (((upd f2 (f7 (x2 + (-1 : Int32)).toNatClampNeg).toNatClampNeg ((f2 (f7 (x2 + (-1 : Int32)).toNatClampNeg).toNatClampNeg) - (1 : Int32))) (f7 (x2 + (-1 : Int32)).toNatClampNeg).toNatClampNeg) = (0 : Int32) → (vp_in (f7 (x2 + (-1 : Int32)).toNatClampNeg) 400 ∧ ((¬ ((f1 (f7 (x2 + (-1 : Int32)).toNatClampNeg).toNatClampNeg) &&& (256 : Int32)) = (0 : Int32) → (mX0_giveBack_16 n16 f0 f1 (upd f2 (f7 (x2 + (-1 : Int32)).toNatClampNeg).toNatClampNeg ((f2 (f7 (x2 + (-1 : Int32)).toNatClampNeg).toNatClampNeg) - (1 : Int32))) f7 (x2 + (-1 : Int32)) (x3 + (1 : Int32)) post)) ∧ (((f1 (f7 (x2 + (-1 : Int32)).toNatClampNeg).toNatClampNeg) &&& (256 : Int32)) = (0 : Int32) → (∃ n76 : Nat, mX0_giveBack_76 n76 f0 f1 (upd f2 (f7 (x2 + (-1 : Int32)).toNatClampNeg).toNatClampNeg ((f2 (f7 (x2 + (-1 : Int32)).toNatClampNeg).toNatClampNeg) - (1 : Int32))) f7 (x2 + (-1 : Int32)) x3 (f7 (x2 + (-1 : Int32)).toNatClampNeg) (0 : Int32) (fun x2_10 f7_10 => mX0_giveBack_16 n16 f0 f1 (upd f2 (f7 (x2 + (-1 : Int32)).toNatClampNeg).toNatClampNeg ((f2 (f7 (x2 + (-1 : Int32)).toNatClampNeg).toNatClampNeg) - (1 : Int32))) f7_10 x2_10 (x3 + (1 : Int32)) post)))))))))))))
def mX0_giveBack (f0 f1 f2 f7 : Nat → Int32) (x1 : Int32) (post : (Nat → Int32) → (Nat → Int32) → Prop) : Prop := (((0 : Int32) ≤ x1 → (vp_in (0 : Int32) 16 ∧ ∃ n16 : Nat, mX0_giveBack_16 n16 f0 f1 f2 (upd f7 (0 : Int32).toNatClampNeg x1) (1 : Int32) (0 : Int32) post)) ∧ (¬ (0 : Int32) ≤ x1 → (post f2 f7)))
def mX0_restore (f0 f1 f2 f3 f4 f5 f7 : Nat → Int32) (x1 : Int32) (post : Int32 → (Nat → Int32) → (Nat → Int32) → (Nat → Int32) → (Nat → Int32) → Prop) : Prop := ((x1 < (0 : Int32) → (post (-1 : Int32) f2 f4 f5 f7)) ∧ (¬ x1 < (0 : Int32) → ((((6 : Int32) < x1 → (post (-1 : Int32) f2 f4 f5 f7)) ∧ (¬ (6 : Int32) < x1 → (vp_in (x1 + (1 : Int32)) 8 ∧ ((¬ (f3 (x1 + (1 : Int32)).toNatClampNeg) = (0 : Int32) → (vp_in (0 : Int32) 8 ∧ mX0_share f2 f4 f5 (x1 + (1 : Int32)) (0 : Int32) (fun f2_6 f4_6 f5_6 => mX0_giveBack f0 f1 f2_6 f7 (f4 (0 : Int32).toNatClampNeg) (fun f2_7 f7_7 => vp_in (0 : Int32) 8 ∧ post (f5_6 (0 : Int32).toNatClampNeg) f2_7 f4_6 f5_6 f7_7)))) ∧ ((f3 (x1 + (1 : Int32)).toNatClampNeg) = (0 : Int32) → (post (-1 : Int32) f2 f4 f5 f7)))))))))
def mX0_drop (f0 f1 f2 f3 f4 f5 f7 : Nat → Int32) (x1 : Int32) (post : Int32 → (Nat → Int32) → (Nat → Int32) → (Nat → Int32) → (Nat → Int32) → (Nat → Int32) → Prop) : Prop := ((x1 < (0 : Int32) → (post (-1 : Int32) f2 f3 f4 f5 f7)) ∧ (¬ x1 < (0 : Int32) → ((((6 : Int32) < x1 → (post (-1 : Int32) f2 f3 f4 f5 f7)) ∧ (¬ (6 : Int32) < x1 → (vp_in (x1 + (1 : Int32)) 8 ∧ ((¬ (f3 (x1 + (1 : Int32)).toNatClampNeg) = (0 : Int32) → (vp_in (x1 + (1 : Int32)) 8 ∧ vp_in (x1 + (1 : Int32)) 8 ∧ mX0_giveBack f0 f1 f2 f7 (f4 (x1 + (1 : Int32)).toNatClampNeg) (fun f2_7 f7_7 => vp_in (x1 + (1 : Int32)) 8 ∧ vp_in (x1 + (1 : Int32)) 8 ∧ post (0 : Int32) f2_7 (upd f3 (x1 + (1 : Int32)).toNatClampNeg (vp_nar .boolean (0 : Int32))) (upd f4 (x1 + (1 : Int32)).toNatClampNeg (-1 : Int32)) (upd f5 (x1 + (1 : Int32)).toNatClampNeg (0 : Int32)) f7_7))) ∧ ((f3 (x1 + (1 : Int32)).toNatClampNeg) = (0 : Int32) → (post (-1 : Int32) f2 f3 f4 f5 f7)))))))))
def mX0_isMap (f3 : Nat → Int32) (x1 : Int32) (post : Int32 → Prop) : Prop := ((x1 < (-1 : Int32) → (post (0 : Int32) )) ∧ (¬ x1 < (-1 : Int32) → ((((6 : Int32) < x1 → (post (0 : Int32) )) ∧ (¬ (6 : Int32) < x1 → (vp_in (x1 + (1 : Int32)) 8 ∧ (((f3 (x1 + (1 : Int32)).toNatClampNeg) = (0 : Int32) → (post (0 : Int32) )) ∧ (¬ (f3 (x1 + (1 : Int32)).toNatClampNeg) = (0 : Int32) → (post (1 : Int32) )))))))))
def mX0_get (f0 f1 f3 f4 : Nat → Int32) (x1 x2 : Int32) (post : Int32 → Prop) : Prop := mX0_isMap f3 x1 (fun r_1 => ((r_1 = (0 : Int32) → (post (0 : Int32) )) ∧ (¬ r_1 = (0 : Int32) → (((x2 < (0 : Int32) → (post (0 : Int32) )) ∧ (¬ x2 < (0 : Int32) → (((x2 ≤ (255 : Int32) → (mX0_leafFor f0 f4 (x1 + (1 : Int32)) x2 (fun r_5 => ((r_5 < (0 : Int32) → (post (0 : Int32) )) ∧ (¬ r_5 < (0 : Int32) → (vp_in r_5 400 ∧ ((((sn_ushr (f1 (r_5).toNatClampNeg) (x2 &&& (3 : Int32))) &&& (1 : Int32)) = (0 : Int32) → (post (0 : Int32) )) ∧ (¬ ((sn_ushr (f1 (r_5).toNatClampNeg) (x2 &&& (3 : Int32))) &&& (1 : Int32)) = (0 : Int32) → (vp_in (((4 : Int32) * r_5) + (x2 &&& (3 : Int32))) 1600 ∧ post (f0 (((4 : Int32) * r_5) + (x2 &&& (3 : Int32))).toNatClampNeg) ))))))))) ∧ (¬ x2 ≤ (255 : Int32) → (post (0 : Int32) ))))))))))
def mX0_has (f0 f1 f3 f4 : Nat → Int32) (x1 x2 : Int32) (post : Int32 → Prop) : Prop := mX0_isMap f3 x1 (fun r_1 => ((¬ r_1 = (0 : Int32) → (((x2 < (0 : Int32) → (post (0 : Int32) )) ∧ (¬ x2 < (0 : Int32) → ((((255 : Int32) < x2 → (post (0 : Int32) )) ∧ (¬ (255 : Int32) < x2 → (mX0_holds f0 f1 f4 (x1 + (1 : Int32)) x2 (fun r_5 => ((r_5 = (0 : Int32) → (post (0 : Int32) )) ∧ (¬ r_5 = (0 : Int32) → (post (1 : Int32) )))))))))))) ∧ (r_1 = (0 : Int32) → (post (-1 : Int32) ))))
def mX0_size (f3 f5 : Nat → Int32) (x1 : Int32) (post : Int32 → Prop) : Prop := mX0_isMap f3 x1 (fun r_1 => ((r_1 = (0 : Int32) → (post (-1 : Int32) )) ∧ (¬ r_1 = (0 : Int32) → (vp_in (x1 + (1 : Int32)) 8 ∧ post (f5 (x1 + (1 : Int32)).toNatClampNeg) ))))
def mX0_missingLevel_10 : Nat → (Nat → Int32) → (Nat → Int32) → (Nat → Int32) → Int32 → Int32 → Int32 → (Int32 → Prop) → Prop
  | 0, _, _, _, _, _, _, _ => False
  | n10 + 1, f0, f1, f4, x2, x3, x4, post => (((3 : Int32) ≤ x4 → ((((0 : Int32) ≤ x3 → (vp_in x3 400 ∧ ((((sn_ushr (f1 (x3).toNatClampNeg) (x2 &&& (3 : Int32))) &&& (1 : Int32)) = (0 : Int32) → (post (4 : Int32) )) ∧ (¬ ((sn_ushr (f1 (x3).toNatClampNeg) (x2 &&& (3 : Int32))) &&& (1 : Int32)) = (0 : Int32) → (post (5 : Int32) ))))) ∧ (¬ (0 : Int32) ≤ x3 → (post (3 : Int32) ))))) ∧ (¬ (3 : Int32) ≤ x4 → ((((0 : Int32) ≤ x3 → (mX0_turn x2 x4 (fun r_6 => vp_in (((4 : Int32) * x3) + r_6) 1600 ∧ mX0_missingLevel_10 n10 f0 f1 f4 x2 (f0 (((4 : Int32) * x3) + r_6).toNatClampNeg) (x4 + (1 : Int32)) post))) ∧ (¬ (0 : Int32) ≤ x3 → (post x4 ))))))
def mX0_missingLevel (f0 f1 f4 : Nat → Int32) (x1 x2 : Int32) (post : Int32 → Prop) : Prop := vp_in x1 8 ∧ ∃ n10 : Nat, mX0_missingLevel_10 n10 f0 f1 f4 x2 (f4 (x1).toNatClampNeg) (0 : Int32) post
def mX0_behind (x0 x1 : Int32) (post : Int32 → Prop) : Prop := post ((x0 &&& (((sn_ushr (256 : Int32) ((2 : Int32) * x1)) - (1 : Int32)) ^^^ (-1 : Int32))) + (sn_ushr (256 : Int32) ((2 : Int32) * x1))) 
def mX0_next_23 : Nat → (Nat → Int32) → (Nat → Int32) → (Nat → Int32) → (Nat → Int32) → Int32 → Int32 → Int32 → (Int32 → Prop) → Prop
  | 0, _, _, _, _, _, _, _, _ => False
  | n23 + 1, f0, f1, f3, f4, x1, x3, x4, post => (((256 : Int32) ≤ x4 → (post (256 : Int32) )) ∧ (¬ (256 : Int32) ≤ x4 → ((((256 : Int32) ≤ x3 → (post (256 : Int32) )) ∧ (¬ (256 : Int32) ≤ x3 → (mX0_missingLevel f0 f1 f4 (x1 + (1 : Int32)) x3 (fun r_3 => ((r_3 ≤ (4 : Int32) → (mX0_behind x3 r_3 (fun r_5 => mX0_next_23 n23 f0 f1 f3 f4 x1 r_5 (x4 + (1 : Int32)) post))) ∧ (¬ r_3 ≤ (4 : Int32) → (post x3 ))))))))))
def mX0_next (f0 f1 f3 f4 : Nat → Int32) (x1 x2 : Int32) (post : Int32 → Prop) : Prop := mX0_isMap f3 x1 (fun r_1 => ((¬ r_1 = (0 : Int32) → ((((0 : Int32) ≤ x2 → (∃ n23 : Nat, mX0_next_23 n23 f0 f1 f3 f4 x1 x2 (0 : Int32) post)) ∧ (¬ (0 : Int32) ≤ x2 → (∃ n23 : Nat, mX0_next_23 n23 f0 f1 f3 f4 x1 (0 : Int32) (0 : Int32) post))))) ∧ (r_1 = (0 : Int32) → (post (-1 : Int32) ))))
def mX0_sharedLevel_160 (f0 f1 f4 : Nat → Int32) (x3 x4 x5 x6 x7 : Int32) (post : Int32 → Prop) : Prop := ((x6 = x7 → (((x6 = (0 : Int32) → (post (4 : Int32) )) ∧ (¬ x6 = (0 : Int32) → (vp_in (((4 : Int32) * x4) + (x3 &&& (3 : Int32))) 1600 ∧ vp_in (((4 : Int32) * x5) + (x3 &&& (3 : Int32))) 1600 ∧ (((f0 (((4 : Int32) * x4) + (x3 &&& (3 : Int32))).toNatClampNeg) = (f0 (((4 : Int32) * x5) + (x3 &&& (3 : Int32))).toNatClampNeg) → (post (4 : Int32) )) ∧ (¬ (f0 (((4 : Int32) * x4) + (x3 &&& (3 : Int32))).toNatClampNeg) = (f0 (((4 : Int32) * x5) + (x3 &&& (3 : Int32))).toNatClampNeg) → (post (5 : Int32) )))))))) ∧ (¬ x6 = x7 → (post (5 : Int32) )))
def mX0_sharedLevel_132 (f0 f1 f4 : Nat → Int32) (x3 x4 x5 x6 : Int32) (post : Int32 → Prop) : Prop := ((x5 < (0 : Int32) → (mX0_sharedLevel_160 f0 f1 f4 x3 x4 x5 x6 (0 : Int32)  post)) ∧ (¬ x5 < (0 : Int32) → (vp_in x5 400 ∧ ((((sn_ushr (f1 (x5).toNatClampNeg) (x3 &&& (3 : Int32))) &&& (1 : Int32)) = (0 : Int32) → (mX0_sharedLevel_160 f0 f1 f4 x3 x4 x5 x6 (0 : Int32)  post)) ∧ (¬ ((sn_ushr (f1 (x5).toNatClampNeg) (x3 &&& (3 : Int32))) &&& (1 : Int32)) = (0 : Int32) → (mX0_sharedLevel_160 f0 f1 f4 x3 x4 x5 x6 (1 : Int32)  post))))))
def mX0_sharedLevel_19 : Nat → (Nat → Int32) → (Nat → Int32) → (Nat → Int32) → Int32 → Int32 → Int32 → Int32 → (Int32 → Prop) → Prop
  | 0, _, _, _, _, _, _, _, _ => False
  | n19 + 1, f0, f1, f4, x3, x4, x5, x6, post => (((3 : Int32) ≤ x6 → (((¬ x4 = x5 → (((x4 < (0 : Int32) → (mX0_sharedLevel_132 f0 f1 f4 x3 x4 x5 (0 : Int32)  post)) ∧ (¬ x4 < (0 : Int32) → (vp_in x4 400 ∧ ((((sn_ushr (f1 (x4).toNatClampNeg) (x3 &&& (3 : Int32))) &&& (1 : Int32)) = (0 : Int32) → (mX0_sharedLevel_132 f0 f1 f4 x3 x4 x5 (0 : Int32)  post)) ∧ (¬ ((sn_ushr (f1 (x4).toNatClampNeg) (x3 &&& (3 : Int32))) &&& (1 : Int32)) = (0 : Int32) → (mX0_sharedLevel_132 f0 f1 f4 x3 x4 x5 (1 : Int32)  post)))))))) ∧ (x4 = x5 → (post (3 : Int32) ))))) ∧ (¬ (3 : Int32) ≤ x6 → (((¬ x4 = x5 → ((((0 : Int32) ≤ x4 → (mX0_turn x3 x6 (fun r_8 => vp_in (((4 : Int32) * x4) + r_8) 1600 ∧ (((0 : Int32) ≤ x5 → (mX0_turn x3 x6 (fun r_11 => vp_in (((4 : Int32) * x5) + r_11) 1600 ∧ mX0_sharedLevel_19 n19 f0 f1 f4 x3 (f0 (((4 : Int32) * x4) + r_8).toNatClampNeg) (f0 (((4 : Int32) * x5) + r_11).toNatClampNeg) (x6 + (1 : Int32)) post))) ∧ (¬ (0 : Int32) ≤ x5 → (mX0_sharedLevel_19 n19 f0 f1 f4 x3 (f0 (((4 : Int32) * x4) + r_8).toNatClampNeg) (-1 : Int32) (x6 + (1 : Int32)) post)))))) ∧ (¬ (0 : Int32) ≤ x4 → ((((0 : Int32) ≤ x5 → (mX0_turn x3 x6 (fun r_14 => vp_in (((4 : Int32) * x5) + r_14) 1600 ∧ mX0_sharedLevel_19 n19 f0 f1 f4 x3 (-1 : Int32) (f0 (((4 : Int32) * x5) + r_14).toNatClampNeg) (x6 + (1 : Int32)) post))) ∧ (¬ (0 : Int32) ≤ x5 → (mX0_sharedLevel_19 n19 f0 f1 f4 x3 (-1 : Int32) (-1 : Int32) (x6 + (1 : Int32)) post)))))))) ∧ (x4 = x5 → (post x6 ))))))
def mX0_sharedLevel (f0 f1 f4 : Nat → Int32) (x1 x2 x3 : Int32) (post : Int32 → Prop) : Prop := vp_in x1 8 ∧ vp_in x2 8 ∧ ∃ n19 : Nat, mX0_sharedLevel_19 n19 f0 f1 f4 x3 (f4 (x1).toNatClampNeg) (f4 (x2).toNatClampNeg) (0 : Int32) post
def mX0_nextChange_32 : Nat → (Nat → Int32) → (Nat → Int32) → (Nat → Int32) → (Nat → Int32) → Int32 → Int32 → Int32 → Int32 → (Int32 → Prop) → Prop
  | 0, _, _, _, _, _, _, _, _, _ => False
  | n32 + 1, f0, f1, f3, f4, x1, x2, x4, x5, post => (((256 : Int32) ≤ x5 → (post (256 : Int32) )) ∧ (¬ (256 : Int32) ≤ x5 → ((((256 : Int32) ≤ x4 → (post (256 : Int32) )) ∧ (¬ (256 : Int32) ≤ x4 → (mX0_sharedLevel f0 f1 f4 (x1 + (1 : Int32)) (x2 + (1 : Int32)) x4 (fun r_3 => ((r_3 ≤ (4 : Int32) → (mX0_behind x4 r_3 (fun r_5 => mX0_nextChange_32 n32 f0 f1 f3 f4 x1 x2 r_5 (x5 + (1 : Int32)) post))) ∧ (¬ r_3 ≤ (4 : Int32) → (post x4 ))))))))))
def mX0_nextChange (f0 f1 f3 f4 : Nat → Int32) (x1 x2 x3 : Int32) (post : Int32 → Prop) : Prop := mX0_isMap f3 x1 (fun r_1 => ((r_1 = (0 : Int32) → (post (-1 : Int32) )) ∧ (¬ r_1 = (0 : Int32) → (mX0_isMap f3 x2 (fun r_3 => ((¬ r_3 = (0 : Int32) → ((((0 : Int32) ≤ x3 → (∃ n32 : Nat, mX0_nextChange_32 n32 f0 f1 f3 f4 x1 x2 x3 (0 : Int32) post)) ∧ (¬ (0 : Int32) ≤ x3 → (∃ n32 : Nat, mX0_nextChange_32 n32 f0 f1 f3 f4 x1 x2 (0 : Int32) (0 : Int32) post))))) ∧ (r_3 = (0 : Int32) → (post (-1 : Int32) ))))))))
def mX0_changes_32 : Nat → (Nat → Int32) → (Nat → Int32) → (Nat → Int32) → (Nat → Int32) → Int32 → Int32 → Int32 → Int32 → Int32 → (Int32 → Prop) → Prop
  | 0, _, _, _, _, _, _, _, _, _, _ => False
  | n32 + 1, f0, f1, f3, f4, x1, x2, x3, x4, x5, post => (((256 : Int32) ≤ x5 → (post x3 )) ∧ (¬ (256 : Int32) ≤ x5 → ((((256 : Int32) ≤ x4 → (post x3 )) ∧ (¬ (256 : Int32) ≤ x4 → (mX0_nextChange f0 f1 f3 f4 x1 x2 (x4 + (1 : Int32)) (fun r_3 => mX0_changes_32 n32 f0 f1 f3 f4 x1 x2 (x3 + (1 : Int32)) r_3 (x5 + (1 : Int32)) post)))))))
def mX0_changes (f0 f1 f3 f4 : Nat → Int32) (x1 x2 : Int32) (post : Int32 → Prop) : Prop := mX0_isMap f3 x1 (fun r_1 => ((r_1 = (0 : Int32) → (post (-1 : Int32) )) ∧ (¬ r_1 = (0 : Int32) → (mX0_isMap f3 x2 (fun r_3 => ((¬ r_3 = (0 : Int32) → (mX0_nextChange f0 f1 f3 f4 x1 x2 (0 : Int32) (fun r_5 => ∃ n32 : Nat, mX0_changes_32 n32 f0 f1 f3 f4 x1 x2 (0 : Int32) r_5 (0 : Int32) post))) ∧ (r_3 = (0 : Int32) → (post (-1 : Int32) ))))))))
def mX1_badKey (x0 : Int32) (post : Int32 → Prop) : Prop := ((x0 < (0 : Int32) → (post (1 : Int32) )) ∧ (¬ x0 < (0 : Int32) → (((x0 ≤ (255 : Int32) → (post (0 : Int32) )) ∧ (¬ x0 ≤ (255 : Int32) → (post (1 : Int32) ))))))
def mX1_count_4 : Nat → (Nat → Int32) → Int32 → Int32 → Int32 → (Int32 → Prop) → Prop
  | 0, _, _, _, _, _ => False
  | n4 + 1, f1, x1, x2, x3, post => (((256 : Int32) ≤ x3 → (post x2 )) ∧ (¬ (256 : Int32) ≤ x3 → (vp_in (((256 : Int32) * x1) + x3) 2048 ∧ (((f1 (((256 : Int32) * x1) + x3).toNatClampNeg) = (0 : Int32) → (mX1_count_4 n4 f1 x1 x2 (x3 + (1 : Int32)) post)) ∧ (¬ (f1 (((256 : Int32) * x1) + x3).toNatClampNeg) = (0 : Int32) → (mX1_count_4 n4 f1 x1 (x2 + (1 : Int32)) (x3 + (1 : Int32)) post))))))
def mX1_count (f1 : Nat → Int32) (x1 : Int32) (post : Int32 → Prop) : Prop := ∃ n4 : Nat, mX1_count_4 n4 f1 x1 (0 : Int32) (0 : Int32) post
def mX1_put_33 (f1 f2 : Nat → Int32) (x1 x2 : Int32) (post : Int32 → (Nat → Int32) → (Nat → Int32) → Prop) : Prop := vp_in ((1792 : Int32) + x1) 2048 ∧ vp_in ((1792 : Int32) + x1) 2048 ∧ mX1_count (upd f1 ((1792 : Int32) + x1).toNatClampNeg (vp_nar .boolean (1 : Int32))) (7 : Int32) (fun r_3 => post r_3 (upd f1 ((1792 : Int32) + x1).toNatClampNeg (vp_nar .boolean (1 : Int32))) (upd f2 ((1792 : Int32) + x1).toNatClampNeg x2))
def mX1_put (f1 f2 : Nat → Int32) (x1 x2 : Int32) (post : Int32 → (Nat → Int32) → (Nat → Int32) → Prop) : Prop := mX1_badKey x1 (fun r_1 => ((¬ r_1 = (0 : Int32) → (post (-1 : Int32) f1 f2)) ∧ (r_1 = (0 : Int32) → (vp_in ((1792 : Int32) + x1) 2048 ∧ ((¬ (f1 ((1792 : Int32) + x1).toNatClampNeg) = (0 : Int32) → (mX1_put_33 f1 f2 x1 x2  post)) ∧ ((f1 ((1792 : Int32) + x1).toNatClampNeg) = (0 : Int32) → (mX1_count f1 (7 : Int32) (fun r_5 => ((¬ r_5 = (16 : Int32) → (mX1_put_33 f1 f2 x1 x2  post)) ∧ (r_5 = (16 : Int32) → (post (-1 : Int32) f1 f2)))))))))))
def mX1_remove (f1 : Nat → Int32) (x1 : Int32) (post : Int32 → (Nat → Int32) → Prop) : Prop := mX1_badKey x1 (fun r_1 => ((¬ r_1 = (0 : Int32) → (post (-1 : Int32) f1)) ∧ (r_1 = (0 : Int32) → (vp_in ((1792 : Int32) + x1) 2048 ∧ ((¬ (f1 ((1792 : Int32) + x1).toNatClampNeg) = (0 : Int32) → (vp_in ((1792 : Int32) + x1) 2048 ∧ mX1_count (upd f1 ((1792 : Int32) + x1).toNatClampNeg (vp_nar .boolean (0 : Int32))) (7 : Int32) (fun r_6 => post r_6 (upd f1 ((1792 : Int32) + x1).toNatClampNeg (vp_nar .boolean (0 : Int32)))))) ∧ ((f1 ((1792 : Int32) + x1).toNatClampNeg) = (0 : Int32) → (post (-1 : Int32) f1)))))))
def mX1_copy_2 : Nat → (Nat → Int32) → (Nat → Int32) → Int32 → Int32 → Int32 → ((Nat → Int32) → (Nat → Int32) → Prop) → Prop
  | 0, _, _, _, _, _, _ => False
  | n2 + 1, f1, f2, x1, x2, x3, post => (((256 : Int32) ≤ x3 → (post f1 f2)) ∧ (¬ (256 : Int32) ≤ x3 → (vp_in (((256 : Int32) * x1) + x3) 2048 ∧ vp_in (((256 : Int32) * x2) + x3) 2048 ∧ vp_in (((256 : Int32) * x1) + x3) 2048 ∧ vp_in (((256 : Int32) * x2) + x3) 2048 ∧ mX1_copy_2 n2 (upd f1 (((256 : Int32) * x2) + x3).toNatClampNeg (vp_nar .boolean (f1 (((256 : Int32) * x1) + x3).toNatClampNeg))) (upd f2 (((256 : Int32) * x2) + x3).toNatClampNeg (f2 (((256 : Int32) * x1) + x3).toNatClampNeg)) x1 x2 (x3 + (1 : Int32)) post)))
def mX1_copy (f1 f2 : Nat → Int32) (x1 x2 : Int32) (post : (Nat → Int32) → (Nat → Int32) → Prop) : Prop := ∃ n2 : Nat, mX1_copy_2 n2 f1 f2 x1 x2 (0 : Int32) post
def mX1_commit_2 : Nat → (Nat → Int32) → (Nat → Int32) → (Nat → Int32) → Int32 → (Int32 → (Nat → Int32) → (Nat → Int32) → (Nat → Int32) → Prop) → Prop
  | 0, _, _, _, _, _ => False
  | n2 + 1, f0, f1, f2, x1, post => (((7 : Int32) ≤ x1 → (post (-1 : Int32) f0 f1 f2)) ∧ (¬ (7 : Int32) ≤ x1 → (vp_in x1 8 ∧ ((¬ (f0 (x1).toNatClampNeg) = (0 : Int32) → (mX1_commit_2 n2 f0 f1 f2 (x1 + (1 : Int32)) post)) ∧ ((f0 (x1).toNatClampNeg) = (0 : Int32) → (vp_in x1 8 ∧ mX1_copy f1 f2 (7 : Int32) x1 (fun f1_5 f2_5 => post x1 (upd f0 (x1).toNatClampNeg (vp_nar .boolean (1 : Int32))) f1_5 f2_5)))))))
def mX1_commit (f0 f1 f2 : Nat → Int32) (post : Int32 → (Nat → Int32) → (Nat → Int32) → (Nat → Int32) → Prop) : Prop := ∃ n2 : Nat, mX1_commit_2 n2 f0 f1 f2 (0 : Int32) post
def mX1_free (f0 : Nat → Int32) (x1 : Int32) (post : Int32 → Prop) : Prop := ((x1 < (0 : Int32) → (post (1 : Int32) )) ∧ (¬ x1 < (0 : Int32) → ((((6 : Int32) < x1 → (post (1 : Int32) )) ∧ (¬ (6 : Int32) < x1 → (vp_in x1 8 ∧ ((¬ (f0 (x1).toNatClampNeg) = (0 : Int32) → (post (0 : Int32) )) ∧ ((f0 (x1).toNatClampNeg) = (0 : Int32) → (post (1 : Int32) )))))))))
def mX1_restore (f0 f1 f2 : Nat → Int32) (x1 : Int32) (post : Int32 → (Nat → Int32) → (Nat → Int32) → Prop) : Prop := mX1_free f0 x1 (fun r_1 => ((r_1 = (0 : Int32) → (mX1_copy f1 f2 x1 (7 : Int32) (fun f1_3 f2_3 => mX1_count f1_3 (7 : Int32) (fun r_4 => post r_4 f1_3 f2_3)))) ∧ (¬ r_1 = (0 : Int32) → (post (-1 : Int32) f1 f2))))
def mX1_drop (f0 : Nat → Int32) (x1 : Int32) (post : Int32 → (Nat → Int32) → Prop) : Prop := mX1_free f0 x1 (fun r_1 => ((r_1 = (0 : Int32) → (vp_in x1 8 ∧ post (0 : Int32) (upd f0 (x1).toNatClampNeg (vp_nar .boolean (0 : Int32))))) ∧ (¬ r_1 = (0 : Int32) → (post (-1 : Int32) f0))))
def mX1_place (f0 : Nat → Int32) (x1 : Int32) (post : Int32 → Prop) : Prop := ((¬ x1 = (-1 : Int32) → (((x1 < (0 : Int32) → (post (-1 : Int32) )) ∧ (¬ x1 < (0 : Int32) → ((((6 : Int32) < x1 → (post (-1 : Int32) )) ∧ (¬ (6 : Int32) < x1 → (vp_in x1 8 ∧ (((f0 (x1).toNatClampNeg) = (0 : Int32) → (post (-1 : Int32) )) ∧ (¬ (f0 (x1).toNatClampNeg) = (0 : Int32) → (post x1 ))))))))))) ∧ (x1 = (-1 : Int32) → (post (7 : Int32) )))
def mX1_get (f0 f1 f2 : Nat → Int32) (x1 x2 : Int32) (post : Int32 → Prop) : Prop := mX1_place f0 x1 (fun r_1 => ((r_1 < (0 : Int32) → (post (0 : Int32) )) ∧ (¬ r_1 < (0 : Int32) → (mX1_badKey x2 (fun r_3 => ((¬ r_3 = (0 : Int32) → (post (0 : Int32) )) ∧ (r_3 = (0 : Int32) → (vp_in (((256 : Int32) * r_1) + x2) 2048 ∧ ((¬ (f1 (((256 : Int32) * r_1) + x2).toNatClampNeg) = (0 : Int32) → (vp_in (((256 : Int32) * r_1) + x2) 2048 ∧ post (f2 (((256 : Int32) * r_1) + x2).toNatClampNeg) )) ∧ ((f1 (((256 : Int32) * r_1) + x2).toNatClampNeg) = (0 : Int32) → (post (0 : Int32) )))))))))))
def mX1_has (f0 f1 : Nat → Int32) (x1 x2 : Int32) (post : Int32 → Prop) : Prop := mX1_place f0 x1 (fun r_1 => (((0 : Int32) ≤ r_1 → (mX1_badKey x2 (fun r_3 => ((¬ r_3 = (0 : Int32) → (post (0 : Int32) )) ∧ (r_3 = (0 : Int32) → (vp_in (((256 : Int32) * r_1) + x2) 2048 ∧ (((f1 (((256 : Int32) * r_1) + x2).toNatClampNeg) = (0 : Int32) → (post (0 : Int32) )) ∧ (¬ (f1 (((256 : Int32) * r_1) + x2).toNatClampNeg) = (0 : Int32) → (post (1 : Int32) ))))))))) ∧ (¬ (0 : Int32) ≤ r_1 → (post (-1 : Int32) ))))
def mX1_size (f0 f1 : Nat → Int32) (x1 : Int32) (post : Int32 → Prop) : Prop := mX1_place f0 x1 (fun r_1 => (((0 : Int32) ≤ r_1 → (mX1_count f1 r_1 (fun r_3 => post r_3 ))) ∧ (¬ (0 : Int32) ≤ r_1 → (post (-1 : Int32) ))))
def mX1_next_15 : Nat → (Nat → Int32) → (Nat → Int32) → Int32 → Int32 → Int32 → (Int32 → Prop) → Prop
  | 0, _, _, _, _, _, _ => False
  | n15 + 1, f0, f1, x2, x3, x4, post => (((256 : Int32) ≤ x4 → (post (256 : Int32) )) ∧ (¬ (256 : Int32) ≤ x4 → (((x4 < x2 → (mX1_next_15 n15 f0 f1 x2 x3 (x4 + (1 : Int32)) post)) ∧ (¬ x4 < x2 → (vp_in (((256 : Int32) * x3) + x4) 2048 ∧ (((f1 (((256 : Int32) * x3) + x4).toNatClampNeg) = (0 : Int32) → (mX1_next_15 n15 f0 f1 x2 x3 (x4 + (1 : Int32)) post)) ∧ (¬ (f1 (((256 : Int32) * x3) + x4).toNatClampNeg) = (0 : Int32) → (post x4 )))))))))
def mX1_next (f0 f1 : Nat → Int32) (x1 x2 : Int32) (post : Int32 → Prop) : Prop := mX1_place f0 x1 (fun r_1 => (((0 : Int32) ≤ r_1 → (∃ n15 : Nat, mX1_next_15 n15 f0 f1 x2 r_1 (0 : Int32) post)) ∧ (¬ (0 : Int32) ≤ r_1 → (post (-1 : Int32) ))))
def mX1_differ (f1 f2 : Nat → Int32) (x1 x2 x3 : Int32) (post : Int32 → Prop) : Prop := vp_in (((256 : Int32) * x1) + x3) 2048 ∧ vp_in (((256 : Int32) * x2) + x3) 2048 ∧ (((f1 (((256 : Int32) * x1) + x3).toNatClampNeg) = (f1 (((256 : Int32) * x2) + x3).toNatClampNeg) → (vp_in (((256 : Int32) * x1) + x3) 2048 ∧ (((f1 (((256 : Int32) * x1) + x3).toNatClampNeg) = (0 : Int32) → (post (0 : Int32) )) ∧ (¬ (f1 (((256 : Int32) * x1) + x3).toNatClampNeg) = (0 : Int32) → (vp_in (((256 : Int32) * x1) + x3) 2048 ∧ vp_in (((256 : Int32) * x2) + x3) 2048 ∧ (((f2 (((256 : Int32) * x1) + x3).toNatClampNeg) = (f2 (((256 : Int32) * x2) + x3).toNatClampNeg) → (post (0 : Int32) )) ∧ (¬ (f2 (((256 : Int32) * x1) + x3).toNatClampNeg) = (f2 (((256 : Int32) * x2) + x3).toNatClampNeg) → (post (1 : Int32) )))))))) ∧ (¬ (f1 (((256 : Int32) * x1) + x3).toNatClampNeg) = (f1 (((256 : Int32) * x2) + x3).toNatClampNeg) → (post (1 : Int32) )))
def mX1_nextChange_29 : Nat → (Nat → Int32) → (Nat → Int32) → (Nat → Int32) → Int32 → Int32 → Int32 → Int32 → (Int32 → Prop) → Prop
  | 0, _, _, _, _, _, _, _, _ => False
  | n29 + 1, f0, f1, f2, x3, x4, x5, x6, post => (((256 : Int32) ≤ x6 → (post (256 : Int32) )) ∧ (¬ (256 : Int32) ≤ x6 → (((x6 < x3 → (mX1_nextChange_29 n29 f0 f1 f2 x3 x4 x5 (x6 + (1 : Int32)) post)) ∧ (¬ x6 < x3 → (mX1_differ f1 f2 x4 x5 x6 (fun r_3 => ((r_3 = (0 : Int32) → (mX1_nextChange_29 n29 f0 f1 f2 x3 x4 x5 (x6 + (1 : Int32)) post)) ∧ (¬ r_3 = (0 : Int32) → (post x6 ))))))))))
def mX1_nextChange (f0 f1 f2 : Nat → Int32) (x1 x2 x3 : Int32) (post : Int32 → Prop) : Prop := mX1_place f0 x1 (fun r_1 => mX1_place f0 x2 (fun r_2 => ((r_1 < (0 : Int32) → (post (-1 : Int32) )) ∧ (¬ r_1 < (0 : Int32) → ((((0 : Int32) ≤ r_2 → (∃ n29 : Nat, mX1_nextChange_29 n29 f0 f1 f2 x3 r_1 r_2 (0 : Int32) post)) ∧ (¬ (0 : Int32) ≤ r_2 → (post (-1 : Int32) ))))))))
def mX1_changes_30 : Nat → (Nat → Int32) → (Nat → Int32) → (Nat → Int32) → Int32 → Int32 → Int32 → Int32 → (Int32 → Prop) → Prop
  | 0, _, _, _, _, _, _, _, _ => False
  | n30 + 1, f0, f1, f2, x3, x4, x5, x6, post => (((256 : Int32) ≤ x6 → (post x5 )) ∧ (¬ (256 : Int32) ≤ x6 → (mX1_differ f1 f2 x3 x4 x6 (fun r_2 => ((r_2 = (0 : Int32) → (mX1_changes_30 n30 f0 f1 f2 x3 x4 x5 (x6 + (1 : Int32)) post)) ∧ (¬ r_2 = (0 : Int32) → (mX1_changes_30 n30 f0 f1 f2 x3 x4 (x5 + (1 : Int32)) (x6 + (1 : Int32)) post)))))))
def mX1_changes (f0 f1 f2 : Nat → Int32) (x1 x2 : Int32) (post : Int32 → Prop) : Prop := mX1_place f0 x1 (fun r_1 => mX1_place f0 x2 (fun r_2 => ((r_1 < (0 : Int32) → (post (-1 : Int32) )) ∧ (¬ r_1 < (0 : Int32) → ((((0 : Int32) ≤ r_2 → (∃ n30 : Nat, mX1_changes_30 n30 f0 f1 f2 r_1 r_2 (0 : Int32) (0 : Int32) post)) ∧ (¬ (0 : Int32) ≤ r_2 → (post (-1 : Int32) ))))))))
end
section
/-! walks and contracts (printed by gen.py): turn leafFor holds freeNode levelMark leadsOn share isMap behind missingLevel -/
set_option maxHeartbeats 4000000 in
set_option maxRecDepth 100000 in
theorem wX0_turn_0 {p : Program} {l : Launch} {e : Env} {s : State} {m : MethodId} {args : Array Value} {below : List Frame} {meth : Method} {c : Code} {A : Nat → Prop} (C0 : sn_CxS cX0_turn 2 (some .int) RX0 p s m meth c args A) (post : Int32 → Prop) (x0 x1 : Int32) (hm : mX0_turn x0 x1 post) (H : Heap) (locs : List Loc)  (hS : va_S A s.heap H locs) (ls : Array Slot) (hl : lv_has ls 2 [(0, .int x0), (1, .int x1)]) : W p l e (headSpec (ws_ yX0_turn cX0_turn 2 (some .int)) ({ frames := 0, cells := 0, slots := 0, locals := 0 } : Room)).room s m args below meth c H locs 0 0 (MQ below (va_Qi (S := Unit) (fun r _ => post r) (fun (_ : Unit) (_ : State) => True) A) args s 0 0 A) (F0 m 0 ls []) := by
  obtain ⟨hx, hb, hr, hlocks, hml, hown, hts, hA⟩ := id C0
  unfold mX0_turn at hm
  refine lv_iload_n hx hb dX0_turn_0 rfl (lv_at hl 0 rfl) ?_
  refine lv_bipush (v := (6 : Int32)) hx hb dX0_turn_1 (by decide) ?_
  refine lv_iconst (v := (2 : Int32)) hx hb dX0_turn_3 (by decide) ?_
  refine lv_iload_n hx hb dX0_turn_4 rfl (lv_at hl 1 rfl) ?_
  refine lv_imul hx hb dX0_turn_5 ?_
  refine lv_isub hx hb dX0_turn_6 ?_
  refine lv_iushr (v := (sn_ushr x0 ((6 : Int32) - ((2 : Int32) * x1)))) hx hb dX0_turn_7 rfl ?_
  refine lv_iconst (v := (3 : Int32)) hx hb dX0_turn_8 (by decide) ?_
  refine lv_iand hx hb dX0_turn_9 ?_
  exact W.iret (v := ((sn_ushr x0 ((6 : Int32) - ((2 : Int32) * x1))) &&& (3 : Int32))) hx hb hr (fun t ht hW => ⟨⟨((sn_ushr x0 ((6 : Int32) - ((2 : Int32) * x1))) &&& (3 : Int32)), (), rfl, hm, trivial⟩, hS.F ht⟩) hS.2.2 dX0_turn_10
set_option maxHeartbeats 4000000 in
set_option maxRecDepth 100000 in
theorem kX0_turn (l : Launch) (sz : Nat) (x0 x1 : Int32) (post : Int32 → Prop) (hm : mX0_turn x0 x1 post) : Met l yX0_turn (ws_ yX0_turn cX0_turn 2 (some .int)) ({ frames := 0, cells := 0, slots := 0, locals := 0 } : Room) (va_Pc [.int x0, .int x1] (fun U => U.heap.size = sz)) (va_Qi (S := Unit) (fun r _ => post r) (fun (_ : Unit) (_ : State) => True) (va_A [] sz)) 0 0 (va_A [] sz) := by
  refine sn_mk_S (n := 2) (RC := RX0) (Q := fun A => (va_Qi (S := Unit) (fun r _ => post r) (fun (_ : Unit) (_ : State) => True) A)) (by decide) rfl (Nat.le_of_ble_eq_true rfl) ?_
  intro p e s m below meth c A ls C0 hl
  exact wX0_turn_0 C0 post x0 x1 hm _ _ va_S.rf ls hl
set_option maxHeartbeats 4000000 in
set_option maxRecDepth 100000 in
theorem wX0_leafFor_10 {p : Program} {l : Launch} {e : Env} {s : State} {m : MethodId} {args : Array Value} {below : List Frame} {meth : Method} {c : Code} {A : Nat → Prop} {dC : Nat → ClassId} {dI : Nat → Nat → Nat} {h0 : Nat} {ad : Nat → Nat} {cs : Nat → ClassId} {f0 f1 f2 f3 f4 f5 f6 f7 : Nat → Int32} (C0 : sn_Cx cX0_leafFor 5 (some .int) RX0 p s m meth c args A (dC, dI) (sn_tyX0 cs)) (post : Int32 → Prop) : ∀ (n10 : Nat) (x2 x3 x4 : Int32), mX0_leafFor_10 n10 f0 f4 x2 x3 x4 post → ∀ (H : Heap) (locs : List Loc), va_P (dC, dI) sn_cl (sn_pwX0 h0 ad cs f0 f1 f2 f3 f4 f5 f6 f7) H → va_D A (sn_pwX0 h0 ad cs f0 f1 f2 f3 f4 f5 f6 f7) → va_S A s.heap H locs → ∀ (ls : Array Slot), lv_has ls 5 [(0, .ref h0), (2, .int x2), (3, .int x3), (4, .int x4)] → W p l e (headSpec (ws_ yX0_leafFor cX0_leafFor 5 (some .int)) ({ frames := 1, cells := 0, slots := 0, locals := 21 } : Room)).room s m args below meth c H locs 0 0 (MQ below (va_Qi (S := Unit) (fun r _ => post r) (fun (_ : Unit) (t : State) => sn_BX0 (dC, dI) A h0 ad cs f0 f1 f2 f3 f4 f5 f6 f7 t) A) args s 0 0 A) (F0 m 10 ls []) := by
  obtain ⟨hx, hb, hr, hlocks, hml, hown, hts, hA, hK⟩ := id C0
  intro n10
  induction n10 with
  | zero =>
    intro x2 x3 x4 hm
    unfold mX0_leafFor_10 at hm
    exact False.elim hm
  | succ n10 ih10 =>
    intro x2 x3 x4 hm H locs hP hD hS ls hl
    unfold mX0_leafFor_10 at hm
    refine lv_iload hx hb dX0_leafFor_10 (lv_at hl 3 rfl) ?_
    refine lv_iconst (v := (3 : Int32)) hx hb dX0_leafFor_12 (by decide) ?_
    refine lv_icmp_ge (tgt := 42) hx hb dX0_leafFor_13 (by decide) (fun c_1 => ?_) (fun c_1 => ?_)
    · have hm := hm.1 c_1
      refine lv_iload_n hx hb dX0_leafFor_42 rfl (lv_at hl 2 rfl) ?_
      exact W.iret (v := x3) hx hb hr (fun t ht hW => ⟨⟨x3, (), rfl, hm, ⟨by rw [ht]; exact hP, va_K.moved hW.alike hK, hD⟩⟩, hS.F ht⟩) hS.2.2 dX0_leafFor_43
    · have hm := hm.2 c_1
      refine lv_iload_n hx hb dX0_leafFor_16 rfl (lv_at hl 2 rfl) ?_
      refine lv_if_lt (tgt := 42) hx hb dX0_leafFor_17 (by decide) (fun c_2 => ?_) (fun c_2 => ?_)
      · have hm := hm.1 c_2
        refine lv_iload_n hx hb dX0_leafFor_42 rfl (lv_at hl 2 rfl) ?_
        exact W.iret (v := x3) hx hb hr (fun t ht hW => ⟨⟨x3, (), rfl, hm, ⟨by rw [ht]; exact hP, va_K.moved hW.alike hK, hD⟩⟩, hS.F ht⟩) hS.2.2 dX0_leafFor_43
      · have hm := hm.2 c_2
        refine lv_aload_n hx hb dX0_leafFor_20 rfl (lv_at hl 0 rfl) ?_
        refine sn_gtX0_0 C0 hP dX0_leafFor_21 ?_
        refine lv_iconst (v := (4 : Int32)) hx hb dX0_leafFor_24 (by decide) ?_
        refine lv_iload_n hx hb dX0_leafFor_25 rfl (lv_at hl 2 rfl) ?_
        refine lv_imul hx hb dX0_leafFor_26 ?_
        refine lv_iload_n hx hb dX0_leafFor_27 rfl (lv_at hl 1 rfl) ?_
        refine lv_iload hx hb dX0_leafFor_28 (lv_at hl 3 rfl) ?_
        refine sn_cl_S (As := [.int x2, .int x4]) (rest := [.int ((4 : Int32) * x3), .ref (ad 0)]) ⟨hx, hb, hml, hown, hts⟩ (kX0_turn l H.size x2 x4 _ hm) (va_cwS 2 hts (lw_S q68 q69 q19 q70) rfl rfl rfl (by decide +kernel) ⟨Nat.le_of_ble_eq_true rfl, Nat.le_of_ble_eq_true rfl⟩) hP hS hA rfl hl.1 rfl (lv_room (Nat.le_of_ble_eq_true rfl)) dX0_leafFor_30 ⟨Nat.le_refl 0, Nat.le_refl 0⟩ (fun r_3 H locs hm hP hS => ?_)
        refine lv_iadd hx hb dX0_leafFor_33 ?_
        obtain ⟨h_4, hm⟩ := hm
        refine sn_ldX0_0 C0 hP h_4 dX0_leafFor_34 ?_
        refine lv_istore_n (lv' := [(3, .int (f0 (((4 : Int32) * x3) + r_3).toNatClampNeg)), (0, .ref h0), (2, .int x2), (4, .int x4)]) hx hb dX0_leafFor_35 rfl hl (by decide) rfl (fun ls hl => ?_)
        refine lv_iinc (v := (x4 + (1 : Int32))) (lv' := [(4, .int (x4 + (1 : Int32))), (3, .int (f0 (((4 : Int32) * x3) + r_3).toNatClampNeg)), (0, .ref h0), (2, .int x2)]) hx hb dX0_leafFor_36 hl (k := 3) rfl rfl (by decide) rfl (fun ls hl => ?_)
        refine lv_goto (tgt := 10) hx hb dX0_leafFor_39 (by decide) ?_
        exact ih10 x2 (f0 (((4 : Int32) * x3) + r_3).toNatClampNeg) (x4 + (1 : Int32)) hm H locs hP hD hS ls (lv_sub hl [2, 3, 1, 0] rfl)
set_option maxHeartbeats 4000000 in
set_option maxRecDepth 100000 in
theorem wX0_leafFor_0 {p : Program} {l : Launch} {e : Env} {s : State} {m : MethodId} {args : Array Value} {below : List Frame} {meth : Method} {c : Code} {A : Nat → Prop} {dC : Nat → ClassId} {dI : Nat → Nat → Nat} {h0 : Nat} {ad : Nat → Nat} {cs : Nat → ClassId} {f0 f1 f2 f3 f4 f5 f6 f7 : Nat → Int32} (C0 : sn_Cx cX0_leafFor 5 (some .int) RX0 p s m meth c args A (dC, dI) (sn_tyX0 cs)) (post : Int32 → Prop) (x1 x2 : Int32) (hm : mX0_leafFor f0 f4 x1 x2 post) (H : Heap) (locs : List Loc) (hP : va_P (dC, dI) sn_cl (sn_pwX0 h0 ad cs f0 f1 f2 f3 f4 f5 f6 f7) H) (hD : va_D A (sn_pwX0 h0 ad cs f0 f1 f2 f3 f4 f5 f6 f7)) (hS : va_S A s.heap H locs) (ls : Array Slot) (hl : lv_has ls 5 [(0, .ref h0), (1, .int x1), (2, .int x2)]) : W p l e (headSpec (ws_ yX0_leafFor cX0_leafFor 5 (some .int)) ({ frames := 1, cells := 0, slots := 0, locals := 21 } : Room)).room s m args below meth c H locs 0 0 (MQ below (va_Qi (S := Unit) (fun r _ => post r) (fun (_ : Unit) (t : State) => sn_BX0 (dC, dI) A h0 ad cs f0 f1 f2 f3 f4 f5 f6 f7 t) A) args s 0 0 A) (F0 m 0 ls []) := by
  obtain ⟨hx, hb, hr, hlocks, hml, hown, hts, hA, hK⟩ := id C0
  unfold mX0_leafFor at hm
  refine lv_aload_n hx hb dX0_leafFor_0 rfl (lv_at hl 0 rfl) ?_
  refine sn_gtX0_4 C0 hP dX0_leafFor_1 ?_
  refine lv_iload_n hx hb dX0_leafFor_4 rfl (lv_at hl 1 rfl) ?_
  obtain ⟨h_1, hm⟩ := hm
  refine sn_ldX0_4 C0 hP h_1 dX0_leafFor_5 ?_
  refine lv_istore_n (lv' := [(3, .int (f4 (x1).toNatClampNeg)), (0, .ref h0), (1, .int x1), (2, .int x2)]) hx hb dX0_leafFor_6 rfl hl (by decide) rfl (fun ls hl => ?_)
  refine lv_iconst (v := (0 : Int32)) hx hb dX0_leafFor_7 (by decide) ?_
  refine lv_istore (lv' := [(4, .int (0 : Int32)), (3, .int (f4 (x1).toNatClampNeg)), (0, .ref h0), (1, .int x1), (2, .int x2)]) hx hb dX0_leafFor_8 hl (by decide) rfl (fun ls hl => ?_)
  obtain ⟨n10, hm⟩ := hm
  exact wX0_leafFor_10 C0 post n10 x2 (f4 (x1).toNatClampNeg) (0 : Int32) hm H locs hP hD hS ls (lv_sub hl [2, 4, 1, 0] rfl)
set_option maxHeartbeats 4000000 in
set_option maxRecDepth 100000 in
theorem kX0_leafFor (l : Launch) (dC : Nat → ClassId) (dI : Nat → Nat → Nat) (h0 : Nat) (ad : Nat → Nat) (cs : Nat → ClassId) (sz : Nat) (f0 f1 f2 f3 f4 f5 f6 f7 : Nat → Int32) (x1 x2 : Int32) (post : Int32 → Prop) (hm : mX0_leafFor f0 f4 x1 x2 post) : Met l yX0_leafFor (ws_ yX0_leafFor cX0_leafFor 5 (some .int)) ({ frames := 1, cells := 0, slots := 0, locals := 21 } : Room) (va_Pc [.ref h0, .int x1, .int x2] (sn_PX (dC, dI) (sn_tyX0 cs) (sn_pwX0 h0 ad cs f0 f1 f2 f3 f4 f5 f6 f7) sz)) (va_Qi (S := Unit) (fun r _ => post r) (fun (_ : Unit) (t : State) => sn_BX0 (dC, dI) (va_A (sn_pwX0 h0 ad cs f0 f1 f2 f3 f4 f5 f6 f7) sz) h0 ad cs f0 f1 f2 f3 f4 f5 f6 f7 t) (va_A (sn_pwX0 h0 ad cs f0 f1 f2 f3 f4 f5 f6 f7) sz)) 0 0 (va_A (sn_pwX0 h0 ad cs f0 f1 f2 f3 f4 f5 f6 f7) sz) := by
  refine sn_mk_V (n := 5) (RC := RX0) (Q := fun A => (va_Qi (S := Unit) (fun r _ => post r) (fun (_ : Unit) (t : State) => sn_BX0 (dC, dI) A h0 ad cs f0 f1 f2 f3 f4 f5 f6 f7 t) A)) (by decide) rfl (Nat.le_of_ble_eq_true rfl) ?_
  intro p e s m below meth c A ls C0 hP hD hl
  exact wX0_leafFor_0 C0 post x1 x2 hm _ _ hP hD va_S.rf ls hl
set_option maxHeartbeats 4000000 in
set_option maxRecDepth 100000 in
theorem wX0_holds_0 {p : Program} {l : Launch} {e : Env} {s : State} {m : MethodId} {args : Array Value} {below : List Frame} {meth : Method} {c : Code} {A : Nat → Prop} {dC : Nat → ClassId} {dI : Nat → Nat → Nat} {h0 : Nat} {ad : Nat → Nat} {cs : Nat → ClassId} {f0 f1 f2 f3 f4 f5 f6 f7 : Nat → Int32} (C0 : sn_Cx cX0_holds 4 (some .boolean) RX0 p s m meth c args A (dC, dI) (sn_tyX0 cs)) (post : Int32 → Prop) (x1 x2 : Int32) (hm : mX0_holds f0 f1 f4 x1 x2 post) (H : Heap) (locs : List Loc) (hP : va_P (dC, dI) sn_cl (sn_pwX0 h0 ad cs f0 f1 f2 f3 f4 f5 f6 f7) H) (hD : va_D A (sn_pwX0 h0 ad cs f0 f1 f2 f3 f4 f5 f6 f7)) (hS : va_S A s.heap H locs) (ls : Array Slot) (hl : lv_has ls 4 [(0, .ref h0), (1, .int x1), (2, .int x2)]) : W p l e (headSpec (ws_ yX0_holds cX0_holds 4 (some .boolean)) ({ frames := 2, cells := 0, slots := 0, locals := 45 } : Room)).room s m args below meth c H locs 0 0 (MQ below (va_Qi (S := Unit) (fun r _ => post r) (fun (_ : Unit) (t : State) => sn_BX0 (dC, dI) A h0 ad cs f0 f1 f2 f3 f4 f5 f6 f7 t) A) args s 0 0 A) (F0 m 0 ls []) := by
  obtain ⟨hx, hb, hr, hlocks, hml, hown, hts, hA, hK⟩ := id C0
  unfold mX0_holds at hm
  refine lv_aload_n hx hb dX0_holds_0 rfl (lv_at hl 0 rfl) ?_
  refine lv_iload_n hx hb dX0_holds_1 rfl (lv_at hl 1 rfl) ?_
  refine lv_iload_n hx hb dX0_holds_2 rfl (lv_at hl 2 rfl) ?_
  refine sn_cl_Vi (As := [.int x1, .int x2]) (rest := []) (w1 := (fun (_ : Unit) => sn_pwX0 h0 ad cs (f0) (f1) (f2) (f3) (f4) (f5) (f6) (f7))) ⟨hx, hb, hml, hown, hts⟩ (kX0_leafFor l dC dI h0 ad cs H.size f0 f1 f2 f3 f4 f5 f6 f7 x1 x2 _ hm) (cwV 2 hts (lw_V q64 q66 qs1 q19 q67) rfl rfl rfl (by decide +kernel) ⟨Nat.le_of_ble_eq_true rfl, Nat.le_of_ble_eq_true rfl⟩) (va_recv hK hP (ci := 0) (q0 := 0) rfl rfl) hP hD hK hS hA rfl hl.1 rfl (lv_room (Nat.le_of_ble_eq_true rfl)) dX0_holds_3 ⟨Nat.le_refl 0, Nat.le_refl 0⟩ (fun r_1 _ H locs hm hP hD hS => ?_)
  refine lv_istore_n (lv' := [(3, .int r_1), (0, .ref h0), (1, .int x1), (2, .int x2)]) hx hb dX0_holds_6 rfl hl (by decide) rfl (fun ls hl => ?_)
  refine lv_iload_n hx hb dX0_holds_7 rfl (lv_at hl 0 rfl) ?_
  refine lv_if_lt (tgt := 30) hx hb dX0_holds_8 (by decide) (fun c_2 => ?_) (fun c_2 => ?_)
  · have hm := hm.1 c_2
    refine lv_iconst (v := (0 : Int32)) hx hb dX0_holds_30 (by decide) ?_
    exact W.zret (v := (0 : Int32)) hx hb hr rfl (fun t ht hW => ⟨⟨(0 : Int32), (), rfl, hm, ⟨by rw [ht]; exact hP, va_K.moved hW.alike hK, hD⟩⟩, hS.F ht⟩) hS.2.2 dX0_holds_31
  · have hm := hm.2 c_2
    refine lv_aload_n hx hb dX0_holds_11 rfl (lv_at hl 1 rfl) ?_
    refine sn_gtX0_1 C0 hP dX0_holds_12 ?_
    refine lv_iload_n hx hb dX0_holds_15 rfl (lv_at hl 0 rfl) ?_
    obtain ⟨h_3, hm⟩ := hm
    refine sn_ldX0_1 C0 hP h_3 dX0_holds_16 ?_
    refine lv_iload_n hx hb dX0_holds_17 rfl (lv_at hl 3 rfl) ?_
    refine lv_iconst (v := (3 : Int32)) hx hb dX0_holds_18 (by decide) ?_
    refine lv_iand hx hb dX0_holds_19 ?_
    refine lv_iushr (v := (sn_ushr (f1 (r_1).toNatClampNeg) (x2 &&& (3 : Int32)))) hx hb dX0_holds_20 rfl ?_
    refine lv_iconst (v := (1 : Int32)) hx hb dX0_holds_21 (by decide) ?_
    refine lv_iand hx hb dX0_holds_22 ?_
    refine lv_if_eq (tgt := 30) hx hb dX0_holds_23 (by decide) (fun c_4 => ?_) (fun c_4 => ?_)
    · have hm := hm.1 c_4
      refine lv_iconst (v := (0 : Int32)) hx hb dX0_holds_30 (by decide) ?_
      exact W.zret (v := (0 : Int32)) hx hb hr rfl (fun t ht hW => ⟨⟨(0 : Int32), (), rfl, hm, ⟨by rw [ht]; exact hP, va_K.moved hW.alike hK, hD⟩⟩, hS.F ht⟩) hS.2.2 dX0_holds_31
    · have hm := hm.2 c_4
      refine lv_iconst (v := (1 : Int32)) hx hb dX0_holds_26 (by decide) ?_
      refine lv_goto (tgt := 31) hx hb dX0_holds_27 (by decide) ?_
      exact W.zret (v := (1 : Int32)) hx hb hr rfl (fun t ht hW => ⟨⟨(1 : Int32), (), rfl, hm, ⟨by rw [ht]; exact hP, va_K.moved hW.alike hK, hD⟩⟩, hS.F ht⟩) hS.2.2 dX0_holds_31
set_option maxHeartbeats 4000000 in
set_option maxRecDepth 100000 in
theorem kX0_holds (l : Launch) (dC : Nat → ClassId) (dI : Nat → Nat → Nat) (h0 : Nat) (ad : Nat → Nat) (cs : Nat → ClassId) (sz : Nat) (f0 f1 f2 f3 f4 f5 f6 f7 : Nat → Int32) (x1 x2 : Int32) (post : Int32 → Prop) (hm : mX0_holds f0 f1 f4 x1 x2 post) : Met l yX0_holds (ws_ yX0_holds cX0_holds 4 (some .boolean)) ({ frames := 2, cells := 0, slots := 0, locals := 45 } : Room) (va_Pc [.ref h0, .int x1, .int x2] (sn_PX (dC, dI) (sn_tyX0 cs) (sn_pwX0 h0 ad cs f0 f1 f2 f3 f4 f5 f6 f7) sz)) (va_Qi (S := Unit) (fun r _ => post r) (fun (_ : Unit) (t : State) => sn_BX0 (dC, dI) (va_A (sn_pwX0 h0 ad cs f0 f1 f2 f3 f4 f5 f6 f7) sz) h0 ad cs f0 f1 f2 f3 f4 f5 f6 f7 t) (va_A (sn_pwX0 h0 ad cs f0 f1 f2 f3 f4 f5 f6 f7) sz)) 0 0 (va_A (sn_pwX0 h0 ad cs f0 f1 f2 f3 f4 f5 f6 f7) sz) := by
  refine sn_mk_V (n := 4) (RC := RX0) (Q := fun A => (va_Qi (S := Unit) (fun r _ => post r) (fun (_ : Unit) (t : State) => sn_BX0 (dC, dI) A h0 ad cs f0 f1 f2 f3 f4 f5 f6 f7 t) A)) (by decide) rfl (Nat.le_of_ble_eq_true rfl) ?_
  intro p e s m below meth c A ls C0 hP hD hl
  exact wX0_holds_0 C0 post x1 x2 hm _ _ hP hD va_S.rf ls hl
set_option maxHeartbeats 4000000 in
set_option maxRecDepth 100000 in
theorem wX0_freeNode_2 {p : Program} {l : Launch} {e : Env} {s : State} {m : MethodId} {args : Array Value} {below : List Frame} {meth : Method} {c : Code} {A : Nat → Prop} {dC : Nat → ClassId} {dI : Nat → Nat → Nat} {h0 : Nat} {ad : Nat → Nat} {cs : Nat → ClassId} {f0 f1 f2 f3 f4 f5 f6 f7 : Nat → Int32} (C0 : sn_Cx cX0_freeNode 2 (some .int) RX0 p s m meth c args A (dC, dI) (sn_tyX0 cs)) (post : Int32 → Prop) : ∀ (n2 : Nat) (x1 : Int32), mX0_freeNode_2 n2 f2 x1 post → ∀ (H : Heap) (locs : List Loc), va_P (dC, dI) sn_cl (sn_pwX0 h0 ad cs f0 f1 f2 f3 f4 f5 f6 f7) H → va_D A (sn_pwX0 h0 ad cs f0 f1 f2 f3 f4 f5 f6 f7) → va_S A s.heap H locs → ∀ (ls : Array Slot), lv_has ls 2 [(0, .ref h0), (1, .int x1)] → W p l e (headSpec (ws_ yX0_freeNode cX0_freeNode 2 (some .int)) ({ frames := 0, cells := 0, slots := 0, locals := 0 } : Room)).room s m args below meth c H locs 0 0 (MQ below (va_Qi (S := Unit) (fun r _ => post r) (fun (_ : Unit) (t : State) => sn_BX0 (dC, dI) A h0 ad cs f0 f1 f2 f3 f4 f5 f6 f7 t) A) args s 0 0 A) (F0 m 2 ls []) := by
  obtain ⟨hx, hb, hr, hlocks, hml, hown, hts, hA, hK⟩ := id C0
  intro n2
  induction n2 with
  | zero =>
    intro x1 hm
    unfold mX0_freeNode_2 at hm
    exact False.elim hm
  | succ n2 ih2 =>
    intro x1 hm H locs hP hD hS ls hl
    unfold mX0_freeNode_2 at hm
    refine lv_iload_n hx hb dX0_freeNode_2 rfl (lv_at hl 1 rfl) ?_
    refine lv_sipush (v := (400 : Int32)) hx hb dX0_freeNode_3 (by decide) ?_
    refine lv_icmp_ge (tgt := 26) hx hb dX0_freeNode_6 (by decide) (fun c_1 => ?_) (fun c_1 => ?_)
    · have hm := hm.1 c_1
      refine lv_sipush (v := (399 : Int32)) hx hb dX0_freeNode_26 (by decide) ?_
      exact W.iret (v := (399 : Int32)) hx hb hr (fun t ht hW => ⟨⟨(399 : Int32), (), rfl, hm, ⟨by rw [ht]; exact hP, va_K.moved hW.alike hK, hD⟩⟩, hS.F ht⟩) hS.2.2 dX0_freeNode_29
    · have hm := hm.2 c_1
      refine lv_aload_n hx hb dX0_freeNode_9 rfl (lv_at hl 0 rfl) ?_
      refine sn_gtX0_2 C0 hP dX0_freeNode_10 ?_
      refine lv_iload_n hx hb dX0_freeNode_13 rfl (lv_at hl 1 rfl) ?_
      obtain ⟨h_2, hm⟩ := hm
      refine sn_ldX0_2 C0 hP h_2 dX0_freeNode_14 ?_
      refine lv_if_ne (tgt := 20) hx hb dX0_freeNode_15 (by decide) (fun c_3 => ?_) (fun c_3 => ?_)
      · have hm := hm.1 c_3
        refine lv_iinc (v := (x1 + (1 : Int32))) (lv' := [(1, .int (x1 + (1 : Int32))), (0, .ref h0)]) hx hb dX0_freeNode_20 hl (k := 1) rfl rfl (by decide) rfl (fun ls hl => ?_)
        refine lv_goto (tgt := 2) hx hb dX0_freeNode_23 (by decide) ?_
        exact ih2 (x1 + (1 : Int32)) hm H locs hP hD hS ls (lv_sub hl [1, 0] rfl)
      · have hm := hm.2 c_3
        refine lv_iload_n hx hb dX0_freeNode_18 rfl (lv_at hl 1 rfl) ?_
        exact W.iret (v := x1) hx hb hr (fun t ht hW => ⟨⟨x1, (), rfl, hm, ⟨by rw [ht]; exact hP, va_K.moved hW.alike hK, hD⟩⟩, hS.F ht⟩) hS.2.2 dX0_freeNode_19
set_option maxHeartbeats 4000000 in
set_option maxRecDepth 100000 in
theorem wX0_freeNode_0 {p : Program} {l : Launch} {e : Env} {s : State} {m : MethodId} {args : Array Value} {below : List Frame} {meth : Method} {c : Code} {A : Nat → Prop} {dC : Nat → ClassId} {dI : Nat → Nat → Nat} {h0 : Nat} {ad : Nat → Nat} {cs : Nat → ClassId} {f0 f1 f2 f3 f4 f5 f6 f7 : Nat → Int32} (C0 : sn_Cx cX0_freeNode 2 (some .int) RX0 p s m meth c args A (dC, dI) (sn_tyX0 cs)) (post : Int32 → Prop) (hm : mX0_freeNode f2 post) (H : Heap) (locs : List Loc) (hP : va_P (dC, dI) sn_cl (sn_pwX0 h0 ad cs f0 f1 f2 f3 f4 f5 f6 f7) H) (hD : va_D A (sn_pwX0 h0 ad cs f0 f1 f2 f3 f4 f5 f6 f7)) (hS : va_S A s.heap H locs) (ls : Array Slot) (hl : lv_has ls 2 [(0, .ref h0)]) : W p l e (headSpec (ws_ yX0_freeNode cX0_freeNode 2 (some .int)) ({ frames := 0, cells := 0, slots := 0, locals := 0 } : Room)).room s m args below meth c H locs 0 0 (MQ below (va_Qi (S := Unit) (fun r _ => post r) (fun (_ : Unit) (t : State) => sn_BX0 (dC, dI) A h0 ad cs f0 f1 f2 f3 f4 f5 f6 f7 t) A) args s 0 0 A) (F0 m 0 ls []) := by
  obtain ⟨hx, hb, hr, hlocks, hml, hown, hts, hA, hK⟩ := id C0
  unfold mX0_freeNode at hm
  refine lv_iconst (v := (0 : Int32)) hx hb dX0_freeNode_0 (by decide) ?_
  refine lv_istore_n (lv' := [(1, .int (0 : Int32)), (0, .ref h0)]) hx hb dX0_freeNode_1 rfl hl (by decide) rfl (fun ls hl => ?_)
  obtain ⟨n2, hm⟩ := hm
  exact wX0_freeNode_2 C0 post n2 (0 : Int32) hm H locs hP hD hS ls (lv_sub hl [1, 0] rfl)
set_option maxHeartbeats 4000000 in
set_option maxRecDepth 100000 in
theorem kX0_freeNode (l : Launch) (dC : Nat → ClassId) (dI : Nat → Nat → Nat) (h0 : Nat) (ad : Nat → Nat) (cs : Nat → ClassId) (sz : Nat) (f0 f1 f2 f3 f4 f5 f6 f7 : Nat → Int32) (post : Int32 → Prop) (hm : mX0_freeNode f2 post) : Met l yX0_freeNode (ws_ yX0_freeNode cX0_freeNode 2 (some .int)) ({ frames := 0, cells := 0, slots := 0, locals := 0 } : Room) (va_Pc [.ref h0] (sn_PX (dC, dI) (sn_tyX0 cs) (sn_pwX0 h0 ad cs f0 f1 f2 f3 f4 f5 f6 f7) sz)) (va_Qi (S := Unit) (fun r _ => post r) (fun (_ : Unit) (t : State) => sn_BX0 (dC, dI) (va_A (sn_pwX0 h0 ad cs f0 f1 f2 f3 f4 f5 f6 f7) sz) h0 ad cs f0 f1 f2 f3 f4 f5 f6 f7 t) (va_A (sn_pwX0 h0 ad cs f0 f1 f2 f3 f4 f5 f6 f7) sz)) 0 0 (va_A (sn_pwX0 h0 ad cs f0 f1 f2 f3 f4 f5 f6 f7) sz) := by
  refine sn_mk_V (n := 2) (RC := RX0) (Q := fun A => (va_Qi (S := Unit) (fun r _ => post r) (fun (_ : Unit) (t : State) => sn_BX0 (dC, dI) A h0 ad cs f0 f1 f2 f3 f4 f5 f6 f7 t) A)) (by decide) rfl (Nat.le_of_ble_eq_true rfl) ?_
  intro p e s m below meth c A ls C0 hP hD hl
  exact wX0_freeNode_0 C0 post  hm _ _ hP hD va_S.rf ls hl
set_option maxHeartbeats 4000000 in
set_option maxRecDepth 100000 in
theorem wX0_levelMark_0 {p : Program} {l : Launch} {e : Env} {s : State} {m : MethodId} {args : Array Value} {below : List Frame} {meth : Method} {c : Code} {A : Nat → Prop} {dC : Nat → ClassId} {dI : Nat → Nat → Nat} {h0 : Nat} {ad : Nat → Nat} {cs : Nat → ClassId} {f0 f2 f3 f4 f5 f6 f7 : Nat → Int32} (C0 : sn_Cx cX0_levelMark 3 none RX0 p s m meth c args A (dC, dI) (sn_tyX0 cs)) (post : (Nat → Int32) → Prop) (f1 : Nat → Int32) (x1 x2 : Int32) (hm : mX0_levelMark f1 x1 x2 post) (H : Heap) (locs : List Loc) (hP : va_P (dC, dI) sn_cl (sn_pwX0 h0 ad cs f0 f1 f2 f3 f4 f5 f6 f7) H) (hD : va_D A (sn_pwX0 h0 ad cs f0 f1 f2 f3 f4 f5 f6 f7)) (hS : va_S A s.heap H locs) (ls : Array Slot) (hl : lv_has ls 3 [(0, .ref h0), (1, .int x1), (2, .int x2)]) : W p l e (headSpec (ws_ yX0_levelMark cX0_levelMark 3 none) ({ frames := 0, cells := 0, slots := 0, locals := 0 } : Room)).room s m args below meth c H locs 0 0 (MQ below (va_Qv (S := (Nat → Int32)) (fun u => post (u)) (fun (u : (Nat → Int32)) (t : State) => sn_BX0 (dC, dI) A h0 ad cs f0 u f2 f3 f4 f5 f6 f7 t) A) args s 0 0 A) (F0 m 0 ls []) := by
  obtain ⟨hx, hb, hr, hlocks, hml, hown, hts, hA, hK⟩ := id C0
  unfold mX0_levelMark at hm
  refine lv_aload_n hx hb dX0_levelMark_0 rfl (lv_at hl 0 rfl) ?_
  refine sn_gtX0_1 C0 hP dX0_levelMark_1 ?_
  refine lv_iload_n hx hb dX0_levelMark_4 rfl (lv_at hl 1 rfl) ?_
  refine lv_iload_n hx hb dX0_levelMark_5 rfl (lv_at hl 2 rfl) ?_
  refine lv_iconst (v := (3 : Int32)) hx hb dX0_levelMark_6 (by decide) ?_
  refine lv_icmp_ne (tgt := 23) hx hb dX0_levelMark_7 (by decide) (fun c_1 => ?_) (fun c_1 => ?_)
  · have hm := hm.1 c_1
    refine lv_iconst (v := (0 : Int32)) hx hb dX0_levelMark_23 (by decide) ?_
    obtain ⟨h_2, hm⟩ := hm
    refine sn_stX0_1 C0 hP hD hS h_2 dX0_levelMark_24 (fun H locs hP hD hS => ?_)
    exact W.vret hx hb hr (fun t ht hW => ⟨⟨(upd f1 (x1).toNatClampNeg (0 : Int32)), rfl, hm, ⟨by rw [ht]; exact hP, va_K.moved hW.alike hK, hD⟩⟩, hS.F ht⟩) hS.2.2 dX0_levelMark_25
  · have hm := hm.2 c_1
    refine lv_aload_n hx hb dX0_levelMark_10 rfl (lv_at hl 0 rfl) ?_
    refine sn_gtX0_1 C0 hP dX0_levelMark_11 ?_
    refine lv_iload_n hx hb dX0_levelMark_14 rfl (lv_at hl 1 rfl) ?_
    obtain ⟨h_3, hm⟩ := hm
    refine sn_ldX0_1 C0 hP h_3 dX0_levelMark_15 ?_
    refine lv_sipush (v := (256 : Int32)) hx hb dX0_levelMark_16 (by decide) ?_
    refine lv_ior hx hb dX0_levelMark_19 ?_
    refine lv_goto (tgt := 24) hx hb dX0_levelMark_20 (by decide) ?_
    obtain ⟨h_4, hm⟩ := hm
    refine sn_stX0_1 C0 hP hD hS h_4 dX0_levelMark_24 (fun H locs hP hD hS => ?_)
    exact W.vret hx hb hr (fun t ht hW => ⟨⟨(upd f1 (x1).toNatClampNeg ((f1 (x1).toNatClampNeg) ||| (256 : Int32))), rfl, hm, ⟨by rw [ht]; exact hP, va_K.moved hW.alike hK, hD⟩⟩, hS.F ht⟩) hS.2.2 dX0_levelMark_25
set_option maxHeartbeats 4000000 in
set_option maxRecDepth 100000 in
theorem kX0_levelMark (l : Launch) (dC : Nat → ClassId) (dI : Nat → Nat → Nat) (h0 : Nat) (ad : Nat → Nat) (cs : Nat → ClassId) (sz : Nat) (f0 f1 f2 f3 f4 f5 f6 f7 : Nat → Int32) (x1 x2 : Int32) (post : (Nat → Int32) → Prop) (hm : mX0_levelMark f1 x1 x2 post) : Met l yX0_levelMark (ws_ yX0_levelMark cX0_levelMark 3 none) ({ frames := 0, cells := 0, slots := 0, locals := 0 } : Room) (va_Pc [.ref h0, .int x1, .int x2] (sn_PX (dC, dI) (sn_tyX0 cs) (sn_pwX0 h0 ad cs f0 f1 f2 f3 f4 f5 f6 f7) sz)) (va_Qv (S := (Nat → Int32)) (fun u => post (u)) (fun (u : (Nat → Int32)) (t : State) => sn_BX0 (dC, dI) (va_A (sn_pwX0 h0 ad cs f0 f1 f2 f3 f4 f5 f6 f7) sz) h0 ad cs f0 u f2 f3 f4 f5 f6 f7 t) (va_A (sn_pwX0 h0 ad cs f0 f1 f2 f3 f4 f5 f6 f7) sz)) 0 0 (va_A (sn_pwX0 h0 ad cs f0 f1 f2 f3 f4 f5 f6 f7) sz) := by
  refine sn_mk_V (n := 3) (RC := RX0) (Q := fun A => (va_Qv (S := (Nat → Int32)) (fun u => post (u)) (fun (u : (Nat → Int32)) (t : State) => sn_BX0 (dC, dI) A h0 ad cs f0 u f2 f3 f4 f5 f6 f7 t) A)) (by decide) rfl (Nat.le_of_ble_eq_true rfl) ?_
  intro p e s m below meth c A ls C0 hP hD hl
  exact wX0_levelMark_0 C0 post f1 x1 x2 hm _ _ hP hD va_S.rf ls hl
set_option maxHeartbeats 4000000 in
set_option maxRecDepth 100000 in
theorem wX0_leadsOn_2 {p : Program} {l : Launch} {e : Env} {s : State} {m : MethodId} {args : Array Value} {below : List Frame} {meth : Method} {c : Code} {A : Nat → Prop} {dC : Nat → ClassId} {dI : Nat → Nat → Nat} {h0 : Nat} {ad : Nat → Nat} {cs : Nat → ClassId} {f0 f1 f2 f3 f4 f5 f6 f7 : Nat → Int32} (C0 : sn_Cx cX0_leadsOn 3 (some .boolean) RX0 p s m meth c args A (dC, dI) (sn_tyX0 cs)) (post : Int32 → Prop) : ∀ (n2 : Nat) (x1 x2 : Int32), mX0_leadsOn_2 n2 f0 x1 x2 post → ∀ (H : Heap) (locs : List Loc), va_P (dC, dI) sn_cl (sn_pwX0 h0 ad cs f0 f1 f2 f3 f4 f5 f6 f7) H → va_D A (sn_pwX0 h0 ad cs f0 f1 f2 f3 f4 f5 f6 f7) → va_S A s.heap H locs → ∀ (ls : Array Slot), lv_has ls 3 [(0, .ref h0), (1, .int x1), (2, .int x2)] → W p l e (headSpec (ws_ yX0_leadsOn cX0_leadsOn 3 (some .boolean)) ({ frames := 0, cells := 0, slots := 0, locals := 0 } : Room)).room s m args below meth c H locs 0 0 (MQ below (va_Qi (S := Unit) (fun r _ => post r) (fun (_ : Unit) (t : State) => sn_BX0 (dC, dI) A h0 ad cs f0 f1 f2 f3 f4 f5 f6 f7 t) A) args s 0 0 A) (F0 m 2 ls []) := by
  obtain ⟨hx, hb, hr, hlocks, hml, hown, hts, hA, hK⟩ := id C0
  intro n2
  induction n2 with
  | zero =>
    intro x1 x2 hm
    unfold mX0_leadsOn_2 at hm
    exact False.elim hm
  | succ n2 ih2 =>
    intro x1 x2 hm H locs hP hD hS ls hl
    unfold mX0_leadsOn_2 at hm
    refine lv_iload_n hx hb dX0_leadsOn_2 rfl (lv_at hl 2 rfl) ?_
    refine lv_iconst (v := (4 : Int32)) hx hb dX0_leadsOn_3 (by decide) ?_
    refine lv_icmp_ge (tgt := 28) hx hb dX0_leadsOn_4 (by decide) (fun c_1 => ?_) (fun c_1 => ?_)
    · have hm := hm.1 c_1
      refine lv_iconst (v := (0 : Int32)) hx hb dX0_leadsOn_28 (by decide) ?_
      exact W.zret (v := (0 : Int32)) hx hb hr rfl (fun t ht hW => ⟨⟨(0 : Int32), (), rfl, hm, ⟨by rw [ht]; exact hP, va_K.moved hW.alike hK, hD⟩⟩, hS.F ht⟩) hS.2.2 dX0_leadsOn_29
    · have hm := hm.2 c_1
      refine lv_aload_n hx hb dX0_leadsOn_7 rfl (lv_at hl 0 rfl) ?_
      refine sn_gtX0_0 C0 hP dX0_leadsOn_8 ?_
      refine lv_iconst (v := (4 : Int32)) hx hb dX0_leadsOn_11 (by decide) ?_
      refine lv_iload_n hx hb dX0_leadsOn_12 rfl (lv_at hl 1 rfl) ?_
      refine lv_imul hx hb dX0_leadsOn_13 ?_
      refine lv_iload_n hx hb dX0_leadsOn_14 rfl (lv_at hl 2 rfl) ?_
      refine lv_iadd hx hb dX0_leadsOn_15 ?_
      obtain ⟨h_2, hm⟩ := hm
      refine sn_ldX0_0 C0 hP h_2 dX0_leadsOn_16 ?_
      refine lv_if_lt (tgt := 22) hx hb dX0_leadsOn_17 (by decide) (fun c_3 => ?_) (fun c_3 => ?_)
      · have hm := hm.1 c_3
        refine lv_iinc (v := (x2 + (1 : Int32))) (lv' := [(2, .int (x2 + (1 : Int32))), (0, .ref h0), (1, .int x1)]) hx hb dX0_leadsOn_22 hl (k := 2) rfl rfl (by decide) rfl (fun ls hl => ?_)
        refine lv_goto (tgt := 2) hx hb dX0_leadsOn_25 (by decide) ?_
        exact ih2 x1 (x2 + (1 : Int32)) hm H locs hP hD hS ls (lv_sub hl [1, 2, 0] rfl)
      · have hm := hm.2 c_3
        refine lv_iconst (v := (1 : Int32)) hx hb dX0_leadsOn_20 (by decide) ?_
        exact W.zret (v := (1 : Int32)) hx hb hr rfl (fun t ht hW => ⟨⟨(1 : Int32), (), rfl, hm, ⟨by rw [ht]; exact hP, va_K.moved hW.alike hK, hD⟩⟩, hS.F ht⟩) hS.2.2 dX0_leadsOn_21
set_option maxHeartbeats 4000000 in
set_option maxRecDepth 100000 in
theorem wX0_leadsOn_0 {p : Program} {l : Launch} {e : Env} {s : State} {m : MethodId} {args : Array Value} {below : List Frame} {meth : Method} {c : Code} {A : Nat → Prop} {dC : Nat → ClassId} {dI : Nat → Nat → Nat} {h0 : Nat} {ad : Nat → Nat} {cs : Nat → ClassId} {f0 f1 f2 f3 f4 f5 f6 f7 : Nat → Int32} (C0 : sn_Cx cX0_leadsOn 3 (some .boolean) RX0 p s m meth c args A (dC, dI) (sn_tyX0 cs)) (post : Int32 → Prop) (x1 : Int32) (hm : mX0_leadsOn f0 x1 post) (H : Heap) (locs : List Loc) (hP : va_P (dC, dI) sn_cl (sn_pwX0 h0 ad cs f0 f1 f2 f3 f4 f5 f6 f7) H) (hD : va_D A (sn_pwX0 h0 ad cs f0 f1 f2 f3 f4 f5 f6 f7)) (hS : va_S A s.heap H locs) (ls : Array Slot) (hl : lv_has ls 3 [(0, .ref h0), (1, .int x1)]) : W p l e (headSpec (ws_ yX0_leadsOn cX0_leadsOn 3 (some .boolean)) ({ frames := 0, cells := 0, slots := 0, locals := 0 } : Room)).room s m args below meth c H locs 0 0 (MQ below (va_Qi (S := Unit) (fun r _ => post r) (fun (_ : Unit) (t : State) => sn_BX0 (dC, dI) A h0 ad cs f0 f1 f2 f3 f4 f5 f6 f7 t) A) args s 0 0 A) (F0 m 0 ls []) := by
  obtain ⟨hx, hb, hr, hlocks, hml, hown, hts, hA, hK⟩ := id C0
  unfold mX0_leadsOn at hm
  refine lv_iconst (v := (0 : Int32)) hx hb dX0_leadsOn_0 (by decide) ?_
  refine lv_istore_n (lv' := [(2, .int (0 : Int32)), (0, .ref h0), (1, .int x1)]) hx hb dX0_leadsOn_1 rfl hl (by decide) rfl (fun ls hl => ?_)
  obtain ⟨n2, hm⟩ := hm
  exact wX0_leadsOn_2 C0 post n2 x1 (0 : Int32) hm H locs hP hD hS ls (lv_sub hl [1, 2, 0] rfl)
set_option maxHeartbeats 4000000 in
set_option maxRecDepth 100000 in
theorem kX0_leadsOn (l : Launch) (dC : Nat → ClassId) (dI : Nat → Nat → Nat) (h0 : Nat) (ad : Nat → Nat) (cs : Nat → ClassId) (sz : Nat) (f0 f1 f2 f3 f4 f5 f6 f7 : Nat → Int32) (x1 : Int32) (post : Int32 → Prop) (hm : mX0_leadsOn f0 x1 post) : Met l yX0_leadsOn (ws_ yX0_leadsOn cX0_leadsOn 3 (some .boolean)) ({ frames := 0, cells := 0, slots := 0, locals := 0 } : Room) (va_Pc [.ref h0, .int x1] (sn_PX (dC, dI) (sn_tyX0 cs) (sn_pwX0 h0 ad cs f0 f1 f2 f3 f4 f5 f6 f7) sz)) (va_Qi (S := Unit) (fun r _ => post r) (fun (_ : Unit) (t : State) => sn_BX0 (dC, dI) (va_A (sn_pwX0 h0 ad cs f0 f1 f2 f3 f4 f5 f6 f7) sz) h0 ad cs f0 f1 f2 f3 f4 f5 f6 f7 t) (va_A (sn_pwX0 h0 ad cs f0 f1 f2 f3 f4 f5 f6 f7) sz)) 0 0 (va_A (sn_pwX0 h0 ad cs f0 f1 f2 f3 f4 f5 f6 f7) sz) := by
  refine sn_mk_V (n := 3) (RC := RX0) (Q := fun A => (va_Qi (S := Unit) (fun r _ => post r) (fun (_ : Unit) (t : State) => sn_BX0 (dC, dI) A h0 ad cs f0 f1 f2 f3 f4 f5 f6 f7 t) A)) (by decide) rfl (Nat.le_of_ble_eq_true rfl) ?_
  intro p e s m below meth c A ls C0 hP hD hl
  exact wX0_leadsOn_0 C0 post x1 hm _ _ hP hD va_S.rf ls hl
set_option maxHeartbeats 4000000 in
set_option maxRecDepth 100000 in
theorem wX0_share_0 {p : Program} {l : Launch} {e : Env} {s : State} {m : MethodId} {args : Array Value} {below : List Frame} {meth : Method} {c : Code} {A : Nat → Prop} {dC : Nat → ClassId} {dI : Nat → Nat → Nat} {h0 : Nat} {ad : Nat → Nat} {cs : Nat → ClassId} {f0 f1 f3 f6 f7 : Nat → Int32} (C0 : sn_Cx cX0_share 3 none RX0 p s m meth c args A (dC, dI) (sn_tyX0 cs)) (post : (Nat → Int32) → (Nat → Int32) → (Nat → Int32) → Prop) (f2 f4 f5 : Nat → Int32) (x1 x2 : Int32) (hm : mX0_share f2 f4 f5 x1 x2 post) (H : Heap) (locs : List Loc) (hP : va_P (dC, dI) sn_cl (sn_pwX0 h0 ad cs f0 f1 f2 f3 f4 f5 f6 f7) H) (hD : va_D A (sn_pwX0 h0 ad cs f0 f1 f2 f3 f4 f5 f6 f7)) (hS : va_S A s.heap H locs) (ls : Array Slot) (hl : lv_has ls 3 [(0, .ref h0), (1, .int x1), (2, .int x2)]) : W p l e (headSpec (ws_ yX0_share cX0_share 3 none) ({ frames := 0, cells := 0, slots := 0, locals := 0 } : Room)).room s m args below meth c H locs 0 0 (MQ below (va_Qv (S := (Nat → Int32) × (Nat → Int32) × (Nat → Int32)) (fun u => post (u.1) (u.2.1) (u.2.2)) (fun (u : (Nat → Int32) × (Nat → Int32) × (Nat → Int32)) (t : State) => sn_BX0 (dC, dI) A h0 ad cs f0 f1 (u.1) f3 (u.2.1) (u.2.2) f6 f7 t) A) args s 0 0 A) (F0 m 0 ls []) := by
  obtain ⟨hx, hb, hr, hlocks, hml, hown, hts, hA, hK⟩ := id C0
  unfold mX0_share at hm
  refine lv_aload_n hx hb dX0_share_0 rfl (lv_at hl 0 rfl) ?_
  refine sn_gtX0_4 C0 hP dX0_share_1 ?_
  refine lv_iload_n hx hb dX0_share_4 rfl (lv_at hl 2 rfl) ?_
  refine lv_aload_n hx hb dX0_share_5 rfl (lv_at hl 0 rfl) ?_
  refine sn_gtX0_4 C0 hP dX0_share_6 ?_
  refine lv_iload_n hx hb dX0_share_9 rfl (lv_at hl 1 rfl) ?_
  obtain ⟨h_1, hm⟩ := hm
  refine sn_ldX0_4 C0 hP h_1 dX0_share_10 ?_
  obtain ⟨h_2, hm⟩ := hm
  refine sn_stX0_4 C0 hP hD hS h_2 dX0_share_11 (fun H locs hP hD hS => ?_)
  refine lv_aload_n hx hb dX0_share_12 rfl (lv_at hl 0 rfl) ?_
  refine sn_gtX0_5 C0 hP dX0_share_13 ?_
  refine lv_iload_n hx hb dX0_share_16 rfl (lv_at hl 2 rfl) ?_
  refine lv_aload_n hx hb dX0_share_17 rfl (lv_at hl 0 rfl) ?_
  refine sn_gtX0_5 C0 hP dX0_share_18 ?_
  refine lv_iload_n hx hb dX0_share_21 rfl (lv_at hl 1 rfl) ?_
  obtain ⟨h_3, hm⟩ := hm
  refine sn_ldX0_5 C0 hP h_3 dX0_share_22 ?_
  obtain ⟨h_4, hm⟩ := hm
  refine sn_stX0_5 C0 hP hD hS h_4 dX0_share_23 (fun H locs hP hD hS => ?_)
  refine lv_aload_n hx hb dX0_share_24 rfl (lv_at hl 0 rfl) ?_
  refine sn_gtX0_4 C0 hP dX0_share_25 ?_
  refine lv_iload_n hx hb dX0_share_28 rfl (lv_at hl 2 rfl) ?_
  obtain ⟨h_5, hm⟩ := hm
  refine sn_ldX0_4 C0 hP h_5 dX0_share_29 ?_
  refine lv_if_lt (tgt := 48) hx hb dX0_share_30 (by decide) (fun c_6 => ?_) (fun c_6 => ?_)
  · have hm := hm.1 c_6
    exact W.vret hx hb hr (fun t ht hW => ⟨⟨⟨f2, (upd f4 (x2).toNatClampNeg (f4 (x1).toNatClampNeg)), (upd f5 (x2).toNatClampNeg (f5 (x1).toNatClampNeg))⟩, rfl, hm, ⟨by rw [ht]; exact hP, va_K.moved hW.alike hK, hD⟩⟩, hS.F ht⟩) hS.2.2 dX0_share_48
  · have hm := hm.2 c_6
    refine lv_aload_n hx hb dX0_share_33 rfl (lv_at hl 0 rfl) ?_
    refine sn_gtX0_2 C0 hP dX0_share_34 ?_
    refine lv_aload_n hx hb dX0_share_37 rfl (lv_at hl 0 rfl) ?_
    refine sn_gtX0_4 C0 hP dX0_share_38 ?_
    refine lv_iload_n hx hb dX0_share_41 rfl (lv_at hl 2 rfl) ?_
    obtain ⟨h_7, hm⟩ := hm
    refine sn_ldX0_4 C0 hP h_7 dX0_share_42 ?_
    refine lv_dup2_11 hx hb dX0_share_43 rfl rfl ?_
    obtain ⟨h_8, hm⟩ := hm
    refine sn_ldX0_2 C0 hP h_8 dX0_share_44 ?_
    refine lv_iconst (v := (1 : Int32)) hx hb dX0_share_45 (by decide) ?_
    refine lv_iadd hx hb dX0_share_46 ?_
    obtain ⟨h_9, hm⟩ := hm
    refine sn_stX0_2 C0 hP hD hS h_9 dX0_share_47 (fun H locs hP hD hS => ?_)
    exact W.vret hx hb hr (fun t ht hW => ⟨⟨⟨(upd f2 ((upd f4 (x2).toNatClampNeg (f4 (x1).toNatClampNeg)) (x2).toNatClampNeg).toNatClampNeg ((f2 ((upd f4 (x2).toNatClampNeg (f4 (x1).toNatClampNeg)) (x2).toNatClampNeg).toNatClampNeg) + (1 : Int32))), (upd f4 (x2).toNatClampNeg (f4 (x1).toNatClampNeg)), (upd f5 (x2).toNatClampNeg (f5 (x1).toNatClampNeg))⟩, rfl, hm, ⟨by rw [ht]; exact hP, va_K.moved hW.alike hK, hD⟩⟩, hS.F ht⟩) hS.2.2 dX0_share_48
set_option maxHeartbeats 4000000 in
set_option maxRecDepth 100000 in
theorem kX0_share (l : Launch) (dC : Nat → ClassId) (dI : Nat → Nat → Nat) (h0 : Nat) (ad : Nat → Nat) (cs : Nat → ClassId) (sz : Nat) (f0 f1 f2 f3 f4 f5 f6 f7 : Nat → Int32) (x1 x2 : Int32) (post : (Nat → Int32) → (Nat → Int32) → (Nat → Int32) → Prop) (hm : mX0_share f2 f4 f5 x1 x2 post) : Met l yX0_share (ws_ yX0_share cX0_share 3 none) ({ frames := 0, cells := 0, slots := 0, locals := 0 } : Room) (va_Pc [.ref h0, .int x1, .int x2] (sn_PX (dC, dI) (sn_tyX0 cs) (sn_pwX0 h0 ad cs f0 f1 f2 f3 f4 f5 f6 f7) sz)) (va_Qv (S := (Nat → Int32) × (Nat → Int32) × (Nat → Int32)) (fun u => post (u.1) (u.2.1) (u.2.2)) (fun (u : (Nat → Int32) × (Nat → Int32) × (Nat → Int32)) (t : State) => sn_BX0 (dC, dI) (va_A (sn_pwX0 h0 ad cs f0 f1 f2 f3 f4 f5 f6 f7) sz) h0 ad cs f0 f1 (u.1) f3 (u.2.1) (u.2.2) f6 f7 t) (va_A (sn_pwX0 h0 ad cs f0 f1 f2 f3 f4 f5 f6 f7) sz)) 0 0 (va_A (sn_pwX0 h0 ad cs f0 f1 f2 f3 f4 f5 f6 f7) sz) := by
  refine sn_mk_V (n := 3) (RC := RX0) (Q := fun A => (va_Qv (S := (Nat → Int32) × (Nat → Int32) × (Nat → Int32)) (fun u => post (u.1) (u.2.1) (u.2.2)) (fun (u : (Nat → Int32) × (Nat → Int32) × (Nat → Int32)) (t : State) => sn_BX0 (dC, dI) A h0 ad cs f0 f1 (u.1) f3 (u.2.1) (u.2.2) f6 f7 t) A)) (by decide) rfl (Nat.le_of_ble_eq_true rfl) ?_
  intro p e s m below meth c A ls C0 hP hD hl
  exact wX0_share_0 C0 post f2 f4 f5 x1 x2 hm _ _ hP hD va_S.rf ls hl
set_option maxHeartbeats 4000000 in
set_option maxRecDepth 100000 in
theorem wX0_isMap_0 {p : Program} {l : Launch} {e : Env} {s : State} {m : MethodId} {args : Array Value} {below : List Frame} {meth : Method} {c : Code} {A : Nat → Prop} {dC : Nat → ClassId} {dI : Nat → Nat → Nat} {h0 : Nat} {ad : Nat → Nat} {cs : Nat → ClassId} {f0 f1 f2 f3 f4 f5 f6 f7 : Nat → Int32} (C0 : sn_Cx cX0_isMap 2 (some .boolean) RX0 p s m meth c args A (dC, dI) (sn_tyX0 cs)) (post : Int32 → Prop) (x1 : Int32) (hm : mX0_isMap f3 x1 post) (H : Heap) (locs : List Loc) (hP : va_P (dC, dI) sn_cl (sn_pwX0 h0 ad cs f0 f1 f2 f3 f4 f5 f6 f7) H) (hD : va_D A (sn_pwX0 h0 ad cs f0 f1 f2 f3 f4 f5 f6 f7)) (hS : va_S A s.heap H locs) (ls : Array Slot) (hl : lv_has ls 2 [(0, .ref h0), (1, .int x1)]) : W p l e (headSpec (ws_ yX0_isMap cX0_isMap 2 (some .boolean)) ({ frames := 0, cells := 0, slots := 0, locals := 0 } : Room)).room s m args below meth c H locs 0 0 (MQ below (va_Qi (S := Unit) (fun r _ => post r) (fun (_ : Unit) (t : State) => sn_BX0 (dC, dI) A h0 ad cs f0 f1 f2 f3 f4 f5 f6 f7 t) A) args s 0 0 A) (F0 m 0 ls []) := by
  obtain ⟨hx, hb, hr, hlocks, hml, hown, hts, hA, hK⟩ := id C0
  unfold mX0_isMap at hm
  refine lv_iload_n hx hb dX0_isMap_0 rfl (lv_at hl 1 rfl) ?_
  refine lv_iconst (v := (-1 : Int32)) hx hb dX0_isMap_1 (by decide) ?_
  refine lv_icmp_lt (tgt := 26) hx hb dX0_isMap_2 (by decide) (fun c_1 => ?_) (fun c_1 => ?_)
  · have hm := hm.1 c_1
    refine lv_iconst (v := (0 : Int32)) hx hb dX0_isMap_26 (by decide) ?_
    exact W.zret (v := (0 : Int32)) hx hb hr rfl (fun t ht hW => ⟨⟨(0 : Int32), (), rfl, hm, ⟨by rw [ht]; exact hP, va_K.moved hW.alike hK, hD⟩⟩, hS.F ht⟩) hS.2.2 dX0_isMap_27
  · have hm := hm.2 c_1
    refine lv_iload_n hx hb dX0_isMap_5 rfl (lv_at hl 1 rfl) ?_
    refine lv_bipush (v := (6 : Int32)) hx hb dX0_isMap_6 (by decide) ?_
    refine lv_icmp_gt (tgt := 26) hx hb dX0_isMap_8 (by decide) (fun c_2 => ?_) (fun c_2 => ?_)
    · have hm := hm.1 c_2
      refine lv_iconst (v := (0 : Int32)) hx hb dX0_isMap_26 (by decide) ?_
      exact W.zret (v := (0 : Int32)) hx hb hr rfl (fun t ht hW => ⟨⟨(0 : Int32), (), rfl, hm, ⟨by rw [ht]; exact hP, va_K.moved hW.alike hK, hD⟩⟩, hS.F ht⟩) hS.2.2 dX0_isMap_27
    · have hm := hm.2 c_2
      refine lv_aload_n hx hb dX0_isMap_11 rfl (lv_at hl 0 rfl) ?_
      refine sn_gtX0_3 C0 hP dX0_isMap_12 ?_
      refine lv_iload_n hx hb dX0_isMap_15 rfl (lv_at hl 1 rfl) ?_
      refine lv_iconst (v := (1 : Int32)) hx hb dX0_isMap_16 (by decide) ?_
      refine lv_iadd hx hb dX0_isMap_17 ?_
      obtain ⟨h_3, hm⟩ := hm
      refine sn_ldX0_3 C0 hP h_3 dX0_isMap_18 ?_
      refine lv_if_eq (tgt := 26) hx hb dX0_isMap_19 (by decide) (fun c_4 => ?_) (fun c_4 => ?_)
      · have hm := hm.1 c_4
        refine lv_iconst (v := (0 : Int32)) hx hb dX0_isMap_26 (by decide) ?_
        exact W.zret (v := (0 : Int32)) hx hb hr rfl (fun t ht hW => ⟨⟨(0 : Int32), (), rfl, hm, ⟨by rw [ht]; exact hP, va_K.moved hW.alike hK, hD⟩⟩, hS.F ht⟩) hS.2.2 dX0_isMap_27
      · have hm := hm.2 c_4
        refine lv_iconst (v := (1 : Int32)) hx hb dX0_isMap_22 (by decide) ?_
        refine lv_goto (tgt := 27) hx hb dX0_isMap_23 (by decide) ?_
        exact W.zret (v := (1 : Int32)) hx hb hr rfl (fun t ht hW => ⟨⟨(1 : Int32), (), rfl, hm, ⟨by rw [ht]; exact hP, va_K.moved hW.alike hK, hD⟩⟩, hS.F ht⟩) hS.2.2 dX0_isMap_27
set_option maxHeartbeats 4000000 in
set_option maxRecDepth 100000 in
theorem kX0_isMap (l : Launch) (dC : Nat → ClassId) (dI : Nat → Nat → Nat) (h0 : Nat) (ad : Nat → Nat) (cs : Nat → ClassId) (sz : Nat) (f0 f1 f2 f3 f4 f5 f6 f7 : Nat → Int32) (x1 : Int32) (post : Int32 → Prop) (hm : mX0_isMap f3 x1 post) : Met l yX0_isMap (ws_ yX0_isMap cX0_isMap 2 (some .boolean)) ({ frames := 0, cells := 0, slots := 0, locals := 0 } : Room) (va_Pc [.ref h0, .int x1] (sn_PX (dC, dI) (sn_tyX0 cs) (sn_pwX0 h0 ad cs f0 f1 f2 f3 f4 f5 f6 f7) sz)) (va_Qi (S := Unit) (fun r _ => post r) (fun (_ : Unit) (t : State) => sn_BX0 (dC, dI) (va_A (sn_pwX0 h0 ad cs f0 f1 f2 f3 f4 f5 f6 f7) sz) h0 ad cs f0 f1 f2 f3 f4 f5 f6 f7 t) (va_A (sn_pwX0 h0 ad cs f0 f1 f2 f3 f4 f5 f6 f7) sz)) 0 0 (va_A (sn_pwX0 h0 ad cs f0 f1 f2 f3 f4 f5 f6 f7) sz) := by
  refine sn_mk_V (n := 2) (RC := RX0) (Q := fun A => (va_Qi (S := Unit) (fun r _ => post r) (fun (_ : Unit) (t : State) => sn_BX0 (dC, dI) A h0 ad cs f0 f1 f2 f3 f4 f5 f6 f7 t) A)) (by decide) rfl (Nat.le_of_ble_eq_true rfl) ?_
  intro p e s m below meth c A ls C0 hP hD hl
  exact wX0_isMap_0 C0 post x1 hm _ _ hP hD va_S.rf ls hl
set_option maxHeartbeats 4000000 in
set_option maxRecDepth 100000 in
theorem wX0_behind_0 {p : Program} {l : Launch} {e : Env} {s : State} {m : MethodId} {args : Array Value} {below : List Frame} {meth : Method} {c : Code} {A : Nat → Prop} (C0 : sn_CxS cX0_behind 3 (some .int) RX0 p s m meth c args A) (post : Int32 → Prop) (x0 x1 : Int32) (hm : mX0_behind x0 x1 post) (H : Heap) (locs : List Loc)  (hS : va_S A s.heap H locs) (ls : Array Slot) (hl : lv_has ls 3 [(0, .int x0), (1, .int x1)]) : W p l e (headSpec (ws_ yX0_behind cX0_behind 3 (some .int)) ({ frames := 0, cells := 0, slots := 0, locals := 0 } : Room)).room s m args below meth c H locs 0 0 (MQ below (va_Qi (S := Unit) (fun r _ => post r) (fun (_ : Unit) (_ : State) => True) A) args s 0 0 A) (F0 m 0 ls []) := by
  obtain ⟨hx, hb, hr, hlocks, hml, hown, hts, hA⟩ := id C0
  unfold mX0_behind at hm
  refine lv_sipush (v := (256 : Int32)) hx hb dX0_behind_0 (by decide) ?_
  refine lv_iconst (v := (2 : Int32)) hx hb dX0_behind_3 (by decide) ?_
  refine lv_iload_n hx hb dX0_behind_4 rfl (lv_at hl 1 rfl) ?_
  refine lv_imul hx hb dX0_behind_5 ?_
  refine lv_iushr (v := (sn_ushr (256 : Int32) ((2 : Int32) * x1))) hx hb dX0_behind_6 rfl ?_
  refine lv_istore_n (lv' := [(2, .int (sn_ushr (256 : Int32) ((2 : Int32) * x1))), (0, .int x0), (1, .int x1)]) hx hb dX0_behind_7 rfl hl (by decide) rfl (fun ls hl => ?_)
  refine lv_iload_n hx hb dX0_behind_8 rfl (lv_at hl 1 rfl) ?_
  refine lv_iload_n hx hb dX0_behind_9 rfl (lv_at hl 0 rfl) ?_
  refine lv_iconst (v := (1 : Int32)) hx hb dX0_behind_10 (by decide) ?_
  refine lv_isub hx hb dX0_behind_11 ?_
  refine lv_iconst (v := (-1 : Int32)) hx hb dX0_behind_12 (by decide) ?_
  refine lv_ixor hx hb dX0_behind_13 ?_
  refine lv_iand hx hb dX0_behind_14 ?_
  refine lv_iload_n hx hb dX0_behind_15 rfl (lv_at hl 0 rfl) ?_
  refine lv_iadd hx hb dX0_behind_16 ?_
  exact W.iret (v := ((x0 &&& (((sn_ushr (256 : Int32) ((2 : Int32) * x1)) - (1 : Int32)) ^^^ (-1 : Int32))) + (sn_ushr (256 : Int32) ((2 : Int32) * x1)))) hx hb hr (fun t ht hW => ⟨⟨((x0 &&& (((sn_ushr (256 : Int32) ((2 : Int32) * x1)) - (1 : Int32)) ^^^ (-1 : Int32))) + (sn_ushr (256 : Int32) ((2 : Int32) * x1))), (), rfl, hm, trivial⟩, hS.F ht⟩) hS.2.2 dX0_behind_17
set_option maxHeartbeats 4000000 in
set_option maxRecDepth 100000 in
theorem kX0_behind (l : Launch) (sz : Nat) (x0 x1 : Int32) (post : Int32 → Prop) (hm : mX0_behind x0 x1 post) : Met l yX0_behind (ws_ yX0_behind cX0_behind 3 (some .int)) ({ frames := 0, cells := 0, slots := 0, locals := 0 } : Room) (va_Pc [.int x0, .int x1] (fun U => U.heap.size = sz)) (va_Qi (S := Unit) (fun r _ => post r) (fun (_ : Unit) (_ : State) => True) (va_A [] sz)) 0 0 (va_A [] sz) := by
  refine sn_mk_S (n := 3) (RC := RX0) (Q := fun A => (va_Qi (S := Unit) (fun r _ => post r) (fun (_ : Unit) (_ : State) => True) A)) (by decide) rfl (Nat.le_of_ble_eq_true rfl) ?_
  intro p e s m below meth c A ls C0 hl
  exact wX0_behind_0 C0 post x0 x1 hm _ _ va_S.rf ls hl
set_option maxHeartbeats 4000000 in
set_option maxRecDepth 100000 in
theorem wX0_missingLevel_10 {p : Program} {l : Launch} {e : Env} {s : State} {m : MethodId} {args : Array Value} {below : List Frame} {meth : Method} {c : Code} {A : Nat → Prop} {dC : Nat → ClassId} {dI : Nat → Nat → Nat} {h0 : Nat} {ad : Nat → Nat} {cs : Nat → ClassId} {f0 f1 f2 f3 f4 f5 f6 f7 : Nat → Int32} (C0 : sn_Cx cX0_missingLevel 5 (some .int) RX0 p s m meth c args A (dC, dI) (sn_tyX0 cs)) (post : Int32 → Prop) : ∀ (n10 : Nat) (x2 x3 x4 : Int32), mX0_missingLevel_10 n10 f0 f1 f4 x2 x3 x4 post → ∀ (H : Heap) (locs : List Loc), va_P (dC, dI) sn_cl (sn_pwX0 h0 ad cs f0 f1 f2 f3 f4 f5 f6 f7) H → va_D A (sn_pwX0 h0 ad cs f0 f1 f2 f3 f4 f5 f6 f7) → va_S A s.heap H locs → ∀ (ls : Array Slot), lv_has ls 5 [(0, .ref h0), (2, .int x2), (3, .int x3), (4, .int x4)] → W p l e (headSpec (ws_ yX0_missingLevel cX0_missingLevel 5 (some .int)) ({ frames := 1, cells := 0, slots := 0, locals := 21 } : Room)).room s m args below meth c H locs 0 0 (MQ below (va_Qi (S := Unit) (fun r _ => post r) (fun (_ : Unit) (t : State) => sn_BX0 (dC, dI) A h0 ad cs f0 f1 f2 f3 f4 f5 f6 f7 t) A) args s 0 0 A) (F0 m 10 ls []) := by
  obtain ⟨hx, hb, hr, hlocks, hml, hown, hts, hA, hK⟩ := id C0
  intro n10
  induction n10 with
  | zero =>
    intro x2 x3 x4 hm
    unfold mX0_missingLevel_10 at hm
    exact False.elim hm
  | succ n10 ih10 =>
    intro x2 x3 x4 hm H locs hP hD hS ls hl
    unfold mX0_missingLevel_10 at hm
    refine lv_iload hx hb dX0_missingLevel_10 (lv_at hl 3 rfl) ?_
    refine lv_iconst (v := (3 : Int32)) hx hb dX0_missingLevel_12 (by decide) ?_
    refine lv_icmp_ge (tgt := 45) hx hb dX0_missingLevel_13 (by decide) (fun c_1 => ?_) (fun c_1 => ?_)
    · have hm := hm.1 c_1
      refine lv_iload_n hx hb dX0_missingLevel_45 rfl (lv_at hl 2 rfl) ?_
      refine lv_if_ge (tgt := 51) hx hb dX0_missingLevel_46 (by decide) (fun c_2 => ?_) (fun c_2 => ?_)
      · have hm := hm.1 c_2
        refine lv_aload_n hx hb dX0_missingLevel_51 rfl (lv_at hl 0 rfl) ?_
        refine sn_gtX0_1 C0 hP dX0_missingLevel_52 ?_
        refine lv_iload_n hx hb dX0_missingLevel_55 rfl (lv_at hl 2 rfl) ?_
        obtain ⟨h_3, hm⟩ := hm
        refine sn_ldX0_1 C0 hP h_3 dX0_missingLevel_56 ?_
        refine lv_iload_n hx hb dX0_missingLevel_57 rfl (lv_at hl 1 rfl) ?_
        refine lv_iconst (v := (3 : Int32)) hx hb dX0_missingLevel_58 (by decide) ?_
        refine lv_iand hx hb dX0_missingLevel_59 ?_
        refine lv_iushr (v := (sn_ushr (f1 (x3).toNatClampNeg) (x2 &&& (3 : Int32)))) hx hb dX0_missingLevel_60 rfl ?_
        refine lv_iconst (v := (1 : Int32)) hx hb dX0_missingLevel_61 (by decide) ?_
        refine lv_iand hx hb dX0_missingLevel_62 ?_
        refine lv_if_eq (tgt := 70) hx hb dX0_missingLevel_63 (by decide) (fun c_4 => ?_) (fun c_4 => ?_)
        · have hm := hm.1 c_4
          refine lv_iconst (v := (4 : Int32)) hx hb dX0_missingLevel_70 (by decide) ?_
          exact W.iret (v := (4 : Int32)) hx hb hr (fun t ht hW => ⟨⟨(4 : Int32), (), rfl, hm, ⟨by rw [ht]; exact hP, va_K.moved hW.alike hK, hD⟩⟩, hS.F ht⟩) hS.2.2 dX0_missingLevel_71
        · have hm := hm.2 c_4
          refine lv_iconst (v := (5 : Int32)) hx hb dX0_missingLevel_66 (by decide) ?_
          refine lv_goto (tgt := 71) hx hb dX0_missingLevel_67 (by decide) ?_
          exact W.iret (v := (5 : Int32)) hx hb hr (fun t ht hW => ⟨⟨(5 : Int32), (), rfl, hm, ⟨by rw [ht]; exact hP, va_K.moved hW.alike hK, hD⟩⟩, hS.F ht⟩) hS.2.2 dX0_missingLevel_71
      · have hm := hm.2 c_2
        refine lv_iconst (v := (3 : Int32)) hx hb dX0_missingLevel_49 (by decide) ?_
        exact W.iret (v := (3 : Int32)) hx hb hr (fun t ht hW => ⟨⟨(3 : Int32), (), rfl, hm, ⟨by rw [ht]; exact hP, va_K.moved hW.alike hK, hD⟩⟩, hS.F ht⟩) hS.2.2 dX0_missingLevel_50
    · have hm := hm.2 c_1
      refine lv_iload_n hx hb dX0_missingLevel_16 rfl (lv_at hl 2 rfl) ?_
      refine lv_if_ge (tgt := 23) hx hb dX0_missingLevel_17 (by decide) (fun c_5 => ?_) (fun c_5 => ?_)
      · have hm := hm.1 c_5
        refine lv_aload_n hx hb dX0_missingLevel_23 rfl (lv_at hl 0 rfl) ?_
        refine sn_gtX0_0 C0 hP dX0_missingLevel_24 ?_
        refine lv_iconst (v := (4 : Int32)) hx hb dX0_missingLevel_27 (by decide) ?_
        refine lv_iload_n hx hb dX0_missingLevel_28 rfl (lv_at hl 2 rfl) ?_
        refine lv_imul hx hb dX0_missingLevel_29 ?_
        refine lv_iload_n hx hb dX0_missingLevel_30 rfl (lv_at hl 1 rfl) ?_
        refine lv_iload hx hb dX0_missingLevel_31 (lv_at hl 3 rfl) ?_
        refine sn_cl_S (As := [.int x2, .int x4]) (rest := [.int ((4 : Int32) * x3), .ref (ad 0)]) ⟨hx, hb, hml, hown, hts⟩ (kX0_turn l H.size x2 x4 _ hm) (va_cwS 2 hts (lw_S q68 q69 q19 q70) rfl rfl rfl (by decide +kernel) ⟨Nat.le_of_ble_eq_true rfl, Nat.le_of_ble_eq_true rfl⟩) hP hS hA rfl hl.1 rfl (lv_room (Nat.le_of_ble_eq_true rfl)) dX0_missingLevel_33 ⟨Nat.le_refl 0, Nat.le_refl 0⟩ (fun r_6 H locs hm hP hS => ?_)
        refine lv_iadd hx hb dX0_missingLevel_36 ?_
        obtain ⟨h_7, hm⟩ := hm
        refine sn_ldX0_0 C0 hP h_7 dX0_missingLevel_37 ?_
        refine lv_istore_n (lv' := [(3, .int (f0 (((4 : Int32) * x3) + r_6).toNatClampNeg)), (0, .ref h0), (2, .int x2), (4, .int x4)]) hx hb dX0_missingLevel_38 rfl hl (by decide) rfl (fun ls hl => ?_)
        refine lv_iinc (v := (x4 + (1 : Int32))) (lv' := [(4, .int (x4 + (1 : Int32))), (3, .int (f0 (((4 : Int32) * x3) + r_6).toNatClampNeg)), (0, .ref h0), (2, .int x2)]) hx hb dX0_missingLevel_39 hl (k := 3) rfl rfl (by decide) rfl (fun ls hl => ?_)
        refine lv_goto (tgt := 10) hx hb dX0_missingLevel_42 (by decide) ?_
        exact ih10 x2 (f0 (((4 : Int32) * x3) + r_6).toNatClampNeg) (x4 + (1 : Int32)) hm H locs hP hD hS ls (lv_sub hl [2, 3, 1, 0] rfl)
      · have hm := hm.2 c_5
        refine lv_iload hx hb dX0_missingLevel_20 (lv_at hl 3 rfl) ?_
        exact W.iret (v := x4) hx hb hr (fun t ht hW => ⟨⟨x4, (), rfl, hm, ⟨by rw [ht]; exact hP, va_K.moved hW.alike hK, hD⟩⟩, hS.F ht⟩) hS.2.2 dX0_missingLevel_22
set_option maxHeartbeats 4000000 in
set_option maxRecDepth 100000 in
theorem wX0_missingLevel_0 {p : Program} {l : Launch} {e : Env} {s : State} {m : MethodId} {args : Array Value} {below : List Frame} {meth : Method} {c : Code} {A : Nat → Prop} {dC : Nat → ClassId} {dI : Nat → Nat → Nat} {h0 : Nat} {ad : Nat → Nat} {cs : Nat → ClassId} {f0 f1 f2 f3 f4 f5 f6 f7 : Nat → Int32} (C0 : sn_Cx cX0_missingLevel 5 (some .int) RX0 p s m meth c args A (dC, dI) (sn_tyX0 cs)) (post : Int32 → Prop) (x1 x2 : Int32) (hm : mX0_missingLevel f0 f1 f4 x1 x2 post) (H : Heap) (locs : List Loc) (hP : va_P (dC, dI) sn_cl (sn_pwX0 h0 ad cs f0 f1 f2 f3 f4 f5 f6 f7) H) (hD : va_D A (sn_pwX0 h0 ad cs f0 f1 f2 f3 f4 f5 f6 f7)) (hS : va_S A s.heap H locs) (ls : Array Slot) (hl : lv_has ls 5 [(0, .ref h0), (1, .int x1), (2, .int x2)]) : W p l e (headSpec (ws_ yX0_missingLevel cX0_missingLevel 5 (some .int)) ({ frames := 1, cells := 0, slots := 0, locals := 21 } : Room)).room s m args below meth c H locs 0 0 (MQ below (va_Qi (S := Unit) (fun r _ => post r) (fun (_ : Unit) (t : State) => sn_BX0 (dC, dI) A h0 ad cs f0 f1 f2 f3 f4 f5 f6 f7 t) A) args s 0 0 A) (F0 m 0 ls []) := by
  obtain ⟨hx, hb, hr, hlocks, hml, hown, hts, hA, hK⟩ := id C0
  unfold mX0_missingLevel at hm
  refine lv_aload_n hx hb dX0_missingLevel_0 rfl (lv_at hl 0 rfl) ?_
  refine sn_gtX0_4 C0 hP dX0_missingLevel_1 ?_
  refine lv_iload_n hx hb dX0_missingLevel_4 rfl (lv_at hl 1 rfl) ?_
  obtain ⟨h_1, hm⟩ := hm
  refine sn_ldX0_4 C0 hP h_1 dX0_missingLevel_5 ?_
  refine lv_istore_n (lv' := [(3, .int (f4 (x1).toNatClampNeg)), (0, .ref h0), (1, .int x1), (2, .int x2)]) hx hb dX0_missingLevel_6 rfl hl (by decide) rfl (fun ls hl => ?_)
  refine lv_iconst (v := (0 : Int32)) hx hb dX0_missingLevel_7 (by decide) ?_
  refine lv_istore (lv' := [(4, .int (0 : Int32)), (3, .int (f4 (x1).toNatClampNeg)), (0, .ref h0), (1, .int x1), (2, .int x2)]) hx hb dX0_missingLevel_8 hl (by decide) rfl (fun ls hl => ?_)
  obtain ⟨n10, hm⟩ := hm
  exact wX0_missingLevel_10 C0 post n10 x2 (f4 (x1).toNatClampNeg) (0 : Int32) hm H locs hP hD hS ls (lv_sub hl [2, 4, 1, 0] rfl)
set_option maxHeartbeats 4000000 in
set_option maxRecDepth 100000 in
theorem kX0_missingLevel (l : Launch) (dC : Nat → ClassId) (dI : Nat → Nat → Nat) (h0 : Nat) (ad : Nat → Nat) (cs : Nat → ClassId) (sz : Nat) (f0 f1 f2 f3 f4 f5 f6 f7 : Nat → Int32) (x1 x2 : Int32) (post : Int32 → Prop) (hm : mX0_missingLevel f0 f1 f4 x1 x2 post) : Met l yX0_missingLevel (ws_ yX0_missingLevel cX0_missingLevel 5 (some .int)) ({ frames := 1, cells := 0, slots := 0, locals := 21 } : Room) (va_Pc [.ref h0, .int x1, .int x2] (sn_PX (dC, dI) (sn_tyX0 cs) (sn_pwX0 h0 ad cs f0 f1 f2 f3 f4 f5 f6 f7) sz)) (va_Qi (S := Unit) (fun r _ => post r) (fun (_ : Unit) (t : State) => sn_BX0 (dC, dI) (va_A (sn_pwX0 h0 ad cs f0 f1 f2 f3 f4 f5 f6 f7) sz) h0 ad cs f0 f1 f2 f3 f4 f5 f6 f7 t) (va_A (sn_pwX0 h0 ad cs f0 f1 f2 f3 f4 f5 f6 f7) sz)) 0 0 (va_A (sn_pwX0 h0 ad cs f0 f1 f2 f3 f4 f5 f6 f7) sz) := by
  refine sn_mk_V (n := 5) (RC := RX0) (Q := fun A => (va_Qi (S := Unit) (fun r _ => post r) (fun (_ : Unit) (t : State) => sn_BX0 (dC, dI) A h0 ad cs f0 f1 f2 f3 f4 f5 f6 f7 t) A)) (by decide) rfl (Nat.le_of_ble_eq_true rfl) ?_
  intro p e s m below meth c A ls C0 hP hD hl
  exact wX0_missingLevel_0 C0 post x1 x2 hm _ _ hP hD va_S.rf ls hl
end
section
/-! walks and contracts (printed by gen.py): ownNode ownPath -/
set_option maxHeartbeats 4000000 in
set_option maxRecDepth 100000 in
theorem wX0_ownNode_141 {p : Program} {l : Launch} {e : Env} {s : State} {m : MethodId} {args : Array Value} {below : List Frame} {meth : Method} {c : Code} {A : Nat → Prop} {dC : Nat → ClassId} {dI : Nat → Nat → Nat} {h0 : Nat} {ad : Nat → Nat} {cs : Nat → ClassId} {f3 f4 f5 f6 f7 : Nat → Int32} (C0 : sn_Cx cX0_ownNode 5 (some .int) RX0 p s m meth c args A (dC, dI) (sn_tyX0 cs)) (post : Int32 → (Nat → Int32) → (Nat → Int32) → (Nat → Int32) → Prop) (f0 f1 f2 : Nat → Int32) (x1 x2 x3 : Int32) (hm : mX0_ownNode_141 f0 f1 f2 x1 x2 x3 post) (H : Heap) (locs : List Loc) (hP : va_P (dC, dI) sn_cl (sn_pwX0 h0 ad cs f0 f1 f2 f3 f4 f5 f6 f7) H) (hD : va_D A (sn_pwX0 h0 ad cs f0 f1 f2 f3 f4 f5 f6 f7)) (hS : va_S A s.heap H locs) (ls : Array Slot) (hl : lv_has ls 5 [(0, .ref h0), (1, .int x1), (2, .int x2), (3, .int x3)]) : W p l e (headSpec (ws_ yX0_ownNode cX0_ownNode 5 (some .int)) ({ frames := 1, cells := 0, slots := 0, locals := 22 } : Room)).room s m args below meth c H locs 0 0 (MQ below (va_Qi (S := (Nat → Int32) × (Nat → Int32) × (Nat → Int32)) (fun r u => post r (u.1) (u.2.1) (u.2.2)) (fun (u : (Nat → Int32) × (Nat → Int32) × (Nat → Int32)) (t : State) => sn_BX0 (dC, dI) A h0 ad cs (u.1) (u.2.1) (u.2.2) f3 f4 f5 f6 f7 t) A) args s 0 0 A) (F0 m 141 ls []) := by
  obtain ⟨hx, hb, hr, hlocks, hml, hown, hts, hA, hK⟩ := id C0
  unfold mX0_ownNode_141 at hm
  refine lv_aload_n hx hb dX0_ownNode_141 rfl (lv_at hl 0 rfl) ?_
  refine lv_iload_n hx hb dX0_ownNode_142 rfl (lv_at hl 3 rfl) ?_
  refine lv_iload_n hx hb dX0_ownNode_143 rfl (lv_at hl 2 rfl) ?_
  refine sn_cl_Vv (As := [.int x3, .int x2]) (rest := []) (w1 := (fun (u : (Nat → Int32)) => sn_pwX0 h0 ad cs (f0) (u) (f2) (f3) (f4) (f5) (f6) (f7))) ⟨hx, hb, hml, hown, hts⟩ (kX0_levelMark l dC dI h0 ad cs H.size f0 f1 f2 f3 f4 f5 f6 f7 x3 x2 _ hm) (cwV 2 hts (lw_V q83 q85 qs5 q19 q86) rfl rfl rfl (by decide +kernel) ⟨Nat.le_of_ble_eq_true rfl, Nat.le_of_ble_eq_true rfl⟩) (va_recv hK hP (ci := 0) (q0 := 0) rfl rfl) hP hD hK hS hA rfl hl.1 rfl (lv_room (Nat.le_of_ble_eq_true rfl)) dX0_ownNode_144 ⟨Nat.le_refl 0, Nat.le_refl 0⟩ (fun f1_1 H locs hm hP hD hS => ?_)
  refine lv_iload_n hx hb dX0_ownNode_147 rfl (lv_at hl 1 rfl) ?_
  refine lv_if_lt (tgt := 161) hx hb dX0_ownNode_148 (by decide) (fun c_2 => ?_) (fun c_2 => ?_)
  · have hm := hm.1 c_2
    refine lv_iload_n hx hb dX0_ownNode_161 rfl (lv_at hl 3 rfl) ?_
    exact W.iret (v := x3) hx hb hr (fun t ht hW => ⟨⟨x3, ⟨f0, f1_1, f2⟩, rfl, hm, ⟨by rw [ht]; exact hP, va_K.moved hW.alike hK, hD⟩⟩, hS.F ht⟩) hS.2.2 dX0_ownNode_162
  · have hm := hm.2 c_2
    refine lv_aload_n hx hb dX0_ownNode_151 rfl (lv_at hl 0 rfl) ?_
    refine sn_gtX0_2 C0 hP dX0_ownNode_152 ?_
    refine lv_iload_n hx hb dX0_ownNode_155 rfl (lv_at hl 1 rfl) ?_
    refine lv_dup2_11 hx hb dX0_ownNode_156 rfl rfl ?_
    obtain ⟨h_3, hm⟩ := hm
    refine sn_ldX0_2 C0 hP h_3 dX0_ownNode_157 ?_
    refine lv_iconst (v := (1 : Int32)) hx hb dX0_ownNode_158 (by decide) ?_
    refine lv_isub hx hb dX0_ownNode_159 ?_
    obtain ⟨h_4, hm⟩ := hm
    refine sn_stX0_2 C0 hP hD hS h_4 dX0_ownNode_160 (fun H locs hP hD hS => ?_)
    refine lv_iload_n hx hb dX0_ownNode_161 rfl (lv_at hl 3 rfl) ?_
    exact W.iret (v := x3) hx hb hr (fun t ht hW => ⟨⟨x3, ⟨f0, f1_1, (upd f2 (x1).toNatClampNeg ((f2 (x1).toNatClampNeg) - (1 : Int32)))⟩, rfl, hm, ⟨by rw [ht]; exact hP, va_K.moved hW.alike hK, hD⟩⟩, hS.F ht⟩) hS.2.2 dX0_ownNode_162
set_option maxHeartbeats 4000000 in
set_option maxRecDepth 100000 in
theorem wX0_ownNode_31 {p : Program} {l : Launch} {e : Env} {s : State} {m : MethodId} {args : Array Value} {below : List Frame} {meth : Method} {c : Code} {A : Nat → Prop} {dC : Nat → ClassId} {dI : Nat → Nat → Nat} {h0 : Nat} {ad : Nat → Nat} {cs : Nat → ClassId} {f3 f4 f5 f6 f7 : Nat → Int32} (C0 : sn_Cx cX0_ownNode 5 (some .int) RX0 p s m meth c args A (dC, dI) (sn_tyX0 cs)) (post : Int32 → (Nat → Int32) → (Nat → Int32) → (Nat → Int32) → Prop) : ∀ (n31 : Nat) (f0 f1 f2 : Nat → Int32) (x1 x2 x3 x4 : Int32), mX0_ownNode_31 n31 f0 f1 f2 x1 x2 x3 x4 post → ∀ (H : Heap) (locs : List Loc), va_P (dC, dI) sn_cl (sn_pwX0 h0 ad cs f0 f1 f2 f3 f4 f5 f6 f7) H → va_D A (sn_pwX0 h0 ad cs f0 f1 f2 f3 f4 f5 f6 f7) → va_S A s.heap H locs → ∀ (ls : Array Slot), lv_has ls 5 [(0, .ref h0), (1, .int x1), (2, .int x2), (3, .int x3), (4, .int x4)] → W p l e (headSpec (ws_ yX0_ownNode cX0_ownNode 5 (some .int)) ({ frames := 1, cells := 0, slots := 0, locals := 22 } : Room)).room s m args below meth c H locs 0 0 (MQ below (va_Qi (S := (Nat → Int32) × (Nat → Int32) × (Nat → Int32)) (fun r u => post r (u.1) (u.2.1) (u.2.2)) (fun (u : (Nat → Int32) × (Nat → Int32) × (Nat → Int32)) (t : State) => sn_BX0 (dC, dI) A h0 ad cs (u.1) (u.2.1) (u.2.2) f3 f4 f5 f6 f7 t) A) args s 0 0 A) (F0 m 31 ls []) := by
  obtain ⟨hx, hb, hr, hlocks, hml, hown, hts, hA, hK⟩ := id C0
  intro n31
  induction n31 with
  | zero =>
    intro f0 f1 f2 x1 x2 x3 x4 hm
    unfold mX0_ownNode_31 at hm
    exact False.elim hm
  | succ n31 ih31 =>
    intro f0 f1 f2 x1 x2 x3 x4 hm H locs hP hD hS ls hl
    unfold mX0_ownNode_31 at hm
    refine lv_iload hx hb dX0_ownNode_31 (lv_at hl 4 rfl) ?_
    refine lv_iconst (v := (4 : Int32)) hx hb dX0_ownNode_33 (by decide) ?_
    refine lv_icmp_ge (tgt := 121) hx hb dX0_ownNode_34 (by decide) (fun c_1 => ?_) (fun c_1 => ?_)
    · have hm := hm.1 c_1
      refine lv_aload_n hx hb dX0_ownNode_121 rfl (lv_at hl 0 rfl) ?_
      refine sn_gtX0_1 C0 hP dX0_ownNode_122 ?_
      refine lv_iload_n hx hb dX0_ownNode_125 rfl (lv_at hl 3 rfl) ?_
      refine lv_iload_n hx hb dX0_ownNode_126 rfl (lv_at hl 1 rfl) ?_
      refine lv_if_ge (tgt := 134) hx hb dX0_ownNode_127 (by decide) (fun c_2 => ?_) (fun c_2 => ?_)
      · have hm := hm.1 c_2
        refine lv_aload_n hx hb dX0_ownNode_134 rfl (lv_at hl 0 rfl) ?_
        refine sn_gtX0_1 C0 hP dX0_ownNode_135 ?_
        refine lv_iload_n hx hb dX0_ownNode_138 rfl (lv_at hl 1 rfl) ?_
        obtain ⟨h_3, hm⟩ := hm
        refine sn_ldX0_1 C0 hP h_3 dX0_ownNode_139 ?_
        obtain ⟨h_4, hm⟩ := hm
        refine sn_stX0_1 C0 hP hD hS h_4 dX0_ownNode_140 (fun H locs hP hD hS => ?_)
        exact wX0_ownNode_141 C0 post f0 (upd f1 (x3).toNatClampNeg (f1 (x1).toNatClampNeg)) f2 x1 x2 x3 hm H locs hP hD hS ls (lv_sub hl [0, 1, 2, 3] rfl)
      · have hm := hm.2 c_2
        refine lv_iconst (v := (0 : Int32)) hx hb dX0_ownNode_130 (by decide) ?_
        refine lv_goto (tgt := 140) hx hb dX0_ownNode_131 (by decide) ?_
        obtain ⟨h_5, hm⟩ := hm
        refine sn_stX0_1 C0 hP hD hS h_5 dX0_ownNode_140 (fun H locs hP hD hS => ?_)
        exact wX0_ownNode_141 C0 post f0 (upd f1 (x3).toNatClampNeg (0 : Int32)) f2 x1 x2 x3 hm H locs hP hD hS ls (lv_sub hl [0, 1, 2, 3] rfl)
    · have hm := hm.2 c_1
      refine lv_aload_n hx hb dX0_ownNode_37 rfl (lv_at hl 0 rfl) ?_
      refine sn_gtX0_0 C0 hP dX0_ownNode_38 ?_
      refine lv_iconst (v := (4 : Int32)) hx hb dX0_ownNode_41 (by decide) ?_
      refine lv_iload_n hx hb dX0_ownNode_42 rfl (lv_at hl 3 rfl) ?_
      refine lv_imul hx hb dX0_ownNode_43 ?_
      refine lv_iload hx hb dX0_ownNode_44 (lv_at hl 4 rfl) ?_
      refine lv_iadd hx hb dX0_ownNode_46 ?_
      refine lv_iload_n hx hb dX0_ownNode_47 rfl (lv_at hl 1 rfl) ?_
      refine lv_if_ge (tgt := 64) hx hb dX0_ownNode_48 (by decide) (fun c_6 => ?_) (fun c_6 => ?_)
      · have hm := hm.1 c_6
        refine lv_aload_n hx hb dX0_ownNode_64 rfl (lv_at hl 0 rfl) ?_
        refine sn_gtX0_0 C0 hP dX0_ownNode_65 ?_
        refine lv_iconst (v := (4 : Int32)) hx hb dX0_ownNode_68 (by decide) ?_
        refine lv_iload_n hx hb dX0_ownNode_69 rfl (lv_at hl 1 rfl) ?_
        refine lv_imul hx hb dX0_ownNode_70 ?_
        refine lv_iload hx hb dX0_ownNode_71 (lv_at hl 4 rfl) ?_
        refine lv_iadd hx hb dX0_ownNode_73 ?_
        obtain ⟨h_7, hm⟩ := hm
        refine sn_ldX0_0 C0 hP h_7 dX0_ownNode_74 ?_
        obtain ⟨h_8, hm⟩ := hm
        refine sn_stX0_0 C0 hP hD hS h_8 dX0_ownNode_75 (fun H locs hP hD hS => ?_)
        refine lv_iload_n hx hb dX0_ownNode_76 rfl (lv_at hl 2 rfl) ?_
        refine lv_iconst (v := (3 : Int32)) hx hb dX0_ownNode_77 (by decide) ?_
        refine lv_icmp_ge (tgt := 115) hx hb dX0_ownNode_78 (by decide) (fun c_9 => ?_) (fun c_9 => ?_)
        · have hm := hm.1 c_9
          refine lv_iinc (v := (x4 + (1 : Int32))) (lv' := [(4, .int (x4 + (1 : Int32))), (0, .ref h0), (1, .int x1), (2, .int x2), (3, .int x3)]) hx hb dX0_ownNode_115 hl (k := 4) rfl rfl (by decide) rfl (fun ls hl => ?_)
          refine lv_goto (tgt := 31) hx hb dX0_ownNode_118 (by decide) ?_
          exact ih31 (upd f0 (((4 : Int32) * x3) + x4).toNatClampNeg (f0 (((4 : Int32) * x1) + x4).toNatClampNeg)) f1 f2 x1 x2 x3 (x4 + (1 : Int32)) hm H locs hP hD hS ls (lv_sub hl [1, 2, 3, 4, 0] rfl)
        · have hm := hm.2 c_9
          refine lv_aload_n hx hb dX0_ownNode_81 rfl (lv_at hl 0 rfl) ?_
          refine sn_gtX0_0 C0 hP dX0_ownNode_82 ?_
          refine lv_iconst (v := (4 : Int32)) hx hb dX0_ownNode_85 (by decide) ?_
          refine lv_iload_n hx hb dX0_ownNode_86 rfl (lv_at hl 3 rfl) ?_
          refine lv_imul hx hb dX0_ownNode_87 ?_
          refine lv_iload hx hb dX0_ownNode_88 (lv_at hl 4 rfl) ?_
          refine lv_iadd hx hb dX0_ownNode_90 ?_
          obtain ⟨h_10, hm⟩ := hm
          refine sn_ldX0_0 C0 hP h_10 dX0_ownNode_91 ?_
          refine lv_if_lt (tgt := 115) hx hb dX0_ownNode_92 (by decide) (fun c_11 => ?_) (fun c_11 => ?_)
          · have hm := hm.1 c_11
            refine lv_iinc (v := (x4 + (1 : Int32))) (lv' := [(4, .int (x4 + (1 : Int32))), (0, .ref h0), (1, .int x1), (2, .int x2), (3, .int x3)]) hx hb dX0_ownNode_115 hl (k := 4) rfl rfl (by decide) rfl (fun ls hl => ?_)
            refine lv_goto (tgt := 31) hx hb dX0_ownNode_118 (by decide) ?_
            exact ih31 (upd f0 (((4 : Int32) * x3) + x4).toNatClampNeg (f0 (((4 : Int32) * x1) + x4).toNatClampNeg)) f1 f2 x1 x2 x3 (x4 + (1 : Int32)) hm H locs hP hD hS ls (lv_sub hl [1, 2, 3, 4, 0] rfl)
          · have hm := hm.2 c_11
            refine lv_aload_n hx hb dX0_ownNode_95 rfl (lv_at hl 0 rfl) ?_
            refine sn_gtX0_2 C0 hP dX0_ownNode_96 ?_
            refine lv_aload_n hx hb dX0_ownNode_99 rfl (lv_at hl 0 rfl) ?_
            refine sn_gtX0_0 C0 hP dX0_ownNode_100 ?_
            refine lv_iconst (v := (4 : Int32)) hx hb dX0_ownNode_103 (by decide) ?_
            refine lv_iload_n hx hb dX0_ownNode_104 rfl (lv_at hl 3 rfl) ?_
            refine lv_imul hx hb dX0_ownNode_105 ?_
            refine lv_iload hx hb dX0_ownNode_106 (lv_at hl 4 rfl) ?_
            refine lv_iadd hx hb dX0_ownNode_108 ?_
            obtain ⟨h_12, hm⟩ := hm
            refine sn_ldX0_0 C0 hP h_12 dX0_ownNode_109 ?_
            refine lv_dup2_11 hx hb dX0_ownNode_110 rfl rfl ?_
            obtain ⟨h_13, hm⟩ := hm
            refine sn_ldX0_2 C0 hP h_13 dX0_ownNode_111 ?_
            refine lv_iconst (v := (1 : Int32)) hx hb dX0_ownNode_112 (by decide) ?_
            refine lv_iadd hx hb dX0_ownNode_113 ?_
            obtain ⟨h_14, hm⟩ := hm
            refine sn_stX0_2 C0 hP hD hS h_14 dX0_ownNode_114 (fun H locs hP hD hS => ?_)
            refine lv_iinc (v := (x4 + (1 : Int32))) (lv' := [(4, .int (x4 + (1 : Int32))), (0, .ref h0), (1, .int x1), (2, .int x2), (3, .int x3)]) hx hb dX0_ownNode_115 hl (k := 4) rfl rfl (by decide) rfl (fun ls hl => ?_)
            refine lv_goto (tgt := 31) hx hb dX0_ownNode_118 (by decide) ?_
            exact ih31 (upd f0 (((4 : Int32) * x3) + x4).toNatClampNeg (f0 (((4 : Int32) * x1) + x4).toNatClampNeg)) f1 (upd f2 ((upd f0 (((4 : Int32) * x3) + x4).toNatClampNeg (f0 (((4 : Int32) * x1) + x4).toNatClampNeg)) (((4 : Int32) * x3) + x4).toNatClampNeg).toNatClampNeg ((f2 ((upd f0 (((4 : Int32) * x3) + x4).toNatClampNeg (f0 (((4 : Int32) * x1) + x4).toNatClampNeg)) (((4 : Int32) * x3) + x4).toNatClampNeg).toNatClampNeg) + (1 : Int32))) x1 x2 x3 (x4 + (1 : Int32)) hm H locs hP hD hS ls (lv_sub hl [1, 2, 3, 4, 0] rfl)
      · have hm := hm.2 c_6
        refine lv_iload_n hx hb dX0_ownNode_51 rfl (lv_at hl 2 rfl) ?_
        refine lv_iconst (v := (3 : Int32)) hx hb dX0_ownNode_52 (by decide) ?_
        refine lv_icmp_ge (tgt := 60) hx hb dX0_ownNode_53 (by decide) (fun c_15 => ?_) (fun c_15 => ?_)
        · have hm := hm.1 c_15
          refine lv_iconst (v := (0 : Int32)) hx hb dX0_ownNode_60 (by decide) ?_
          refine lv_goto (tgt := 75) hx hb dX0_ownNode_61 (by decide) ?_
          obtain ⟨h_16, hm⟩ := hm
          refine sn_stX0_0 C0 hP hD hS h_16 dX0_ownNode_75 (fun H locs hP hD hS => ?_)
          refine lv_iload_n hx hb dX0_ownNode_76 rfl (lv_at hl 2 rfl) ?_
          refine lv_iconst (v := (3 : Int32)) hx hb dX0_ownNode_77 (by decide) ?_
          refine lv_icmp_ge (tgt := 115) hx hb dX0_ownNode_78 (by decide) (fun c_17 => ?_) (fun c_17 => ?_)
          · have hm := hm.1 c_17
            refine lv_iinc (v := (x4 + (1 : Int32))) (lv' := [(4, .int (x4 + (1 : Int32))), (0, .ref h0), (1, .int x1), (2, .int x2), (3, .int x3)]) hx hb dX0_ownNode_115 hl (k := 4) rfl rfl (by decide) rfl (fun ls hl => ?_)
            refine lv_goto (tgt := 31) hx hb dX0_ownNode_118 (by decide) ?_
            exact ih31 (upd f0 (((4 : Int32) * x3) + x4).toNatClampNeg (0 : Int32)) f1 f2 x1 x2 x3 (x4 + (1 : Int32)) hm H locs hP hD hS ls (lv_sub hl [1, 2, 3, 4, 0] rfl)
          · have hm := hm.2 c_17
            refine lv_aload_n hx hb dX0_ownNode_81 rfl (lv_at hl 0 rfl) ?_
            refine sn_gtX0_0 C0 hP dX0_ownNode_82 ?_
            refine lv_iconst (v := (4 : Int32)) hx hb dX0_ownNode_85 (by decide) ?_
            refine lv_iload_n hx hb dX0_ownNode_86 rfl (lv_at hl 3 rfl) ?_
            refine lv_imul hx hb dX0_ownNode_87 ?_
            refine lv_iload hx hb dX0_ownNode_88 (lv_at hl 4 rfl) ?_
            refine lv_iadd hx hb dX0_ownNode_90 ?_
            obtain ⟨h_18, hm⟩ := hm
            refine sn_ldX0_0 C0 hP h_18 dX0_ownNode_91 ?_
            refine lv_if_lt (tgt := 115) hx hb dX0_ownNode_92 (by decide) (fun c_19 => ?_) (fun c_19 => ?_)
            · have hm := hm.1 c_19
              refine lv_iinc (v := (x4 + (1 : Int32))) (lv' := [(4, .int (x4 + (1 : Int32))), (0, .ref h0), (1, .int x1), (2, .int x2), (3, .int x3)]) hx hb dX0_ownNode_115 hl (k := 4) rfl rfl (by decide) rfl (fun ls hl => ?_)
              refine lv_goto (tgt := 31) hx hb dX0_ownNode_118 (by decide) ?_
              exact ih31 (upd f0 (((4 : Int32) * x3) + x4).toNatClampNeg (0 : Int32)) f1 f2 x1 x2 x3 (x4 + (1 : Int32)) hm H locs hP hD hS ls (lv_sub hl [1, 2, 3, 4, 0] rfl)
            · have hm := hm.2 c_19
              refine lv_aload_n hx hb dX0_ownNode_95 rfl (lv_at hl 0 rfl) ?_
              refine sn_gtX0_2 C0 hP dX0_ownNode_96 ?_
              refine lv_aload_n hx hb dX0_ownNode_99 rfl (lv_at hl 0 rfl) ?_
              refine sn_gtX0_0 C0 hP dX0_ownNode_100 ?_
              refine lv_iconst (v := (4 : Int32)) hx hb dX0_ownNode_103 (by decide) ?_
              refine lv_iload_n hx hb dX0_ownNode_104 rfl (lv_at hl 3 rfl) ?_
              refine lv_imul hx hb dX0_ownNode_105 ?_
              refine lv_iload hx hb dX0_ownNode_106 (lv_at hl 4 rfl) ?_
              refine lv_iadd hx hb dX0_ownNode_108 ?_
              obtain ⟨h_20, hm⟩ := hm
              refine sn_ldX0_0 C0 hP h_20 dX0_ownNode_109 ?_
              refine lv_dup2_11 hx hb dX0_ownNode_110 rfl rfl ?_
              obtain ⟨h_21, hm⟩ := hm
              refine sn_ldX0_2 C0 hP h_21 dX0_ownNode_111 ?_
              refine lv_iconst (v := (1 : Int32)) hx hb dX0_ownNode_112 (by decide) ?_
              refine lv_iadd hx hb dX0_ownNode_113 ?_
              obtain ⟨h_22, hm⟩ := hm
              refine sn_stX0_2 C0 hP hD hS h_22 dX0_ownNode_114 (fun H locs hP hD hS => ?_)
              refine lv_iinc (v := (x4 + (1 : Int32))) (lv' := [(4, .int (x4 + (1 : Int32))), (0, .ref h0), (1, .int x1), (2, .int x2), (3, .int x3)]) hx hb dX0_ownNode_115 hl (k := 4) rfl rfl (by decide) rfl (fun ls hl => ?_)
              refine lv_goto (tgt := 31) hx hb dX0_ownNode_118 (by decide) ?_
              exact ih31 (upd f0 (((4 : Int32) * x3) + x4).toNatClampNeg (0 : Int32)) f1 (upd f2 ((upd f0 (((4 : Int32) * x3) + x4).toNatClampNeg (0 : Int32)) (((4 : Int32) * x3) + x4).toNatClampNeg).toNatClampNeg ((f2 ((upd f0 (((4 : Int32) * x3) + x4).toNatClampNeg (0 : Int32)) (((4 : Int32) * x3) + x4).toNatClampNeg).toNatClampNeg) + (1 : Int32))) x1 x2 x3 (x4 + (1 : Int32)) hm H locs hP hD hS ls (lv_sub hl [1, 2, 3, 4, 0] rfl)
        · have hm := hm.2 c_15
          refine lv_iconst (v := (-1 : Int32)) hx hb dX0_ownNode_56 (by decide) ?_
          refine lv_goto (tgt := 75) hx hb dX0_ownNode_57 (by decide) ?_
          obtain ⟨h_23, hm⟩ := hm
          refine sn_stX0_0 C0 hP hD hS h_23 dX0_ownNode_75 (fun H locs hP hD hS => ?_)
          refine lv_iload_n hx hb dX0_ownNode_76 rfl (lv_at hl 2 rfl) ?_
          refine lv_iconst (v := (3 : Int32)) hx hb dX0_ownNode_77 (by decide) ?_
          refine lv_icmp_ge (tgt := 115) hx hb dX0_ownNode_78 (by decide) (fun c_24 => ?_) (fun c_24 => ?_)
          · have hm := hm.1 c_24
            refine lv_iinc (v := (x4 + (1 : Int32))) (lv' := [(4, .int (x4 + (1 : Int32))), (0, .ref h0), (1, .int x1), (2, .int x2), (3, .int x3)]) hx hb dX0_ownNode_115 hl (k := 4) rfl rfl (by decide) rfl (fun ls hl => ?_)
            refine lv_goto (tgt := 31) hx hb dX0_ownNode_118 (by decide) ?_
            exact ih31 (upd f0 (((4 : Int32) * x3) + x4).toNatClampNeg (-1 : Int32)) f1 f2 x1 x2 x3 (x4 + (1 : Int32)) hm H locs hP hD hS ls (lv_sub hl [1, 2, 3, 4, 0] rfl)
          · have hm := hm.2 c_24
            refine lv_aload_n hx hb dX0_ownNode_81 rfl (lv_at hl 0 rfl) ?_
            refine sn_gtX0_0 C0 hP dX0_ownNode_82 ?_
            refine lv_iconst (v := (4 : Int32)) hx hb dX0_ownNode_85 (by decide) ?_
            refine lv_iload_n hx hb dX0_ownNode_86 rfl (lv_at hl 3 rfl) ?_
            refine lv_imul hx hb dX0_ownNode_87 ?_
            refine lv_iload hx hb dX0_ownNode_88 (lv_at hl 4 rfl) ?_
            refine lv_iadd hx hb dX0_ownNode_90 ?_
            obtain ⟨h_25, hm⟩ := hm
            refine sn_ldX0_0 C0 hP h_25 dX0_ownNode_91 ?_
            refine lv_if_lt (tgt := 115) hx hb dX0_ownNode_92 (by decide) (fun c_26 => ?_) (fun c_26 => ?_)
            · have hm := hm.1 c_26
              refine lv_iinc (v := (x4 + (1 : Int32))) (lv' := [(4, .int (x4 + (1 : Int32))), (0, .ref h0), (1, .int x1), (2, .int x2), (3, .int x3)]) hx hb dX0_ownNode_115 hl (k := 4) rfl rfl (by decide) rfl (fun ls hl => ?_)
              refine lv_goto (tgt := 31) hx hb dX0_ownNode_118 (by decide) ?_
              exact ih31 (upd f0 (((4 : Int32) * x3) + x4).toNatClampNeg (-1 : Int32)) f1 f2 x1 x2 x3 (x4 + (1 : Int32)) hm H locs hP hD hS ls (lv_sub hl [1, 2, 3, 4, 0] rfl)
            · have hm := hm.2 c_26
              refine lv_aload_n hx hb dX0_ownNode_95 rfl (lv_at hl 0 rfl) ?_
              refine sn_gtX0_2 C0 hP dX0_ownNode_96 ?_
              refine lv_aload_n hx hb dX0_ownNode_99 rfl (lv_at hl 0 rfl) ?_
              refine sn_gtX0_0 C0 hP dX0_ownNode_100 ?_
              refine lv_iconst (v := (4 : Int32)) hx hb dX0_ownNode_103 (by decide) ?_
              refine lv_iload_n hx hb dX0_ownNode_104 rfl (lv_at hl 3 rfl) ?_
              refine lv_imul hx hb dX0_ownNode_105 ?_
              refine lv_iload hx hb dX0_ownNode_106 (lv_at hl 4 rfl) ?_
              refine lv_iadd hx hb dX0_ownNode_108 ?_
              obtain ⟨h_27, hm⟩ := hm
              refine sn_ldX0_0 C0 hP h_27 dX0_ownNode_109 ?_
              refine lv_dup2_11 hx hb dX0_ownNode_110 rfl rfl ?_
              obtain ⟨h_28, hm⟩ := hm
              refine sn_ldX0_2 C0 hP h_28 dX0_ownNode_111 ?_
              refine lv_iconst (v := (1 : Int32)) hx hb dX0_ownNode_112 (by decide) ?_
              refine lv_iadd hx hb dX0_ownNode_113 ?_
              obtain ⟨h_29, hm⟩ := hm
              refine sn_stX0_2 C0 hP hD hS h_29 dX0_ownNode_114 (fun H locs hP hD hS => ?_)
              refine lv_iinc (v := (x4 + (1 : Int32))) (lv' := [(4, .int (x4 + (1 : Int32))), (0, .ref h0), (1, .int x1), (2, .int x2), (3, .int x3)]) hx hb dX0_ownNode_115 hl (k := 4) rfl rfl (by decide) rfl (fun ls hl => ?_)
              refine lv_goto (tgt := 31) hx hb dX0_ownNode_118 (by decide) ?_
              exact ih31 (upd f0 (((4 : Int32) * x3) + x4).toNatClampNeg (-1 : Int32)) f1 (upd f2 ((upd f0 (((4 : Int32) * x3) + x4).toNatClampNeg (-1 : Int32)) (((4 : Int32) * x3) + x4).toNatClampNeg).toNatClampNeg ((f2 ((upd f0 (((4 : Int32) * x3) + x4).toNatClampNeg (-1 : Int32)) (((4 : Int32) * x3) + x4).toNatClampNeg).toNatClampNeg) + (1 : Int32))) x1 x2 x3 (x4 + (1 : Int32)) hm H locs hP hD hS ls (lv_sub hl [1, 2, 3, 4, 0] rfl)
set_option maxHeartbeats 4000000 in
set_option maxRecDepth 100000 in
theorem wX0_ownNode_0 {p : Program} {l : Launch} {e : Env} {s : State} {m : MethodId} {args : Array Value} {below : List Frame} {meth : Method} {c : Code} {A : Nat → Prop} {dC : Nat → ClassId} {dI : Nat → Nat → Nat} {h0 : Nat} {ad : Nat → Nat} {cs : Nat → ClassId} {f3 f4 f5 f6 f7 : Nat → Int32} (C0 : sn_Cx cX0_ownNode 5 (some .int) RX0 p s m meth c args A (dC, dI) (sn_tyX0 cs)) (post : Int32 → (Nat → Int32) → (Nat → Int32) → (Nat → Int32) → Prop) (f0 f1 f2 : Nat → Int32) (x1 x2 : Int32) (hm : mX0_ownNode f0 f1 f2 x1 x2 post) (H : Heap) (locs : List Loc) (hP : va_P (dC, dI) sn_cl (sn_pwX0 h0 ad cs f0 f1 f2 f3 f4 f5 f6 f7) H) (hD : va_D A (sn_pwX0 h0 ad cs f0 f1 f2 f3 f4 f5 f6 f7)) (hS : va_S A s.heap H locs) (ls : Array Slot) (hl : lv_has ls 5 [(0, .ref h0), (1, .int x1), (2, .int x2)]) : W p l e (headSpec (ws_ yX0_ownNode cX0_ownNode 5 (some .int)) ({ frames := 1, cells := 0, slots := 0, locals := 22 } : Room)).room s m args below meth c H locs 0 0 (MQ below (va_Qi (S := (Nat → Int32) × (Nat → Int32) × (Nat → Int32)) (fun r u => post r (u.1) (u.2.1) (u.2.2)) (fun (u : (Nat → Int32) × (Nat → Int32) × (Nat → Int32)) (t : State) => sn_BX0 (dC, dI) A h0 ad cs (u.1) (u.2.1) (u.2.2) f3 f4 f5 f6 f7 t) A) args s 0 0 A) (F0 m 0 ls []) := by
  obtain ⟨hx, hb, hr, hlocks, hml, hown, hts, hA, hK⟩ := id C0
  unfold mX0_ownNode at hm
  refine lv_iload_n hx hb dX0_ownNode_0 rfl (lv_at hl 1 rfl) ?_
  refine lv_if_lt (tgt := 16) hx hb dX0_ownNode_1 (by decide) (fun c_1 => ?_) (fun c_1 => ?_)
  · have hm := hm.1 c_1
    refine lv_aload_n hx hb dX0_ownNode_16 rfl (lv_at hl 0 rfl) ?_
    refine sn_cl_Vi (As := []) (rest := []) (w1 := (fun (_ : Unit) => sn_pwX0 h0 ad cs (f0) (f1) (f2) (f3) (f4) (f5) (f6) (f7))) ⟨hx, hb, hml, hown, hts⟩ (kX0_freeNode l dC dI h0 ad cs H.size f0 f1 f2 f3 f4 f5 f6 f7  _ hm) (cwV 0 hts (lw_V q79 q81 qs4 q19 q82) rfl rfl rfl (by decide +kernel) ⟨Nat.le_of_ble_eq_true rfl, Nat.le_of_ble_eq_true rfl⟩) (va_recv hK hP (ci := 0) (q0 := 0) rfl rfl) hP hD hK hS hA rfl hl.1 rfl (lv_room (Nat.le_of_ble_eq_true rfl)) dX0_ownNode_17 ⟨Nat.le_refl 0, Nat.le_refl 0⟩ (fun r_2 _ H locs hm hP hD hS => ?_)
    refine lv_istore_n (lv' := [(3, .int r_2), (0, .ref h0), (1, .int x1), (2, .int x2)]) hx hb dX0_ownNode_20 rfl hl (by decide) rfl (fun ls hl => ?_)
    refine lv_aload_n hx hb dX0_ownNode_21 rfl (lv_at hl 1 rfl) ?_
    refine sn_gtX0_2 C0 hP dX0_ownNode_22 ?_
    refine lv_iload_n hx hb dX0_ownNode_25 rfl (lv_at hl 0 rfl) ?_
    refine lv_iconst (v := (1 : Int32)) hx hb dX0_ownNode_26 (by decide) ?_
    obtain ⟨h_3, hm⟩ := hm
    refine sn_stX0_2 C0 hP hD hS h_3 dX0_ownNode_27 (fun H locs hP hD hS => ?_)
    refine lv_iconst (v := (0 : Int32)) hx hb dX0_ownNode_28 (by decide) ?_
    refine lv_istore (lv' := [(4, .int (0 : Int32)), (3, .int r_2), (0, .ref h0), (1, .int x1), (2, .int x2)]) hx hb dX0_ownNode_29 hl (by decide) rfl (fun ls hl => ?_)
    obtain ⟨n31, hm⟩ := hm
    exact wX0_ownNode_31 C0 post n31 f0 f1 (upd f2 (r_2).toNatClampNeg (1 : Int32)) x1 x2 r_2 (0 : Int32) hm H locs hP hD hS ls (lv_sub hl [2, 3, 4, 1, 0] rfl)
  · have hm := hm.2 c_1
    refine lv_aload_n hx hb dX0_ownNode_4 rfl (lv_at hl 0 rfl) ?_
    refine sn_gtX0_2 C0 hP dX0_ownNode_5 ?_
    refine lv_iload_n hx hb dX0_ownNode_8 rfl (lv_at hl 1 rfl) ?_
    obtain ⟨h_4, hm⟩ := hm
    refine sn_ldX0_2 C0 hP h_4 dX0_ownNode_9 ?_
    refine lv_iconst (v := (1 : Int32)) hx hb dX0_ownNode_10 (by decide) ?_
    refine lv_icmp_ne (tgt := 16) hx hb dX0_ownNode_11 (by decide) (fun c_5 => ?_) (fun c_5 => ?_)
    · have hm := hm.1 c_5
      refine lv_aload_n hx hb dX0_ownNode_16 rfl (lv_at hl 0 rfl) ?_
      refine sn_cl_Vi (As := []) (rest := []) (w1 := (fun (_ : Unit) => sn_pwX0 h0 ad cs (f0) (f1) (f2) (f3) (f4) (f5) (f6) (f7))) ⟨hx, hb, hml, hown, hts⟩ (kX0_freeNode l dC dI h0 ad cs H.size f0 f1 f2 f3 f4 f5 f6 f7  _ hm) (cwV 0 hts (lw_V q79 q81 qs4 q19 q82) rfl rfl rfl (by decide +kernel) ⟨Nat.le_of_ble_eq_true rfl, Nat.le_of_ble_eq_true rfl⟩) (va_recv hK hP (ci := 0) (q0 := 0) rfl rfl) hP hD hK hS hA rfl hl.1 rfl (lv_room (Nat.le_of_ble_eq_true rfl)) dX0_ownNode_17 ⟨Nat.le_refl 0, Nat.le_refl 0⟩ (fun r_6 _ H locs hm hP hD hS => ?_)
      refine lv_istore_n (lv' := [(3, .int r_6), (0, .ref h0), (1, .int x1), (2, .int x2)]) hx hb dX0_ownNode_20 rfl hl (by decide) rfl (fun ls hl => ?_)
      refine lv_aload_n hx hb dX0_ownNode_21 rfl (lv_at hl 1 rfl) ?_
      refine sn_gtX0_2 C0 hP dX0_ownNode_22 ?_
      refine lv_iload_n hx hb dX0_ownNode_25 rfl (lv_at hl 0 rfl) ?_
      refine lv_iconst (v := (1 : Int32)) hx hb dX0_ownNode_26 (by decide) ?_
      obtain ⟨h_7, hm⟩ := hm
      refine sn_stX0_2 C0 hP hD hS h_7 dX0_ownNode_27 (fun H locs hP hD hS => ?_)
      refine lv_iconst (v := (0 : Int32)) hx hb dX0_ownNode_28 (by decide) ?_
      refine lv_istore (lv' := [(4, .int (0 : Int32)), (3, .int r_6), (0, .ref h0), (1, .int x1), (2, .int x2)]) hx hb dX0_ownNode_29 hl (by decide) rfl (fun ls hl => ?_)
      obtain ⟨n31, hm⟩ := hm
      exact wX0_ownNode_31 C0 post n31 f0 f1 (upd f2 (r_6).toNatClampNeg (1 : Int32)) x1 x2 r_6 (0 : Int32) hm H locs hP hD hS ls (lv_sub hl [2, 3, 4, 1, 0] rfl)
    · have hm := hm.2 c_5
      refine lv_iload_n hx hb dX0_ownNode_14 rfl (lv_at hl 1 rfl) ?_
      exact W.iret (v := x1) hx hb hr (fun t ht hW => ⟨⟨x1, ⟨f0, f1, f2⟩, rfl, hm, ⟨by rw [ht]; exact hP, va_K.moved hW.alike hK, hD⟩⟩, hS.F ht⟩) hS.2.2 dX0_ownNode_15
set_option maxHeartbeats 4000000 in
set_option maxRecDepth 100000 in
theorem kX0_ownNode (l : Launch) (dC : Nat → ClassId) (dI : Nat → Nat → Nat) (h0 : Nat) (ad : Nat → Nat) (cs : Nat → ClassId) (sz : Nat) (f0 f1 f2 f3 f4 f5 f6 f7 : Nat → Int32) (x1 x2 : Int32) (post : Int32 → (Nat → Int32) → (Nat → Int32) → (Nat → Int32) → Prop) (hm : mX0_ownNode f0 f1 f2 x1 x2 post) : Met l yX0_ownNode (ws_ yX0_ownNode cX0_ownNode 5 (some .int)) ({ frames := 1, cells := 0, slots := 0, locals := 22 } : Room) (va_Pc [.ref h0, .int x1, .int x2] (sn_PX (dC, dI) (sn_tyX0 cs) (sn_pwX0 h0 ad cs f0 f1 f2 f3 f4 f5 f6 f7) sz)) (va_Qi (S := (Nat → Int32) × (Nat → Int32) × (Nat → Int32)) (fun r u => post r (u.1) (u.2.1) (u.2.2)) (fun (u : (Nat → Int32) × (Nat → Int32) × (Nat → Int32)) (t : State) => sn_BX0 (dC, dI) (va_A (sn_pwX0 h0 ad cs f0 f1 f2 f3 f4 f5 f6 f7) sz) h0 ad cs (u.1) (u.2.1) (u.2.2) f3 f4 f5 f6 f7 t) (va_A (sn_pwX0 h0 ad cs f0 f1 f2 f3 f4 f5 f6 f7) sz)) 0 0 (va_A (sn_pwX0 h0 ad cs f0 f1 f2 f3 f4 f5 f6 f7) sz) := by
  refine sn_mk_V (n := 5) (RC := RX0) (Q := fun A => (va_Qi (S := (Nat → Int32) × (Nat → Int32) × (Nat → Int32)) (fun r u => post r (u.1) (u.2.1) (u.2.2)) (fun (u : (Nat → Int32) × (Nat → Int32) × (Nat → Int32)) (t : State) => sn_BX0 (dC, dI) A h0 ad cs (u.1) (u.2.1) (u.2.2) f3 f4 f5 f6 f7 t) A)) (by decide) rfl (Nat.le_of_ble_eq_true rfl) ?_
  intro p e s m below meth c A ls C0 hP hD hl
  exact wX0_ownNode_0 C0 post f0 f1 f2 x1 x2 hm _ _ hP hD va_S.rf ls hl
set_option maxHeartbeats 4000000 in
set_option maxRecDepth 100000 in
theorem wX0_ownPath_31 {p : Program} {l : Launch} {e : Env} {s : State} {m : MethodId} {args : Array Value} {below : List Frame} {meth : Method} {c : Code} {A : Nat → Prop} {dC : Nat → ClassId} {dI : Nat → Nat → Nat} {h0 : Nat} {ad : Nat → Nat} {cs : Nat → ClassId} {f3 f5 f7 : Nat → Int32} (C0 : sn_Cx cX0_ownPath 4 (some .int) RX0 p s m meth c args A (dC, dI) (sn_tyX0 cs)) (post : Int32 → (Nat → Int32) → (Nat → Int32) → (Nat → Int32) → (Nat → Int32) → (Nat → Int32) → Prop) : ∀ (n31 : Nat) (f0 f1 f2 f4 f6 : Nat → Int32) (x1 x2 : Int32), mX0_ownPath_31 n31 f0 f1 f2 f4 f6 x1 x2 post → ∀ (H : Heap) (locs : List Loc), va_P (dC, dI) sn_cl (sn_pwX0 h0 ad cs f0 f1 f2 f3 f4 f5 f6 f7) H → va_D A (sn_pwX0 h0 ad cs f0 f1 f2 f3 f4 f5 f6 f7) → va_S A s.heap H locs → ∀ (ls : Array Slot), lv_has ls 4 [(0, .ref h0), (1, .int x1), (2, .int x2)] → W p l e (headSpec (ws_ yX0_ownPath cX0_ownPath 4 (some .int)) ({ frames := 2, cells := 0, slots := 0, locals := 46 } : Room)).room s m args below meth c H locs 0 0 (MQ below (va_Qi (S := (Nat → Int32) × (Nat → Int32) × (Nat → Int32) × (Nat → Int32) × (Nat → Int32)) (fun r u => post r (u.1) (u.2.1) (u.2.2.1) (u.2.2.2.1) (u.2.2.2.2)) (fun (u : (Nat → Int32) × (Nat → Int32) × (Nat → Int32) × (Nat → Int32) × (Nat → Int32)) (t : State) => sn_BX0 (dC, dI) A h0 ad cs (u.1) (u.2.1) (u.2.2.1) f3 (u.2.2.2.1) f5 (u.2.2.2.2) f7 t) A) args s 0 0 A) (F0 m 31 ls []) := by
  obtain ⟨hx, hb, hr, hlocks, hml, hown, hts, hA, hK⟩ := id C0
  intro n31
  induction n31 with
  | zero =>
    intro f0 f1 f2 f4 f6 x1 x2 hm
    unfold mX0_ownPath_31 at hm
    exact False.elim hm
  | succ n31 ih31 =>
    intro f0 f1 f2 f4 f6 x1 x2 hm H locs hP hD hS ls hl
    unfold mX0_ownPath_31 at hm
    refine lv_iload_n hx hb dX0_ownPath_31 rfl (lv_at hl 2 rfl) ?_
    refine lv_iconst (v := (3 : Int32)) hx hb dX0_ownPath_32 (by decide) ?_
    refine lv_icmp_ge (tgt := 90) hx hb dX0_ownPath_33 (by decide) (fun c_1 => ?_) (fun c_1 => ?_)
    · have hm := hm.1 c_1
      refine lv_aload_n hx hb dX0_ownPath_90 rfl (lv_at hl 0 rfl) ?_
      refine sn_gtX0_6 C0 hP dX0_ownPath_91 ?_
      refine lv_iconst (v := (3 : Int32)) hx hb dX0_ownPath_94 (by decide) ?_
      obtain ⟨h_2, hm⟩ := hm
      refine sn_ldX0_6 C0 hP h_2 dX0_ownPath_95 ?_
      exact W.iret (v := (f6 (3 : Int32).toNatClampNeg)) hx hb hr (fun t ht hW => ⟨⟨(f6 (3 : Int32).toNatClampNeg), ⟨f0, f1, f2, f4, f6⟩, rfl, hm, ⟨by rw [ht]; exact hP, va_K.moved hW.alike hK, hD⟩⟩, hS.F ht⟩) hS.2.2 dX0_ownPath_96
    · have hm := hm.2 c_1
      refine lv_iconst (v := (4 : Int32)) hx hb dX0_ownPath_36 (by decide) ?_
      refine lv_aload_n hx hb dX0_ownPath_37 rfl (lv_at hl 0 rfl) ?_
      refine sn_gtX0_6 C0 hP dX0_ownPath_38 ?_
      refine lv_iload_n hx hb dX0_ownPath_41 rfl (lv_at hl 2 rfl) ?_
      obtain ⟨h_3, hm⟩ := hm
      refine sn_ldX0_6 C0 hP h_3 dX0_ownPath_42 ?_
      refine lv_imul hx hb dX0_ownPath_43 ?_
      refine lv_iload_n hx hb dX0_ownPath_44 rfl (lv_at hl 1 rfl) ?_
      refine lv_iload_n hx hb dX0_ownPath_45 rfl (lv_at hl 2 rfl) ?_
      refine sn_cl_S (As := [.int x1, .int x2]) (rest := [.int ((4 : Int32) * (f6 (x2).toNatClampNeg))]) ⟨hx, hb, hml, hown, hts⟩ (kX0_turn l H.size x1 x2 _ hm) (va_cwS 2 hts (lw_S q68 q69 q19 q70) rfl rfl rfl (by decide +kernel) ⟨Nat.le_of_ble_eq_true rfl, Nat.le_of_ble_eq_true rfl⟩) hP hS hA rfl hl.1 rfl (lv_room (Nat.le_of_ble_eq_true rfl)) dX0_ownPath_46 ⟨Nat.le_refl 0, Nat.le_refl 0⟩ (fun r_4 H locs hm hP hS => ?_)
      refine lv_iadd hx hb dX0_ownPath_49 ?_
      refine lv_istore_n (lv' := [(3, .int (((4 : Int32) * (f6 (x2).toNatClampNeg)) + r_4)), (0, .ref h0), (1, .int x1), (2, .int x2)]) hx hb dX0_ownPath_50 rfl hl (by decide) rfl (fun ls hl => ?_)
      refine lv_aload_n hx hb dX0_ownPath_51 rfl (lv_at hl 1 rfl) ?_
      refine sn_gtX0_0 C0 hP dX0_ownPath_52 ?_
      refine lv_iload_n hx hb dX0_ownPath_55 rfl (lv_at hl 0 rfl) ?_
      refine lv_aload_n hx hb dX0_ownPath_56 rfl (lv_at hl 1 rfl) ?_
      refine lv_aload_n hx hb dX0_ownPath_57 rfl (lv_at hl 1 rfl) ?_
      refine sn_gtX0_0 C0 hP dX0_ownPath_58 ?_
      refine lv_iload_n hx hb dX0_ownPath_61 rfl (lv_at hl 0 rfl) ?_
      obtain ⟨h_5, hm⟩ := hm
      refine sn_ldX0_0 C0 hP h_5 dX0_ownPath_62 ?_
      refine lv_iload_n hx hb dX0_ownPath_63 rfl (lv_at hl 3 rfl) ?_
      refine lv_iconst (v := (1 : Int32)) hx hb dX0_ownPath_64 (by decide) ?_
      refine lv_iadd hx hb dX0_ownPath_65 ?_
      refine sn_cl_Vi (As := [.int (f0 (((4 : Int32) * (f6 (x2).toNatClampNeg)) + r_4).toNatClampNeg), .int (x2 + (1 : Int32))]) (rest := [.int (((4 : Int32) * (f6 (x2).toNatClampNeg)) + r_4), .ref (ad 0)]) (w1 := (fun (u : (Nat → Int32) × (Nat → Int32) × (Nat → Int32)) => sn_pwX0 h0 ad cs (u.1) (u.2.1) (u.2.2) (f3) (f4) (f5) (f6) (f7))) ⟨hx, hb, hml, hown, hts⟩ (kX0_ownNode l dC dI h0 ad cs H.size f0 f1 f2 f3 f4 f5 f6 f7 (f0 (((4 : Int32) * (f6 (x2).toNatClampNeg)) + r_4).toNatClampNeg) (x2 + (1 : Int32)) _ hm) (cwV 2 hts (lw_V q75 q77 qs3 q19 q78) rfl rfl rfl (by decide +kernel) ⟨Nat.le_of_ble_eq_true rfl, Nat.le_of_ble_eq_true rfl⟩) (va_recv hK hP (ci := 0) (q0 := 0) rfl rfl) hP hD hK hS hA rfl hl.1 rfl (lv_room (Nat.le_of_ble_eq_true rfl)) dX0_ownPath_66 ⟨Nat.le_refl 0, Nat.le_refl 0⟩ (fun r_6 u H locs hm hP hD hS => ?_)
      obtain ⟨f0_6, f1_6, f2_6⟩ := u
      obtain ⟨h_7, hm⟩ := hm
      refine sn_stX0_0 C0 hP hD hS h_7 dX0_ownPath_69 (fun H locs hP hD hS => ?_)
      refine lv_aload_n hx hb dX0_ownPath_70 rfl (lv_at hl 1 rfl) ?_
      refine sn_gtX0_6 C0 hP dX0_ownPath_71 ?_
      refine lv_iload_n hx hb dX0_ownPath_74 rfl (lv_at hl 3 rfl) ?_
      refine lv_iconst (v := (1 : Int32)) hx hb dX0_ownPath_75 (by decide) ?_
      refine lv_iadd hx hb dX0_ownPath_76 ?_
      refine lv_aload_n hx hb dX0_ownPath_77 rfl (lv_at hl 1 rfl) ?_
      refine sn_gtX0_0 C0 hP dX0_ownPath_78 ?_
      refine lv_iload_n hx hb dX0_ownPath_81 rfl (lv_at hl 0 rfl) ?_
      obtain ⟨h_8, hm⟩ := hm
      refine sn_ldX0_0 C0 hP h_8 dX0_ownPath_82 ?_
      obtain ⟨h_9, hm⟩ := hm
      refine sn_stX0_6 C0 hP hD hS h_9 dX0_ownPath_83 (fun H locs hP hD hS => ?_)
      refine lv_iinc (v := (x2 + (1 : Int32))) (lv' := [(2, .int (x2 + (1 : Int32))), (3, .int (((4 : Int32) * (f6 (x2).toNatClampNeg)) + r_4)), (0, .ref h0), (1, .int x1)]) hx hb dX0_ownPath_84 hl (k := 3) rfl rfl (by decide) rfl (fun ls hl => ?_)
      refine lv_goto (tgt := 31) hx hb dX0_ownPath_87 (by decide) ?_
      exact ih31 (upd f0_6 (((4 : Int32) * (f6 (x2).toNatClampNeg)) + r_4).toNatClampNeg r_6) f1_6 f2_6 f4 (upd f6 (x2 + (1 : Int32)).toNatClampNeg ((upd f0_6 (((4 : Int32) * (f6 (x2).toNatClampNeg)) + r_4).toNatClampNeg r_6) (((4 : Int32) * (f6 (x2).toNatClampNeg)) + r_4).toNatClampNeg)) x1 (x2 + (1 : Int32)) hm H locs hP hD hS ls (lv_sub hl [2, 3, 0] rfl)
set_option maxHeartbeats 4000000 in
set_option maxRecDepth 100000 in
theorem wX0_ownPath_0 {p : Program} {l : Launch} {e : Env} {s : State} {m : MethodId} {args : Array Value} {below : List Frame} {meth : Method} {c : Code} {A : Nat → Prop} {dC : Nat → ClassId} {dI : Nat → Nat → Nat} {h0 : Nat} {ad : Nat → Nat} {cs : Nat → ClassId} {f3 f5 f7 : Nat → Int32} (C0 : sn_Cx cX0_ownPath 4 (some .int) RX0 p s m meth c args A (dC, dI) (sn_tyX0 cs)) (post : Int32 → (Nat → Int32) → (Nat → Int32) → (Nat → Int32) → (Nat → Int32) → (Nat → Int32) → Prop) (f0 f1 f2 f4 f6 : Nat → Int32) (x1 : Int32) (hm : mX0_ownPath f0 f1 f2 f4 f6 x1 post) (H : Heap) (locs : List Loc) (hP : va_P (dC, dI) sn_cl (sn_pwX0 h0 ad cs f0 f1 f2 f3 f4 f5 f6 f7) H) (hD : va_D A (sn_pwX0 h0 ad cs f0 f1 f2 f3 f4 f5 f6 f7)) (hS : va_S A s.heap H locs) (ls : Array Slot) (hl : lv_has ls 4 [(0, .ref h0), (1, .int x1)]) : W p l e (headSpec (ws_ yX0_ownPath cX0_ownPath 4 (some .int)) ({ frames := 2, cells := 0, slots := 0, locals := 46 } : Room)).room s m args below meth c H locs 0 0 (MQ below (va_Qi (S := (Nat → Int32) × (Nat → Int32) × (Nat → Int32) × (Nat → Int32) × (Nat → Int32)) (fun r u => post r (u.1) (u.2.1) (u.2.2.1) (u.2.2.2.1) (u.2.2.2.2)) (fun (u : (Nat → Int32) × (Nat → Int32) × (Nat → Int32) × (Nat → Int32) × (Nat → Int32)) (t : State) => sn_BX0 (dC, dI) A h0 ad cs (u.1) (u.2.1) (u.2.2.1) f3 (u.2.2.2.1) f5 (u.2.2.2.2) f7 t) A) args s 0 0 A) (F0 m 0 ls []) := by
  obtain ⟨hx, hb, hr, hlocks, hml, hown, hts, hA, hK⟩ := id C0
  unfold mX0_ownPath at hm
  refine lv_aload_n hx hb dX0_ownPath_0 rfl (lv_at hl 0 rfl) ?_
  refine sn_gtX0_4 C0 hP dX0_ownPath_1 ?_
  refine lv_iconst (v := (0 : Int32)) hx hb dX0_ownPath_4 (by decide) ?_
  refine lv_aload_n hx hb dX0_ownPath_5 rfl (lv_at hl 0 rfl) ?_
  refine lv_aload_n hx hb dX0_ownPath_6 rfl (lv_at hl 0 rfl) ?_
  refine sn_gtX0_4 C0 hP dX0_ownPath_7 ?_
  refine lv_iconst (v := (0 : Int32)) hx hb dX0_ownPath_10 (by decide) ?_
  obtain ⟨h_1, hm⟩ := hm
  refine sn_ldX0_4 C0 hP h_1 dX0_ownPath_11 ?_
  refine lv_iconst (v := (0 : Int32)) hx hb dX0_ownPath_12 (by decide) ?_
  refine sn_cl_Vi (As := [.int (f4 (0 : Int32).toNatClampNeg), .int (0 : Int32)]) (rest := [.int (0 : Int32), .ref (ad 4)]) (w1 := (fun (u : (Nat → Int32) × (Nat → Int32) × (Nat → Int32)) => sn_pwX0 h0 ad cs (u.1) (u.2.1) (u.2.2) (f3) (f4) (f5) (f6) (f7))) ⟨hx, hb, hml, hown, hts⟩ (kX0_ownNode l dC dI h0 ad cs H.size f0 f1 f2 f3 f4 f5 f6 f7 (f4 (0 : Int32).toNatClampNeg) (0 : Int32) _ hm) (cwV 2 hts (lw_V q75 q77 qs3 q19 q78) rfl rfl rfl (by decide +kernel) ⟨Nat.le_of_ble_eq_true rfl, Nat.le_of_ble_eq_true rfl⟩) (va_recv hK hP (ci := 0) (q0 := 0) rfl rfl) hP hD hK hS hA rfl hl.1 rfl (lv_room (Nat.le_of_ble_eq_true rfl)) dX0_ownPath_13 ⟨Nat.le_refl 0, Nat.le_refl 0⟩ (fun r_2 u H locs hm hP hD hS => ?_)
  obtain ⟨f0_2, f1_2, f2_2⟩ := u
  obtain ⟨h_3, hm⟩ := hm
  refine sn_stX0_4 C0 hP hD hS h_3 dX0_ownPath_16 (fun H locs hP hD hS => ?_)
  refine lv_aload_n hx hb dX0_ownPath_17 rfl (lv_at hl 0 rfl) ?_
  refine sn_gtX0_6 C0 hP dX0_ownPath_18 ?_
  refine lv_iconst (v := (0 : Int32)) hx hb dX0_ownPath_21 (by decide) ?_
  refine lv_aload_n hx hb dX0_ownPath_22 rfl (lv_at hl 0 rfl) ?_
  refine sn_gtX0_4 C0 hP dX0_ownPath_23 ?_
  refine lv_iconst (v := (0 : Int32)) hx hb dX0_ownPath_26 (by decide) ?_
  obtain ⟨h_4, hm⟩ := hm
  refine sn_ldX0_4 C0 hP h_4 dX0_ownPath_27 ?_
  obtain ⟨h_5, hm⟩ := hm
  refine sn_stX0_6 C0 hP hD hS h_5 dX0_ownPath_28 (fun H locs hP hD hS => ?_)
  refine lv_iconst (v := (0 : Int32)) hx hb dX0_ownPath_29 (by decide) ?_
  refine lv_istore_n (lv' := [(2, .int (0 : Int32)), (0, .ref h0), (1, .int x1)]) hx hb dX0_ownPath_30 rfl hl (by decide) rfl (fun ls hl => ?_)
  obtain ⟨n31, hm⟩ := hm
  exact wX0_ownPath_31 C0 post n31 f0_2 f1_2 f2_2 (upd f4 (0 : Int32).toNatClampNeg r_2) (upd f6 (0 : Int32).toNatClampNeg ((upd f4 (0 : Int32).toNatClampNeg r_2) (0 : Int32).toNatClampNeg)) x1 (0 : Int32) hm H locs hP hD hS ls (lv_sub hl [1, 2, 0] rfl)
set_option maxHeartbeats 4000000 in
set_option maxRecDepth 100000 in
theorem kX0_ownPath (l : Launch) (dC : Nat → ClassId) (dI : Nat → Nat → Nat) (h0 : Nat) (ad : Nat → Nat) (cs : Nat → ClassId) (sz : Nat) (f0 f1 f2 f3 f4 f5 f6 f7 : Nat → Int32) (x1 : Int32) (post : Int32 → (Nat → Int32) → (Nat → Int32) → (Nat → Int32) → (Nat → Int32) → (Nat → Int32) → Prop) (hm : mX0_ownPath f0 f1 f2 f4 f6 x1 post) : Met l yX0_ownPath (ws_ yX0_ownPath cX0_ownPath 4 (some .int)) ({ frames := 2, cells := 0, slots := 0, locals := 46 } : Room) (va_Pc [.ref h0, .int x1] (sn_PX (dC, dI) (sn_tyX0 cs) (sn_pwX0 h0 ad cs f0 f1 f2 f3 f4 f5 f6 f7) sz)) (va_Qi (S := (Nat → Int32) × (Nat → Int32) × (Nat → Int32) × (Nat → Int32) × (Nat → Int32)) (fun r u => post r (u.1) (u.2.1) (u.2.2.1) (u.2.2.2.1) (u.2.2.2.2)) (fun (u : (Nat → Int32) × (Nat → Int32) × (Nat → Int32) × (Nat → Int32) × (Nat → Int32)) (t : State) => sn_BX0 (dC, dI) (va_A (sn_pwX0 h0 ad cs f0 f1 f2 f3 f4 f5 f6 f7) sz) h0 ad cs (u.1) (u.2.1) (u.2.2.1) f3 (u.2.2.2.1) f5 (u.2.2.2.2) f7 t) (va_A (sn_pwX0 h0 ad cs f0 f1 f2 f3 f4 f5 f6 f7) sz)) 0 0 (va_A (sn_pwX0 h0 ad cs f0 f1 f2 f3 f4 f5 f6 f7) sz) := by
  refine sn_mk_V (n := 4) (RC := RX0) (Q := fun A => (va_Qi (S := (Nat → Int32) × (Nat → Int32) × (Nat → Int32) × (Nat → Int32) × (Nat → Int32)) (fun r u => post r (u.1) (u.2.1) (u.2.2.1) (u.2.2.2.1) (u.2.2.2.2)) (fun (u : (Nat → Int32) × (Nat → Int32) × (Nat → Int32) × (Nat → Int32) × (Nat → Int32)) (t : State) => sn_BX0 (dC, dI) A h0 ad cs (u.1) (u.2.1) (u.2.2.1) f3 (u.2.2.2.1) f5 (u.2.2.2.2) f7 t) A)) (by decide) rfl (Nat.le_of_ble_eq_true rfl) ?_
  intro p e s m below meth c A ls C0 hP hD hl
  exact wX0_ownPath_0 C0 post f0 f1 f2 f4 f6 x1 hm _ _ hP hD va_S.rf ls hl
end
section
/-! walks and contracts (printed by gen.py): put prune remove -/
set_option maxHeartbeats 4000000 in
set_option maxRecDepth 100000 in
theorem wX0_put_37 {p : Program} {l : Launch} {e : Env} {s : State} {m : MethodId} {args : Array Value} {below : List Frame} {meth : Method} {c : Code} {A : Nat → Prop} {dC : Nat → ClassId} {dI : Nat → Nat → Nat} {h0 : Nat} {ad : Nat → Nat} {cs : Nat → ClassId} {f3 f7 : Nat → Int32} (C0 : sn_Cx cX0_put 5 (some .int) RX0 p s m meth c args A (dC, dI) (sn_tyX0 cs)) (post : Int32 → (Nat → Int32) → (Nat → Int32) → (Nat → Int32) → (Nat → Int32) → (Nat → Int32) → (Nat → Int32) → Prop) (f0 f1 f2 f4 f5 f6 : Nat → Int32) (x1 x2 x3 : Int32) (hm : mX0_put_37 f0 f1 f2 f4 f5 f6 x1 x2 x3 post) (H : Heap) (locs : List Loc) (hP : va_P (dC, dI) sn_cl (sn_pwX0 h0 ad cs f0 f1 f2 f3 f4 f5 f6 f7) H) (hD : va_D A (sn_pwX0 h0 ad cs f0 f1 f2 f3 f4 f5 f6 f7)) (hS : va_S A s.heap H locs) (ls : Array Slot) (hl : lv_has ls 5 [(0, .ref h0), (1, .int x1), (2, .int x2), (3, .int x3)]) : W p l e (headSpec (ws_ yX0_put cX0_put 5 (some .int)) ({ frames := 3, cells := 0, slots := 0, locals := 69 } : Room)).room s m args below meth c H locs 0 0 (MQ below (va_Qi (S := (Nat → Int32) × (Nat → Int32) × (Nat → Int32) × (Nat → Int32) × (Nat → Int32) × (Nat → Int32)) (fun r u => post r (u.1) (u.2.1) (u.2.2.1) (u.2.2.2.1) (u.2.2.2.2.1) (u.2.2.2.2.2)) (fun (u : (Nat → Int32) × (Nat → Int32) × (Nat → Int32) × (Nat → Int32) × (Nat → Int32) × (Nat → Int32)) (t : State) => sn_BX0 (dC, dI) A h0 ad cs (u.1) (u.2.1) (u.2.2.1) f3 (u.2.2.2.1) (u.2.2.2.2.1) (u.2.2.2.2.2) f7 t) A) args s 0 0 A) (F0 m 37 ls []) := by
  obtain ⟨hx, hb, hr, hlocks, hml, hown, hts, hA, hK⟩ := id C0
  unfold mX0_put_37 at hm
  refine lv_aload_n hx hb dX0_put_37 rfl (lv_at hl 0 rfl) ?_
  refine lv_iload_n hx hb dX0_put_38 rfl (lv_at hl 1 rfl) ?_
  refine sn_cl_Vi (As := [.int x1]) (rest := []) (w1 := (fun (u : (Nat → Int32) × (Nat → Int32) × (Nat → Int32) × (Nat → Int32) × (Nat → Int32)) => sn_pwX0 h0 ad cs (u.1) (u.2.1) (u.2.2.1) (f3) (u.2.2.2.1) (f5) (u.2.2.2.2) (f7))) ⟨hx, hb, hml, hown, hts⟩ (kX0_ownPath l dC dI h0 ad cs H.size f0 f1 f2 f3 f4 f5 f6 f7 x1 _ hm) (cwV 1 hts (lw_V q71 q73 qs2 q19 q74) rfl rfl rfl (by decide +kernel) ⟨Nat.le_of_ble_eq_true rfl, Nat.le_of_ble_eq_true rfl⟩) (va_recv hK hP (ci := 0) (q0 := 0) rfl rfl) hP hD hK hS hA rfl hl.1 rfl (lv_room (Nat.le_of_ble_eq_true rfl)) dX0_put_39 ⟨Nat.le_refl 0, Nat.le_refl 0⟩ (fun r_1 u H locs hm hP hD hS => ?_)
  obtain ⟨f0_1, f1_1, f2_1, f4_1, f6_1⟩ := u
  refine lv_istore (lv' := [(4, .int r_1), (0, .ref h0), (1, .int x1), (2, .int x2), (3, .int x3)]) hx hb dX0_put_42 hl (by decide) rfl (fun ls hl => ?_)
  refine lv_aload_n hx hb dX0_put_44 rfl (lv_at hl 1 rfl) ?_
  refine sn_gtX0_0 C0 hP dX0_put_45 ?_
  refine lv_iconst (v := (4 : Int32)) hx hb dX0_put_48 (by decide) ?_
  refine lv_iload hx hb dX0_put_49 (lv_at hl 0 rfl) ?_
  refine lv_imul hx hb dX0_put_51 ?_
  refine lv_iload_n hx hb dX0_put_52 rfl (lv_at hl 2 rfl) ?_
  refine lv_iconst (v := (3 : Int32)) hx hb dX0_put_53 (by decide) ?_
  refine lv_iand hx hb dX0_put_54 ?_
  refine lv_iadd hx hb dX0_put_55 ?_
  refine lv_iload_n hx hb dX0_put_56 rfl (lv_at hl 3 rfl) ?_
  obtain ⟨h_2, hm⟩ := hm
  refine sn_stX0_0 C0 hP hD hS h_2 dX0_put_57 (fun H locs hP hD hS => ?_)
  refine lv_aload_n hx hb dX0_put_58 rfl (lv_at hl 1 rfl) ?_
  refine sn_gtX0_1 C0 hP dX0_put_59 ?_
  refine lv_iload hx hb dX0_put_62 (lv_at hl 0 rfl) ?_
  refine lv_dup2_11 hx hb dX0_put_64 rfl rfl ?_
  obtain ⟨h_3, hm⟩ := hm
  refine sn_ldX0_1 C0 hP h_3 dX0_put_65 ?_
  refine lv_iconst (v := (1 : Int32)) hx hb dX0_put_66 (by decide) ?_
  refine lv_iload_n hx hb dX0_put_67 rfl (lv_at hl 2 rfl) ?_
  refine lv_iconst (v := (3 : Int32)) hx hb dX0_put_68 (by decide) ?_
  refine lv_iand hx hb dX0_put_69 ?_
  refine lv_ishl hx hb dX0_put_70 ?_
  refine lv_ior hx hb dX0_put_71 ?_
  obtain ⟨h_4, hm⟩ := hm
  refine sn_stX0_1 C0 hP hD hS h_4 dX0_put_72 (fun H locs hP hD hS => ?_)
  refine lv_aload_n hx hb dX0_put_73 rfl (lv_at hl 1 rfl) ?_
  refine sn_gtX0_5 C0 hP dX0_put_74 ?_
  refine lv_iconst (v := (0 : Int32)) hx hb dX0_put_77 (by decide) ?_
  refine lv_dup2_11 hx hb dX0_put_78 rfl rfl ?_
  obtain ⟨h_5, hm⟩ := hm
  refine sn_ldX0_5 C0 hP h_5 dX0_put_79 ?_
  refine lv_iload_n hx hb dX0_put_80 rfl (lv_at hl 4 rfl) ?_
  refine lv_if_eq (tgt := 88) hx hb dX0_put_81 (by decide) (fun c_6 => ?_) (fun c_6 => ?_)
  · have hm := hm.1 c_6
    refine lv_iconst (v := (1 : Int32)) hx hb dX0_put_88 (by decide) ?_
    refine lv_iadd hx hb dX0_put_89 ?_
    obtain ⟨h_7, hm⟩ := hm
    refine sn_stX0_5 C0 hP hD hS h_7 dX0_put_90 (fun H locs hP hD hS => ?_)
    refine lv_aload_n hx hb dX0_put_91 rfl (lv_at hl 1 rfl) ?_
    refine sn_gtX0_5 C0 hP dX0_put_92 ?_
    refine lv_iconst (v := (0 : Int32)) hx hb dX0_put_95 (by decide) ?_
    obtain ⟨h_8, hm⟩ := hm
    refine sn_ldX0_5 C0 hP h_8 dX0_put_96 ?_
    exact W.iret (v := ((upd f5 (0 : Int32).toNatClampNeg ((f5 (0 : Int32).toNatClampNeg) + (1 : Int32))) (0 : Int32).toNatClampNeg)) hx hb hr (fun t ht hW => ⟨⟨((upd f5 (0 : Int32).toNatClampNeg ((f5 (0 : Int32).toNatClampNeg) + (1 : Int32))) (0 : Int32).toNatClampNeg), ⟨(upd f0_1 (((4 : Int32) * r_1) + (x1 &&& (3 : Int32))).toNatClampNeg x2), (upd f1_1 (r_1).toNatClampNeg ((f1_1 (r_1).toNatClampNeg) ||| ((1 : Int32) <<< ((x1 &&& (3 : Int32)) &&& 31)))), f2_1, f4_1, (upd f5 (0 : Int32).toNatClampNeg ((f5 (0 : Int32).toNatClampNeg) + (1 : Int32))), f6_1⟩, rfl, hm, ⟨by rw [ht]; exact hP, va_K.moved hW.alike hK, hD⟩⟩, hS.F ht⟩) hS.2.2 dX0_put_97
  · have hm := hm.2 c_6
    refine lv_iconst (v := (0 : Int32)) hx hb dX0_put_84 (by decide) ?_
    refine lv_goto (tgt := 89) hx hb dX0_put_85 (by decide) ?_
    refine lv_iadd hx hb dX0_put_89 ?_
    obtain ⟨h_9, hm⟩ := hm
    refine sn_stX0_5 C0 hP hD hS h_9 dX0_put_90 (fun H locs hP hD hS => ?_)
    refine lv_aload_n hx hb dX0_put_91 rfl (lv_at hl 1 rfl) ?_
    refine sn_gtX0_5 C0 hP dX0_put_92 ?_
    refine lv_iconst (v := (0 : Int32)) hx hb dX0_put_95 (by decide) ?_
    obtain ⟨h_10, hm⟩ := hm
    refine sn_ldX0_5 C0 hP h_10 dX0_put_96 ?_
    exact W.iret (v := ((upd f5 (0 : Int32).toNatClampNeg ((f5 (0 : Int32).toNatClampNeg) + (0 : Int32))) (0 : Int32).toNatClampNeg)) hx hb hr (fun t ht hW => ⟨⟨((upd f5 (0 : Int32).toNatClampNeg ((f5 (0 : Int32).toNatClampNeg) + (0 : Int32))) (0 : Int32).toNatClampNeg), ⟨(upd f0_1 (((4 : Int32) * r_1) + (x1 &&& (3 : Int32))).toNatClampNeg x2), (upd f1_1 (r_1).toNatClampNeg ((f1_1 (r_1).toNatClampNeg) ||| ((1 : Int32) <<< ((x1 &&& (3 : Int32)) &&& 31)))), f2_1, f4_1, (upd f5 (0 : Int32).toNatClampNeg ((f5 (0 : Int32).toNatClampNeg) + (0 : Int32))), f6_1⟩, rfl, hm, ⟨by rw [ht]; exact hP, va_K.moved hW.alike hK, hD⟩⟩, hS.F ht⟩) hS.2.2 dX0_put_97
set_option maxHeartbeats 4000000 in
set_option maxRecDepth 100000 in
theorem wX0_put_0 {p : Program} {l : Launch} {e : Env} {s : State} {m : MethodId} {args : Array Value} {below : List Frame} {meth : Method} {c : Code} {A : Nat → Prop} {dC : Nat → ClassId} {dI : Nat → Nat → Nat} {h0 : Nat} {ad : Nat → Nat} {cs : Nat → ClassId} {f3 f7 : Nat → Int32} (C0 : sn_Cx cX0_put 5 (some .int) RX0 p s m meth c args A (dC, dI) (sn_tyX0 cs)) (post : Int32 → (Nat → Int32) → (Nat → Int32) → (Nat → Int32) → (Nat → Int32) → (Nat → Int32) → (Nat → Int32) → Prop) (f0 f1 f2 f4 f5 f6 : Nat → Int32) (x1 x2 : Int32) (hm : mX0_put f0 f1 f2 f4 f5 f6 x1 x2 post) (H : Heap) (locs : List Loc) (hP : va_P (dC, dI) sn_cl (sn_pwX0 h0 ad cs f0 f1 f2 f3 f4 f5 f6 f7) H) (hD : va_D A (sn_pwX0 h0 ad cs f0 f1 f2 f3 f4 f5 f6 f7)) (hS : va_S A s.heap H locs) (ls : Array Slot) (hl : lv_has ls 5 [(0, .ref h0), (1, .int x1), (2, .int x2)]) : W p l e (headSpec (ws_ yX0_put cX0_put 5 (some .int)) ({ frames := 3, cells := 0, slots := 0, locals := 69 } : Room)).room s m args below meth c H locs 0 0 (MQ below (va_Qi (S := (Nat → Int32) × (Nat → Int32) × (Nat → Int32) × (Nat → Int32) × (Nat → Int32) × (Nat → Int32)) (fun r u => post r (u.1) (u.2.1) (u.2.2.1) (u.2.2.2.1) (u.2.2.2.2.1) (u.2.2.2.2.2)) (fun (u : (Nat → Int32) × (Nat → Int32) × (Nat → Int32) × (Nat → Int32) × (Nat → Int32) × (Nat → Int32)) (t : State) => sn_BX0 (dC, dI) A h0 ad cs (u.1) (u.2.1) (u.2.2.1) f3 (u.2.2.2.1) (u.2.2.2.2.1) (u.2.2.2.2.2) f7 t) A) args s 0 0 A) (F0 m 0 ls []) := by
  obtain ⟨hx, hb, hr, hlocks, hml, hown, hts, hA, hK⟩ := id C0
  unfold mX0_put at hm
  refine lv_iload_n hx hb dX0_put_0 rfl (lv_at hl 1 rfl) ?_
  refine lv_if_lt (tgt := 11) hx hb dX0_put_1 (by decide) (fun c_1 => ?_) (fun c_1 => ?_)
  · have hm := hm.1 c_1
    refine lv_iconst (v := (-1 : Int32)) hx hb dX0_put_11 (by decide) ?_
    exact W.iret (v := (-1 : Int32)) hx hb hr (fun t ht hW => ⟨⟨(-1 : Int32), ⟨f0, f1, f2, f4, f5, f6⟩, rfl, hm, ⟨by rw [ht]; exact hP, va_K.moved hW.alike hK, hD⟩⟩, hS.F ht⟩) hS.2.2 dX0_put_12
  · have hm := hm.2 c_1
    refine lv_iload_n hx hb dX0_put_4 rfl (lv_at hl 1 rfl) ?_
    refine lv_sipush (v := (255 : Int32)) hx hb dX0_put_5 (by decide) ?_
    refine lv_icmp_le (tgt := 13) hx hb dX0_put_8 (by decide) (fun c_2 => ?_) (fun c_2 => ?_)
    · have hm := hm.1 c_2
      refine lv_aload_n hx hb dX0_put_13 rfl (lv_at hl 0 rfl) ?_
      refine lv_iconst (v := (0 : Int32)) hx hb dX0_put_14 (by decide) ?_
      refine lv_iload_n hx hb dX0_put_15 rfl (lv_at hl 1 rfl) ?_
      refine sn_cl_Vi (As := [.int (0 : Int32), .int x1]) (rest := []) (w1 := (fun (_ : Unit) => sn_pwX0 h0 ad cs (f0) (f1) (f2) (f3) (f4) (f5) (f6) (f7))) ⟨hx, hb, hml, hown, hts⟩ (kX0_holds l dC dI h0 ad cs H.size f0 f1 f2 f3 f4 f5 f6 f7 (0 : Int32) x1 _ hm) (cwV 2 hts (lw_V q60 q62 qs0 q19 q63) rfl rfl rfl (by decide +kernel) ⟨Nat.le_of_ble_eq_true rfl, Nat.le_of_ble_eq_true rfl⟩) (va_recv hK hP (ci := 0) (q0 := 0) rfl rfl) hP hD hK hS hA rfl hl.1 rfl (lv_room (Nat.le_of_ble_eq_true rfl)) dX0_put_16 ⟨Nat.le_refl 0, Nat.le_refl 0⟩ (fun r_3 _ H locs hm hP hD hS => ?_)
      refine lv_istore_n (lv' := [(3, .int r_3), (0, .ref h0), (1, .int x1), (2, .int x2)]) hx hb dX0_put_19 rfl hl (by decide) rfl (fun ls hl => ?_)
      refine lv_iload_n hx hb dX0_put_20 rfl (lv_at hl 0 rfl) ?_
      refine lv_if_ne (tgt := 37) hx hb dX0_put_21 (by decide) (fun c_4 => ?_) (fun c_4 => ?_)
      · have hm := hm.1 c_4
        exact wX0_put_37 C0 post f0 f1 f2 f4 f5 f6 x1 x2 r_3 hm H locs hP hD hS ls (lv_sub hl [1, 2, 3, 0] rfl)
      · have hm := hm.2 c_4
        refine lv_aload_n hx hb dX0_put_24 rfl (lv_at hl 1 rfl) ?_
        refine sn_gtX0_5 C0 hP dX0_put_25 ?_
        refine lv_iconst (v := (0 : Int32)) hx hb dX0_put_28 (by decide) ?_
        obtain ⟨h_5, hm⟩ := hm
        refine sn_ldX0_5 C0 hP h_5 dX0_put_29 ?_
        refine lv_bipush (v := (16 : Int32)) hx hb dX0_put_30 (by decide) ?_
        refine lv_icmp_lt (tgt := 37) hx hb dX0_put_32 (by decide) (fun c_6 => ?_) (fun c_6 => ?_)
        · have hm := hm.1 c_6
          exact wX0_put_37 C0 post f0 f1 f2 f4 f5 f6 x1 x2 r_3 hm H locs hP hD hS ls (lv_sub hl [1, 2, 3, 0] rfl)
        · have hm := hm.2 c_6
          refine lv_iconst (v := (-1 : Int32)) hx hb dX0_put_35 (by decide) ?_
          exact W.iret (v := (-1 : Int32)) hx hb hr (fun t ht hW => ⟨⟨(-1 : Int32), ⟨f0, f1, f2, f4, f5, f6⟩, rfl, hm, ⟨by rw [ht]; exact hP, va_K.moved hW.alike hK, hD⟩⟩, hS.F ht⟩) hS.2.2 dX0_put_36
    · have hm := hm.2 c_2
      refine lv_iconst (v := (-1 : Int32)) hx hb dX0_put_11 (by decide) ?_
      exact W.iret (v := (-1 : Int32)) hx hb hr (fun t ht hW => ⟨⟨(-1 : Int32), ⟨f0, f1, f2, f4, f5, f6⟩, rfl, hm, ⟨by rw [ht]; exact hP, va_K.moved hW.alike hK, hD⟩⟩, hS.F ht⟩) hS.2.2 dX0_put_12
set_option maxHeartbeats 4000000 in
set_option maxRecDepth 100000 in
theorem kX0_put (l : Launch) (dC : Nat → ClassId) (dI : Nat → Nat → Nat) (h0 : Nat) (ad : Nat → Nat) (cs : Nat → ClassId) (sz : Nat) (f0 f1 f2 f3 f4 f5 f6 f7 : Nat → Int32) (x1 x2 : Int32) (post : Int32 → (Nat → Int32) → (Nat → Int32) → (Nat → Int32) → (Nat → Int32) → (Nat → Int32) → (Nat → Int32) → Prop) (hm : mX0_put f0 f1 f2 f4 f5 f6 x1 x2 post) : Met l yX0_put (ws_ yX0_put cX0_put 5 (some .int)) ({ frames := 3, cells := 0, slots := 0, locals := 69 } : Room) (va_Pc [.ref h0, .int x1, .int x2] (sn_PX (dC, dI) (sn_tyX0 cs) (sn_pwX0 h0 ad cs f0 f1 f2 f3 f4 f5 f6 f7) sz)) (va_Qi (S := (Nat → Int32) × (Nat → Int32) × (Nat → Int32) × (Nat → Int32) × (Nat → Int32) × (Nat → Int32)) (fun r u => post r (u.1) (u.2.1) (u.2.2.1) (u.2.2.2.1) (u.2.2.2.2.1) (u.2.2.2.2.2)) (fun (u : (Nat → Int32) × (Nat → Int32) × (Nat → Int32) × (Nat → Int32) × (Nat → Int32) × (Nat → Int32)) (t : State) => sn_BX0 (dC, dI) (va_A (sn_pwX0 h0 ad cs f0 f1 f2 f3 f4 f5 f6 f7) sz) h0 ad cs (u.1) (u.2.1) (u.2.2.1) f3 (u.2.2.2.1) (u.2.2.2.2.1) (u.2.2.2.2.2) f7 t) (va_A (sn_pwX0 h0 ad cs f0 f1 f2 f3 f4 f5 f6 f7) sz)) 0 0 (va_A (sn_pwX0 h0 ad cs f0 f1 f2 f3 f4 f5 f6 f7) sz) := by
  refine sn_mk_V (n := 5) (RC := RX0) (Q := fun A => (va_Qi (S := (Nat → Int32) × (Nat → Int32) × (Nat → Int32) × (Nat → Int32) × (Nat → Int32) × (Nat → Int32)) (fun r u => post r (u.1) (u.2.1) (u.2.2.1) (u.2.2.2.1) (u.2.2.2.2.1) (u.2.2.2.2.2)) (fun (u : (Nat → Int32) × (Nat → Int32) × (Nat → Int32) × (Nat → Int32) × (Nat → Int32) × (Nat → Int32)) (t : State) => sn_BX0 (dC, dI) A h0 ad cs (u.1) (u.2.1) (u.2.2.1) f3 (u.2.2.2.1) (u.2.2.2.2.1) (u.2.2.2.2.2) f7 t) A)) (by decide) rfl (Nat.le_of_ble_eq_true rfl) ?_
  intro p e s m below meth c A ls C0 hP hD hl
  exact wX0_put_0 C0 post f0 f1 f2 f4 f5 f6 x1 x2 hm _ _ hP hD va_S.rf ls hl
set_option maxHeartbeats 4000000 in
set_option maxRecDepth 100000 in
theorem wX0_prune_32 {p : Program} {l : Launch} {e : Env} {s : State} {m : MethodId} {args : Array Value} {below : List Frame} {meth : Method} {c : Code} {A : Nat → Prop} {dC : Nat → ClassId} {dI : Nat → Nat → Nat} {h0 : Nat} {ad : Nat → Nat} {cs : Nat → ClassId} {f1 f3 f5 f6 f7 : Nat → Int32} (C0 : sn_Cx cX0_prune 3 none RX0 p s m meth c args A (dC, dI) (sn_tyX0 cs)) (post : (Nat → Int32) → (Nat → Int32) → (Nat → Int32) → Prop) : ∀ (n32 : Nat) (f0 f2 f4 : Nat → Int32) (x1 x2 : Int32), mX0_prune_32 n32 f0 f1 f2 f4 f6 x1 x2 post → ∀ (H : Heap) (locs : List Loc), va_P (dC, dI) sn_cl (sn_pwX0 h0 ad cs f0 f1 f2 f3 f4 f5 f6 f7) H → va_D A (sn_pwX0 h0 ad cs f0 f1 f2 f3 f4 f5 f6 f7) → va_S A s.heap H locs → ∀ (ls : Array Slot), lv_has ls 3 [(0, .ref h0), (1, .int x1), (2, .int x2)] → W p l e (headSpec (ws_ yX0_prune cX0_prune 3 none) ({ frames := 1, cells := 0, slots := 0, locals := 22 } : Room)).room s m args below meth c H locs 0 0 (MQ below (va_Qv (S := (Nat → Int32) × (Nat → Int32) × (Nat → Int32)) (fun u => post (u.1) (u.2.1) (u.2.2)) (fun (u : (Nat → Int32) × (Nat → Int32) × (Nat → Int32)) (t : State) => sn_BX0 (dC, dI) A h0 ad cs (u.1) f1 (u.2.1) f3 (u.2.2) f5 f6 f7 t) A) args s 0 0 A) (F0 m 32 ls []) := by
  obtain ⟨hx, hb, hr, hlocks, hml, hown, hts, hA, hK⟩ := id C0
  intro n32
  induction n32 with
  | zero =>
    intro f0 f2 f4 x1 x2 hm
    unfold mX0_prune_32 at hm
    exact False.elim hm
  | succ n32 ih32 =>
    intro f0 f2 f4 x1 x2 hm H locs hP hD hS ls hl
    unfold mX0_prune_32 at hm
    refine lv_iload_n hx hb dX0_prune_32 rfl (lv_at hl 2 rfl) ?_
    refine lv_if_lt (tgt := 88) hx hb dX0_prune_33 (by decide) (fun c_1 => ?_) (fun c_1 => ?_)
    · have hm := hm.1 c_1
      refine lv_aload_n hx hb dX0_prune_88 rfl (lv_at hl 0 rfl) ?_
      refine sn_gtX0_4 C0 hP dX0_prune_89 ?_
      refine lv_iconst (v := (0 : Int32)) hx hb dX0_prune_92 (by decide) ?_
      refine lv_iconst (v := (-1 : Int32)) hx hb dX0_prune_93 (by decide) ?_
      obtain ⟨h_2, hm⟩ := hm
      refine sn_stX0_4 C0 hP hD hS h_2 dX0_prune_94 (fun H locs hP hD hS => ?_)
      exact W.vret hx hb hr (fun t ht hW => ⟨⟨⟨f0, f2, (upd f4 (0 : Int32).toNatClampNeg (-1 : Int32))⟩, rfl, hm, ⟨by rw [ht]; exact hP, va_K.moved hW.alike hK, hD⟩⟩, hS.F ht⟩) hS.2.2 dX0_prune_95
    · have hm := hm.2 c_1
      refine lv_aload_n hx hb dX0_prune_36 rfl (lv_at hl 0 rfl) ?_
      refine sn_gtX0_0 C0 hP dX0_prune_37 ?_
      refine lv_iconst (v := (4 : Int32)) hx hb dX0_prune_40 (by decide) ?_
      refine lv_aload_n hx hb dX0_prune_41 rfl (lv_at hl 0 rfl) ?_
      refine sn_gtX0_6 C0 hP dX0_prune_42 ?_
      refine lv_iload_n hx hb dX0_prune_45 rfl (lv_at hl 2 rfl) ?_
      obtain ⟨h_3, hm⟩ := hm
      refine sn_ldX0_6 C0 hP h_3 dX0_prune_46 ?_
      refine lv_imul hx hb dX0_prune_47 ?_
      refine lv_iload_n hx hb dX0_prune_48 rfl (lv_at hl 1 rfl) ?_
      refine lv_iload_n hx hb dX0_prune_49 rfl (lv_at hl 2 rfl) ?_
      refine sn_cl_S (As := [.int x1, .int x2]) (rest := [.int ((4 : Int32) * (f6 (x2).toNatClampNeg)), .ref (ad 0)]) ⟨hx, hb, hml, hown, hts⟩ (kX0_turn l H.size x1 x2 _ hm) (va_cwS 2 hts (lw_S q68 q69 q19 q70) rfl rfl rfl (by decide +kernel) ⟨Nat.le_of_ble_eq_true rfl, Nat.le_of_ble_eq_true rfl⟩) hP hS hA rfl hl.1 rfl (lv_room (Nat.le_of_ble_eq_true rfl)) dX0_prune_50 ⟨Nat.le_refl 0, Nat.le_refl 0⟩ (fun r_4 H locs hm hP hS => ?_)
      refine lv_iadd hx hb dX0_prune_53 ?_
      refine lv_iconst (v := (-1 : Int32)) hx hb dX0_prune_54 (by decide) ?_
      obtain ⟨h_5, hm⟩ := hm
      refine sn_stX0_0 C0 hP hD hS h_5 dX0_prune_55 (fun H locs hP hD hS => ?_)
      refine lv_aload_n hx hb dX0_prune_56 rfl (lv_at hl 0 rfl) ?_
      refine lv_aload_n hx hb dX0_prune_57 rfl (lv_at hl 0 rfl) ?_
      refine sn_gtX0_6 C0 hP dX0_prune_58 ?_
      refine lv_iload_n hx hb dX0_prune_61 rfl (lv_at hl 2 rfl) ?_
      obtain ⟨h_6, hm⟩ := hm
      refine sn_ldX0_6 C0 hP h_6 dX0_prune_62 ?_
      refine sn_cl_Vi (As := [.int (f6 (x2).toNatClampNeg)]) (rest := []) (w1 := (fun (_ : Unit) => sn_pwX0 h0 ad cs (upd f0 (((4 : Int32) * (f6 (x2).toNatClampNeg)) + r_4).toNatClampNeg (-1 : Int32)) (f1) (f2) (f3) (f4) (f5) (f6) (f7))) ⟨hx, hb, hml, hown, hts⟩ (kX0_leadsOn l dC dI h0 ad cs H.size (upd f0 (((4 : Int32) * (f6 (x2).toNatClampNeg)) + r_4).toNatClampNeg (-1 : Int32)) f1 f2 f3 f4 f5 f6 f7 (f6 (x2).toNatClampNeg) _ hm) (cwV 1 hts (lw_V q95 q97 qs7 q19 q98) rfl rfl rfl (by decide +kernel) ⟨Nat.le_of_ble_eq_true rfl, Nat.le_of_ble_eq_true rfl⟩) (va_recv hK hP (ci := 0) (q0 := 0) rfl rfl) hP hD hK hS hA rfl hl.1 rfl (lv_room (Nat.le_of_ble_eq_true rfl)) dX0_prune_63 ⟨Nat.le_refl 0, Nat.le_refl 0⟩ (fun r_7 _ H locs hm hP hD hS => ?_)
      refine lv_if_eq (tgt := 70) hx hb dX0_prune_66 (by decide) (fun c_8 => ?_) (fun c_8 => ?_)
      · have hm := hm.1 c_8
        refine lv_aload_n hx hb dX0_prune_70 rfl (lv_at hl 0 rfl) ?_
        refine sn_gtX0_2 C0 hP dX0_prune_71 ?_
        refine lv_aload_n hx hb dX0_prune_74 rfl (lv_at hl 0 rfl) ?_
        refine sn_gtX0_6 C0 hP dX0_prune_75 ?_
        refine lv_iload_n hx hb dX0_prune_78 rfl (lv_at hl 2 rfl) ?_
        obtain ⟨h_9, hm⟩ := hm
        refine sn_ldX0_6 C0 hP h_9 dX0_prune_79 ?_
        refine lv_iconst (v := (0 : Int32)) hx hb dX0_prune_80 (by decide) ?_
        obtain ⟨h_10, hm⟩ := hm
        refine sn_stX0_2 C0 hP hD hS h_10 dX0_prune_81 (fun H locs hP hD hS => ?_)
        refine lv_iinc (v := (x2 + (-1 : Int32))) (lv' := [(2, .int (x2 + (-1 : Int32))), (0, .ref h0), (1, .int x1)]) hx hb dX0_prune_82 hl (k := 2) rfl rfl (by decide) rfl (fun ls hl => ?_)
        refine lv_goto (tgt := 32) hx hb dX0_prune_85 (by decide) ?_
        exact ih32 (upd f0 (((4 : Int32) * (f6 (x2).toNatClampNeg)) + r_4).toNatClampNeg (-1 : Int32)) (upd f2 (f6 (x2).toNatClampNeg).toNatClampNeg (0 : Int32)) f4 x1 (x2 + (-1 : Int32)) hm H locs hP hD hS ls (lv_sub hl [1, 2, 0] rfl)
      · have hm := hm.2 c_8
        exact W.vret hx hb hr (fun t ht hW => ⟨⟨⟨(upd f0 (((4 : Int32) * (f6 (x2).toNatClampNeg)) + r_4).toNatClampNeg (-1 : Int32)), f2, f4⟩, rfl, hm, ⟨by rw [ht]; exact hP, va_K.moved hW.alike hK, hD⟩⟩, hS.F ht⟩) hS.2.2 dX0_prune_69
set_option maxHeartbeats 4000000 in
set_option maxRecDepth 100000 in
theorem wX0_prune_0 {p : Program} {l : Launch} {e : Env} {s : State} {m : MethodId} {args : Array Value} {below : List Frame} {meth : Method} {c : Code} {A : Nat → Prop} {dC : Nat → ClassId} {dI : Nat → Nat → Nat} {h0 : Nat} {ad : Nat → Nat} {cs : Nat → ClassId} {f1 f3 f5 f6 f7 : Nat → Int32} (C0 : sn_Cx cX0_prune 3 none RX0 p s m meth c args A (dC, dI) (sn_tyX0 cs)) (post : (Nat → Int32) → (Nat → Int32) → (Nat → Int32) → Prop) (f0 f2 f4 : Nat → Int32) (x1 : Int32) (hm : mX0_prune f0 f1 f2 f4 f6 x1 post) (H : Heap) (locs : List Loc) (hP : va_P (dC, dI) sn_cl (sn_pwX0 h0 ad cs f0 f1 f2 f3 f4 f5 f6 f7) H) (hD : va_D A (sn_pwX0 h0 ad cs f0 f1 f2 f3 f4 f5 f6 f7)) (hS : va_S A s.heap H locs) (ls : Array Slot) (hl : lv_has ls 3 [(0, .ref h0), (1, .int x1)]) : W p l e (headSpec (ws_ yX0_prune cX0_prune 3 none) ({ frames := 1, cells := 0, slots := 0, locals := 22 } : Room)).room s m args below meth c H locs 0 0 (MQ below (va_Qv (S := (Nat → Int32) × (Nat → Int32) × (Nat → Int32)) (fun u => post (u.1) (u.2.1) (u.2.2)) (fun (u : (Nat → Int32) × (Nat → Int32) × (Nat → Int32)) (t : State) => sn_BX0 (dC, dI) A h0 ad cs (u.1) f1 (u.2.1) f3 (u.2.2) f5 f6 f7 t) A) args s 0 0 A) (F0 m 0 ls []) := by
  obtain ⟨hx, hb, hr, hlocks, hml, hown, hts, hA, hK⟩ := id C0
  unfold mX0_prune at hm
  refine lv_aload_n hx hb dX0_prune_0 rfl (lv_at hl 0 rfl) ?_
  refine sn_gtX0_1 C0 hP dX0_prune_1 ?_
  refine lv_aload_n hx hb dX0_prune_4 rfl (lv_at hl 0 rfl) ?_
  refine sn_gtX0_6 C0 hP dX0_prune_5 ?_
  refine lv_iconst (v := (3 : Int32)) hx hb dX0_prune_8 (by decide) ?_
  obtain ⟨h_1, hm⟩ := hm
  refine sn_ldX0_6 C0 hP h_1 dX0_prune_9 ?_
  obtain ⟨h_2, hm⟩ := hm
  refine sn_ldX0_1 C0 hP h_2 dX0_prune_10 ?_
  refine lv_bipush (v := (15 : Int32)) hx hb dX0_prune_11 (by decide) ?_
  refine lv_iand hx hb dX0_prune_13 ?_
  refine lv_if_eq (tgt := 18) hx hb dX0_prune_14 (by decide) (fun c_3 => ?_) (fun c_3 => ?_)
  · have hm := hm.1 c_3
    refine lv_aload_n hx hb dX0_prune_18 rfl (lv_at hl 0 rfl) ?_
    refine sn_gtX0_2 C0 hP dX0_prune_19 ?_
    refine lv_aload_n hx hb dX0_prune_22 rfl (lv_at hl 0 rfl) ?_
    refine sn_gtX0_6 C0 hP dX0_prune_23 ?_
    refine lv_iconst (v := (3 : Int32)) hx hb dX0_prune_26 (by decide) ?_
    obtain ⟨h_4, hm⟩ := hm
    refine sn_ldX0_6 C0 hP h_4 dX0_prune_27 ?_
    refine lv_iconst (v := (0 : Int32)) hx hb dX0_prune_28 (by decide) ?_
    obtain ⟨h_5, hm⟩ := hm
    refine sn_stX0_2 C0 hP hD hS h_5 dX0_prune_29 (fun H locs hP hD hS => ?_)
    refine lv_iconst (v := (2 : Int32)) hx hb dX0_prune_30 (by decide) ?_
    refine lv_istore_n (lv' := [(2, .int (2 : Int32)), (0, .ref h0), (1, .int x1)]) hx hb dX0_prune_31 rfl hl (by decide) rfl (fun ls hl => ?_)
    obtain ⟨n32, hm⟩ := hm
    exact wX0_prune_32 C0 post n32 f0 (upd f2 (f6 (3 : Int32).toNatClampNeg).toNatClampNeg (0 : Int32)) f4 x1 (2 : Int32) hm H locs hP hD hS ls (lv_sub hl [1, 2, 0] rfl)
  · have hm := hm.2 c_3
    exact W.vret hx hb hr (fun t ht hW => ⟨⟨⟨f0, f2, f4⟩, rfl, hm, ⟨by rw [ht]; exact hP, va_K.moved hW.alike hK, hD⟩⟩, hS.F ht⟩) hS.2.2 dX0_prune_17
set_option maxHeartbeats 4000000 in
set_option maxRecDepth 100000 in
theorem kX0_prune (l : Launch) (dC : Nat → ClassId) (dI : Nat → Nat → Nat) (h0 : Nat) (ad : Nat → Nat) (cs : Nat → ClassId) (sz : Nat) (f0 f1 f2 f3 f4 f5 f6 f7 : Nat → Int32) (x1 : Int32) (post : (Nat → Int32) → (Nat → Int32) → (Nat → Int32) → Prop) (hm : mX0_prune f0 f1 f2 f4 f6 x1 post) : Met l yX0_prune (ws_ yX0_prune cX0_prune 3 none) ({ frames := 1, cells := 0, slots := 0, locals := 22 } : Room) (va_Pc [.ref h0, .int x1] (sn_PX (dC, dI) (sn_tyX0 cs) (sn_pwX0 h0 ad cs f0 f1 f2 f3 f4 f5 f6 f7) sz)) (va_Qv (S := (Nat → Int32) × (Nat → Int32) × (Nat → Int32)) (fun u => post (u.1) (u.2.1) (u.2.2)) (fun (u : (Nat → Int32) × (Nat → Int32) × (Nat → Int32)) (t : State) => sn_BX0 (dC, dI) (va_A (sn_pwX0 h0 ad cs f0 f1 f2 f3 f4 f5 f6 f7) sz) h0 ad cs (u.1) f1 (u.2.1) f3 (u.2.2) f5 f6 f7 t) (va_A (sn_pwX0 h0 ad cs f0 f1 f2 f3 f4 f5 f6 f7) sz)) 0 0 (va_A (sn_pwX0 h0 ad cs f0 f1 f2 f3 f4 f5 f6 f7) sz) := by
  refine sn_mk_V (n := 3) (RC := RX0) (Q := fun A => (va_Qv (S := (Nat → Int32) × (Nat → Int32) × (Nat → Int32)) (fun u => post (u.1) (u.2.1) (u.2.2)) (fun (u : (Nat → Int32) × (Nat → Int32) × (Nat → Int32)) (t : State) => sn_BX0 (dC, dI) A h0 ad cs (u.1) f1 (u.2.1) f3 (u.2.2) f5 f6 f7 t) A)) (by decide) rfl (Nat.le_of_ble_eq_true rfl) ?_
  intro p e s m below meth c A ls C0 hP hD hl
  exact wX0_prune_0 C0 post f0 f2 f4 x1 hm _ _ hP hD va_S.rf ls hl
set_option maxHeartbeats 4000000 in
set_option maxRecDepth 100000 in
theorem wX0_remove_0 {p : Program} {l : Launch} {e : Env} {s : State} {m : MethodId} {args : Array Value} {below : List Frame} {meth : Method} {c : Code} {A : Nat → Prop} {dC : Nat → ClassId} {dI : Nat → Nat → Nat} {h0 : Nat} {ad : Nat → Nat} {cs : Nat → ClassId} {f3 f7 : Nat → Int32} (C0 : sn_Cx cX0_remove 3 (some .int) RX0 p s m meth c args A (dC, dI) (sn_tyX0 cs)) (post : Int32 → (Nat → Int32) → (Nat → Int32) → (Nat → Int32) → (Nat → Int32) → (Nat → Int32) → (Nat → Int32) → Prop) (f0 f1 f2 f4 f5 f6 : Nat → Int32) (x1 : Int32) (hm : mX0_remove f0 f1 f2 f4 f5 f6 x1 post) (H : Heap) (locs : List Loc) (hP : va_P (dC, dI) sn_cl (sn_pwX0 h0 ad cs f0 f1 f2 f3 f4 f5 f6 f7) H) (hD : va_D A (sn_pwX0 h0 ad cs f0 f1 f2 f3 f4 f5 f6 f7)) (hS : va_S A s.heap H locs) (ls : Array Slot) (hl : lv_has ls 3 [(0, .ref h0), (1, .int x1)]) : W p l e (headSpec (ws_ yX0_remove cX0_remove 3 (some .int)) ({ frames := 3, cells := 0, slots := 0, locals := 69 } : Room)).room s m args below meth c H locs 0 0 (MQ below (va_Qi (S := (Nat → Int32) × (Nat → Int32) × (Nat → Int32) × (Nat → Int32) × (Nat → Int32) × (Nat → Int32)) (fun r u => post r (u.1) (u.2.1) (u.2.2.1) (u.2.2.2.1) (u.2.2.2.2.1) (u.2.2.2.2.2)) (fun (u : (Nat → Int32) × (Nat → Int32) × (Nat → Int32) × (Nat → Int32) × (Nat → Int32) × (Nat → Int32)) (t : State) => sn_BX0 (dC, dI) A h0 ad cs (u.1) (u.2.1) (u.2.2.1) f3 (u.2.2.2.1) (u.2.2.2.2.1) (u.2.2.2.2.2) f7 t) A) args s 0 0 A) (F0 m 0 ls []) := by
  obtain ⟨hx, hb, hr, hlocks, hml, hown, hts, hA, hK⟩ := id C0
  unfold mX0_remove at hm
  refine lv_iload_n hx hb dX0_remove_0 rfl (lv_at hl 1 rfl) ?_
  refine lv_if_lt (tgt := 20) hx hb dX0_remove_1 (by decide) (fun c_1 => ?_) (fun c_1 => ?_)
  · have hm := hm.1 c_1
    refine lv_iconst (v := (-1 : Int32)) hx hb dX0_remove_20 (by decide) ?_
    exact W.iret (v := (-1 : Int32)) hx hb hr (fun t ht hW => ⟨⟨(-1 : Int32), ⟨f0, f1, f2, f4, f5, f6⟩, rfl, hm, ⟨by rw [ht]; exact hP, va_K.moved hW.alike hK, hD⟩⟩, hS.F ht⟩) hS.2.2 dX0_remove_21
  · have hm := hm.2 c_1
    refine lv_iload_n hx hb dX0_remove_4 rfl (lv_at hl 1 rfl) ?_
    refine lv_sipush (v := (255 : Int32)) hx hb dX0_remove_5 (by decide) ?_
    refine lv_icmp_gt (tgt := 20) hx hb dX0_remove_8 (by decide) (fun c_2 => ?_) (fun c_2 => ?_)
    · have hm := hm.1 c_2
      refine lv_iconst (v := (-1 : Int32)) hx hb dX0_remove_20 (by decide) ?_
      exact W.iret (v := (-1 : Int32)) hx hb hr (fun t ht hW => ⟨⟨(-1 : Int32), ⟨f0, f1, f2, f4, f5, f6⟩, rfl, hm, ⟨by rw [ht]; exact hP, va_K.moved hW.alike hK, hD⟩⟩, hS.F ht⟩) hS.2.2 dX0_remove_21
    · have hm := hm.2 c_2
      refine lv_aload_n hx hb dX0_remove_11 rfl (lv_at hl 0 rfl) ?_
      refine lv_iconst (v := (0 : Int32)) hx hb dX0_remove_12 (by decide) ?_
      refine lv_iload_n hx hb dX0_remove_13 rfl (lv_at hl 1 rfl) ?_
      refine sn_cl_Vi (As := [.int (0 : Int32), .int x1]) (rest := []) (w1 := (fun (_ : Unit) => sn_pwX0 h0 ad cs (f0) (f1) (f2) (f3) (f4) (f5) (f6) (f7))) ⟨hx, hb, hml, hown, hts⟩ (kX0_holds l dC dI h0 ad cs H.size f0 f1 f2 f3 f4 f5 f6 f7 (0 : Int32) x1 _ hm) (cwV 2 hts (lw_V q60 q62 qs0 q19 q63) rfl rfl rfl (by decide +kernel) ⟨Nat.le_of_ble_eq_true rfl, Nat.le_of_ble_eq_true rfl⟩) (va_recv hK hP (ci := 0) (q0 := 0) rfl rfl) hP hD hK hS hA rfl hl.1 rfl (lv_room (Nat.le_of_ble_eq_true rfl)) dX0_remove_14 ⟨Nat.le_refl 0, Nat.le_refl 0⟩ (fun r_3 _ H locs hm hP hD hS => ?_)
      refine lv_if_ne (tgt := 22) hx hb dX0_remove_17 (by decide) (fun c_4 => ?_) (fun c_4 => ?_)
      · have hm := hm.1 c_4
        refine lv_aload_n hx hb dX0_remove_22 rfl (lv_at hl 0 rfl) ?_
        refine lv_iload_n hx hb dX0_remove_23 rfl (lv_at hl 1 rfl) ?_
        refine sn_cl_Vi (As := [.int x1]) (rest := []) (w1 := (fun (u : (Nat → Int32) × (Nat → Int32) × (Nat → Int32) × (Nat → Int32) × (Nat → Int32)) => sn_pwX0 h0 ad cs (u.1) (u.2.1) (u.2.2.1) (f3) (u.2.2.2.1) (f5) (u.2.2.2.2) (f7))) ⟨hx, hb, hml, hown, hts⟩ (kX0_ownPath l dC dI h0 ad cs H.size f0 f1 f2 f3 f4 f5 f6 f7 x1 _ hm) (cwV 1 hts (lw_V q71 q73 qs2 q19 q74) rfl rfl rfl (by decide +kernel) ⟨Nat.le_of_ble_eq_true rfl, Nat.le_of_ble_eq_true rfl⟩) (va_recv hK hP (ci := 0) (q0 := 0) rfl rfl) hP hD hK hS hA rfl hl.1 rfl (lv_room (Nat.le_of_ble_eq_true rfl)) dX0_remove_24 ⟨Nat.le_refl 0, Nat.le_refl 0⟩ (fun r_5 u H locs hm hP hD hS => ?_)
        obtain ⟨f0_5, f1_5, f2_5, f4_5, f6_5⟩ := u
        refine lv_istore_n (lv' := [(2, .int r_5), (0, .ref h0), (1, .int x1)]) hx hb dX0_remove_27 rfl hl (by decide) rfl (fun ls hl => ?_)
        refine lv_aload_n hx hb dX0_remove_28 rfl (lv_at hl 1 rfl) ?_
        refine sn_gtX0_1 C0 hP dX0_remove_29 ?_
        refine lv_iload_n hx hb dX0_remove_32 rfl (lv_at hl 0 rfl) ?_
        refine lv_dup2_11 hx hb dX0_remove_33 rfl rfl ?_
        obtain ⟨h_6, hm⟩ := hm
        refine sn_ldX0_1 C0 hP h_6 dX0_remove_34 ?_
        refine lv_iconst (v := (1 : Int32)) hx hb dX0_remove_35 (by decide) ?_
        refine lv_iload_n hx hb dX0_remove_36 rfl (lv_at hl 2 rfl) ?_
        refine lv_iconst (v := (3 : Int32)) hx hb dX0_remove_37 (by decide) ?_
        refine lv_iand hx hb dX0_remove_38 ?_
        refine lv_ishl hx hb dX0_remove_39 ?_
        refine lv_iconst (v := (-1 : Int32)) hx hb dX0_remove_40 (by decide) ?_
        refine lv_ixor hx hb dX0_remove_41 ?_
        refine lv_iand hx hb dX0_remove_42 ?_
        obtain ⟨h_7, hm⟩ := hm
        refine sn_stX0_1 C0 hP hD hS h_7 dX0_remove_43 (fun H locs hP hD hS => ?_)
        refine lv_aload_n hx hb dX0_remove_44 rfl (lv_at hl 1 rfl) ?_
        refine lv_iload_n hx hb dX0_remove_45 rfl (lv_at hl 2 rfl) ?_
        refine sn_cl_Vv (As := [.int x1]) (rest := []) (w1 := (fun (u : (Nat → Int32) × (Nat → Int32) × (Nat → Int32)) => sn_pwX0 h0 ad cs (u.1) (upd f1_5 (r_5).toNatClampNeg ((f1_5 (r_5).toNatClampNeg) &&& (((1 : Int32) <<< ((x1 &&& (3 : Int32)) &&& 31)) ^^^ (-1 : Int32)))) (u.2.1) (f3) (u.2.2) (f5) (f6_5) (f7))) ⟨hx, hb, hml, hown, hts⟩ (kX0_prune l dC dI h0 ad cs H.size f0_5 (upd f1_5 (r_5).toNatClampNeg ((f1_5 (r_5).toNatClampNeg) &&& (((1 : Int32) <<< ((x1 &&& (3 : Int32)) &&& 31)) ^^^ (-1 : Int32)))) f2_5 f3 f4_5 f5 f6_5 f7 x1 _ hm) (cwV 1 hts (lw_V q91 q93 qs6 q19 q94) rfl rfl rfl (by decide +kernel) ⟨Nat.le_of_ble_eq_true rfl, Nat.le_of_ble_eq_true rfl⟩) (va_recv hK hP (ci := 0) (q0 := 0) rfl rfl) hP hD hK hS hA rfl hl.1 rfl (lv_room (Nat.le_of_ble_eq_true rfl)) dX0_remove_46 ⟨Nat.le_refl 0, Nat.le_refl 0⟩ (fun u H locs hm hP hD hS => ?_)
        obtain ⟨f0_8, f2_8, f4_8⟩ := u
        refine lv_aload_n hx hb dX0_remove_49 rfl (lv_at hl 1 rfl) ?_
        refine sn_gtX0_5 C0 hP dX0_remove_50 ?_
        refine lv_iconst (v := (0 : Int32)) hx hb dX0_remove_53 (by decide) ?_
        refine lv_dup2_11 hx hb dX0_remove_54 rfl rfl ?_
        obtain ⟨h_9, hm⟩ := hm
        refine sn_ldX0_5 C0 hP h_9 dX0_remove_55 ?_
        refine lv_iconst (v := (1 : Int32)) hx hb dX0_remove_56 (by decide) ?_
        refine lv_isub hx hb dX0_remove_57 ?_
        obtain ⟨h_10, hm⟩ := hm
        refine sn_stX0_5 C0 hP hD hS h_10 dX0_remove_58 (fun H locs hP hD hS => ?_)
        refine lv_aload_n hx hb dX0_remove_59 rfl (lv_at hl 1 rfl) ?_
        refine sn_gtX0_5 C0 hP dX0_remove_60 ?_
        refine lv_iconst (v := (0 : Int32)) hx hb dX0_remove_63 (by decide) ?_
        obtain ⟨h_11, hm⟩ := hm
        refine sn_ldX0_5 C0 hP h_11 dX0_remove_64 ?_
        exact W.iret (v := ((upd f5 (0 : Int32).toNatClampNeg ((f5 (0 : Int32).toNatClampNeg) - (1 : Int32))) (0 : Int32).toNatClampNeg)) hx hb hr (fun t ht hW => ⟨⟨((upd f5 (0 : Int32).toNatClampNeg ((f5 (0 : Int32).toNatClampNeg) - (1 : Int32))) (0 : Int32).toNatClampNeg), ⟨f0_8, (upd f1_5 (r_5).toNatClampNeg ((f1_5 (r_5).toNatClampNeg) &&& (((1 : Int32) <<< ((x1 &&& (3 : Int32)) &&& 31)) ^^^ (-1 : Int32)))), f2_8, f4_8, (upd f5 (0 : Int32).toNatClampNeg ((f5 (0 : Int32).toNatClampNeg) - (1 : Int32))), f6_5⟩, rfl, hm, ⟨by rw [ht]; exact hP, va_K.moved hW.alike hK, hD⟩⟩, hS.F ht⟩) hS.2.2 dX0_remove_65
      · have hm := hm.2 c_4
        refine lv_iconst (v := (-1 : Int32)) hx hb dX0_remove_20 (by decide) ?_
        exact W.iret (v := (-1 : Int32)) hx hb hr (fun t ht hW => ⟨⟨(-1 : Int32), ⟨f0, f1, f2, f4, f5, f6⟩, rfl, hm, ⟨by rw [ht]; exact hP, va_K.moved hW.alike hK, hD⟩⟩, hS.F ht⟩) hS.2.2 dX0_remove_21
set_option maxHeartbeats 4000000 in
set_option maxRecDepth 100000 in
theorem kX0_remove (l : Launch) (dC : Nat → ClassId) (dI : Nat → Nat → Nat) (h0 : Nat) (ad : Nat → Nat) (cs : Nat → ClassId) (sz : Nat) (f0 f1 f2 f3 f4 f5 f6 f7 : Nat → Int32) (x1 : Int32) (post : Int32 → (Nat → Int32) → (Nat → Int32) → (Nat → Int32) → (Nat → Int32) → (Nat → Int32) → (Nat → Int32) → Prop) (hm : mX0_remove f0 f1 f2 f4 f5 f6 x1 post) : Met l yX0_remove (ws_ yX0_remove cX0_remove 3 (some .int)) ({ frames := 3, cells := 0, slots := 0, locals := 69 } : Room) (va_Pc [.ref h0, .int x1] (sn_PX (dC, dI) (sn_tyX0 cs) (sn_pwX0 h0 ad cs f0 f1 f2 f3 f4 f5 f6 f7) sz)) (va_Qi (S := (Nat → Int32) × (Nat → Int32) × (Nat → Int32) × (Nat → Int32) × (Nat → Int32) × (Nat → Int32)) (fun r u => post r (u.1) (u.2.1) (u.2.2.1) (u.2.2.2.1) (u.2.2.2.2.1) (u.2.2.2.2.2)) (fun (u : (Nat → Int32) × (Nat → Int32) × (Nat → Int32) × (Nat → Int32) × (Nat → Int32) × (Nat → Int32)) (t : State) => sn_BX0 (dC, dI) (va_A (sn_pwX0 h0 ad cs f0 f1 f2 f3 f4 f5 f6 f7) sz) h0 ad cs (u.1) (u.2.1) (u.2.2.1) f3 (u.2.2.2.1) (u.2.2.2.2.1) (u.2.2.2.2.2) f7 t) (va_A (sn_pwX0 h0 ad cs f0 f1 f2 f3 f4 f5 f6 f7) sz)) 0 0 (va_A (sn_pwX0 h0 ad cs f0 f1 f2 f3 f4 f5 f6 f7) sz) := by
  refine sn_mk_V (n := 3) (RC := RX0) (Q := fun A => (va_Qi (S := (Nat → Int32) × (Nat → Int32) × (Nat → Int32) × (Nat → Int32) × (Nat → Int32) × (Nat → Int32)) (fun r u => post r (u.1) (u.2.1) (u.2.2.1) (u.2.2.2.1) (u.2.2.2.2.1) (u.2.2.2.2.2)) (fun (u : (Nat → Int32) × (Nat → Int32) × (Nat → Int32) × (Nat → Int32) × (Nat → Int32) × (Nat → Int32)) (t : State) => sn_BX0 (dC, dI) A h0 ad cs (u.1) (u.2.1) (u.2.2.1) f3 (u.2.2.2.1) (u.2.2.2.2.1) (u.2.2.2.2.2) f7 t) A)) (by decide) rfl (Nat.le_of_ble_eq_true rfl) ?_
  intro p e s m below meth c A ls C0 hP hD hl
  exact wX0_remove_0 C0 post f0 f1 f2 f4 f5 f6 x1 hm _ _ hP hD va_S.rf ls hl
end
section
/-! walks and contracts (printed by gen.py): giveBack commit restore drop -/
set_option maxHeartbeats 4000000 in
set_option maxRecDepth 100000 in
theorem wX0_giveBack_76 {p : Program} {l : Launch} {e : Env} {s : State} {m : MethodId} {args : Array Value} {below : List Frame} {meth : Method} {c : Code} {A : Nat → Prop} {dC : Nat → ClassId} {dI : Nat → Nat → Nat} {h0 : Nat} {ad : Nat → Nat} {cs : Nat → ClassId} {f0 f1 f3 f4 f5 f6 : Nat → Int32} (C0 : sn_Cx cX0_giveBack 6 none RX0 p s m meth c args A (dC, dI) (sn_tyX0 cs)) (post : (Nat → Int32) → (Nat → Int32) → Prop) (kx : Int32 → (Nat → Int32) → Prop) : ∀ (n76 : Nat) (f2 f7 : Nat → Int32) (x2 x3 x4 x5 : Int32), mX0_giveBack_76 n76 f0 f1 f2 f7 x2 x3 x4 x5 kx → ∀ (H : Heap) (locs : List Loc), va_P (dC, dI) sn_cl (sn_pwX0 h0 ad cs f0 f1 f2 f3 f4 f5 f6 f7) H → va_D A (sn_pwX0 h0 ad cs f0 f1 f2 f3 f4 f5 f6 f7) → va_S A s.heap H locs → ∀ (ls : Array Slot), lv_has ls 6 [(0, .ref h0), (2, .int x2), (3, .int x3), (4, .int x4), (5, .int x5)] → (∀ (x2' : Int32) (f7' : Nat → Int32) (H : Heap) (locs : List Loc), kx x2' f7' → va_P (dC, dI) sn_cl (sn_pwX0 h0 ad cs f0 f1 f2 f3 f4 f5 f6 f7') H → va_D A (sn_pwX0 h0 ad cs f0 f1 f2 f3 f4 f5 f6 f7') → va_S A s.heap H locs → ∀ (ls : Array Slot), lv_has ls 6 [(0, .ref h0), (2, .int x2'), (3, .int x3)] → W p l e (headSpec (ws_ yX0_giveBack cX0_giveBack 6 none) ({ frames := 0, cells := 0, slots := 0, locals := 0 } : Room)).room s m args below meth c H locs 0 0 (MQ below (va_Qv (S := (Nat → Int32) × (Nat → Int32)) (fun u => post (u.1) (u.2)) (fun (u : (Nat → Int32) × (Nat → Int32)) (t : State) => sn_BX0 (dC, dI) A h0 ad cs f0 f1 (u.1) f3 f4 f5 f6 (u.2) t) A) args s 0 0 A) (F0 m 124 ls [])) → W p l e (headSpec (ws_ yX0_giveBack cX0_giveBack 6 none) ({ frames := 0, cells := 0, slots := 0, locals := 0 } : Room)).room s m args below meth c H locs 0 0 (MQ below (va_Qv (S := (Nat → Int32) × (Nat → Int32)) (fun u => post (u.1) (u.2)) (fun (u : (Nat → Int32) × (Nat → Int32)) (t : State) => sn_BX0 (dC, dI) A h0 ad cs f0 f1 (u.1) f3 f4 f5 f6 (u.2) t) A) args s 0 0 A) (F0 m 76 ls []) := by
  obtain ⟨hx, hb, hr, hlocks, hml, hown, hts, hA, hK⟩ := id C0
  intro n76
  induction n76 with
  | zero =>
    intro f2 f7 x2 x3 x4 x5 hm
    unfold mX0_giveBack_76 at hm
    exact False.elim hm
  | succ n76 ih76 =>
    intro f2 f7 x2 x3 x4 x5 hm H locs hP hD hS ls hl hk
    unfold mX0_giveBack_76 at hm
    refine lv_iload hx hb dX0_giveBack_76 (lv_at hl 4 rfl) ?_
    refine lv_iconst (v := (4 : Int32)) hx hb dX0_giveBack_78 (by decide) ?_
    refine lv_icmp_ge (tgt := 124) hx hb dX0_giveBack_79 (by decide) (fun c_1 => ?_) (fun c_1 => ?_)
    · have hm := hm.1 c_1
      exact hk x2 f7 H locs hm hP hD hS ls (lv_sub hl [0, 1, 2] rfl)
    · have hm := hm.2 c_1
      refine lv_aload_n hx hb dX0_giveBack_82 rfl (lv_at hl 0 rfl) ?_
      refine sn_gtX0_0 C0 hP dX0_giveBack_83 ?_
      refine lv_iconst (v := (4 : Int32)) hx hb dX0_giveBack_86 (by decide) ?_
      refine lv_iload hx hb dX0_giveBack_87 (lv_at hl 3 rfl) ?_
      refine lv_imul hx hb dX0_giveBack_89 ?_
      refine lv_iload hx hb dX0_giveBack_90 (lv_at hl 4 rfl) ?_
      refine lv_iadd hx hb dX0_giveBack_92 ?_
      obtain ⟨h_2, hm⟩ := hm
      refine sn_ldX0_0 C0 hP h_2 dX0_giveBack_93 ?_
      refine lv_if_lt (tgt := 118) hx hb dX0_giveBack_94 (by decide) (fun c_3 => ?_) (fun c_3 => ?_)
      · have hm := hm.1 c_3
        refine lv_iinc (v := (x5 + (1 : Int32))) (lv' := [(5, .int (x5 + (1 : Int32))), (0, .ref h0), (2, .int x2), (3, .int x3), (4, .int x4)]) hx hb dX0_giveBack_118 hl (k := 4) rfl rfl (by decide) rfl (fun ls hl => ?_)
        refine lv_goto (tgt := 76) hx hb dX0_giveBack_121 (by decide) ?_
        exact ih76 f2 f7 x2 x3 x4 (x5 + (1 : Int32)) hm H locs hP hD hS ls (lv_sub hl [1, 2, 3, 4, 0] rfl) hk
      · have hm := hm.2 c_3
        refine lv_aload_n hx hb dX0_giveBack_97 rfl (lv_at hl 0 rfl) ?_
        refine sn_gtX0_7 C0 hP dX0_giveBack_98 ?_
        refine lv_iload_n hx hb dX0_giveBack_101 rfl (lv_at hl 1 rfl) ?_
        refine lv_aload_n hx hb dX0_giveBack_102 rfl (lv_at hl 0 rfl) ?_
        refine sn_gtX0_0 C0 hP dX0_giveBack_103 ?_
        refine lv_iconst (v := (4 : Int32)) hx hb dX0_giveBack_106 (by decide) ?_
        refine lv_iload hx hb dX0_giveBack_107 (lv_at hl 3 rfl) ?_
        refine lv_imul hx hb dX0_giveBack_109 ?_
        refine lv_iload hx hb dX0_giveBack_110 (lv_at hl 4 rfl) ?_
        refine lv_iadd hx hb dX0_giveBack_112 ?_
        obtain ⟨h_4, hm⟩ := hm
        refine sn_ldX0_0 C0 hP h_4 dX0_giveBack_113 ?_
        obtain ⟨h_5, hm⟩ := hm
        refine sn_stX0_7 C0 hP hD hS h_5 dX0_giveBack_114 (fun H locs hP hD hS => ?_)
        refine lv_iinc (v := (x2 + (1 : Int32))) (lv' := [(2, .int (x2 + (1 : Int32))), (0, .ref h0), (3, .int x3), (4, .int x4), (5, .int x5)]) hx hb dX0_giveBack_115 hl (k := 1) rfl rfl (by decide) rfl (fun ls hl => ?_)
        refine lv_iinc (v := (x5 + (1 : Int32))) (lv' := [(5, .int (x5 + (1 : Int32))), (2, .int (x2 + (1 : Int32))), (0, .ref h0), (3, .int x3), (4, .int x4)]) hx hb dX0_giveBack_118 hl (k := 4) rfl rfl (by decide) rfl (fun ls hl => ?_)
        refine lv_goto (tgt := 76) hx hb dX0_giveBack_121 (by decide) ?_
        exact ih76 f2 (upd f7 (x2).toNatClampNeg (f0 (((4 : Int32) * x4) + x5).toNatClampNeg)) (x2 + (1 : Int32)) x3 x4 (x5 + (1 : Int32)) hm H locs hP hD hS ls (lv_sub hl [2, 1, 3, 4, 0] rfl) hk
set_option maxHeartbeats 4000000 in
set_option maxRecDepth 100000 in
theorem wX0_giveBack_16 {p : Program} {l : Launch} {e : Env} {s : State} {m : MethodId} {args : Array Value} {below : List Frame} {meth : Method} {c : Code} {A : Nat → Prop} {dC : Nat → ClassId} {dI : Nat → Nat → Nat} {h0 : Nat} {ad : Nat → Nat} {cs : Nat → ClassId} {f0 f1 f3 f4 f5 f6 : Nat → Int32} (C0 : sn_Cx cX0_giveBack 6 none RX0 p s m meth c args A (dC, dI) (sn_tyX0 cs)) (post : (Nat → Int32) → (Nat → Int32) → Prop) : ∀ (n16 : Nat) (f2 f7 : Nat → Int32) (x2 x3 : Int32), mX0_giveBack_16 n16 f0 f1 f2 f7 x2 x3 post → ∀ (H : Heap) (locs : List Loc), va_P (dC, dI) sn_cl (sn_pwX0 h0 ad cs f0 f1 f2 f3 f4 f5 f6 f7) H → va_D A (sn_pwX0 h0 ad cs f0 f1 f2 f3 f4 f5 f6 f7) → va_S A s.heap H locs → ∀ (ls : Array Slot), lv_has ls 6 [(0, .ref h0), (2, .int x2), (3, .int x3)] → W p l e (headSpec (ws_ yX0_giveBack cX0_giveBack 6 none) ({ frames := 0, cells := 0, slots := 0, locals := 0 } : Room)).room s m args below meth c H locs 0 0 (MQ below (va_Qv (S := (Nat → Int32) × (Nat → Int32)) (fun u => post (u.1) (u.2)) (fun (u : (Nat → Int32) × (Nat → Int32)) (t : State) => sn_BX0 (dC, dI) A h0 ad cs f0 f1 (u.1) f3 f4 f5 f6 (u.2) t) A) args s 0 0 A) (F0 m 16 ls []) := by
  obtain ⟨hx, hb, hr, hlocks, hml, hown, hts, hA, hK⟩ := id C0
  intro n16
  induction n16 with
  | zero =>
    intro f2 f7 x2 x3 hm
    unfold mX0_giveBack_16 at hm
    exact False.elim hm
  | succ n16 ih16 =>
    intro f2 f7 x2 x3 hm H locs hP hD hS ls hl
    unfold mX0_giveBack_16 at hm
    refine lv_iload_n hx hb dX0_giveBack_16 rfl (lv_at hl 2 rfl) ?_
    refine lv_sipush (v := (400 : Int32)) hx hb dX0_giveBack_17 (by decide) ?_
    refine lv_icmp_ge (tgt := 130) hx hb dX0_giveBack_20 (by decide) (fun c_1 => ?_) (fun c_1 => ?_)
    · have hm := hm.1 c_1
      exact W.vret hx hb hr (fun t ht hW => ⟨⟨⟨f2, f7⟩, rfl, hm, ⟨by rw [ht]; exact hP, va_K.moved hW.alike hK, hD⟩⟩, hS.F ht⟩) hS.2.2 dX0_giveBack_130
    · have hm := hm.2 c_1
      refine lv_iload_n hx hb dX0_giveBack_23 rfl (lv_at hl 1 rfl) ?_
      refine lv_if_le (tgt := 130) hx hb dX0_giveBack_24 (by decide) (fun c_2 => ?_) (fun c_2 => ?_)
      · have hm := hm.1 c_2
        exact W.vret hx hb hr (fun t ht hW => ⟨⟨⟨f2, f7⟩, rfl, hm, ⟨by rw [ht]; exact hP, va_K.moved hW.alike hK, hD⟩⟩, hS.F ht⟩) hS.2.2 dX0_giveBack_130
      · have hm := hm.2 c_2
        refine lv_iinc (v := (x2 + (-1 : Int32))) (lv' := [(2, .int (x2 + (-1 : Int32))), (0, .ref h0), (3, .int x3)]) hx hb dX0_giveBack_27 hl (k := 1) rfl rfl (by decide) rfl (fun ls hl => ?_)
        refine lv_aload_n hx hb dX0_giveBack_30 rfl (lv_at hl 1 rfl) ?_
        refine sn_gtX0_7 C0 hP dX0_giveBack_31 ?_
        refine lv_iload_n hx hb dX0_giveBack_34 rfl (lv_at hl 0 rfl) ?_
        obtain ⟨h_3, hm⟩ := hm
        refine sn_ldX0_7 C0 hP h_3 dX0_giveBack_35 ?_
        refine lv_istore (lv' := [(4, .int (f7 (x2 + (-1 : Int32)).toNatClampNeg)), (2, .int (x2 + (-1 : Int32))), (0, .ref h0), (3, .int x3)]) hx hb dX0_giveBack_36 hl (by decide) rfl (fun ls hl => ?_)
        refine lv_aload_n hx hb dX0_giveBack_38 rfl (lv_at hl 2 rfl) ?_
        refine sn_gtX0_2 C0 hP dX0_giveBack_39 ?_
        refine lv_iload hx hb dX0_giveBack_42 (lv_at hl 0 rfl) ?_
        refine lv_dup2_11 hx hb dX0_giveBack_44 rfl rfl ?_
        obtain ⟨h_4, hm⟩ := hm
        refine sn_ldX0_2 C0 hP h_4 dX0_giveBack_45 ?_
        refine lv_iconst (v := (1 : Int32)) hx hb dX0_giveBack_46 (by decide) ?_
        refine lv_isub hx hb dX0_giveBack_47 ?_
        obtain ⟨h_5, hm⟩ := hm
        refine sn_stX0_2 C0 hP hD hS h_5 dX0_giveBack_48 (fun H locs hP hD hS => ?_)
        refine lv_aload_n hx hb dX0_giveBack_49 rfl (lv_at hl 2 rfl) ?_
        refine sn_gtX0_2 C0 hP dX0_giveBack_50 ?_
        refine lv_iload hx hb dX0_giveBack_53 (lv_at hl 0 rfl) ?_
        obtain ⟨h_6, hm⟩ := hm
        refine sn_ldX0_2 C0 hP h_6 dX0_giveBack_55 ?_
        refine lv_if_ne (tgt := 124) hx hb dX0_giveBack_56 (by decide) (fun c_7 => ?_) (fun c_7 => ?_)
        · have hm := hm.1 c_7
          refine lv_iinc (v := (x3 + (1 : Int32))) (lv' := [(3, .int (x3 + (1 : Int32))), (4, .int (f7 (x2 + (-1 : Int32)).toNatClampNeg)), (2, .int (x2 + (-1 : Int32))), (0, .ref h0)]) hx hb dX0_giveBack_124 hl (k := 3) rfl rfl (by decide) rfl (fun ls hl => ?_)
          refine lv_goto (tgt := 16) hx hb dX0_giveBack_127 (by decide) ?_
          exact ih16 (upd f2 (f7 (x2 + (-1 : Int32)).toNatClampNeg).toNatClampNeg ((f2 (f7 (x2 + (-1 : Int32)).toNatClampNeg).toNatClampNeg) - (1 : Int32))) f7 (x2 + (-1 : Int32)) (x3 + (1 : Int32)) hm H locs hP hD hS ls (lv_sub hl [3, 2, 0] rfl)
        · have hm := hm.2 c_7
          refine lv_aload_n hx hb dX0_giveBack_59 rfl (lv_at hl 2 rfl) ?_
          refine sn_gtX0_1 C0 hP dX0_giveBack_60 ?_
          refine lv_iload hx hb dX0_giveBack_63 (lv_at hl 0 rfl) ?_
          obtain ⟨h_8, hm⟩ := hm
          refine sn_ldX0_1 C0 hP h_8 dX0_giveBack_65 ?_
          refine lv_sipush (v := (256 : Int32)) hx hb dX0_giveBack_66 (by decide) ?_
          refine lv_iand hx hb dX0_giveBack_69 ?_
          refine lv_if_ne (tgt := 124) hx hb dX0_giveBack_70 (by decide) (fun c_9 => ?_) (fun c_9 => ?_)
          · have hm := hm.1 c_9
            refine lv_iinc (v := (x3 + (1 : Int32))) (lv' := [(3, .int (x3 + (1 : Int32))), (4, .int (f7 (x2 + (-1 : Int32)).toNatClampNeg)), (2, .int (x2 + (-1 : Int32))), (0, .ref h0)]) hx hb dX0_giveBack_124 hl (k := 3) rfl rfl (by decide) rfl (fun ls hl => ?_)
            refine lv_goto (tgt := 16) hx hb dX0_giveBack_127 (by decide) ?_
            exact ih16 (upd f2 (f7 (x2 + (-1 : Int32)).toNatClampNeg).toNatClampNeg ((f2 (f7 (x2 + (-1 : Int32)).toNatClampNeg).toNatClampNeg) - (1 : Int32))) f7 (x2 + (-1 : Int32)) (x3 + (1 : Int32)) hm H locs hP hD hS ls (lv_sub hl [3, 2, 0] rfl)
          · have hm := hm.2 c_9
            refine lv_iconst (v := (0 : Int32)) hx hb dX0_giveBack_73 (by decide) ?_
            refine lv_istore (lv' := [(5, .int (0 : Int32)), (4, .int (f7 (x2 + (-1 : Int32)).toNatClampNeg)), (2, .int (x2 + (-1 : Int32))), (0, .ref h0), (3, .int x3)]) hx hb dX0_giveBack_74 hl (by decide) rfl (fun ls hl => ?_)
            obtain ⟨n76, hm⟩ := hm
            refine wX0_giveBack_76 C0 post _ n76 (upd f2 (f7 (x2 + (-1 : Int32)).toNatClampNeg).toNatClampNeg ((f2 (f7 (x2 + (-1 : Int32)).toNatClampNeg).toNatClampNeg) - (1 : Int32))) f7 (x2 + (-1 : Int32)) x3 (f7 (x2 + (-1 : Int32)).toNatClampNeg) (0 : Int32) hm H locs hP hD hS ls (lv_sub hl [3, 2, 4, 1, 0] rfl) (fun x2_10 f7_10 H locs hm hP hD hS ls hl => ?_)
            refine lv_iinc (v := (x3 + (1 : Int32))) (lv' := [(3, .int (x3 + (1 : Int32))), (0, .ref h0), (2, .int x2_10)]) hx hb dX0_giveBack_124 hl (k := 2) rfl rfl (by decide) rfl (fun ls hl => ?_)
            refine lv_goto (tgt := 16) hx hb dX0_giveBack_127 (by decide) ?_
            exact ih16 (upd f2 (f7 (x2 + (-1 : Int32)).toNatClampNeg).toNatClampNeg ((f2 (f7 (x2 + (-1 : Int32)).toNatClampNeg).toNatClampNeg) - (1 : Int32))) f7_10 x2_10 (x3 + (1 : Int32)) hm H locs hP hD hS ls (lv_sub hl [1, 2, 0] rfl)
set_option maxHeartbeats 4000000 in
set_option maxRecDepth 100000 in
theorem wX0_giveBack_0 {p : Program} {l : Launch} {e : Env} {s : State} {m : MethodId} {args : Array Value} {below : List Frame} {meth : Method} {c : Code} {A : Nat → Prop} {dC : Nat → ClassId} {dI : Nat → Nat → Nat} {h0 : Nat} {ad : Nat → Nat} {cs : Nat → ClassId} {f0 f1 f3 f4 f5 f6 : Nat → Int32} (C0 : sn_Cx cX0_giveBack 6 none RX0 p s m meth c args A (dC, dI) (sn_tyX0 cs)) (post : (Nat → Int32) → (Nat → Int32) → Prop) (f2 f7 : Nat → Int32) (x1 : Int32) (hm : mX0_giveBack f0 f1 f2 f7 x1 post) (H : Heap) (locs : List Loc) (hP : va_P (dC, dI) sn_cl (sn_pwX0 h0 ad cs f0 f1 f2 f3 f4 f5 f6 f7) H) (hD : va_D A (sn_pwX0 h0 ad cs f0 f1 f2 f3 f4 f5 f6 f7)) (hS : va_S A s.heap H locs) (ls : Array Slot) (hl : lv_has ls 6 [(0, .ref h0), (1, .int x1)]) : W p l e (headSpec (ws_ yX0_giveBack cX0_giveBack 6 none) ({ frames := 0, cells := 0, slots := 0, locals := 0 } : Room)).room s m args below meth c H locs 0 0 (MQ below (va_Qv (S := (Nat → Int32) × (Nat → Int32)) (fun u => post (u.1) (u.2)) (fun (u : (Nat → Int32) × (Nat → Int32)) (t : State) => sn_BX0 (dC, dI) A h0 ad cs f0 f1 (u.1) f3 f4 f5 f6 (u.2) t) A) args s 0 0 A) (F0 m 0 ls []) := by
  obtain ⟨hx, hb, hr, hlocks, hml, hown, hts, hA, hK⟩ := id C0
  unfold mX0_giveBack at hm
  refine lv_iload_n hx hb dX0_giveBack_0 rfl (lv_at hl 1 rfl) ?_
  refine lv_if_ge (tgt := 5) hx hb dX0_giveBack_1 (by decide) (fun c_1 => ?_) (fun c_1 => ?_)
  · have hm := hm.1 c_1
    refine lv_aload_n hx hb dX0_giveBack_5 rfl (lv_at hl 0 rfl) ?_
    refine sn_gtX0_7 C0 hP dX0_giveBack_6 ?_
    refine lv_iconst (v := (0 : Int32)) hx hb dX0_giveBack_9 (by decide) ?_
    refine lv_iload_n hx hb dX0_giveBack_10 rfl (lv_at hl 1 rfl) ?_
    obtain ⟨h_2, hm⟩ := hm
    refine sn_stX0_7 C0 hP hD hS h_2 dX0_giveBack_11 (fun H locs hP hD hS => ?_)
    refine lv_iconst (v := (1 : Int32)) hx hb dX0_giveBack_12 (by decide) ?_
    refine lv_istore_n (lv' := [(2, .int (1 : Int32)), (0, .ref h0), (1, .int x1)]) hx hb dX0_giveBack_13 rfl hl (by decide) rfl (fun ls hl => ?_)
    refine lv_iconst (v := (0 : Int32)) hx hb dX0_giveBack_14 (by decide) ?_
    refine lv_istore_n (lv' := [(3, .int (0 : Int32)), (2, .int (1 : Int32)), (0, .ref h0), (1, .int x1)]) hx hb dX0_giveBack_15 rfl hl (by decide) rfl (fun ls hl => ?_)
    obtain ⟨n16, hm⟩ := hm
    exact wX0_giveBack_16 C0 post n16 f2 (upd f7 (0 : Int32).toNatClampNeg x1) (1 : Int32) (0 : Int32) hm H locs hP hD hS ls (lv_sub hl [2, 1, 0] rfl)
  · have hm := hm.2 c_1
    exact W.vret hx hb hr (fun t ht hW => ⟨⟨⟨f2, f7⟩, rfl, hm, ⟨by rw [ht]; exact hP, va_K.moved hW.alike hK, hD⟩⟩, hS.F ht⟩) hS.2.2 dX0_giveBack_4
set_option maxHeartbeats 4000000 in
set_option maxRecDepth 100000 in
theorem kX0_giveBack (l : Launch) (dC : Nat → ClassId) (dI : Nat → Nat → Nat) (h0 : Nat) (ad : Nat → Nat) (cs : Nat → ClassId) (sz : Nat) (f0 f1 f2 f3 f4 f5 f6 f7 : Nat → Int32) (x1 : Int32) (post : (Nat → Int32) → (Nat → Int32) → Prop) (hm : mX0_giveBack f0 f1 f2 f7 x1 post) : Met l yX0_giveBack (ws_ yX0_giveBack cX0_giveBack 6 none) ({ frames := 0, cells := 0, slots := 0, locals := 0 } : Room) (va_Pc [.ref h0, .int x1] (sn_PX (dC, dI) (sn_tyX0 cs) (sn_pwX0 h0 ad cs f0 f1 f2 f3 f4 f5 f6 f7) sz)) (va_Qv (S := (Nat → Int32) × (Nat → Int32)) (fun u => post (u.1) (u.2)) (fun (u : (Nat → Int32) × (Nat → Int32)) (t : State) => sn_BX0 (dC, dI) (va_A (sn_pwX0 h0 ad cs f0 f1 f2 f3 f4 f5 f6 f7) sz) h0 ad cs f0 f1 (u.1) f3 f4 f5 f6 (u.2) t) (va_A (sn_pwX0 h0 ad cs f0 f1 f2 f3 f4 f5 f6 f7) sz)) 0 0 (va_A (sn_pwX0 h0 ad cs f0 f1 f2 f3 f4 f5 f6 f7) sz) := by
  refine sn_mk_V (n := 6) (RC := RX0) (Q := fun A => (va_Qv (S := (Nat → Int32) × (Nat → Int32)) (fun u => post (u.1) (u.2)) (fun (u : (Nat → Int32) × (Nat → Int32)) (t : State) => sn_BX0 (dC, dI) A h0 ad cs f0 f1 (u.1) f3 f4 f5 f6 (u.2) t) A)) (by decide) rfl (Nat.le_of_ble_eq_true rfl) ?_
  intro p e s m below meth c A ls C0 hP hD hl
  exact wX0_giveBack_0 C0 post f2 f7 x1 hm _ _ hP hD va_S.rf ls hl
set_option maxHeartbeats 4000000 in
set_option maxRecDepth 100000 in
theorem wX0_commit_2 {p : Program} {l : Launch} {e : Env} {s : State} {m : MethodId} {args : Array Value} {below : List Frame} {meth : Method} {c : Code} {A : Nat → Prop} {dC : Nat → ClassId} {dI : Nat → Nat → Nat} {h0 : Nat} {ad : Nat → Nat} {cs : Nat → ClassId} {f0 f1 f6 f7 : Nat → Int32} (C0 : sn_Cx cX0_commit 2 (some .int) RX0 p s m meth c args A (dC, dI) (sn_tyX0 cs)) (post : Int32 → (Nat → Int32) → (Nat → Int32) → (Nat → Int32) → (Nat → Int32) → Prop) : ∀ (n2 : Nat) (f2 f3 f4 f5 : Nat → Int32) (x1 : Int32), mX0_commit_2 n2 f2 f3 f4 f5 x1 post → ∀ (H : Heap) (locs : List Loc), va_P (dC, dI) sn_cl (sn_pwX0 h0 ad cs f0 f1 f2 f3 f4 f5 f6 f7) H → va_D A (sn_pwX0 h0 ad cs f0 f1 f2 f3 f4 f5 f6 f7) → va_S A s.heap H locs → ∀ (ls : Array Slot), lv_has ls 2 [(0, .ref h0), (1, .int x1)] → W p l e (headSpec (ws_ yX0_commit cX0_commit 2 (some .int)) ({ frames := 1, cells := 0, slots := 0, locals := 22 } : Room)).room s m args below meth c H locs 0 0 (MQ below (va_Qi (S := (Nat → Int32) × (Nat → Int32) × (Nat → Int32) × (Nat → Int32)) (fun r u => post r (u.1) (u.2.1) (u.2.2.1) (u.2.2.2)) (fun (u : (Nat → Int32) × (Nat → Int32) × (Nat → Int32) × (Nat → Int32)) (t : State) => sn_BX0 (dC, dI) A h0 ad cs f0 f1 (u.1) (u.2.1) (u.2.2.1) (u.2.2.2) f6 f7 t) A) args s 0 0 A) (F0 m 2 ls []) := by
  obtain ⟨hx, hb, hr, hlocks, hml, hown, hts, hA, hK⟩ := id C0
  intro n2
  induction n2 with
  | zero =>
    intro f2 f3 f4 f5 x1 hm
    unfold mX0_commit_2 at hm
    exact False.elim hm
  | succ n2 ih2 =>
    intro f2 f3 f4 f5 x1 hm H locs hP hD hS ls hl
    unfold mX0_commit_2 at hm
    refine lv_iload_n hx hb dX0_commit_2 rfl (lv_at hl 1 rfl) ?_
    refine lv_bipush (v := (8 : Int32)) hx hb dX0_commit_3 (by decide) ?_
    refine lv_icmp_ge (tgt := 40) hx hb dX0_commit_5 (by decide) (fun c_1 => ?_) (fun c_1 => ?_)
    · have hm := hm.1 c_1
      refine lv_iconst (v := (-1 : Int32)) hx hb dX0_commit_40 (by decide) ?_
      exact W.iret (v := (-1 : Int32)) hx hb hr (fun t ht hW => ⟨⟨(-1 : Int32), ⟨f2, f3, f4, f5⟩, rfl, hm, ⟨by rw [ht]; exact hP, va_K.moved hW.alike hK, hD⟩⟩, hS.F ht⟩) hS.2.2 dX0_commit_41
    · have hm := hm.2 c_1
      refine lv_aload_n hx hb dX0_commit_8 rfl (lv_at hl 0 rfl) ?_
      refine sn_gtX0_3 C0 hP dX0_commit_9 ?_
      refine lv_iload_n hx hb dX0_commit_12 rfl (lv_at hl 1 rfl) ?_
      obtain ⟨h_2, hm⟩ := hm
      refine sn_ldX0_3 C0 hP h_2 dX0_commit_13 ?_
      refine lv_if_ne (tgt := 34) hx hb dX0_commit_14 (by decide) (fun c_3 => ?_) (fun c_3 => ?_)
      · have hm := hm.1 c_3
        refine lv_iinc (v := (x1 + (1 : Int32))) (lv' := [(1, .int (x1 + (1 : Int32))), (0, .ref h0)]) hx hb dX0_commit_34 hl (k := 1) rfl rfl (by decide) rfl (fun ls hl => ?_)
        refine lv_goto (tgt := 2) hx hb dX0_commit_37 (by decide) ?_
        exact ih2 f2 f3 f4 f5 (x1 + (1 : Int32)) hm H locs hP hD hS ls (lv_sub hl [1, 0] rfl)
      · have hm := hm.2 c_3
        refine lv_aload_n hx hb dX0_commit_17 rfl (lv_at hl 0 rfl) ?_
        refine sn_gtX0_3 C0 hP dX0_commit_18 ?_
        refine lv_iload_n hx hb dX0_commit_21 rfl (lv_at hl 1 rfl) ?_
        refine lv_iconst (v := (1 : Int32)) hx hb dX0_commit_22 (by decide) ?_
        obtain ⟨h_4, hm⟩ := hm
        refine sn_stX0_3 C0 hP hD hS h_4 dX0_commit_23 (fun H locs hP hD hS => ?_)
        refine lv_aload_n hx hb dX0_commit_24 rfl (lv_at hl 0 rfl) ?_
        refine lv_iconst (v := (0 : Int32)) hx hb dX0_commit_25 (by decide) ?_
        refine lv_iload_n hx hb dX0_commit_26 rfl (lv_at hl 1 rfl) ?_
        refine sn_cl_Vv (As := [.int (0 : Int32), .int x1]) (rest := []) (w1 := (fun (u : (Nat → Int32) × (Nat → Int32) × (Nat → Int32)) => sn_pwX0 h0 ad cs (f0) (f1) (u.1) (upd f3 (x1).toNatClampNeg (vp_nar .boolean (1 : Int32))) (u.2.1) (u.2.2) (f6) (f7))) ⟨hx, hb, hml, hown, hts⟩ (kX0_share l dC dI h0 ad cs H.size f0 f1 f2 (upd f3 (x1).toNatClampNeg (vp_nar .boolean (1 : Int32))) f4 f5 f6 f7 (0 : Int32) x1 _ hm) (cwV 2 hts (lw_V q103 q105 qs8 q19 q106) rfl rfl rfl (by decide +kernel) ⟨Nat.le_of_ble_eq_true rfl, Nat.le_of_ble_eq_true rfl⟩) (va_recv hK hP (ci := 0) (q0 := 0) rfl rfl) hP hD hK hS hA rfl hl.1 rfl (lv_room (Nat.le_of_ble_eq_true rfl)) dX0_commit_27 ⟨Nat.le_refl 0, Nat.le_refl 0⟩ (fun u H locs hm hP hD hS => ?_)
        obtain ⟨f2_5, f4_5, f5_5⟩ := u
        refine lv_iload_n hx hb dX0_commit_30 rfl (lv_at hl 1 rfl) ?_
        refine lv_iconst (v := (1 : Int32)) hx hb dX0_commit_31 (by decide) ?_
        refine lv_isub hx hb dX0_commit_32 ?_
        exact W.iret (v := (x1 - (1 : Int32))) hx hb hr (fun t ht hW => ⟨⟨(x1 - (1 : Int32)), ⟨f2_5, (upd f3 (x1).toNatClampNeg (vp_nar .boolean (1 : Int32))), f4_5, f5_5⟩, rfl, hm, ⟨by rw [ht]; exact hP, va_K.moved hW.alike hK, hD⟩⟩, hS.F ht⟩) hS.2.2 dX0_commit_33
set_option maxHeartbeats 4000000 in
set_option maxRecDepth 100000 in
theorem wX0_commit_0 {p : Program} {l : Launch} {e : Env} {s : State} {m : MethodId} {args : Array Value} {below : List Frame} {meth : Method} {c : Code} {A : Nat → Prop} {dC : Nat → ClassId} {dI : Nat → Nat → Nat} {h0 : Nat} {ad : Nat → Nat} {cs : Nat → ClassId} {f0 f1 f6 f7 : Nat → Int32} (C0 : sn_Cx cX0_commit 2 (some .int) RX0 p s m meth c args A (dC, dI) (sn_tyX0 cs)) (post : Int32 → (Nat → Int32) → (Nat → Int32) → (Nat → Int32) → (Nat → Int32) → Prop) (f2 f3 f4 f5 : Nat → Int32) (hm : mX0_commit f2 f3 f4 f5 post) (H : Heap) (locs : List Loc) (hP : va_P (dC, dI) sn_cl (sn_pwX0 h0 ad cs f0 f1 f2 f3 f4 f5 f6 f7) H) (hD : va_D A (sn_pwX0 h0 ad cs f0 f1 f2 f3 f4 f5 f6 f7)) (hS : va_S A s.heap H locs) (ls : Array Slot) (hl : lv_has ls 2 [(0, .ref h0)]) : W p l e (headSpec (ws_ yX0_commit cX0_commit 2 (some .int)) ({ frames := 1, cells := 0, slots := 0, locals := 22 } : Room)).room s m args below meth c H locs 0 0 (MQ below (va_Qi (S := (Nat → Int32) × (Nat → Int32) × (Nat → Int32) × (Nat → Int32)) (fun r u => post r (u.1) (u.2.1) (u.2.2.1) (u.2.2.2)) (fun (u : (Nat → Int32) × (Nat → Int32) × (Nat → Int32) × (Nat → Int32)) (t : State) => sn_BX0 (dC, dI) A h0 ad cs f0 f1 (u.1) (u.2.1) (u.2.2.1) (u.2.2.2) f6 f7 t) A) args s 0 0 A) (F0 m 0 ls []) := by
  obtain ⟨hx, hb, hr, hlocks, hml, hown, hts, hA, hK⟩ := id C0
  unfold mX0_commit at hm
  refine lv_iconst (v := (1 : Int32)) hx hb dX0_commit_0 (by decide) ?_
  refine lv_istore_n (lv' := [(1, .int (1 : Int32)), (0, .ref h0)]) hx hb dX0_commit_1 rfl hl (by decide) rfl (fun ls hl => ?_)
  obtain ⟨n2, hm⟩ := hm
  exact wX0_commit_2 C0 post n2 f2 f3 f4 f5 (1 : Int32) hm H locs hP hD hS ls (lv_sub hl [1, 0] rfl)
set_option maxHeartbeats 4000000 in
set_option maxRecDepth 100000 in
theorem kX0_commit (l : Launch) (dC : Nat → ClassId) (dI : Nat → Nat → Nat) (h0 : Nat) (ad : Nat → Nat) (cs : Nat → ClassId) (sz : Nat) (f0 f1 f2 f3 f4 f5 f6 f7 : Nat → Int32) (post : Int32 → (Nat → Int32) → (Nat → Int32) → (Nat → Int32) → (Nat → Int32) → Prop) (hm : mX0_commit f2 f3 f4 f5 post) : Met l yX0_commit (ws_ yX0_commit cX0_commit 2 (some .int)) ({ frames := 1, cells := 0, slots := 0, locals := 22 } : Room) (va_Pc [.ref h0] (sn_PX (dC, dI) (sn_tyX0 cs) (sn_pwX0 h0 ad cs f0 f1 f2 f3 f4 f5 f6 f7) sz)) (va_Qi (S := (Nat → Int32) × (Nat → Int32) × (Nat → Int32) × (Nat → Int32)) (fun r u => post r (u.1) (u.2.1) (u.2.2.1) (u.2.2.2)) (fun (u : (Nat → Int32) × (Nat → Int32) × (Nat → Int32) × (Nat → Int32)) (t : State) => sn_BX0 (dC, dI) (va_A (sn_pwX0 h0 ad cs f0 f1 f2 f3 f4 f5 f6 f7) sz) h0 ad cs f0 f1 (u.1) (u.2.1) (u.2.2.1) (u.2.2.2) f6 f7 t) (va_A (sn_pwX0 h0 ad cs f0 f1 f2 f3 f4 f5 f6 f7) sz)) 0 0 (va_A (sn_pwX0 h0 ad cs f0 f1 f2 f3 f4 f5 f6 f7) sz) := by
  refine sn_mk_V (n := 2) (RC := RX0) (Q := fun A => (va_Qi (S := (Nat → Int32) × (Nat → Int32) × (Nat → Int32) × (Nat → Int32)) (fun r u => post r (u.1) (u.2.1) (u.2.2.1) (u.2.2.2)) (fun (u : (Nat → Int32) × (Nat → Int32) × (Nat → Int32) × (Nat → Int32)) (t : State) => sn_BX0 (dC, dI) A h0 ad cs f0 f1 (u.1) (u.2.1) (u.2.2.1) (u.2.2.2) f6 f7 t) A)) (by decide) rfl (Nat.le_of_ble_eq_true rfl) ?_
  intro p e s m below meth c A ls C0 hP hD hl
  exact wX0_commit_0 C0 post f2 f3 f4 f5 hm _ _ hP hD va_S.rf ls hl
set_option maxHeartbeats 4000000 in
set_option maxRecDepth 100000 in
theorem wX0_restore_0 {p : Program} {l : Launch} {e : Env} {s : State} {m : MethodId} {args : Array Value} {below : List Frame} {meth : Method} {c : Code} {A : Nat → Prop} {dC : Nat → ClassId} {dI : Nat → Nat → Nat} {h0 : Nat} {ad : Nat → Nat} {cs : Nat → ClassId} {f0 f1 f3 f6 : Nat → Int32} (C0 : sn_Cx cX0_restore 3 (some .int) RX0 p s m meth c args A (dC, dI) (sn_tyX0 cs)) (post : Int32 → (Nat → Int32) → (Nat → Int32) → (Nat → Int32) → (Nat → Int32) → Prop) (f2 f4 f5 f7 : Nat → Int32) (x1 : Int32) (hm : mX0_restore f0 f1 f2 f3 f4 f5 f7 x1 post) (H : Heap) (locs : List Loc) (hP : va_P (dC, dI) sn_cl (sn_pwX0 h0 ad cs f0 f1 f2 f3 f4 f5 f6 f7) H) (hD : va_D A (sn_pwX0 h0 ad cs f0 f1 f2 f3 f4 f5 f6 f7)) (hS : va_S A s.heap H locs) (ls : Array Slot) (hl : lv_has ls 3 [(0, .ref h0), (1, .int x1)]) : W p l e (headSpec (ws_ yX0_restore cX0_restore 3 (some .int)) ({ frames := 1, cells := 0, slots := 0, locals := 25 } : Room)).room s m args below meth c H locs 0 0 (MQ below (va_Qi (S := (Nat → Int32) × (Nat → Int32) × (Nat → Int32) × (Nat → Int32)) (fun r u => post r (u.1) (u.2.1) (u.2.2.1) (u.2.2.2)) (fun (u : (Nat → Int32) × (Nat → Int32) × (Nat → Int32) × (Nat → Int32)) (t : State) => sn_BX0 (dC, dI) A h0 ad cs f0 f1 (u.1) f3 (u.2.1) (u.2.2.1) f6 (u.2.2.2) t) A) args s 0 0 A) (F0 m 0 ls []) := by
  obtain ⟨hx, hb, hr, hlocks, hml, hown, hts, hA, hK⟩ := id C0
  unfold mX0_restore at hm
  refine lv_iload_n hx hb dX0_restore_0 rfl (lv_at hl 1 rfl) ?_
  refine lv_if_lt (tgt := 21) hx hb dX0_restore_1 (by decide) (fun c_1 => ?_) (fun c_1 => ?_)
  · have hm := hm.1 c_1
    refine lv_iconst (v := (-1 : Int32)) hx hb dX0_restore_21 (by decide) ?_
    exact W.iret (v := (-1 : Int32)) hx hb hr (fun t ht hW => ⟨⟨(-1 : Int32), ⟨f2, f4, f5, f7⟩, rfl, hm, ⟨by rw [ht]; exact hP, va_K.moved hW.alike hK, hD⟩⟩, hS.F ht⟩) hS.2.2 dX0_restore_22
  · have hm := hm.2 c_1
    refine lv_iload_n hx hb dX0_restore_4 rfl (lv_at hl 1 rfl) ?_
    refine lv_bipush (v := (6 : Int32)) hx hb dX0_restore_5 (by decide) ?_
    refine lv_icmp_gt (tgt := 21) hx hb dX0_restore_7 (by decide) (fun c_2 => ?_) (fun c_2 => ?_)
    · have hm := hm.1 c_2
      refine lv_iconst (v := (-1 : Int32)) hx hb dX0_restore_21 (by decide) ?_
      exact W.iret (v := (-1 : Int32)) hx hb hr (fun t ht hW => ⟨⟨(-1 : Int32), ⟨f2, f4, f5, f7⟩, rfl, hm, ⟨by rw [ht]; exact hP, va_K.moved hW.alike hK, hD⟩⟩, hS.F ht⟩) hS.2.2 dX0_restore_22
    · have hm := hm.2 c_2
      refine lv_aload_n hx hb dX0_restore_10 rfl (lv_at hl 0 rfl) ?_
      refine sn_gtX0_3 C0 hP dX0_restore_11 ?_
      refine lv_iload_n hx hb dX0_restore_14 rfl (lv_at hl 1 rfl) ?_
      refine lv_iconst (v := (1 : Int32)) hx hb dX0_restore_15 (by decide) ?_
      refine lv_iadd hx hb dX0_restore_16 ?_
      obtain ⟨h_3, hm⟩ := hm
      refine sn_ldX0_3 C0 hP h_3 dX0_restore_17 ?_
      refine lv_if_ne (tgt := 23) hx hb dX0_restore_18 (by decide) (fun c_4 => ?_) (fun c_4 => ?_)
      · have hm := hm.1 c_4
        refine lv_aload_n hx hb dX0_restore_23 rfl (lv_at hl 0 rfl) ?_
        refine sn_gtX0_4 C0 hP dX0_restore_24 ?_
        refine lv_iconst (v := (0 : Int32)) hx hb dX0_restore_27 (by decide) ?_
        obtain ⟨h_5, hm⟩ := hm
        refine sn_ldX0_4 C0 hP h_5 dX0_restore_28 ?_
        refine lv_istore_n (lv' := [(2, .int (f4 (0 : Int32).toNatClampNeg)), (0, .ref h0), (1, .int x1)]) hx hb dX0_restore_29 rfl hl (by decide) rfl (fun ls hl => ?_)
        refine lv_aload_n hx hb dX0_restore_30 rfl (lv_at hl 1 rfl) ?_
        refine lv_iload_n hx hb dX0_restore_31 rfl (lv_at hl 2 rfl) ?_
        refine lv_iconst (v := (1 : Int32)) hx hb dX0_restore_32 (by decide) ?_
        refine lv_iadd hx hb dX0_restore_33 ?_
        refine lv_iconst (v := (0 : Int32)) hx hb dX0_restore_34 (by decide) ?_
        refine sn_cl_Vv (As := [.int (x1 + (1 : Int32)), .int (0 : Int32)]) (rest := []) (w1 := (fun (u : (Nat → Int32) × (Nat → Int32) × (Nat → Int32)) => sn_pwX0 h0 ad cs (f0) (f1) (u.1) (f3) (u.2.1) (u.2.2) (f6) (f7))) ⟨hx, hb, hml, hown, hts⟩ (kX0_share l dC dI h0 ad cs H.size f0 f1 f2 f3 f4 f5 f6 f7 (x1 + (1 : Int32)) (0 : Int32) _ hm) (cwV 2 hts (lw_V q103 q105 qs8 q19 q106) rfl rfl rfl (by decide +kernel) ⟨Nat.le_of_ble_eq_true rfl, Nat.le_of_ble_eq_true rfl⟩) (va_recv hK hP (ci := 0) (q0 := 0) rfl rfl) hP hD hK hS hA rfl hl.1 rfl (lv_room (Nat.le_of_ble_eq_true rfl)) dX0_restore_35 ⟨Nat.le_refl 0, Nat.le_refl 0⟩ (fun u H locs hm hP hD hS => ?_)
        obtain ⟨f2_6, f4_6, f5_6⟩ := u
        refine lv_aload_n hx hb dX0_restore_38 rfl (lv_at hl 1 rfl) ?_
        refine lv_iload_n hx hb dX0_restore_39 rfl (lv_at hl 0 rfl) ?_
        refine sn_cl_Vv (As := [.int (f4 (0 : Int32).toNatClampNeg)]) (rest := []) (w1 := (fun (u : (Nat → Int32) × (Nat → Int32)) => sn_pwX0 h0 ad cs (f0) (f1) (u.1) (f3) (f4_6) (f5_6) (f6) (u.2))) ⟨hx, hb, hml, hown, hts⟩ (kX0_giveBack l dC dI h0 ad cs H.size f0 f1 f2_6 f3 f4_6 f5_6 f6 f7 (f4 (0 : Int32).toNatClampNeg) _ hm) (cwV 1 hts (lw_V q111 q113 qs9 q19 q114) rfl rfl rfl (by decide +kernel) ⟨Nat.le_of_ble_eq_true rfl, Nat.le_of_ble_eq_true rfl⟩) (va_recv hK hP (ci := 0) (q0 := 0) rfl rfl) hP hD hK hS hA rfl hl.1 rfl (lv_room (Nat.le_of_ble_eq_true rfl)) dX0_restore_40 ⟨Nat.le_refl 0, Nat.le_refl 0⟩ (fun u H locs hm hP hD hS => ?_)
        obtain ⟨f2_7, f7_7⟩ := u
        refine lv_aload_n hx hb dX0_restore_43 rfl (lv_at hl 1 rfl) ?_
        refine sn_gtX0_5 C0 hP dX0_restore_44 ?_
        refine lv_iconst (v := (0 : Int32)) hx hb dX0_restore_47 (by decide) ?_
        obtain ⟨h_8, hm⟩ := hm
        refine sn_ldX0_5 C0 hP h_8 dX0_restore_48 ?_
        exact W.iret (v := (f5_6 (0 : Int32).toNatClampNeg)) hx hb hr (fun t ht hW => ⟨⟨(f5_6 (0 : Int32).toNatClampNeg), ⟨f2_7, f4_6, f5_6, f7_7⟩, rfl, hm, ⟨by rw [ht]; exact hP, va_K.moved hW.alike hK, hD⟩⟩, hS.F ht⟩) hS.2.2 dX0_restore_49
      · have hm := hm.2 c_4
        refine lv_iconst (v := (-1 : Int32)) hx hb dX0_restore_21 (by decide) ?_
        exact W.iret (v := (-1 : Int32)) hx hb hr (fun t ht hW => ⟨⟨(-1 : Int32), ⟨f2, f4, f5, f7⟩, rfl, hm, ⟨by rw [ht]; exact hP, va_K.moved hW.alike hK, hD⟩⟩, hS.F ht⟩) hS.2.2 dX0_restore_22
set_option maxHeartbeats 4000000 in
set_option maxRecDepth 100000 in
theorem kX0_restore (l : Launch) (dC : Nat → ClassId) (dI : Nat → Nat → Nat) (h0 : Nat) (ad : Nat → Nat) (cs : Nat → ClassId) (sz : Nat) (f0 f1 f2 f3 f4 f5 f6 f7 : Nat → Int32) (x1 : Int32) (post : Int32 → (Nat → Int32) → (Nat → Int32) → (Nat → Int32) → (Nat → Int32) → Prop) (hm : mX0_restore f0 f1 f2 f3 f4 f5 f7 x1 post) : Met l yX0_restore (ws_ yX0_restore cX0_restore 3 (some .int)) ({ frames := 1, cells := 0, slots := 0, locals := 25 } : Room) (va_Pc [.ref h0, .int x1] (sn_PX (dC, dI) (sn_tyX0 cs) (sn_pwX0 h0 ad cs f0 f1 f2 f3 f4 f5 f6 f7) sz)) (va_Qi (S := (Nat → Int32) × (Nat → Int32) × (Nat → Int32) × (Nat → Int32)) (fun r u => post r (u.1) (u.2.1) (u.2.2.1) (u.2.2.2)) (fun (u : (Nat → Int32) × (Nat → Int32) × (Nat → Int32) × (Nat → Int32)) (t : State) => sn_BX0 (dC, dI) (va_A (sn_pwX0 h0 ad cs f0 f1 f2 f3 f4 f5 f6 f7) sz) h0 ad cs f0 f1 (u.1) f3 (u.2.1) (u.2.2.1) f6 (u.2.2.2) t) (va_A (sn_pwX0 h0 ad cs f0 f1 f2 f3 f4 f5 f6 f7) sz)) 0 0 (va_A (sn_pwX0 h0 ad cs f0 f1 f2 f3 f4 f5 f6 f7) sz) := by
  refine sn_mk_V (n := 3) (RC := RX0) (Q := fun A => (va_Qi (S := (Nat → Int32) × (Nat → Int32) × (Nat → Int32) × (Nat → Int32)) (fun r u => post r (u.1) (u.2.1) (u.2.2.1) (u.2.2.2)) (fun (u : (Nat → Int32) × (Nat → Int32) × (Nat → Int32) × (Nat → Int32)) (t : State) => sn_BX0 (dC, dI) A h0 ad cs f0 f1 (u.1) f3 (u.2.1) (u.2.2.1) f6 (u.2.2.2) t) A)) (by decide) rfl (Nat.le_of_ble_eq_true rfl) ?_
  intro p e s m below meth c A ls C0 hP hD hl
  exact wX0_restore_0 C0 post f2 f4 f5 f7 x1 hm _ _ hP hD va_S.rf ls hl
set_option maxHeartbeats 4000000 in
set_option maxRecDepth 100000 in
theorem wX0_drop_0 {p : Program} {l : Launch} {e : Env} {s : State} {m : MethodId} {args : Array Value} {below : List Frame} {meth : Method} {c : Code} {A : Nat → Prop} {dC : Nat → ClassId} {dI : Nat → Nat → Nat} {h0 : Nat} {ad : Nat → Nat} {cs : Nat → ClassId} {f0 f1 f6 : Nat → Int32} (C0 : sn_Cx cX0_drop 2 (some .int) RX0 p s m meth c args A (dC, dI) (sn_tyX0 cs)) (post : Int32 → (Nat → Int32) → (Nat → Int32) → (Nat → Int32) → (Nat → Int32) → (Nat → Int32) → Prop) (f2 f3 f4 f5 f7 : Nat → Int32) (x1 : Int32) (hm : mX0_drop f0 f1 f2 f3 f4 f5 f7 x1 post) (H : Heap) (locs : List Loc) (hP : va_P (dC, dI) sn_cl (sn_pwX0 h0 ad cs f0 f1 f2 f3 f4 f5 f6 f7) H) (hD : va_D A (sn_pwX0 h0 ad cs f0 f1 f2 f3 f4 f5 f6 f7)) (hS : va_S A s.heap H locs) (ls : Array Slot) (hl : lv_has ls 2 [(0, .ref h0), (1, .int x1)]) : W p l e (headSpec (ws_ yX0_drop cX0_drop 2 (some .int)) ({ frames := 1, cells := 0, slots := 0, locals := 25 } : Room)).room s m args below meth c H locs 0 0 (MQ below (va_Qi (S := (Nat → Int32) × (Nat → Int32) × (Nat → Int32) × (Nat → Int32) × (Nat → Int32)) (fun r u => post r (u.1) (u.2.1) (u.2.2.1) (u.2.2.2.1) (u.2.2.2.2)) (fun (u : (Nat → Int32) × (Nat → Int32) × (Nat → Int32) × (Nat → Int32) × (Nat → Int32)) (t : State) => sn_BX0 (dC, dI) A h0 ad cs f0 f1 (u.1) (u.2.1) (u.2.2.1) (u.2.2.2.1) f6 (u.2.2.2.2) t) A) args s 0 0 A) (F0 m 0 ls []) := by
  obtain ⟨hx, hb, hr, hlocks, hml, hown, hts, hA, hK⟩ := id C0
  unfold mX0_drop at hm
  refine lv_iload_n hx hb dX0_drop_0 rfl (lv_at hl 1 rfl) ?_
  refine lv_if_lt (tgt := 21) hx hb dX0_drop_1 (by decide) (fun c_1 => ?_) (fun c_1 => ?_)
  · have hm := hm.1 c_1
    refine lv_iconst (v := (-1 : Int32)) hx hb dX0_drop_21 (by decide) ?_
    exact W.iret (v := (-1 : Int32)) hx hb hr (fun t ht hW => ⟨⟨(-1 : Int32), ⟨f2, f3, f4, f5, f7⟩, rfl, hm, ⟨by rw [ht]; exact hP, va_K.moved hW.alike hK, hD⟩⟩, hS.F ht⟩) hS.2.2 dX0_drop_22
  · have hm := hm.2 c_1
    refine lv_iload_n hx hb dX0_drop_4 rfl (lv_at hl 1 rfl) ?_
    refine lv_bipush (v := (6 : Int32)) hx hb dX0_drop_5 (by decide) ?_
    refine lv_icmp_gt (tgt := 21) hx hb dX0_drop_7 (by decide) (fun c_2 => ?_) (fun c_2 => ?_)
    · have hm := hm.1 c_2
      refine lv_iconst (v := (-1 : Int32)) hx hb dX0_drop_21 (by decide) ?_
      exact W.iret (v := (-1 : Int32)) hx hb hr (fun t ht hW => ⟨⟨(-1 : Int32), ⟨f2, f3, f4, f5, f7⟩, rfl, hm, ⟨by rw [ht]; exact hP, va_K.moved hW.alike hK, hD⟩⟩, hS.F ht⟩) hS.2.2 dX0_drop_22
    · have hm := hm.2 c_2
      refine lv_aload_n hx hb dX0_drop_10 rfl (lv_at hl 0 rfl) ?_
      refine sn_gtX0_3 C0 hP dX0_drop_11 ?_
      refine lv_iload_n hx hb dX0_drop_14 rfl (lv_at hl 1 rfl) ?_
      refine lv_iconst (v := (1 : Int32)) hx hb dX0_drop_15 (by decide) ?_
      refine lv_iadd hx hb dX0_drop_16 ?_
      obtain ⟨h_3, hm⟩ := hm
      refine sn_ldX0_3 C0 hP h_3 dX0_drop_17 ?_
      refine lv_if_ne (tgt := 23) hx hb dX0_drop_18 (by decide) (fun c_4 => ?_) (fun c_4 => ?_)
      · have hm := hm.1 c_4
        refine lv_aload_n hx hb dX0_drop_23 rfl (lv_at hl 0 rfl) ?_
        refine sn_gtX0_3 C0 hP dX0_drop_24 ?_
        refine lv_iload_n hx hb dX0_drop_27 rfl (lv_at hl 1 rfl) ?_
        refine lv_iconst (v := (1 : Int32)) hx hb dX0_drop_28 (by decide) ?_
        refine lv_iadd hx hb dX0_drop_29 ?_
        refine lv_iconst (v := (0 : Int32)) hx hb dX0_drop_30 (by decide) ?_
        obtain ⟨h_5, hm⟩ := hm
        refine sn_stX0_3 C0 hP hD hS h_5 dX0_drop_31 (fun H locs hP hD hS => ?_)
        refine lv_aload_n hx hb dX0_drop_32 rfl (lv_at hl 0 rfl) ?_
        refine lv_aload_n hx hb dX0_drop_33 rfl (lv_at hl 0 rfl) ?_
        refine sn_gtX0_4 C0 hP dX0_drop_34 ?_
        refine lv_iload_n hx hb dX0_drop_37 rfl (lv_at hl 1 rfl) ?_
        refine lv_iconst (v := (1 : Int32)) hx hb dX0_drop_38 (by decide) ?_
        refine lv_iadd hx hb dX0_drop_39 ?_
        obtain ⟨h_6, hm⟩ := hm
        refine sn_ldX0_4 C0 hP h_6 dX0_drop_40 ?_
        refine sn_cl_Vv (As := [.int (f4 (x1 + (1 : Int32)).toNatClampNeg)]) (rest := []) (w1 := (fun (u : (Nat → Int32) × (Nat → Int32)) => sn_pwX0 h0 ad cs (f0) (f1) (u.1) (upd f3 (x1 + (1 : Int32)).toNatClampNeg (vp_nar .boolean (0 : Int32))) (f4) (f5) (f6) (u.2))) ⟨hx, hb, hml, hown, hts⟩ (kX0_giveBack l dC dI h0 ad cs H.size f0 f1 f2 (upd f3 (x1 + (1 : Int32)).toNatClampNeg (vp_nar .boolean (0 : Int32))) f4 f5 f6 f7 (f4 (x1 + (1 : Int32)).toNatClampNeg) _ hm) (cwV 1 hts (lw_V q111 q113 qs9 q19 q114) rfl rfl rfl (by decide +kernel) ⟨Nat.le_of_ble_eq_true rfl, Nat.le_of_ble_eq_true rfl⟩) (va_recv hK hP (ci := 0) (q0 := 0) rfl rfl) hP hD hK hS hA rfl hl.1 rfl (lv_room (Nat.le_of_ble_eq_true rfl)) dX0_drop_41 ⟨Nat.le_refl 0, Nat.le_refl 0⟩ (fun u H locs hm hP hD hS => ?_)
        obtain ⟨f2_7, f7_7⟩ := u
        refine lv_aload_n hx hb dX0_drop_44 rfl (lv_at hl 0 rfl) ?_
        refine sn_gtX0_4 C0 hP dX0_drop_45 ?_
        refine lv_iload_n hx hb dX0_drop_48 rfl (lv_at hl 1 rfl) ?_
        refine lv_iconst (v := (1 : Int32)) hx hb dX0_drop_49 (by decide) ?_
        refine lv_iadd hx hb dX0_drop_50 ?_
        refine lv_iconst (v := (-1 : Int32)) hx hb dX0_drop_51 (by decide) ?_
        obtain ⟨h_8, hm⟩ := hm
        refine sn_stX0_4 C0 hP hD hS h_8 dX0_drop_52 (fun H locs hP hD hS => ?_)
        refine lv_aload_n hx hb dX0_drop_53 rfl (lv_at hl 0 rfl) ?_
        refine sn_gtX0_5 C0 hP dX0_drop_54 ?_
        refine lv_iload_n hx hb dX0_drop_57 rfl (lv_at hl 1 rfl) ?_
        refine lv_iconst (v := (1 : Int32)) hx hb dX0_drop_58 (by decide) ?_
        refine lv_iadd hx hb dX0_drop_59 ?_
        refine lv_iconst (v := (0 : Int32)) hx hb dX0_drop_60 (by decide) ?_
        obtain ⟨h_9, hm⟩ := hm
        refine sn_stX0_5 C0 hP hD hS h_9 dX0_drop_61 (fun H locs hP hD hS => ?_)
        refine lv_iconst (v := (0 : Int32)) hx hb dX0_drop_62 (by decide) ?_
        exact W.iret (v := (0 : Int32)) hx hb hr (fun t ht hW => ⟨⟨(0 : Int32), ⟨f2_7, (upd f3 (x1 + (1 : Int32)).toNatClampNeg (vp_nar .boolean (0 : Int32))), (upd f4 (x1 + (1 : Int32)).toNatClampNeg (-1 : Int32)), (upd f5 (x1 + (1 : Int32)).toNatClampNeg (0 : Int32)), f7_7⟩, rfl, hm, ⟨by rw [ht]; exact hP, va_K.moved hW.alike hK, hD⟩⟩, hS.F ht⟩) hS.2.2 dX0_drop_63
      · have hm := hm.2 c_4
        refine lv_iconst (v := (-1 : Int32)) hx hb dX0_drop_21 (by decide) ?_
        exact W.iret (v := (-1 : Int32)) hx hb hr (fun t ht hW => ⟨⟨(-1 : Int32), ⟨f2, f3, f4, f5, f7⟩, rfl, hm, ⟨by rw [ht]; exact hP, va_K.moved hW.alike hK, hD⟩⟩, hS.F ht⟩) hS.2.2 dX0_drop_22
set_option maxHeartbeats 4000000 in
set_option maxRecDepth 100000 in
theorem kX0_drop (l : Launch) (dC : Nat → ClassId) (dI : Nat → Nat → Nat) (h0 : Nat) (ad : Nat → Nat) (cs : Nat → ClassId) (sz : Nat) (f0 f1 f2 f3 f4 f5 f6 f7 : Nat → Int32) (x1 : Int32) (post : Int32 → (Nat → Int32) → (Nat → Int32) → (Nat → Int32) → (Nat → Int32) → (Nat → Int32) → Prop) (hm : mX0_drop f0 f1 f2 f3 f4 f5 f7 x1 post) : Met l yX0_drop (ws_ yX0_drop cX0_drop 2 (some .int)) ({ frames := 1, cells := 0, slots := 0, locals := 25 } : Room) (va_Pc [.ref h0, .int x1] (sn_PX (dC, dI) (sn_tyX0 cs) (sn_pwX0 h0 ad cs f0 f1 f2 f3 f4 f5 f6 f7) sz)) (va_Qi (S := (Nat → Int32) × (Nat → Int32) × (Nat → Int32) × (Nat → Int32) × (Nat → Int32)) (fun r u => post r (u.1) (u.2.1) (u.2.2.1) (u.2.2.2.1) (u.2.2.2.2)) (fun (u : (Nat → Int32) × (Nat → Int32) × (Nat → Int32) × (Nat → Int32) × (Nat → Int32)) (t : State) => sn_BX0 (dC, dI) (va_A (sn_pwX0 h0 ad cs f0 f1 f2 f3 f4 f5 f6 f7) sz) h0 ad cs f0 f1 (u.1) (u.2.1) (u.2.2.1) (u.2.2.2.1) f6 (u.2.2.2.2) t) (va_A (sn_pwX0 h0 ad cs f0 f1 f2 f3 f4 f5 f6 f7) sz)) 0 0 (va_A (sn_pwX0 h0 ad cs f0 f1 f2 f3 f4 f5 f6 f7) sz) := by
  refine sn_mk_V (n := 2) (RC := RX0) (Q := fun A => (va_Qi (S := (Nat → Int32) × (Nat → Int32) × (Nat → Int32) × (Nat → Int32) × (Nat → Int32)) (fun r u => post r (u.1) (u.2.1) (u.2.2.1) (u.2.2.2.1) (u.2.2.2.2)) (fun (u : (Nat → Int32) × (Nat → Int32) × (Nat → Int32) × (Nat → Int32) × (Nat → Int32)) (t : State) => sn_BX0 (dC, dI) A h0 ad cs f0 f1 (u.1) (u.2.1) (u.2.2.1) (u.2.2.2.1) f6 (u.2.2.2.2) t) A)) (by decide) rfl (Nat.le_of_ble_eq_true rfl) ?_
  intro p e s m below meth c A ls C0 hP hD hl
  exact wX0_drop_0 C0 post f2 f3 f4 f5 f7 x1 hm _ _ hP hD va_S.rf ls hl
end
section
/-! walks and contracts (printed by gen.py): get has size next sharedLevel nextChange changes -/
set_option maxHeartbeats 4000000 in
set_option maxRecDepth 100000 in
theorem wX0_get_0 {p : Program} {l : Launch} {e : Env} {s : State} {m : MethodId} {args : Array Value} {below : List Frame} {meth : Method} {c : Code} {A : Nat → Prop} {dC : Nat → ClassId} {dI : Nat → Nat → Nat} {h0 : Nat} {ad : Nat → Nat} {cs : Nat → ClassId} {f0 f1 f2 f3 f4 f5 f6 f7 : Nat → Int32} (C0 : sn_Cx cX0_get 4 (some .int) RX0 p s m meth c args A (dC, dI) (sn_tyX0 cs)) (post : Int32 → Prop) (x1 x2 : Int32) (hm : mX0_get f0 f1 f3 f4 x1 x2 post) (H : Heap) (locs : List Loc) (hP : va_P (dC, dI) sn_cl (sn_pwX0 h0 ad cs f0 f1 f2 f3 f4 f5 f6 f7) H) (hD : va_D A (sn_pwX0 h0 ad cs f0 f1 f2 f3 f4 f5 f6 f7)) (hS : va_S A s.heap H locs) (ls : Array Slot) (hl : lv_has ls 4 [(0, .ref h0), (1, .int x1), (2, .int x2)]) : W p l e (headSpec (ws_ yX0_get cX0_get 4 (some .int)) ({ frames := 2, cells := 0, slots := 0, locals := 45 } : Room)).room s m args below meth c H locs 0 0 (MQ below (va_Qi (S := Unit) (fun r _ => post r) (fun (_ : Unit) (t : State) => sn_BX0 (dC, dI) A h0 ad cs f0 f1 f2 f3 f4 f5 f6 f7 t) A) args s 0 0 A) (F0 m 0 ls []) := by
  obtain ⟨hx, hb, hr, hlocks, hml, hown, hts, hA, hK⟩ := id C0
  unfold mX0_get at hm
  refine lv_aload_n hx hb dX0_get_0 rfl (lv_at hl 0 rfl) ?_
  refine lv_iload_n hx hb dX0_get_1 rfl (lv_at hl 1 rfl) ?_
  refine sn_cl_Vi (As := [.int x1]) (rest := []) (w1 := (fun (_ : Unit) => sn_pwX0 h0 ad cs (f0) (f1) (f2) (f3) (f4) (f5) (f6) (f7))) ⟨hx, hb, hml, hown, hts⟩ (kX0_isMap l dC dI h0 ad cs H.size f0 f1 f2 f3 f4 f5 f6 f7 x1 _ hm) (cwV 1 hts (lw_V q123 q125 qs10 q19 q126) rfl rfl rfl (by decide +kernel) ⟨Nat.le_of_ble_eq_true rfl, Nat.le_of_ble_eq_true rfl⟩) (va_recv hK hP (ci := 0) (q0 := 0) rfl rfl) hP hD hK hS hA rfl hl.1 rfl (lv_room (Nat.le_of_ble_eq_true rfl)) dX0_get_2 ⟨Nat.le_refl 0, Nat.le_refl 0⟩ (fun r_1 _ H locs hm hP hD hS => ?_)
  refine lv_if_eq (tgt := 19) hx hb dX0_get_5 (by decide) (fun c_2 => ?_) (fun c_2 => ?_)
  · have hm := hm.1 c_2
    refine lv_iconst (v := (0 : Int32)) hx hb dX0_get_19 (by decide) ?_
    exact W.iret (v := (0 : Int32)) hx hb hr (fun t ht hW => ⟨⟨(0 : Int32), (), rfl, hm, ⟨by rw [ht]; exact hP, va_K.moved hW.alike hK, hD⟩⟩, hS.F ht⟩) hS.2.2 dX0_get_20
  · have hm := hm.2 c_2
    refine lv_iload_n hx hb dX0_get_8 rfl (lv_at hl 2 rfl) ?_
    refine lv_if_lt (tgt := 19) hx hb dX0_get_9 (by decide) (fun c_3 => ?_) (fun c_3 => ?_)
    · have hm := hm.1 c_3
      refine lv_iconst (v := (0 : Int32)) hx hb dX0_get_19 (by decide) ?_
      exact W.iret (v := (0 : Int32)) hx hb hr (fun t ht hW => ⟨⟨(0 : Int32), (), rfl, hm, ⟨by rw [ht]; exact hP, va_K.moved hW.alike hK, hD⟩⟩, hS.F ht⟩) hS.2.2 dX0_get_20
    · have hm := hm.2 c_3
      refine lv_iload_n hx hb dX0_get_12 rfl (lv_at hl 2 rfl) ?_
      refine lv_sipush (v := (255 : Int32)) hx hb dX0_get_13 (by decide) ?_
      refine lv_icmp_le (tgt := 21) hx hb dX0_get_16 (by decide) (fun c_4 => ?_) (fun c_4 => ?_)
      · have hm := hm.1 c_4
        refine lv_aload_n hx hb dX0_get_21 rfl (lv_at hl 0 rfl) ?_
        refine lv_iload_n hx hb dX0_get_22 rfl (lv_at hl 1 rfl) ?_
        refine lv_iconst (v := (1 : Int32)) hx hb dX0_get_23 (by decide) ?_
        refine lv_iadd hx hb dX0_get_24 ?_
        refine lv_iload_n hx hb dX0_get_25 rfl (lv_at hl 2 rfl) ?_
        refine sn_cl_Vi (As := [.int (x1 + (1 : Int32)), .int x2]) (rest := []) (w1 := (fun (_ : Unit) => sn_pwX0 h0 ad cs (f0) (f1) (f2) (f3) (f4) (f5) (f6) (f7))) ⟨hx, hb, hml, hown, hts⟩ (kX0_leafFor l dC dI h0 ad cs H.size f0 f1 f2 f3 f4 f5 f6 f7 (x1 + (1 : Int32)) x2 _ hm) (cwV 2 hts (lw_V q64 q66 qs1 q19 q67) rfl rfl rfl (by decide +kernel) ⟨Nat.le_of_ble_eq_true rfl, Nat.le_of_ble_eq_true rfl⟩) (va_recv hK hP (ci := 0) (q0 := 0) rfl rfl) hP hD hK hS hA rfl hl.1 rfl (lv_room (Nat.le_of_ble_eq_true rfl)) dX0_get_26 ⟨Nat.le_refl 0, Nat.le_refl 0⟩ (fun r_5 _ H locs hm hP hD hS => ?_)
        refine lv_istore_n (lv' := [(3, .int r_5), (0, .ref h0), (1, .int x1), (2, .int x2)]) hx hb dX0_get_29 rfl hl (by decide) rfl (fun ls hl => ?_)
        refine lv_iload_n hx hb dX0_get_30 rfl (lv_at hl 0 rfl) ?_
        refine lv_if_lt (tgt := 64) hx hb dX0_get_31 (by decide) (fun c_6 => ?_) (fun c_6 => ?_)
        · have hm := hm.1 c_6
          refine lv_iconst (v := (0 : Int32)) hx hb dX0_get_64 (by decide) ?_
          exact W.iret (v := (0 : Int32)) hx hb hr (fun t ht hW => ⟨⟨(0 : Int32), (), rfl, hm, ⟨by rw [ht]; exact hP, va_K.moved hW.alike hK, hD⟩⟩, hS.F ht⟩) hS.2.2 dX0_get_65
        · have hm := hm.2 c_6
          refine lv_aload_n hx hb dX0_get_34 rfl (lv_at hl 1 rfl) ?_
          refine sn_gtX0_1 C0 hP dX0_get_35 ?_
          refine lv_iload_n hx hb dX0_get_38 rfl (lv_at hl 0 rfl) ?_
          obtain ⟨h_7, hm⟩ := hm
          refine sn_ldX0_1 C0 hP h_7 dX0_get_39 ?_
          refine lv_iload_n hx hb dX0_get_40 rfl (lv_at hl 3 rfl) ?_
          refine lv_iconst (v := (3 : Int32)) hx hb dX0_get_41 (by decide) ?_
          refine lv_iand hx hb dX0_get_42 ?_
          refine lv_iushr (v := (sn_ushr (f1 (r_5).toNatClampNeg) (x2 &&& (3 : Int32)))) hx hb dX0_get_43 rfl ?_
          refine lv_iconst (v := (1 : Int32)) hx hb dX0_get_44 (by decide) ?_
          refine lv_iand hx hb dX0_get_45 ?_
          refine lv_if_eq (tgt := 64) hx hb dX0_get_46 (by decide) (fun c_8 => ?_) (fun c_8 => ?_)
          · have hm := hm.1 c_8
            refine lv_iconst (v := (0 : Int32)) hx hb dX0_get_64 (by decide) ?_
            exact W.iret (v := (0 : Int32)) hx hb hr (fun t ht hW => ⟨⟨(0 : Int32), (), rfl, hm, ⟨by rw [ht]; exact hP, va_K.moved hW.alike hK, hD⟩⟩, hS.F ht⟩) hS.2.2 dX0_get_65
          · have hm := hm.2 c_8
            refine lv_aload_n hx hb dX0_get_49 rfl (lv_at hl 1 rfl) ?_
            refine sn_gtX0_0 C0 hP dX0_get_50 ?_
            refine lv_iconst (v := (4 : Int32)) hx hb dX0_get_53 (by decide) ?_
            refine lv_iload_n hx hb dX0_get_54 rfl (lv_at hl 0 rfl) ?_
            refine lv_imul hx hb dX0_get_55 ?_
            refine lv_iload_n hx hb dX0_get_56 rfl (lv_at hl 3 rfl) ?_
            refine lv_iconst (v := (3 : Int32)) hx hb dX0_get_57 (by decide) ?_
            refine lv_iand hx hb dX0_get_58 ?_
            refine lv_iadd hx hb dX0_get_59 ?_
            obtain ⟨h_9, hm⟩ := hm
            refine sn_ldX0_0 C0 hP h_9 dX0_get_60 ?_
            refine lv_goto (tgt := 65) hx hb dX0_get_61 (by decide) ?_
            exact W.iret (v := (f0 (((4 : Int32) * r_5) + (x2 &&& (3 : Int32))).toNatClampNeg)) hx hb hr (fun t ht hW => ⟨⟨(f0 (((4 : Int32) * r_5) + (x2 &&& (3 : Int32))).toNatClampNeg), (), rfl, hm, ⟨by rw [ht]; exact hP, va_K.moved hW.alike hK, hD⟩⟩, hS.F ht⟩) hS.2.2 dX0_get_65
      · have hm := hm.2 c_4
        refine lv_iconst (v := (0 : Int32)) hx hb dX0_get_19 (by decide) ?_
        exact W.iret (v := (0 : Int32)) hx hb hr (fun t ht hW => ⟨⟨(0 : Int32), (), rfl, hm, ⟨by rw [ht]; exact hP, va_K.moved hW.alike hK, hD⟩⟩, hS.F ht⟩) hS.2.2 dX0_get_20
set_option maxHeartbeats 4000000 in
set_option maxRecDepth 100000 in
theorem kX0_get (l : Launch) (dC : Nat → ClassId) (dI : Nat → Nat → Nat) (h0 : Nat) (ad : Nat → Nat) (cs : Nat → ClassId) (sz : Nat) (f0 f1 f2 f3 f4 f5 f6 f7 : Nat → Int32) (x1 x2 : Int32) (post : Int32 → Prop) (hm : mX0_get f0 f1 f3 f4 x1 x2 post) : Met l yX0_get (ws_ yX0_get cX0_get 4 (some .int)) ({ frames := 2, cells := 0, slots := 0, locals := 45 } : Room) (va_Pc [.ref h0, .int x1, .int x2] (sn_PX (dC, dI) (sn_tyX0 cs) (sn_pwX0 h0 ad cs f0 f1 f2 f3 f4 f5 f6 f7) sz)) (va_Qi (S := Unit) (fun r _ => post r) (fun (_ : Unit) (t : State) => sn_BX0 (dC, dI) (va_A (sn_pwX0 h0 ad cs f0 f1 f2 f3 f4 f5 f6 f7) sz) h0 ad cs f0 f1 f2 f3 f4 f5 f6 f7 t) (va_A (sn_pwX0 h0 ad cs f0 f1 f2 f3 f4 f5 f6 f7) sz)) 0 0 (va_A (sn_pwX0 h0 ad cs f0 f1 f2 f3 f4 f5 f6 f7) sz) := by
  refine sn_mk_V (n := 4) (RC := RX0) (Q := fun A => (va_Qi (S := Unit) (fun r _ => post r) (fun (_ : Unit) (t : State) => sn_BX0 (dC, dI) A h0 ad cs f0 f1 f2 f3 f4 f5 f6 f7 t) A)) (by decide) rfl (Nat.le_of_ble_eq_true rfl) ?_
  intro p e s m below meth c A ls C0 hP hD hl
  exact wX0_get_0 C0 post x1 x2 hm _ _ hP hD va_S.rf ls hl
set_option maxHeartbeats 4000000 in
set_option maxRecDepth 100000 in
theorem wX0_has_0 {p : Program} {l : Launch} {e : Env} {s : State} {m : MethodId} {args : Array Value} {below : List Frame} {meth : Method} {c : Code} {A : Nat → Prop} {dC : Nat → ClassId} {dI : Nat → Nat → Nat} {h0 : Nat} {ad : Nat → Nat} {cs : Nat → ClassId} {f0 f1 f2 f3 f4 f5 f6 f7 : Nat → Int32} (C0 : sn_Cx cX0_has 3 (some .int) RX0 p s m meth c args A (dC, dI) (sn_tyX0 cs)) (post : Int32 → Prop) (x1 x2 : Int32) (hm : mX0_has f0 f1 f3 f4 x1 x2 post) (H : Heap) (locs : List Loc) (hP : va_P (dC, dI) sn_cl (sn_pwX0 h0 ad cs f0 f1 f2 f3 f4 f5 f6 f7) H) (hD : va_D A (sn_pwX0 h0 ad cs f0 f1 f2 f3 f4 f5 f6 f7)) (hS : va_S A s.heap H locs) (ls : Array Slot) (hl : lv_has ls 3 [(0, .ref h0), (1, .int x1), (2, .int x2)]) : W p l e (headSpec (ws_ yX0_has cX0_has 3 (some .int)) ({ frames := 3, cells := 0, slots := 0, locals := 68 } : Room)).room s m args below meth c H locs 0 0 (MQ below (va_Qi (S := Unit) (fun r _ => post r) (fun (_ : Unit) (t : State) => sn_BX0 (dC, dI) A h0 ad cs f0 f1 f2 f3 f4 f5 f6 f7 t) A) args s 0 0 A) (F0 m 0 ls []) := by
  obtain ⟨hx, hb, hr, hlocks, hml, hown, hts, hA, hK⟩ := id C0
  unfold mX0_has at hm
  refine lv_aload_n hx hb dX0_has_0 rfl (lv_at hl 0 rfl) ?_
  refine lv_iload_n hx hb dX0_has_1 rfl (lv_at hl 1 rfl) ?_
  refine sn_cl_Vi (As := [.int x1]) (rest := []) (w1 := (fun (_ : Unit) => sn_pwX0 h0 ad cs (f0) (f1) (f2) (f3) (f4) (f5) (f6) (f7))) ⟨hx, hb, hml, hown, hts⟩ (kX0_isMap l dC dI h0 ad cs H.size f0 f1 f2 f3 f4 f5 f6 f7 x1 _ hm) (cwV 1 hts (lw_V q123 q125 qs10 q19 q126) rfl rfl rfl (by decide +kernel) ⟨Nat.le_of_ble_eq_true rfl, Nat.le_of_ble_eq_true rfl⟩) (va_recv hK hP (ci := 0) (q0 := 0) rfl rfl) hP hD hK hS hA rfl hl.1 rfl (lv_room (Nat.le_of_ble_eq_true rfl)) dX0_has_2 ⟨Nat.le_refl 0, Nat.le_refl 0⟩ (fun r_1 _ H locs hm hP hD hS => ?_)
  refine lv_if_ne (tgt := 10) hx hb dX0_has_5 (by decide) (fun c_2 => ?_) (fun c_2 => ?_)
  · have hm := hm.1 c_2
    refine lv_iload_n hx hb dX0_has_10 rfl (lv_at hl 2 rfl) ?_
    refine lv_if_lt (tgt := 36) hx hb dX0_has_11 (by decide) (fun c_3 => ?_) (fun c_3 => ?_)
    · have hm := hm.1 c_3
      refine lv_iconst (v := (0 : Int32)) hx hb dX0_has_36 (by decide) ?_
      exact W.iret (v := (0 : Int32)) hx hb hr (fun t ht hW => ⟨⟨(0 : Int32), (), rfl, hm, ⟨by rw [ht]; exact hP, va_K.moved hW.alike hK, hD⟩⟩, hS.F ht⟩) hS.2.2 dX0_has_37
    · have hm := hm.2 c_3
      refine lv_iload_n hx hb dX0_has_14 rfl (lv_at hl 2 rfl) ?_
      refine lv_sipush (v := (255 : Int32)) hx hb dX0_has_15 (by decide) ?_
      refine lv_icmp_gt (tgt := 36) hx hb dX0_has_18 (by decide) (fun c_4 => ?_) (fun c_4 => ?_)
      · have hm := hm.1 c_4
        refine lv_iconst (v := (0 : Int32)) hx hb dX0_has_36 (by decide) ?_
        exact W.iret (v := (0 : Int32)) hx hb hr (fun t ht hW => ⟨⟨(0 : Int32), (), rfl, hm, ⟨by rw [ht]; exact hP, va_K.moved hW.alike hK, hD⟩⟩, hS.F ht⟩) hS.2.2 dX0_has_37
      · have hm := hm.2 c_4
        refine lv_aload_n hx hb dX0_has_21 rfl (lv_at hl 0 rfl) ?_
        refine lv_iload_n hx hb dX0_has_22 rfl (lv_at hl 1 rfl) ?_
        refine lv_iconst (v := (1 : Int32)) hx hb dX0_has_23 (by decide) ?_
        refine lv_iadd hx hb dX0_has_24 ?_
        refine lv_iload_n hx hb dX0_has_25 rfl (lv_at hl 2 rfl) ?_
        refine sn_cl_Vi (As := [.int (x1 + (1 : Int32)), .int x2]) (rest := []) (w1 := (fun (_ : Unit) => sn_pwX0 h0 ad cs (f0) (f1) (f2) (f3) (f4) (f5) (f6) (f7))) ⟨hx, hb, hml, hown, hts⟩ (kX0_holds l dC dI h0 ad cs H.size f0 f1 f2 f3 f4 f5 f6 f7 (x1 + (1 : Int32)) x2 _ hm) (cwV 2 hts (lw_V q60 q62 qs0 q19 q63) rfl rfl rfl (by decide +kernel) ⟨Nat.le_of_ble_eq_true rfl, Nat.le_of_ble_eq_true rfl⟩) (va_recv hK hP (ci := 0) (q0 := 0) rfl rfl) hP hD hK hS hA rfl hl.1 rfl (lv_room (Nat.le_of_ble_eq_true rfl)) dX0_has_26 ⟨Nat.le_refl 0, Nat.le_refl 0⟩ (fun r_5 _ H locs hm hP hD hS => ?_)
        refine lv_if_eq (tgt := 36) hx hb dX0_has_29 (by decide) (fun c_6 => ?_) (fun c_6 => ?_)
        · have hm := hm.1 c_6
          refine lv_iconst (v := (0 : Int32)) hx hb dX0_has_36 (by decide) ?_
          exact W.iret (v := (0 : Int32)) hx hb hr (fun t ht hW => ⟨⟨(0 : Int32), (), rfl, hm, ⟨by rw [ht]; exact hP, va_K.moved hW.alike hK, hD⟩⟩, hS.F ht⟩) hS.2.2 dX0_has_37
        · have hm := hm.2 c_6
          refine lv_iconst (v := (1 : Int32)) hx hb dX0_has_32 (by decide) ?_
          refine lv_goto (tgt := 37) hx hb dX0_has_33 (by decide) ?_
          exact W.iret (v := (1 : Int32)) hx hb hr (fun t ht hW => ⟨⟨(1 : Int32), (), rfl, hm, ⟨by rw [ht]; exact hP, va_K.moved hW.alike hK, hD⟩⟩, hS.F ht⟩) hS.2.2 dX0_has_37
  · have hm := hm.2 c_2
    refine lv_iconst (v := (-1 : Int32)) hx hb dX0_has_8 (by decide) ?_
    exact W.iret (v := (-1 : Int32)) hx hb hr (fun t ht hW => ⟨⟨(-1 : Int32), (), rfl, hm, ⟨by rw [ht]; exact hP, va_K.moved hW.alike hK, hD⟩⟩, hS.F ht⟩) hS.2.2 dX0_has_9
set_option maxHeartbeats 4000000 in
set_option maxRecDepth 100000 in
theorem kX0_has (l : Launch) (dC : Nat → ClassId) (dI : Nat → Nat → Nat) (h0 : Nat) (ad : Nat → Nat) (cs : Nat → ClassId) (sz : Nat) (f0 f1 f2 f3 f4 f5 f6 f7 : Nat → Int32) (x1 x2 : Int32) (post : Int32 → Prop) (hm : mX0_has f0 f1 f3 f4 x1 x2 post) : Met l yX0_has (ws_ yX0_has cX0_has 3 (some .int)) ({ frames := 3, cells := 0, slots := 0, locals := 68 } : Room) (va_Pc [.ref h0, .int x1, .int x2] (sn_PX (dC, dI) (sn_tyX0 cs) (sn_pwX0 h0 ad cs f0 f1 f2 f3 f4 f5 f6 f7) sz)) (va_Qi (S := Unit) (fun r _ => post r) (fun (_ : Unit) (t : State) => sn_BX0 (dC, dI) (va_A (sn_pwX0 h0 ad cs f0 f1 f2 f3 f4 f5 f6 f7) sz) h0 ad cs f0 f1 f2 f3 f4 f5 f6 f7 t) (va_A (sn_pwX0 h0 ad cs f0 f1 f2 f3 f4 f5 f6 f7) sz)) 0 0 (va_A (sn_pwX0 h0 ad cs f0 f1 f2 f3 f4 f5 f6 f7) sz) := by
  refine sn_mk_V (n := 3) (RC := RX0) (Q := fun A => (va_Qi (S := Unit) (fun r _ => post r) (fun (_ : Unit) (t : State) => sn_BX0 (dC, dI) A h0 ad cs f0 f1 f2 f3 f4 f5 f6 f7 t) A)) (by decide) rfl (Nat.le_of_ble_eq_true rfl) ?_
  intro p e s m below meth c A ls C0 hP hD hl
  exact wX0_has_0 C0 post x1 x2 hm _ _ hP hD va_S.rf ls hl
set_option maxHeartbeats 4000000 in
set_option maxRecDepth 100000 in
theorem wX0_size_0 {p : Program} {l : Launch} {e : Env} {s : State} {m : MethodId} {args : Array Value} {below : List Frame} {meth : Method} {c : Code} {A : Nat → Prop} {dC : Nat → ClassId} {dI : Nat → Nat → Nat} {h0 : Nat} {ad : Nat → Nat} {cs : Nat → ClassId} {f0 f1 f2 f3 f4 f5 f6 f7 : Nat → Int32} (C0 : sn_Cx cX0_size 2 (some .int) RX0 p s m meth c args A (dC, dI) (sn_tyX0 cs)) (post : Int32 → Prop) (x1 : Int32) (hm : mX0_size f3 f5 x1 post) (H : Heap) (locs : List Loc) (hP : va_P (dC, dI) sn_cl (sn_pwX0 h0 ad cs f0 f1 f2 f3 f4 f5 f6 f7) H) (hD : va_D A (sn_pwX0 h0 ad cs f0 f1 f2 f3 f4 f5 f6 f7)) (hS : va_S A s.heap H locs) (ls : Array Slot) (hl : lv_has ls 2 [(0, .ref h0), (1, .int x1)]) : W p l e (headSpec (ws_ yX0_size cX0_size 2 (some .int)) ({ frames := 1, cells := 0, slots := 0, locals := 21 } : Room)).room s m args below meth c H locs 0 0 (MQ below (va_Qi (S := Unit) (fun r _ => post r) (fun (_ : Unit) (t : State) => sn_BX0 (dC, dI) A h0 ad cs f0 f1 f2 f3 f4 f5 f6 f7 t) A) args s 0 0 A) (F0 m 0 ls []) := by
  obtain ⟨hx, hb, hr, hlocks, hml, hown, hts, hA, hK⟩ := id C0
  unfold mX0_size at hm
  refine lv_aload_n hx hb dX0_size_0 rfl (lv_at hl 0 rfl) ?_
  refine lv_iload_n hx hb dX0_size_1 rfl (lv_at hl 1 rfl) ?_
  refine sn_cl_Vi (As := [.int x1]) (rest := []) (w1 := (fun (_ : Unit) => sn_pwX0 h0 ad cs (f0) (f1) (f2) (f3) (f4) (f5) (f6) (f7))) ⟨hx, hb, hml, hown, hts⟩ (kX0_isMap l dC dI h0 ad cs H.size f0 f1 f2 f3 f4 f5 f6 f7 x1 _ hm) (cwV 1 hts (lw_V q123 q125 qs10 q19 q126) rfl rfl rfl (by decide +kernel) ⟨Nat.le_of_ble_eq_true rfl, Nat.le_of_ble_eq_true rfl⟩) (va_recv hK hP (ci := 0) (q0 := 0) rfl rfl) hP hD hK hS hA rfl hl.1 rfl (lv_room (Nat.le_of_ble_eq_true rfl)) dX0_size_2 ⟨Nat.le_refl 0, Nat.le_refl 0⟩ (fun r_1 _ H locs hm hP hD hS => ?_)
  refine lv_if_eq (tgt := 19) hx hb dX0_size_5 (by decide) (fun c_2 => ?_) (fun c_2 => ?_)
  · have hm := hm.1 c_2
    refine lv_iconst (v := (-1 : Int32)) hx hb dX0_size_19 (by decide) ?_
    exact W.iret (v := (-1 : Int32)) hx hb hr (fun t ht hW => ⟨⟨(-1 : Int32), (), rfl, hm, ⟨by rw [ht]; exact hP, va_K.moved hW.alike hK, hD⟩⟩, hS.F ht⟩) hS.2.2 dX0_size_20
  · have hm := hm.2 c_2
    refine lv_aload_n hx hb dX0_size_8 rfl (lv_at hl 0 rfl) ?_
    refine sn_gtX0_5 C0 hP dX0_size_9 ?_
    refine lv_iload_n hx hb dX0_size_12 rfl (lv_at hl 1 rfl) ?_
    refine lv_iconst (v := (1 : Int32)) hx hb dX0_size_13 (by decide) ?_
    refine lv_iadd hx hb dX0_size_14 ?_
    obtain ⟨h_3, hm⟩ := hm
    refine sn_ldX0_5 C0 hP h_3 dX0_size_15 ?_
    refine lv_goto (tgt := 20) hx hb dX0_size_16 (by decide) ?_
    exact W.iret (v := (f5 (x1 + (1 : Int32)).toNatClampNeg)) hx hb hr (fun t ht hW => ⟨⟨(f5 (x1 + (1 : Int32)).toNatClampNeg), (), rfl, hm, ⟨by rw [ht]; exact hP, va_K.moved hW.alike hK, hD⟩⟩, hS.F ht⟩) hS.2.2 dX0_size_20
set_option maxHeartbeats 4000000 in
set_option maxRecDepth 100000 in
theorem kX0_size (l : Launch) (dC : Nat → ClassId) (dI : Nat → Nat → Nat) (h0 : Nat) (ad : Nat → Nat) (cs : Nat → ClassId) (sz : Nat) (f0 f1 f2 f3 f4 f5 f6 f7 : Nat → Int32) (x1 : Int32) (post : Int32 → Prop) (hm : mX0_size f3 f5 x1 post) : Met l yX0_size (ws_ yX0_size cX0_size 2 (some .int)) ({ frames := 1, cells := 0, slots := 0, locals := 21 } : Room) (va_Pc [.ref h0, .int x1] (sn_PX (dC, dI) (sn_tyX0 cs) (sn_pwX0 h0 ad cs f0 f1 f2 f3 f4 f5 f6 f7) sz)) (va_Qi (S := Unit) (fun r _ => post r) (fun (_ : Unit) (t : State) => sn_BX0 (dC, dI) (va_A (sn_pwX0 h0 ad cs f0 f1 f2 f3 f4 f5 f6 f7) sz) h0 ad cs f0 f1 f2 f3 f4 f5 f6 f7 t) (va_A (sn_pwX0 h0 ad cs f0 f1 f2 f3 f4 f5 f6 f7) sz)) 0 0 (va_A (sn_pwX0 h0 ad cs f0 f1 f2 f3 f4 f5 f6 f7) sz) := by
  refine sn_mk_V (n := 2) (RC := RX0) (Q := fun A => (va_Qi (S := Unit) (fun r _ => post r) (fun (_ : Unit) (t : State) => sn_BX0 (dC, dI) A h0 ad cs f0 f1 f2 f3 f4 f5 f6 f7 t) A)) (by decide) rfl (Nat.le_of_ble_eq_true rfl) ?_
  intro p e s m below meth c A ls C0 hP hD hl
  exact wX0_size_0 C0 post x1 hm _ _ hP hD va_S.rf ls hl
set_option maxHeartbeats 4000000 in
set_option maxRecDepth 100000 in
theorem wX0_next_23 {p : Program} {l : Launch} {e : Env} {s : State} {m : MethodId} {args : Array Value} {below : List Frame} {meth : Method} {c : Code} {A : Nat → Prop} {dC : Nat → ClassId} {dI : Nat → Nat → Nat} {h0 : Nat} {ad : Nat → Nat} {cs : Nat → ClassId} {f0 f1 f2 f3 f4 f5 f6 f7 : Nat → Int32} (C0 : sn_Cx cX0_next 6 (some .int) RX0 p s m meth c args A (dC, dI) (sn_tyX0 cs)) (post : Int32 → Prop) : ∀ (n23 : Nat) (x1 x3 x4 : Int32), mX0_next_23 n23 f0 f1 f3 f4 x1 x3 x4 post → ∀ (H : Heap) (locs : List Loc), va_P (dC, dI) sn_cl (sn_pwX0 h0 ad cs f0 f1 f2 f3 f4 f5 f6 f7) H → va_D A (sn_pwX0 h0 ad cs f0 f1 f2 f3 f4 f5 f6 f7) → va_S A s.heap H locs → ∀ (ls : Array Slot), lv_has ls 6 [(0, .ref h0), (1, .int x1), (3, .int x3), (4, .int x4)] → W p l e (headSpec (ws_ yX0_next cX0_next 6 (some .int)) ({ frames := 2, cells := 0, slots := 0, locals := 45 } : Room)).room s m args below meth c H locs 0 0 (MQ below (va_Qi (S := Unit) (fun r _ => post r) (fun (_ : Unit) (t : State) => sn_BX0 (dC, dI) A h0 ad cs f0 f1 f2 f3 f4 f5 f6 f7 t) A) args s 0 0 A) (F0 m 23 ls []) := by
  obtain ⟨hx, hb, hr, hlocks, hml, hown, hts, hA, hK⟩ := id C0
  intro n23
  induction n23 with
  | zero =>
    intro x1 x3 x4 hm
    unfold mX0_next_23 at hm
    exact False.elim hm
  | succ n23 ih23 =>
    intro x1 x3 x4 hm H locs hP hD hS ls hl
    unfold mX0_next_23 at hm
    refine lv_iload hx hb dX0_next_23 (lv_at hl 3 rfl) ?_
    refine lv_sipush (v := (256 : Int32)) hx hb dX0_next_25 (by decide) ?_
    refine lv_icmp_ge (tgt := 69) hx hb dX0_next_28 (by decide) (fun c_1 => ?_) (fun c_1 => ?_)
    · have hm := hm.1 c_1
      refine lv_sipush (v := (256 : Int32)) hx hb dX0_next_69 (by decide) ?_
      exact W.iret (v := (256 : Int32)) hx hb hr (fun t ht hW => ⟨⟨(256 : Int32), (), rfl, hm, ⟨by rw [ht]; exact hP, va_K.moved hW.alike hK, hD⟩⟩, hS.F ht⟩) hS.2.2 dX0_next_72
    · have hm := hm.2 c_1
      refine lv_iload_n hx hb dX0_next_31 rfl (lv_at hl 2 rfl) ?_
      refine lv_sipush (v := (256 : Int32)) hx hb dX0_next_32 (by decide) ?_
      refine lv_icmp_ge (tgt := 69) hx hb dX0_next_35 (by decide) (fun c_2 => ?_) (fun c_2 => ?_)
      · have hm := hm.1 c_2
        refine lv_sipush (v := (256 : Int32)) hx hb dX0_next_69 (by decide) ?_
        exact W.iret (v := (256 : Int32)) hx hb hr (fun t ht hW => ⟨⟨(256 : Int32), (), rfl, hm, ⟨by rw [ht]; exact hP, va_K.moved hW.alike hK, hD⟩⟩, hS.F ht⟩) hS.2.2 dX0_next_72
      · have hm := hm.2 c_2
        refine lv_aload_n hx hb dX0_next_38 rfl (lv_at hl 0 rfl) ?_
        refine lv_iload_n hx hb dX0_next_39 rfl (lv_at hl 1 rfl) ?_
        refine lv_iconst (v := (1 : Int32)) hx hb dX0_next_40 (by decide) ?_
        refine lv_iadd hx hb dX0_next_41 ?_
        refine lv_iload_n hx hb dX0_next_42 rfl (lv_at hl 2 rfl) ?_
        refine sn_cl_Vi (As := [.int (x1 + (1 : Int32)), .int x3]) (rest := []) (w1 := (fun (_ : Unit) => sn_pwX0 h0 ad cs (f0) (f1) (f2) (f3) (f4) (f5) (f6) (f7))) ⟨hx, hb, hml, hown, hts⟩ (kX0_missingLevel l dC dI h0 ad cs H.size f0 f1 f2 f3 f4 f5 f6 f7 (x1 + (1 : Int32)) x3 _ hm) (cwV 2 hts (lw_V q139 q141 qs11 q19 q142) rfl rfl rfl (by decide +kernel) ⟨Nat.le_of_ble_eq_true rfl, Nat.le_of_ble_eq_true rfl⟩) (va_recv hK hP (ci := 0) (q0 := 0) rfl rfl) hP hD hK hS hA rfl hl.1 rfl (lv_room (Nat.le_of_ble_eq_true rfl)) dX0_next_43 ⟨Nat.le_refl 0, Nat.le_refl 0⟩ (fun r_3 _ H locs hm hP hD hS => ?_)
        refine lv_istore (lv' := [(5, .int r_3), (0, .ref h0), (1, .int x1), (3, .int x3), (4, .int x4)]) hx hb dX0_next_46 hl (by decide) rfl (fun ls hl => ?_)
        refine lv_iload hx hb dX0_next_48 (lv_at hl 0 rfl) ?_
        refine lv_iconst (v := (4 : Int32)) hx hb dX0_next_50 (by decide) ?_
        refine lv_icmp_le (tgt := 56) hx hb dX0_next_51 (by decide) (fun c_4 => ?_) (fun c_4 => ?_)
        · have hm := hm.1 c_4
          refine lv_iload_n hx hb dX0_next_56 rfl (lv_at hl 3 rfl) ?_
          refine lv_iload hx hb dX0_next_57 (lv_at hl 0 rfl) ?_
          refine sn_cl_S (As := [.int x3, .int r_3]) (rest := []) ⟨hx, hb, hml, hown, hts⟩ (kX0_behind l H.size x3 r_3 _ hm) (va_cwS 2 hts (lw_S q143 q144 q19 q145) rfl rfl rfl (by decide +kernel) ⟨Nat.le_of_ble_eq_true rfl, Nat.le_of_ble_eq_true rfl⟩) hP hS hA rfl hl.1 rfl (lv_room (Nat.le_of_ble_eq_true rfl)) dX0_next_59 ⟨Nat.le_refl 0, Nat.le_refl 0⟩ (fun r_5 H locs hm hP hS => ?_)
          refine lv_istore_n (lv' := [(3, .int r_5), (5, .int r_3), (0, .ref h0), (1, .int x1), (4, .int x4)]) hx hb dX0_next_62 rfl hl (by decide) rfl (fun ls hl => ?_)
          refine lv_iinc (v := (x4 + (1 : Int32))) (lv' := [(4, .int (x4 + (1 : Int32))), (3, .int r_5), (5, .int r_3), (0, .ref h0), (1, .int x1)]) hx hb dX0_next_63 hl (k := 4) rfl rfl (by decide) rfl (fun ls hl => ?_)
          refine lv_goto (tgt := 23) hx hb dX0_next_66 (by decide) ?_
          exact ih23 x1 r_5 (x4 + (1 : Int32)) hm H locs hP hD hS ls (lv_sub hl [3, 4, 1, 0] rfl)
        · have hm := hm.2 c_4
          refine lv_iload_n hx hb dX0_next_54 rfl (lv_at hl 3 rfl) ?_
          exact W.iret (v := x3) hx hb hr (fun t ht hW => ⟨⟨x3, (), rfl, hm, ⟨by rw [ht]; exact hP, va_K.moved hW.alike hK, hD⟩⟩, hS.F ht⟩) hS.2.2 dX0_next_55
set_option maxHeartbeats 4000000 in
set_option maxRecDepth 100000 in
theorem wX0_next_0 {p : Program} {l : Launch} {e : Env} {s : State} {m : MethodId} {args : Array Value} {below : List Frame} {meth : Method} {c : Code} {A : Nat → Prop} {dC : Nat → ClassId} {dI : Nat → Nat → Nat} {h0 : Nat} {ad : Nat → Nat} {cs : Nat → ClassId} {f0 f1 f2 f3 f4 f5 f6 f7 : Nat → Int32} (C0 : sn_Cx cX0_next 6 (some .int) RX0 p s m meth c args A (dC, dI) (sn_tyX0 cs)) (post : Int32 → Prop) (x1 x2 : Int32) (hm : mX0_next f0 f1 f3 f4 x1 x2 post) (H : Heap) (locs : List Loc) (hP : va_P (dC, dI) sn_cl (sn_pwX0 h0 ad cs f0 f1 f2 f3 f4 f5 f6 f7) H) (hD : va_D A (sn_pwX0 h0 ad cs f0 f1 f2 f3 f4 f5 f6 f7)) (hS : va_S A s.heap H locs) (ls : Array Slot) (hl : lv_has ls 6 [(0, .ref h0), (1, .int x1), (2, .int x2)]) : W p l e (headSpec (ws_ yX0_next cX0_next 6 (some .int)) ({ frames := 2, cells := 0, slots := 0, locals := 45 } : Room)).room s m args below meth c H locs 0 0 (MQ below (va_Qi (S := Unit) (fun r _ => post r) (fun (_ : Unit) (t : State) => sn_BX0 (dC, dI) A h0 ad cs f0 f1 f2 f3 f4 f5 f6 f7 t) A) args s 0 0 A) (F0 m 0 ls []) := by
  obtain ⟨hx, hb, hr, hlocks, hml, hown, hts, hA, hK⟩ := id C0
  unfold mX0_next at hm
  refine lv_aload_n hx hb dX0_next_0 rfl (lv_at hl 0 rfl) ?_
  refine lv_iload_n hx hb dX0_next_1 rfl (lv_at hl 1 rfl) ?_
  refine sn_cl_Vi (As := [.int x1]) (rest := []) (w1 := (fun (_ : Unit) => sn_pwX0 h0 ad cs (f0) (f1) (f2) (f3) (f4) (f5) (f6) (f7))) ⟨hx, hb, hml, hown, hts⟩ (kX0_isMap l dC dI h0 ad cs H.size f0 f1 f2 f3 f4 f5 f6 f7 x1 _ hm) (cwV 1 hts (lw_V q123 q125 qs10 q19 q126) rfl rfl rfl (by decide +kernel) ⟨Nat.le_of_ble_eq_true rfl, Nat.le_of_ble_eq_true rfl⟩) (va_recv hK hP (ci := 0) (q0 := 0) rfl rfl) hP hD hK hS hA rfl hl.1 rfl (lv_room (Nat.le_of_ble_eq_true rfl)) dX0_next_2 ⟨Nat.le_refl 0, Nat.le_refl 0⟩ (fun r_1 _ H locs hm hP hD hS => ?_)
  refine lv_if_ne (tgt := 10) hx hb dX0_next_5 (by decide) (fun c_2 => ?_) (fun c_2 => ?_)
  · have hm := hm.1 c_2
    refine lv_iload_n hx hb dX0_next_10 rfl (lv_at hl 2 rfl) ?_
    refine lv_if_ge (tgt := 18) hx hb dX0_next_11 (by decide) (fun c_3 => ?_) (fun c_3 => ?_)
    · have hm := hm.1 c_3
      refine lv_iload_n hx hb dX0_next_18 rfl (lv_at hl 2 rfl) ?_
      refine lv_istore_n (lv' := [(3, .int x2), (0, .ref h0), (1, .int x1), (2, .int x2)]) hx hb dX0_next_19 rfl hl (by decide) rfl (fun ls hl => ?_)
      refine lv_iconst (v := (0 : Int32)) hx hb dX0_next_20 (by decide) ?_
      refine lv_istore (lv' := [(4, .int (0 : Int32)), (3, .int x2), (0, .ref h0), (1, .int x1), (2, .int x2)]) hx hb dX0_next_21 hl (by decide) rfl (fun ls hl => ?_)
      obtain ⟨n23, hm⟩ := hm
      exact wX0_next_23 C0 post n23 x1 x2 (0 : Int32) hm H locs hP hD hS ls (lv_sub hl [2, 3, 1, 0] rfl)
    · have hm := hm.2 c_3
      refine lv_iconst (v := (0 : Int32)) hx hb dX0_next_14 (by decide) ?_
      refine lv_goto (tgt := 19) hx hb dX0_next_15 (by decide) ?_
      refine lv_istore_n (lv' := [(3, .int (0 : Int32)), (0, .ref h0), (1, .int x1), (2, .int x2)]) hx hb dX0_next_19 rfl hl (by decide) rfl (fun ls hl => ?_)
      refine lv_iconst (v := (0 : Int32)) hx hb dX0_next_20 (by decide) ?_
      refine lv_istore (lv' := [(4, .int (0 : Int32)), (3, .int (0 : Int32)), (0, .ref h0), (1, .int x1), (2, .int x2)]) hx hb dX0_next_21 hl (by decide) rfl (fun ls hl => ?_)
      obtain ⟨n23, hm⟩ := hm
      exact wX0_next_23 C0 post n23 x1 (0 : Int32) (0 : Int32) hm H locs hP hD hS ls (lv_sub hl [2, 3, 1, 0] rfl)
  · have hm := hm.2 c_2
    refine lv_iconst (v := (-1 : Int32)) hx hb dX0_next_8 (by decide) ?_
    exact W.iret (v := (-1 : Int32)) hx hb hr (fun t ht hW => ⟨⟨(-1 : Int32), (), rfl, hm, ⟨by rw [ht]; exact hP, va_K.moved hW.alike hK, hD⟩⟩, hS.F ht⟩) hS.2.2 dX0_next_9
set_option maxHeartbeats 4000000 in
set_option maxRecDepth 100000 in
theorem kX0_next (l : Launch) (dC : Nat → ClassId) (dI : Nat → Nat → Nat) (h0 : Nat) (ad : Nat → Nat) (cs : Nat → ClassId) (sz : Nat) (f0 f1 f2 f3 f4 f5 f6 f7 : Nat → Int32) (x1 x2 : Int32) (post : Int32 → Prop) (hm : mX0_next f0 f1 f3 f4 x1 x2 post) : Met l yX0_next (ws_ yX0_next cX0_next 6 (some .int)) ({ frames := 2, cells := 0, slots := 0, locals := 45 } : Room) (va_Pc [.ref h0, .int x1, .int x2] (sn_PX (dC, dI) (sn_tyX0 cs) (sn_pwX0 h0 ad cs f0 f1 f2 f3 f4 f5 f6 f7) sz)) (va_Qi (S := Unit) (fun r _ => post r) (fun (_ : Unit) (t : State) => sn_BX0 (dC, dI) (va_A (sn_pwX0 h0 ad cs f0 f1 f2 f3 f4 f5 f6 f7) sz) h0 ad cs f0 f1 f2 f3 f4 f5 f6 f7 t) (va_A (sn_pwX0 h0 ad cs f0 f1 f2 f3 f4 f5 f6 f7) sz)) 0 0 (va_A (sn_pwX0 h0 ad cs f0 f1 f2 f3 f4 f5 f6 f7) sz) := by
  refine sn_mk_V (n := 6) (RC := RX0) (Q := fun A => (va_Qi (S := Unit) (fun r _ => post r) (fun (_ : Unit) (t : State) => sn_BX0 (dC, dI) A h0 ad cs f0 f1 f2 f3 f4 f5 f6 f7 t) A)) (by decide) rfl (Nat.le_of_ble_eq_true rfl) ?_
  intro p e s m below meth c A ls C0 hP hD hl
  exact wX0_next_0 C0 post x1 x2 hm _ _ hP hD va_S.rf ls hl
set_option maxHeartbeats 4000000 in
set_option maxRecDepth 100000 in
theorem wX0_sharedLevel_160 {p : Program} {l : Launch} {e : Env} {s : State} {m : MethodId} {args : Array Value} {below : List Frame} {meth : Method} {c : Code} {A : Nat → Prop} {dC : Nat → ClassId} {dI : Nat → Nat → Nat} {h0 : Nat} {ad : Nat → Nat} {cs : Nat → ClassId} {f0 f1 f2 f3 f4 f5 f6 f7 : Nat → Int32} (C0 : sn_Cx cX0_sharedLevel 8 (some .int) RX0 p s m meth c args A (dC, dI) (sn_tyX0 cs)) (post : Int32 → Prop) (x3 x4 x5 x6 x7 : Int32) (hm : mX0_sharedLevel_160 f0 f1 f4 x3 x4 x5 x6 x7 post) (H : Heap) (locs : List Loc) (hP : va_P (dC, dI) sn_cl (sn_pwX0 h0 ad cs f0 f1 f2 f3 f4 f5 f6 f7) H) (hD : va_D A (sn_pwX0 h0 ad cs f0 f1 f2 f3 f4 f5 f6 f7)) (hS : va_S A s.heap H locs) (ls : Array Slot) (hl : lv_has ls 8 [(0, .ref h0), (3, .int x3), (4, .int x4), (5, .int x5), (6, .int x6), (7, .int x7)]) : W p l e (headSpec (ws_ yX0_sharedLevel cX0_sharedLevel 8 (some .int)) ({ frames := 1, cells := 0, slots := 0, locals := 21 } : Room)).room s m args below meth c H locs 0 0 (MQ below (va_Qi (S := Unit) (fun r _ => post r) (fun (_ : Unit) (t : State) => sn_BX0 (dC, dI) A h0 ad cs f0 f1 f2 f3 f4 f5 f6 f7 t) A) args s 0 0 A) (F0 m 160 ls []) := by
  obtain ⟨hx, hb, hr, hlocks, hml, hown, hts, hA, hK⟩ := id C0
  unfold mX0_sharedLevel_160 at hm
  refine lv_iload hx hb dX0_sharedLevel_160 (lv_at hl 4 rfl) ?_
  refine lv_iload hx hb dX0_sharedLevel_162 (lv_at hl 5 rfl) ?_
  refine lv_icmp_eq (tgt := 169) hx hb dX0_sharedLevel_164 (by decide) (fun c_1 => ?_) (fun c_1 => ?_)
  · have hm := hm.1 c_1
    refine lv_iload hx hb dX0_sharedLevel_169 (lv_at hl 4 rfl) ?_
    refine lv_if_eq (tgt := 207) hx hb dX0_sharedLevel_171 (by decide) (fun c_2 => ?_) (fun c_2 => ?_)
    · have hm := hm.1 c_2
      refine lv_iconst (v := (4 : Int32)) hx hb dX0_sharedLevel_207 (by decide) ?_
      exact W.iret (v := (4 : Int32)) hx hb hr (fun t ht hW => ⟨⟨(4 : Int32), (), rfl, hm, ⟨by rw [ht]; exact hP, va_K.moved hW.alike hK, hD⟩⟩, hS.F ht⟩) hS.2.2 dX0_sharedLevel_208
    · have hm := hm.2 c_2
      refine lv_aload_n hx hb dX0_sharedLevel_174 rfl (lv_at hl 0 rfl) ?_
      refine sn_gtX0_0 C0 hP dX0_sharedLevel_175 ?_
      refine lv_iconst (v := (4 : Int32)) hx hb dX0_sharedLevel_178 (by decide) ?_
      refine lv_iload hx hb dX0_sharedLevel_179 (lv_at hl 2 rfl) ?_
      refine lv_imul hx hb dX0_sharedLevel_181 ?_
      refine lv_iload_n hx hb dX0_sharedLevel_182 rfl (lv_at hl 1 rfl) ?_
      refine lv_iconst (v := (3 : Int32)) hx hb dX0_sharedLevel_183 (by decide) ?_
      refine lv_iand hx hb dX0_sharedLevel_184 ?_
      refine lv_iadd hx hb dX0_sharedLevel_185 ?_
      obtain ⟨h_3, hm⟩ := hm
      refine sn_ldX0_0 C0 hP h_3 dX0_sharedLevel_186 ?_
      refine lv_aload_n hx hb dX0_sharedLevel_187 rfl (lv_at hl 0 rfl) ?_
      refine sn_gtX0_0 C0 hP dX0_sharedLevel_188 ?_
      refine lv_iconst (v := (4 : Int32)) hx hb dX0_sharedLevel_191 (by decide) ?_
      refine lv_iload hx hb dX0_sharedLevel_192 (lv_at hl 3 rfl) ?_
      refine lv_imul hx hb dX0_sharedLevel_194 ?_
      refine lv_iload_n hx hb dX0_sharedLevel_195 rfl (lv_at hl 1 rfl) ?_
      refine lv_iconst (v := (3 : Int32)) hx hb dX0_sharedLevel_196 (by decide) ?_
      refine lv_iand hx hb dX0_sharedLevel_197 ?_
      refine lv_iadd hx hb dX0_sharedLevel_198 ?_
      obtain ⟨h_4, hm⟩ := hm
      refine sn_ldX0_0 C0 hP h_4 dX0_sharedLevel_199 ?_
      refine lv_icmp_eq (tgt := 207) hx hb dX0_sharedLevel_200 (by decide) (fun c_5 => ?_) (fun c_5 => ?_)
      · have hm := hm.1 c_5
        refine lv_iconst (v := (4 : Int32)) hx hb dX0_sharedLevel_207 (by decide) ?_
        exact W.iret (v := (4 : Int32)) hx hb hr (fun t ht hW => ⟨⟨(4 : Int32), (), rfl, hm, ⟨by rw [ht]; exact hP, va_K.moved hW.alike hK, hD⟩⟩, hS.F ht⟩) hS.2.2 dX0_sharedLevel_208
      · have hm := hm.2 c_5
        refine lv_iconst (v := (5 : Int32)) hx hb dX0_sharedLevel_203 (by decide) ?_
        refine lv_goto (tgt := 208) hx hb dX0_sharedLevel_204 (by decide) ?_
        exact W.iret (v := (5 : Int32)) hx hb hr (fun t ht hW => ⟨⟨(5 : Int32), (), rfl, hm, ⟨by rw [ht]; exact hP, va_K.moved hW.alike hK, hD⟩⟩, hS.F ht⟩) hS.2.2 dX0_sharedLevel_208
  · have hm := hm.2 c_1
    refine lv_iconst (v := (5 : Int32)) hx hb dX0_sharedLevel_167 (by decide) ?_
    exact W.iret (v := (5 : Int32)) hx hb hr (fun t ht hW => ⟨⟨(5 : Int32), (), rfl, hm, ⟨by rw [ht]; exact hP, va_K.moved hW.alike hK, hD⟩⟩, hS.F ht⟩) hS.2.2 dX0_sharedLevel_168
set_option maxHeartbeats 4000000 in
set_option maxRecDepth 100000 in
theorem wX0_sharedLevel_132 {p : Program} {l : Launch} {e : Env} {s : State} {m : MethodId} {args : Array Value} {below : List Frame} {meth : Method} {c : Code} {A : Nat → Prop} {dC : Nat → ClassId} {dI : Nat → Nat → Nat} {h0 : Nat} {ad : Nat → Nat} {cs : Nat → ClassId} {f0 f1 f2 f3 f4 f5 f6 f7 : Nat → Int32} (C0 : sn_Cx cX0_sharedLevel 8 (some .int) RX0 p s m meth c args A (dC, dI) (sn_tyX0 cs)) (post : Int32 → Prop) (x3 x4 x5 x6 : Int32) (hm : mX0_sharedLevel_132 f0 f1 f4 x3 x4 x5 x6 post) (H : Heap) (locs : List Loc) (hP : va_P (dC, dI) sn_cl (sn_pwX0 h0 ad cs f0 f1 f2 f3 f4 f5 f6 f7) H) (hD : va_D A (sn_pwX0 h0 ad cs f0 f1 f2 f3 f4 f5 f6 f7)) (hS : va_S A s.heap H locs) (ls : Array Slot) (hl : lv_has ls 8 [(0, .ref h0), (3, .int x3), (4, .int x4), (5, .int x5), (6, .int x6)]) : W p l e (headSpec (ws_ yX0_sharedLevel cX0_sharedLevel 8 (some .int)) ({ frames := 1, cells := 0, slots := 0, locals := 21 } : Room)).room s m args below meth c H locs 0 0 (MQ below (va_Qi (S := Unit) (fun r _ => post r) (fun (_ : Unit) (t : State) => sn_BX0 (dC, dI) A h0 ad cs f0 f1 f2 f3 f4 f5 f6 f7 t) A) args s 0 0 A) (F0 m 132 ls []) := by
  obtain ⟨hx, hb, hr, hlocks, hml, hown, hts, hA, hK⟩ := id C0
  unfold mX0_sharedLevel_132 at hm
  refine lv_iload hx hb dX0_sharedLevel_132 (lv_at hl 3 rfl) ?_
  refine lv_if_lt (tgt := 157) hx hb dX0_sharedLevel_134 (by decide) (fun c_1 => ?_) (fun c_1 => ?_)
  · have hm := hm.1 c_1
    refine lv_iconst (v := (0 : Int32)) hx hb dX0_sharedLevel_157 (by decide) ?_
    refine lv_istore (lv' := [(7, .int (0 : Int32)), (0, .ref h0), (3, .int x3), (4, .int x4), (5, .int x5), (6, .int x6)]) hx hb dX0_sharedLevel_158 hl (by decide) rfl (fun ls hl => ?_)
    exact wX0_sharedLevel_160 C0 post x3 x4 x5 x6 (0 : Int32) hm H locs hP hD hS ls (lv_sub hl [1, 2, 3, 4, 5, 0] rfl)
  · have hm := hm.2 c_1
    refine lv_aload_n hx hb dX0_sharedLevel_137 rfl (lv_at hl 0 rfl) ?_
    refine sn_gtX0_1 C0 hP dX0_sharedLevel_138 ?_
    refine lv_iload hx hb dX0_sharedLevel_141 (lv_at hl 3 rfl) ?_
    obtain ⟨h_2, hm⟩ := hm
    refine sn_ldX0_1 C0 hP h_2 dX0_sharedLevel_143 ?_
    refine lv_iload_n hx hb dX0_sharedLevel_144 rfl (lv_at hl 1 rfl) ?_
    refine lv_iconst (v := (3 : Int32)) hx hb dX0_sharedLevel_145 (by decide) ?_
    refine lv_iand hx hb dX0_sharedLevel_146 ?_
    refine lv_iushr (v := (sn_ushr (f1 (x5).toNatClampNeg) (x3 &&& (3 : Int32)))) hx hb dX0_sharedLevel_147 rfl ?_
    refine lv_iconst (v := (1 : Int32)) hx hb dX0_sharedLevel_148 (by decide) ?_
    refine lv_iand hx hb dX0_sharedLevel_149 ?_
    refine lv_if_eq (tgt := 157) hx hb dX0_sharedLevel_150 (by decide) (fun c_3 => ?_) (fun c_3 => ?_)
    · have hm := hm.1 c_3
      refine lv_iconst (v := (0 : Int32)) hx hb dX0_sharedLevel_157 (by decide) ?_
      refine lv_istore (lv' := [(7, .int (0 : Int32)), (0, .ref h0), (3, .int x3), (4, .int x4), (5, .int x5), (6, .int x6)]) hx hb dX0_sharedLevel_158 hl (by decide) rfl (fun ls hl => ?_)
      exact wX0_sharedLevel_160 C0 post x3 x4 x5 x6 (0 : Int32) hm H locs hP hD hS ls (lv_sub hl [1, 2, 3, 4, 5, 0] rfl)
    · have hm := hm.2 c_3
      refine lv_iconst (v := (1 : Int32)) hx hb dX0_sharedLevel_153 (by decide) ?_
      refine lv_goto (tgt := 158) hx hb dX0_sharedLevel_154 (by decide) ?_
      refine lv_istore (lv' := [(7, .int (1 : Int32)), (0, .ref h0), (3, .int x3), (4, .int x4), (5, .int x5), (6, .int x6)]) hx hb dX0_sharedLevel_158 hl (by decide) rfl (fun ls hl => ?_)
      exact wX0_sharedLevel_160 C0 post x3 x4 x5 x6 (1 : Int32) hm H locs hP hD hS ls (lv_sub hl [1, 2, 3, 4, 5, 0] rfl)
set_option maxHeartbeats 4000000 in
set_option maxRecDepth 100000 in
theorem wX0_sharedLevel_19 {p : Program} {l : Launch} {e : Env} {s : State} {m : MethodId} {args : Array Value} {below : List Frame} {meth : Method} {c : Code} {A : Nat → Prop} {dC : Nat → ClassId} {dI : Nat → Nat → Nat} {h0 : Nat} {ad : Nat → Nat} {cs : Nat → ClassId} {f0 f1 f2 f3 f4 f5 f6 f7 : Nat → Int32} (C0 : sn_Cx cX0_sharedLevel 8 (some .int) RX0 p s m meth c args A (dC, dI) (sn_tyX0 cs)) (post : Int32 → Prop) : ∀ (n19 : Nat) (x3 x4 x5 x6 : Int32), mX0_sharedLevel_19 n19 f0 f1 f4 x3 x4 x5 x6 post → ∀ (H : Heap) (locs : List Loc), va_P (dC, dI) sn_cl (sn_pwX0 h0 ad cs f0 f1 f2 f3 f4 f5 f6 f7) H → va_D A (sn_pwX0 h0 ad cs f0 f1 f2 f3 f4 f5 f6 f7) → va_S A s.heap H locs → ∀ (ls : Array Slot), lv_has ls 8 [(0, .ref h0), (3, .int x3), (4, .int x4), (5, .int x5), (6, .int x6)] → W p l e (headSpec (ws_ yX0_sharedLevel cX0_sharedLevel 8 (some .int)) ({ frames := 1, cells := 0, slots := 0, locals := 21 } : Room)).room s m args below meth c H locs 0 0 (MQ below (va_Qi (S := Unit) (fun r _ => post r) (fun (_ : Unit) (t : State) => sn_BX0 (dC, dI) A h0 ad cs f0 f1 f2 f3 f4 f5 f6 f7 t) A) args s 0 0 A) (F0 m 19 ls []) := by
  obtain ⟨hx, hb, hr, hlocks, hml, hown, hts, hA, hK⟩ := id C0
  intro n19
  induction n19 with
  | zero =>
    intro x3 x4 x5 x6 hm
    unfold mX0_sharedLevel_19 at hm
    exact False.elim hm
  | succ n19 ih19 =>
    intro x3 x4 x5 x6 hm H locs hP hD hS ls hl
    unfold mX0_sharedLevel_19 at hm
    refine lv_iload hx hb dX0_sharedLevel_19 (lv_at hl 4 rfl) ?_
    refine lv_iconst (v := (3 : Int32)) hx hb dX0_sharedLevel_21 (by decide) ?_
    refine lv_icmp_ge (tgt := 95) hx hb dX0_sharedLevel_22 (by decide) (fun c_1 => ?_) (fun c_1 => ?_)
    · have hm := hm.1 c_1
      refine lv_iload hx hb dX0_sharedLevel_95 (lv_at hl 2 rfl) ?_
      refine lv_iload hx hb dX0_sharedLevel_97 (lv_at hl 3 rfl) ?_
      refine lv_icmp_ne (tgt := 104) hx hb dX0_sharedLevel_99 (by decide) (fun c_2 => ?_) (fun c_2 => ?_)
      · have hm := hm.1 c_2
        refine lv_iload hx hb dX0_sharedLevel_104 (lv_at hl 2 rfl) ?_
        refine lv_if_lt (tgt := 129) hx hb dX0_sharedLevel_106 (by decide) (fun c_3 => ?_) (fun c_3 => ?_)
        · have hm := hm.1 c_3
          refine lv_iconst (v := (0 : Int32)) hx hb dX0_sharedLevel_129 (by decide) ?_
          refine lv_istore (lv' := [(6, .int (0 : Int32)), (0, .ref h0), (3, .int x3), (4, .int x4), (5, .int x5)]) hx hb dX0_sharedLevel_130 hl (by decide) rfl (fun ls hl => ?_)
          exact wX0_sharedLevel_132 C0 post x3 x4 x5 (0 : Int32) hm H locs hP hD hS ls (lv_sub hl [1, 2, 3, 4, 0] rfl)
        · have hm := hm.2 c_3
          refine lv_aload_n hx hb dX0_sharedLevel_109 rfl (lv_at hl 0 rfl) ?_
          refine sn_gtX0_1 C0 hP dX0_sharedLevel_110 ?_
          refine lv_iload hx hb dX0_sharedLevel_113 (lv_at hl 2 rfl) ?_
          obtain ⟨h_4, hm⟩ := hm
          refine sn_ldX0_1 C0 hP h_4 dX0_sharedLevel_115 ?_
          refine lv_iload_n hx hb dX0_sharedLevel_116 rfl (lv_at hl 1 rfl) ?_
          refine lv_iconst (v := (3 : Int32)) hx hb dX0_sharedLevel_117 (by decide) ?_
          refine lv_iand hx hb dX0_sharedLevel_118 ?_
          refine lv_iushr (v := (sn_ushr (f1 (x4).toNatClampNeg) (x3 &&& (3 : Int32)))) hx hb dX0_sharedLevel_119 rfl ?_
          refine lv_iconst (v := (1 : Int32)) hx hb dX0_sharedLevel_120 (by decide) ?_
          refine lv_iand hx hb dX0_sharedLevel_121 ?_
          refine lv_if_eq (tgt := 129) hx hb dX0_sharedLevel_122 (by decide) (fun c_5 => ?_) (fun c_5 => ?_)
          · have hm := hm.1 c_5
            refine lv_iconst (v := (0 : Int32)) hx hb dX0_sharedLevel_129 (by decide) ?_
            refine lv_istore (lv' := [(6, .int (0 : Int32)), (0, .ref h0), (3, .int x3), (4, .int x4), (5, .int x5)]) hx hb dX0_sharedLevel_130 hl (by decide) rfl (fun ls hl => ?_)
            exact wX0_sharedLevel_132 C0 post x3 x4 x5 (0 : Int32) hm H locs hP hD hS ls (lv_sub hl [1, 2, 3, 4, 0] rfl)
          · have hm := hm.2 c_5
            refine lv_iconst (v := (1 : Int32)) hx hb dX0_sharedLevel_125 (by decide) ?_
            refine lv_goto (tgt := 130) hx hb dX0_sharedLevel_126 (by decide) ?_
            refine lv_istore (lv' := [(6, .int (1 : Int32)), (0, .ref h0), (3, .int x3), (4, .int x4), (5, .int x5)]) hx hb dX0_sharedLevel_130 hl (by decide) rfl (fun ls hl => ?_)
            exact wX0_sharedLevel_132 C0 post x3 x4 x5 (1 : Int32) hm H locs hP hD hS ls (lv_sub hl [1, 2, 3, 4, 0] rfl)
      · have hm := hm.2 c_2
        refine lv_iconst (v := (3 : Int32)) hx hb dX0_sharedLevel_102 (by decide) ?_
        exact W.iret (v := (3 : Int32)) hx hb hr (fun t ht hW => ⟨⟨(3 : Int32), (), rfl, hm, ⟨by rw [ht]; exact hP, va_K.moved hW.alike hK, hD⟩⟩, hS.F ht⟩) hS.2.2 dX0_sharedLevel_103
    · have hm := hm.2 c_1
      refine lv_iload hx hb dX0_sharedLevel_25 (lv_at hl 2 rfl) ?_
      refine lv_iload hx hb dX0_sharedLevel_27 (lv_at hl 3 rfl) ?_
      refine lv_icmp_ne (tgt := 35) hx hb dX0_sharedLevel_29 (by decide) (fun c_6 => ?_) (fun c_6 => ?_)
      · have hm := hm.1 c_6
        refine lv_iload hx hb dX0_sharedLevel_35 (lv_at hl 2 rfl) ?_
        refine lv_if_ge (tgt := 44) hx hb dX0_sharedLevel_37 (by decide) (fun c_7 => ?_) (fun c_7 => ?_)
        · have hm := hm.1 c_7
          refine lv_aload_n hx hb dX0_sharedLevel_44 rfl (lv_at hl 0 rfl) ?_
          refine sn_gtX0_0 C0 hP dX0_sharedLevel_45 ?_
          refine lv_iconst (v := (4 : Int32)) hx hb dX0_sharedLevel_48 (by decide) ?_
          refine lv_iload hx hb dX0_sharedLevel_49 (lv_at hl 2 rfl) ?_
          refine lv_imul hx hb dX0_sharedLevel_51 ?_
          refine lv_iload_n hx hb dX0_sharedLevel_52 rfl (lv_at hl 1 rfl) ?_
          refine lv_iload hx hb dX0_sharedLevel_53 (lv_at hl 4 rfl) ?_
          refine sn_cl_S (As := [.int x3, .int x6]) (rest := [.int ((4 : Int32) * x4), .ref (ad 0)]) ⟨hx, hb, hml, hown, hts⟩ (kX0_turn l H.size x3 x6 _ hm) (va_cwS 2 hts (lw_S q68 q69 q19 q70) rfl rfl rfl (by decide +kernel) ⟨Nat.le_of_ble_eq_true rfl, Nat.le_of_ble_eq_true rfl⟩) hP hS hA rfl hl.1 rfl (lv_room (Nat.le_of_ble_eq_true rfl)) dX0_sharedLevel_55 ⟨Nat.le_refl 0, Nat.le_refl 0⟩ (fun r_8 H locs hm hP hS => ?_)
          refine lv_iadd hx hb dX0_sharedLevel_58 ?_
          obtain ⟨h_9, hm⟩ := hm
          refine sn_ldX0_0 C0 hP h_9 dX0_sharedLevel_59 ?_
          refine lv_istore (lv' := [(4, .int (f0 (((4 : Int32) * x4) + r_8).toNatClampNeg)), (0, .ref h0), (3, .int x3), (5, .int x5), (6, .int x6)]) hx hb dX0_sharedLevel_60 hl (by decide) rfl (fun ls hl => ?_)
          refine lv_iload hx hb dX0_sharedLevel_62 (lv_at hl 3 rfl) ?_
          refine lv_if_ge (tgt := 71) hx hb dX0_sharedLevel_64 (by decide) (fun c_10 => ?_) (fun c_10 => ?_)
          · have hm := hm.1 c_10
            refine lv_aload_n hx hb dX0_sharedLevel_71 rfl (lv_at hl 1 rfl) ?_
            refine sn_gtX0_0 C0 hP dX0_sharedLevel_72 ?_
            refine lv_iconst (v := (4 : Int32)) hx hb dX0_sharedLevel_75 (by decide) ?_
            refine lv_iload hx hb dX0_sharedLevel_76 (lv_at hl 3 rfl) ?_
            refine lv_imul hx hb dX0_sharedLevel_78 ?_
            refine lv_iload_n hx hb dX0_sharedLevel_79 rfl (lv_at hl 2 rfl) ?_
            refine lv_iload hx hb dX0_sharedLevel_80 (lv_at hl 4 rfl) ?_
            refine sn_cl_S (As := [.int x3, .int x6]) (rest := [.int ((4 : Int32) * x5), .ref (ad 0)]) ⟨hx, hb, hml, hown, hts⟩ (kX0_turn l H.size x3 x6 _ hm) (va_cwS 2 hts (lw_S q68 q69 q19 q70) rfl rfl rfl (by decide +kernel) ⟨Nat.le_of_ble_eq_true rfl, Nat.le_of_ble_eq_true rfl⟩) hP hS hA rfl hl.1 rfl (lv_room (Nat.le_of_ble_eq_true rfl)) dX0_sharedLevel_82 ⟨Nat.le_refl 0, Nat.le_refl 0⟩ (fun r_11 H locs hm hP hS => ?_)
            refine lv_iadd hx hb dX0_sharedLevel_85 ?_
            obtain ⟨h_12, hm⟩ := hm
            refine sn_ldX0_0 C0 hP h_12 dX0_sharedLevel_86 ?_
            refine lv_istore (lv' := [(5, .int (f0 (((4 : Int32) * x5) + r_11).toNatClampNeg)), (4, .int (f0 (((4 : Int32) * x4) + r_8).toNatClampNeg)), (0, .ref h0), (3, .int x3), (6, .int x6)]) hx hb dX0_sharedLevel_87 hl (by decide) rfl (fun ls hl => ?_)
            refine lv_iinc (v := (x6 + (1 : Int32))) (lv' := [(6, .int (x6 + (1 : Int32))), (5, .int (f0 (((4 : Int32) * x5) + r_11).toNatClampNeg)), (4, .int (f0 (((4 : Int32) * x4) + r_8).toNatClampNeg)), (0, .ref h0), (3, .int x3)]) hx hb dX0_sharedLevel_89 hl (k := 4) rfl rfl (by decide) rfl (fun ls hl => ?_)
            refine lv_goto (tgt := 19) hx hb dX0_sharedLevel_92 (by decide) ?_
            exact ih19 x3 (f0 (((4 : Int32) * x4) + r_8).toNatClampNeg) (f0 (((4 : Int32) * x5) + r_11).toNatClampNeg) (x6 + (1 : Int32)) hm H locs hP hD hS ls (lv_sub hl [3, 4, 2, 1, 0] rfl)
          · have hm := hm.2 c_10
            refine lv_iconst (v := (-1 : Int32)) hx hb dX0_sharedLevel_67 (by decide) ?_
            refine lv_goto (tgt := 87) hx hb dX0_sharedLevel_68 (by decide) ?_
            refine lv_istore (lv' := [(5, .int (-1 : Int32)), (4, .int (f0 (((4 : Int32) * x4) + r_8).toNatClampNeg)), (0, .ref h0), (3, .int x3), (6, .int x6)]) hx hb dX0_sharedLevel_87 hl (by decide) rfl (fun ls hl => ?_)
            refine lv_iinc (v := (x6 + (1 : Int32))) (lv' := [(6, .int (x6 + (1 : Int32))), (5, .int (-1 : Int32)), (4, .int (f0 (((4 : Int32) * x4) + r_8).toNatClampNeg)), (0, .ref h0), (3, .int x3)]) hx hb dX0_sharedLevel_89 hl (k := 4) rfl rfl (by decide) rfl (fun ls hl => ?_)
            refine lv_goto (tgt := 19) hx hb dX0_sharedLevel_92 (by decide) ?_
            exact ih19 x3 (f0 (((4 : Int32) * x4) + r_8).toNatClampNeg) (-1 : Int32) (x6 + (1 : Int32)) hm H locs hP hD hS ls (lv_sub hl [3, 4, 2, 1, 0] rfl)
        · have hm := hm.2 c_7
          refine lv_iconst (v := (-1 : Int32)) hx hb dX0_sharedLevel_40 (by decide) ?_
          refine lv_goto (tgt := 60) hx hb dX0_sharedLevel_41 (by decide) ?_
          refine lv_istore (lv' := [(4, .int (-1 : Int32)), (0, .ref h0), (3, .int x3), (5, .int x5), (6, .int x6)]) hx hb dX0_sharedLevel_60 hl (by decide) rfl (fun ls hl => ?_)
          refine lv_iload hx hb dX0_sharedLevel_62 (lv_at hl 3 rfl) ?_
          refine lv_if_ge (tgt := 71) hx hb dX0_sharedLevel_64 (by decide) (fun c_13 => ?_) (fun c_13 => ?_)
          · have hm := hm.1 c_13
            refine lv_aload_n hx hb dX0_sharedLevel_71 rfl (lv_at hl 1 rfl) ?_
            refine sn_gtX0_0 C0 hP dX0_sharedLevel_72 ?_
            refine lv_iconst (v := (4 : Int32)) hx hb dX0_sharedLevel_75 (by decide) ?_
            refine lv_iload hx hb dX0_sharedLevel_76 (lv_at hl 3 rfl) ?_
            refine lv_imul hx hb dX0_sharedLevel_78 ?_
            refine lv_iload_n hx hb dX0_sharedLevel_79 rfl (lv_at hl 2 rfl) ?_
            refine lv_iload hx hb dX0_sharedLevel_80 (lv_at hl 4 rfl) ?_
            refine sn_cl_S (As := [.int x3, .int x6]) (rest := [.int ((4 : Int32) * x5), .ref (ad 0)]) ⟨hx, hb, hml, hown, hts⟩ (kX0_turn l H.size x3 x6 _ hm) (va_cwS 2 hts (lw_S q68 q69 q19 q70) rfl rfl rfl (by decide +kernel) ⟨Nat.le_of_ble_eq_true rfl, Nat.le_of_ble_eq_true rfl⟩) hP hS hA rfl hl.1 rfl (lv_room (Nat.le_of_ble_eq_true rfl)) dX0_sharedLevel_82 ⟨Nat.le_refl 0, Nat.le_refl 0⟩ (fun r_14 H locs hm hP hS => ?_)
            refine lv_iadd hx hb dX0_sharedLevel_85 ?_
            obtain ⟨h_15, hm⟩ := hm
            refine sn_ldX0_0 C0 hP h_15 dX0_sharedLevel_86 ?_
            refine lv_istore (lv' := [(5, .int (f0 (((4 : Int32) * x5) + r_14).toNatClampNeg)), (4, .int (-1 : Int32)), (0, .ref h0), (3, .int x3), (6, .int x6)]) hx hb dX0_sharedLevel_87 hl (by decide) rfl (fun ls hl => ?_)
            refine lv_iinc (v := (x6 + (1 : Int32))) (lv' := [(6, .int (x6 + (1 : Int32))), (5, .int (f0 (((4 : Int32) * x5) + r_14).toNatClampNeg)), (4, .int (-1 : Int32)), (0, .ref h0), (3, .int x3)]) hx hb dX0_sharedLevel_89 hl (k := 4) rfl rfl (by decide) rfl (fun ls hl => ?_)
            refine lv_goto (tgt := 19) hx hb dX0_sharedLevel_92 (by decide) ?_
            exact ih19 x3 (-1 : Int32) (f0 (((4 : Int32) * x5) + r_14).toNatClampNeg) (x6 + (1 : Int32)) hm H locs hP hD hS ls (lv_sub hl [3, 4, 2, 1, 0] rfl)
          · have hm := hm.2 c_13
            refine lv_iconst (v := (-1 : Int32)) hx hb dX0_sharedLevel_67 (by decide) ?_
            refine lv_goto (tgt := 87) hx hb dX0_sharedLevel_68 (by decide) ?_
            refine lv_istore (lv' := [(5, .int (-1 : Int32)), (4, .int (-1 : Int32)), (0, .ref h0), (3, .int x3), (6, .int x6)]) hx hb dX0_sharedLevel_87 hl (by decide) rfl (fun ls hl => ?_)
            refine lv_iinc (v := (x6 + (1 : Int32))) (lv' := [(6, .int (x6 + (1 : Int32))), (5, .int (-1 : Int32)), (4, .int (-1 : Int32)), (0, .ref h0), (3, .int x3)]) hx hb dX0_sharedLevel_89 hl (k := 4) rfl rfl (by decide) rfl (fun ls hl => ?_)
            refine lv_goto (tgt := 19) hx hb dX0_sharedLevel_92 (by decide) ?_
            exact ih19 x3 (-1 : Int32) (-1 : Int32) (x6 + (1 : Int32)) hm H locs hP hD hS ls (lv_sub hl [3, 4, 2, 1, 0] rfl)
      · have hm := hm.2 c_6
        refine lv_iload hx hb dX0_sharedLevel_32 (lv_at hl 4 rfl) ?_
        exact W.iret (v := x6) hx hb hr (fun t ht hW => ⟨⟨x6, (), rfl, hm, ⟨by rw [ht]; exact hP, va_K.moved hW.alike hK, hD⟩⟩, hS.F ht⟩) hS.2.2 dX0_sharedLevel_34
set_option maxHeartbeats 4000000 in
set_option maxRecDepth 100000 in
theorem wX0_sharedLevel_0 {p : Program} {l : Launch} {e : Env} {s : State} {m : MethodId} {args : Array Value} {below : List Frame} {meth : Method} {c : Code} {A : Nat → Prop} {dC : Nat → ClassId} {dI : Nat → Nat → Nat} {h0 : Nat} {ad : Nat → Nat} {cs : Nat → ClassId} {f0 f1 f2 f3 f4 f5 f6 f7 : Nat → Int32} (C0 : sn_Cx cX0_sharedLevel 8 (some .int) RX0 p s m meth c args A (dC, dI) (sn_tyX0 cs)) (post : Int32 → Prop) (x1 x2 x3 : Int32) (hm : mX0_sharedLevel f0 f1 f4 x1 x2 x3 post) (H : Heap) (locs : List Loc) (hP : va_P (dC, dI) sn_cl (sn_pwX0 h0 ad cs f0 f1 f2 f3 f4 f5 f6 f7) H) (hD : va_D A (sn_pwX0 h0 ad cs f0 f1 f2 f3 f4 f5 f6 f7)) (hS : va_S A s.heap H locs) (ls : Array Slot) (hl : lv_has ls 8 [(0, .ref h0), (1, .int x1), (2, .int x2), (3, .int x3)]) : W p l e (headSpec (ws_ yX0_sharedLevel cX0_sharedLevel 8 (some .int)) ({ frames := 1, cells := 0, slots := 0, locals := 21 } : Room)).room s m args below meth c H locs 0 0 (MQ below (va_Qi (S := Unit) (fun r _ => post r) (fun (_ : Unit) (t : State) => sn_BX0 (dC, dI) A h0 ad cs f0 f1 f2 f3 f4 f5 f6 f7 t) A) args s 0 0 A) (F0 m 0 ls []) := by
  obtain ⟨hx, hb, hr, hlocks, hml, hown, hts, hA, hK⟩ := id C0
  unfold mX0_sharedLevel at hm
  refine lv_aload_n hx hb dX0_sharedLevel_0 rfl (lv_at hl 0 rfl) ?_
  refine sn_gtX0_4 C0 hP dX0_sharedLevel_1 ?_
  refine lv_iload_n hx hb dX0_sharedLevel_4 rfl (lv_at hl 1 rfl) ?_
  obtain ⟨h_1, hm⟩ := hm
  refine sn_ldX0_4 C0 hP h_1 dX0_sharedLevel_5 ?_
  refine lv_istore (lv' := [(4, .int (f4 (x1).toNatClampNeg)), (0, .ref h0), (1, .int x1), (2, .int x2), (3, .int x3)]) hx hb dX0_sharedLevel_6 hl (by decide) rfl (fun ls hl => ?_)
  refine lv_aload_n hx hb dX0_sharedLevel_8 rfl (lv_at hl 1 rfl) ?_
  refine sn_gtX0_4 C0 hP dX0_sharedLevel_9 ?_
  refine lv_iload_n hx hb dX0_sharedLevel_12 rfl (lv_at hl 3 rfl) ?_
  obtain ⟨h_2, hm⟩ := hm
  refine sn_ldX0_4 C0 hP h_2 dX0_sharedLevel_13 ?_
  refine lv_istore (lv' := [(5, .int (f4 (x2).toNatClampNeg)), (4, .int (f4 (x1).toNatClampNeg)), (0, .ref h0), (1, .int x1), (2, .int x2), (3, .int x3)]) hx hb dX0_sharedLevel_14 hl (by decide) rfl (fun ls hl => ?_)
  refine lv_iconst (v := (0 : Int32)) hx hb dX0_sharedLevel_16 (by decide) ?_
  refine lv_istore (lv' := [(6, .int (0 : Int32)), (5, .int (f4 (x2).toNatClampNeg)), (4, .int (f4 (x1).toNatClampNeg)), (0, .ref h0), (1, .int x1), (2, .int x2), (3, .int x3)]) hx hb dX0_sharedLevel_17 hl (by decide) rfl (fun ls hl => ?_)
  obtain ⟨n19, hm⟩ := hm
  exact wX0_sharedLevel_19 C0 post n19 x3 (f4 (x1).toNatClampNeg) (f4 (x2).toNatClampNeg) (0 : Int32) hm H locs hP hD hS ls (lv_sub hl [3, 6, 2, 1, 0] rfl)
set_option maxHeartbeats 4000000 in
set_option maxRecDepth 100000 in
theorem kX0_sharedLevel (l : Launch) (dC : Nat → ClassId) (dI : Nat → Nat → Nat) (h0 : Nat) (ad : Nat → Nat) (cs : Nat → ClassId) (sz : Nat) (f0 f1 f2 f3 f4 f5 f6 f7 : Nat → Int32) (x1 x2 x3 : Int32) (post : Int32 → Prop) (hm : mX0_sharedLevel f0 f1 f4 x1 x2 x3 post) : Met l yX0_sharedLevel (ws_ yX0_sharedLevel cX0_sharedLevel 8 (some .int)) ({ frames := 1, cells := 0, slots := 0, locals := 21 } : Room) (va_Pc [.ref h0, .int x1, .int x2, .int x3] (sn_PX (dC, dI) (sn_tyX0 cs) (sn_pwX0 h0 ad cs f0 f1 f2 f3 f4 f5 f6 f7) sz)) (va_Qi (S := Unit) (fun r _ => post r) (fun (_ : Unit) (t : State) => sn_BX0 (dC, dI) (va_A (sn_pwX0 h0 ad cs f0 f1 f2 f3 f4 f5 f6 f7) sz) h0 ad cs f0 f1 f2 f3 f4 f5 f6 f7 t) (va_A (sn_pwX0 h0 ad cs f0 f1 f2 f3 f4 f5 f6 f7) sz)) 0 0 (va_A (sn_pwX0 h0 ad cs f0 f1 f2 f3 f4 f5 f6 f7) sz) := by
  refine sn_mk_V (n := 8) (RC := RX0) (Q := fun A => (va_Qi (S := Unit) (fun r _ => post r) (fun (_ : Unit) (t : State) => sn_BX0 (dC, dI) A h0 ad cs f0 f1 f2 f3 f4 f5 f6 f7 t) A)) (by decide) rfl (Nat.le_of_ble_eq_true rfl) ?_
  intro p e s m below meth c A ls C0 hP hD hl
  exact wX0_sharedLevel_0 C0 post x1 x2 x3 hm _ _ hP hD va_S.rf ls hl
set_option maxHeartbeats 4000000 in
set_option maxRecDepth 100000 in
theorem wX0_nextChange_32 {p : Program} {l : Launch} {e : Env} {s : State} {m : MethodId} {args : Array Value} {below : List Frame} {meth : Method} {c : Code} {A : Nat → Prop} {dC : Nat → ClassId} {dI : Nat → Nat → Nat} {h0 : Nat} {ad : Nat → Nat} {cs : Nat → ClassId} {f0 f1 f2 f3 f4 f5 f6 f7 : Nat → Int32} (C0 : sn_Cx cX0_nextChange 7 (some .int) RX0 p s m meth c args A (dC, dI) (sn_tyX0 cs)) (post : Int32 → Prop) : ∀ (n32 : Nat) (x1 x2 x4 x5 : Int32), mX0_nextChange_32 n32 f0 f1 f3 f4 x1 x2 x4 x5 post → ∀ (H : Heap) (locs : List Loc), va_P (dC, dI) sn_cl (sn_pwX0 h0 ad cs f0 f1 f2 f3 f4 f5 f6 f7) H → va_D A (sn_pwX0 h0 ad cs f0 f1 f2 f3 f4 f5 f6 f7) → va_S A s.heap H locs → ∀ (ls : Array Slot), lv_has ls 7 [(0, .ref h0), (1, .int x1), (2, .int x2), (4, .int x4), (5, .int x5)] → W p l e (headSpec (ws_ yX0_nextChange cX0_nextChange 7 (some .int)) ({ frames := 2, cells := 0, slots := 0, locals := 48 } : Room)).room s m args below meth c H locs 0 0 (MQ below (va_Qi (S := Unit) (fun r _ => post r) (fun (_ : Unit) (t : State) => sn_BX0 (dC, dI) A h0 ad cs f0 f1 f2 f3 f4 f5 f6 f7 t) A) args s 0 0 A) (F0 m 32 ls []) := by
  obtain ⟨hx, hb, hr, hlocks, hml, hown, hts, hA, hK⟩ := id C0
  intro n32
  induction n32 with
  | zero =>
    intro x1 x2 x4 x5 hm
    unfold mX0_nextChange_32 at hm
    exact False.elim hm
  | succ n32 ih32 =>
    intro x1 x2 x4 x5 hm H locs hP hD hS ls hl
    unfold mX0_nextChange_32 at hm
    refine lv_iload hx hb dX0_nextChange_32 (lv_at hl 4 rfl) ?_
    refine lv_sipush (v := (256 : Int32)) hx hb dX0_nextChange_34 (by decide) ?_
    refine lv_icmp_ge (tgt := 86) hx hb dX0_nextChange_37 (by decide) (fun c_1 => ?_) (fun c_1 => ?_)
    · have hm := hm.1 c_1
      refine lv_sipush (v := (256 : Int32)) hx hb dX0_nextChange_86 (by decide) ?_
      exact W.iret (v := (256 : Int32)) hx hb hr (fun t ht hW => ⟨⟨(256 : Int32), (), rfl, hm, ⟨by rw [ht]; exact hP, va_K.moved hW.alike hK, hD⟩⟩, hS.F ht⟩) hS.2.2 dX0_nextChange_89
    · have hm := hm.2 c_1
      refine lv_iload hx hb dX0_nextChange_40 (lv_at hl 3 rfl) ?_
      refine lv_sipush (v := (256 : Int32)) hx hb dX0_nextChange_42 (by decide) ?_
      refine lv_icmp_ge (tgt := 86) hx hb dX0_nextChange_45 (by decide) (fun c_2 => ?_) (fun c_2 => ?_)
      · have hm := hm.1 c_2
        refine lv_sipush (v := (256 : Int32)) hx hb dX0_nextChange_86 (by decide) ?_
        exact W.iret (v := (256 : Int32)) hx hb hr (fun t ht hW => ⟨⟨(256 : Int32), (), rfl, hm, ⟨by rw [ht]; exact hP, va_K.moved hW.alike hK, hD⟩⟩, hS.F ht⟩) hS.2.2 dX0_nextChange_89
      · have hm := hm.2 c_2
        refine lv_aload_n hx hb dX0_nextChange_48 rfl (lv_at hl 0 rfl) ?_
        refine lv_iload_n hx hb dX0_nextChange_49 rfl (lv_at hl 1 rfl) ?_
        refine lv_iconst (v := (1 : Int32)) hx hb dX0_nextChange_50 (by decide) ?_
        refine lv_iadd hx hb dX0_nextChange_51 ?_
        refine lv_iload_n hx hb dX0_nextChange_52 rfl (lv_at hl 2 rfl) ?_
        refine lv_iconst (v := (1 : Int32)) hx hb dX0_nextChange_53 (by decide) ?_
        refine lv_iadd hx hb dX0_nextChange_54 ?_
        refine lv_iload hx hb dX0_nextChange_55 (lv_at hl 3 rfl) ?_
        refine sn_cl_Vi (As := [.int (x1 + (1 : Int32)), .int (x2 + (1 : Int32)), .int x4]) (rest := []) (w1 := (fun (_ : Unit) => sn_pwX0 h0 ad cs (f0) (f1) (f2) (f3) (f4) (f5) (f6) (f7))) ⟨hx, hb, hml, hown, hts⟩ (kX0_sharedLevel l dC dI h0 ad cs H.size f0 f1 f2 f3 f4 f5 f6 f7 (x1 + (1 : Int32)) (x2 + (1 : Int32)) x4 _ hm) (cwV 3 hts (lw_V q150 q152 qs12 q19 q153) rfl rfl rfl (by decide +kernel) ⟨Nat.le_of_ble_eq_true rfl, Nat.le_of_ble_eq_true rfl⟩) (va_recv hK hP (ci := 0) (q0 := 0) rfl rfl) hP hD hK hS hA rfl hl.1 rfl (lv_room (Nat.le_of_ble_eq_true rfl)) dX0_nextChange_57 ⟨Nat.le_refl 0, Nat.le_refl 0⟩ (fun r_3 _ H locs hm hP hD hS => ?_)
        refine lv_istore (lv' := [(6, .int r_3), (0, .ref h0), (1, .int x1), (2, .int x2), (4, .int x4), (5, .int x5)]) hx hb dX0_nextChange_60 hl (by decide) rfl (fun ls hl => ?_)
        refine lv_iload hx hb dX0_nextChange_62 (lv_at hl 0 rfl) ?_
        refine lv_iconst (v := (4 : Int32)) hx hb dX0_nextChange_64 (by decide) ?_
        refine lv_icmp_le (tgt := 71) hx hb dX0_nextChange_65 (by decide) (fun c_4 => ?_) (fun c_4 => ?_)
        · have hm := hm.1 c_4
          refine lv_iload hx hb dX0_nextChange_71 (lv_at hl 4 rfl) ?_
          refine lv_iload hx hb dX0_nextChange_73 (lv_at hl 0 rfl) ?_
          refine sn_cl_S (As := [.int x4, .int r_3]) (rest := []) ⟨hx, hb, hml, hown, hts⟩ (kX0_behind l H.size x4 r_3 _ hm) (va_cwS 2 hts (lw_S q143 q144 q19 q145) rfl rfl rfl (by decide +kernel) ⟨Nat.le_of_ble_eq_true rfl, Nat.le_of_ble_eq_true rfl⟩) hP hS hA rfl hl.1 rfl (lv_room (Nat.le_of_ble_eq_true rfl)) dX0_nextChange_75 ⟨Nat.le_refl 0, Nat.le_refl 0⟩ (fun r_5 H locs hm hP hS => ?_)
          refine lv_istore (lv' := [(4, .int r_5), (6, .int r_3), (0, .ref h0), (1, .int x1), (2, .int x2), (5, .int x5)]) hx hb dX0_nextChange_78 hl (by decide) rfl (fun ls hl => ?_)
          refine lv_iinc (v := (x5 + (1 : Int32))) (lv' := [(5, .int (x5 + (1 : Int32))), (4, .int r_5), (6, .int r_3), (0, .ref h0), (1, .int x1), (2, .int x2)]) hx hb dX0_nextChange_80 hl (k := 5) rfl rfl (by decide) rfl (fun ls hl => ?_)
          refine lv_goto (tgt := 32) hx hb dX0_nextChange_83 (by decide) ?_
          exact ih32 x1 x2 r_5 (x5 + (1 : Int32)) hm H locs hP hD hS ls (lv_sub hl [3, 4, 5, 1, 0] rfl)
        · have hm := hm.2 c_4
          refine lv_iload hx hb dX0_nextChange_68 (lv_at hl 4 rfl) ?_
          exact W.iret (v := x4) hx hb hr (fun t ht hW => ⟨⟨x4, (), rfl, hm, ⟨by rw [ht]; exact hP, va_K.moved hW.alike hK, hD⟩⟩, hS.F ht⟩) hS.2.2 dX0_nextChange_70
set_option maxHeartbeats 4000000 in
set_option maxRecDepth 100000 in
theorem wX0_nextChange_0 {p : Program} {l : Launch} {e : Env} {s : State} {m : MethodId} {args : Array Value} {below : List Frame} {meth : Method} {c : Code} {A : Nat → Prop} {dC : Nat → ClassId} {dI : Nat → Nat → Nat} {h0 : Nat} {ad : Nat → Nat} {cs : Nat → ClassId} {f0 f1 f2 f3 f4 f5 f6 f7 : Nat → Int32} (C0 : sn_Cx cX0_nextChange 7 (some .int) RX0 p s m meth c args A (dC, dI) (sn_tyX0 cs)) (post : Int32 → Prop) (x1 x2 x3 : Int32) (hm : mX0_nextChange f0 f1 f3 f4 x1 x2 x3 post) (H : Heap) (locs : List Loc) (hP : va_P (dC, dI) sn_cl (sn_pwX0 h0 ad cs f0 f1 f2 f3 f4 f5 f6 f7) H) (hD : va_D A (sn_pwX0 h0 ad cs f0 f1 f2 f3 f4 f5 f6 f7)) (hS : va_S A s.heap H locs) (ls : Array Slot) (hl : lv_has ls 7 [(0, .ref h0), (1, .int x1), (2, .int x2), (3, .int x3)]) : W p l e (headSpec (ws_ yX0_nextChange cX0_nextChange 7 (some .int)) ({ frames := 2, cells := 0, slots := 0, locals := 48 } : Room)).room s m args below meth c H locs 0 0 (MQ below (va_Qi (S := Unit) (fun r _ => post r) (fun (_ : Unit) (t : State) => sn_BX0 (dC, dI) A h0 ad cs f0 f1 f2 f3 f4 f5 f6 f7 t) A) args s 0 0 A) (F0 m 0 ls []) := by
  obtain ⟨hx, hb, hr, hlocks, hml, hown, hts, hA, hK⟩ := id C0
  unfold mX0_nextChange at hm
  refine lv_aload_n hx hb dX0_nextChange_0 rfl (lv_at hl 0 rfl) ?_
  refine lv_iload_n hx hb dX0_nextChange_1 rfl (lv_at hl 1 rfl) ?_
  refine sn_cl_Vi (As := [.int x1]) (rest := []) (w1 := (fun (_ : Unit) => sn_pwX0 h0 ad cs (f0) (f1) (f2) (f3) (f4) (f5) (f6) (f7))) ⟨hx, hb, hml, hown, hts⟩ (kX0_isMap l dC dI h0 ad cs H.size f0 f1 f2 f3 f4 f5 f6 f7 x1 _ hm) (cwV 1 hts (lw_V q123 q125 qs10 q19 q126) rfl rfl rfl (by decide +kernel) ⟨Nat.le_of_ble_eq_true rfl, Nat.le_of_ble_eq_true rfl⟩) (va_recv hK hP (ci := 0) (q0 := 0) rfl rfl) hP hD hK hS hA rfl hl.1 rfl (lv_room (Nat.le_of_ble_eq_true rfl)) dX0_nextChange_2 ⟨Nat.le_refl 0, Nat.le_refl 0⟩ (fun r_1 _ H locs hm hP hD hS => ?_)
  refine lv_if_eq (tgt := 16) hx hb dX0_nextChange_5 (by decide) (fun c_2 => ?_) (fun c_2 => ?_)
  · have hm := hm.1 c_2
    refine lv_iconst (v := (-1 : Int32)) hx hb dX0_nextChange_16 (by decide) ?_
    exact W.iret (v := (-1 : Int32)) hx hb hr (fun t ht hW => ⟨⟨(-1 : Int32), (), rfl, hm, ⟨by rw [ht]; exact hP, va_K.moved hW.alike hK, hD⟩⟩, hS.F ht⟩) hS.2.2 dX0_nextChange_17
  · have hm := hm.2 c_2
    refine lv_aload_n hx hb dX0_nextChange_8 rfl (lv_at hl 0 rfl) ?_
    refine lv_iload_n hx hb dX0_nextChange_9 rfl (lv_at hl 2 rfl) ?_
    refine sn_cl_Vi (As := [.int x2]) (rest := []) (w1 := (fun (_ : Unit) => sn_pwX0 h0 ad cs (f0) (f1) (f2) (f3) (f4) (f5) (f6) (f7))) ⟨hx, hb, hml, hown, hts⟩ (kX0_isMap l dC dI h0 ad cs H.size f0 f1 f2 f3 f4 f5 f6 f7 x2 _ hm) (cwV 1 hts (lw_V q123 q125 qs10 q19 q126) rfl rfl rfl (by decide +kernel) ⟨Nat.le_of_ble_eq_true rfl, Nat.le_of_ble_eq_true rfl⟩) (va_recv hK hP (ci := 0) (q0 := 0) rfl rfl) hP hD hK hS hA rfl hl.1 rfl (lv_room (Nat.le_of_ble_eq_true rfl)) dX0_nextChange_10 ⟨Nat.le_refl 0, Nat.le_refl 0⟩ (fun r_3 _ H locs hm hP hD hS => ?_)
    refine lv_if_ne (tgt := 18) hx hb dX0_nextChange_13 (by decide) (fun c_4 => ?_) (fun c_4 => ?_)
    · have hm := hm.1 c_4
      refine lv_iload_n hx hb dX0_nextChange_18 rfl (lv_at hl 3 rfl) ?_
      refine lv_if_ge (tgt := 26) hx hb dX0_nextChange_19 (by decide) (fun c_5 => ?_) (fun c_5 => ?_)
      · have hm := hm.1 c_5
        refine lv_iload_n hx hb dX0_nextChange_26 rfl (lv_at hl 3 rfl) ?_
        refine lv_istore (lv' := [(4, .int x3), (0, .ref h0), (1, .int x1), (2, .int x2), (3, .int x3)]) hx hb dX0_nextChange_27 hl (by decide) rfl (fun ls hl => ?_)
        refine lv_iconst (v := (0 : Int32)) hx hb dX0_nextChange_29 (by decide) ?_
        refine lv_istore (lv' := [(5, .int (0 : Int32)), (4, .int x3), (0, .ref h0), (1, .int x1), (2, .int x2), (3, .int x3)]) hx hb dX0_nextChange_30 hl (by decide) rfl (fun ls hl => ?_)
        obtain ⟨n32, hm⟩ := hm
        exact wX0_nextChange_32 C0 post n32 x1 x2 x3 (0 : Int32) hm H locs hP hD hS ls (lv_sub hl [2, 3, 4, 1, 0] rfl)
      · have hm := hm.2 c_5
        refine lv_iconst (v := (0 : Int32)) hx hb dX0_nextChange_22 (by decide) ?_
        refine lv_goto (tgt := 27) hx hb dX0_nextChange_23 (by decide) ?_
        refine lv_istore (lv' := [(4, .int (0 : Int32)), (0, .ref h0), (1, .int x1), (2, .int x2), (3, .int x3)]) hx hb dX0_nextChange_27 hl (by decide) rfl (fun ls hl => ?_)
        refine lv_iconst (v := (0 : Int32)) hx hb dX0_nextChange_29 (by decide) ?_
        refine lv_istore (lv' := [(5, .int (0 : Int32)), (4, .int (0 : Int32)), (0, .ref h0), (1, .int x1), (2, .int x2), (3, .int x3)]) hx hb dX0_nextChange_30 hl (by decide) rfl (fun ls hl => ?_)
        obtain ⟨n32, hm⟩ := hm
        exact wX0_nextChange_32 C0 post n32 x1 x2 (0 : Int32) (0 : Int32) hm H locs hP hD hS ls (lv_sub hl [2, 3, 4, 1, 0] rfl)
    · have hm := hm.2 c_4
      refine lv_iconst (v := (-1 : Int32)) hx hb dX0_nextChange_16 (by decide) ?_
      exact W.iret (v := (-1 : Int32)) hx hb hr (fun t ht hW => ⟨⟨(-1 : Int32), (), rfl, hm, ⟨by rw [ht]; exact hP, va_K.moved hW.alike hK, hD⟩⟩, hS.F ht⟩) hS.2.2 dX0_nextChange_17
set_option maxHeartbeats 4000000 in
set_option maxRecDepth 100000 in
theorem kX0_nextChange (l : Launch) (dC : Nat → ClassId) (dI : Nat → Nat → Nat) (h0 : Nat) (ad : Nat → Nat) (cs : Nat → ClassId) (sz : Nat) (f0 f1 f2 f3 f4 f5 f6 f7 : Nat → Int32) (x1 x2 x3 : Int32) (post : Int32 → Prop) (hm : mX0_nextChange f0 f1 f3 f4 x1 x2 x3 post) : Met l yX0_nextChange (ws_ yX0_nextChange cX0_nextChange 7 (some .int)) ({ frames := 2, cells := 0, slots := 0, locals := 48 } : Room) (va_Pc [.ref h0, .int x1, .int x2, .int x3] (sn_PX (dC, dI) (sn_tyX0 cs) (sn_pwX0 h0 ad cs f0 f1 f2 f3 f4 f5 f6 f7) sz)) (va_Qi (S := Unit) (fun r _ => post r) (fun (_ : Unit) (t : State) => sn_BX0 (dC, dI) (va_A (sn_pwX0 h0 ad cs f0 f1 f2 f3 f4 f5 f6 f7) sz) h0 ad cs f0 f1 f2 f3 f4 f5 f6 f7 t) (va_A (sn_pwX0 h0 ad cs f0 f1 f2 f3 f4 f5 f6 f7) sz)) 0 0 (va_A (sn_pwX0 h0 ad cs f0 f1 f2 f3 f4 f5 f6 f7) sz) := by
  refine sn_mk_V (n := 7) (RC := RX0) (Q := fun A => (va_Qi (S := Unit) (fun r _ => post r) (fun (_ : Unit) (t : State) => sn_BX0 (dC, dI) A h0 ad cs f0 f1 f2 f3 f4 f5 f6 f7 t) A)) (by decide) rfl (Nat.le_of_ble_eq_true rfl) ?_
  intro p e s m below meth c A ls C0 hP hD hl
  exact wX0_nextChange_0 C0 post x1 x2 x3 hm _ _ hP hD va_S.rf ls hl
set_option maxHeartbeats 4000000 in
set_option maxRecDepth 100000 in
theorem wX0_changes_32 {p : Program} {l : Launch} {e : Env} {s : State} {m : MethodId} {args : Array Value} {below : List Frame} {meth : Method} {c : Code} {A : Nat → Prop} {dC : Nat → ClassId} {dI : Nat → Nat → Nat} {h0 : Nat} {ad : Nat → Nat} {cs : Nat → ClassId} {f0 f1 f2 f3 f4 f5 f6 f7 : Nat → Int32} (C0 : sn_Cx cX0_changes 6 (some .int) RX0 p s m meth c args A (dC, dI) (sn_tyX0 cs)) (post : Int32 → Prop) : ∀ (n32 : Nat) (x1 x2 x3 x4 x5 : Int32), mX0_changes_32 n32 f0 f1 f3 f4 x1 x2 x3 x4 x5 post → ∀ (H : Heap) (locs : List Loc), va_P (dC, dI) sn_cl (sn_pwX0 h0 ad cs f0 f1 f2 f3 f4 f5 f6 f7) H → va_D A (sn_pwX0 h0 ad cs f0 f1 f2 f3 f4 f5 f6 f7) → va_S A s.heap H locs → ∀ (ls : Array Slot), lv_has ls 6 [(0, .ref h0), (1, .int x1), (2, .int x2), (3, .int x3), (4, .int x4), (5, .int x5)] → W p l e (headSpec (ws_ yX0_changes cX0_changes 6 (some .int)) ({ frames := 3, cells := 0, slots := 0, locals := 74 } : Room)).room s m args below meth c H locs 0 0 (MQ below (va_Qi (S := Unit) (fun r _ => post r) (fun (_ : Unit) (t : State) => sn_BX0 (dC, dI) A h0 ad cs f0 f1 f2 f3 f4 f5 f6 f7 t) A) args s 0 0 A) (F0 m 32 ls []) := by
  obtain ⟨hx, hb, hr, hlocks, hml, hown, hts, hA, hK⟩ := id C0
  intro n32
  induction n32 with
  | zero =>
    intro x1 x2 x3 x4 x5 hm
    unfold mX0_changes_32 at hm
    exact False.elim hm
  | succ n32 ih32 =>
    intro x1 x2 x3 x4 x5 hm H locs hP hD hS ls hl
    unfold mX0_changes_32 at hm
    refine lv_iload hx hb dX0_changes_32 (lv_at hl 5 rfl) ?_
    refine lv_sipush (v := (256 : Int32)) hx hb dX0_changes_34 (by decide) ?_
    refine lv_icmp_ge (tgt := 69) hx hb dX0_changes_37 (by decide) (fun c_1 => ?_) (fun c_1 => ?_)
    · have hm := hm.1 c_1
      refine lv_iload_n hx hb dX0_changes_69 rfl (lv_at hl 3 rfl) ?_
      exact W.iret (v := x3) hx hb hr (fun t ht hW => ⟨⟨x3, (), rfl, hm, ⟨by rw [ht]; exact hP, va_K.moved hW.alike hK, hD⟩⟩, hS.F ht⟩) hS.2.2 dX0_changes_70
    · have hm := hm.2 c_1
      refine lv_iload hx hb dX0_changes_40 (lv_at hl 4 rfl) ?_
      refine lv_sipush (v := (256 : Int32)) hx hb dX0_changes_42 (by decide) ?_
      refine lv_icmp_ge (tgt := 69) hx hb dX0_changes_45 (by decide) (fun c_2 => ?_) (fun c_2 => ?_)
      · have hm := hm.1 c_2
        refine lv_iload_n hx hb dX0_changes_69 rfl (lv_at hl 3 rfl) ?_
        exact W.iret (v := x3) hx hb hr (fun t ht hW => ⟨⟨x3, (), rfl, hm, ⟨by rw [ht]; exact hP, va_K.moved hW.alike hK, hD⟩⟩, hS.F ht⟩) hS.2.2 dX0_changes_70
      · have hm := hm.2 c_2
        refine lv_iinc (v := (x3 + (1 : Int32))) (lv' := [(3, .int (x3 + (1 : Int32))), (0, .ref h0), (1, .int x1), (2, .int x2), (4, .int x4), (5, .int x5)]) hx hb dX0_changes_48 hl (k := 3) rfl rfl (by decide) rfl (fun ls hl => ?_)
        refine lv_aload_n hx hb dX0_changes_51 rfl (lv_at hl 1 rfl) ?_
        refine lv_iload_n hx hb dX0_changes_52 rfl (lv_at hl 2 rfl) ?_
        refine lv_iload_n hx hb dX0_changes_53 rfl (lv_at hl 3 rfl) ?_
        refine lv_iload hx hb dX0_changes_54 (lv_at hl 4 rfl) ?_
        refine lv_iconst (v := (1 : Int32)) hx hb dX0_changes_56 (by decide) ?_
        refine lv_iadd hx hb dX0_changes_57 ?_
        refine sn_cl_Vi (As := [.int x1, .int x2, .int (x4 + (1 : Int32))]) (rest := []) (w1 := (fun (_ : Unit) => sn_pwX0 h0 ad cs (f0) (f1) (f2) (f3) (f4) (f5) (f6) (f7))) ⟨hx, hb, hml, hown, hts⟩ (kX0_nextChange l dC dI h0 ad cs H.size f0 f1 f2 f3 f4 f5 f6 f7 x1 x2 (x4 + (1 : Int32)) _ hm) (cwV 3 hts (lw_V q158 q147 q148 q19 q149) rfl rfl rfl (by decide +kernel) ⟨Nat.le_of_ble_eq_true rfl, Nat.le_of_ble_eq_true rfl⟩) (va_recv hK hP (ci := 0) (q0 := 0) rfl rfl) hP hD hK hS hA rfl hl.1 rfl (lv_room (Nat.le_of_ble_eq_true rfl)) dX0_changes_58 ⟨Nat.le_refl 0, Nat.le_refl 0⟩ (fun r_3 _ H locs hm hP hD hS => ?_)
        refine lv_istore (lv' := [(4, .int r_3), (3, .int (x3 + (1 : Int32))), (0, .ref h0), (1, .int x1), (2, .int x2), (5, .int x5)]) hx hb dX0_changes_61 hl (by decide) rfl (fun ls hl => ?_)
        refine lv_iinc (v := (x5 + (1 : Int32))) (lv' := [(5, .int (x5 + (1 : Int32))), (4, .int r_3), (3, .int (x3 + (1 : Int32))), (0, .ref h0), (1, .int x1), (2, .int x2)]) hx hb dX0_changes_63 hl (k := 5) rfl rfl (by decide) rfl (fun ls hl => ?_)
        refine lv_goto (tgt := 32) hx hb dX0_changes_66 (by decide) ?_
        exact ih32 x1 x2 (x3 + (1 : Int32)) r_3 (x5 + (1 : Int32)) hm H locs hP hD hS ls (lv_sub hl [3, 4, 5, 2, 1, 0] rfl)
set_option maxHeartbeats 4000000 in
set_option maxRecDepth 100000 in
theorem wX0_changes_0 {p : Program} {l : Launch} {e : Env} {s : State} {m : MethodId} {args : Array Value} {below : List Frame} {meth : Method} {c : Code} {A : Nat → Prop} {dC : Nat → ClassId} {dI : Nat → Nat → Nat} {h0 : Nat} {ad : Nat → Nat} {cs : Nat → ClassId} {f0 f1 f2 f3 f4 f5 f6 f7 : Nat → Int32} (C0 : sn_Cx cX0_changes 6 (some .int) RX0 p s m meth c args A (dC, dI) (sn_tyX0 cs)) (post : Int32 → Prop) (x1 x2 : Int32) (hm : mX0_changes f0 f1 f3 f4 x1 x2 post) (H : Heap) (locs : List Loc) (hP : va_P (dC, dI) sn_cl (sn_pwX0 h0 ad cs f0 f1 f2 f3 f4 f5 f6 f7) H) (hD : va_D A (sn_pwX0 h0 ad cs f0 f1 f2 f3 f4 f5 f6 f7)) (hS : va_S A s.heap H locs) (ls : Array Slot) (hl : lv_has ls 6 [(0, .ref h0), (1, .int x1), (2, .int x2)]) : W p l e (headSpec (ws_ yX0_changes cX0_changes 6 (some .int)) ({ frames := 3, cells := 0, slots := 0, locals := 74 } : Room)).room s m args below meth c H locs 0 0 (MQ below (va_Qi (S := Unit) (fun r _ => post r) (fun (_ : Unit) (t : State) => sn_BX0 (dC, dI) A h0 ad cs f0 f1 f2 f3 f4 f5 f6 f7 t) A) args s 0 0 A) (F0 m 0 ls []) := by
  obtain ⟨hx, hb, hr, hlocks, hml, hown, hts, hA, hK⟩ := id C0
  unfold mX0_changes at hm
  refine lv_aload_n hx hb dX0_changes_0 rfl (lv_at hl 0 rfl) ?_
  refine lv_iload_n hx hb dX0_changes_1 rfl (lv_at hl 1 rfl) ?_
  refine sn_cl_Vi (As := [.int x1]) (rest := []) (w1 := (fun (_ : Unit) => sn_pwX0 h0 ad cs (f0) (f1) (f2) (f3) (f4) (f5) (f6) (f7))) ⟨hx, hb, hml, hown, hts⟩ (kX0_isMap l dC dI h0 ad cs H.size f0 f1 f2 f3 f4 f5 f6 f7 x1 _ hm) (cwV 1 hts (lw_V q123 q125 qs10 q19 q126) rfl rfl rfl (by decide +kernel) ⟨Nat.le_of_ble_eq_true rfl, Nat.le_of_ble_eq_true rfl⟩) (va_recv hK hP (ci := 0) (q0 := 0) rfl rfl) hP hD hK hS hA rfl hl.1 rfl (lv_room (Nat.le_of_ble_eq_true rfl)) dX0_changes_2 ⟨Nat.le_refl 0, Nat.le_refl 0⟩ (fun r_1 _ H locs hm hP hD hS => ?_)
  refine lv_if_eq (tgt := 16) hx hb dX0_changes_5 (by decide) (fun c_2 => ?_) (fun c_2 => ?_)
  · have hm := hm.1 c_2
    refine lv_iconst (v := (-1 : Int32)) hx hb dX0_changes_16 (by decide) ?_
    exact W.iret (v := (-1 : Int32)) hx hb hr (fun t ht hW => ⟨⟨(-1 : Int32), (), rfl, hm, ⟨by rw [ht]; exact hP, va_K.moved hW.alike hK, hD⟩⟩, hS.F ht⟩) hS.2.2 dX0_changes_17
  · have hm := hm.2 c_2
    refine lv_aload_n hx hb dX0_changes_8 rfl (lv_at hl 0 rfl) ?_
    refine lv_iload_n hx hb dX0_changes_9 rfl (lv_at hl 2 rfl) ?_
    refine sn_cl_Vi (As := [.int x2]) (rest := []) (w1 := (fun (_ : Unit) => sn_pwX0 h0 ad cs (f0) (f1) (f2) (f3) (f4) (f5) (f6) (f7))) ⟨hx, hb, hml, hown, hts⟩ (kX0_isMap l dC dI h0 ad cs H.size f0 f1 f2 f3 f4 f5 f6 f7 x2 _ hm) (cwV 1 hts (lw_V q123 q125 qs10 q19 q126) rfl rfl rfl (by decide +kernel) ⟨Nat.le_of_ble_eq_true rfl, Nat.le_of_ble_eq_true rfl⟩) (va_recv hK hP (ci := 0) (q0 := 0) rfl rfl) hP hD hK hS hA rfl hl.1 rfl (lv_room (Nat.le_of_ble_eq_true rfl)) dX0_changes_10 ⟨Nat.le_refl 0, Nat.le_refl 0⟩ (fun r_3 _ H locs hm hP hD hS => ?_)
    refine lv_if_ne (tgt := 18) hx hb dX0_changes_13 (by decide) (fun c_4 => ?_) (fun c_4 => ?_)
    · have hm := hm.1 c_4
      refine lv_iconst (v := (0 : Int32)) hx hb dX0_changes_18 (by decide) ?_
      refine lv_istore_n (lv' := [(3, .int (0 : Int32)), (0, .ref h0), (1, .int x1), (2, .int x2)]) hx hb dX0_changes_19 rfl hl (by decide) rfl (fun ls hl => ?_)
      refine lv_aload_n hx hb dX0_changes_20 rfl (lv_at hl 1 rfl) ?_
      refine lv_iload_n hx hb dX0_changes_21 rfl (lv_at hl 2 rfl) ?_
      refine lv_iload_n hx hb dX0_changes_22 rfl (lv_at hl 3 rfl) ?_
      refine lv_iconst (v := (0 : Int32)) hx hb dX0_changes_23 (by decide) ?_
      refine sn_cl_Vi (As := [.int x1, .int x2, .int (0 : Int32)]) (rest := []) (w1 := (fun (_ : Unit) => sn_pwX0 h0 ad cs (f0) (f1) (f2) (f3) (f4) (f5) (f6) (f7))) ⟨hx, hb, hml, hown, hts⟩ (kX0_nextChange l dC dI h0 ad cs H.size f0 f1 f2 f3 f4 f5 f6 f7 x1 x2 (0 : Int32) _ hm) (cwV 3 hts (lw_V q158 q147 q148 q19 q149) rfl rfl rfl (by decide +kernel) ⟨Nat.le_of_ble_eq_true rfl, Nat.le_of_ble_eq_true rfl⟩) (va_recv hK hP (ci := 0) (q0 := 0) rfl rfl) hP hD hK hS hA rfl hl.1 rfl (lv_room (Nat.le_of_ble_eq_true rfl)) dX0_changes_24 ⟨Nat.le_refl 0, Nat.le_refl 0⟩ (fun r_5 _ H locs hm hP hD hS => ?_)
      refine lv_istore (lv' := [(4, .int r_5), (3, .int (0 : Int32)), (0, .ref h0), (1, .int x1), (2, .int x2)]) hx hb dX0_changes_27 hl (by decide) rfl (fun ls hl => ?_)
      refine lv_iconst (v := (0 : Int32)) hx hb dX0_changes_29 (by decide) ?_
      refine lv_istore (lv' := [(5, .int (0 : Int32)), (4, .int r_5), (3, .int (0 : Int32)), (0, .ref h0), (1, .int x1), (2, .int x2)]) hx hb dX0_changes_30 hl (by decide) rfl (fun ls hl => ?_)
      obtain ⟨n32, hm⟩ := hm
      exact wX0_changes_32 C0 post n32 x1 x2 (0 : Int32) r_5 (0 : Int32) hm H locs hP hD hS ls (lv_sub hl [3, 4, 5, 2, 1, 0] rfl)
    · have hm := hm.2 c_4
      refine lv_iconst (v := (-1 : Int32)) hx hb dX0_changes_16 (by decide) ?_
      exact W.iret (v := (-1 : Int32)) hx hb hr (fun t ht hW => ⟨⟨(-1 : Int32), (), rfl, hm, ⟨by rw [ht]; exact hP, va_K.moved hW.alike hK, hD⟩⟩, hS.F ht⟩) hS.2.2 dX0_changes_17
set_option maxHeartbeats 4000000 in
set_option maxRecDepth 100000 in
theorem kX0_changes (l : Launch) (dC : Nat → ClassId) (dI : Nat → Nat → Nat) (h0 : Nat) (ad : Nat → Nat) (cs : Nat → ClassId) (sz : Nat) (f0 f1 f2 f3 f4 f5 f6 f7 : Nat → Int32) (x1 x2 : Int32) (post : Int32 → Prop) (hm : mX0_changes f0 f1 f3 f4 x1 x2 post) : Met l yX0_changes (ws_ yX0_changes cX0_changes 6 (some .int)) ({ frames := 3, cells := 0, slots := 0, locals := 74 } : Room) (va_Pc [.ref h0, .int x1, .int x2] (sn_PX (dC, dI) (sn_tyX0 cs) (sn_pwX0 h0 ad cs f0 f1 f2 f3 f4 f5 f6 f7) sz)) (va_Qi (S := Unit) (fun r _ => post r) (fun (_ : Unit) (t : State) => sn_BX0 (dC, dI) (va_A (sn_pwX0 h0 ad cs f0 f1 f2 f3 f4 f5 f6 f7) sz) h0 ad cs f0 f1 f2 f3 f4 f5 f6 f7 t) (va_A (sn_pwX0 h0 ad cs f0 f1 f2 f3 f4 f5 f6 f7) sz)) 0 0 (va_A (sn_pwX0 h0 ad cs f0 f1 f2 f3 f4 f5 f6 f7) sz) := by
  refine sn_mk_V (n := 6) (RC := RX0) (Q := fun A => (va_Qi (S := Unit) (fun r _ => post r) (fun (_ : Unit) (t : State) => sn_BX0 (dC, dI) A h0 ad cs f0 f1 f2 f3 f4 f5 f6 f7 t) A)) (by decide) rfl (Nat.le_of_ble_eq_true rfl) ?_
  intro p e s m below meth c A ls C0 hP hD hl
  exact wX0_changes_0 C0 post x1 x2 hm _ _ hP hD va_S.rf ls hl
end
section
/-! walks and contracts (printed by gen.py): badKey count put remove copy commit free restore drop -/
set_option maxHeartbeats 4000000 in
set_option maxRecDepth 100000 in
theorem wX1_badKey_0 {p : Program} {l : Launch} {e : Env} {s : State} {m : MethodId} {args : Array Value} {below : List Frame} {meth : Method} {c : Code} {A : Nat → Prop} (C0 : sn_CxS cX1_badKey 1 (some .boolean) RX1 p s m meth c args A) (post : Int32 → Prop) (x0 : Int32) (hm : mX1_badKey x0 post) (H : Heap) (locs : List Loc)  (hS : va_S A s.heap H locs) (ls : Array Slot) (hl : lv_has ls 1 [(0, .int x0)]) : W p l e (headSpec (ws_ yX1_badKey cX1_badKey 1 (some .boolean)) ({ frames := 0, cells := 0, slots := 0, locals := 0 } : Room)).room s m args below meth c H locs 0 0 (MQ below (va_Qi (S := Unit) (fun r _ => post r) (fun (_ : Unit) (_ : State) => True) A) args s 0 0 A) (F0 m 0 ls []) := by
  obtain ⟨hx, hb, hr, hlocks, hml, hown, hts, hA⟩ := id C0
  unfold mX1_badKey at hm
  refine lv_iload_n hx hb dX1_badKey_0 rfl (lv_at hl 0 rfl) ?_
  refine lv_if_lt (tgt := 11) hx hb dX1_badKey_1 (by decide) (fun c_1 => ?_) (fun c_1 => ?_)
  · have hm := hm.1 c_1
    refine lv_iconst (v := (1 : Int32)) hx hb dX1_badKey_11 (by decide) ?_
    refine lv_goto (tgt := 16) hx hb dX1_badKey_12 (by decide) ?_
    exact W.zret (v := (1 : Int32)) hx hb hr rfl (fun t ht hW => ⟨⟨(1 : Int32), (), rfl, hm, trivial⟩, hS.F ht⟩) hS.2.2 dX1_badKey_16
  · have hm := hm.2 c_1
    refine lv_iload_n hx hb dX1_badKey_4 rfl (lv_at hl 0 rfl) ?_
    refine lv_sipush (v := (255 : Int32)) hx hb dX1_badKey_5 (by decide) ?_
    refine lv_icmp_le (tgt := 15) hx hb dX1_badKey_8 (by decide) (fun c_2 => ?_) (fun c_2 => ?_)
    · have hm := hm.1 c_2
      refine lv_iconst (v := (0 : Int32)) hx hb dX1_badKey_15 (by decide) ?_
      exact W.zret (v := (0 : Int32)) hx hb hr rfl (fun t ht hW => ⟨⟨(0 : Int32), (), rfl, hm, trivial⟩, hS.F ht⟩) hS.2.2 dX1_badKey_16
    · have hm := hm.2 c_2
      refine lv_iconst (v := (1 : Int32)) hx hb dX1_badKey_11 (by decide) ?_
      refine lv_goto (tgt := 16) hx hb dX1_badKey_12 (by decide) ?_
      exact W.zret (v := (1 : Int32)) hx hb hr rfl (fun t ht hW => ⟨⟨(1 : Int32), (), rfl, hm, trivial⟩, hS.F ht⟩) hS.2.2 dX1_badKey_16
set_option maxHeartbeats 4000000 in
set_option maxRecDepth 100000 in
theorem kX1_badKey (l : Launch) (sz : Nat) (x0 : Int32) (post : Int32 → Prop) (hm : mX1_badKey x0 post) : Met l yX1_badKey (ws_ yX1_badKey cX1_badKey 1 (some .boolean)) ({ frames := 0, cells := 0, slots := 0, locals := 0 } : Room) (va_Pc [.int x0] (fun U => U.heap.size = sz)) (va_Qi (S := Unit) (fun r _ => post r) (fun (_ : Unit) (_ : State) => True) (va_A [] sz)) 0 0 (va_A [] sz) := by
  refine sn_mk_S (n := 1) (RC := RX1) (Q := fun A => (va_Qi (S := Unit) (fun r _ => post r) (fun (_ : Unit) (_ : State) => True) A)) (by decide) rfl (Nat.le_of_ble_eq_true rfl) ?_
  intro p e s m below meth c A ls C0 hl
  exact wX1_badKey_0 C0 post x0 hm _ _ va_S.rf ls hl
set_option maxHeartbeats 4000000 in
set_option maxRecDepth 100000 in
theorem wX1_count_4 {p : Program} {l : Launch} {e : Env} {s : State} {m : MethodId} {args : Array Value} {below : List Frame} {meth : Method} {c : Code} {A : Nat → Prop} {dC : Nat → ClassId} {dI : Nat → Nat → Nat} {h0 : Nat} {ad : Nat → Nat} {cs : Nat → ClassId} {f0 f1 f2 : Nat → Int32} (C0 : sn_Cx cX1_count 4 (some .int) RX1 p s m meth c args A (dC, dI) (sn_tyX1 cs)) (post : Int32 → Prop) : ∀ (n4 : Nat) (x1 x2 x3 : Int32), mX1_count_4 n4 f1 x1 x2 x3 post → ∀ (H : Heap) (locs : List Loc), va_P (dC, dI) sn_cl (sn_pwX1 h0 ad cs f0 f1 f2) H → va_D A (sn_pwX1 h0 ad cs f0 f1 f2) → va_S A s.heap H locs → ∀ (ls : Array Slot), lv_has ls 4 [(0, .ref h0), (1, .int x1), (2, .int x2), (3, .int x3)] → W p l e (headSpec (ws_ yX1_count cX1_count 4 (some .int)) ({ frames := 0, cells := 0, slots := 0, locals := 0 } : Room)).room s m args below meth c H locs 0 0 (MQ below (va_Qi (S := Unit) (fun r _ => post r) (fun (_ : Unit) (t : State) => sn_BX1 (dC, dI) A h0 ad cs f0 f1 f2 t) A) args s 0 0 A) (F0 m 4 ls []) := by
  obtain ⟨hx, hb, hr, hlocks, hml, hown, hts, hA, hK⟩ := id C0
  intro n4
  induction n4 with
  | zero =>
    intro x1 x2 x3 hm
    unfold mX1_count_4 at hm
    exact False.elim hm
  | succ n4 ih4 =>
    intro x1 x2 x3 hm H locs hP hD hS ls hl
    unfold mX1_count_4 at hm
    refine lv_iload_n hx hb dX1_count_4 rfl (lv_at hl 3 rfl) ?_
    refine lv_sipush (v := (256 : Int32)) hx hb dX1_count_5 (by decide) ?_
    refine lv_icmp_ge (tgt := 35) hx hb dX1_count_8 (by decide) (fun c_1 => ?_) (fun c_1 => ?_)
    · have hm := hm.1 c_1
      refine lv_iload_n hx hb dX1_count_35 rfl (lv_at hl 2 rfl) ?_
      exact W.iret (v := x2) hx hb hr (fun t ht hW => ⟨⟨x2, (), rfl, hm, ⟨by rw [ht]; exact hP, va_K.moved hW.alike hK, hD⟩⟩, hS.F ht⟩) hS.2.2 dX1_count_36
    · have hm := hm.2 c_1
      refine lv_aload_n hx hb dX1_count_11 rfl (lv_at hl 0 rfl) ?_
      refine sn_gtX1_1 C0 hP dX1_count_12 ?_
      refine lv_sipush (v := (256 : Int32)) hx hb dX1_count_15 (by decide) ?_
      refine lv_iload_n hx hb dX1_count_18 rfl (lv_at hl 1 rfl) ?_
      refine lv_imul hx hb dX1_count_19 ?_
      refine lv_iload_n hx hb dX1_count_20 rfl (lv_at hl 3 rfl) ?_
      refine lv_iadd hx hb dX1_count_21 ?_
      obtain ⟨h_2, hm⟩ := hm
      refine sn_ldX1_1 C0 hP h_2 dX1_count_22 ?_
      refine lv_if_eq (tgt := 29) hx hb dX1_count_23 (by decide) (fun c_3 => ?_) (fun c_3 => ?_)
      · have hm := hm.1 c_3
        refine lv_iinc (v := (x3 + (1 : Int32))) (lv' := [(3, .int (x3 + (1 : Int32))), (0, .ref h0), (1, .int x1), (2, .int x2)]) hx hb dX1_count_29 hl (k := 3) rfl rfl (by decide) rfl (fun ls hl => ?_)
        refine lv_goto (tgt := 4) hx hb dX1_count_32 (by decide) ?_
        exact ih4 x1 x2 (x3 + (1 : Int32)) hm H locs hP hD hS ls (lv_sub hl [1, 2, 3, 0] rfl)
      · have hm := hm.2 c_3
        refine lv_iinc (v := (x2 + (1 : Int32))) (lv' := [(2, .int (x2 + (1 : Int32))), (0, .ref h0), (1, .int x1), (3, .int x3)]) hx hb dX1_count_26 hl (k := 2) rfl rfl (by decide) rfl (fun ls hl => ?_)
        refine lv_iinc (v := (x3 + (1 : Int32))) (lv' := [(3, .int (x3 + (1 : Int32))), (2, .int (x2 + (1 : Int32))), (0, .ref h0), (1, .int x1)]) hx hb dX1_count_29 hl (k := 3) rfl rfl (by decide) rfl (fun ls hl => ?_)
        refine lv_goto (tgt := 4) hx hb dX1_count_32 (by decide) ?_
        exact ih4 x1 (x2 + (1 : Int32)) (x3 + (1 : Int32)) hm H locs hP hD hS ls (lv_sub hl [2, 3, 1, 0] rfl)
set_option maxHeartbeats 4000000 in
set_option maxRecDepth 100000 in
theorem wX1_count_0 {p : Program} {l : Launch} {e : Env} {s : State} {m : MethodId} {args : Array Value} {below : List Frame} {meth : Method} {c : Code} {A : Nat → Prop} {dC : Nat → ClassId} {dI : Nat → Nat → Nat} {h0 : Nat} {ad : Nat → Nat} {cs : Nat → ClassId} {f0 f1 f2 : Nat → Int32} (C0 : sn_Cx cX1_count 4 (some .int) RX1 p s m meth c args A (dC, dI) (sn_tyX1 cs)) (post : Int32 → Prop) (x1 : Int32) (hm : mX1_count f1 x1 post) (H : Heap) (locs : List Loc) (hP : va_P (dC, dI) sn_cl (sn_pwX1 h0 ad cs f0 f1 f2) H) (hD : va_D A (sn_pwX1 h0 ad cs f0 f1 f2)) (hS : va_S A s.heap H locs) (ls : Array Slot) (hl : lv_has ls 4 [(0, .ref h0), (1, .int x1)]) : W p l e (headSpec (ws_ yX1_count cX1_count 4 (some .int)) ({ frames := 0, cells := 0, slots := 0, locals := 0 } : Room)).room s m args below meth c H locs 0 0 (MQ below (va_Qi (S := Unit) (fun r _ => post r) (fun (_ : Unit) (t : State) => sn_BX1 (dC, dI) A h0 ad cs f0 f1 f2 t) A) args s 0 0 A) (F0 m 0 ls []) := by
  obtain ⟨hx, hb, hr, hlocks, hml, hown, hts, hA, hK⟩ := id C0
  unfold mX1_count at hm
  refine lv_iconst (v := (0 : Int32)) hx hb dX1_count_0 (by decide) ?_
  refine lv_istore_n (lv' := [(2, .int (0 : Int32)), (0, .ref h0), (1, .int x1)]) hx hb dX1_count_1 rfl hl (by decide) rfl (fun ls hl => ?_)
  refine lv_iconst (v := (0 : Int32)) hx hb dX1_count_2 (by decide) ?_
  refine lv_istore_n (lv' := [(3, .int (0 : Int32)), (2, .int (0 : Int32)), (0, .ref h0), (1, .int x1)]) hx hb dX1_count_3 rfl hl (by decide) rfl (fun ls hl => ?_)
  obtain ⟨n4, hm⟩ := hm
  exact wX1_count_4 C0 post n4 x1 (0 : Int32) (0 : Int32) hm H locs hP hD hS ls (lv_sub hl [2, 3, 1, 0] rfl)
set_option maxHeartbeats 4000000 in
set_option maxRecDepth 100000 in
theorem kX1_count (l : Launch) (dC : Nat → ClassId) (dI : Nat → Nat → Nat) (h0 : Nat) (ad : Nat → Nat) (cs : Nat → ClassId) (sz : Nat) (f0 f1 f2 : Nat → Int32) (x1 : Int32) (post : Int32 → Prop) (hm : mX1_count f1 x1 post) : Met l yX1_count (ws_ yX1_count cX1_count 4 (some .int)) ({ frames := 0, cells := 0, slots := 0, locals := 0 } : Room) (va_Pc [.ref h0, .int x1] (sn_PX (dC, dI) (sn_tyX1 cs) (sn_pwX1 h0 ad cs f0 f1 f2) sz)) (va_Qi (S := Unit) (fun r _ => post r) (fun (_ : Unit) (t : State) => sn_BX1 (dC, dI) (va_A (sn_pwX1 h0 ad cs f0 f1 f2) sz) h0 ad cs f0 f1 f2 t) (va_A (sn_pwX1 h0 ad cs f0 f1 f2) sz)) 0 0 (va_A (sn_pwX1 h0 ad cs f0 f1 f2) sz) := by
  refine sn_mk_V (n := 4) (RC := RX1) (Q := fun A => (va_Qi (S := Unit) (fun r _ => post r) (fun (_ : Unit) (t : State) => sn_BX1 (dC, dI) A h0 ad cs f0 f1 f2 t) A)) (by decide) rfl (Nat.le_of_ble_eq_true rfl) ?_
  intro p e s m below meth c A ls C0 hP hD hl
  exact wX1_count_0 C0 post x1 hm _ _ hP hD va_S.rf ls hl
set_option maxHeartbeats 4000000 in
set_option maxRecDepth 100000 in
theorem wX1_put_33 {p : Program} {l : Launch} {e : Env} {s : State} {m : MethodId} {args : Array Value} {below : List Frame} {meth : Method} {c : Code} {A : Nat → Prop} {dC : Nat → ClassId} {dI : Nat → Nat → Nat} {h0 : Nat} {ad : Nat → Nat} {cs : Nat → ClassId} {f0 : Nat → Int32} (C0 : sn_Cx cX1_put 3 (some .int) RX1 p s m meth c args A (dC, dI) (sn_tyX1 cs)) (post : Int32 → (Nat → Int32) → (Nat → Int32) → Prop) (f1 f2 : Nat → Int32) (x1 x2 : Int32) (hm : mX1_put_33 f1 f2 x1 x2 post) (H : Heap) (locs : List Loc) (hP : va_P (dC, dI) sn_cl (sn_pwX1 h0 ad cs f0 f1 f2) H) (hD : va_D A (sn_pwX1 h0 ad cs f0 f1 f2)) (hS : va_S A s.heap H locs) (ls : Array Slot) (hl : lv_has ls 3 [(0, .ref h0), (1, .int x1), (2, .int x2)]) : W p l e (headSpec (ws_ yX1_put cX1_put 3 (some .int)) ({ frames := 1, cells := 0, slots := 0, locals := 23 } : Room)).room s m args below meth c H locs 0 0 (MQ below (va_Qi (S := (Nat → Int32) × (Nat → Int32)) (fun r u => post r (u.1) (u.2)) (fun (u : (Nat → Int32) × (Nat → Int32)) (t : State) => sn_BX1 (dC, dI) A h0 ad cs f0 (u.1) (u.2) t) A) args s 0 0 A) (F0 m 33 ls []) := by
  obtain ⟨hx, hb, hr, hlocks, hml, hown, hts, hA, hK⟩ := id C0
  unfold mX1_put_33 at hm
  refine lv_aload_n hx hb dX1_put_33 rfl (lv_at hl 0 rfl) ?_
  refine sn_gtX1_1 C0 hP dX1_put_34 ?_
  refine lv_sipush (v := (1792 : Int32)) hx hb dX1_put_37 (by decide) ?_
  refine lv_iload_n hx hb dX1_put_40 rfl (lv_at hl 1 rfl) ?_
  refine lv_iadd hx hb dX1_put_41 ?_
  refine lv_iconst (v := (1 : Int32)) hx hb dX1_put_42 (by decide) ?_
  obtain ⟨h_1, hm⟩ := hm
  refine sn_stX1_1 C0 hP hD hS h_1 dX1_put_43 (fun H locs hP hD hS => ?_)
  refine lv_aload_n hx hb dX1_put_44 rfl (lv_at hl 0 rfl) ?_
  refine sn_gtX1_2 C0 hP dX1_put_45 ?_
  refine lv_sipush (v := (1792 : Int32)) hx hb dX1_put_48 (by decide) ?_
  refine lv_iload_n hx hb dX1_put_51 rfl (lv_at hl 1 rfl) ?_
  refine lv_iadd hx hb dX1_put_52 ?_
  refine lv_iload_n hx hb dX1_put_53 rfl (lv_at hl 2 rfl) ?_
  obtain ⟨h_2, hm⟩ := hm
  refine sn_stX1_2 C0 hP hD hS h_2 dX1_put_54 (fun H locs hP hD hS => ?_)
  refine lv_aload_n hx hb dX1_put_55 rfl (lv_at hl 0 rfl) ?_
  refine lv_bipush (v := (7 : Int32)) hx hb dX1_put_56 (by decide) ?_
  refine sn_cl_Vi (As := [.int (7 : Int32)]) (rest := []) (w1 := (fun (_ : Unit) => sn_pwX1 h0 ad cs (f0) (upd f1 ((1792 : Int32) + x1).toNatClampNeg (vp_nar .boolean (1 : Int32))) (upd f2 ((1792 : Int32) + x1).toNatClampNeg x2))) ⟨hx, hb, hml, hown, hts⟩ (kX1_count l dC dI h0 ad cs H.size f0 (upd f1 ((1792 : Int32) + x1).toNatClampNeg (vp_nar .boolean (1 : Int32))) (upd f2 ((1792 : Int32) + x1).toNatClampNeg x2) (7 : Int32) _ hm) (cwV 1 hts (lw_V q182 q184 qs13 q20 q185) rfl rfl rfl (by decide +kernel) ⟨Nat.le_of_ble_eq_true rfl, Nat.le_of_ble_eq_true rfl⟩) (va_recv hK hP (ci := 1) (q0 := 0) rfl rfl) hP hD hK hS hA rfl hl.1 rfl (lv_room (Nat.le_of_ble_eq_true rfl)) dX1_put_58 ⟨Nat.le_refl 0, Nat.le_refl 0⟩ (fun r_3 _ H locs hm hP hD hS => ?_)
  exact W.iret (v := r_3) hx hb hr (fun t ht hW => ⟨⟨r_3, ⟨(upd f1 ((1792 : Int32) + x1).toNatClampNeg (vp_nar .boolean (1 : Int32))), (upd f2 ((1792 : Int32) + x1).toNatClampNeg x2)⟩, rfl, hm, ⟨by rw [ht]; exact hP, va_K.moved hW.alike hK, hD⟩⟩, hS.F ht⟩) hS.2.2 dX1_put_61
set_option maxHeartbeats 4000000 in
set_option maxRecDepth 100000 in
theorem wX1_put_0 {p : Program} {l : Launch} {e : Env} {s : State} {m : MethodId} {args : Array Value} {below : List Frame} {meth : Method} {c : Code} {A : Nat → Prop} {dC : Nat → ClassId} {dI : Nat → Nat → Nat} {h0 : Nat} {ad : Nat → Nat} {cs : Nat → ClassId} {f0 : Nat → Int32} (C0 : sn_Cx cX1_put 3 (some .int) RX1 p s m meth c args A (dC, dI) (sn_tyX1 cs)) (post : Int32 → (Nat → Int32) → (Nat → Int32) → Prop) (f1 f2 : Nat → Int32) (x1 x2 : Int32) (hm : mX1_put f1 f2 x1 x2 post) (H : Heap) (locs : List Loc) (hP : va_P (dC, dI) sn_cl (sn_pwX1 h0 ad cs f0 f1 f2) H) (hD : va_D A (sn_pwX1 h0 ad cs f0 f1 f2)) (hS : va_S A s.heap H locs) (ls : Array Slot) (hl : lv_has ls 3 [(0, .ref h0), (1, .int x1), (2, .int x2)]) : W p l e (headSpec (ws_ yX1_put cX1_put 3 (some .int)) ({ frames := 1, cells := 0, slots := 0, locals := 23 } : Room)).room s m args below meth c H locs 0 0 (MQ below (va_Qi (S := (Nat → Int32) × (Nat → Int32)) (fun r u => post r (u.1) (u.2)) (fun (u : (Nat → Int32) × (Nat → Int32)) (t : State) => sn_BX1 (dC, dI) A h0 ad cs f0 (u.1) (u.2) t) A) args s 0 0 A) (F0 m 0 ls []) := by
  obtain ⟨hx, hb, hr, hlocks, hml, hown, hts, hA, hK⟩ := id C0
  unfold mX1_put at hm
  refine lv_iload_n hx hb dX1_put_0 rfl (lv_at hl 1 rfl) ?_
  refine sn_cl_S (As := [.int x1]) (rest := []) ⟨hx, hb, hml, hown, hts⟩ (kX1_badKey l H.size x1 _ hm) (va_cwS 1 hts (lw_S q179 q180 q20 q181) rfl rfl rfl (by decide +kernel) ⟨Nat.le_of_ble_eq_true rfl, Nat.le_of_ble_eq_true rfl⟩) hP hS hA rfl hl.1 rfl (lv_room (Nat.le_of_ble_eq_true rfl)) dX1_put_1 ⟨Nat.le_refl 0, Nat.le_refl 0⟩ (fun r_1 H locs hm hP hS => ?_)
  refine lv_if_ne (tgt := 31) hx hb dX1_put_4 (by decide) (fun c_2 => ?_) (fun c_2 => ?_)
  · have hm := hm.1 c_2
    refine lv_iconst (v := (-1 : Int32)) hx hb dX1_put_31 (by decide) ?_
    exact W.iret (v := (-1 : Int32)) hx hb hr (fun t ht hW => ⟨⟨(-1 : Int32), ⟨f1, f2⟩, rfl, hm, ⟨by rw [ht]; exact hP, va_K.moved hW.alike hK, hD⟩⟩, hS.F ht⟩) hS.2.2 dX1_put_32
  · have hm := hm.2 c_2
    refine lv_aload_n hx hb dX1_put_7 rfl (lv_at hl 0 rfl) ?_
    refine sn_gtX1_1 C0 hP dX1_put_8 ?_
    refine lv_sipush (v := (1792 : Int32)) hx hb dX1_put_11 (by decide) ?_
    refine lv_iload_n hx hb dX1_put_14 rfl (lv_at hl 1 rfl) ?_
    refine lv_iadd hx hb dX1_put_15 ?_
    obtain ⟨h_3, hm⟩ := hm
    refine sn_ldX1_1 C0 hP h_3 dX1_put_16 ?_
    refine lv_if_ne (tgt := 33) hx hb dX1_put_17 (by decide) (fun c_4 => ?_) (fun c_4 => ?_)
    · have hm := hm.1 c_4
      exact wX1_put_33 C0 post f1 f2 x1 x2 hm H locs hP hD hS ls (lv_sub hl [0, 1, 2] rfl)
    · have hm := hm.2 c_4
      refine lv_aload_n hx hb dX1_put_20 rfl (lv_at hl 0 rfl) ?_
      refine lv_bipush (v := (7 : Int32)) hx hb dX1_put_21 (by decide) ?_
      refine sn_cl_Vi (As := [.int (7 : Int32)]) (rest := []) (w1 := (fun (_ : Unit) => sn_pwX1 h0 ad cs (f0) (f1) (f2))) ⟨hx, hb, hml, hown, hts⟩ (kX1_count l dC dI h0 ad cs H.size f0 f1 f2 (7 : Int32) _ hm) (cwV 1 hts (lw_V q182 q184 qs13 q20 q185) rfl rfl rfl (by decide +kernel) ⟨Nat.le_of_ble_eq_true rfl, Nat.le_of_ble_eq_true rfl⟩) (va_recv hK hP (ci := 1) (q0 := 0) rfl rfl) hP hD hK hS hA rfl hl.1 rfl (lv_room (Nat.le_of_ble_eq_true rfl)) dX1_put_23 ⟨Nat.le_refl 0, Nat.le_refl 0⟩ (fun r_5 _ H locs hm hP hD hS => ?_)
      refine lv_bipush (v := (16 : Int32)) hx hb dX1_put_26 (by decide) ?_
      refine lv_icmp_ne (tgt := 33) hx hb dX1_put_28 (by decide) (fun c_6 => ?_) (fun c_6 => ?_)
      · have hm := hm.1 c_6
        exact wX1_put_33 C0 post f1 f2 x1 x2 hm H locs hP hD hS ls (lv_sub hl [0, 1, 2] rfl)
      · have hm := hm.2 c_6
        refine lv_iconst (v := (-1 : Int32)) hx hb dX1_put_31 (by decide) ?_
        exact W.iret (v := (-1 : Int32)) hx hb hr (fun t ht hW => ⟨⟨(-1 : Int32), ⟨f1, f2⟩, rfl, hm, ⟨by rw [ht]; exact hP, va_K.moved hW.alike hK, hD⟩⟩, hS.F ht⟩) hS.2.2 dX1_put_32
set_option maxHeartbeats 4000000 in
set_option maxRecDepth 100000 in
theorem kX1_put (l : Launch) (dC : Nat → ClassId) (dI : Nat → Nat → Nat) (h0 : Nat) (ad : Nat → Nat) (cs : Nat → ClassId) (sz : Nat) (f0 f1 f2 : Nat → Int32) (x1 x2 : Int32) (post : Int32 → (Nat → Int32) → (Nat → Int32) → Prop) (hm : mX1_put f1 f2 x1 x2 post) : Met l yX1_put (ws_ yX1_put cX1_put 3 (some .int)) ({ frames := 1, cells := 0, slots := 0, locals := 23 } : Room) (va_Pc [.ref h0, .int x1, .int x2] (sn_PX (dC, dI) (sn_tyX1 cs) (sn_pwX1 h0 ad cs f0 f1 f2) sz)) (va_Qi (S := (Nat → Int32) × (Nat → Int32)) (fun r u => post r (u.1) (u.2)) (fun (u : (Nat → Int32) × (Nat → Int32)) (t : State) => sn_BX1 (dC, dI) (va_A (sn_pwX1 h0 ad cs f0 f1 f2) sz) h0 ad cs f0 (u.1) (u.2) t) (va_A (sn_pwX1 h0 ad cs f0 f1 f2) sz)) 0 0 (va_A (sn_pwX1 h0 ad cs f0 f1 f2) sz) := by
  refine sn_mk_V (n := 3) (RC := RX1) (Q := fun A => (va_Qi (S := (Nat → Int32) × (Nat → Int32)) (fun r u => post r (u.1) (u.2)) (fun (u : (Nat → Int32) × (Nat → Int32)) (t : State) => sn_BX1 (dC, dI) A h0 ad cs f0 (u.1) (u.2) t) A)) (by decide) rfl (Nat.le_of_ble_eq_true rfl) ?_
  intro p e s m below meth c A ls C0 hP hD hl
  exact wX1_put_0 C0 post f1 f2 x1 x2 hm _ _ hP hD va_S.rf ls hl
set_option maxHeartbeats 4000000 in
set_option maxRecDepth 100000 in
theorem wX1_remove_0 {p : Program} {l : Launch} {e : Env} {s : State} {m : MethodId} {args : Array Value} {below : List Frame} {meth : Method} {c : Code} {A : Nat → Prop} {dC : Nat → ClassId} {dI : Nat → Nat → Nat} {h0 : Nat} {ad : Nat → Nat} {cs : Nat → ClassId} {f0 f2 : Nat → Int32} (C0 : sn_Cx cX1_remove 2 (some .int) RX1 p s m meth c args A (dC, dI) (sn_tyX1 cs)) (post : Int32 → (Nat → Int32) → Prop) (f1 : Nat → Int32) (x1 : Int32) (hm : mX1_remove f1 x1 post) (H : Heap) (locs : List Loc) (hP : va_P (dC, dI) sn_cl (sn_pwX1 h0 ad cs f0 f1 f2) H) (hD : va_D A (sn_pwX1 h0 ad cs f0 f1 f2)) (hS : va_S A s.heap H locs) (ls : Array Slot) (hl : lv_has ls 2 [(0, .ref h0), (1, .int x1)]) : W p l e (headSpec (ws_ yX1_remove cX1_remove 2 (some .int)) ({ frames := 1, cells := 0, slots := 0, locals := 23 } : Room)).room s m args below meth c H locs 0 0 (MQ below (va_Qi (S := (Nat → Int32)) (fun r u => post r (u)) (fun (u : (Nat → Int32)) (t : State) => sn_BX1 (dC, dI) A h0 ad cs f0 u f2 t) A) args s 0 0 A) (F0 m 0 ls []) := by
  obtain ⟨hx, hb, hr, hlocks, hml, hown, hts, hA, hK⟩ := id C0
  unfold mX1_remove at hm
  refine lv_iload_n hx hb dX1_remove_0 rfl (lv_at hl 1 rfl) ?_
  refine sn_cl_S (As := [.int x1]) (rest := []) ⟨hx, hb, hml, hown, hts⟩ (kX1_badKey l H.size x1 _ hm) (va_cwS 1 hts (lw_S q179 q180 q20 q181) rfl rfl rfl (by decide +kernel) ⟨Nat.le_of_ble_eq_true rfl, Nat.le_of_ble_eq_true rfl⟩) hP hS hA rfl hl.1 rfl (lv_room (Nat.le_of_ble_eq_true rfl)) dX1_remove_1 ⟨Nat.le_refl 0, Nat.le_refl 0⟩ (fun r_1 H locs hm hP hS => ?_)
  refine lv_if_ne (tgt := 20) hx hb dX1_remove_4 (by decide) (fun c_2 => ?_) (fun c_2 => ?_)
  · have hm := hm.1 c_2
    refine lv_iconst (v := (-1 : Int32)) hx hb dX1_remove_20 (by decide) ?_
    exact W.iret (v := (-1 : Int32)) hx hb hr (fun t ht hW => ⟨⟨(-1 : Int32), f1, rfl, hm, ⟨by rw [ht]; exact hP, va_K.moved hW.alike hK, hD⟩⟩, hS.F ht⟩) hS.2.2 dX1_remove_21
  · have hm := hm.2 c_2
    refine lv_aload_n hx hb dX1_remove_7 rfl (lv_at hl 0 rfl) ?_
    refine sn_gtX1_1 C0 hP dX1_remove_8 ?_
    refine lv_sipush (v := (1792 : Int32)) hx hb dX1_remove_11 (by decide) ?_
    refine lv_iload_n hx hb dX1_remove_14 rfl (lv_at hl 1 rfl) ?_
    refine lv_iadd hx hb dX1_remove_15 ?_
    obtain ⟨h_3, hm⟩ := hm
    refine sn_ldX1_1 C0 hP h_3 dX1_remove_16 ?_
    refine lv_if_ne (tgt := 22) hx hb dX1_remove_17 (by decide) (fun c_4 => ?_) (fun c_4 => ?_)
    · have hm := hm.1 c_4
      refine lv_aload_n hx hb dX1_remove_22 rfl (lv_at hl 0 rfl) ?_
      refine sn_gtX1_1 C0 hP dX1_remove_23 ?_
      refine lv_sipush (v := (1792 : Int32)) hx hb dX1_remove_26 (by decide) ?_
      refine lv_iload_n hx hb dX1_remove_29 rfl (lv_at hl 1 rfl) ?_
      refine lv_iadd hx hb dX1_remove_30 ?_
      refine lv_iconst (v := (0 : Int32)) hx hb dX1_remove_31 (by decide) ?_
      obtain ⟨h_5, hm⟩ := hm
      refine sn_stX1_1 C0 hP hD hS h_5 dX1_remove_32 (fun H locs hP hD hS => ?_)
      refine lv_aload_n hx hb dX1_remove_33 rfl (lv_at hl 0 rfl) ?_
      refine lv_bipush (v := (7 : Int32)) hx hb dX1_remove_34 (by decide) ?_
      refine sn_cl_Vi (As := [.int (7 : Int32)]) (rest := []) (w1 := (fun (_ : Unit) => sn_pwX1 h0 ad cs (f0) (upd f1 ((1792 : Int32) + x1).toNatClampNeg (vp_nar .boolean (0 : Int32))) (f2))) ⟨hx, hb, hml, hown, hts⟩ (kX1_count l dC dI h0 ad cs H.size f0 (upd f1 ((1792 : Int32) + x1).toNatClampNeg (vp_nar .boolean (0 : Int32))) f2 (7 : Int32) _ hm) (cwV 1 hts (lw_V q182 q184 qs13 q20 q185) rfl rfl rfl (by decide +kernel) ⟨Nat.le_of_ble_eq_true rfl, Nat.le_of_ble_eq_true rfl⟩) (va_recv hK hP (ci := 1) (q0 := 0) rfl rfl) hP hD hK hS hA rfl hl.1 rfl (lv_room (Nat.le_of_ble_eq_true rfl)) dX1_remove_36 ⟨Nat.le_refl 0, Nat.le_refl 0⟩ (fun r_6 _ H locs hm hP hD hS => ?_)
      exact W.iret (v := r_6) hx hb hr (fun t ht hW => ⟨⟨r_6, (upd f1 ((1792 : Int32) + x1).toNatClampNeg (vp_nar .boolean (0 : Int32))), rfl, hm, ⟨by rw [ht]; exact hP, va_K.moved hW.alike hK, hD⟩⟩, hS.F ht⟩) hS.2.2 dX1_remove_39
    · have hm := hm.2 c_4
      refine lv_iconst (v := (-1 : Int32)) hx hb dX1_remove_20 (by decide) ?_
      exact W.iret (v := (-1 : Int32)) hx hb hr (fun t ht hW => ⟨⟨(-1 : Int32), f1, rfl, hm, ⟨by rw [ht]; exact hP, va_K.moved hW.alike hK, hD⟩⟩, hS.F ht⟩) hS.2.2 dX1_remove_21
set_option maxHeartbeats 4000000 in
set_option maxRecDepth 100000 in
theorem kX1_remove (l : Launch) (dC : Nat → ClassId) (dI : Nat → Nat → Nat) (h0 : Nat) (ad : Nat → Nat) (cs : Nat → ClassId) (sz : Nat) (f0 f1 f2 : Nat → Int32) (x1 : Int32) (post : Int32 → (Nat → Int32) → Prop) (hm : mX1_remove f1 x1 post) : Met l yX1_remove (ws_ yX1_remove cX1_remove 2 (some .int)) ({ frames := 1, cells := 0, slots := 0, locals := 23 } : Room) (va_Pc [.ref h0, .int x1] (sn_PX (dC, dI) (sn_tyX1 cs) (sn_pwX1 h0 ad cs f0 f1 f2) sz)) (va_Qi (S := (Nat → Int32)) (fun r u => post r (u)) (fun (u : (Nat → Int32)) (t : State) => sn_BX1 (dC, dI) (va_A (sn_pwX1 h0 ad cs f0 f1 f2) sz) h0 ad cs f0 u f2 t) (va_A (sn_pwX1 h0 ad cs f0 f1 f2) sz)) 0 0 (va_A (sn_pwX1 h0 ad cs f0 f1 f2) sz) := by
  refine sn_mk_V (n := 2) (RC := RX1) (Q := fun A => (va_Qi (S := (Nat → Int32)) (fun r u => post r (u)) (fun (u : (Nat → Int32)) (t : State) => sn_BX1 (dC, dI) A h0 ad cs f0 u f2 t) A)) (by decide) rfl (Nat.le_of_ble_eq_true rfl) ?_
  intro p e s m below meth c A ls C0 hP hD hl
  exact wX1_remove_0 C0 post f1 x1 hm _ _ hP hD va_S.rf ls hl
set_option maxHeartbeats 4000000 in
set_option maxRecDepth 100000 in
theorem wX1_copy_2 {p : Program} {l : Launch} {e : Env} {s : State} {m : MethodId} {args : Array Value} {below : List Frame} {meth : Method} {c : Code} {A : Nat → Prop} {dC : Nat → ClassId} {dI : Nat → Nat → Nat} {h0 : Nat} {ad : Nat → Nat} {cs : Nat → ClassId} {f0 : Nat → Int32} (C0 : sn_Cx cX1_copy 4 none RX1 p s m meth c args A (dC, dI) (sn_tyX1 cs)) (post : (Nat → Int32) → (Nat → Int32) → Prop) : ∀ (n2 : Nat) (f1 f2 : Nat → Int32) (x1 x2 x3 : Int32), mX1_copy_2 n2 f1 f2 x1 x2 x3 post → ∀ (H : Heap) (locs : List Loc), va_P (dC, dI) sn_cl (sn_pwX1 h0 ad cs f0 f1 f2) H → va_D A (sn_pwX1 h0 ad cs f0 f1 f2) → va_S A s.heap H locs → ∀ (ls : Array Slot), lv_has ls 4 [(0, .ref h0), (1, .int x1), (2, .int x2), (3, .int x3)] → W p l e (headSpec (ws_ yX1_copy cX1_copy 4 none) ({ frames := 0, cells := 0, slots := 0, locals := 0 } : Room)).room s m args below meth c H locs 0 0 (MQ below (va_Qv (S := (Nat → Int32) × (Nat → Int32)) (fun u => post (u.1) (u.2)) (fun (u : (Nat → Int32) × (Nat → Int32)) (t : State) => sn_BX1 (dC, dI) A h0 ad cs f0 (u.1) (u.2) t) A) args s 0 0 A) (F0 m 2 ls []) := by
  obtain ⟨hx, hb, hr, hlocks, hml, hown, hts, hA, hK⟩ := id C0
  intro n2
  induction n2 with
  | zero =>
    intro f1 f2 x1 x2 x3 hm
    unfold mX1_copy_2 at hm
    exact False.elim hm
  | succ n2 ih2 =>
    intro f1 f2 x1 x2 x3 hm H locs hP hD hS ls hl
    unfold mX1_copy_2 at hm
    refine lv_iload_n hx hb dX1_copy_2 rfl (lv_at hl 3 rfl) ?_
    refine lv_sipush (v := (256 : Int32)) hx hb dX1_copy_3 (by decide) ?_
    refine lv_icmp_ge (tgt := 63) hx hb dX1_copy_6 (by decide) (fun c_1 => ?_) (fun c_1 => ?_)
    · have hm := hm.1 c_1
      exact W.vret hx hb hr (fun t ht hW => ⟨⟨⟨f1, f2⟩, rfl, hm, ⟨by rw [ht]; exact hP, va_K.moved hW.alike hK, hD⟩⟩, hS.F ht⟩) hS.2.2 dX1_copy_63
    · have hm := hm.2 c_1
      refine lv_aload_n hx hb dX1_copy_9 rfl (lv_at hl 0 rfl) ?_
      refine sn_gtX1_1 C0 hP dX1_copy_10 ?_
      refine lv_sipush (v := (256 : Int32)) hx hb dX1_copy_13 (by decide) ?_
      refine lv_iload_n hx hb dX1_copy_16 rfl (lv_at hl 2 rfl) ?_
      refine lv_imul hx hb dX1_copy_17 ?_
      refine lv_iload_n hx hb dX1_copy_18 rfl (lv_at hl 3 rfl) ?_
      refine lv_iadd hx hb dX1_copy_19 ?_
      refine lv_aload_n hx hb dX1_copy_20 rfl (lv_at hl 0 rfl) ?_
      refine sn_gtX1_1 C0 hP dX1_copy_21 ?_
      refine lv_sipush (v := (256 : Int32)) hx hb dX1_copy_24 (by decide) ?_
      refine lv_iload_n hx hb dX1_copy_27 rfl (lv_at hl 1 rfl) ?_
      refine lv_imul hx hb dX1_copy_28 ?_
      refine lv_iload_n hx hb dX1_copy_29 rfl (lv_at hl 3 rfl) ?_
      refine lv_iadd hx hb dX1_copy_30 ?_
      obtain ⟨h_2, hm⟩ := hm
      refine sn_ldX1_1 C0 hP h_2 dX1_copy_31 ?_
      obtain ⟨h_3, hm⟩ := hm
      refine sn_stX1_1 C0 hP hD hS h_3 dX1_copy_32 (fun H locs hP hD hS => ?_)
      refine lv_aload_n hx hb dX1_copy_33 rfl (lv_at hl 0 rfl) ?_
      refine sn_gtX1_2 C0 hP dX1_copy_34 ?_
      refine lv_sipush (v := (256 : Int32)) hx hb dX1_copy_37 (by decide) ?_
      refine lv_iload_n hx hb dX1_copy_40 rfl (lv_at hl 2 rfl) ?_
      refine lv_imul hx hb dX1_copy_41 ?_
      refine lv_iload_n hx hb dX1_copy_42 rfl (lv_at hl 3 rfl) ?_
      refine lv_iadd hx hb dX1_copy_43 ?_
      refine lv_aload_n hx hb dX1_copy_44 rfl (lv_at hl 0 rfl) ?_
      refine sn_gtX1_2 C0 hP dX1_copy_45 ?_
      refine lv_sipush (v := (256 : Int32)) hx hb dX1_copy_48 (by decide) ?_
      refine lv_iload_n hx hb dX1_copy_51 rfl (lv_at hl 1 rfl) ?_
      refine lv_imul hx hb dX1_copy_52 ?_
      refine lv_iload_n hx hb dX1_copy_53 rfl (lv_at hl 3 rfl) ?_
      refine lv_iadd hx hb dX1_copy_54 ?_
      obtain ⟨h_4, hm⟩ := hm
      refine sn_ldX1_2 C0 hP h_4 dX1_copy_55 ?_
      obtain ⟨h_5, hm⟩ := hm
      refine sn_stX1_2 C0 hP hD hS h_5 dX1_copy_56 (fun H locs hP hD hS => ?_)
      refine lv_iinc (v := (x3 + (1 : Int32))) (lv' := [(3, .int (x3 + (1 : Int32))), (0, .ref h0), (1, .int x1), (2, .int x2)]) hx hb dX1_copy_57 hl (k := 3) rfl rfl (by decide) rfl (fun ls hl => ?_)
      refine lv_goto (tgt := 2) hx hb dX1_copy_60 (by decide) ?_
      exact ih2 (upd f1 (((256 : Int32) * x2) + x3).toNatClampNeg (vp_nar .boolean (f1 (((256 : Int32) * x1) + x3).toNatClampNeg))) (upd f2 (((256 : Int32) * x2) + x3).toNatClampNeg (f2 (((256 : Int32) * x1) + x3).toNatClampNeg)) x1 x2 (x3 + (1 : Int32)) hm H locs hP hD hS ls (lv_sub hl [1, 2, 3, 0] rfl)
set_option maxHeartbeats 4000000 in
set_option maxRecDepth 100000 in
theorem wX1_copy_0 {p : Program} {l : Launch} {e : Env} {s : State} {m : MethodId} {args : Array Value} {below : List Frame} {meth : Method} {c : Code} {A : Nat → Prop} {dC : Nat → ClassId} {dI : Nat → Nat → Nat} {h0 : Nat} {ad : Nat → Nat} {cs : Nat → ClassId} {f0 : Nat → Int32} (C0 : sn_Cx cX1_copy 4 none RX1 p s m meth c args A (dC, dI) (sn_tyX1 cs)) (post : (Nat → Int32) → (Nat → Int32) → Prop) (f1 f2 : Nat → Int32) (x1 x2 : Int32) (hm : mX1_copy f1 f2 x1 x2 post) (H : Heap) (locs : List Loc) (hP : va_P (dC, dI) sn_cl (sn_pwX1 h0 ad cs f0 f1 f2) H) (hD : va_D A (sn_pwX1 h0 ad cs f0 f1 f2)) (hS : va_S A s.heap H locs) (ls : Array Slot) (hl : lv_has ls 4 [(0, .ref h0), (1, .int x1), (2, .int x2)]) : W p l e (headSpec (ws_ yX1_copy cX1_copy 4 none) ({ frames := 0, cells := 0, slots := 0, locals := 0 } : Room)).room s m args below meth c H locs 0 0 (MQ below (va_Qv (S := (Nat → Int32) × (Nat → Int32)) (fun u => post (u.1) (u.2)) (fun (u : (Nat → Int32) × (Nat → Int32)) (t : State) => sn_BX1 (dC, dI) A h0 ad cs f0 (u.1) (u.2) t) A) args s 0 0 A) (F0 m 0 ls []) := by
  obtain ⟨hx, hb, hr, hlocks, hml, hown, hts, hA, hK⟩ := id C0
  unfold mX1_copy at hm
  refine lv_iconst (v := (0 : Int32)) hx hb dX1_copy_0 (by decide) ?_
  refine lv_istore_n (lv' := [(3, .int (0 : Int32)), (0, .ref h0), (1, .int x1), (2, .int x2)]) hx hb dX1_copy_1 rfl hl (by decide) rfl (fun ls hl => ?_)
  obtain ⟨n2, hm⟩ := hm
  exact wX1_copy_2 C0 post n2 f1 f2 x1 x2 (0 : Int32) hm H locs hP hD hS ls (lv_sub hl [1, 2, 3, 0] rfl)
set_option maxHeartbeats 4000000 in
set_option maxRecDepth 100000 in
theorem kX1_copy (l : Launch) (dC : Nat → ClassId) (dI : Nat → Nat → Nat) (h0 : Nat) (ad : Nat → Nat) (cs : Nat → ClassId) (sz : Nat) (f0 f1 f2 : Nat → Int32) (x1 x2 : Int32) (post : (Nat → Int32) → (Nat → Int32) → Prop) (hm : mX1_copy f1 f2 x1 x2 post) : Met l yX1_copy (ws_ yX1_copy cX1_copy 4 none) ({ frames := 0, cells := 0, slots := 0, locals := 0 } : Room) (va_Pc [.ref h0, .int x1, .int x2] (sn_PX (dC, dI) (sn_tyX1 cs) (sn_pwX1 h0 ad cs f0 f1 f2) sz)) (va_Qv (S := (Nat → Int32) × (Nat → Int32)) (fun u => post (u.1) (u.2)) (fun (u : (Nat → Int32) × (Nat → Int32)) (t : State) => sn_BX1 (dC, dI) (va_A (sn_pwX1 h0 ad cs f0 f1 f2) sz) h0 ad cs f0 (u.1) (u.2) t) (va_A (sn_pwX1 h0 ad cs f0 f1 f2) sz)) 0 0 (va_A (sn_pwX1 h0 ad cs f0 f1 f2) sz) := by
  refine sn_mk_V (n := 4) (RC := RX1) (Q := fun A => (va_Qv (S := (Nat → Int32) × (Nat → Int32)) (fun u => post (u.1) (u.2)) (fun (u : (Nat → Int32) × (Nat → Int32)) (t : State) => sn_BX1 (dC, dI) A h0 ad cs f0 (u.1) (u.2) t) A)) (by decide) rfl (Nat.le_of_ble_eq_true rfl) ?_
  intro p e s m below meth c A ls C0 hP hD hl
  exact wX1_copy_0 C0 post f1 f2 x1 x2 hm _ _ hP hD va_S.rf ls hl
set_option maxHeartbeats 4000000 in
set_option maxRecDepth 100000 in
theorem wX1_commit_2 {p : Program} {l : Launch} {e : Env} {s : State} {m : MethodId} {args : Array Value} {below : List Frame} {meth : Method} {c : Code} {A : Nat → Prop} {dC : Nat → ClassId} {dI : Nat → Nat → Nat} {h0 : Nat} {ad : Nat → Nat} {cs : Nat → ClassId} (C0 : sn_Cx cX1_commit 2 (some .int) RX1 p s m meth c args A (dC, dI) (sn_tyX1 cs)) (post : Int32 → (Nat → Int32) → (Nat → Int32) → (Nat → Int32) → Prop) : ∀ (n2 : Nat) (f0 f1 f2 : Nat → Int32) (x1 : Int32), mX1_commit_2 n2 f0 f1 f2 x1 post → ∀ (H : Heap) (locs : List Loc), va_P (dC, dI) sn_cl (sn_pwX1 h0 ad cs f0 f1 f2) H → va_D A (sn_pwX1 h0 ad cs f0 f1 f2) → va_S A s.heap H locs → ∀ (ls : Array Slot), lv_has ls 2 [(0, .ref h0), (1, .int x1)] → W p l e (headSpec (ws_ yX1_commit cX1_commit 2 (some .int)) ({ frames := 1, cells := 0, slots := 0, locals := 23 } : Room)).room s m args below meth c H locs 0 0 (MQ below (va_Qi (S := (Nat → Int32) × (Nat → Int32) × (Nat → Int32)) (fun r u => post r (u.1) (u.2.1) (u.2.2)) (fun (u : (Nat → Int32) × (Nat → Int32) × (Nat → Int32)) (t : State) => sn_BX1 (dC, dI) A h0 ad cs (u.1) (u.2.1) (u.2.2) t) A) args s 0 0 A) (F0 m 2 ls []) := by
  obtain ⟨hx, hb, hr, hlocks, hml, hown, hts, hA, hK⟩ := id C0
  intro n2
  induction n2 with
  | zero =>
    intro f0 f1 f2 x1 hm
    unfold mX1_commit_2 at hm
    exact False.elim hm
  | succ n2 ih2 =>
    intro f0 f1 f2 x1 hm H locs hP hD hS ls hl
    unfold mX1_commit_2 at hm
    refine lv_iload_n hx hb dX1_commit_2 rfl (lv_at hl 1 rfl) ?_
    refine lv_bipush (v := (7 : Int32)) hx hb dX1_commit_3 (by decide) ?_
    refine lv_icmp_ge (tgt := 39) hx hb dX1_commit_5 (by decide) (fun c_1 => ?_) (fun c_1 => ?_)
    · have hm := hm.1 c_1
      refine lv_iconst (v := (-1 : Int32)) hx hb dX1_commit_39 (by decide) ?_
      exact W.iret (v := (-1 : Int32)) hx hb hr (fun t ht hW => ⟨⟨(-1 : Int32), ⟨f0, f1, f2⟩, rfl, hm, ⟨by rw [ht]; exact hP, va_K.moved hW.alike hK, hD⟩⟩, hS.F ht⟩) hS.2.2 dX1_commit_40
    · have hm := hm.2 c_1
      refine lv_aload_n hx hb dX1_commit_8 rfl (lv_at hl 0 rfl) ?_
      refine sn_gtX1_0 C0 hP dX1_commit_9 ?_
      refine lv_iload_n hx hb dX1_commit_12 rfl (lv_at hl 1 rfl) ?_
      obtain ⟨h_2, hm⟩ := hm
      refine sn_ldX1_0 C0 hP h_2 dX1_commit_13 ?_
      refine lv_if_ne (tgt := 33) hx hb dX1_commit_14 (by decide) (fun c_3 => ?_) (fun c_3 => ?_)
      · have hm := hm.1 c_3
        refine lv_iinc (v := (x1 + (1 : Int32))) (lv' := [(1, .int (x1 + (1 : Int32))), (0, .ref h0)]) hx hb dX1_commit_33 hl (k := 1) rfl rfl (by decide) rfl (fun ls hl => ?_)
        refine lv_goto (tgt := 2) hx hb dX1_commit_36 (by decide) ?_
        exact ih2 f0 f1 f2 (x1 + (1 : Int32)) hm H locs hP hD hS ls (lv_sub hl [1, 0] rfl)
      · have hm := hm.2 c_3
        refine lv_aload_n hx hb dX1_commit_17 rfl (lv_at hl 0 rfl) ?_
        refine sn_gtX1_0 C0 hP dX1_commit_18 ?_
        refine lv_iload_n hx hb dX1_commit_21 rfl (lv_at hl 1 rfl) ?_
        refine lv_iconst (v := (1 : Int32)) hx hb dX1_commit_22 (by decide) ?_
        obtain ⟨h_4, hm⟩ := hm
        refine sn_stX1_0 C0 hP hD hS h_4 dX1_commit_23 (fun H locs hP hD hS => ?_)
        refine lv_aload_n hx hb dX1_commit_24 rfl (lv_at hl 0 rfl) ?_
        refine lv_bipush (v := (7 : Int32)) hx hb dX1_commit_25 (by decide) ?_
        refine lv_iload_n hx hb dX1_commit_27 rfl (lv_at hl 1 rfl) ?_
        refine sn_cl_Vv (As := [.int (7 : Int32), .int x1]) (rest := []) (w1 := (fun (u : (Nat → Int32) × (Nat → Int32)) => sn_pwX1 h0 ad cs (upd f0 (x1).toNatClampNeg (vp_nar .boolean (1 : Int32))) (u.1) (u.2))) ⟨hx, hb, hml, hown, hts⟩ (kX1_copy l dC dI h0 ad cs H.size (upd f0 (x1).toNatClampNeg (vp_nar .boolean (1 : Int32))) f1 f2 (7 : Int32) x1 _ hm) (cwV 2 hts (lw_V q194 q196 qs14 q20 q197) rfl rfl rfl (by decide +kernel) ⟨Nat.le_of_ble_eq_true rfl, Nat.le_of_ble_eq_true rfl⟩) (va_recv hK hP (ci := 1) (q0 := 0) rfl rfl) hP hD hK hS hA rfl hl.1 rfl (lv_room (Nat.le_of_ble_eq_true rfl)) dX1_commit_28 ⟨Nat.le_refl 0, Nat.le_refl 0⟩ (fun u H locs hm hP hD hS => ?_)
        obtain ⟨f1_5, f2_5⟩ := u
        refine lv_iload_n hx hb dX1_commit_31 rfl (lv_at hl 1 rfl) ?_
        exact W.iret (v := x1) hx hb hr (fun t ht hW => ⟨⟨x1, ⟨(upd f0 (x1).toNatClampNeg (vp_nar .boolean (1 : Int32))), f1_5, f2_5⟩, rfl, hm, ⟨by rw [ht]; exact hP, va_K.moved hW.alike hK, hD⟩⟩, hS.F ht⟩) hS.2.2 dX1_commit_32
set_option maxHeartbeats 4000000 in
set_option maxRecDepth 100000 in
theorem wX1_commit_0 {p : Program} {l : Launch} {e : Env} {s : State} {m : MethodId} {args : Array Value} {below : List Frame} {meth : Method} {c : Code} {A : Nat → Prop} {dC : Nat → ClassId} {dI : Nat → Nat → Nat} {h0 : Nat} {ad : Nat → Nat} {cs : Nat → ClassId} (C0 : sn_Cx cX1_commit 2 (some .int) RX1 p s m meth c args A (dC, dI) (sn_tyX1 cs)) (post : Int32 → (Nat → Int32) → (Nat → Int32) → (Nat → Int32) → Prop) (f0 f1 f2 : Nat → Int32) (hm : mX1_commit f0 f1 f2 post) (H : Heap) (locs : List Loc) (hP : va_P (dC, dI) sn_cl (sn_pwX1 h0 ad cs f0 f1 f2) H) (hD : va_D A (sn_pwX1 h0 ad cs f0 f1 f2)) (hS : va_S A s.heap H locs) (ls : Array Slot) (hl : lv_has ls 2 [(0, .ref h0)]) : W p l e (headSpec (ws_ yX1_commit cX1_commit 2 (some .int)) ({ frames := 1, cells := 0, slots := 0, locals := 23 } : Room)).room s m args below meth c H locs 0 0 (MQ below (va_Qi (S := (Nat → Int32) × (Nat → Int32) × (Nat → Int32)) (fun r u => post r (u.1) (u.2.1) (u.2.2)) (fun (u : (Nat → Int32) × (Nat → Int32) × (Nat → Int32)) (t : State) => sn_BX1 (dC, dI) A h0 ad cs (u.1) (u.2.1) (u.2.2) t) A) args s 0 0 A) (F0 m 0 ls []) := by
  obtain ⟨hx, hb, hr, hlocks, hml, hown, hts, hA, hK⟩ := id C0
  unfold mX1_commit at hm
  refine lv_iconst (v := (0 : Int32)) hx hb dX1_commit_0 (by decide) ?_
  refine lv_istore_n (lv' := [(1, .int (0 : Int32)), (0, .ref h0)]) hx hb dX1_commit_1 rfl hl (by decide) rfl (fun ls hl => ?_)
  obtain ⟨n2, hm⟩ := hm
  exact wX1_commit_2 C0 post n2 f0 f1 f2 (0 : Int32) hm H locs hP hD hS ls (lv_sub hl [1, 0] rfl)
set_option maxHeartbeats 4000000 in
set_option maxRecDepth 100000 in
theorem kX1_commit (l : Launch) (dC : Nat → ClassId) (dI : Nat → Nat → Nat) (h0 : Nat) (ad : Nat → Nat) (cs : Nat → ClassId) (sz : Nat) (f0 f1 f2 : Nat → Int32) (post : Int32 → (Nat → Int32) → (Nat → Int32) → (Nat → Int32) → Prop) (hm : mX1_commit f0 f1 f2 post) : Met l yX1_commit (ws_ yX1_commit cX1_commit 2 (some .int)) ({ frames := 1, cells := 0, slots := 0, locals := 23 } : Room) (va_Pc [.ref h0] (sn_PX (dC, dI) (sn_tyX1 cs) (sn_pwX1 h0 ad cs f0 f1 f2) sz)) (va_Qi (S := (Nat → Int32) × (Nat → Int32) × (Nat → Int32)) (fun r u => post r (u.1) (u.2.1) (u.2.2)) (fun (u : (Nat → Int32) × (Nat → Int32) × (Nat → Int32)) (t : State) => sn_BX1 (dC, dI) (va_A (sn_pwX1 h0 ad cs f0 f1 f2) sz) h0 ad cs (u.1) (u.2.1) (u.2.2) t) (va_A (sn_pwX1 h0 ad cs f0 f1 f2) sz)) 0 0 (va_A (sn_pwX1 h0 ad cs f0 f1 f2) sz) := by
  refine sn_mk_V (n := 2) (RC := RX1) (Q := fun A => (va_Qi (S := (Nat → Int32) × (Nat → Int32) × (Nat → Int32)) (fun r u => post r (u.1) (u.2.1) (u.2.2)) (fun (u : (Nat → Int32) × (Nat → Int32) × (Nat → Int32)) (t : State) => sn_BX1 (dC, dI) A h0 ad cs (u.1) (u.2.1) (u.2.2) t) A)) (by decide) rfl (Nat.le_of_ble_eq_true rfl) ?_
  intro p e s m below meth c A ls C0 hP hD hl
  exact wX1_commit_0 C0 post f0 f1 f2 hm _ _ hP hD va_S.rf ls hl
set_option maxHeartbeats 4000000 in
set_option maxRecDepth 100000 in
theorem wX1_free_0 {p : Program} {l : Launch} {e : Env} {s : State} {m : MethodId} {args : Array Value} {below : List Frame} {meth : Method} {c : Code} {A : Nat → Prop} {dC : Nat → ClassId} {dI : Nat → Nat → Nat} {h0 : Nat} {ad : Nat → Nat} {cs : Nat → ClassId} {f0 f1 f2 : Nat → Int32} (C0 : sn_Cx cX1_free 2 (some .boolean) RX1 p s m meth c args A (dC, dI) (sn_tyX1 cs)) (post : Int32 → Prop) (x1 : Int32) (hm : mX1_free f0 x1 post) (H : Heap) (locs : List Loc) (hP : va_P (dC, dI) sn_cl (sn_pwX1 h0 ad cs f0 f1 f2) H) (hD : va_D A (sn_pwX1 h0 ad cs f0 f1 f2)) (hS : va_S A s.heap H locs) (ls : Array Slot) (hl : lv_has ls 2 [(0, .ref h0), (1, .int x1)]) : W p l e (headSpec (ws_ yX1_free cX1_free 2 (some .boolean)) ({ frames := 0, cells := 0, slots := 0, locals := 0 } : Room)).room s m args below meth c H locs 0 0 (MQ below (va_Qi (S := Unit) (fun r _ => post r) (fun (_ : Unit) (t : State) => sn_BX1 (dC, dI) A h0 ad cs f0 f1 f2 t) A) args s 0 0 A) (F0 m 0 ls []) := by
  obtain ⟨hx, hb, hr, hlocks, hml, hown, hts, hA, hK⟩ := id C0
  unfold mX1_free at hm
  refine lv_iload_n hx hb dX1_free_0 rfl (lv_at hl 1 rfl) ?_
  refine lv_if_lt (tgt := 19) hx hb dX1_free_1 (by decide) (fun c_1 => ?_) (fun c_1 => ?_)
  · have hm := hm.1 c_1
    refine lv_iconst (v := (1 : Int32)) hx hb dX1_free_19 (by decide) ?_
    refine lv_goto (tgt := 24) hx hb dX1_free_20 (by decide) ?_
    exact W.zret (v := (1 : Int32)) hx hb hr rfl (fun t ht hW => ⟨⟨(1 : Int32), (), rfl, hm, ⟨by rw [ht]; exact hP, va_K.moved hW.alike hK, hD⟩⟩, hS.F ht⟩) hS.2.2 dX1_free_24
  · have hm := hm.2 c_1
    refine lv_iload_n hx hb dX1_free_4 rfl (lv_at hl 1 rfl) ?_
    refine lv_bipush (v := (6 : Int32)) hx hb dX1_free_5 (by decide) ?_
    refine lv_icmp_gt (tgt := 19) hx hb dX1_free_7 (by decide) (fun c_2 => ?_) (fun c_2 => ?_)
    · have hm := hm.1 c_2
      refine lv_iconst (v := (1 : Int32)) hx hb dX1_free_19 (by decide) ?_
      refine lv_goto (tgt := 24) hx hb dX1_free_20 (by decide) ?_
      exact W.zret (v := (1 : Int32)) hx hb hr rfl (fun t ht hW => ⟨⟨(1 : Int32), (), rfl, hm, ⟨by rw [ht]; exact hP, va_K.moved hW.alike hK, hD⟩⟩, hS.F ht⟩) hS.2.2 dX1_free_24
    · have hm := hm.2 c_2
      refine lv_aload_n hx hb dX1_free_10 rfl (lv_at hl 0 rfl) ?_
      refine sn_gtX1_0 C0 hP dX1_free_11 ?_
      refine lv_iload_n hx hb dX1_free_14 rfl (lv_at hl 1 rfl) ?_
      obtain ⟨h_3, hm⟩ := hm
      refine sn_ldX1_0 C0 hP h_3 dX1_free_15 ?_
      refine lv_if_ne (tgt := 23) hx hb dX1_free_16 (by decide) (fun c_4 => ?_) (fun c_4 => ?_)
      · have hm := hm.1 c_4
        refine lv_iconst (v := (0 : Int32)) hx hb dX1_free_23 (by decide) ?_
        exact W.zret (v := (0 : Int32)) hx hb hr rfl (fun t ht hW => ⟨⟨(0 : Int32), (), rfl, hm, ⟨by rw [ht]; exact hP, va_K.moved hW.alike hK, hD⟩⟩, hS.F ht⟩) hS.2.2 dX1_free_24
      · have hm := hm.2 c_4
        refine lv_iconst (v := (1 : Int32)) hx hb dX1_free_19 (by decide) ?_
        refine lv_goto (tgt := 24) hx hb dX1_free_20 (by decide) ?_
        exact W.zret (v := (1 : Int32)) hx hb hr rfl (fun t ht hW => ⟨⟨(1 : Int32), (), rfl, hm, ⟨by rw [ht]; exact hP, va_K.moved hW.alike hK, hD⟩⟩, hS.F ht⟩) hS.2.2 dX1_free_24
set_option maxHeartbeats 4000000 in
set_option maxRecDepth 100000 in
theorem kX1_free (l : Launch) (dC : Nat → ClassId) (dI : Nat → Nat → Nat) (h0 : Nat) (ad : Nat → Nat) (cs : Nat → ClassId) (sz : Nat) (f0 f1 f2 : Nat → Int32) (x1 : Int32) (post : Int32 → Prop) (hm : mX1_free f0 x1 post) : Met l yX1_free (ws_ yX1_free cX1_free 2 (some .boolean)) ({ frames := 0, cells := 0, slots := 0, locals := 0 } : Room) (va_Pc [.ref h0, .int x1] (sn_PX (dC, dI) (sn_tyX1 cs) (sn_pwX1 h0 ad cs f0 f1 f2) sz)) (va_Qi (S := Unit) (fun r _ => post r) (fun (_ : Unit) (t : State) => sn_BX1 (dC, dI) (va_A (sn_pwX1 h0 ad cs f0 f1 f2) sz) h0 ad cs f0 f1 f2 t) (va_A (sn_pwX1 h0 ad cs f0 f1 f2) sz)) 0 0 (va_A (sn_pwX1 h0 ad cs f0 f1 f2) sz) := by
  refine sn_mk_V (n := 2) (RC := RX1) (Q := fun A => (va_Qi (S := Unit) (fun r _ => post r) (fun (_ : Unit) (t : State) => sn_BX1 (dC, dI) A h0 ad cs f0 f1 f2 t) A)) (by decide) rfl (Nat.le_of_ble_eq_true rfl) ?_
  intro p e s m below meth c A ls C0 hP hD hl
  exact wX1_free_0 C0 post x1 hm _ _ hP hD va_S.rf ls hl
set_option maxHeartbeats 4000000 in
set_option maxRecDepth 100000 in
theorem wX1_restore_0 {p : Program} {l : Launch} {e : Env} {s : State} {m : MethodId} {args : Array Value} {below : List Frame} {meth : Method} {c : Code} {A : Nat → Prop} {dC : Nat → ClassId} {dI : Nat → Nat → Nat} {h0 : Nat} {ad : Nat → Nat} {cs : Nat → ClassId} {f0 : Nat → Int32} (C0 : sn_Cx cX1_restore 2 (some .int) RX1 p s m meth c args A (dC, dI) (sn_tyX1 cs)) (post : Int32 → (Nat → Int32) → (Nat → Int32) → Prop) (f1 f2 : Nat → Int32) (x1 : Int32) (hm : mX1_restore f0 f1 f2 x1 post) (H : Heap) (locs : List Loc) (hP : va_P (dC, dI) sn_cl (sn_pwX1 h0 ad cs f0 f1 f2) H) (hD : va_D A (sn_pwX1 h0 ad cs f0 f1 f2)) (hS : va_S A s.heap H locs) (ls : Array Slot) (hl : lv_has ls 2 [(0, .ref h0), (1, .int x1)]) : W p l e (headSpec (ws_ yX1_restore cX1_restore 2 (some .int)) ({ frames := 1, cells := 0, slots := 0, locals := 23 } : Room)).room s m args below meth c H locs 0 0 (MQ below (va_Qi (S := (Nat → Int32) × (Nat → Int32)) (fun r u => post r (u.1) (u.2)) (fun (u : (Nat → Int32) × (Nat → Int32)) (t : State) => sn_BX1 (dC, dI) A h0 ad cs f0 (u.1) (u.2) t) A) args s 0 0 A) (F0 m 0 ls []) := by
  obtain ⟨hx, hb, hr, hlocks, hml, hown, hts, hA, hK⟩ := id C0
  unfold mX1_restore at hm
  refine lv_aload_n hx hb dX1_restore_0 rfl (lv_at hl 0 rfl) ?_
  refine lv_iload_n hx hb dX1_restore_1 rfl (lv_at hl 1 rfl) ?_
  refine sn_cl_Vi (As := [.int x1]) (rest := []) (w1 := (fun (_ : Unit) => sn_pwX1 h0 ad cs (f0) (f1) (f2))) ⟨hx, hb, hml, hown, hts⟩ (kX1_free l dC dI h0 ad cs H.size f0 f1 f2 x1 _ hm) (cwV 1 hts (lw_V q202 q204 qs15 q20 q205) rfl rfl rfl (by decide +kernel) ⟨Nat.le_of_ble_eq_true rfl, Nat.le_of_ble_eq_true rfl⟩) (va_recv hK hP (ci := 1) (q0 := 0) rfl rfl) hP hD hK hS hA rfl hl.1 rfl (lv_room (Nat.le_of_ble_eq_true rfl)) dX1_restore_2 ⟨Nat.le_refl 0, Nat.le_refl 0⟩ (fun r_1 _ H locs hm hP hD hS => ?_)
  refine lv_if_eq (tgt := 10) hx hb dX1_restore_5 (by decide) (fun c_2 => ?_) (fun c_2 => ?_)
  · have hm := hm.1 c_2
    refine lv_aload_n hx hb dX1_restore_10 rfl (lv_at hl 0 rfl) ?_
    refine lv_iload_n hx hb dX1_restore_11 rfl (lv_at hl 1 rfl) ?_
    refine lv_bipush (v := (7 : Int32)) hx hb dX1_restore_12 (by decide) ?_
    refine sn_cl_Vv (As := [.int x1, .int (7 : Int32)]) (rest := []) (w1 := (fun (u : (Nat → Int32) × (Nat → Int32)) => sn_pwX1 h0 ad cs (f0) (u.1) (u.2))) ⟨hx, hb, hml, hown, hts⟩ (kX1_copy l dC dI h0 ad cs H.size f0 f1 f2 x1 (7 : Int32) _ hm) (cwV 2 hts (lw_V q194 q196 qs14 q20 q197) rfl rfl rfl (by decide +kernel) ⟨Nat.le_of_ble_eq_true rfl, Nat.le_of_ble_eq_true rfl⟩) (va_recv hK hP (ci := 1) (q0 := 0) rfl rfl) hP hD hK hS hA rfl hl.1 rfl (lv_room (Nat.le_of_ble_eq_true rfl)) dX1_restore_14 ⟨Nat.le_refl 0, Nat.le_refl 0⟩ (fun u H locs hm hP hD hS => ?_)
    obtain ⟨f1_3, f2_3⟩ := u
    refine lv_aload_n hx hb dX1_restore_17 rfl (lv_at hl 0 rfl) ?_
    refine lv_bipush (v := (7 : Int32)) hx hb dX1_restore_18 (by decide) ?_
    refine sn_cl_Vi (As := [.int (7 : Int32)]) (rest := []) (w1 := (fun (_ : Unit) => sn_pwX1 h0 ad cs (f0) (f1_3) (f2_3))) ⟨hx, hb, hml, hown, hts⟩ (kX1_count l dC dI h0 ad cs H.size f0 f1_3 f2_3 (7 : Int32) _ hm) (cwV 1 hts (lw_V q182 q184 qs13 q20 q185) rfl rfl rfl (by decide +kernel) ⟨Nat.le_of_ble_eq_true rfl, Nat.le_of_ble_eq_true rfl⟩) (va_recv hK hP (ci := 1) (q0 := 0) rfl rfl) hP hD hK hS hA rfl hl.1 rfl (lv_room (Nat.le_of_ble_eq_true rfl)) dX1_restore_20 ⟨Nat.le_refl 0, Nat.le_refl 0⟩ (fun r_4 _ H locs hm hP hD hS => ?_)
    exact W.iret (v := r_4) hx hb hr (fun t ht hW => ⟨⟨r_4, ⟨f1_3, f2_3⟩, rfl, hm, ⟨by rw [ht]; exact hP, va_K.moved hW.alike hK, hD⟩⟩, hS.F ht⟩) hS.2.2 dX1_restore_23
  · have hm := hm.2 c_2
    refine lv_iconst (v := (-1 : Int32)) hx hb dX1_restore_8 (by decide) ?_
    exact W.iret (v := (-1 : Int32)) hx hb hr (fun t ht hW => ⟨⟨(-1 : Int32), ⟨f1, f2⟩, rfl, hm, ⟨by rw [ht]; exact hP, va_K.moved hW.alike hK, hD⟩⟩, hS.F ht⟩) hS.2.2 dX1_restore_9
set_option maxHeartbeats 4000000 in
set_option maxRecDepth 100000 in
theorem kX1_restore (l : Launch) (dC : Nat → ClassId) (dI : Nat → Nat → Nat) (h0 : Nat) (ad : Nat → Nat) (cs : Nat → ClassId) (sz : Nat) (f0 f1 f2 : Nat → Int32) (x1 : Int32) (post : Int32 → (Nat → Int32) → (Nat → Int32) → Prop) (hm : mX1_restore f0 f1 f2 x1 post) : Met l yX1_restore (ws_ yX1_restore cX1_restore 2 (some .int)) ({ frames := 1, cells := 0, slots := 0, locals := 23 } : Room) (va_Pc [.ref h0, .int x1] (sn_PX (dC, dI) (sn_tyX1 cs) (sn_pwX1 h0 ad cs f0 f1 f2) sz)) (va_Qi (S := (Nat → Int32) × (Nat → Int32)) (fun r u => post r (u.1) (u.2)) (fun (u : (Nat → Int32) × (Nat → Int32)) (t : State) => sn_BX1 (dC, dI) (va_A (sn_pwX1 h0 ad cs f0 f1 f2) sz) h0 ad cs f0 (u.1) (u.2) t) (va_A (sn_pwX1 h0 ad cs f0 f1 f2) sz)) 0 0 (va_A (sn_pwX1 h0 ad cs f0 f1 f2) sz) := by
  refine sn_mk_V (n := 2) (RC := RX1) (Q := fun A => (va_Qi (S := (Nat → Int32) × (Nat → Int32)) (fun r u => post r (u.1) (u.2)) (fun (u : (Nat → Int32) × (Nat → Int32)) (t : State) => sn_BX1 (dC, dI) A h0 ad cs f0 (u.1) (u.2) t) A)) (by decide) rfl (Nat.le_of_ble_eq_true rfl) ?_
  intro p e s m below meth c A ls C0 hP hD hl
  exact wX1_restore_0 C0 post f1 f2 x1 hm _ _ hP hD va_S.rf ls hl
set_option maxHeartbeats 4000000 in
set_option maxRecDepth 100000 in
theorem wX1_drop_0 {p : Program} {l : Launch} {e : Env} {s : State} {m : MethodId} {args : Array Value} {below : List Frame} {meth : Method} {c : Code} {A : Nat → Prop} {dC : Nat → ClassId} {dI : Nat → Nat → Nat} {h0 : Nat} {ad : Nat → Nat} {cs : Nat → ClassId} {f1 f2 : Nat → Int32} (C0 : sn_Cx cX1_drop 2 (some .int) RX1 p s m meth c args A (dC, dI) (sn_tyX1 cs)) (post : Int32 → (Nat → Int32) → Prop) (f0 : Nat → Int32) (x1 : Int32) (hm : mX1_drop f0 x1 post) (H : Heap) (locs : List Loc) (hP : va_P (dC, dI) sn_cl (sn_pwX1 h0 ad cs f0 f1 f2) H) (hD : va_D A (sn_pwX1 h0 ad cs f0 f1 f2)) (hS : va_S A s.heap H locs) (ls : Array Slot) (hl : lv_has ls 2 [(0, .ref h0), (1, .int x1)]) : W p l e (headSpec (ws_ yX1_drop cX1_drop 2 (some .int)) ({ frames := 1, cells := 0, slots := 0, locals := 21 } : Room)).room s m args below meth c H locs 0 0 (MQ below (va_Qi (S := (Nat → Int32)) (fun r u => post r (u)) (fun (u : (Nat → Int32)) (t : State) => sn_BX1 (dC, dI) A h0 ad cs u f1 f2 t) A) args s 0 0 A) (F0 m 0 ls []) := by
  obtain ⟨hx, hb, hr, hlocks, hml, hown, hts, hA, hK⟩ := id C0
  unfold mX1_drop at hm
  refine lv_aload_n hx hb dX1_drop_0 rfl (lv_at hl 0 rfl) ?_
  refine lv_iload_n hx hb dX1_drop_1 rfl (lv_at hl 1 rfl) ?_
  refine sn_cl_Vi (As := [.int x1]) (rest := []) (w1 := (fun (_ : Unit) => sn_pwX1 h0 ad cs (f0) (f1) (f2))) ⟨hx, hb, hml, hown, hts⟩ (kX1_free l dC dI h0 ad cs H.size f0 f1 f2 x1 _ hm) (cwV 1 hts (lw_V q202 q204 qs15 q20 q205) rfl rfl rfl (by decide +kernel) ⟨Nat.le_of_ble_eq_true rfl, Nat.le_of_ble_eq_true rfl⟩) (va_recv hK hP (ci := 1) (q0 := 0) rfl rfl) hP hD hK hS hA rfl hl.1 rfl (lv_room (Nat.le_of_ble_eq_true rfl)) dX1_drop_2 ⟨Nat.le_refl 0, Nat.le_refl 0⟩ (fun r_1 _ H locs hm hP hD hS => ?_)
  refine lv_if_eq (tgt := 10) hx hb dX1_drop_5 (by decide) (fun c_2 => ?_) (fun c_2 => ?_)
  · have hm := hm.1 c_2
    refine lv_aload_n hx hb dX1_drop_10 rfl (lv_at hl 0 rfl) ?_
    refine sn_gtX1_0 C0 hP dX1_drop_11 ?_
    refine lv_iload_n hx hb dX1_drop_14 rfl (lv_at hl 1 rfl) ?_
    refine lv_iconst (v := (0 : Int32)) hx hb dX1_drop_15 (by decide) ?_
    obtain ⟨h_3, hm⟩ := hm
    refine sn_stX1_0 C0 hP hD hS h_3 dX1_drop_16 (fun H locs hP hD hS => ?_)
    refine lv_iconst (v := (0 : Int32)) hx hb dX1_drop_17 (by decide) ?_
    exact W.iret (v := (0 : Int32)) hx hb hr (fun t ht hW => ⟨⟨(0 : Int32), (upd f0 (x1).toNatClampNeg (vp_nar .boolean (0 : Int32))), rfl, hm, ⟨by rw [ht]; exact hP, va_K.moved hW.alike hK, hD⟩⟩, hS.F ht⟩) hS.2.2 dX1_drop_18
  · have hm := hm.2 c_2
    refine lv_iconst (v := (-1 : Int32)) hx hb dX1_drop_8 (by decide) ?_
    exact W.iret (v := (-1 : Int32)) hx hb hr (fun t ht hW => ⟨⟨(-1 : Int32), f0, rfl, hm, ⟨by rw [ht]; exact hP, va_K.moved hW.alike hK, hD⟩⟩, hS.F ht⟩) hS.2.2 dX1_drop_9
set_option maxHeartbeats 4000000 in
set_option maxRecDepth 100000 in
theorem kX1_drop (l : Launch) (dC : Nat → ClassId) (dI : Nat → Nat → Nat) (h0 : Nat) (ad : Nat → Nat) (cs : Nat → ClassId) (sz : Nat) (f0 f1 f2 : Nat → Int32) (x1 : Int32) (post : Int32 → (Nat → Int32) → Prop) (hm : mX1_drop f0 x1 post) : Met l yX1_drop (ws_ yX1_drop cX1_drop 2 (some .int)) ({ frames := 1, cells := 0, slots := 0, locals := 21 } : Room) (va_Pc [.ref h0, .int x1] (sn_PX (dC, dI) (sn_tyX1 cs) (sn_pwX1 h0 ad cs f0 f1 f2) sz)) (va_Qi (S := (Nat → Int32)) (fun r u => post r (u)) (fun (u : (Nat → Int32)) (t : State) => sn_BX1 (dC, dI) (va_A (sn_pwX1 h0 ad cs f0 f1 f2) sz) h0 ad cs u f1 f2 t) (va_A (sn_pwX1 h0 ad cs f0 f1 f2) sz)) 0 0 (va_A (sn_pwX1 h0 ad cs f0 f1 f2) sz) := by
  refine sn_mk_V (n := 2) (RC := RX1) (Q := fun A => (va_Qi (S := (Nat → Int32)) (fun r u => post r (u)) (fun (u : (Nat → Int32)) (t : State) => sn_BX1 (dC, dI) A h0 ad cs u f1 f2 t) A)) (by decide) rfl (Nat.le_of_ble_eq_true rfl) ?_
  intro p e s m below meth c A ls C0 hP hD hl
  exact wX1_drop_0 C0 post f0 x1 hm _ _ hP hD va_S.rf ls hl
end
section
/-! walks and contracts (printed by gen.py): place get has size next differ nextChange changes -/
set_option maxHeartbeats 4000000 in
set_option maxRecDepth 100000 in
theorem wX1_place_0 {p : Program} {l : Launch} {e : Env} {s : State} {m : MethodId} {args : Array Value} {below : List Frame} {meth : Method} {c : Code} {A : Nat → Prop} {dC : Nat → ClassId} {dI : Nat → Nat → Nat} {h0 : Nat} {ad : Nat → Nat} {cs : Nat → ClassId} {f0 f1 f2 : Nat → Int32} (C0 : sn_Cx cX1_place 2 (some .int) RX1 p s m meth c args A (dC, dI) (sn_tyX1 cs)) (post : Int32 → Prop) (x1 : Int32) (hm : mX1_place f0 x1 post) (H : Heap) (locs : List Loc) (hP : va_P (dC, dI) sn_cl (sn_pwX1 h0 ad cs f0 f1 f2) H) (hD : va_D A (sn_pwX1 h0 ad cs f0 f1 f2)) (hS : va_S A s.heap H locs) (ls : Array Slot) (hl : lv_has ls 2 [(0, .ref h0), (1, .int x1)]) : W p l e (headSpec (ws_ yX1_place cX1_place 2 (some .int)) ({ frames := 0, cells := 0, slots := 0, locals := 0 } : Room)).room s m args below meth c H locs 0 0 (MQ below (va_Qi (S := Unit) (fun r _ => post r) (fun (_ : Unit) (t : State) => sn_BX1 (dC, dI) A h0 ad cs f0 f1 f2 t) A) args s 0 0 A) (F0 m 0 ls []) := by
  obtain ⟨hx, hb, hr, hlocks, hml, hown, hts, hA, hK⟩ := id C0
  unfold mX1_place at hm
  refine lv_iload_n hx hb dX1_place_0 rfl (lv_at hl 1 rfl) ?_
  refine lv_iconst (v := (-1 : Int32)) hx hb dX1_place_1 (by decide) ?_
  refine lv_icmp_ne (tgt := 8) hx hb dX1_place_2 (by decide) (fun c_1 => ?_) (fun c_1 => ?_)
  · have hm := hm.1 c_1
    refine lv_iload_n hx hb dX1_place_8 rfl (lv_at hl 1 rfl) ?_
    refine lv_if_lt (tgt := 31) hx hb dX1_place_9 (by decide) (fun c_2 => ?_) (fun c_2 => ?_)
    · have hm := hm.1 c_2
      refine lv_iconst (v := (-1 : Int32)) hx hb dX1_place_31 (by decide) ?_
      exact W.iret (v := (-1 : Int32)) hx hb hr (fun t ht hW => ⟨⟨(-1 : Int32), (), rfl, hm, ⟨by rw [ht]; exact hP, va_K.moved hW.alike hK, hD⟩⟩, hS.F ht⟩) hS.2.2 dX1_place_32
    · have hm := hm.2 c_2
      refine lv_iload_n hx hb dX1_place_12 rfl (lv_at hl 1 rfl) ?_
      refine lv_bipush (v := (6 : Int32)) hx hb dX1_place_13 (by decide) ?_
      refine lv_icmp_gt (tgt := 31) hx hb dX1_place_15 (by decide) (fun c_3 => ?_) (fun c_3 => ?_)
      · have hm := hm.1 c_3
        refine lv_iconst (v := (-1 : Int32)) hx hb dX1_place_31 (by decide) ?_
        exact W.iret (v := (-1 : Int32)) hx hb hr (fun t ht hW => ⟨⟨(-1 : Int32), (), rfl, hm, ⟨by rw [ht]; exact hP, va_K.moved hW.alike hK, hD⟩⟩, hS.F ht⟩) hS.2.2 dX1_place_32
      · have hm := hm.2 c_3
        refine lv_aload_n hx hb dX1_place_18 rfl (lv_at hl 0 rfl) ?_
        refine sn_gtX1_0 C0 hP dX1_place_19 ?_
        refine lv_iload_n hx hb dX1_place_22 rfl (lv_at hl 1 rfl) ?_
        obtain ⟨h_4, hm⟩ := hm
        refine sn_ldX1_0 C0 hP h_4 dX1_place_23 ?_
        refine lv_if_eq (tgt := 31) hx hb dX1_place_24 (by decide) (fun c_5 => ?_) (fun c_5 => ?_)
        · have hm := hm.1 c_5
          refine lv_iconst (v := (-1 : Int32)) hx hb dX1_place_31 (by decide) ?_
          exact W.iret (v := (-1 : Int32)) hx hb hr (fun t ht hW => ⟨⟨(-1 : Int32), (), rfl, hm, ⟨by rw [ht]; exact hP, va_K.moved hW.alike hK, hD⟩⟩, hS.F ht⟩) hS.2.2 dX1_place_32
        · have hm := hm.2 c_5
          refine lv_iload_n hx hb dX1_place_27 rfl (lv_at hl 1 rfl) ?_
          refine lv_goto (tgt := 32) hx hb dX1_place_28 (by decide) ?_
          exact W.iret (v := x1) hx hb hr (fun t ht hW => ⟨⟨x1, (), rfl, hm, ⟨by rw [ht]; exact hP, va_K.moved hW.alike hK, hD⟩⟩, hS.F ht⟩) hS.2.2 dX1_place_32
  · have hm := hm.2 c_1
    refine lv_bipush (v := (7 : Int32)) hx hb dX1_place_5 (by decide) ?_
    exact W.iret (v := (7 : Int32)) hx hb hr (fun t ht hW => ⟨⟨(7 : Int32), (), rfl, hm, ⟨by rw [ht]; exact hP, va_K.moved hW.alike hK, hD⟩⟩, hS.F ht⟩) hS.2.2 dX1_place_7
set_option maxHeartbeats 4000000 in
set_option maxRecDepth 100000 in
theorem kX1_place (l : Launch) (dC : Nat → ClassId) (dI : Nat → Nat → Nat) (h0 : Nat) (ad : Nat → Nat) (cs : Nat → ClassId) (sz : Nat) (f0 f1 f2 : Nat → Int32) (x1 : Int32) (post : Int32 → Prop) (hm : mX1_place f0 x1 post) : Met l yX1_place (ws_ yX1_place cX1_place 2 (some .int)) ({ frames := 0, cells := 0, slots := 0, locals := 0 } : Room) (va_Pc [.ref h0, .int x1] (sn_PX (dC, dI) (sn_tyX1 cs) (sn_pwX1 h0 ad cs f0 f1 f2) sz)) (va_Qi (S := Unit) (fun r _ => post r) (fun (_ : Unit) (t : State) => sn_BX1 (dC, dI) (va_A (sn_pwX1 h0 ad cs f0 f1 f2) sz) h0 ad cs f0 f1 f2 t) (va_A (sn_pwX1 h0 ad cs f0 f1 f2) sz)) 0 0 (va_A (sn_pwX1 h0 ad cs f0 f1 f2) sz) := by
  refine sn_mk_V (n := 2) (RC := RX1) (Q := fun A => (va_Qi (S := Unit) (fun r _ => post r) (fun (_ : Unit) (t : State) => sn_BX1 (dC, dI) A h0 ad cs f0 f1 f2 t) A)) (by decide) rfl (Nat.le_of_ble_eq_true rfl) ?_
  intro p e s m below meth c A ls C0 hP hD hl
  exact wX1_place_0 C0 post x1 hm _ _ hP hD va_S.rf ls hl
set_option maxHeartbeats 4000000 in
set_option maxRecDepth 100000 in
theorem wX1_get_0 {p : Program} {l : Launch} {e : Env} {s : State} {m : MethodId} {args : Array Value} {below : List Frame} {meth : Method} {c : Code} {A : Nat → Prop} {dC : Nat → ClassId} {dI : Nat → Nat → Nat} {h0 : Nat} {ad : Nat → Nat} {cs : Nat → ClassId} {f0 f1 f2 : Nat → Int32} (C0 : sn_Cx cX1_get 4 (some .int) RX1 p s m meth c args A (dC, dI) (sn_tyX1 cs)) (post : Int32 → Prop) (x1 x2 : Int32) (hm : mX1_get f0 f1 f2 x1 x2 post) (H : Heap) (locs : List Loc) (hP : va_P (dC, dI) sn_cl (sn_pwX1 h0 ad cs f0 f1 f2) H) (hD : va_D A (sn_pwX1 h0 ad cs f0 f1 f2)) (hS : va_S A s.heap H locs) (ls : Array Slot) (hl : lv_has ls 4 [(0, .ref h0), (1, .int x1), (2, .int x2)]) : W p l e (headSpec (ws_ yX1_get cX1_get 4 (some .int)) ({ frames := 1, cells := 0, slots := 0, locals := 21 } : Room)).room s m args below meth c H locs 0 0 (MQ below (va_Qi (S := Unit) (fun r _ => post r) (fun (_ : Unit) (t : State) => sn_BX1 (dC, dI) A h0 ad cs f0 f1 f2 t) A) args s 0 0 A) (F0 m 0 ls []) := by
  obtain ⟨hx, hb, hr, hlocks, hml, hown, hts, hA, hK⟩ := id C0
  unfold mX1_get at hm
  refine lv_aload_n hx hb dX1_get_0 rfl (lv_at hl 0 rfl) ?_
  refine lv_iload_n hx hb dX1_get_1 rfl (lv_at hl 1 rfl) ?_
  refine sn_cl_Vi (As := [.int x1]) (rest := []) (w1 := (fun (_ : Unit) => sn_pwX1 h0 ad cs (f0) (f1) (f2))) ⟨hx, hb, hml, hown, hts⟩ (kX1_place l dC dI h0 ad cs H.size f0 f1 f2 x1 _ hm) (cwV 1 hts (lw_V q214 q216 qs16 q20 q217) rfl rfl rfl (by decide +kernel) ⟨Nat.le_of_ble_eq_true rfl, Nat.le_of_ble_eq_true rfl⟩) (va_recv hK hP (ci := 1) (q0 := 0) rfl rfl) hP hD hK hS hA rfl hl.1 rfl (lv_room (Nat.le_of_ble_eq_true rfl)) dX1_get_2 ⟨Nat.le_refl 0, Nat.le_refl 0⟩ (fun r_1 _ H locs hm hP hD hS => ?_)
  refine lv_istore_n (lv' := [(3, .int r_1), (0, .ref h0), (1, .int x1), (2, .int x2)]) hx hb dX1_get_5 rfl hl (by decide) rfl (fun ls hl => ?_)
  refine lv_iload_n hx hb dX1_get_6 rfl (lv_at hl 0 rfl) ?_
  refine lv_if_lt (tgt := 32) hx hb dX1_get_7 (by decide) (fun c_2 => ?_) (fun c_2 => ?_)
  · have hm := hm.1 c_2
    refine lv_iconst (v := (0 : Int32)) hx hb dX1_get_32 (by decide) ?_
    exact W.iret (v := (0 : Int32)) hx hb hr (fun t ht hW => ⟨⟨(0 : Int32), (), rfl, hm, ⟨by rw [ht]; exact hP, va_K.moved hW.alike hK, hD⟩⟩, hS.F ht⟩) hS.2.2 dX1_get_33
  · have hm := hm.2 c_2
    refine lv_iload_n hx hb dX1_get_10 rfl (lv_at hl 3 rfl) ?_
    refine sn_cl_S (As := [.int x2]) (rest := []) ⟨hx, hb, hml, hown, hts⟩ (kX1_badKey l H.size x2 _ hm) (va_cwS 1 hts (lw_S q179 q180 q20 q181) rfl rfl rfl (by decide +kernel) ⟨Nat.le_of_ble_eq_true rfl, Nat.le_of_ble_eq_true rfl⟩) hP hS hA rfl hl.1 rfl (lv_room (Nat.le_of_ble_eq_true rfl)) dX1_get_11 ⟨Nat.le_refl 0, Nat.le_refl 0⟩ (fun r_3 H locs hm hP hS => ?_)
    refine lv_if_ne (tgt := 32) hx hb dX1_get_14 (by decide) (fun c_4 => ?_) (fun c_4 => ?_)
    · have hm := hm.1 c_4
      refine lv_iconst (v := (0 : Int32)) hx hb dX1_get_32 (by decide) ?_
      exact W.iret (v := (0 : Int32)) hx hb hr (fun t ht hW => ⟨⟨(0 : Int32), (), rfl, hm, ⟨by rw [ht]; exact hP, va_K.moved hW.alike hK, hD⟩⟩, hS.F ht⟩) hS.2.2 dX1_get_33
    · have hm := hm.2 c_4
      refine lv_aload_n hx hb dX1_get_17 rfl (lv_at hl 1 rfl) ?_
      refine sn_gtX1_1 C0 hP dX1_get_18 ?_
      refine lv_sipush (v := (256 : Int32)) hx hb dX1_get_21 (by decide) ?_
      refine lv_iload_n hx hb dX1_get_24 rfl (lv_at hl 0 rfl) ?_
      refine lv_imul hx hb dX1_get_25 ?_
      refine lv_iload_n hx hb dX1_get_26 rfl (lv_at hl 3 rfl) ?_
      refine lv_iadd hx hb dX1_get_27 ?_
      obtain ⟨h_5, hm⟩ := hm
      refine sn_ldX1_1 C0 hP h_5 dX1_get_28 ?_
      refine lv_if_ne (tgt := 34) hx hb dX1_get_29 (by decide) (fun c_6 => ?_) (fun c_6 => ?_)
      · have hm := hm.1 c_6
        refine lv_aload_n hx hb dX1_get_34 rfl (lv_at hl 1 rfl) ?_
        refine sn_gtX1_2 C0 hP dX1_get_35 ?_
        refine lv_sipush (v := (256 : Int32)) hx hb dX1_get_38 (by decide) ?_
        refine lv_iload_n hx hb dX1_get_41 rfl (lv_at hl 0 rfl) ?_
        refine lv_imul hx hb dX1_get_42 ?_
        refine lv_iload_n hx hb dX1_get_43 rfl (lv_at hl 3 rfl) ?_
        refine lv_iadd hx hb dX1_get_44 ?_
        obtain ⟨h_7, hm⟩ := hm
        refine sn_ldX1_2 C0 hP h_7 dX1_get_45 ?_
        exact W.iret (v := (f2 (((256 : Int32) * r_1) + x2).toNatClampNeg)) hx hb hr (fun t ht hW => ⟨⟨(f2 (((256 : Int32) * r_1) + x2).toNatClampNeg), (), rfl, hm, ⟨by rw [ht]; exact hP, va_K.moved hW.alike hK, hD⟩⟩, hS.F ht⟩) hS.2.2 dX1_get_46
      · have hm := hm.2 c_6
        refine lv_iconst (v := (0 : Int32)) hx hb dX1_get_32 (by decide) ?_
        exact W.iret (v := (0 : Int32)) hx hb hr (fun t ht hW => ⟨⟨(0 : Int32), (), rfl, hm, ⟨by rw [ht]; exact hP, va_K.moved hW.alike hK, hD⟩⟩, hS.F ht⟩) hS.2.2 dX1_get_33
set_option maxHeartbeats 4000000 in
set_option maxRecDepth 100000 in
theorem kX1_get (l : Launch) (dC : Nat → ClassId) (dI : Nat → Nat → Nat) (h0 : Nat) (ad : Nat → Nat) (cs : Nat → ClassId) (sz : Nat) (f0 f1 f2 : Nat → Int32) (x1 x2 : Int32) (post : Int32 → Prop) (hm : mX1_get f0 f1 f2 x1 x2 post) : Met l yX1_get (ws_ yX1_get cX1_get 4 (some .int)) ({ frames := 1, cells := 0, slots := 0, locals := 21 } : Room) (va_Pc [.ref h0, .int x1, .int x2] (sn_PX (dC, dI) (sn_tyX1 cs) (sn_pwX1 h0 ad cs f0 f1 f2) sz)) (va_Qi (S := Unit) (fun r _ => post r) (fun (_ : Unit) (t : State) => sn_BX1 (dC, dI) (va_A (sn_pwX1 h0 ad cs f0 f1 f2) sz) h0 ad cs f0 f1 f2 t) (va_A (sn_pwX1 h0 ad cs f0 f1 f2) sz)) 0 0 (va_A (sn_pwX1 h0 ad cs f0 f1 f2) sz) := by
  refine sn_mk_V (n := 4) (RC := RX1) (Q := fun A => (va_Qi (S := Unit) (fun r _ => post r) (fun (_ : Unit) (t : State) => sn_BX1 (dC, dI) A h0 ad cs f0 f1 f2 t) A)) (by decide) rfl (Nat.le_of_ble_eq_true rfl) ?_
  intro p e s m below meth c A ls C0 hP hD hl
  exact wX1_get_0 C0 post x1 x2 hm _ _ hP hD va_S.rf ls hl
set_option maxHeartbeats 4000000 in
set_option maxRecDepth 100000 in
theorem wX1_has_0 {p : Program} {l : Launch} {e : Env} {s : State} {m : MethodId} {args : Array Value} {below : List Frame} {meth : Method} {c : Code} {A : Nat → Prop} {dC : Nat → ClassId} {dI : Nat → Nat → Nat} {h0 : Nat} {ad : Nat → Nat} {cs : Nat → ClassId} {f0 f1 f2 : Nat → Int32} (C0 : sn_Cx cX1_has 4 (some .int) RX1 p s m meth c args A (dC, dI) (sn_tyX1 cs)) (post : Int32 → Prop) (x1 x2 : Int32) (hm : mX1_has f0 f1 x1 x2 post) (H : Heap) (locs : List Loc) (hP : va_P (dC, dI) sn_cl (sn_pwX1 h0 ad cs f0 f1 f2) H) (hD : va_D A (sn_pwX1 h0 ad cs f0 f1 f2)) (hS : va_S A s.heap H locs) (ls : Array Slot) (hl : lv_has ls 4 [(0, .ref h0), (1, .int x1), (2, .int x2)]) : W p l e (headSpec (ws_ yX1_has cX1_has 4 (some .int)) ({ frames := 1, cells := 0, slots := 0, locals := 21 } : Room)).room s m args below meth c H locs 0 0 (MQ below (va_Qi (S := Unit) (fun r _ => post r) (fun (_ : Unit) (t : State) => sn_BX1 (dC, dI) A h0 ad cs f0 f1 f2 t) A) args s 0 0 A) (F0 m 0 ls []) := by
  obtain ⟨hx, hb, hr, hlocks, hml, hown, hts, hA, hK⟩ := id C0
  unfold mX1_has at hm
  refine lv_aload_n hx hb dX1_has_0 rfl (lv_at hl 0 rfl) ?_
  refine lv_iload_n hx hb dX1_has_1 rfl (lv_at hl 1 rfl) ?_
  refine sn_cl_Vi (As := [.int x1]) (rest := []) (w1 := (fun (_ : Unit) => sn_pwX1 h0 ad cs (f0) (f1) (f2))) ⟨hx, hb, hml, hown, hts⟩ (kX1_place l dC dI h0 ad cs H.size f0 f1 f2 x1 _ hm) (cwV 1 hts (lw_V q214 q216 qs16 q20 q217) rfl rfl rfl (by decide +kernel) ⟨Nat.le_of_ble_eq_true rfl, Nat.le_of_ble_eq_true rfl⟩) (va_recv hK hP (ci := 1) (q0 := 0) rfl rfl) hP hD hK hS hA rfl hl.1 rfl (lv_room (Nat.le_of_ble_eq_true rfl)) dX1_has_2 ⟨Nat.le_refl 0, Nat.le_refl 0⟩ (fun r_1 _ H locs hm hP hD hS => ?_)
  refine lv_istore_n (lv' := [(3, .int r_1), (0, .ref h0), (1, .int x1), (2, .int x2)]) hx hb dX1_has_5 rfl hl (by decide) rfl (fun ls hl => ?_)
  refine lv_iload_n hx hb dX1_has_6 rfl (lv_at hl 0 rfl) ?_
  refine lv_if_ge (tgt := 12) hx hb dX1_has_7 (by decide) (fun c_2 => ?_) (fun c_2 => ?_)
  · have hm := hm.1 c_2
    refine lv_iload_n hx hb dX1_has_12 rfl (lv_at hl 3 rfl) ?_
    refine sn_cl_S (As := [.int x2]) (rest := []) ⟨hx, hb, hml, hown, hts⟩ (kX1_badKey l H.size x2 _ hm) (va_cwS 1 hts (lw_S q179 q180 q20 q181) rfl rfl rfl (by decide +kernel) ⟨Nat.le_of_ble_eq_true rfl, Nat.le_of_ble_eq_true rfl⟩) hP hS hA rfl hl.1 rfl (lv_room (Nat.le_of_ble_eq_true rfl)) dX1_has_13 ⟨Nat.le_refl 0, Nat.le_refl 0⟩ (fun r_3 H locs hm hP hS => ?_)
    refine lv_if_ne (tgt := 38) hx hb dX1_has_16 (by decide) (fun c_4 => ?_) (fun c_4 => ?_)
    · have hm := hm.1 c_4
      refine lv_iconst (v := (0 : Int32)) hx hb dX1_has_38 (by decide) ?_
      exact W.iret (v := (0 : Int32)) hx hb hr (fun t ht hW => ⟨⟨(0 : Int32), (), rfl, hm, ⟨by rw [ht]; exact hP, va_K.moved hW.alike hK, hD⟩⟩, hS.F ht⟩) hS.2.2 dX1_has_39
    · have hm := hm.2 c_4
      refine lv_aload_n hx hb dX1_has_19 rfl (lv_at hl 1 rfl) ?_
      refine sn_gtX1_1 C0 hP dX1_has_20 ?_
      refine lv_sipush (v := (256 : Int32)) hx hb dX1_has_23 (by decide) ?_
      refine lv_iload_n hx hb dX1_has_26 rfl (lv_at hl 0 rfl) ?_
      refine lv_imul hx hb dX1_has_27 ?_
      refine lv_iload_n hx hb dX1_has_28 rfl (lv_at hl 3 rfl) ?_
      refine lv_iadd hx hb dX1_has_29 ?_
      obtain ⟨h_5, hm⟩ := hm
      refine sn_ldX1_1 C0 hP h_5 dX1_has_30 ?_
      refine lv_if_eq (tgt := 38) hx hb dX1_has_31 (by decide) (fun c_6 => ?_) (fun c_6 => ?_)
      · have hm := hm.1 c_6
        refine lv_iconst (v := (0 : Int32)) hx hb dX1_has_38 (by decide) ?_
        exact W.iret (v := (0 : Int32)) hx hb hr (fun t ht hW => ⟨⟨(0 : Int32), (), rfl, hm, ⟨by rw [ht]; exact hP, va_K.moved hW.alike hK, hD⟩⟩, hS.F ht⟩) hS.2.2 dX1_has_39
      · have hm := hm.2 c_6
        refine lv_iconst (v := (1 : Int32)) hx hb dX1_has_34 (by decide) ?_
        refine lv_goto (tgt := 39) hx hb dX1_has_35 (by decide) ?_
        exact W.iret (v := (1 : Int32)) hx hb hr (fun t ht hW => ⟨⟨(1 : Int32), (), rfl, hm, ⟨by rw [ht]; exact hP, va_K.moved hW.alike hK, hD⟩⟩, hS.F ht⟩) hS.2.2 dX1_has_39
  · have hm := hm.2 c_2
    refine lv_iconst (v := (-1 : Int32)) hx hb dX1_has_10 (by decide) ?_
    exact W.iret (v := (-1 : Int32)) hx hb hr (fun t ht hW => ⟨⟨(-1 : Int32), (), rfl, hm, ⟨by rw [ht]; exact hP, va_K.moved hW.alike hK, hD⟩⟩, hS.F ht⟩) hS.2.2 dX1_has_11
set_option maxHeartbeats 4000000 in
set_option maxRecDepth 100000 in
theorem kX1_has (l : Launch) (dC : Nat → ClassId) (dI : Nat → Nat → Nat) (h0 : Nat) (ad : Nat → Nat) (cs : Nat → ClassId) (sz : Nat) (f0 f1 f2 : Nat → Int32) (x1 x2 : Int32) (post : Int32 → Prop) (hm : mX1_has f0 f1 x1 x2 post) : Met l yX1_has (ws_ yX1_has cX1_has 4 (some .int)) ({ frames := 1, cells := 0, slots := 0, locals := 21 } : Room) (va_Pc [.ref h0, .int x1, .int x2] (sn_PX (dC, dI) (sn_tyX1 cs) (sn_pwX1 h0 ad cs f0 f1 f2) sz)) (va_Qi (S := Unit) (fun r _ => post r) (fun (_ : Unit) (t : State) => sn_BX1 (dC, dI) (va_A (sn_pwX1 h0 ad cs f0 f1 f2) sz) h0 ad cs f0 f1 f2 t) (va_A (sn_pwX1 h0 ad cs f0 f1 f2) sz)) 0 0 (va_A (sn_pwX1 h0 ad cs f0 f1 f2) sz) := by
  refine sn_mk_V (n := 4) (RC := RX1) (Q := fun A => (va_Qi (S := Unit) (fun r _ => post r) (fun (_ : Unit) (t : State) => sn_BX1 (dC, dI) A h0 ad cs f0 f1 f2 t) A)) (by decide) rfl (Nat.le_of_ble_eq_true rfl) ?_
  intro p e s m below meth c A ls C0 hP hD hl
  exact wX1_has_0 C0 post x1 x2 hm _ _ hP hD va_S.rf ls hl
set_option maxHeartbeats 4000000 in
set_option maxRecDepth 100000 in
theorem wX1_size_0 {p : Program} {l : Launch} {e : Env} {s : State} {m : MethodId} {args : Array Value} {below : List Frame} {meth : Method} {c : Code} {A : Nat → Prop} {dC : Nat → ClassId} {dI : Nat → Nat → Nat} {h0 : Nat} {ad : Nat → Nat} {cs : Nat → ClassId} {f0 f1 f2 : Nat → Int32} (C0 : sn_Cx cX1_size 3 (some .int) RX1 p s m meth c args A (dC, dI) (sn_tyX1 cs)) (post : Int32 → Prop) (x1 : Int32) (hm : mX1_size f0 f1 x1 post) (H : Heap) (locs : List Loc) (hP : va_P (dC, dI) sn_cl (sn_pwX1 h0 ad cs f0 f1 f2) H) (hD : va_D A (sn_pwX1 h0 ad cs f0 f1 f2)) (hS : va_S A s.heap H locs) (ls : Array Slot) (hl : lv_has ls 3 [(0, .ref h0), (1, .int x1)]) : W p l e (headSpec (ws_ yX1_size cX1_size 3 (some .int)) ({ frames := 1, cells := 0, slots := 0, locals := 23 } : Room)).room s m args below meth c H locs 0 0 (MQ below (va_Qi (S := Unit) (fun r _ => post r) (fun (_ : Unit) (t : State) => sn_BX1 (dC, dI) A h0 ad cs f0 f1 f2 t) A) args s 0 0 A) (F0 m 0 ls []) := by
  obtain ⟨hx, hb, hr, hlocks, hml, hown, hts, hA, hK⟩ := id C0
  unfold mX1_size at hm
  refine lv_aload_n hx hb dX1_size_0 rfl (lv_at hl 0 rfl) ?_
  refine lv_iload_n hx hb dX1_size_1 rfl (lv_at hl 1 rfl) ?_
  refine sn_cl_Vi (As := [.int x1]) (rest := []) (w1 := (fun (_ : Unit) => sn_pwX1 h0 ad cs (f0) (f1) (f2))) ⟨hx, hb, hml, hown, hts⟩ (kX1_place l dC dI h0 ad cs H.size f0 f1 f2 x1 _ hm) (cwV 1 hts (lw_V q214 q216 qs16 q20 q217) rfl rfl rfl (by decide +kernel) ⟨Nat.le_of_ble_eq_true rfl, Nat.le_of_ble_eq_true rfl⟩) (va_recv hK hP (ci := 1) (q0 := 0) rfl rfl) hP hD hK hS hA rfl hl.1 rfl (lv_room (Nat.le_of_ble_eq_true rfl)) dX1_size_2 ⟨Nat.le_refl 0, Nat.le_refl 0⟩ (fun r_1 _ H locs hm hP hD hS => ?_)
  refine lv_istore_n (lv' := [(2, .int r_1), (0, .ref h0), (1, .int x1)]) hx hb dX1_size_5 rfl hl (by decide) rfl (fun ls hl => ?_)
  refine lv_iload_n hx hb dX1_size_6 rfl (lv_at hl 0 rfl) ?_
  refine lv_if_ge (tgt := 14) hx hb dX1_size_7 (by decide) (fun c_2 => ?_) (fun c_2 => ?_)
  · have hm := hm.1 c_2
    refine lv_aload_n hx hb dX1_size_14 rfl (lv_at hl 1 rfl) ?_
    refine lv_iload_n hx hb dX1_size_15 rfl (lv_at hl 0 rfl) ?_
    refine sn_cl_Vi (As := [.int r_1]) (rest := []) (w1 := (fun (_ : Unit) => sn_pwX1 h0 ad cs (f0) (f1) (f2))) ⟨hx, hb, hml, hown, hts⟩ (kX1_count l dC dI h0 ad cs H.size f0 f1 f2 r_1 _ hm) (cwV 1 hts (lw_V q182 q184 qs13 q20 q185) rfl rfl rfl (by decide +kernel) ⟨Nat.le_of_ble_eq_true rfl, Nat.le_of_ble_eq_true rfl⟩) (va_recv hK hP (ci := 1) (q0 := 0) rfl rfl) hP hD hK hS hA rfl hl.1 rfl (lv_room (Nat.le_of_ble_eq_true rfl)) dX1_size_16 ⟨Nat.le_refl 0, Nat.le_refl 0⟩ (fun r_3 _ H locs hm hP hD hS => ?_)
    exact W.iret (v := r_3) hx hb hr (fun t ht hW => ⟨⟨r_3, (), rfl, hm, ⟨by rw [ht]; exact hP, va_K.moved hW.alike hK, hD⟩⟩, hS.F ht⟩) hS.2.2 dX1_size_19
  · have hm := hm.2 c_2
    refine lv_iconst (v := (-1 : Int32)) hx hb dX1_size_10 (by decide) ?_
    refine lv_goto (tgt := 19) hx hb dX1_size_11 (by decide) ?_
    exact W.iret (v := (-1 : Int32)) hx hb hr (fun t ht hW => ⟨⟨(-1 : Int32), (), rfl, hm, ⟨by rw [ht]; exact hP, va_K.moved hW.alike hK, hD⟩⟩, hS.F ht⟩) hS.2.2 dX1_size_19
set_option maxHeartbeats 4000000 in
set_option maxRecDepth 100000 in
theorem kX1_size (l : Launch) (dC : Nat → ClassId) (dI : Nat → Nat → Nat) (h0 : Nat) (ad : Nat → Nat) (cs : Nat → ClassId) (sz : Nat) (f0 f1 f2 : Nat → Int32) (x1 : Int32) (post : Int32 → Prop) (hm : mX1_size f0 f1 x1 post) : Met l yX1_size (ws_ yX1_size cX1_size 3 (some .int)) ({ frames := 1, cells := 0, slots := 0, locals := 23 } : Room) (va_Pc [.ref h0, .int x1] (sn_PX (dC, dI) (sn_tyX1 cs) (sn_pwX1 h0 ad cs f0 f1 f2) sz)) (va_Qi (S := Unit) (fun r _ => post r) (fun (_ : Unit) (t : State) => sn_BX1 (dC, dI) (va_A (sn_pwX1 h0 ad cs f0 f1 f2) sz) h0 ad cs f0 f1 f2 t) (va_A (sn_pwX1 h0 ad cs f0 f1 f2) sz)) 0 0 (va_A (sn_pwX1 h0 ad cs f0 f1 f2) sz) := by
  refine sn_mk_V (n := 3) (RC := RX1) (Q := fun A => (va_Qi (S := Unit) (fun r _ => post r) (fun (_ : Unit) (t : State) => sn_BX1 (dC, dI) A h0 ad cs f0 f1 f2 t) A)) (by decide) rfl (Nat.le_of_ble_eq_true rfl) ?_
  intro p e s m below meth c A ls C0 hP hD hl
  exact wX1_size_0 C0 post x1 hm _ _ hP hD va_S.rf ls hl
set_option maxHeartbeats 4000000 in
set_option maxRecDepth 100000 in
theorem wX1_next_15 {p : Program} {l : Launch} {e : Env} {s : State} {m : MethodId} {args : Array Value} {below : List Frame} {meth : Method} {c : Code} {A : Nat → Prop} {dC : Nat → ClassId} {dI : Nat → Nat → Nat} {h0 : Nat} {ad : Nat → Nat} {cs : Nat → ClassId} {f0 f1 f2 : Nat → Int32} (C0 : sn_Cx cX1_next 5 (some .int) RX1 p s m meth c args A (dC, dI) (sn_tyX1 cs)) (post : Int32 → Prop) : ∀ (n15 : Nat) (x2 x3 x4 : Int32), mX1_next_15 n15 f0 f1 x2 x3 x4 post → ∀ (H : Heap) (locs : List Loc), va_P (dC, dI) sn_cl (sn_pwX1 h0 ad cs f0 f1 f2) H → va_D A (sn_pwX1 h0 ad cs f0 f1 f2) → va_S A s.heap H locs → ∀ (ls : Array Slot), lv_has ls 5 [(0, .ref h0), (2, .int x2), (3, .int x3), (4, .int x4)] → W p l e (headSpec (ws_ yX1_next cX1_next 5 (some .int)) ({ frames := 1, cells := 0, slots := 0, locals := 21 } : Room)).room s m args below meth c H locs 0 0 (MQ below (va_Qi (S := Unit) (fun r _ => post r) (fun (_ : Unit) (t : State) => sn_BX1 (dC, dI) A h0 ad cs f0 f1 f2 t) A) args s 0 0 A) (F0 m 15 ls []) := by
  obtain ⟨hx, hb, hr, hlocks, hml, hown, hts, hA, hK⟩ := id C0
  intro n15
  induction n15 with
  | zero =>
    intro x2 x3 x4 hm
    unfold mX1_next_15 at hm
    exact False.elim hm
  | succ n15 ih15 =>
    intro x2 x3 x4 hm H locs hP hD hS ls hl
    unfold mX1_next_15 at hm
    refine lv_iload hx hb dX1_next_15 (lv_at hl 3 rfl) ?_
    refine lv_sipush (v := (256 : Int32)) hx hb dX1_next_17 (by decide) ?_
    refine lv_icmp_ge (tgt := 54) hx hb dX1_next_20 (by decide) (fun c_1 => ?_) (fun c_1 => ?_)
    · have hm := hm.1 c_1
      refine lv_sipush (v := (256 : Int32)) hx hb dX1_next_54 (by decide) ?_
      exact W.iret (v := (256 : Int32)) hx hb hr (fun t ht hW => ⟨⟨(256 : Int32), (), rfl, hm, ⟨by rw [ht]; exact hP, va_K.moved hW.alike hK, hD⟩⟩, hS.F ht⟩) hS.2.2 dX1_next_57
    · have hm := hm.2 c_1
      refine lv_iload hx hb dX1_next_23 (lv_at hl 3 rfl) ?_
      refine lv_iload_n hx hb dX1_next_25 rfl (lv_at hl 1 rfl) ?_
      refine lv_icmp_lt (tgt := 48) hx hb dX1_next_26 (by decide) (fun c_2 => ?_) (fun c_2 => ?_)
      · have hm := hm.1 c_2
        refine lv_iinc (v := (x4 + (1 : Int32))) (lv' := [(4, .int (x4 + (1 : Int32))), (0, .ref h0), (2, .int x2), (3, .int x3)]) hx hb dX1_next_48 hl (k := 3) rfl rfl (by decide) rfl (fun ls hl => ?_)
        refine lv_goto (tgt := 15) hx hb dX1_next_51 (by decide) ?_
        exact ih15 x2 x3 (x4 + (1 : Int32)) hm H locs hP hD hS ls (lv_sub hl [1, 2, 3, 0] rfl)
      · have hm := hm.2 c_2
        refine lv_aload_n hx hb dX1_next_29 rfl (lv_at hl 0 rfl) ?_
        refine sn_gtX1_1 C0 hP dX1_next_30 ?_
        refine lv_sipush (v := (256 : Int32)) hx hb dX1_next_33 (by decide) ?_
        refine lv_iload_n hx hb dX1_next_36 rfl (lv_at hl 2 rfl) ?_
        refine lv_imul hx hb dX1_next_37 ?_
        refine lv_iload hx hb dX1_next_38 (lv_at hl 3 rfl) ?_
        refine lv_iadd hx hb dX1_next_40 ?_
        obtain ⟨h_3, hm⟩ := hm
        refine sn_ldX1_1 C0 hP h_3 dX1_next_41 ?_
        refine lv_if_eq (tgt := 48) hx hb dX1_next_42 (by decide) (fun c_4 => ?_) (fun c_4 => ?_)
        · have hm := hm.1 c_4
          refine lv_iinc (v := (x4 + (1 : Int32))) (lv' := [(4, .int (x4 + (1 : Int32))), (0, .ref h0), (2, .int x2), (3, .int x3)]) hx hb dX1_next_48 hl (k := 3) rfl rfl (by decide) rfl (fun ls hl => ?_)
          refine lv_goto (tgt := 15) hx hb dX1_next_51 (by decide) ?_
          exact ih15 x2 x3 (x4 + (1 : Int32)) hm H locs hP hD hS ls (lv_sub hl [1, 2, 3, 0] rfl)
        · have hm := hm.2 c_4
          refine lv_iload hx hb dX1_next_45 (lv_at hl 3 rfl) ?_
          exact W.iret (v := x4) hx hb hr (fun t ht hW => ⟨⟨x4, (), rfl, hm, ⟨by rw [ht]; exact hP, va_K.moved hW.alike hK, hD⟩⟩, hS.F ht⟩) hS.2.2 dX1_next_47
set_option maxHeartbeats 4000000 in
set_option maxRecDepth 100000 in
theorem wX1_next_0 {p : Program} {l : Launch} {e : Env} {s : State} {m : MethodId} {args : Array Value} {below : List Frame} {meth : Method} {c : Code} {A : Nat → Prop} {dC : Nat → ClassId} {dI : Nat → Nat → Nat} {h0 : Nat} {ad : Nat → Nat} {cs : Nat → ClassId} {f0 f1 f2 : Nat → Int32} (C0 : sn_Cx cX1_next 5 (some .int) RX1 p s m meth c args A (dC, dI) (sn_tyX1 cs)) (post : Int32 → Prop) (x1 x2 : Int32) (hm : mX1_next f0 f1 x1 x2 post) (H : Heap) (locs : List Loc) (hP : va_P (dC, dI) sn_cl (sn_pwX1 h0 ad cs f0 f1 f2) H) (hD : va_D A (sn_pwX1 h0 ad cs f0 f1 f2)) (hS : va_S A s.heap H locs) (ls : Array Slot) (hl : lv_has ls 5 [(0, .ref h0), (1, .int x1), (2, .int x2)]) : W p l e (headSpec (ws_ yX1_next cX1_next 5 (some .int)) ({ frames := 1, cells := 0, slots := 0, locals := 21 } : Room)).room s m args below meth c H locs 0 0 (MQ below (va_Qi (S := Unit) (fun r _ => post r) (fun (_ : Unit) (t : State) => sn_BX1 (dC, dI) A h0 ad cs f0 f1 f2 t) A) args s 0 0 A) (F0 m 0 ls []) := by
  obtain ⟨hx, hb, hr, hlocks, hml, hown, hts, hA, hK⟩ := id C0
  unfold mX1_next at hm
  refine lv_aload_n hx hb dX1_next_0 rfl (lv_at hl 0 rfl) ?_
  refine lv_iload_n hx hb dX1_next_1 rfl (lv_at hl 1 rfl) ?_
  refine sn_cl_Vi (As := [.int x1]) (rest := []) (w1 := (fun (_ : Unit) => sn_pwX1 h0 ad cs (f0) (f1) (f2))) ⟨hx, hb, hml, hown, hts⟩ (kX1_place l dC dI h0 ad cs H.size f0 f1 f2 x1 _ hm) (cwV 1 hts (lw_V q214 q216 qs16 q20 q217) rfl rfl rfl (by decide +kernel) ⟨Nat.le_of_ble_eq_true rfl, Nat.le_of_ble_eq_true rfl⟩) (va_recv hK hP (ci := 1) (q0 := 0) rfl rfl) hP hD hK hS hA rfl hl.1 rfl (lv_room (Nat.le_of_ble_eq_true rfl)) dX1_next_2 ⟨Nat.le_refl 0, Nat.le_refl 0⟩ (fun r_1 _ H locs hm hP hD hS => ?_)
  refine lv_istore_n (lv' := [(3, .int r_1), (0, .ref h0), (1, .int x1), (2, .int x2)]) hx hb dX1_next_5 rfl hl (by decide) rfl (fun ls hl => ?_)
  refine lv_iload_n hx hb dX1_next_6 rfl (lv_at hl 0 rfl) ?_
  refine lv_if_ge (tgt := 12) hx hb dX1_next_7 (by decide) (fun c_2 => ?_) (fun c_2 => ?_)
  · have hm := hm.1 c_2
    refine lv_iconst (v := (0 : Int32)) hx hb dX1_next_12 (by decide) ?_
    refine lv_istore (lv' := [(4, .int (0 : Int32)), (3, .int r_1), (0, .ref h0), (1, .int x1), (2, .int x2)]) hx hb dX1_next_13 hl (by decide) rfl (fun ls hl => ?_)
    obtain ⟨n15, hm⟩ := hm
    exact wX1_next_15 C0 post n15 x2 r_1 (0 : Int32) hm H locs hP hD hS ls (lv_sub hl [2, 4, 1, 0] rfl)
  · have hm := hm.2 c_2
    refine lv_iconst (v := (-1 : Int32)) hx hb dX1_next_10 (by decide) ?_
    exact W.iret (v := (-1 : Int32)) hx hb hr (fun t ht hW => ⟨⟨(-1 : Int32), (), rfl, hm, ⟨by rw [ht]; exact hP, va_K.moved hW.alike hK, hD⟩⟩, hS.F ht⟩) hS.2.2 dX1_next_11
set_option maxHeartbeats 4000000 in
set_option maxRecDepth 100000 in
theorem kX1_next (l : Launch) (dC : Nat → ClassId) (dI : Nat → Nat → Nat) (h0 : Nat) (ad : Nat → Nat) (cs : Nat → ClassId) (sz : Nat) (f0 f1 f2 : Nat → Int32) (x1 x2 : Int32) (post : Int32 → Prop) (hm : mX1_next f0 f1 x1 x2 post) : Met l yX1_next (ws_ yX1_next cX1_next 5 (some .int)) ({ frames := 1, cells := 0, slots := 0, locals := 21 } : Room) (va_Pc [.ref h0, .int x1, .int x2] (sn_PX (dC, dI) (sn_tyX1 cs) (sn_pwX1 h0 ad cs f0 f1 f2) sz)) (va_Qi (S := Unit) (fun r _ => post r) (fun (_ : Unit) (t : State) => sn_BX1 (dC, dI) (va_A (sn_pwX1 h0 ad cs f0 f1 f2) sz) h0 ad cs f0 f1 f2 t) (va_A (sn_pwX1 h0 ad cs f0 f1 f2) sz)) 0 0 (va_A (sn_pwX1 h0 ad cs f0 f1 f2) sz) := by
  refine sn_mk_V (n := 5) (RC := RX1) (Q := fun A => (va_Qi (S := Unit) (fun r _ => post r) (fun (_ : Unit) (t : State) => sn_BX1 (dC, dI) A h0 ad cs f0 f1 f2 t) A)) (by decide) rfl (Nat.le_of_ble_eq_true rfl) ?_
  intro p e s m below meth c A ls C0 hP hD hl
  exact wX1_next_0 C0 post x1 x2 hm _ _ hP hD va_S.rf ls hl
set_option maxHeartbeats 4000000 in
set_option maxRecDepth 100000 in
theorem wX1_differ_0 {p : Program} {l : Launch} {e : Env} {s : State} {m : MethodId} {args : Array Value} {below : List Frame} {meth : Method} {c : Code} {A : Nat → Prop} {dC : Nat → ClassId} {dI : Nat → Nat → Nat} {h0 : Nat} {ad : Nat → Nat} {cs : Nat → ClassId} {f0 f1 f2 : Nat → Int32} (C0 : sn_Cx cX1_differ 4 (some .boolean) RX1 p s m meth c args A (dC, dI) (sn_tyX1 cs)) (post : Int32 → Prop) (x1 x2 x3 : Int32) (hm : mX1_differ f1 f2 x1 x2 x3 post) (H : Heap) (locs : List Loc) (hP : va_P (dC, dI) sn_cl (sn_pwX1 h0 ad cs f0 f1 f2) H) (hD : va_D A (sn_pwX1 h0 ad cs f0 f1 f2)) (hS : va_S A s.heap H locs) (ls : Array Slot) (hl : lv_has ls 4 [(0, .ref h0), (1, .int x1), (2, .int x2), (3, .int x3)]) : W p l e (headSpec (ws_ yX1_differ cX1_differ 4 (some .boolean)) ({ frames := 0, cells := 0, slots := 0, locals := 0 } : Room)).room s m args below meth c H locs 0 0 (MQ below (va_Qi (S := Unit) (fun r _ => post r) (fun (_ : Unit) (t : State) => sn_BX1 (dC, dI) A h0 ad cs f0 f1 f2 t) A) args s 0 0 A) (F0 m 0 ls []) := by
  obtain ⟨hx, hb, hr, hlocks, hml, hown, hts, hA, hK⟩ := id C0
  unfold mX1_differ at hm
  refine lv_aload_n hx hb dX1_differ_0 rfl (lv_at hl 0 rfl) ?_
  refine sn_gtX1_1 C0 hP dX1_differ_1 ?_
  refine lv_sipush (v := (256 : Int32)) hx hb dX1_differ_4 (by decide) ?_
  refine lv_iload_n hx hb dX1_differ_7 rfl (lv_at hl 1 rfl) ?_
  refine lv_imul hx hb dX1_differ_8 ?_
  refine lv_iload_n hx hb dX1_differ_9 rfl (lv_at hl 3 rfl) ?_
  refine lv_iadd hx hb dX1_differ_10 ?_
  obtain ⟨h_1, hm⟩ := hm
  refine sn_ldX1_1 C0 hP h_1 dX1_differ_11 ?_
  refine lv_aload_n hx hb dX1_differ_12 rfl (lv_at hl 0 rfl) ?_
  refine sn_gtX1_1 C0 hP dX1_differ_13 ?_
  refine lv_sipush (v := (256 : Int32)) hx hb dX1_differ_16 (by decide) ?_
  refine lv_iload_n hx hb dX1_differ_19 rfl (lv_at hl 2 rfl) ?_
  refine lv_imul hx hb dX1_differ_20 ?_
  refine lv_iload_n hx hb dX1_differ_21 rfl (lv_at hl 3 rfl) ?_
  refine lv_iadd hx hb dX1_differ_22 ?_
  obtain ⟨h_2, hm⟩ := hm
  refine sn_ldX1_1 C0 hP h_2 dX1_differ_23 ?_
  refine lv_icmp_eq (tgt := 29) hx hb dX1_differ_24 (by decide) (fun c_3 => ?_) (fun c_3 => ?_)
  · have hm := hm.1 c_3
    refine lv_aload_n hx hb dX1_differ_29 rfl (lv_at hl 0 rfl) ?_
    refine sn_gtX1_1 C0 hP dX1_differ_30 ?_
    refine lv_sipush (v := (256 : Int32)) hx hb dX1_differ_33 (by decide) ?_
    refine lv_iload_n hx hb dX1_differ_36 rfl (lv_at hl 1 rfl) ?_
    refine lv_imul hx hb dX1_differ_37 ?_
    refine lv_iload_n hx hb dX1_differ_38 rfl (lv_at hl 3 rfl) ?_
    refine lv_iadd hx hb dX1_differ_39 ?_
    obtain ⟨h_4, hm⟩ := hm
    refine sn_ldX1_1 C0 hP h_4 dX1_differ_40 ?_
    refine lv_if_eq (tgt := 75) hx hb dX1_differ_41 (by decide) (fun c_5 => ?_) (fun c_5 => ?_)
    · have hm := hm.1 c_5
      refine lv_iconst (v := (0 : Int32)) hx hb dX1_differ_75 (by decide) ?_
      exact W.zret (v := (0 : Int32)) hx hb hr rfl (fun t ht hW => ⟨⟨(0 : Int32), (), rfl, hm, ⟨by rw [ht]; exact hP, va_K.moved hW.alike hK, hD⟩⟩, hS.F ht⟩) hS.2.2 dX1_differ_76
    · have hm := hm.2 c_5
      refine lv_aload_n hx hb dX1_differ_44 rfl (lv_at hl 0 rfl) ?_
      refine sn_gtX1_2 C0 hP dX1_differ_45 ?_
      refine lv_sipush (v := (256 : Int32)) hx hb dX1_differ_48 (by decide) ?_
      refine lv_iload_n hx hb dX1_differ_51 rfl (lv_at hl 1 rfl) ?_
      refine lv_imul hx hb dX1_differ_52 ?_
      refine lv_iload_n hx hb dX1_differ_53 rfl (lv_at hl 3 rfl) ?_
      refine lv_iadd hx hb dX1_differ_54 ?_
      obtain ⟨h_6, hm⟩ := hm
      refine sn_ldX1_2 C0 hP h_6 dX1_differ_55 ?_
      refine lv_aload_n hx hb dX1_differ_56 rfl (lv_at hl 0 rfl) ?_
      refine sn_gtX1_2 C0 hP dX1_differ_57 ?_
      refine lv_sipush (v := (256 : Int32)) hx hb dX1_differ_60 (by decide) ?_
      refine lv_iload_n hx hb dX1_differ_63 rfl (lv_at hl 2 rfl) ?_
      refine lv_imul hx hb dX1_differ_64 ?_
      refine lv_iload_n hx hb dX1_differ_65 rfl (lv_at hl 3 rfl) ?_
      refine lv_iadd hx hb dX1_differ_66 ?_
      obtain ⟨h_7, hm⟩ := hm
      refine sn_ldX1_2 C0 hP h_7 dX1_differ_67 ?_
      refine lv_icmp_eq (tgt := 75) hx hb dX1_differ_68 (by decide) (fun c_8 => ?_) (fun c_8 => ?_)
      · have hm := hm.1 c_8
        refine lv_iconst (v := (0 : Int32)) hx hb dX1_differ_75 (by decide) ?_
        exact W.zret (v := (0 : Int32)) hx hb hr rfl (fun t ht hW => ⟨⟨(0 : Int32), (), rfl, hm, ⟨by rw [ht]; exact hP, va_K.moved hW.alike hK, hD⟩⟩, hS.F ht⟩) hS.2.2 dX1_differ_76
      · have hm := hm.2 c_8
        refine lv_iconst (v := (1 : Int32)) hx hb dX1_differ_71 (by decide) ?_
        refine lv_goto (tgt := 76) hx hb dX1_differ_72 (by decide) ?_
        exact W.zret (v := (1 : Int32)) hx hb hr rfl (fun t ht hW => ⟨⟨(1 : Int32), (), rfl, hm, ⟨by rw [ht]; exact hP, va_K.moved hW.alike hK, hD⟩⟩, hS.F ht⟩) hS.2.2 dX1_differ_76
  · have hm := hm.2 c_3
    refine lv_iconst (v := (1 : Int32)) hx hb dX1_differ_27 (by decide) ?_
    exact W.zret (v := (1 : Int32)) hx hb hr rfl (fun t ht hW => ⟨⟨(1 : Int32), (), rfl, hm, ⟨by rw [ht]; exact hP, va_K.moved hW.alike hK, hD⟩⟩, hS.F ht⟩) hS.2.2 dX1_differ_28
set_option maxHeartbeats 4000000 in
set_option maxRecDepth 100000 in
theorem kX1_differ (l : Launch) (dC : Nat → ClassId) (dI : Nat → Nat → Nat) (h0 : Nat) (ad : Nat → Nat) (cs : Nat → ClassId) (sz : Nat) (f0 f1 f2 : Nat → Int32) (x1 x2 x3 : Int32) (post : Int32 → Prop) (hm : mX1_differ f1 f2 x1 x2 x3 post) : Met l yX1_differ (ws_ yX1_differ cX1_differ 4 (some .boolean)) ({ frames := 0, cells := 0, slots := 0, locals := 0 } : Room) (va_Pc [.ref h0, .int x1, .int x2, .int x3] (sn_PX (dC, dI) (sn_tyX1 cs) (sn_pwX1 h0 ad cs f0 f1 f2) sz)) (va_Qi (S := Unit) (fun r _ => post r) (fun (_ : Unit) (t : State) => sn_BX1 (dC, dI) (va_A (sn_pwX1 h0 ad cs f0 f1 f2) sz) h0 ad cs f0 f1 f2 t) (va_A (sn_pwX1 h0 ad cs f0 f1 f2) sz)) 0 0 (va_A (sn_pwX1 h0 ad cs f0 f1 f2) sz) := by
  refine sn_mk_V (n := 4) (RC := RX1) (Q := fun A => (va_Qi (S := Unit) (fun r _ => post r) (fun (_ : Unit) (t : State) => sn_BX1 (dC, dI) A h0 ad cs f0 f1 f2 t) A)) (by decide) rfl (Nat.le_of_ble_eq_true rfl) ?_
  intro p e s m below meth c A ls C0 hP hD hl
  exact wX1_differ_0 C0 post x1 x2 x3 hm _ _ hP hD va_S.rf ls hl
set_option maxHeartbeats 4000000 in
set_option maxRecDepth 100000 in
theorem wX1_nextChange_29 {p : Program} {l : Launch} {e : Env} {s : State} {m : MethodId} {args : Array Value} {below : List Frame} {meth : Method} {c : Code} {A : Nat → Prop} {dC : Nat → ClassId} {dI : Nat → Nat → Nat} {h0 : Nat} {ad : Nat → Nat} {cs : Nat → ClassId} {f0 f1 f2 : Nat → Int32} (C0 : sn_Cx cX1_nextChange 7 (some .int) RX1 p s m meth c args A (dC, dI) (sn_tyX1 cs)) (post : Int32 → Prop) : ∀ (n29 : Nat) (x3 x4 x5 x6 : Int32), mX1_nextChange_29 n29 f0 f1 f2 x3 x4 x5 x6 post → ∀ (H : Heap) (locs : List Loc), va_P (dC, dI) sn_cl (sn_pwX1 h0 ad cs f0 f1 f2) H → va_D A (sn_pwX1 h0 ad cs f0 f1 f2) → va_S A s.heap H locs → ∀ (ls : Array Slot), lv_has ls 7 [(0, .ref h0), (3, .int x3), (4, .int x4), (5, .int x5), (6, .int x6)] → W p l e (headSpec (ws_ yX1_nextChange cX1_nextChange 7 (some .int)) ({ frames := 1, cells := 0, slots := 0, locals := 23 } : Room)).room s m args below meth c H locs 0 0 (MQ below (va_Qi (S := Unit) (fun r _ => post r) (fun (_ : Unit) (t : State) => sn_BX1 (dC, dI) A h0 ad cs f0 f1 f2 t) A) args s 0 0 A) (F0 m 29 ls []) := by
  obtain ⟨hx, hb, hr, hlocks, hml, hown, hts, hA, hK⟩ := id C0
  intro n29
  induction n29 with
  | zero =>
    intro x3 x4 x5 x6 hm
    unfold mX1_nextChange_29 at hm
    exact False.elim hm
  | succ n29 ih29 =>
    intro x3 x4 x5 x6 hm H locs hP hD hS ls hl
    unfold mX1_nextChange_29 at hm
    refine lv_iload hx hb dX1_nextChange_29 (lv_at hl 4 rfl) ?_
    refine lv_sipush (v := (256 : Int32)) hx hb dX1_nextChange_31 (by decide) ?_
    refine lv_icmp_ge (tgt := 65) hx hb dX1_nextChange_34 (by decide) (fun c_1 => ?_) (fun c_1 => ?_)
    · have hm := hm.1 c_1
      refine lv_sipush (v := (256 : Int32)) hx hb dX1_nextChange_65 (by decide) ?_
      exact W.iret (v := (256 : Int32)) hx hb hr (fun t ht hW => ⟨⟨(256 : Int32), (), rfl, hm, ⟨by rw [ht]; exact hP, va_K.moved hW.alike hK, hD⟩⟩, hS.F ht⟩) hS.2.2 dX1_nextChange_68
    · have hm := hm.2 c_1
      refine lv_iload hx hb dX1_nextChange_37 (lv_at hl 4 rfl) ?_
      refine lv_iload_n hx hb dX1_nextChange_39 rfl (lv_at hl 1 rfl) ?_
      refine lv_icmp_lt (tgt := 59) hx hb dX1_nextChange_40 (by decide) (fun c_2 => ?_) (fun c_2 => ?_)
      · have hm := hm.1 c_2
        refine lv_iinc (v := (x6 + (1 : Int32))) (lv' := [(6, .int (x6 + (1 : Int32))), (0, .ref h0), (3, .int x3), (4, .int x4), (5, .int x5)]) hx hb dX1_nextChange_59 hl (k := 4) rfl rfl (by decide) rfl (fun ls hl => ?_)
        refine lv_goto (tgt := 29) hx hb dX1_nextChange_62 (by decide) ?_
        exact ih29 x3 x4 x5 (x6 + (1 : Int32)) hm H locs hP hD hS ls (lv_sub hl [1, 2, 3, 4, 0] rfl)
      · have hm := hm.2 c_2
        refine lv_aload_n hx hb dX1_nextChange_43 rfl (lv_at hl 0 rfl) ?_
        refine lv_iload hx hb dX1_nextChange_44 (lv_at hl 2 rfl) ?_
        refine lv_iload hx hb dX1_nextChange_46 (lv_at hl 3 rfl) ?_
        refine lv_iload hx hb dX1_nextChange_48 (lv_at hl 4 rfl) ?_
        refine sn_cl_Vi (As := [.int x4, .int x5, .int x6]) (rest := []) (w1 := (fun (_ : Unit) => sn_pwX1 h0 ad cs (f0) (f1) (f2))) ⟨hx, hb, hml, hown, hts⟩ (kX1_differ l dC dI h0 ad cs H.size f0 f1 f2 x4 x5 x6 _ hm) (cwV 3 hts (lw_V q234 q236 qs17 q20 q237) rfl rfl rfl (by decide +kernel) ⟨Nat.le_of_ble_eq_true rfl, Nat.le_of_ble_eq_true rfl⟩) (va_recv hK hP (ci := 1) (q0 := 0) rfl rfl) hP hD hK hS hA rfl hl.1 rfl (lv_room (Nat.le_of_ble_eq_true rfl)) dX1_nextChange_50 ⟨Nat.le_refl 0, Nat.le_refl 0⟩ (fun r_3 _ H locs hm hP hD hS => ?_)
        refine lv_if_eq (tgt := 59) hx hb dX1_nextChange_53 (by decide) (fun c_4 => ?_) (fun c_4 => ?_)
        · have hm := hm.1 c_4
          refine lv_iinc (v := (x6 + (1 : Int32))) (lv' := [(6, .int (x6 + (1 : Int32))), (0, .ref h0), (3, .int x3), (4, .int x4), (5, .int x5)]) hx hb dX1_nextChange_59 hl (k := 4) rfl rfl (by decide) rfl (fun ls hl => ?_)
          refine lv_goto (tgt := 29) hx hb dX1_nextChange_62 (by decide) ?_
          exact ih29 x3 x4 x5 (x6 + (1 : Int32)) hm H locs hP hD hS ls (lv_sub hl [1, 2, 3, 4, 0] rfl)
        · have hm := hm.2 c_4
          refine lv_iload hx hb dX1_nextChange_56 (lv_at hl 4 rfl) ?_
          exact W.iret (v := x6) hx hb hr (fun t ht hW => ⟨⟨x6, (), rfl, hm, ⟨by rw [ht]; exact hP, va_K.moved hW.alike hK, hD⟩⟩, hS.F ht⟩) hS.2.2 dX1_nextChange_58
set_option maxHeartbeats 4000000 in
set_option maxRecDepth 100000 in
theorem wX1_nextChange_0 {p : Program} {l : Launch} {e : Env} {s : State} {m : MethodId} {args : Array Value} {below : List Frame} {meth : Method} {c : Code} {A : Nat → Prop} {dC : Nat → ClassId} {dI : Nat → Nat → Nat} {h0 : Nat} {ad : Nat → Nat} {cs : Nat → ClassId} {f0 f1 f2 : Nat → Int32} (C0 : sn_Cx cX1_nextChange 7 (some .int) RX1 p s m meth c args A (dC, dI) (sn_tyX1 cs)) (post : Int32 → Prop) (x1 x2 x3 : Int32) (hm : mX1_nextChange f0 f1 f2 x1 x2 x3 post) (H : Heap) (locs : List Loc) (hP : va_P (dC, dI) sn_cl (sn_pwX1 h0 ad cs f0 f1 f2) H) (hD : va_D A (sn_pwX1 h0 ad cs f0 f1 f2)) (hS : va_S A s.heap H locs) (ls : Array Slot) (hl : lv_has ls 7 [(0, .ref h0), (1, .int x1), (2, .int x2), (3, .int x3)]) : W p l e (headSpec (ws_ yX1_nextChange cX1_nextChange 7 (some .int)) ({ frames := 1, cells := 0, slots := 0, locals := 23 } : Room)).room s m args below meth c H locs 0 0 (MQ below (va_Qi (S := Unit) (fun r _ => post r) (fun (_ : Unit) (t : State) => sn_BX1 (dC, dI) A h0 ad cs f0 f1 f2 t) A) args s 0 0 A) (F0 m 0 ls []) := by
  obtain ⟨hx, hb, hr, hlocks, hml, hown, hts, hA, hK⟩ := id C0
  unfold mX1_nextChange at hm
  refine lv_aload_n hx hb dX1_nextChange_0 rfl (lv_at hl 0 rfl) ?_
  refine lv_iload_n hx hb dX1_nextChange_1 rfl (lv_at hl 1 rfl) ?_
  refine sn_cl_Vi (As := [.int x1]) (rest := []) (w1 := (fun (_ : Unit) => sn_pwX1 h0 ad cs (f0) (f1) (f2))) ⟨hx, hb, hml, hown, hts⟩ (kX1_place l dC dI h0 ad cs H.size f0 f1 f2 x1 _ hm) (cwV 1 hts (lw_V q214 q216 qs16 q20 q217) rfl rfl rfl (by decide +kernel) ⟨Nat.le_of_ble_eq_true rfl, Nat.le_of_ble_eq_true rfl⟩) (va_recv hK hP (ci := 1) (q0 := 0) rfl rfl) hP hD hK hS hA rfl hl.1 rfl (lv_room (Nat.le_of_ble_eq_true rfl)) dX1_nextChange_2 ⟨Nat.le_refl 0, Nat.le_refl 0⟩ (fun r_1 _ H locs hm hP hD hS => ?_)
  refine lv_istore (lv' := [(4, .int r_1), (0, .ref h0), (1, .int x1), (2, .int x2), (3, .int x3)]) hx hb dX1_nextChange_5 hl (by decide) rfl (fun ls hl => ?_)
  refine lv_aload_n hx hb dX1_nextChange_7 rfl (lv_at hl 1 rfl) ?_
  refine lv_iload_n hx hb dX1_nextChange_8 rfl (lv_at hl 3 rfl) ?_
  refine sn_cl_Vi (As := [.int x2]) (rest := []) (w1 := (fun (_ : Unit) => sn_pwX1 h0 ad cs (f0) (f1) (f2))) ⟨hx, hb, hml, hown, hts⟩ (kX1_place l dC dI h0 ad cs H.size f0 f1 f2 x2 _ hm) (cwV 1 hts (lw_V q214 q216 qs16 q20 q217) rfl rfl rfl (by decide +kernel) ⟨Nat.le_of_ble_eq_true rfl, Nat.le_of_ble_eq_true rfl⟩) (va_recv hK hP (ci := 1) (q0 := 0) rfl rfl) hP hD hK hS hA rfl hl.1 rfl (lv_room (Nat.le_of_ble_eq_true rfl)) dX1_nextChange_9 ⟨Nat.le_refl 0, Nat.le_refl 0⟩ (fun r_2 _ H locs hm hP hD hS => ?_)
  refine lv_istore (lv' := [(5, .int r_2), (4, .int r_1), (0, .ref h0), (1, .int x1), (2, .int x2), (3, .int x3)]) hx hb dX1_nextChange_12 hl (by decide) rfl (fun ls hl => ?_)
  refine lv_iload hx hb dX1_nextChange_14 (lv_at hl 1 rfl) ?_
  refine lv_if_lt (tgt := 24) hx hb dX1_nextChange_16 (by decide) (fun c_3 => ?_) (fun c_3 => ?_)
  · have hm := hm.1 c_3
    refine lv_iconst (v := (-1 : Int32)) hx hb dX1_nextChange_24 (by decide) ?_
    exact W.iret (v := (-1 : Int32)) hx hb hr (fun t ht hW => ⟨⟨(-1 : Int32), (), rfl, hm, ⟨by rw [ht]; exact hP, va_K.moved hW.alike hK, hD⟩⟩, hS.F ht⟩) hS.2.2 dX1_nextChange_25
  · have hm := hm.2 c_3
    refine lv_iload hx hb dX1_nextChange_19 (lv_at hl 0 rfl) ?_
    refine lv_if_ge (tgt := 26) hx hb dX1_nextChange_21 (by decide) (fun c_4 => ?_) (fun c_4 => ?_)
    · have hm := hm.1 c_4
      refine lv_iconst (v := (0 : Int32)) hx hb dX1_nextChange_26 (by decide) ?_
      refine lv_istore (lv' := [(6, .int (0 : Int32)), (5, .int r_2), (4, .int r_1), (0, .ref h0), (1, .int x1), (2, .int x2), (3, .int x3)]) hx hb dX1_nextChange_27 hl (by decide) rfl (fun ls hl => ?_)
      obtain ⟨n29, hm⟩ := hm
      exact wX1_nextChange_29 C0 post n29 x3 r_1 r_2 (0 : Int32) hm H locs hP hD hS ls (lv_sub hl [3, 6, 2, 1, 0] rfl)
    · have hm := hm.2 c_4
      refine lv_iconst (v := (-1 : Int32)) hx hb dX1_nextChange_24 (by decide) ?_
      exact W.iret (v := (-1 : Int32)) hx hb hr (fun t ht hW => ⟨⟨(-1 : Int32), (), rfl, hm, ⟨by rw [ht]; exact hP, va_K.moved hW.alike hK, hD⟩⟩, hS.F ht⟩) hS.2.2 dX1_nextChange_25
set_option maxHeartbeats 4000000 in
set_option maxRecDepth 100000 in
theorem kX1_nextChange (l : Launch) (dC : Nat → ClassId) (dI : Nat → Nat → Nat) (h0 : Nat) (ad : Nat → Nat) (cs : Nat → ClassId) (sz : Nat) (f0 f1 f2 : Nat → Int32) (x1 x2 x3 : Int32) (post : Int32 → Prop) (hm : mX1_nextChange f0 f1 f2 x1 x2 x3 post) : Met l yX1_nextChange (ws_ yX1_nextChange cX1_nextChange 7 (some .int)) ({ frames := 1, cells := 0, slots := 0, locals := 23 } : Room) (va_Pc [.ref h0, .int x1, .int x2, .int x3] (sn_PX (dC, dI) (sn_tyX1 cs) (sn_pwX1 h0 ad cs f0 f1 f2) sz)) (va_Qi (S := Unit) (fun r _ => post r) (fun (_ : Unit) (t : State) => sn_BX1 (dC, dI) (va_A (sn_pwX1 h0 ad cs f0 f1 f2) sz) h0 ad cs f0 f1 f2 t) (va_A (sn_pwX1 h0 ad cs f0 f1 f2) sz)) 0 0 (va_A (sn_pwX1 h0 ad cs f0 f1 f2) sz) := by
  refine sn_mk_V (n := 7) (RC := RX1) (Q := fun A => (va_Qi (S := Unit) (fun r _ => post r) (fun (_ : Unit) (t : State) => sn_BX1 (dC, dI) A h0 ad cs f0 f1 f2 t) A)) (by decide) rfl (Nat.le_of_ble_eq_true rfl) ?_
  intro p e s m below meth c A ls C0 hP hD hl
  exact wX1_nextChange_0 C0 post x1 x2 x3 hm _ _ hP hD va_S.rf ls hl
set_option maxHeartbeats 4000000 in
set_option maxRecDepth 100000 in
theorem wX1_changes_30 {p : Program} {l : Launch} {e : Env} {s : State} {m : MethodId} {args : Array Value} {below : List Frame} {meth : Method} {c : Code} {A : Nat → Prop} {dC : Nat → ClassId} {dI : Nat → Nat → Nat} {h0 : Nat} {ad : Nat → Nat} {cs : Nat → ClassId} {f0 f1 f2 : Nat → Int32} (C0 : sn_Cx cX1_changes 7 (some .int) RX1 p s m meth c args A (dC, dI) (sn_tyX1 cs)) (post : Int32 → Prop) : ∀ (n30 : Nat) (x3 x4 x5 x6 : Int32), mX1_changes_30 n30 f0 f1 f2 x3 x4 x5 x6 post → ∀ (H : Heap) (locs : List Loc), va_P (dC, dI) sn_cl (sn_pwX1 h0 ad cs f0 f1 f2) H → va_D A (sn_pwX1 h0 ad cs f0 f1 f2) → va_S A s.heap H locs → ∀ (ls : Array Slot), lv_has ls 7 [(0, .ref h0), (3, .int x3), (4, .int x4), (5, .int x5), (6, .int x6)] → W p l e (headSpec (ws_ yX1_changes cX1_changes 7 (some .int)) ({ frames := 1, cells := 0, slots := 0, locals := 23 } : Room)).room s m args below meth c H locs 0 0 (MQ below (va_Qi (S := Unit) (fun r _ => post r) (fun (_ : Unit) (t : State) => sn_BX1 (dC, dI) A h0 ad cs f0 f1 f2 t) A) args s 0 0 A) (F0 m 30 ls []) := by
  obtain ⟨hx, hb, hr, hlocks, hml, hown, hts, hA, hK⟩ := id C0
  intro n30
  induction n30 with
  | zero =>
    intro x3 x4 x5 x6 hm
    unfold mX1_changes_30 at hm
    exact False.elim hm
  | succ n30 ih30 =>
    intro x3 x4 x5 x6 hm H locs hP hD hS ls hl
    unfold mX1_changes_30 at hm
    refine lv_iload hx hb dX1_changes_30 (lv_at hl 4 rfl) ?_
    refine lv_sipush (v := (256 : Int32)) hx hb dX1_changes_32 (by decide) ?_
    refine lv_icmp_ge (tgt := 59) hx hb dX1_changes_35 (by decide) (fun c_1 => ?_) (fun c_1 => ?_)
    · have hm := hm.1 c_1
      refine lv_iload hx hb dX1_changes_59 (lv_at hl 3 rfl) ?_
      exact W.iret (v := x5) hx hb hr (fun t ht hW => ⟨⟨x5, (), rfl, hm, ⟨by rw [ht]; exact hP, va_K.moved hW.alike hK, hD⟩⟩, hS.F ht⟩) hS.2.2 dX1_changes_61
    · have hm := hm.2 c_1
      refine lv_aload_n hx hb dX1_changes_38 rfl (lv_at hl 0 rfl) ?_
      refine lv_iload_n hx hb dX1_changes_39 rfl (lv_at hl 1 rfl) ?_
      refine lv_iload hx hb dX1_changes_40 (lv_at hl 2 rfl) ?_
      refine lv_iload hx hb dX1_changes_42 (lv_at hl 4 rfl) ?_
      refine sn_cl_Vi (As := [.int x3, .int x4, .int x6]) (rest := []) (w1 := (fun (_ : Unit) => sn_pwX1 h0 ad cs (f0) (f1) (f2))) ⟨hx, hb, hml, hown, hts⟩ (kX1_differ l dC dI h0 ad cs H.size f0 f1 f2 x3 x4 x6 _ hm) (cwV 3 hts (lw_V q234 q236 qs17 q20 q237) rfl rfl rfl (by decide +kernel) ⟨Nat.le_of_ble_eq_true rfl, Nat.le_of_ble_eq_true rfl⟩) (va_recv hK hP (ci := 1) (q0 := 0) rfl rfl) hP hD hK hS hA rfl hl.1 rfl (lv_room (Nat.le_of_ble_eq_true rfl)) dX1_changes_44 ⟨Nat.le_refl 0, Nat.le_refl 0⟩ (fun r_2 _ H locs hm hP hD hS => ?_)
      refine lv_if_eq (tgt := 53) hx hb dX1_changes_47 (by decide) (fun c_3 => ?_) (fun c_3 => ?_)
      · have hm := hm.1 c_3
        refine lv_iinc (v := (x6 + (1 : Int32))) (lv' := [(6, .int (x6 + (1 : Int32))), (0, .ref h0), (3, .int x3), (4, .int x4), (5, .int x5)]) hx hb dX1_changes_53 hl (k := 4) rfl rfl (by decide) rfl (fun ls hl => ?_)
        refine lv_goto (tgt := 30) hx hb dX1_changes_56 (by decide) ?_
        exact ih30 x3 x4 x5 (x6 + (1 : Int32)) hm H locs hP hD hS ls (lv_sub hl [1, 2, 3, 4, 0] rfl)
      · have hm := hm.2 c_3
        refine lv_iinc (v := (x5 + (1 : Int32))) (lv' := [(5, .int (x5 + (1 : Int32))), (0, .ref h0), (3, .int x3), (4, .int x4), (6, .int x6)]) hx hb dX1_changes_50 hl (k := 3) rfl rfl (by decide) rfl (fun ls hl => ?_)
        refine lv_iinc (v := (x6 + (1 : Int32))) (lv' := [(6, .int (x6 + (1 : Int32))), (5, .int (x5 + (1 : Int32))), (0, .ref h0), (3, .int x3), (4, .int x4)]) hx hb dX1_changes_53 hl (k := 4) rfl rfl (by decide) rfl (fun ls hl => ?_)
        refine lv_goto (tgt := 30) hx hb dX1_changes_56 (by decide) ?_
        exact ih30 x3 x4 (x5 + (1 : Int32)) (x6 + (1 : Int32)) hm H locs hP hD hS ls (lv_sub hl [2, 3, 4, 1, 0] rfl)
set_option maxHeartbeats 4000000 in
set_option maxRecDepth 100000 in
theorem wX1_changes_0 {p : Program} {l : Launch} {e : Env} {s : State} {m : MethodId} {args : Array Value} {below : List Frame} {meth : Method} {c : Code} {A : Nat → Prop} {dC : Nat → ClassId} {dI : Nat → Nat → Nat} {h0 : Nat} {ad : Nat → Nat} {cs : Nat → ClassId} {f0 f1 f2 : Nat → Int32} (C0 : sn_Cx cX1_changes 7 (some .int) RX1 p s m meth c args A (dC, dI) (sn_tyX1 cs)) (post : Int32 → Prop) (x1 x2 : Int32) (hm : mX1_changes f0 f1 f2 x1 x2 post) (H : Heap) (locs : List Loc) (hP : va_P (dC, dI) sn_cl (sn_pwX1 h0 ad cs f0 f1 f2) H) (hD : va_D A (sn_pwX1 h0 ad cs f0 f1 f2)) (hS : va_S A s.heap H locs) (ls : Array Slot) (hl : lv_has ls 7 [(0, .ref h0), (1, .int x1), (2, .int x2)]) : W p l e (headSpec (ws_ yX1_changes cX1_changes 7 (some .int)) ({ frames := 1, cells := 0, slots := 0, locals := 23 } : Room)).room s m args below meth c H locs 0 0 (MQ below (va_Qi (S := Unit) (fun r _ => post r) (fun (_ : Unit) (t : State) => sn_BX1 (dC, dI) A h0 ad cs f0 f1 f2 t) A) args s 0 0 A) (F0 m 0 ls []) := by
  obtain ⟨hx, hb, hr, hlocks, hml, hown, hts, hA, hK⟩ := id C0
  unfold mX1_changes at hm
  refine lv_aload_n hx hb dX1_changes_0 rfl (lv_at hl 0 rfl) ?_
  refine lv_iload_n hx hb dX1_changes_1 rfl (lv_at hl 1 rfl) ?_
  refine sn_cl_Vi (As := [.int x1]) (rest := []) (w1 := (fun (_ : Unit) => sn_pwX1 h0 ad cs (f0) (f1) (f2))) ⟨hx, hb, hml, hown, hts⟩ (kX1_place l dC dI h0 ad cs H.size f0 f1 f2 x1 _ hm) (cwV 1 hts (lw_V q214 q216 qs16 q20 q217) rfl rfl rfl (by decide +kernel) ⟨Nat.le_of_ble_eq_true rfl, Nat.le_of_ble_eq_true rfl⟩) (va_recv hK hP (ci := 1) (q0 := 0) rfl rfl) hP hD hK hS hA rfl hl.1 rfl (lv_room (Nat.le_of_ble_eq_true rfl)) dX1_changes_2 ⟨Nat.le_refl 0, Nat.le_refl 0⟩ (fun r_1 _ H locs hm hP hD hS => ?_)
  refine lv_istore_n (lv' := [(3, .int r_1), (0, .ref h0), (1, .int x1), (2, .int x2)]) hx hb dX1_changes_5 rfl hl (by decide) rfl (fun ls hl => ?_)
  refine lv_aload_n hx hb dX1_changes_6 rfl (lv_at hl 1 rfl) ?_
  refine lv_iload_n hx hb dX1_changes_7 rfl (lv_at hl 3 rfl) ?_
  refine sn_cl_Vi (As := [.int x2]) (rest := []) (w1 := (fun (_ : Unit) => sn_pwX1 h0 ad cs (f0) (f1) (f2))) ⟨hx, hb, hml, hown, hts⟩ (kX1_place l dC dI h0 ad cs H.size f0 f1 f2 x2 _ hm) (cwV 1 hts (lw_V q214 q216 qs16 q20 q217) rfl rfl rfl (by decide +kernel) ⟨Nat.le_of_ble_eq_true rfl, Nat.le_of_ble_eq_true rfl⟩) (va_recv hK hP (ci := 1) (q0 := 0) rfl rfl) hP hD hK hS hA rfl hl.1 rfl (lv_room (Nat.le_of_ble_eq_true rfl)) dX1_changes_8 ⟨Nat.le_refl 0, Nat.le_refl 0⟩ (fun r_2 _ H locs hm hP hD hS => ?_)
  refine lv_istore (lv' := [(4, .int r_2), (3, .int r_1), (0, .ref h0), (1, .int x1), (2, .int x2)]) hx hb dX1_changes_11 hl (by decide) rfl (fun ls hl => ?_)
  refine lv_iload_n hx hb dX1_changes_13 rfl (lv_at hl 1 rfl) ?_
  refine lv_if_lt (tgt := 22) hx hb dX1_changes_14 (by decide) (fun c_3 => ?_) (fun c_3 => ?_)
  · have hm := hm.1 c_3
    refine lv_iconst (v := (-1 : Int32)) hx hb dX1_changes_22 (by decide) ?_
    exact W.iret (v := (-1 : Int32)) hx hb hr (fun t ht hW => ⟨⟨(-1 : Int32), (), rfl, hm, ⟨by rw [ht]; exact hP, va_K.moved hW.alike hK, hD⟩⟩, hS.F ht⟩) hS.2.2 dX1_changes_23
  · have hm := hm.2 c_3
    refine lv_iload hx hb dX1_changes_17 (lv_at hl 0 rfl) ?_
    refine lv_if_ge (tgt := 24) hx hb dX1_changes_19 (by decide) (fun c_4 => ?_) (fun c_4 => ?_)
    · have hm := hm.1 c_4
      refine lv_iconst (v := (0 : Int32)) hx hb dX1_changes_24 (by decide) ?_
      refine lv_istore (lv' := [(5, .int (0 : Int32)), (4, .int r_2), (3, .int r_1), (0, .ref h0), (1, .int x1), (2, .int x2)]) hx hb dX1_changes_25 hl (by decide) rfl (fun ls hl => ?_)
      refine lv_iconst (v := (0 : Int32)) hx hb dX1_changes_27 (by decide) ?_
      refine lv_istore (lv' := [(6, .int (0 : Int32)), (5, .int (0 : Int32)), (4, .int r_2), (3, .int r_1), (0, .ref h0), (1, .int x1), (2, .int x2)]) hx hb dX1_changes_28 hl (by decide) rfl (fun ls hl => ?_)
      obtain ⟨n30, hm⟩ := hm
      exact wX1_changes_30 C0 post n30 r_1 r_2 (0 : Int32) (0 : Int32) hm H locs hP hD hS ls (lv_sub hl [4, 3, 2, 1, 0] rfl)
    · have hm := hm.2 c_4
      refine lv_iconst (v := (-1 : Int32)) hx hb dX1_changes_22 (by decide) ?_
      exact W.iret (v := (-1 : Int32)) hx hb hr (fun t ht hW => ⟨⟨(-1 : Int32), (), rfl, hm, ⟨by rw [ht]; exact hP, va_K.moved hW.alike hK, hD⟩⟩, hS.F ht⟩) hS.2.2 dX1_changes_23
set_option maxHeartbeats 4000000 in
set_option maxRecDepth 100000 in
theorem kX1_changes (l : Launch) (dC : Nat → ClassId) (dI : Nat → Nat → Nat) (h0 : Nat) (ad : Nat → Nat) (cs : Nat → ClassId) (sz : Nat) (f0 f1 f2 : Nat → Int32) (x1 x2 : Int32) (post : Int32 → Prop) (hm : mX1_changes f0 f1 f2 x1 x2 post) : Met l yX1_changes (ws_ yX1_changes cX1_changes 7 (some .int)) ({ frames := 1, cells := 0, slots := 0, locals := 23 } : Room) (va_Pc [.ref h0, .int x1, .int x2] (sn_PX (dC, dI) (sn_tyX1 cs) (sn_pwX1 h0 ad cs f0 f1 f2) sz)) (va_Qi (S := Unit) (fun r _ => post r) (fun (_ : Unit) (t : State) => sn_BX1 (dC, dI) (va_A (sn_pwX1 h0 ad cs f0 f1 f2) sz) h0 ad cs f0 f1 f2 t) (va_A (sn_pwX1 h0 ad cs f0 f1 f2) sz)) 0 0 (va_A (sn_pwX1 h0 ad cs f0 f1 f2) sz) := by
  refine sn_mk_V (n := 7) (RC := RX1) (Q := fun A => (va_Qi (S := Unit) (fun r _ => post r) (fun (_ : Unit) (t : State) => sn_BX1 (dC, dI) A h0 ad cs f0 f1 f2 t) A)) (by decide) rfl (Nat.le_of_ble_eq_true rfl) ?_
  intro p e s m below meth c A ls C0 hP hD hl
  exact wX1_changes_0 C0 post x1 x2 hm _ _ hP hD va_S.rf ls hl
end
section
/-! the constructors -/
set_option maxHeartbeats 4000000 in
set_option maxRecDepth 100000 in
theorem wX0_init_79 {p : Program} {l : Launch} {e : Env} {s : State} {m : MethodId} {args : Array Value} {below : List Frame} {meth : Method} {c : Code} {A : Nat → Prop} {dC : Nat → ClassId} {dI : Nat → Nat → Nat} {h0 : Nat} {ad : Nat → Nat} {cs : Nat → ClassId} (C0 : sn_Cx cX0_init 2 none RX0 p s m meth c args A (dC, dI) (sn_tyX0 cs)) : ∀ (n i : Nat), i + n = 8 → ∀ (f4 : Nat → Int32), (∀ j : Nat, j < i → f4 j = -1) → ∀ (H : Heap) (locs : List Loc), va_P (dC, dI) sn_cl (sn_pwX0 h0 ad cs (fun _ => 0) (fun _ => 0) (fun _ => 0) (upd (fun _ => 0) (0 : Int32).toNatClampNeg (vp_nar .boolean (1 : Int32))) f4 (fun _ => 0) (fun _ => 0) (fun _ => 0)) H → va_D A (sn_pwX0 h0 ad cs (fun _ => 0) (fun _ => 0) (fun _ => 0) (upd (fun _ => 0) (0 : Int32).toNatClampNeg (vp_nar .boolean (1 : Int32))) f4 (fun _ => 0) (fun _ => 0) (fun _ => 0)) → va_S A s.heap H locs → ∀ (ls : Array Slot), lv_has ls 2 [(0, .ref h0), (1, .int (nI i))] → W p l e (headSpec (ws_ yX0_init cX0_init 2 none) ({ frames := 1, cells := 8, slots := 2444, locals := 12 } : Room)).room s m args below meth c H locs 8 2444 (MQ below (va_Qv (S := (Nat → Nat) × (Nat → ClassId) × (Nat → Int32)) (fun u => ∀ i : Nat, i < 8 → u.2.2 i = -1) (fun (u : (Nat → Nat) × (Nat → ClassId) × (Nat → Int32)) (t : State) => sn_BX (dC, dI) (sn_tyX0 (u.2.1)) A (sn_pwX0 h0 (u.1) (u.2.1) (fun _ => 0) (fun _ => 0) (fun _ => 0) (upd (fun _ => 0) (0 : Int32).toNatClampNeg (vp_nar .boolean (1 : Int32))) (u.2.2) (fun _ => 0) (fun _ => 0) (fun _ => 0)) t) A) args s 8 2444 A) (F0 m 79 ls []) := by
  obtain ⟨hx, hb, hr, hlocks, hml, hown, hts, hA, hK⟩ := id C0
  intro n
  induction n with
  | zero =>
    intro i hi f4 hf H locs hP hD hS ls hl
    refine lv_iload_n hx hb dX0_init_79 rfl (lv_at hl 1 rfl) ?_
    refine lv_bipush (v := nI 8) hx hb dX0_init_80 (by decide) ?_
    refine lv_icmp_ge (tgt := 98) hx hb dX0_init_82 (by decide) (fun c_1 => ?_) (fun c_1 => ?_)
    · exact W.vret hx hb hr (fun t ht hW => ⟨⟨⟨ad, cs, f4⟩, rfl, fun j hj => hf j (by omega), ⟨by rw [ht]; exact hP, va_K.moved hW.alike hK, hD⟩⟩, hS.F ht⟩) hS.2.2 dX0_init_98
    · exact absurd (nI_le (by omega) (by omega)) c_1
  | succ n ih =>
    intro i hi f4 hf H locs hP hD hS ls hl
    refine lv_iload_n hx hb dX0_init_79 rfl (lv_at hl 1 rfl) ?_
    refine lv_bipush (v := nI 8) hx hb dX0_init_80 (by decide) ?_
    refine lv_icmp_ge (tgt := 98) hx hb dX0_init_82 (by decide) (fun c_1 => ?_) (fun c_1 => ?_)
    · exact absurd c_1 (nI_ge (by omega) (by omega))
    · refine lv_aload_n hx hb dX0_init_85 rfl (lv_at hl 0 rfl) ?_
      refine sn_gtX0_4 C0 hP dX0_init_86 ?_
      refine lv_iload_n hx hb dX0_init_89 rfl (lv_at hl 1 rfl) ?_
      refine lv_iconst (v := (-1 : Int32)) hx hb dX0_init_90 (by decide) ?_
      refine sn_stX0_4 C0 hP hD hS (vp_in_nI (by omega) (by omega)) dX0_init_91 (fun H locs hP hD hS => ?_)
      refine lv_iinc (v := nI (i + 1)) (lv' := [(1, .int (nI (i + 1))), (0, .ref h0)]) hx hb dX0_init_92 hl (k := 1) rfl (nI_1 i) (by decide) rfl (fun ls hl => ?_)
      refine lv_goto (tgt := 79) hx hb dX0_init_95 (by decide) ?_
      refine ih (i + 1) (by omega) _ (fun j hj => ?_) H locs hP hD hS ls (lv_sub hl [1, 0] rfl)
      rw [nI_clamp (by omega)]
      by_cases h : j = i
      · subst h
        exact pk_us
      · rw [pk_un h]
        exact hf j (by omega)
set_option maxHeartbeats 4000000 in
set_option maxRecDepth 100000 in
theorem kX0_init (l : Launch) (dC : Nat → ClassId) (dI : Nat → Nat → Nat) (h0 sz : Nat) : Met l yX0_init (ws_ yX0_init cX0_init 2 none) ({ frames := 1, cells := 8, slots := 2444, locals := 12 } : Room) (va_Pc [.ref h0] (sn_PX (dC, dI) [] [(h0, .inr (0, [.null, .null, .null, .null, .null, .null, .null, .null]))] sz)) (va_Qv (S := (Nat → Nat) × (Nat → ClassId) × (Nat → Int32)) (fun u => ∀ i : Nat, i < 8 → u.2.2 i = -1) (fun (u : (Nat → Nat) × (Nat → ClassId) × (Nat → Int32)) (t : State) => sn_BX (dC, dI) (sn_tyX0 (u.2.1)) (va_A [(h0, .inr (0, [.null, .null, .null, .null, .null, .null, .null, .null]))] sz) (sn_pwX0 h0 (u.1) (u.2.1) (fun _ => 0) (fun _ => 0) (fun _ => 0) (upd (fun _ => 0) (0 : Int32).toNatClampNeg (vp_nar .boolean (1 : Int32))) (u.2.2) (fun _ => 0) (fun _ => 0) (fun _ => 0)) t) (va_A [(h0, .inr (0, [.null, .null, .null, .null, .null, .null, .null, .null]))] sz)) 8 2444 (va_A [(h0, .inr (0, [.null, .null, .null, .null, .null, .null, .null, .null]))] sz) := by
  refine Met.ofW (cc := cX0_init) (maxL := 2) (ret := none) (by decide) rfl ?_
  intro p e s m args below meth c s₁ B hml hv
  obtain ⟨rfl, hsz, hP, hK, hD0⟩ := hv
  have hx := B.exec
  have hb := B.bytes
  have hr := B.returns
  have hts := atoms_spec (ws := (ws_ yX0_init cX0_init 2 none)) B.pre
  have hts : ∀ w ∈ lw_all, w.before _ s = true := fun w h => hts w (List.mem_cons_of_mem _ h)
  have hown : s.vm.findClass RX0 = some m.cls := findClass_of_methodNamed B.named
  have hlocks := B.notSynchronized
  have hin : meth.name = "<init>" := (name_of_methodNamed B.named B.method).1
  subst hsz
  have hD := hD0.self (sz := s.heap.size)
  generalize hAe : va_A [(h0, .inr (0, [.null, .null, .null, .null, .null, .null, .null, .null]))] s.heap.size = A at hD ⊢
  have hA : ∀ q : Nat, s.heap.size ≤ q → A q := fun q h => by rw [← hAe]; exact Or.inr h
  have hS : va_S A s.heap s.heap [] := va_S.rf
  have hP : va_P (dC, dI) sn_cl [(h0, .inr (0, [.null, .null, .null, .null, .null, .null, .null, .null]))] s.heap := hP
  have hl := lv_entry ([.ref h0]) (n := 2) (Nat.le_of_ble_eq_true rfl)
  rw [lg_entry_eq]
  generalize (lg_sl ([.ref h0]) ++ List.replicate (2 - (lg_sl ([.ref h0])).length) Slot.unset).toArray = ls at hl ⊢
  have hl : lv_has ls 2 [(0, .ref h0)] := hl
  refine lv_aload_n hx hb dX0_init_0 rfl (lv_at hl 0 rfl) ?_
  refine W.objInit hx hb hown (hts _ q26) (hts _ q27) (hts _ q28) rfl (by rw [hml]; exact hl.1) rfl dX0_init_1 (Nat.le_of_ble_eq_true rfl) (Nat.le_of_ble_eq_true rfl) ?_
  refine W.eq (g2 := F0 m 4 ls []) rfl ?_
  refine lv_aload_n hx hb dX0_init_4 rfl (lv_at hl 0 rfl) ?_
  refine lv_sipush (v := (1600 : Int32)) hx hb dX0_init_5 (by decide) ?_
  refine va_newa (atype := .int) (ty := .int) (a0 := (1600, .inl (fun _ => 0))) (N' := 1600) hx hb (hts _ q54) rfl hK hP hD hS hA (fun _ => rfl) (by decide) (by decide) (by decide) (Nat.le_of_ble_eq_true rfl) (Nat.le_of_ble_eq_true rfl) dX0_init_8 (fun a_0 c_0 H hK hP hD hS => ?_)
  refine va_putF (D := (dC, dI)) (ci := 0) (v := .ref a_0) (ty := .array .int) (C := RX0) (T := TX0) (N := 8) hx hb hts in_X0 tyX0 tyX0_ok nmX0 hown hK hP hD hS 0 rfl rfl 0 (by decide) (hts _ q29) (fun _ h9 => h9) rfl hin rfl (by decide +kernel) rfl rfl (Nat.le_of_ble_eq_true rfl) dX0_init_10 (fun H locs hP hD hS => ?_)
  have hP : va_P (dC, dI) sn_cl [(h0, .inr (0, [.ref a_0, .null, .null, .null, .null, .null, .null, .null])), (a_0, .inl (c_0, 1600, .inl (fun _ => 0)))] H := hP
  have hD : va_D A [(h0, .inr (0, [.ref a_0, .null, .null, .null, .null, .null, .null, .null])), (a_0, .inl (c_0, 1600, .inl (fun _ => 0)))] := hD
  refine lv_aload_n hx hb dX0_init_13 rfl (lv_at hl 0 rfl) ?_
  refine lv_sipush (v := (400 : Int32)) hx hb dX0_init_14 (by decide) ?_
  refine va_newa (atype := .int) (ty := .int) (a0 := (400, .inl (fun _ => 0))) (N' := 400) hx hb (hts _ q54) rfl hK hP hD hS hA (fun _ => rfl) (by decide) (by decide) (by decide) (Nat.le_of_ble_eq_true rfl) (Nat.le_of_ble_eq_true rfl) dX0_init_17 (fun a_1 c_1 H hK hP hD hS => ?_)
  refine va_putF (D := (dC, dI)) (ci := 0) (v := .ref a_1) (ty := .array .int) (C := RX0) (T := TX0) (N := 8) hx hb hts in_X0 tyX0 tyX0_ok nmX0 hown hK hP hD hS 0 rfl rfl 1 (by decide) (hts _ q30) (fun _ h9 => h9) rfl hin rfl (by decide +kernel) rfl rfl (Nat.le_of_ble_eq_true rfl) dX0_init_19 (fun H locs hP hD hS => ?_)
  have hP : va_P (dC, dI) sn_cl [(h0, .inr (0, [.ref a_0, .ref a_1, .null, .null, .null, .null, .null, .null])), (a_0, .inl (c_0, 1600, .inl (fun _ => 0))), (a_1, .inl (c_1, 400, .inl (fun _ => 0)))] H := hP
  have hD : va_D A [(h0, .inr (0, [.ref a_0, .ref a_1, .null, .null, .null, .null, .null, .null])), (a_0, .inl (c_0, 1600, .inl (fun _ => 0))), (a_1, .inl (c_1, 400, .inl (fun _ => 0)))] := hD
  refine lv_aload_n hx hb dX0_init_22 rfl (lv_at hl 0 rfl) ?_
  refine lv_sipush (v := (400 : Int32)) hx hb dX0_init_23 (by decide) ?_
  refine va_newa (atype := .int) (ty := .int) (a0 := (400, .inl (fun _ => 0))) (N' := 400) hx hb (hts _ q54) rfl hK hP hD hS hA (fun _ => rfl) (by decide) (by decide) (by decide) (Nat.le_of_ble_eq_true rfl) (Nat.le_of_ble_eq_true rfl) dX0_init_26 (fun a_2 c_2 H hK hP hD hS => ?_)
  refine va_putF (D := (dC, dI)) (ci := 0) (v := .ref a_2) (ty := .array .int) (C := RX0) (T := TX0) (N := 8) hx hb hts in_X0 tyX0 tyX0_ok nmX0 hown hK hP hD hS 0 rfl rfl 2 (by decide) (hts _ q31) (fun _ h9 => h9) rfl hin rfl (by decide +kernel) rfl rfl (Nat.le_of_ble_eq_true rfl) dX0_init_28 (fun H locs hP hD hS => ?_)
  have hP : va_P (dC, dI) sn_cl [(h0, .inr (0, [.ref a_0, .ref a_1, .ref a_2, .null, .null, .null, .null, .null])), (a_0, .inl (c_0, 1600, .inl (fun _ => 0))), (a_1, .inl (c_1, 400, .inl (fun _ => 0))), (a_2, .inl (c_2, 400, .inl (fun _ => 0)))] H := hP
  have hD : va_D A [(h0, .inr (0, [.ref a_0, .ref a_1, .ref a_2, .null, .null, .null, .null, .null])), (a_0, .inl (c_0, 1600, .inl (fun _ => 0))), (a_1, .inl (c_1, 400, .inl (fun _ => 0))), (a_2, .inl (c_2, 400, .inl (fun _ => 0)))] := hD
  refine lv_aload_n hx hb dX0_init_31 rfl (lv_at hl 0 rfl) ?_
  refine lv_bipush (v := (8 : Int32)) hx hb dX0_init_32 (by decide) ?_
  refine va_newa (atype := .boolean) (ty := .boolean) (a0 := (8, .inl (fun _ => 0))) (N' := 8) hx hb (hts _ q55) rfl hK hP hD hS hA (fun _ => rfl) (by decide) (by decide) (by decide) (Nat.le_of_ble_eq_true rfl) (Nat.le_of_ble_eq_true rfl) dX0_init_34 (fun a_3 c_3 H hK hP hD hS => ?_)
  refine va_putF (D := (dC, dI)) (ci := 0) (v := .ref a_3) (ty := .array .boolean) (C := RX0) (T := TX0) (N := 8) hx hb hts in_X0 tyX0 tyX0_ok nmX0 hown hK hP hD hS 0 rfl rfl 3 (by decide) (hts _ q32) (fun _ h9 => h9) rfl hin rfl (by decide +kernel) rfl rfl (Nat.le_of_ble_eq_true rfl) dX0_init_36 (fun H locs hP hD hS => ?_)
  have hP : va_P (dC, dI) sn_cl [(h0, .inr (0, [.ref a_0, .ref a_1, .ref a_2, .ref a_3, .null, .null, .null, .null])), (a_0, .inl (c_0, 1600, .inl (fun _ => 0))), (a_1, .inl (c_1, 400, .inl (fun _ => 0))), (a_2, .inl (c_2, 400, .inl (fun _ => 0))), (a_3, .inl (c_3, 8, .inl (fun _ => 0)))] H := hP
  have hD : va_D A [(h0, .inr (0, [.ref a_0, .ref a_1, .ref a_2, .ref a_3, .null, .null, .null, .null])), (a_0, .inl (c_0, 1600, .inl (fun _ => 0))), (a_1, .inl (c_1, 400, .inl (fun _ => 0))), (a_2, .inl (c_2, 400, .inl (fun _ => 0))), (a_3, .inl (c_3, 8, .inl (fun _ => 0)))] := hD
  refine lv_aload_n hx hb dX0_init_39 rfl (lv_at hl 0 rfl) ?_
  refine lv_bipush (v := (8 : Int32)) hx hb dX0_init_40 (by decide) ?_
  refine va_newa (atype := .int) (ty := .int) (a0 := (8, .inl (fun _ => 0))) (N' := 8) hx hb (hts _ q54) rfl hK hP hD hS hA (fun _ => rfl) (by decide) (by decide) (by decide) (Nat.le_of_ble_eq_true rfl) (Nat.le_of_ble_eq_true rfl) dX0_init_42 (fun a_4 c_4 H hK hP hD hS => ?_)
  refine va_putF (D := (dC, dI)) (ci := 0) (v := .ref a_4) (ty := .array .int) (C := RX0) (T := TX0) (N := 8) hx hb hts in_X0 tyX0 tyX0_ok nmX0 hown hK hP hD hS 0 rfl rfl 4 (by decide) (hts _ q33) (fun _ h9 => h9) rfl hin rfl (by decide +kernel) rfl rfl (Nat.le_of_ble_eq_true rfl) dX0_init_44 (fun H locs hP hD hS => ?_)
  have hP : va_P (dC, dI) sn_cl [(h0, .inr (0, [.ref a_0, .ref a_1, .ref a_2, .ref a_3, .ref a_4, .null, .null, .null])), (a_0, .inl (c_0, 1600, .inl (fun _ => 0))), (a_1, .inl (c_1, 400, .inl (fun _ => 0))), (a_2, .inl (c_2, 400, .inl (fun _ => 0))), (a_3, .inl (c_3, 8, .inl (fun _ => 0))), (a_4, .inl (c_4, 8, .inl (fun _ => 0)))] H := hP
  have hD : va_D A [(h0, .inr (0, [.ref a_0, .ref a_1, .ref a_2, .ref a_3, .ref a_4, .null, .null, .null])), (a_0, .inl (c_0, 1600, .inl (fun _ => 0))), (a_1, .inl (c_1, 400, .inl (fun _ => 0))), (a_2, .inl (c_2, 400, .inl (fun _ => 0))), (a_3, .inl (c_3, 8, .inl (fun _ => 0))), (a_4, .inl (c_4, 8, .inl (fun _ => 0)))] := hD
  refine lv_aload_n hx hb dX0_init_47 rfl (lv_at hl 0 rfl) ?_
  refine lv_bipush (v := (8 : Int32)) hx hb dX0_init_48 (by decide) ?_
  refine va_newa (atype := .int) (ty := .int) (a0 := (8, .inl (fun _ => 0))) (N' := 8) hx hb (hts _ q54) rfl hK hP hD hS hA (fun _ => rfl) (by decide) (by decide) (by decide) (Nat.le_of_ble_eq_true rfl) (Nat.le_of_ble_eq_true rfl) dX0_init_50 (fun a_5 c_5 H hK hP hD hS => ?_)
  refine va_putF (D := (dC, dI)) (ci := 0) (v := .ref a_5) (ty := .array .int) (C := RX0) (T := TX0) (N := 8) hx hb hts in_X0 tyX0 tyX0_ok nmX0 hown hK hP hD hS 0 rfl rfl 5 (by decide) (hts _ q34) (fun _ h9 => h9) rfl hin rfl (by decide +kernel) rfl rfl (Nat.le_of_ble_eq_true rfl) dX0_init_52 (fun H locs hP hD hS => ?_)
  have hP : va_P (dC, dI) sn_cl [(h0, .inr (0, [.ref a_0, .ref a_1, .ref a_2, .ref a_3, .ref a_4, .ref a_5, .null, .null])), (a_0, .inl (c_0, 1600, .inl (fun _ => 0))), (a_1, .inl (c_1, 400, .inl (fun _ => 0))), (a_2, .inl (c_2, 400, .inl (fun _ => 0))), (a_3, .inl (c_3, 8, .inl (fun _ => 0))), (a_4, .inl (c_4, 8, .inl (fun _ => 0))), (a_5, .inl (c_5, 8, .inl (fun _ => 0)))] H := hP
  have hD : va_D A [(h0, .inr (0, [.ref a_0, .ref a_1, .ref a_2, .ref a_3, .ref a_4, .ref a_5, .null, .null])), (a_0, .inl (c_0, 1600, .inl (fun _ => 0))), (a_1, .inl (c_1, 400, .inl (fun _ => 0))), (a_2, .inl (c_2, 400, .inl (fun _ => 0))), (a_3, .inl (c_3, 8, .inl (fun _ => 0))), (a_4, .inl (c_4, 8, .inl (fun _ => 0))), (a_5, .inl (c_5, 8, .inl (fun _ => 0)))] := hD
  refine lv_aload_n hx hb dX0_init_55 rfl (lv_at hl 0 rfl) ?_
  refine lv_iconst (v := (4 : Int32)) hx hb dX0_init_56 (by decide) ?_
  refine va_newa (atype := .int) (ty := .int) (a0 := (4, .inl (fun _ => 0))) (N' := 4) hx hb (hts _ q54) rfl hK hP hD hS hA (fun _ => rfl) (by decide) (by decide) (by decide) (Nat.le_of_ble_eq_true rfl) (Nat.le_of_ble_eq_true rfl) dX0_init_57 (fun a_6 c_6 H hK hP hD hS => ?_)
  refine va_putF (D := (dC, dI)) (ci := 0) (v := .ref a_6) (ty := .array .int) (C := RX0) (T := TX0) (N := 8) hx hb hts in_X0 tyX0 tyX0_ok nmX0 hown hK hP hD hS 0 rfl rfl 6 (by decide) (hts _ q35) (fun _ h9 => h9) rfl hin rfl (by decide +kernel) rfl rfl (Nat.le_of_ble_eq_true rfl) dX0_init_59 (fun H locs hP hD hS => ?_)
  have hP : va_P (dC, dI) sn_cl [(h0, .inr (0, [.ref a_0, .ref a_1, .ref a_2, .ref a_3, .ref a_4, .ref a_5, .ref a_6, .null])), (a_0, .inl (c_0, 1600, .inl (fun _ => 0))), (a_1, .inl (c_1, 400, .inl (fun _ => 0))), (a_2, .inl (c_2, 400, .inl (fun _ => 0))), (a_3, .inl (c_3, 8, .inl (fun _ => 0))), (a_4, .inl (c_4, 8, .inl (fun _ => 0))), (a_5, .inl (c_5, 8, .inl (fun _ => 0))), (a_6, .inl (c_6, 4, .inl (fun _ => 0)))] H := hP
  have hD : va_D A [(h0, .inr (0, [.ref a_0, .ref a_1, .ref a_2, .ref a_3, .ref a_4, .ref a_5, .ref a_6, .null])), (a_0, .inl (c_0, 1600, .inl (fun _ => 0))), (a_1, .inl (c_1, 400, .inl (fun _ => 0))), (a_2, .inl (c_2, 400, .inl (fun _ => 0))), (a_3, .inl (c_3, 8, .inl (fun _ => 0))), (a_4, .inl (c_4, 8, .inl (fun _ => 0))), (a_5, .inl (c_5, 8, .inl (fun _ => 0))), (a_6, .inl (c_6, 4, .inl (fun _ => 0)))] := hD
  refine lv_aload_n hx hb dX0_init_62 rfl (lv_at hl 0 rfl) ?_
  refine lv_bipush (v := (16 : Int32)) hx hb dX0_init_63 (by decide) ?_
  refine va_newa (atype := .int) (ty := .int) (a0 := (16, .inl (fun _ => 0))) (N' := 16) hx hb (hts _ q54) rfl hK hP hD hS hA (fun _ => rfl) (by decide) (by decide) (by decide) (Nat.le_of_ble_eq_true rfl) (Nat.le_of_ble_eq_true rfl) dX0_init_65 (fun a_7 c_7 H hK hP hD hS => ?_)
  refine va_putF (D := (dC, dI)) (ci := 0) (v := .ref a_7) (ty := .array .int) (C := RX0) (T := TX0) (N := 8) hx hb hts in_X0 tyX0 tyX0_ok nmX0 hown hK hP hD hS 0 rfl rfl 7 (by decide) (hts _ q36) (fun _ h9 => h9) rfl hin rfl (by decide +kernel) rfl rfl (Nat.le_of_ble_eq_true rfl) dX0_init_67 (fun H locs hP hD hS => ?_)
  have hP : va_P (dC, dI) sn_cl [(h0, .inr (0, [.ref a_0, .ref a_1, .ref a_2, .ref a_3, .ref a_4, .ref a_5, .ref a_6, .ref a_7])), (a_0, .inl (c_0, 1600, .inl (fun _ => 0))), (a_1, .inl (c_1, 400, .inl (fun _ => 0))), (a_2, .inl (c_2, 400, .inl (fun _ => 0))), (a_3, .inl (c_3, 8, .inl (fun _ => 0))), (a_4, .inl (c_4, 8, .inl (fun _ => 0))), (a_5, .inl (c_5, 8, .inl (fun _ => 0))), (a_6, .inl (c_6, 4, .inl (fun _ => 0))), (a_7, .inl (c_7, 16, .inl (fun _ => 0)))] H := hP
  have hD : va_D A [(h0, .inr (0, [.ref a_0, .ref a_1, .ref a_2, .ref a_3, .ref a_4, .ref a_5, .ref a_6, .ref a_7])), (a_0, .inl (c_0, 1600, .inl (fun _ => 0))), (a_1, .inl (c_1, 400, .inl (fun _ => 0))), (a_2, .inl (c_2, 400, .inl (fun _ => 0))), (a_3, .inl (c_3, 8, .inl (fun _ => 0))), (a_4, .inl (c_4, 8, .inl (fun _ => 0))), (a_5, .inl (c_5, 8, .inl (fun _ => 0))), (a_6, .inl (c_6, 4, .inl (fun _ => 0))), (a_7, .inl (c_7, 16, .inl (fun _ => 0)))] := hD
  have hK : va_K (dC, dI) sn_cl [(c_0, .int), (c_1, .int), (c_2, .int), (c_3, .boolean), (c_4, .int), (c_5, .int), (c_6, .int), (c_7, .int)] s := hK
  refine W.widen (k := 8) (n := 2444) (Nat.le_of_ble_eq_true rfl) (Nat.le_of_ble_eq_true rfl) ?_
  obtain ⟨ad, rfl, rfl, rfl, rfl, rfl, rfl, rfl, rfl⟩ : ∃ ad : Nat → Nat, ad 0 = a_0 ∧ ad 1 = a_1 ∧ ad 2 = a_2 ∧ ad 3 = a_3 ∧ ad 4 = a_4 ∧ ad 5 = a_5 ∧ ad 6 = a_6 ∧ ad 7 = a_7 := ⟨fun k => ([a_0, a_1, a_2, a_3, a_4, a_5, a_6, a_7] : List Nat).getD k 0, rfl, rfl, rfl, rfl, rfl, rfl, rfl, rfl⟩
  obtain ⟨cs, rfl, rfl, rfl, rfl, rfl, rfl, rfl, rfl⟩ : ∃ cs : Nat → ClassId, cs 0 = c_0 ∧ cs 1 = c_1 ∧ cs 2 = c_2 ∧ cs 3 = c_3 ∧ cs 4 = c_4 ∧ cs 5 = c_5 ∧ cs 6 = c_6 ∧ cs 7 = c_7 := ⟨fun k => ([c_0, c_1, c_2, c_3, c_4, c_5, c_6, c_7] : List ClassId).getD k c_0, rfl, rfl, rfl, rfl, rfl, rfl, rfl, rfl⟩
  have hP : va_P (dC, dI) sn_cl (sn_pwX0 h0 ad cs (fun _ => 0) (fun _ => 0) (fun _ => 0) (fun _ => 0) (fun _ => 0) (fun _ => 0) (fun _ => 0) (fun _ => 0)) H := hP
  have hD : va_D A (sn_pwX0 h0 ad cs (fun _ => 0) (fun _ => 0) (fun _ => 0) (fun _ => 0) (fun _ => 0) (fun _ => 0) (fun _ => 0) (fun _ => 0)) := hD
  have C0 : sn_Cx cX0_init 2 none RX0 p s m meth c _ A (dC, dI) (sn_tyX0 cs) := ⟨hx, hb, hr, hlocks, hml, hown, hts, hA, hK⟩
  refine lv_aload_n hx hb dX0_init_70 rfl (lv_at hl 0 rfl) ?_
  refine sn_gtX0_3 C0 hP dX0_init_71 ?_
  refine lv_iconst (v := (0 : Int32)) hx hb dX0_init_74 (by decide) ?_
  refine lv_iconst (v := (1 : Int32)) hx hb dX0_init_75 (by decide) ?_
  refine sn_stX0_3 C0 hP hD hS (by unfold vp_in; decide) dX0_init_76 (fun H locs hP hD hS => ?_)
  refine lv_iconst (v := (0 : Int32)) hx hb dX0_init_77 (by decide) ?_
  refine lv_istore_n (lv' := [(1, .int (0 : Int32)), (0, .ref h0)]) hx hb dX0_init_78 rfl hl (by decide) rfl (fun ls hl => ?_)
  exact wX0_init_79 C0 8 0 rfl (fun _ => 0) (fun j hj => absurd hj (Nat.not_lt_zero j)) H locs hP hD hS ls (lv_sub hl [1, 0] rfl)
set_option maxHeartbeats 4000000 in
set_option maxRecDepth 100000 in
theorem kX1_init (l : Launch) (dC : Nat → ClassId) (dI : Nat → Nat → Nat) (h0 sz : Nat) : Met l yX1_init (ws_ yX1_init cX1_init 1 none) ({ frames := 1, cells := 3, slots := 4104, locals := 12 } : Room) (va_Pc [.ref h0] (sn_PX (dC, dI) [] [(h0, .inr (1, [.null, .null, .null]))] sz)) (va_Qv (S := (Nat → Nat) × (Nat → ClassId)) (fun _ => True) (fun (u : (Nat → Nat) × (Nat → ClassId)) (t : State) => sn_BX (dC, dI) (sn_tyX1 (u.2)) (va_A [(h0, .inr (1, [.null, .null, .null]))] sz) (sn_pwX1 h0 (u.1) (u.2) (upd (fun _ => 0) (7 : Int32).toNatClampNeg (vp_nar .boolean (1 : Int32))) (fun _ => 0) (fun _ => 0)) t) (va_A [(h0, .inr (1, [.null, .null, .null]))] sz)) 3 4104 (va_A [(h0, .inr (1, [.null, .null, .null]))] sz) := by
  refine Met.ofW (cc := cX1_init) (maxL := 1) (ret := none) (by decide) rfl ?_
  intro p e s m args below meth c s₁ B hml hv
  obtain ⟨rfl, hsz, hP, hK, hD0⟩ := hv
  have hx := B.exec
  have hb := B.bytes
  have hr := B.returns
  have hts := atoms_spec (ws := (ws_ yX1_init cX1_init 1 none)) B.pre
  have hts : ∀ w ∈ lw_all, w.before _ s = true := fun w h => hts w (List.mem_cons_of_mem _ h)
  have hown : s.vm.findClass RX1 = some m.cls := findClass_of_methodNamed B.named
  have hlocks := B.notSynchronized
  have hin : meth.name = "<init>" := (name_of_methodNamed B.named B.method).1
  subst hsz
  have hD := hD0.self (sz := s.heap.size)
  generalize hAe : va_A [(h0, .inr (1, [.null, .null, .null]))] s.heap.size = A at hD ⊢
  have hA : ∀ q : Nat, s.heap.size ≤ q → A q := fun q h => by rw [← hAe]; exact Or.inr h
  have hS : va_S A s.heap s.heap [] := va_S.rf
  have hP : va_P (dC, dI) sn_cl [(h0, .inr (1, [.null, .null, .null]))] s.heap := hP
  have hl := lv_entry ([.ref h0]) (n := 1) (Nat.le_of_ble_eq_true rfl)
  rw [lg_entry_eq]
  generalize (lg_sl ([.ref h0]) ++ List.replicate (1 - (lg_sl ([.ref h0])).length) Slot.unset).toArray = ls at hl ⊢
  have hl : lv_has ls 1 [(0, .ref h0)] := hl
  refine lv_aload_n hx hb dX1_init_0 rfl (lv_at hl 0 rfl) ?_
  refine W.objInit hx hb hown (hts _ q164) (hts _ q27) (hts _ q28) rfl (by rw [hml]; exact hl.1) rfl dX1_init_1 (Nat.le_of_ble_eq_true rfl) (Nat.le_of_ble_eq_true rfl) ?_
  refine W.eq (g2 := F0 m 4 ls []) rfl ?_
  refine lv_aload_n hx hb dX1_init_4 rfl (lv_at hl 0 rfl) ?_
  refine lv_bipush (v := (8 : Int32)) hx hb dX1_init_5 (by decide) ?_
  refine va_newa (atype := .boolean) (ty := .boolean) (a0 := (8, .inl (fun _ => 0))) (N' := 8) hx hb (hts _ q55) rfl hK hP hD hS hA (fun _ => rfl) (by decide) (by decide) (by decide) (Nat.le_of_ble_eq_true rfl) (Nat.le_of_ble_eq_true rfl) dX1_init_7 (fun a_0 c_0 H hK hP hD hS => ?_)
  refine va_putF (D := (dC, dI)) (ci := 1) (v := .ref a_0) (ty := .array .boolean) (C := RX1) (T := TX1) (N := 3) hx hb hts in_X1 tyX1 tyX1_ok nmX1 hown hK hP hD hS 0 rfl rfl 0 (by decide) (hts _ q165) (fun _ h9 => h9) rfl hin rfl (by decide +kernel) rfl rfl (Nat.le_of_ble_eq_true rfl) dX1_init_9 (fun H locs hP hD hS => ?_)
  have hP : va_P (dC, dI) sn_cl [(h0, .inr (1, [.ref a_0, .null, .null])), (a_0, .inl (c_0, 8, .inl (fun _ => 0)))] H := hP
  have hD : va_D A [(h0, .inr (1, [.ref a_0, .null, .null])), (a_0, .inl (c_0, 8, .inl (fun _ => 0)))] := hD
  refine lv_aload_n hx hb dX1_init_12 rfl (lv_at hl 0 rfl) ?_
  refine lv_sipush (v := (2048 : Int32)) hx hb dX1_init_13 (by decide) ?_
  refine va_newa (atype := .boolean) (ty := .boolean) (a0 := (2048, .inl (fun _ => 0))) (N' := 2048) hx hb (hts _ q55) rfl hK hP hD hS hA (fun _ => rfl) (by decide) (by decide) (by decide) (Nat.le_of_ble_eq_true rfl) (Nat.le_of_ble_eq_true rfl) dX1_init_16 (fun a_1 c_1 H hK hP hD hS => ?_)
  refine va_putF (D := (dC, dI)) (ci := 1) (v := .ref a_1) (ty := .array .boolean) (C := RX1) (T := TX1) (N := 3) hx hb hts in_X1 tyX1 tyX1_ok nmX1 hown hK hP hD hS 0 rfl rfl 1 (by decide) (hts _ q166) (fun _ h9 => h9) rfl hin rfl (by decide +kernel) rfl rfl (Nat.le_of_ble_eq_true rfl) dX1_init_18 (fun H locs hP hD hS => ?_)
  have hP : va_P (dC, dI) sn_cl [(h0, .inr (1, [.ref a_0, .ref a_1, .null])), (a_0, .inl (c_0, 8, .inl (fun _ => 0))), (a_1, .inl (c_1, 2048, .inl (fun _ => 0)))] H := hP
  have hD : va_D A [(h0, .inr (1, [.ref a_0, .ref a_1, .null])), (a_0, .inl (c_0, 8, .inl (fun _ => 0))), (a_1, .inl (c_1, 2048, .inl (fun _ => 0)))] := hD
  refine lv_aload_n hx hb dX1_init_21 rfl (lv_at hl 0 rfl) ?_
  refine lv_sipush (v := (2048 : Int32)) hx hb dX1_init_22 (by decide) ?_
  refine va_newa (atype := .int) (ty := .int) (a0 := (2048, .inl (fun _ => 0))) (N' := 2048) hx hb (hts _ q54) rfl hK hP hD hS hA (fun _ => rfl) (by decide) (by decide) (by decide) (Nat.le_of_ble_eq_true rfl) (Nat.le_of_ble_eq_true rfl) dX1_init_25 (fun a_2 c_2 H hK hP hD hS => ?_)
  refine va_putF (D := (dC, dI)) (ci := 1) (v := .ref a_2) (ty := .array .int) (C := RX1) (T := TX1) (N := 3) hx hb hts in_X1 tyX1 tyX1_ok nmX1 hown hK hP hD hS 0 rfl rfl 2 (by decide) (hts _ q167) (fun _ h9 => h9) rfl hin rfl (by decide +kernel) rfl rfl (Nat.le_of_ble_eq_true rfl) dX1_init_27 (fun H locs hP hD hS => ?_)
  have hP : va_P (dC, dI) sn_cl [(h0, .inr (1, [.ref a_0, .ref a_1, .ref a_2])), (a_0, .inl (c_0, 8, .inl (fun _ => 0))), (a_1, .inl (c_1, 2048, .inl (fun _ => 0))), (a_2, .inl (c_2, 2048, .inl (fun _ => 0)))] H := hP
  have hD : va_D A [(h0, .inr (1, [.ref a_0, .ref a_1, .ref a_2])), (a_0, .inl (c_0, 8, .inl (fun _ => 0))), (a_1, .inl (c_1, 2048, .inl (fun _ => 0))), (a_2, .inl (c_2, 2048, .inl (fun _ => 0)))] := hD
  have hK : va_K (dC, dI) sn_cl [(c_0, .boolean), (c_1, .boolean), (c_2, .int)] s := hK
  refine W.widen (k := 3) (n := 4104) (Nat.le_of_ble_eq_true rfl) (Nat.le_of_ble_eq_true rfl) ?_
  obtain ⟨ad, rfl, rfl, rfl⟩ : ∃ ad : Nat → Nat, ad 0 = a_0 ∧ ad 1 = a_1 ∧ ad 2 = a_2 := ⟨fun k => ([a_0, a_1, a_2] : List Nat).getD k 0, rfl, rfl, rfl⟩
  obtain ⟨cs, rfl, rfl, rfl⟩ : ∃ cs : Nat → ClassId, cs 0 = c_0 ∧ cs 1 = c_1 ∧ cs 2 = c_2 := ⟨fun k => ([c_0, c_1, c_2] : List ClassId).getD k c_0, rfl, rfl, rfl⟩
  have hP : va_P (dC, dI) sn_cl (sn_pwX1 h0 ad cs (fun _ => 0) (fun _ => 0) (fun _ => 0)) H := hP
  have hD : va_D A (sn_pwX1 h0 ad cs (fun _ => 0) (fun _ => 0) (fun _ => 0)) := hD
  have C0 : sn_Cx cX1_init 1 none RX1 p s m meth c _ A (dC, dI) (sn_tyX1 cs) := ⟨hx, hb, hr, hlocks, hml, hown, hts, hA, hK⟩
  refine lv_aload_n hx hb dX1_init_30 rfl (lv_at hl 0 rfl) ?_
  refine sn_gtX1_0 C0 hP dX1_init_31 ?_
  refine lv_bipush (v := (7 : Int32)) hx hb dX1_init_34 (by decide) ?_
  refine lv_iconst (v := (1 : Int32)) hx hb dX1_init_36 (by decide) ?_
  refine sn_stX1_0 C0 hP hD hS (by unfold vp_in; decide) dX1_init_37 (fun H locs hP hD hS => ?_)
  exact W.vret hx hb hr (fun t ht hW => ⟨⟨⟨ad, cs⟩, rfl, trivial, ⟨by rw [ht]; exact hP, va_K.moved hW.alike hK, hD⟩⟩, hS.F ht⟩) hS.2.2 dX1_init_38
end
section
/-! THE CLAIM OUT OF ONE WALK OF THE LAW'S BODY. Your part is whole_start (and what it stands on); all else here is the same for every law, but numbers. -/
def R_law : String := "SnapshotTreeLaw"
def lw_P (b : Addr) (xs : List Int32) (args : Array Value) (s : State) : Prop := args = #[.ref b] ∧ s.IntsAt b xs ∧ xs.length ≤ 256 ∧ (Jvm.Cond.and given_1 narrow_1).before args s = true
def lw_Q (_ : Array Value) (s : State) (o : Outcome) (t : State) : Prop := o = .returned (some (.int 1)) ∧ Framed s o t [] 600000 7290000
def lw_Z (below : List Frame) (a : Array Value) (s : State) : State → Prop := fun t => ∃ o, t.status = .running ∧ Ended t below o ∧ lw_Q a s o t
/-- the law's own end, with 1 on the stack, nothing written that was there before, its room as the claim has it -/
theorem lw_ret {p : Program} {l : Launch} {e : Env} {s : State} {m : MethodId} {below : List Frame} {meth : Method} {c : Code} {b : Nat} (hx : p.tables.exec = Jvm.exec) (hb : c.code = code) (hr : meth.sig.returnType = ret) (hlocks : meth.locks = false) {pc : Nat} {H : Heap} {ls : Array Slot} (hdg : decode code pc = .ok (.ireturn, 1)) : W p l e room_1 s m #[Value.ref b] below meth c H [] 600000 7290000 (lw_Z below #[Value.ref b] s) (F0 m pc ls [.int 1]) := by
  intro T hT X
  obtain ⟨fs, hret, hrun, hended, hW, hframe⟩ := X.leave (v := some (.int 1)) (hlocks := hlocks) (fun h => by rw [hr] at h; cases h)
  have hmeth' : T.vm.method? m = some meth := X.method'
  refine ⟨T.setFrames fs, ?_, .returned (some (.int 1)), hrun, hended, rfl, ⟨_, rfl⟩, hW, hframe⟩
  jvm_step X.here [X.here.top, hx, hb, hdg, hmeth', hr, ret, narrow_b1]
  (try refine ⟨rfl, ?_⟩); (try refine ⟨rfl, ?_⟩)
  first | (intro acts; rw [hret _ acts rfl rfl rfl]) | rw [hret _ _ rfl rfl rfl]
  exact Steps.refl _
/-- what holds at the law's entry: the machine, the code, the tables' words (any of lw_tbl by 'hts w (by decide +kernel)'), the script of L ints xs at the cell b, what the Statement gives of the start (any of its parts by flat_of_before) -/
def lw_At (p : Program) (s : State) (m : MethodId) (meth : Method) (c : Code) (b L : Nat) (xs : Nat → Int32) : Prop :=
  p.tables.exec = Jvm.exec ∧ c.code = code ∧ meth.sig.returnType = ret ∧ c.maxLocals = 4 ∧ s.vm.findClass R_law = some m.cls ∧ (∀ w ∈ lw_tbl, w.before #[Value.ref b] s = true) ∧ va_X b L xs s s.heap ∧ b < s.heap.size ∧ meth.locks = false ∧ (Jvm.Cond.and given_1 narrow_1).before #[Value.ref b] s = true
section CLAW
variable {p : Program} {l : Launch} {e : Env} {R : Room} {s : State} {m : MethodId} {args : Array Value} {below : List Frame} {meth : Method} {c : Code} {H : Heap} {locs : List Loc} {cells slots : Nat} {Q : State → Prop} {cc : ByteArray} {nL : Nat} {pc : Nat} {ls : Array Slot} {rest : List Value} {A : Nat → Prop} {D : va_G} {y : MethodName} {bytes : ByteArray} {maxL n index : Nat} {retc : Option FieldType} {wsc : List Cond} {rm : Room} {own : String} {As st0 : List Value} {h0 h1 : Nat} {ad ad1 : Nat → Nat} {cs cs1 : Nat → ClassId} {f0 f1 f2 f3 f4 f5 f6 f7 g0 g1 g2 : Nat → Int32}
theorem sn_clT {S0 : Type} {post : Int32 → S0 → Prop} {af0 af1 af2 af3 af4 af5 af6 af7 : S0 → Nat → Int32} (S : CallFix p m c cc nL s args lw_all own) (hM : Met l y wsc rm (va_Pc (.ref h0 :: As) (sn_PX D (sn_tyX0 cs) (sn_pwX0 h0 ad cs f0 f1 f2 f3 f4 f5 f6 f7) H.size)) (va_Qi post (fun u t => sn_BX0 D (va_A (sn_pwX0 h0 ad cs f0 f1 f2 f3 f4 f5 f6 f7) H.size) h0 ad cs (af0 u) (af1 u) (af2 u) (af3 u) (af4 u) (af5 u) (af6 u) (af7 u) t) (va_A (sn_pwX0 h0 ad cs f0 f1 f2 f3 f4 f5 f6 f7) H.size)) 0 0 (va_A (sn_pwX0 h0 ad cs f0 f1 f2 f3 f4 f5 f6 f7) H.size)) (cw : CallW R s args own RX0 index y bytes maxL retc wsc rm 0 0 n) (hP : va_P D sn_cl (sn_pwX0 h0 ad cs f0 f1 f2 f3 f4 f5 f6 f7 ++ sn_pwX1 h1 ad1 cs1 g0 g1 g2) H) (hD : va_D A (sn_pwX0 h0 ad cs f0 f1 f2 f3 f4 f5 f6 f7 ++ sn_pwX1 h1 ad1 cs1 g0 g1 g2)) (hK : va_K D sn_cl (sn_tyX0 cs ++ sn_tyX1 cs1) s) (hS : va_S A s.heap H locs) (hA : ∀ q : Nat, s.heap.size ≤ q → A q) (hn : As.length = n) (hsize : ls.size = nL) (hst : st0 = As.reverse ++ .ref h0 :: rest) (hW : 2 * (F0 m pc ls st0).monitorRoom + (rest.map fun v => v.category).sum ≤ 8) (hdg : decode cc pc = .ok (.invokevirtual index, 3)) (hf : cells + 0 ≤ R.cells ∧ slots + 0 ≤ R.slots)
    (kk : ∀ (r : Int32) (u : S0) (H1 : Heap) (locs1 : List Loc), post r u → va_P D sn_cl (sn_pwX0 h0 ad cs (af0 u) (af1 u) (af2 u) (af3 u) (af4 u) (af5 u) (af6 u) (af7 u) ++ sn_pwX1 h1 ad1 cs1 g0 g1 g2) H1 → va_D A (sn_pwX0 h0 ad cs (af0 u) (af1 u) (af2 u) (af3 u) (af4 u) (af5 u) (af6 u) (af7 u) ++ sn_pwX1 h1 ad1 cs1 g0 g1 g2) → va_S A s.heap H1 locs1 → W p l e R s m args below meth c H1 locs1 cells slots Q (F0 m (pc + 3) ls (.int r :: rest))) : W p l e R s m args below meth c H locs cells slots Q (F0 m pc ls st0) := by
  have hPc := hP.sub (ws' := (sn_pwX0 h0 ad cs f0 f1 f2 f3 f4 f5 f6 f7)) [0, 1, 2, 3, 4, 5, 6, 7, 8] rfl
  have hDc := hD.sub (ws' := (sn_pwX0 h0 ad cs f0 f1 f2 f3 f4 f5 f6 f7)) [0, 1, 2, 3, 4, 5, 6, 7, 8] (by decide) rfl
  have hKc := hK.sub (tys' := sn_tyX0 cs) [0, 1, 2, 3, 4, 5, 6, 7] rfl
  have hFc := va_free (wc := (sn_pwX0 h0 ad cs f0 f1 f2 f3 f4 f5 f6 f7)) hD hS hA [0, 1, 2, 3, 4, 5, 6, 7, 8] rfl
  refine va_calli (va_runV (As := As) (rest := rest) S hM cw ⟨sn_fb, va_recv hKc hPc (ci := 0) (q0 := 0) rfl rfl, fun U hU hW => ⟨rfl, by rw [hU], by rw [hU]; exact hPc, va_K.moved hW.alike hKc, hDc.weaken (fun _ _ _ _ => trivial)⟩⟩ rfl hn hsize hst hW hdg hf) hS (fun q _ h => hFc q h) hFc (fun r u t H1 locs1 ht hvm hp hB hz hk hS1 => ?_)
  obtain ⟨hP1, hK1, hD1⟩ := hB
  rw [ht] at hP1
  obtain ⟨hP2, hD2⟩ := va_join (wr := (sn_pwX1 h1 ad1 cs1 g0 g1 g2)) hP hD [0, 1, 2, 3, 4, 5, 6, 7, 8] [9, 10, 11, 12] rfl rfl (by decide) (by decide) hk hFc hP1 hD1
  exact kk r u H1 locs1 hp (hP2.sub [4, 5, 6, 7, 8, 9, 10, 11, 12, 0, 1, 2, 3] rfl) (hD2.sub [4, 5, 6, 7, 8, 9, 10, 11, 12, 0, 1, 2, 3] (by decide) rfl) hS1
theorem sn_clM {S0 : Type} {post : Int32 → S0 → Prop} {ag0 ag1 ag2 : S0 → Nat → Int32} (S : CallFix p m c cc nL s args lw_all own) (hM : Met l y wsc rm (va_Pc (.ref h1 :: As) (sn_PX D (sn_tyX1 cs1) (sn_pwX1 h1 ad1 cs1 g0 g1 g2) H.size)) (va_Qi post (fun u t => sn_BX1 D (va_A (sn_pwX1 h1 ad1 cs1 g0 g1 g2) H.size) h1 ad1 cs1 (ag0 u) (ag1 u) (ag2 u) t) (va_A (sn_pwX1 h1 ad1 cs1 g0 g1 g2) H.size)) 0 0 (va_A (sn_pwX1 h1 ad1 cs1 g0 g1 g2) H.size)) (cw : CallW R s args own RX1 index y bytes maxL retc wsc rm 0 0 n) (hP : va_P D sn_cl (sn_pwX0 h0 ad cs f0 f1 f2 f3 f4 f5 f6 f7 ++ sn_pwX1 h1 ad1 cs1 g0 g1 g2) H) (hD : va_D A (sn_pwX0 h0 ad cs f0 f1 f2 f3 f4 f5 f6 f7 ++ sn_pwX1 h1 ad1 cs1 g0 g1 g2)) (hK : va_K D sn_cl (sn_tyX0 cs ++ sn_tyX1 cs1) s) (hS : va_S A s.heap H locs) (hA : ∀ q : Nat, s.heap.size ≤ q → A q) (hn : As.length = n) (hsize : ls.size = nL) (hst : st0 = As.reverse ++ .ref h1 :: rest) (hW : 2 * (F0 m pc ls st0).monitorRoom + (rest.map fun v => v.category).sum ≤ 8) (hdg : decode cc pc = .ok (.invokevirtual index, 3)) (hf : cells + 0 ≤ R.cells ∧ slots + 0 ≤ R.slots)
    (kk : ∀ (r : Int32) (u : S0) (H1 : Heap) (locs1 : List Loc), post r u → va_P D sn_cl (sn_pwX0 h0 ad cs f0 f1 f2 f3 f4 f5 f6 f7 ++ sn_pwX1 h1 ad1 cs1 (ag0 u) (ag1 u) (ag2 u)) H1 → va_D A (sn_pwX0 h0 ad cs f0 f1 f2 f3 f4 f5 f6 f7 ++ sn_pwX1 h1 ad1 cs1 (ag0 u) (ag1 u) (ag2 u)) → va_S A s.heap H1 locs1 → W p l e R s m args below meth c H1 locs1 cells slots Q (F0 m (pc + 3) ls (.int r :: rest))) : W p l e R s m args below meth c H locs cells slots Q (F0 m pc ls st0) := by
  have hPc := hP.sub (ws' := (sn_pwX1 h1 ad1 cs1 g0 g1 g2)) [9, 10, 11, 12] rfl
  have hDc := hD.sub (ws' := (sn_pwX1 h1 ad1 cs1 g0 g1 g2)) [9, 10, 11, 12] (by decide) rfl
  have hKc := hK.sub (tys' := sn_tyX1 cs1) [8, 9, 10] rfl
  have hFc := va_free (wc := (sn_pwX1 h1 ad1 cs1 g0 g1 g2)) hD hS hA [9, 10, 11, 12] rfl
  refine va_calli (va_runV (As := As) (rest := rest) S hM cw ⟨sn_fb, va_recv hKc hPc (ci := 1) (q0 := 0) rfl rfl, fun U hU hW => ⟨rfl, by rw [hU], by rw [hU]; exact hPc, va_K.moved hW.alike hKc, hDc.weaken (fun _ _ _ _ => trivial)⟩⟩ rfl hn hsize hst hW hdg hf) hS (fun q _ h => hFc q h) hFc (fun r u t H1 locs1 ht hvm hp hB hz hk hS1 => ?_)
  obtain ⟨hP1, hK1, hD1⟩ := hB
  rw [ht] at hP1
  obtain ⟨hP2, hD2⟩ := va_join (wr := (sn_pwX0 h0 ad cs f0 f1 f2 f3 f4 f5 f6 f7)) hP hD [9, 10, 11, 12] [0, 1, 2, 3, 4, 5, 6, 7, 8] rfl rfl (by decide) (by decide) hk hFc hP1 hD1
  exact kk r u H1 locs1 hp hP2 hD2 hS1
end CLAW
def mLaw (L : Nat) (xs : Nat → Int32) : Nat → (Nat → Int32) → (Nat → Int32) → (Nat → Int32) → (Nat → Int32) → (Nat → Int32) → (Nat → Int32) → (Nat → Int32) → (Nat → Int32) → (Nat → Int32) → (Nat → Int32) → (Nat → Int32) → Int32 → Prop
  | 0, _, _, _, _, _, _, _, _, _, _, _, _ => False
  | n18 + 1, f0, f1, f2, f3, f4, f5, f6, f7, g0, g1, g2, x3 => ((((Int32.ofNat L) - (4 : Int32)) < x3 → (True)) ∧ (¬ ((Int32.ofNat L) - (4 : Int32)) < x3 → (vp_in x3 L ∧ ((((xs (x3).toNatClampNeg) &&& (15 : Int32)) = (0 : Int32) → (vp_in (x3 + (1 : Int32)) L ∧ vp_in (x3 + (2 : Int32)) L ∧ mX0_put f0 f1 f2 f4 f5 f6 (xs (x3 + (1 : Int32)).toNatClampNeg) (xs (x3 + (2 : Int32)).toNatClampNeg) (fun r_5 f0_5 f1_5 f2_5 f4_5 f5_5 f6_5 => vp_in (x3 + (1 : Int32)) L ∧ vp_in (x3 + (2 : Int32)) L ∧ mX1_put g1 g2 (xs (x3 + (1 : Int32)).toNatClampNeg) (xs (x3 + (2 : Int32)).toNatClampNeg) (fun r_8 g1_8 g2_8 => ((r_5 = r_8 → (mLaw L xs n18 f0_5 f1_5 f2_5 f3 f4_5 f5_5 f6_5 f7 g0 g1_8 g2_8 (x3 + (4 : Int32)))) ∧ (¬ r_5 = r_8 → (False))))))) ∧ (((xs (x3).toNatClampNeg) &&& (15 : Int32)) = (1 : Int32) → (vp_in (x3 + (1 : Int32)) L ∧ mX0_remove f0 f1 f2 f4 f5 f6 (xs (x3 + (1 : Int32)).toNatClampNeg) (fun r_11 f0_11 f1_11 f2_11 f4_11 f5_11 f6_11 => vp_in (x3 + (1 : Int32)) L ∧ mX1_remove g1 (xs (x3 + (1 : Int32)).toNatClampNeg) (fun r_13 g1_13 => ((r_11 = r_13 → (mLaw L xs n18 f0_11 f1_11 f2_11 f3 f4_11 f5_11 f6_11 f7 g0 g1_13 g2 (x3 + (4 : Int32)))) ∧ (¬ r_11 = r_13 → (False))))))) ∧ (((xs (x3).toNatClampNeg) &&& (15 : Int32)) = (2 : Int32) → (mX0_commit f2 f3 f4 f5  (fun r_15 f2_15 f3_15 f4_15 f5_15 => mX1_commit g0 g1 g2  (fun r_16 g0_16 g1_16 g2_16 => ((r_15 = r_16 → (mLaw L xs n18 f0 f1 f2_15 f3_15 f4_15 f5_15 f6 f7 g0_16 g1_16 g2_16 (x3 + (4 : Int32)))) ∧ (¬ r_15 = r_16 → (False))))))) ∧ (((xs (x3).toNatClampNeg) &&& (15 : Int32)) = (3 : Int32) → (vp_in (x3 + (1 : Int32)) L ∧ mX0_restore f0 f1 f2 f3 f4 f5 f7 (xs (x3 + (1 : Int32)).toNatClampNeg) (fun r_19 f2_19 f4_19 f5_19 f7_19 => vp_in (x3 + (1 : Int32)) L ∧ mX1_restore g0 g1 g2 (xs (x3 + (1 : Int32)).toNatClampNeg) (fun r_21 g1_21 g2_21 => ((r_19 = r_21 → (mLaw L xs n18 f0 f1 f2_19 f3 f4_19 f5_19 f6 f7_19 g0 g1_21 g2_21 (x3 + (4 : Int32)))) ∧ (¬ r_19 = r_21 → (False))))))) ∧ (((xs (x3).toNatClampNeg) &&& (15 : Int32)) = (4 : Int32) → (vp_in (x3 + (1 : Int32)) L ∧ mX0_drop f0 f1 f2 f3 f4 f5 f7 (xs (x3 + (1 : Int32)).toNatClampNeg) (fun r_24 f2_24 f3_24 f4_24 f5_24 f7_24 => vp_in (x3 + (1 : Int32)) L ∧ mX1_drop g0 (xs (x3 + (1 : Int32)).toNatClampNeg) (fun r_26 g0_26 => ((r_24 = r_26 → (mLaw L xs n18 f0 f1 f2_24 f3_24 f4_24 f5_24 f6 f7_24 g0_26 g1 g2 (x3 + (4 : Int32)))) ∧ (¬ r_24 = r_26 → (False))))))) ∧ (((xs (x3).toNatClampNeg) &&& (15 : Int32)) = (5 : Int32) → (vp_in (x3 + (1 : Int32)) L ∧ vp_in (x3 + (2 : Int32)) L ∧ mX0_get f0 f1 f3 f4 (xs (x3 + (1 : Int32)).toNatClampNeg) (xs (x3 + (2 : Int32)).toNatClampNeg) (fun r_30 => vp_in (x3 + (1 : Int32)) L ∧ vp_in (x3 + (2 : Int32)) L ∧ mX1_get g0 g1 g2 (xs (x3 + (1 : Int32)).toNatClampNeg) (xs (x3 + (2 : Int32)).toNatClampNeg) (fun r_33 => ((r_30 = r_33 → (mLaw L xs n18 f0 f1 f2 f3 f4 f5 f6 f7 g0 g1 g2 (x3 + (4 : Int32)))) ∧ (¬ r_30 = r_33 → (False))))))) ∧ (((xs (x3).toNatClampNeg) &&& (15 : Int32)) = (6 : Int32) → (vp_in (x3 + (1 : Int32)) L ∧ vp_in (x3 + (2 : Int32)) L ∧ mX0_has f0 f1 f3 f4 (xs (x3 + (1 : Int32)).toNatClampNeg) (xs (x3 + (2 : Int32)).toNatClampNeg) (fun r_37 => vp_in (x3 + (1 : Int32)) L ∧ vp_in (x3 + (2 : Int32)) L ∧ mX1_has g0 g1 (xs (x3 + (1 : Int32)).toNatClampNeg) (xs (x3 + (2 : Int32)).toNatClampNeg) (fun r_40 => ((r_37 = r_40 → (mLaw L xs n18 f0 f1 f2 f3 f4 f5 f6 f7 g0 g1 g2 (x3 + (4 : Int32)))) ∧ (¬ r_37 = r_40 → (False))))))) ∧ (((xs (x3).toNatClampNeg) &&& (15 : Int32)) = (7 : Int32) → (vp_in (x3 + (1 : Int32)) L ∧ mX0_size f3 f5 (xs (x3 + (1 : Int32)).toNatClampNeg) (fun r_43 => vp_in (x3 + (1 : Int32)) L ∧ mX1_size g0 g1 (xs (x3 + (1 : Int32)).toNatClampNeg) (fun r_45 => ((r_43 = r_45 → (mLaw L xs n18 f0 f1 f2 f3 f4 f5 f6 f7 g0 g1 g2 (x3 + (4 : Int32)))) ∧ (¬ r_43 = r_45 → (False))))))) ∧ (((xs (x3).toNatClampNeg) &&& (15 : Int32)) = (8 : Int32) → (vp_in (x3 + (1 : Int32)) L ∧ vp_in (x3 + (2 : Int32)) L ∧ mX0_next f0 f1 f3 f4 (xs (x3 + (1 : Int32)).toNatClampNeg) (xs (x3 + (2 : Int32)).toNatClampNeg) (fun r_49 => vp_in (x3 + (1 : Int32)) L ∧ vp_in (x3 + (2 : Int32)) L ∧ mX1_next g0 g1 (xs (x3 + (1 : Int32)).toNatClampNeg) (xs (x3 + (2 : Int32)).toNatClampNeg) (fun r_52 => ((r_49 = r_52 → (mLaw L xs n18 f0 f1 f2 f3 f4 f5 f6 f7 g0 g1 g2 (x3 + (4 : Int32)))) ∧ (¬ r_49 = r_52 → (False))))))) ∧ (((xs (x3).toNatClampNeg) &&& (15 : Int32)) = (9 : Int32) → (vp_in (x3 + (1 : Int32)) L ∧ vp_in (x3 + (2 : Int32)) L ∧ vp_in (x3 + (3 : Int32)) L ∧ mX0_nextChange f0 f1 f3 f4 (xs (x3 + (1 : Int32)).toNatClampNeg) (xs (x3 + (2 : Int32)).toNatClampNeg) (xs (x3 + (3 : Int32)).toNatClampNeg) (fun r_57 => vp_in (x3 + (1 : Int32)) L ∧ vp_in (x3 + (2 : Int32)) L ∧ vp_in (x3 + (3 : Int32)) L ∧ mX1_nextChange g0 g1 g2 (xs (x3 + (1 : Int32)).toNatClampNeg) (xs (x3 + (2 : Int32)).toNatClampNeg) (xs (x3 + (3 : Int32)).toNatClampNeg) (fun r_61 => ((r_57 = r_61 → (mLaw L xs n18 f0 f1 f2 f3 f4 f5 f6 f7 g0 g1 g2 (x3 + (4 : Int32)))) ∧ (¬ r_57 = r_61 → (False))))))) ∧ (((xs (x3).toNatClampNeg) &&& (15 : Int32)) = (10 : Int32) → (vp_in (x3 + (1 : Int32)) L ∧ vp_in (x3 + (2 : Int32)) L ∧ mX0_changes f0 f1 f3 f4 (xs (x3 + (1 : Int32)).toNatClampNeg) (xs (x3 + (2 : Int32)).toNatClampNeg) (fun r_65 => vp_in (x3 + (1 : Int32)) L ∧ vp_in (x3 + (2 : Int32)) L ∧ mX1_changes g0 g1 g2 (xs (x3 + (1 : Int32)).toNatClampNeg) (xs (x3 + (2 : Int32)).toNatClampNeg) (fun r_68 => ((r_65 = r_68 → (mLaw L xs n18 f0 f1 f2 f3 f4 f5 f6 f7 g0 g1 g2 (x3 + (4 : Int32)))) ∧ (¬ r_65 = r_68 → (False))))))) ∧ (¬ ((xs (x3).toNatClampNeg) &&& (15 : Int32)) = (0 : Int32) → ¬ ((xs (x3).toNatClampNeg) &&& (15 : Int32)) = (1 : Int32) → ¬ ((xs (x3).toNatClampNeg) &&& (15 : Int32)) = (2 : Int32) → ¬ ((xs (x3).toNatClampNeg) &&& (15 : Int32)) = (3 : Int32) → ¬ ((xs (x3).toNatClampNeg) &&& (15 : Int32)) = (4 : Int32) → ¬ ((xs (x3).toNatClampNeg) &&& (15 : Int32)) = (5 : Int32) → ¬ ((xs (x3).toNatClampNeg) &&& (15 : Int32)) = (6 : Int32) → ¬ ((xs (x3).toNatClampNeg) &&& (15 : Int32)) = (7 : Int32) → ¬ ((xs (x3).toNatClampNeg) &&& (15 : Int32)) = (8 : Int32) → ¬ ((xs (x3).toNatClampNeg) &&& (15 : Int32)) = (9 : Int32) → ¬ ((xs (x3).toNatClampNeg) &&& (15 : Int32)) = (10 : Int32) → (mLaw L xs n18 f0 f1 f2 f3 f4 f5 f6 f7 g0 g1 g2 (x3 + (4 : Int32))))))))
end
section
theorem sn_out {y : Int32} (h0 : ¬ y = 0) (h1 : ¬ y = 1) (h2 : ¬ y = 2) (h3 : ¬ y = 3) (h4 : ¬ y = 4) (h5 : ¬ y = 5) (h6 : ¬ y = 6) (h7 : ¬ y = 7) (h8 : ¬ y = 8) (h9 : ¬ y = 9) (h10 : ¬ y = 10) : y.toInt < 0 ∨ 10 < y.toInt := by
  have k0 := lv_neT (a := 0) h0 rfl
  have k1 := lv_neT (a := 1) h1 rfl
  have k2 := lv_neT (a := 2) h2 rfl
  have k3 := lv_neT (a := 3) h3 rfl
  have k4 := lv_neT (a := 4) h4 rfl
  have k5 := lv_neT (a := 5) h5 rfl
  have k6 := lv_neT (a := 6) h6 rfl
  have k7 := lv_neT (a := 7) h7 rfl
  have k8 := lv_neT (a := 8) h8 rfl
  have k9 := lv_neT (a := 9) h9 rfl
  have k10 := lv_neT (a := 10) h10 rfl
  omega
set_option maxHeartbeats 8000000 in
set_option maxRecDepth 100000 in
theorem wLaw {p : Program} {l : Launch} {e : Env} {s : State} {m : MethodId} {below : List Frame} {meth : Method} {c : Code} {dC : Nat → ClassId} {dI : Nat → Nat → Nat} {h0 h1 : Nat} {ad ad1 : Nat → Nat} {cs cs1 : Nat → ClassId} {b L : Nat} {xs : Nat → Int32} (C0 : lw_At p s m meth c b L xs) (hK : va_K (dC, dI) sn_cl (sn_tyX0 cs ++ sn_tyX1 cs1) s) : ∀ (n18 : Nat) (f0 f1 f2 f3 f4 f5 f6 f7 g0 g1 g2 : Nat → Int32) (x3 : Int32), mLaw L xs n18 f0 f1 f2 f3 f4 f5 f6 f7 g0 g1 g2 x3 → ∀ (H : Heap) (locs : List Loc), va_P (dC, dI) sn_cl (sn_pwX0 h0 ad cs f0 f1 f2 f3 f4 f5 f6 f7 ++ sn_pwX1 h1 ad1 cs1 g0 g1 g2) H → va_D (fun q : Nat => s.heap.size ≤ q) (sn_pwX0 h0 ad cs f0 f1 f2 f3 f4 f5 f6 f7 ++ sn_pwX1 h1 ad1 cs1 g0 g1 g2) → va_S (fun q : Nat => s.heap.size ≤ q) s.heap H locs → ∀ (ls : Array Slot), lv_has ls 4 [(0, .ref b), (1, .ref h0), (2, .ref h1), (3, .int x3)] → W p l e room_1 s m #[Value.ref b] below meth c H locs 13 6559 (lw_Z below #[Value.ref b] s) (F0 m 18 ls []) := by
  obtain ⟨hx, hb, hr, hml, hown, hts, hX, hbl, hlocks, hgv⟩ := id C0
  have hta : ∀ w ∈ lw_all, w.before #[Value.ref b] s = true := fun w h => hts w (lw_all_tbl h)
  have hA : ∀ q : Nat, s.heap.size ≤ q → (fun q : Nat => s.heap.size ≤ q) q := fun _ h => h
  have hbA : ¬ (fun q : Nat => s.heap.size ≤ q) b := Nat.not_le.mpr hbl
  intro n18
  induction n18 with
  | zero =>
    intro f0 f1 f2 f3 f4 f5 f6 f7 g0 g1 g2 x3 hm
    unfold mLaw at hm
    exact False.elim hm
  | succ n18 ih18 =>
    intro f0 f1 f2 f3 f4 f5 f6 f7 g0 g1 g2 x3 hm H locs hP hD hS ls hl
    unfold mLaw at hm
    refine lv_iload_n hx hb dL_law_18 rfl (lv_at hl 3 rfl) ?_
    refine lv_aload_n hx hb dL_law_19 rfl (lv_at hl 0 rfl) ?_
    refine va_slen hx hb hX hbl hbA hS dL_law_20 ?_
    refine lv_iconst (v := (4 : Int32)) hx hb dL_law_21 (by decide) ?_
    refine lv_isub hx hb dL_law_22 ?_
    refine lv_icmp_gt (tgt := 411) hx hb dL_law_23 (by decide) (fun c_1 => ?_) (fun c_1 => ?_)
    · have hm := hm.1 c_1
      refine lv_iconst (v := (1 : Int32)) hx hb dL_law_411 (by decide) ?_
      refine va_forget (fun q hq => hS.2.2 q hq) ?_
      refine W.widen (k := 600000) (n := 7290000) (Nat.le_of_ble_eq_true rfl) (Nat.le_of_ble_eq_true rfl) ?_
      exact lw_ret hx hb hr hlocks dL_law_412
    · have hm := hm.2 c_1
      refine lv_aload_n hx hb dL_law_26 rfl (lv_at hl 0 rfl) ?_
      refine lv_iload_n hx hb dL_law_27 rfl (lv_at hl 3 rfl) ?_
      obtain ⟨h_2, hm⟩ := hm
      refine va_sld hx hb hX hbl hbA hS h_2 dL_law_28 ?_
      refine lv_bipush (v := (15 : Int32)) hx hb dL_law_29 (by decide) ?_
      refine lv_iand hx hb dL_law_31 ?_
      refine lv_topi (fun yv ey => ?_)
      by_cases hv0 : yv = (0 : Int32)
      · subst hv0
        have hm := hm.1 ey.symm
        refine lv_tableIn (off := 60) (tgt := 92) hx hb dL_law_32 (by decide) (by decide) rfl (by decide) ?_
        refine lv_aload_n hx hb dL_law_92 rfl (lv_at hl 1 rfl) ?_
        refine lv_aload_n hx hb dL_law_93 rfl (lv_at hl 0 rfl) ?_
        refine lv_iload_n hx hb dL_law_94 rfl (lv_at hl 3 rfl) ?_
        refine lv_iconst (v := (1 : Int32)) hx hb dL_law_95 (by decide) ?_
        refine lv_iadd hx hb dL_law_96 ?_
        obtain ⟨h_3, hm⟩ := hm
        refine va_sld hx hb hX hbl hbA hS h_3 dL_law_97 ?_
        refine lv_aload_n hx hb dL_law_98 rfl (lv_at hl 0 rfl) ?_
        refine lv_iload_n hx hb dL_law_99 rfl (lv_at hl 3 rfl) ?_
        refine lv_iconst (v := (2 : Int32)) hx hb dL_law_100 (by decide) ?_
        refine lv_iadd hx hb dL_law_101 ?_
        obtain ⟨h_4, hm⟩ := hm
        refine va_sld hx hb hX hbl hbA hS h_4 dL_law_102 ?_
        refine sn_clT (S0 := (Nat → Int32) × (Nat → Int32) × (Nat → Int32) × (Nat → Int32) × (Nat → Int32) × (Nat → Int32)) (af0 := (fun u => u.1)) (af1 := (fun u => u.2.1)) (af2 := (fun u => u.2.2.1)) (af3 := (fun _ => f3)) (af4 := (fun u => u.2.2.2.1)) (af5 := (fun u => u.2.2.2.2.1)) (af6 := (fun u => u.2.2.2.2.2)) (af7 := (fun _ => f7)) (As := [.int (xs (x3 + (1 : Int32)).toNatClampNeg), .int (xs (x3 + (2 : Int32)).toNatClampNeg)]) (rest := []) ⟨hx, hb, hml, hown, hta⟩ (kX0_put l dC dI h0 ad cs H.size f0 f1 f2 f3 f4 f5 f6 f7 (xs (x3 + (1 : Int32)).toNatClampNeg) (xs (x3 + (2 : Int32)).toNatClampNeg) _ hm) (cwV 2 hta (lw_V q56 q57 q58 q19 q59) rfl rfl rfl (by decide +kernel) ⟨Nat.le_of_ble_eq_true rfl, Nat.le_of_ble_eq_true rfl⟩) hP hD hK hS hA rfl hl.1 rfl (lv_room (Nat.le_of_ble_eq_true rfl)) dL_law_103 ⟨Nat.le_of_ble_eq_true rfl, Nat.le_of_ble_eq_true rfl⟩ (fun r_5 u H locs hm hP hD hS => ?_)
        obtain ⟨f0_5, f1_5, f2_5, f4_5, f5_5, f6_5⟩ := u
        refine lv_aload_n hx hb dL_law_106 rfl (lv_at hl 2 rfl) ?_
        refine lv_aload_n hx hb dL_law_107 rfl (lv_at hl 0 rfl) ?_
        refine lv_iload_n hx hb dL_law_108 rfl (lv_at hl 3 rfl) ?_
        refine lv_iconst (v := (1 : Int32)) hx hb dL_law_109 (by decide) ?_
        refine lv_iadd hx hb dL_law_110 ?_
        obtain ⟨h_6, hm⟩ := hm
        refine va_sld hx hb hX hbl hbA hS h_6 dL_law_111 ?_
        refine lv_aload_n hx hb dL_law_112 rfl (lv_at hl 0 rfl) ?_
        refine lv_iload_n hx hb dL_law_113 rfl (lv_at hl 3 rfl) ?_
        refine lv_iconst (v := (2 : Int32)) hx hb dL_law_114 (by decide) ?_
        refine lv_iadd hx hb dL_law_115 ?_
        obtain ⟨h_7, hm⟩ := hm
        refine va_sld hx hb hX hbl hbA hS h_7 dL_law_116 ?_
        refine sn_clM (S0 := (Nat → Int32) × (Nat → Int32)) (ag0 := (fun _ => g0)) (ag1 := (fun u => u.1)) (ag2 := (fun u => u.2)) (As := [.int (xs (x3 + (1 : Int32)).toNatClampNeg), .int (xs (x3 + (2 : Int32)).toNatClampNeg)]) (rest := [.int r_5]) ⟨hx, hb, hml, hown, hta⟩ (kX1_put l dC dI h1 ad1 cs1 H.size g0 g1 g2 (xs (x3 + (1 : Int32)).toNatClampNeg) (xs (x3 + (2 : Int32)).toNatClampNeg) _ hm) (cwV 2 hta (lw_V q175 q176 q177 q20 q178) rfl rfl rfl (by decide +kernel) ⟨Nat.le_of_ble_eq_true rfl, Nat.le_of_ble_eq_true rfl⟩) hP hD hK hS hA rfl hl.1 rfl (lv_room (Nat.le_of_ble_eq_true rfl)) dL_law_117 ⟨Nat.le_of_ble_eq_true rfl, Nat.le_of_ble_eq_true rfl⟩ (fun r_8 u H locs hm hP hD hS => ?_)
        obtain ⟨g1_8, g2_8⟩ := u
        refine lv_icmp_eq (tgt := 405) hx hb dL_law_120 (by decide) (fun c_9 => ?_) (fun c_9 => ?_)
        · have hm := hm.1 c_9
          refine lv_iinc (v := (x3 + (4 : Int32))) (lv' := [(3, .int (x3 + (4 : Int32))), (0, .ref b), (1, .ref h0), (2, .ref h1)]) hx hb dL_law_405 hl (k := 3) rfl rfl (by decide) rfl (fun ls hl => ?_)
          refine lv_goto (tgt := 18) hx hb dL_law_408 (by decide) ?_
          exact ih18 f0_5 f1_5 f2_5 f3 f4_5 f5_5 f6_5 f7 g0 g1_8 g2_8 (x3 + (4 : Int32)) hm H locs hP hD hS ls (lv_sub hl [1, 2, 3, 0] rfl)
        · have hm := hm.2 c_9
          refine lv_iconst (v := (0 : Int32)) hx hb dL_law_123 (by decide) ?_
          exact False.elim hm
      by_cases hv1 : yv = (1 : Int32)
      · subst hv1
        have hm := hm.2.1 ey.symm
        refine lv_tableIn (off := 93) (tgt := 125) hx hb dL_law_32 (by decide) (by decide) rfl (by decide) ?_
        refine lv_aload_n hx hb dL_law_125 rfl (lv_at hl 1 rfl) ?_
        refine lv_aload_n hx hb dL_law_126 rfl (lv_at hl 0 rfl) ?_
        refine lv_iload_n hx hb dL_law_127 rfl (lv_at hl 3 rfl) ?_
        refine lv_iconst (v := (1 : Int32)) hx hb dL_law_128 (by decide) ?_
        refine lv_iadd hx hb dL_law_129 ?_
        obtain ⟨h_10, hm⟩ := hm
        refine va_sld hx hb hX hbl hbA hS h_10 dL_law_130 ?_
        refine sn_clT (S0 := (Nat → Int32) × (Nat → Int32) × (Nat → Int32) × (Nat → Int32) × (Nat → Int32) × (Nat → Int32)) (af0 := (fun u => u.1)) (af1 := (fun u => u.2.1)) (af2 := (fun u => u.2.2.1)) (af3 := (fun _ => f3)) (af4 := (fun u => u.2.2.2.1)) (af5 := (fun u => u.2.2.2.2.1)) (af6 := (fun u => u.2.2.2.2.2)) (af7 := (fun _ => f7)) (As := [.int (xs (x3 + (1 : Int32)).toNatClampNeg)]) (rest := []) ⟨hx, hb, hml, hown, hta⟩ (kX0_remove l dC dI h0 ad cs H.size f0 f1 f2 f3 f4 f5 f6 f7 (xs (x3 + (1 : Int32)).toNatClampNeg) _ hm) (cwV 1 hta (lw_V q87 q88 q89 q19 q90) rfl rfl rfl (by decide +kernel) ⟨Nat.le_of_ble_eq_true rfl, Nat.le_of_ble_eq_true rfl⟩) hP hD hK hS hA rfl hl.1 rfl (lv_room (Nat.le_of_ble_eq_true rfl)) dL_law_131 ⟨Nat.le_of_ble_eq_true rfl, Nat.le_of_ble_eq_true rfl⟩ (fun r_11 u H locs hm hP hD hS => ?_)
        obtain ⟨f0_11, f1_11, f2_11, f4_11, f5_11, f6_11⟩ := u
        refine lv_aload_n hx hb dL_law_134 rfl (lv_at hl 2 rfl) ?_
        refine lv_aload_n hx hb dL_law_135 rfl (lv_at hl 0 rfl) ?_
        refine lv_iload_n hx hb dL_law_136 rfl (lv_at hl 3 rfl) ?_
        refine lv_iconst (v := (1 : Int32)) hx hb dL_law_137 (by decide) ?_
        refine lv_iadd hx hb dL_law_138 ?_
        obtain ⟨h_12, hm⟩ := hm
        refine va_sld hx hb hX hbl hbA hS h_12 dL_law_139 ?_
        refine sn_clM (S0 := (Nat → Int32)) (ag0 := (fun _ => g0)) (ag1 := (fun u => u)) (ag2 := (fun _ => g2)) (As := [.int (xs (x3 + (1 : Int32)).toNatClampNeg)]) (rest := [.int r_11]) ⟨hx, hb, hml, hown, hta⟩ (kX1_remove l dC dI h1 ad1 cs1 H.size g0 g1 g2 (xs (x3 + (1 : Int32)).toNatClampNeg) _ hm) (cwV 1 hta (lw_V q186 q187 q188 q20 q189) rfl rfl rfl (by decide +kernel) ⟨Nat.le_of_ble_eq_true rfl, Nat.le_of_ble_eq_true rfl⟩) hP hD hK hS hA rfl hl.1 rfl (lv_room (Nat.le_of_ble_eq_true rfl)) dL_law_140 ⟨Nat.le_of_ble_eq_true rfl, Nat.le_of_ble_eq_true rfl⟩ (fun r_13 g1_13 H locs hm hP hD hS => ?_)
        refine lv_icmp_eq (tgt := 405) hx hb dL_law_143 (by decide) (fun c_14 => ?_) (fun c_14 => ?_)
        · have hm := hm.1 c_14
          refine lv_iinc (v := (x3 + (4 : Int32))) (lv' := [(3, .int (x3 + (4 : Int32))), (0, .ref b), (1, .ref h0), (2, .ref h1)]) hx hb dL_law_405 hl (k := 3) rfl rfl (by decide) rfl (fun ls hl => ?_)
          refine lv_goto (tgt := 18) hx hb dL_law_408 (by decide) ?_
          exact ih18 f0_11 f1_11 f2_11 f3 f4_11 f5_11 f6_11 f7 g0 g1_13 g2 (x3 + (4 : Int32)) hm H locs hP hD hS ls (lv_sub hl [1, 2, 3, 0] rfl)
        · have hm := hm.2 c_14
          refine lv_iconst (v := (0 : Int32)) hx hb dL_law_146 (by decide) ?_
          exact False.elim hm
      by_cases hv2 : yv = (2 : Int32)
      · subst hv2
        have hm := hm.2.2.1 ey.symm
        refine lv_tableIn (off := 116) (tgt := 148) hx hb dL_law_32 (by decide) (by decide) rfl (by decide) ?_
        refine lv_aload_n hx hb dL_law_148 rfl (lv_at hl 1 rfl) ?_
        refine sn_clT (S0 := (Nat → Int32) × (Nat → Int32) × (Nat → Int32) × (Nat → Int32)) (af0 := (fun _ => f0)) (af1 := (fun _ => f1)) (af2 := (fun u => u.1)) (af3 := (fun u => u.2.1)) (af4 := (fun u => u.2.2.1)) (af5 := (fun u => u.2.2.2)) (af6 := (fun _ => f6)) (af7 := (fun _ => f7)) (As := []) (rest := []) ⟨hx, hb, hml, hown, hta⟩ (kX0_commit l dC dI h0 ad cs H.size f0 f1 f2 f3 f4 f5 f6 f7  _ hm) (cwV 0 hta (lw_V q99 q100 q101 q19 q102) rfl rfl rfl (by decide +kernel) ⟨Nat.le_of_ble_eq_true rfl, Nat.le_of_ble_eq_true rfl⟩) hP hD hK hS hA rfl hl.1 rfl (lv_room (Nat.le_of_ble_eq_true rfl)) dL_law_149 ⟨Nat.le_of_ble_eq_true rfl, Nat.le_of_ble_eq_true rfl⟩ (fun r_15 u H locs hm hP hD hS => ?_)
        obtain ⟨f2_15, f3_15, f4_15, f5_15⟩ := u
        refine lv_aload_n hx hb dL_law_152 rfl (lv_at hl 2 rfl) ?_
        refine sn_clM (S0 := (Nat → Int32) × (Nat → Int32) × (Nat → Int32)) (ag0 := (fun u => u.1)) (ag1 := (fun u => u.2.1)) (ag2 := (fun u => u.2.2)) (As := []) (rest := [.int r_15]) ⟨hx, hb, hml, hown, hta⟩ (kX1_commit l dC dI h1 ad1 cs1 H.size g0 g1 g2  _ hm) (cwV 0 hta (lw_V q190 q191 q192 q20 q193) rfl rfl rfl (by decide +kernel) ⟨Nat.le_of_ble_eq_true rfl, Nat.le_of_ble_eq_true rfl⟩) hP hD hK hS hA rfl hl.1 rfl (lv_room (Nat.le_of_ble_eq_true rfl)) dL_law_153 ⟨Nat.le_of_ble_eq_true rfl, Nat.le_of_ble_eq_true rfl⟩ (fun r_16 u H locs hm hP hD hS => ?_)
        obtain ⟨g0_16, g1_16, g2_16⟩ := u
        refine lv_icmp_eq (tgt := 405) hx hb dL_law_156 (by decide) (fun c_17 => ?_) (fun c_17 => ?_)
        · have hm := hm.1 c_17
          refine lv_iinc (v := (x3 + (4 : Int32))) (lv' := [(3, .int (x3 + (4 : Int32))), (0, .ref b), (1, .ref h0), (2, .ref h1)]) hx hb dL_law_405 hl (k := 3) rfl rfl (by decide) rfl (fun ls hl => ?_)
          refine lv_goto (tgt := 18) hx hb dL_law_408 (by decide) ?_
          exact ih18 f0 f1 f2_15 f3_15 f4_15 f5_15 f6 f7 g0_16 g1_16 g2_16 (x3 + (4 : Int32)) hm H locs hP hD hS ls (lv_sub hl [1, 2, 3, 0] rfl)
        · have hm := hm.2 c_17
          refine lv_iconst (v := (0 : Int32)) hx hb dL_law_159 (by decide) ?_
          exact False.elim hm
      by_cases hv3 : yv = (3 : Int32)
      · subst hv3
        have hm := hm.2.2.2.1 ey.symm
        refine lv_tableIn (off := 129) (tgt := 161) hx hb dL_law_32 (by decide) (by decide) rfl (by decide) ?_
        refine lv_aload_n hx hb dL_law_161 rfl (lv_at hl 1 rfl) ?_
        refine lv_aload_n hx hb dL_law_162 rfl (lv_at hl 0 rfl) ?_
        refine lv_iload_n hx hb dL_law_163 rfl (lv_at hl 3 rfl) ?_
        refine lv_iconst (v := (1 : Int32)) hx hb dL_law_164 (by decide) ?_
        refine lv_iadd hx hb dL_law_165 ?_
        obtain ⟨h_18, hm⟩ := hm
        refine va_sld hx hb hX hbl hbA hS h_18 dL_law_166 ?_
        refine sn_clT (S0 := (Nat → Int32) × (Nat → Int32) × (Nat → Int32) × (Nat → Int32)) (af0 := (fun _ => f0)) (af1 := (fun _ => f1)) (af2 := (fun u => u.1)) (af3 := (fun _ => f3)) (af4 := (fun u => u.2.1)) (af5 := (fun u => u.2.2.1)) (af6 := (fun _ => f6)) (af7 := (fun u => u.2.2.2)) (As := [.int (xs (x3 + (1 : Int32)).toNatClampNeg)]) (rest := []) ⟨hx, hb, hml, hown, hta⟩ (kX0_restore l dC dI h0 ad cs H.size f0 f1 f2 f3 f4 f5 f6 f7 (xs (x3 + (1 : Int32)).toNatClampNeg) _ hm) (cwV 1 hta (lw_V q107 q108 q109 q19 q110) rfl rfl rfl (by decide +kernel) ⟨Nat.le_of_ble_eq_true rfl, Nat.le_of_ble_eq_true rfl⟩) hP hD hK hS hA rfl hl.1 rfl (lv_room (Nat.le_of_ble_eq_true rfl)) dL_law_167 ⟨Nat.le_of_ble_eq_true rfl, Nat.le_of_ble_eq_true rfl⟩ (fun r_19 u H locs hm hP hD hS => ?_)
        obtain ⟨f2_19, f4_19, f5_19, f7_19⟩ := u
        refine lv_aload_n hx hb dL_law_170 rfl (lv_at hl 2 rfl) ?_
        refine lv_aload_n hx hb dL_law_171 rfl (lv_at hl 0 rfl) ?_
        refine lv_iload_n hx hb dL_law_172 rfl (lv_at hl 3 rfl) ?_
        refine lv_iconst (v := (1 : Int32)) hx hb dL_law_173 (by decide) ?_
        refine lv_iadd hx hb dL_law_174 ?_
        obtain ⟨h_20, hm⟩ := hm
        refine va_sld hx hb hX hbl hbA hS h_20 dL_law_175 ?_
        refine sn_clM (S0 := (Nat → Int32) × (Nat → Int32)) (ag0 := (fun _ => g0)) (ag1 := (fun u => u.1)) (ag2 := (fun u => u.2)) (As := [.int (xs (x3 + (1 : Int32)).toNatClampNeg)]) (rest := [.int r_19]) ⟨hx, hb, hml, hown, hta⟩ (kX1_restore l dC dI h1 ad1 cs1 H.size g0 g1 g2 (xs (x3 + (1 : Int32)).toNatClampNeg) _ hm) (cwV 1 hta (lw_V q198 q199 q200 q20 q201) rfl rfl rfl (by decide +kernel) ⟨Nat.le_of_ble_eq_true rfl, Nat.le_of_ble_eq_true rfl⟩) hP hD hK hS hA rfl hl.1 rfl (lv_room (Nat.le_of_ble_eq_true rfl)) dL_law_176 ⟨Nat.le_of_ble_eq_true rfl, Nat.le_of_ble_eq_true rfl⟩ (fun r_21 u H locs hm hP hD hS => ?_)
        obtain ⟨g1_21, g2_21⟩ := u
        refine lv_icmp_eq (tgt := 405) hx hb dL_law_179 (by decide) (fun c_22 => ?_) (fun c_22 => ?_)
        · have hm := hm.1 c_22
          refine lv_iinc (v := (x3 + (4 : Int32))) (lv' := [(3, .int (x3 + (4 : Int32))), (0, .ref b), (1, .ref h0), (2, .ref h1)]) hx hb dL_law_405 hl (k := 3) rfl rfl (by decide) rfl (fun ls hl => ?_)
          refine lv_goto (tgt := 18) hx hb dL_law_408 (by decide) ?_
          exact ih18 f0 f1 f2_19 f3 f4_19 f5_19 f6 f7_19 g0 g1_21 g2_21 (x3 + (4 : Int32)) hm H locs hP hD hS ls (lv_sub hl [1, 2, 3, 0] rfl)
        · have hm := hm.2 c_22
          refine lv_iconst (v := (0 : Int32)) hx hb dL_law_182 (by decide) ?_
          exact False.elim hm
      by_cases hv4 : yv = (4 : Int32)
      · subst hv4
        have hm := hm.2.2.2.2.1 ey.symm
        refine lv_tableIn (off := 152) (tgt := 184) hx hb dL_law_32 (by decide) (by decide) rfl (by decide) ?_
        refine lv_aload_n hx hb dL_law_184 rfl (lv_at hl 1 rfl) ?_
        refine lv_aload_n hx hb dL_law_185 rfl (lv_at hl 0 rfl) ?_
        refine lv_iload_n hx hb dL_law_186 rfl (lv_at hl 3 rfl) ?_
        refine lv_iconst (v := (1 : Int32)) hx hb dL_law_187 (by decide) ?_
        refine lv_iadd hx hb dL_law_188 ?_
        obtain ⟨h_23, hm⟩ := hm
        refine va_sld hx hb hX hbl hbA hS h_23 dL_law_189 ?_
        refine sn_clT (S0 := (Nat → Int32) × (Nat → Int32) × (Nat → Int32) × (Nat → Int32) × (Nat → Int32)) (af0 := (fun _ => f0)) (af1 := (fun _ => f1)) (af2 := (fun u => u.1)) (af3 := (fun u => u.2.1)) (af4 := (fun u => u.2.2.1)) (af5 := (fun u => u.2.2.2.1)) (af6 := (fun _ => f6)) (af7 := (fun u => u.2.2.2.2)) (As := [.int (xs (x3 + (1 : Int32)).toNatClampNeg)]) (rest := []) ⟨hx, hb, hml, hown, hta⟩ (kX0_drop l dC dI h0 ad cs H.size f0 f1 f2 f3 f4 f5 f6 f7 (xs (x3 + (1 : Int32)).toNatClampNeg) _ hm) (cwV 1 hta (lw_V q115 q116 q117 q19 q118) rfl rfl rfl (by decide +kernel) ⟨Nat.le_of_ble_eq_true rfl, Nat.le_of_ble_eq_true rfl⟩) hP hD hK hS hA rfl hl.1 rfl (lv_room (Nat.le_of_ble_eq_true rfl)) dL_law_190 ⟨Nat.le_of_ble_eq_true rfl, Nat.le_of_ble_eq_true rfl⟩ (fun r_24 u H locs hm hP hD hS => ?_)
        obtain ⟨f2_24, f3_24, f4_24, f5_24, f7_24⟩ := u
        refine lv_aload_n hx hb dL_law_193 rfl (lv_at hl 2 rfl) ?_
        refine lv_aload_n hx hb dL_law_194 rfl (lv_at hl 0 rfl) ?_
        refine lv_iload_n hx hb dL_law_195 rfl (lv_at hl 3 rfl) ?_
        refine lv_iconst (v := (1 : Int32)) hx hb dL_law_196 (by decide) ?_
        refine lv_iadd hx hb dL_law_197 ?_
        obtain ⟨h_25, hm⟩ := hm
        refine va_sld hx hb hX hbl hbA hS h_25 dL_law_198 ?_
        refine sn_clM (S0 := (Nat → Int32)) (ag0 := (fun u => u)) (ag1 := (fun _ => g1)) (ag2 := (fun _ => g2)) (As := [.int (xs (x3 + (1 : Int32)).toNatClampNeg)]) (rest := [.int r_24]) ⟨hx, hb, hml, hown, hta⟩ (kX1_drop l dC dI h1 ad1 cs1 H.size g0 g1 g2 (xs (x3 + (1 : Int32)).toNatClampNeg) _ hm) (cwV 1 hta (lw_V q206 q207 q208 q20 q209) rfl rfl rfl (by decide +kernel) ⟨Nat.le_of_ble_eq_true rfl, Nat.le_of_ble_eq_true rfl⟩) hP hD hK hS hA rfl hl.1 rfl (lv_room (Nat.le_of_ble_eq_true rfl)) dL_law_199 ⟨Nat.le_of_ble_eq_true rfl, Nat.le_of_ble_eq_true rfl⟩ (fun r_26 g0_26 H locs hm hP hD hS => ?_)
        refine lv_icmp_eq (tgt := 405) hx hb dL_law_202 (by decide) (fun c_27 => ?_) (fun c_27 => ?_)
        · have hm := hm.1 c_27
          refine lv_iinc (v := (x3 + (4 : Int32))) (lv' := [(3, .int (x3 + (4 : Int32))), (0, .ref b), (1, .ref h0), (2, .ref h1)]) hx hb dL_law_405 hl (k := 3) rfl rfl (by decide) rfl (fun ls hl => ?_)
          refine lv_goto (tgt := 18) hx hb dL_law_408 (by decide) ?_
          exact ih18 f0 f1 f2_24 f3_24 f4_24 f5_24 f6 f7_24 g0_26 g1 g2 (x3 + (4 : Int32)) hm H locs hP hD hS ls (lv_sub hl [1, 2, 3, 0] rfl)
        · have hm := hm.2 c_27
          refine lv_iconst (v := (0 : Int32)) hx hb dL_law_205 (by decide) ?_
          exact False.elim hm
      by_cases hv5 : yv = (5 : Int32)
      · subst hv5
        have hm := hm.2.2.2.2.2.1 ey.symm
        refine lv_tableIn (off := 175) (tgt := 207) hx hb dL_law_32 (by decide) (by decide) rfl (by decide) ?_
        refine lv_aload_n hx hb dL_law_207 rfl (lv_at hl 1 rfl) ?_
        refine lv_aload_n hx hb dL_law_208 rfl (lv_at hl 0 rfl) ?_
        refine lv_iload_n hx hb dL_law_209 rfl (lv_at hl 3 rfl) ?_
        refine lv_iconst (v := (1 : Int32)) hx hb dL_law_210 (by decide) ?_
        refine lv_iadd hx hb dL_law_211 ?_
        obtain ⟨h_28, hm⟩ := hm
        refine va_sld hx hb hX hbl hbA hS h_28 dL_law_212 ?_
        refine lv_aload_n hx hb dL_law_213 rfl (lv_at hl 0 rfl) ?_
        refine lv_iload_n hx hb dL_law_214 rfl (lv_at hl 3 rfl) ?_
        refine lv_iconst (v := (2 : Int32)) hx hb dL_law_215 (by decide) ?_
        refine lv_iadd hx hb dL_law_216 ?_
        obtain ⟨h_29, hm⟩ := hm
        refine va_sld hx hb hX hbl hbA hS h_29 dL_law_217 ?_
        refine sn_clT (S0 := Unit) (af0 := (fun _ => f0)) (af1 := (fun _ => f1)) (af2 := (fun _ => f2)) (af3 := (fun _ => f3)) (af4 := (fun _ => f4)) (af5 := (fun _ => f5)) (af6 := (fun _ => f6)) (af7 := (fun _ => f7)) (As := [.int (xs (x3 + (1 : Int32)).toNatClampNeg), .int (xs (x3 + (2 : Int32)).toNatClampNeg)]) (rest := []) ⟨hx, hb, hml, hown, hta⟩ (kX0_get l dC dI h0 ad cs H.size f0 f1 f2 f3 f4 f5 f6 f7 (xs (x3 + (1 : Int32)).toNatClampNeg) (xs (x3 + (2 : Int32)).toNatClampNeg) _ hm) (cwV 2 hta (lw_V q119 q120 q121 q19 q122) rfl rfl rfl (by decide +kernel) ⟨Nat.le_of_ble_eq_true rfl, Nat.le_of_ble_eq_true rfl⟩) hP hD hK hS hA rfl hl.1 rfl (lv_room (Nat.le_of_ble_eq_true rfl)) dL_law_218 ⟨Nat.le_of_ble_eq_true rfl, Nat.le_of_ble_eq_true rfl⟩ (fun r_30 _ H locs hm hP hD hS => ?_)
        refine lv_aload_n hx hb dL_law_221 rfl (lv_at hl 2 rfl) ?_
        refine lv_aload_n hx hb dL_law_222 rfl (lv_at hl 0 rfl) ?_
        refine lv_iload_n hx hb dL_law_223 rfl (lv_at hl 3 rfl) ?_
        refine lv_iconst (v := (1 : Int32)) hx hb dL_law_224 (by decide) ?_
        refine lv_iadd hx hb dL_law_225 ?_
        obtain ⟨h_31, hm⟩ := hm
        refine va_sld hx hb hX hbl hbA hS h_31 dL_law_226 ?_
        refine lv_aload_n hx hb dL_law_227 rfl (lv_at hl 0 rfl) ?_
        refine lv_iload_n hx hb dL_law_228 rfl (lv_at hl 3 rfl) ?_
        refine lv_iconst (v := (2 : Int32)) hx hb dL_law_229 (by decide) ?_
        refine lv_iadd hx hb dL_law_230 ?_
        obtain ⟨h_32, hm⟩ := hm
        refine va_sld hx hb hX hbl hbA hS h_32 dL_law_231 ?_
        refine sn_clM (S0 := Unit) (ag0 := (fun _ => g0)) (ag1 := (fun _ => g1)) (ag2 := (fun _ => g2)) (As := [.int (xs (x3 + (1 : Int32)).toNatClampNeg), .int (xs (x3 + (2 : Int32)).toNatClampNeg)]) (rest := [.int r_30]) ⟨hx, hb, hml, hown, hta⟩ (kX1_get l dC dI h1 ad1 cs1 H.size g0 g1 g2 (xs (x3 + (1 : Int32)).toNatClampNeg) (xs (x3 + (2 : Int32)).toNatClampNeg) _ hm) (cwV 2 hta (lw_V q210 q211 q212 q20 q213) rfl rfl rfl (by decide +kernel) ⟨Nat.le_of_ble_eq_true rfl, Nat.le_of_ble_eq_true rfl⟩) hP hD hK hS hA rfl hl.1 rfl (lv_room (Nat.le_of_ble_eq_true rfl)) dL_law_232 ⟨Nat.le_of_ble_eq_true rfl, Nat.le_of_ble_eq_true rfl⟩ (fun r_33 _ H locs hm hP hD hS => ?_)
        refine lv_icmp_eq (tgt := 405) hx hb dL_law_235 (by decide) (fun c_34 => ?_) (fun c_34 => ?_)
        · have hm := hm.1 c_34
          refine lv_iinc (v := (x3 + (4 : Int32))) (lv' := [(3, .int (x3 + (4 : Int32))), (0, .ref b), (1, .ref h0), (2, .ref h1)]) hx hb dL_law_405 hl (k := 3) rfl rfl (by decide) rfl (fun ls hl => ?_)
          refine lv_goto (tgt := 18) hx hb dL_law_408 (by decide) ?_
          exact ih18 f0 f1 f2 f3 f4 f5 f6 f7 g0 g1 g2 (x3 + (4 : Int32)) hm H locs hP hD hS ls (lv_sub hl [1, 2, 3, 0] rfl)
        · have hm := hm.2 c_34
          refine lv_iconst (v := (0 : Int32)) hx hb dL_law_238 (by decide) ?_
          exact False.elim hm
      by_cases hv6 : yv = (6 : Int32)
      · subst hv6
        have hm := hm.2.2.2.2.2.2.1 ey.symm
        refine lv_tableIn (off := 208) (tgt := 240) hx hb dL_law_32 (by decide) (by decide) rfl (by decide) ?_
        refine lv_aload_n hx hb dL_law_240 rfl (lv_at hl 1 rfl) ?_
        refine lv_aload_n hx hb dL_law_241 rfl (lv_at hl 0 rfl) ?_
        refine lv_iload_n hx hb dL_law_242 rfl (lv_at hl 3 rfl) ?_
        refine lv_iconst (v := (1 : Int32)) hx hb dL_law_243 (by decide) ?_
        refine lv_iadd hx hb dL_law_244 ?_
        obtain ⟨h_35, hm⟩ := hm
        refine va_sld hx hb hX hbl hbA hS h_35 dL_law_245 ?_
        refine lv_aload_n hx hb dL_law_246 rfl (lv_at hl 0 rfl) ?_
        refine lv_iload_n hx hb dL_law_247 rfl (lv_at hl 3 rfl) ?_
        refine lv_iconst (v := (2 : Int32)) hx hb dL_law_248 (by decide) ?_
        refine lv_iadd hx hb dL_law_249 ?_
        obtain ⟨h_36, hm⟩ := hm
        refine va_sld hx hb hX hbl hbA hS h_36 dL_law_250 ?_
        refine sn_clT (S0 := Unit) (af0 := (fun _ => f0)) (af1 := (fun _ => f1)) (af2 := (fun _ => f2)) (af3 := (fun _ => f3)) (af4 := (fun _ => f4)) (af5 := (fun _ => f5)) (af6 := (fun _ => f6)) (af7 := (fun _ => f7)) (As := [.int (xs (x3 + (1 : Int32)).toNatClampNeg), .int (xs (x3 + (2 : Int32)).toNatClampNeg)]) (rest := []) ⟨hx, hb, hml, hown, hta⟩ (kX0_has l dC dI h0 ad cs H.size f0 f1 f2 f3 f4 f5 f6 f7 (xs (x3 + (1 : Int32)).toNatClampNeg) (xs (x3 + (2 : Int32)).toNatClampNeg) _ hm) (cwV 2 hta (lw_V q127 q128 q129 q19 q130) rfl rfl rfl (by decide +kernel) ⟨Nat.le_of_ble_eq_true rfl, Nat.le_of_ble_eq_true rfl⟩) hP hD hK hS hA rfl hl.1 rfl (lv_room (Nat.le_of_ble_eq_true rfl)) dL_law_251 ⟨Nat.le_of_ble_eq_true rfl, Nat.le_of_ble_eq_true rfl⟩ (fun r_37 _ H locs hm hP hD hS => ?_)
        refine lv_aload_n hx hb dL_law_254 rfl (lv_at hl 2 rfl) ?_
        refine lv_aload_n hx hb dL_law_255 rfl (lv_at hl 0 rfl) ?_
        refine lv_iload_n hx hb dL_law_256 rfl (lv_at hl 3 rfl) ?_
        refine lv_iconst (v := (1 : Int32)) hx hb dL_law_257 (by decide) ?_
        refine lv_iadd hx hb dL_law_258 ?_
        obtain ⟨h_38, hm⟩ := hm
        refine va_sld hx hb hX hbl hbA hS h_38 dL_law_259 ?_
        refine lv_aload_n hx hb dL_law_260 rfl (lv_at hl 0 rfl) ?_
        refine lv_iload_n hx hb dL_law_261 rfl (lv_at hl 3 rfl) ?_
        refine lv_iconst (v := (2 : Int32)) hx hb dL_law_262 (by decide) ?_
        refine lv_iadd hx hb dL_law_263 ?_
        obtain ⟨h_39, hm⟩ := hm
        refine va_sld hx hb hX hbl hbA hS h_39 dL_law_264 ?_
        refine sn_clM (S0 := Unit) (ag0 := (fun _ => g0)) (ag1 := (fun _ => g1)) (ag2 := (fun _ => g2)) (As := [.int (xs (x3 + (1 : Int32)).toNatClampNeg), .int (xs (x3 + (2 : Int32)).toNatClampNeg)]) (rest := [.int r_37]) ⟨hx, hb, hml, hown, hta⟩ (kX1_has l dC dI h1 ad1 cs1 H.size g0 g1 g2 (xs (x3 + (1 : Int32)).toNatClampNeg) (xs (x3 + (2 : Int32)).toNatClampNeg) _ hm) (cwV 2 hta (lw_V q218 q219 q220 q20 q221) rfl rfl rfl (by decide +kernel) ⟨Nat.le_of_ble_eq_true rfl, Nat.le_of_ble_eq_true rfl⟩) hP hD hK hS hA rfl hl.1 rfl (lv_room (Nat.le_of_ble_eq_true rfl)) dL_law_265 ⟨Nat.le_of_ble_eq_true rfl, Nat.le_of_ble_eq_true rfl⟩ (fun r_40 _ H locs hm hP hD hS => ?_)
        refine lv_icmp_eq (tgt := 405) hx hb dL_law_268 (by decide) (fun c_41 => ?_) (fun c_41 => ?_)
        · have hm := hm.1 c_41
          refine lv_iinc (v := (x3 + (4 : Int32))) (lv' := [(3, .int (x3 + (4 : Int32))), (0, .ref b), (1, .ref h0), (2, .ref h1)]) hx hb dL_law_405 hl (k := 3) rfl rfl (by decide) rfl (fun ls hl => ?_)
          refine lv_goto (tgt := 18) hx hb dL_law_408 (by decide) ?_
          exact ih18 f0 f1 f2 f3 f4 f5 f6 f7 g0 g1 g2 (x3 + (4 : Int32)) hm H locs hP hD hS ls (lv_sub hl [1, 2, 3, 0] rfl)
        · have hm := hm.2 c_41
          refine lv_iconst (v := (0 : Int32)) hx hb dL_law_271 (by decide) ?_
          exact False.elim hm
      by_cases hv7 : yv = (7 : Int32)
      · subst hv7
        have hm := hm.2.2.2.2.2.2.2.1 ey.symm
        refine lv_tableIn (off := 241) (tgt := 273) hx hb dL_law_32 (by decide) (by decide) rfl (by decide) ?_
        refine lv_aload_n hx hb dL_law_273 rfl (lv_at hl 1 rfl) ?_
        refine lv_aload_n hx hb dL_law_274 rfl (lv_at hl 0 rfl) ?_
        refine lv_iload_n hx hb dL_law_275 rfl (lv_at hl 3 rfl) ?_
        refine lv_iconst (v := (1 : Int32)) hx hb dL_law_276 (by decide) ?_
        refine lv_iadd hx hb dL_law_277 ?_
        obtain ⟨h_42, hm⟩ := hm
        refine va_sld hx hb hX hbl hbA hS h_42 dL_law_278 ?_
        refine sn_clT (S0 := Unit) (af0 := (fun _ => f0)) (af1 := (fun _ => f1)) (af2 := (fun _ => f2)) (af3 := (fun _ => f3)) (af4 := (fun _ => f4)) (af5 := (fun _ => f5)) (af6 := (fun _ => f6)) (af7 := (fun _ => f7)) (As := [.int (xs (x3 + (1 : Int32)).toNatClampNeg)]) (rest := []) ⟨hx, hb, hml, hown, hta⟩ (kX0_size l dC dI h0 ad cs H.size f0 f1 f2 f3 f4 f5 f6 f7 (xs (x3 + (1 : Int32)).toNatClampNeg) _ hm) (cwV 1 hta (lw_V q131 q132 q133 q19 q134) rfl rfl rfl (by decide +kernel) ⟨Nat.le_of_ble_eq_true rfl, Nat.le_of_ble_eq_true rfl⟩) hP hD hK hS hA rfl hl.1 rfl (lv_room (Nat.le_of_ble_eq_true rfl)) dL_law_279 ⟨Nat.le_of_ble_eq_true rfl, Nat.le_of_ble_eq_true rfl⟩ (fun r_43 _ H locs hm hP hD hS => ?_)
        refine lv_aload_n hx hb dL_law_282 rfl (lv_at hl 2 rfl) ?_
        refine lv_aload_n hx hb dL_law_283 rfl (lv_at hl 0 rfl) ?_
        refine lv_iload_n hx hb dL_law_284 rfl (lv_at hl 3 rfl) ?_
        refine lv_iconst (v := (1 : Int32)) hx hb dL_law_285 (by decide) ?_
        refine lv_iadd hx hb dL_law_286 ?_
        obtain ⟨h_44, hm⟩ := hm
        refine va_sld hx hb hX hbl hbA hS h_44 dL_law_287 ?_
        refine sn_clM (S0 := Unit) (ag0 := (fun _ => g0)) (ag1 := (fun _ => g1)) (ag2 := (fun _ => g2)) (As := [.int (xs (x3 + (1 : Int32)).toNatClampNeg)]) (rest := [.int r_43]) ⟨hx, hb, hml, hown, hta⟩ (kX1_size l dC dI h1 ad1 cs1 H.size g0 g1 g2 (xs (x3 + (1 : Int32)).toNatClampNeg) _ hm) (cwV 1 hta (lw_V q222 q223 q224 q20 q225) rfl rfl rfl (by decide +kernel) ⟨Nat.le_of_ble_eq_true rfl, Nat.le_of_ble_eq_true rfl⟩) hP hD hK hS hA rfl hl.1 rfl (lv_room (Nat.le_of_ble_eq_true rfl)) dL_law_288 ⟨Nat.le_of_ble_eq_true rfl, Nat.le_of_ble_eq_true rfl⟩ (fun r_45 _ H locs hm hP hD hS => ?_)
        refine lv_icmp_eq (tgt := 405) hx hb dL_law_291 (by decide) (fun c_46 => ?_) (fun c_46 => ?_)
        · have hm := hm.1 c_46
          refine lv_iinc (v := (x3 + (4 : Int32))) (lv' := [(3, .int (x3 + (4 : Int32))), (0, .ref b), (1, .ref h0), (2, .ref h1)]) hx hb dL_law_405 hl (k := 3) rfl rfl (by decide) rfl (fun ls hl => ?_)
          refine lv_goto (tgt := 18) hx hb dL_law_408 (by decide) ?_
          exact ih18 f0 f1 f2 f3 f4 f5 f6 f7 g0 g1 g2 (x3 + (4 : Int32)) hm H locs hP hD hS ls (lv_sub hl [1, 2, 3, 0] rfl)
        · have hm := hm.2 c_46
          refine lv_iconst (v := (0 : Int32)) hx hb dL_law_294 (by decide) ?_
          exact False.elim hm
      by_cases hv8 : yv = (8 : Int32)
      · subst hv8
        have hm := hm.2.2.2.2.2.2.2.2.1 ey.symm
        refine lv_tableIn (off := 264) (tgt := 296) hx hb dL_law_32 (by decide) (by decide) rfl (by decide) ?_
        refine lv_aload_n hx hb dL_law_296 rfl (lv_at hl 1 rfl) ?_
        refine lv_aload_n hx hb dL_law_297 rfl (lv_at hl 0 rfl) ?_
        refine lv_iload_n hx hb dL_law_298 rfl (lv_at hl 3 rfl) ?_
        refine lv_iconst (v := (1 : Int32)) hx hb dL_law_299 (by decide) ?_
        refine lv_iadd hx hb dL_law_300 ?_
        obtain ⟨h_47, hm⟩ := hm
        refine va_sld hx hb hX hbl hbA hS h_47 dL_law_301 ?_
        refine lv_aload_n hx hb dL_law_302 rfl (lv_at hl 0 rfl) ?_
        refine lv_iload_n hx hb dL_law_303 rfl (lv_at hl 3 rfl) ?_
        refine lv_iconst (v := (2 : Int32)) hx hb dL_law_304 (by decide) ?_
        refine lv_iadd hx hb dL_law_305 ?_
        obtain ⟨h_48, hm⟩ := hm
        refine va_sld hx hb hX hbl hbA hS h_48 dL_law_306 ?_
        refine sn_clT (S0 := Unit) (af0 := (fun _ => f0)) (af1 := (fun _ => f1)) (af2 := (fun _ => f2)) (af3 := (fun _ => f3)) (af4 := (fun _ => f4)) (af5 := (fun _ => f5)) (af6 := (fun _ => f6)) (af7 := (fun _ => f7)) (As := [.int (xs (x3 + (1 : Int32)).toNatClampNeg), .int (xs (x3 + (2 : Int32)).toNatClampNeg)]) (rest := []) ⟨hx, hb, hml, hown, hta⟩ (kX0_next l dC dI h0 ad cs H.size f0 f1 f2 f3 f4 f5 f6 f7 (xs (x3 + (1 : Int32)).toNatClampNeg) (xs (x3 + (2 : Int32)).toNatClampNeg) _ hm) (cwV 2 hta (lw_V q135 q136 q137 q19 q138) rfl rfl rfl (by decide +kernel) ⟨Nat.le_of_ble_eq_true rfl, Nat.le_of_ble_eq_true rfl⟩) hP hD hK hS hA rfl hl.1 rfl (lv_room (Nat.le_of_ble_eq_true rfl)) dL_law_307 ⟨Nat.le_of_ble_eq_true rfl, Nat.le_of_ble_eq_true rfl⟩ (fun r_49 _ H locs hm hP hD hS => ?_)
        refine lv_aload_n hx hb dL_law_310 rfl (lv_at hl 2 rfl) ?_
        refine lv_aload_n hx hb dL_law_311 rfl (lv_at hl 0 rfl) ?_
        refine lv_iload_n hx hb dL_law_312 rfl (lv_at hl 3 rfl) ?_
        refine lv_iconst (v := (1 : Int32)) hx hb dL_law_313 (by decide) ?_
        refine lv_iadd hx hb dL_law_314 ?_
        obtain ⟨h_50, hm⟩ := hm
        refine va_sld hx hb hX hbl hbA hS h_50 dL_law_315 ?_
        refine lv_aload_n hx hb dL_law_316 rfl (lv_at hl 0 rfl) ?_
        refine lv_iload_n hx hb dL_law_317 rfl (lv_at hl 3 rfl) ?_
        refine lv_iconst (v := (2 : Int32)) hx hb dL_law_318 (by decide) ?_
        refine lv_iadd hx hb dL_law_319 ?_
        obtain ⟨h_51, hm⟩ := hm
        refine va_sld hx hb hX hbl hbA hS h_51 dL_law_320 ?_
        refine sn_clM (S0 := Unit) (ag0 := (fun _ => g0)) (ag1 := (fun _ => g1)) (ag2 := (fun _ => g2)) (As := [.int (xs (x3 + (1 : Int32)).toNatClampNeg), .int (xs (x3 + (2 : Int32)).toNatClampNeg)]) (rest := [.int r_49]) ⟨hx, hb, hml, hown, hta⟩ (kX1_next l dC dI h1 ad1 cs1 H.size g0 g1 g2 (xs (x3 + (1 : Int32)).toNatClampNeg) (xs (x3 + (2 : Int32)).toNatClampNeg) _ hm) (cwV 2 hta (lw_V q226 q227 q228 q20 q229) rfl rfl rfl (by decide +kernel) ⟨Nat.le_of_ble_eq_true rfl, Nat.le_of_ble_eq_true rfl⟩) hP hD hK hS hA rfl hl.1 rfl (lv_room (Nat.le_of_ble_eq_true rfl)) dL_law_321 ⟨Nat.le_of_ble_eq_true rfl, Nat.le_of_ble_eq_true rfl⟩ (fun r_52 _ H locs hm hP hD hS => ?_)
        refine lv_icmp_eq (tgt := 405) hx hb dL_law_324 (by decide) (fun c_53 => ?_) (fun c_53 => ?_)
        · have hm := hm.1 c_53
          refine lv_iinc (v := (x3 + (4 : Int32))) (lv' := [(3, .int (x3 + (4 : Int32))), (0, .ref b), (1, .ref h0), (2, .ref h1)]) hx hb dL_law_405 hl (k := 3) rfl rfl (by decide) rfl (fun ls hl => ?_)
          refine lv_goto (tgt := 18) hx hb dL_law_408 (by decide) ?_
          exact ih18 f0 f1 f2 f3 f4 f5 f6 f7 g0 g1 g2 (x3 + (4 : Int32)) hm H locs hP hD hS ls (lv_sub hl [1, 2, 3, 0] rfl)
        · have hm := hm.2 c_53
          refine lv_iconst (v := (0 : Int32)) hx hb dL_law_327 (by decide) ?_
          exact False.elim hm
      by_cases hv9 : yv = (9 : Int32)
      · subst hv9
        have hm := hm.2.2.2.2.2.2.2.2.2.1 ey.symm
        refine lv_tableIn (off := 297) (tgt := 329) hx hb dL_law_32 (by decide) (by decide) rfl (by decide) ?_
        refine lv_aload_n hx hb dL_law_329 rfl (lv_at hl 1 rfl) ?_
        refine lv_aload_n hx hb dL_law_330 rfl (lv_at hl 0 rfl) ?_
        refine lv_iload_n hx hb dL_law_331 rfl (lv_at hl 3 rfl) ?_
        refine lv_iconst (v := (1 : Int32)) hx hb dL_law_332 (by decide) ?_
        refine lv_iadd hx hb dL_law_333 ?_
        obtain ⟨h_54, hm⟩ := hm
        refine va_sld hx hb hX hbl hbA hS h_54 dL_law_334 ?_
        refine lv_aload_n hx hb dL_law_335 rfl (lv_at hl 0 rfl) ?_
        refine lv_iload_n hx hb dL_law_336 rfl (lv_at hl 3 rfl) ?_
        refine lv_iconst (v := (2 : Int32)) hx hb dL_law_337 (by decide) ?_
        refine lv_iadd hx hb dL_law_338 ?_
        obtain ⟨h_55, hm⟩ := hm
        refine va_sld hx hb hX hbl hbA hS h_55 dL_law_339 ?_
        refine lv_aload_n hx hb dL_law_340 rfl (lv_at hl 0 rfl) ?_
        refine lv_iload_n hx hb dL_law_341 rfl (lv_at hl 3 rfl) ?_
        refine lv_iconst (v := (3 : Int32)) hx hb dL_law_342 (by decide) ?_
        refine lv_iadd hx hb dL_law_343 ?_
        obtain ⟨h_56, hm⟩ := hm
        refine va_sld hx hb hX hbl hbA hS h_56 dL_law_344 ?_
        refine sn_clT (S0 := Unit) (af0 := (fun _ => f0)) (af1 := (fun _ => f1)) (af2 := (fun _ => f2)) (af3 := (fun _ => f3)) (af4 := (fun _ => f4)) (af5 := (fun _ => f5)) (af6 := (fun _ => f6)) (af7 := (fun _ => f7)) (As := [.int (xs (x3 + (1 : Int32)).toNatClampNeg), .int (xs (x3 + (2 : Int32)).toNatClampNeg), .int (xs (x3 + (3 : Int32)).toNatClampNeg)]) (rest := []) ⟨hx, hb, hml, hown, hta⟩ (kX0_nextChange l dC dI h0 ad cs H.size f0 f1 f2 f3 f4 f5 f6 f7 (xs (x3 + (1 : Int32)).toNatClampNeg) (xs (x3 + (2 : Int32)).toNatClampNeg) (xs (x3 + (3 : Int32)).toNatClampNeg) _ hm) (cwV 3 hta (lw_V q146 q147 q148 q19 q149) rfl rfl rfl (by decide +kernel) ⟨Nat.le_of_ble_eq_true rfl, Nat.le_of_ble_eq_true rfl⟩) hP hD hK hS hA rfl hl.1 rfl (lv_room (Nat.le_of_ble_eq_true rfl)) dL_law_345 ⟨Nat.le_of_ble_eq_true rfl, Nat.le_of_ble_eq_true rfl⟩ (fun r_57 _ H locs hm hP hD hS => ?_)
        refine lv_aload_n hx hb dL_law_348 rfl (lv_at hl 2 rfl) ?_
        refine lv_aload_n hx hb dL_law_349 rfl (lv_at hl 0 rfl) ?_
        refine lv_iload_n hx hb dL_law_350 rfl (lv_at hl 3 rfl) ?_
        refine lv_iconst (v := (1 : Int32)) hx hb dL_law_351 (by decide) ?_
        refine lv_iadd hx hb dL_law_352 ?_
        obtain ⟨h_58, hm⟩ := hm
        refine va_sld hx hb hX hbl hbA hS h_58 dL_law_353 ?_
        refine lv_aload_n hx hb dL_law_354 rfl (lv_at hl 0 rfl) ?_
        refine lv_iload_n hx hb dL_law_355 rfl (lv_at hl 3 rfl) ?_
        refine lv_iconst (v := (2 : Int32)) hx hb dL_law_356 (by decide) ?_
        refine lv_iadd hx hb dL_law_357 ?_
        obtain ⟨h_59, hm⟩ := hm
        refine va_sld hx hb hX hbl hbA hS h_59 dL_law_358 ?_
        refine lv_aload_n hx hb dL_law_359 rfl (lv_at hl 0 rfl) ?_
        refine lv_iload_n hx hb dL_law_360 rfl (lv_at hl 3 rfl) ?_
        refine lv_iconst (v := (3 : Int32)) hx hb dL_law_361 (by decide) ?_
        refine lv_iadd hx hb dL_law_362 ?_
        obtain ⟨h_60, hm⟩ := hm
        refine va_sld hx hb hX hbl hbA hS h_60 dL_law_363 ?_
        refine sn_clM (S0 := Unit) (ag0 := (fun _ => g0)) (ag1 := (fun _ => g1)) (ag2 := (fun _ => g2)) (As := [.int (xs (x3 + (1 : Int32)).toNatClampNeg), .int (xs (x3 + (2 : Int32)).toNatClampNeg), .int (xs (x3 + (3 : Int32)).toNatClampNeg)]) (rest := [.int r_57]) ⟨hx, hb, hml, hown, hta⟩ (kX1_nextChange l dC dI h1 ad1 cs1 H.size g0 g1 g2 (xs (x3 + (1 : Int32)).toNatClampNeg) (xs (x3 + (2 : Int32)).toNatClampNeg) (xs (x3 + (3 : Int32)).toNatClampNeg) _ hm) (cwV 3 hta (lw_V q230 q231 q232 q20 q233) rfl rfl rfl (by decide +kernel) ⟨Nat.le_of_ble_eq_true rfl, Nat.le_of_ble_eq_true rfl⟩) hP hD hK hS hA rfl hl.1 rfl (lv_room (Nat.le_of_ble_eq_true rfl)) dL_law_364 ⟨Nat.le_of_ble_eq_true rfl, Nat.le_of_ble_eq_true rfl⟩ (fun r_61 _ H locs hm hP hD hS => ?_)
        refine lv_icmp_eq (tgt := 405) hx hb dL_law_367 (by decide) (fun c_62 => ?_) (fun c_62 => ?_)
        · have hm := hm.1 c_62
          refine lv_iinc (v := (x3 + (4 : Int32))) (lv' := [(3, .int (x3 + (4 : Int32))), (0, .ref b), (1, .ref h0), (2, .ref h1)]) hx hb dL_law_405 hl (k := 3) rfl rfl (by decide) rfl (fun ls hl => ?_)
          refine lv_goto (tgt := 18) hx hb dL_law_408 (by decide) ?_
          exact ih18 f0 f1 f2 f3 f4 f5 f6 f7 g0 g1 g2 (x3 + (4 : Int32)) hm H locs hP hD hS ls (lv_sub hl [1, 2, 3, 0] rfl)
        · have hm := hm.2 c_62
          refine lv_iconst (v := (0 : Int32)) hx hb dL_law_370 (by decide) ?_
          exact False.elim hm
      by_cases hv10 : yv = (10 : Int32)
      · subst hv10
        have hm := hm.2.2.2.2.2.2.2.2.2.2.1 ey.symm
        refine lv_tableIn (off := 340) (tgt := 372) hx hb dL_law_32 (by decide) (by decide) rfl (by decide) ?_
        refine lv_aload_n hx hb dL_law_372 rfl (lv_at hl 1 rfl) ?_
        refine lv_aload_n hx hb dL_law_373 rfl (lv_at hl 0 rfl) ?_
        refine lv_iload_n hx hb dL_law_374 rfl (lv_at hl 3 rfl) ?_
        refine lv_iconst (v := (1 : Int32)) hx hb dL_law_375 (by decide) ?_
        refine lv_iadd hx hb dL_law_376 ?_
        obtain ⟨h_63, hm⟩ := hm
        refine va_sld hx hb hX hbl hbA hS h_63 dL_law_377 ?_
        refine lv_aload_n hx hb dL_law_378 rfl (lv_at hl 0 rfl) ?_
        refine lv_iload_n hx hb dL_law_379 rfl (lv_at hl 3 rfl) ?_
        refine lv_iconst (v := (2 : Int32)) hx hb dL_law_380 (by decide) ?_
        refine lv_iadd hx hb dL_law_381 ?_
        obtain ⟨h_64, hm⟩ := hm
        refine va_sld hx hb hX hbl hbA hS h_64 dL_law_382 ?_
        refine sn_clT (S0 := Unit) (af0 := (fun _ => f0)) (af1 := (fun _ => f1)) (af2 := (fun _ => f2)) (af3 := (fun _ => f3)) (af4 := (fun _ => f4)) (af5 := (fun _ => f5)) (af6 := (fun _ => f6)) (af7 := (fun _ => f7)) (As := [.int (xs (x3 + (1 : Int32)).toNatClampNeg), .int (xs (x3 + (2 : Int32)).toNatClampNeg)]) (rest := []) ⟨hx, hb, hml, hown, hta⟩ (kX0_changes l dC dI h0 ad cs H.size f0 f1 f2 f3 f4 f5 f6 f7 (xs (x3 + (1 : Int32)).toNatClampNeg) (xs (x3 + (2 : Int32)).toNatClampNeg) _ hm) (cwV 2 hta (lw_V q154 q155 q156 q19 q157) rfl rfl rfl (by decide +kernel) ⟨Nat.le_of_ble_eq_true rfl, Nat.le_of_ble_eq_true rfl⟩) hP hD hK hS hA rfl hl.1 rfl (lv_room (Nat.le_of_ble_eq_true rfl)) dL_law_383 ⟨Nat.le_of_ble_eq_true rfl, Nat.le_of_ble_eq_true rfl⟩ (fun r_65 _ H locs hm hP hD hS => ?_)
        refine lv_aload_n hx hb dL_law_386 rfl (lv_at hl 2 rfl) ?_
        refine lv_aload_n hx hb dL_law_387 rfl (lv_at hl 0 rfl) ?_
        refine lv_iload_n hx hb dL_law_388 rfl (lv_at hl 3 rfl) ?_
        refine lv_iconst (v := (1 : Int32)) hx hb dL_law_389 (by decide) ?_
        refine lv_iadd hx hb dL_law_390 ?_
        obtain ⟨h_66, hm⟩ := hm
        refine va_sld hx hb hX hbl hbA hS h_66 dL_law_391 ?_
        refine lv_aload_n hx hb dL_law_392 rfl (lv_at hl 0 rfl) ?_
        refine lv_iload_n hx hb dL_law_393 rfl (lv_at hl 3 rfl) ?_
        refine lv_iconst (v := (2 : Int32)) hx hb dL_law_394 (by decide) ?_
        refine lv_iadd hx hb dL_law_395 ?_
        obtain ⟨h_67, hm⟩ := hm
        refine va_sld hx hb hX hbl hbA hS h_67 dL_law_396 ?_
        refine sn_clM (S0 := Unit) (ag0 := (fun _ => g0)) (ag1 := (fun _ => g1)) (ag2 := (fun _ => g2)) (As := [.int (xs (x3 + (1 : Int32)).toNatClampNeg), .int (xs (x3 + (2 : Int32)).toNatClampNeg)]) (rest := [.int r_65]) ⟨hx, hb, hml, hown, hta⟩ (kX1_changes l dC dI h1 ad1 cs1 H.size g0 g1 g2 (xs (x3 + (1 : Int32)).toNatClampNeg) (xs (x3 + (2 : Int32)).toNatClampNeg) _ hm) (cwV 2 hta (lw_V q238 q239 q240 q20 q241) rfl rfl rfl (by decide +kernel) ⟨Nat.le_of_ble_eq_true rfl, Nat.le_of_ble_eq_true rfl⟩) hP hD hK hS hA rfl hl.1 rfl (lv_room (Nat.le_of_ble_eq_true rfl)) dL_law_397 ⟨Nat.le_of_ble_eq_true rfl, Nat.le_of_ble_eq_true rfl⟩ (fun r_68 _ H locs hm hP hD hS => ?_)
        refine lv_icmp_eq (tgt := 405) hx hb dL_law_400 (by decide) (fun c_69 => ?_) (fun c_69 => ?_)
        · have hm := hm.1 c_69
          refine lv_iinc (v := (x3 + (4 : Int32))) (lv' := [(3, .int (x3 + (4 : Int32))), (0, .ref b), (1, .ref h0), (2, .ref h1)]) hx hb dL_law_405 hl (k := 3) rfl rfl (by decide) rfl (fun ls hl => ?_)
          refine lv_goto (tgt := 18) hx hb dL_law_408 (by decide) ?_
          exact ih18 f0 f1 f2 f3 f4 f5 f6 f7 g0 g1 g2 (x3 + (4 : Int32)) hm H locs hP hD hS ls (lv_sub hl [1, 2, 3, 0] rfl)
        · have hm := hm.2 c_69
          refine lv_iconst (v := (0 : Int32)) hx hb dL_law_403 (by decide) ?_
          exact False.elim hm
      have hm := hm.2.2.2.2.2.2.2.2.2.2.2 (fun h => hv0 (ey.trans h)) (fun h => hv1 (ey.trans h)) (fun h => hv2 (ey.trans h)) (fun h => hv3 (ey.trans h)) (fun h => hv4 (ey.trans h)) (fun h => hv5 (ey.trans h)) (fun h => hv6 (ey.trans h)) (fun h => hv7 (ey.trans h)) (fun h => hv8 (ey.trans h)) (fun h => hv9 (ey.trans h)) (fun h => hv10 (ey.trans h))
      refine lv_tableOut (tgt := 405) hx hb dL_law_32 (sn_out hv0 hv1 hv2 hv3 hv4 hv5 hv6 hv7 hv8 hv9 hv10) (by decide) ?_
      refine lv_iinc (v := (x3 + (4 : Int32))) (lv' := [(3, .int (x3 + (4 : Int32))), (0, .ref b), (1, .ref h0), (2, .ref h1)]) hx hb dL_law_405 hl (k := 3) rfl rfl (by decide) rfl (fun ls hl => ?_)
      refine lv_goto (tgt := 18) hx hb dL_law_408 (by decide) ?_
      exact ih18 f0 f1 f2 f3 f4 f5 f6 f7 g0 g1 g2 (x3 + (4 : Int32)) hm H locs hP hD hS ls (lv_sub hl [1, 2, 3, 0] rfl)
end
section
/-! bits and counts: rows out of kit/laws BITS.to-paste and COUNTS.to-paste, then mine -/
def bt (x : Int32) (i : Nat) : Bool := x.toBitVec.getLsbD i
theorem b_ext {x y : Int32} (h : ∀ i, i < 32 → bt x i = bt y i) : x = y := Int32.toBitVec_inj.mp (BitVec.eq_of_getLsbD_eq (fun i hi => h i hi))
theorem b_or (x y : Int32) (i : Nat) : bt (x ||| y) i = (bt x i || bt y i) := by unfold bt; rw [Int32.toBitVec_or, BitVec.getLsbD_or]
theorem b_and (x y : Int32) (i : Nat) : bt (x &&& y) i = (bt x i && bt y i) := by unfold bt; rw [Int32.toBitVec_and, BitVec.getLsbD_and]
theorem b_xor (x y : Int32) (i : Nat) : bt (x ^^^ y) i = (bt x i ^^ bt y i) := by unfold bt; rw [Int32.toBitVec_xor, BitVec.getLsbD_xor]
theorem b_big {x : Int32} {i : Nat} (h : 32 ≤ i) : bt x i = false := BitVec.getLsbD_of_ge _ _ h
theorem b_255 (i : Nat) : bt 255 i = decide (i < 8) := by
  rcases Nat.lt_or_ge i 32 with h | h
  · exact (by decide +kernel : ∀ i, i < 32 → bt 255 i = decide (i < 8)) i h
  · rw [b_big h, decide_eq_false (by omega)]
theorem b_65535 (i : Nat) : bt 65535 i = decide (i < 16) := by
  rcases Nat.lt_or_ge i 32 with h | h
  · exact (by decide +kernel : ∀ i, i < 32 → bt 65535 i = decide (i < 16)) i h
  · rw [b_big h, decide_eq_false (by omega)]
theorem b_m1 : ∀ i, i < 32 → bt (-1) i = true := by decide +kernel
theorem b_0 (i : Nat) : bt 0 i = false := BitVec.getLsbD_zero
theorem s_l : ∀ n, n < 32 → ((nI n &&& 31).toBitVec.smod 32).toNat = n := by decide +kernel
theorem s_u : ∀ n, n < 32 → (((nI n).toUInt32 &&& Int32.toUInt32 31).toBitVec % 32).toNat = n := by decide +kernel
theorem b_shl (n : Nat) (hn : n < 32) (x : Int32) {i : Nat} (hi : i < 32) : bt (x <<< (nI n &&& 31)) i = (decide (n ≤ i) && bt x (i - n)) := by
  unfold bt
  rw [Int32.toBitVec_shiftLeft]
  show (x.toBitVec <<< ((nI n &&& 31).toBitVec.smod 32).toNat).getLsbD i = _
  rw [s_l n hn, BitVec.getLsbD_shiftLeft]
  rcases Nat.lt_or_ge i n with h | h
  · simp [h, Nat.not_le.mpr h]
  · simp [hi, h, Nat.not_lt.mpr h]
theorem b_ushr (n : Nat) (hn : n < 32) (x : Int32) (i : Nat) : bt ((x.toUInt32 >>> ((nI n).toUInt32 &&& Int32.toUInt32 31)).toInt32) i = bt x (n + i) := by
  show (x.toUInt32 >>> ((nI n).toUInt32 &&& Int32.toUInt32 31)).toBitVec.getLsbD i = x.toUInt32.toBitVec.getLsbD (n + i)
  rw [UInt32.toBitVec_shiftRight]
  show (x.toUInt32.toBitVec >>> (((nI n).toUInt32 &&& Int32.toUInt32 31).toBitVec % 32).toNat).getLsbD i = _
  rw [s_u n hn, BitVec.getLsbD_ushiftRight]
def fb_ct (p : Nat → Bool) : Nat → Nat
  | 0 => 0
  | n + 1 => fb_ct p n + (if p n then 1 else 0)
theorem fb_ct_succ (p : Nat → Bool) (n : Nat) : fb_ct p (n + 1) = fb_ct p n + (if p n then 1 else 0) := rfl
theorem fb_ct_le (p : Nat → Bool) : ∀ n, fb_ct p n ≤ n
  | 0 => Nat.le_refl _
  | n + 1 => by
    have h := fb_ct_le p n
    rw [fb_ct_succ]
    split <;> omega
theorem fb_ct_step (p : Nat → Bool) (m : Nat) : ∀ n, fb_ct p m ≤ fb_ct p (m + n)
  | 0 => Nat.le_refl _
  | n + 1 => by
    have h := fb_ct_step p m n
    show fb_ct p m ≤ fb_ct p (m + n + 1)
    rw [fb_ct_succ]
    omega
theorem fb_ct_mono (p : Nat → Bool) {m n : Nat} (h : m ≤ n) : fb_ct p m ≤ fb_ct p n := by
  have := fb_ct_step p m (n - m)
  rwa [Nat.add_sub_cancel' h] at this
theorem fb_ct_cong {p q : Nat → Bool} : ∀ {n : Nat}, (∀ k, k < n → p k = q k) → fb_ct p n = fb_ct q n
  | 0, _ => rfl
  | n + 1, h => by
    rw [fb_ct_succ, fb_ct_succ, fb_ct_cong (fun k hk => h k (by omega)), h n (by omega)]
/-- one place changed -/
theorem fb_ct_out (p : Nat → Bool) (b : Bool) {i n : Nat} (h : n ≤ i) : fb_ct (fun k => if k = i then b else p k) n = fb_ct p n :=
  fb_ct_cong fun k hk => if_neg (by omega)
theorem fb_ct_upd (p : Nat → Bool) (b : Bool) {i : Nat} : ∀ {n : Nat}, i < n → fb_ct (fun k => if k = i then b else p k) n + (if p i then 1 else 0) = fb_ct p n + (if b then 1 else 0)
  | 0, h => absurd h (Nat.not_lt_zero i)
  | n + 1, h => by
    rw [fb_ct_succ, fb_ct_succ]
    rcases Nat.lt_or_ge i n with q | q
    · have := fb_ct_upd p b q
      have e : (if n = i then b else p n) = p n := if_neg (by omega)
      rw [e]
      omega
    · have e : i = n := by omega
      subst e
      rw [fb_ct_out p b (Nat.le_refl _)]
      simp only [if_true]
      omega
theorem fb_ct_sub {p q : Nat → Bool} : ∀ {n : Nat}, (∀ k, k < n → p k = true → q k = true) → fb_ct p n ≤ fb_ct q n
  | 0, _ => Nat.le_refl _
  | n + 1, h => by
    have h1 := fb_ct_sub (n := n) (p := p) (q := q) (fun k hk => h k (by omega))
    have h2 := h n (by omega)
    rw [fb_ct_succ, fb_ct_succ]
    cases hp : p n <;> cases hq : q n <;> simp_all <;> omega
theorem fb_ct_or {p q : Nat → Bool} : ∀ {n : Nat}, (∀ k, k < n → ¬ (p k = true ∧ q k = true)) → fb_ct (fun k => p k || q k) n = fb_ct p n + fb_ct q n
  | 0, _ => rfl
  | n + 1, h => by
    have h1 := fb_ct_or (n := n) (p := p) (q := q) (fun k hk => h k (by omega))
    have h2 := h n (by omega)
    rw [fb_ct_succ, fb_ct_succ, fb_ct_succ, h1]
    cases hp : p n <;> cases hq : q n <;> simp_all <;> omega
theorem fb_ct_not (p : Nat → Bool) : ∀ n, fb_ct p n + fb_ct (fun k => !p k) n = n
  | 0 => rfl
  | n + 1 => by
    have h := fb_ct_not p n
    rw [fb_ct_succ, fb_ct_succ]
    cases p n <;> simp <;> omega
theorem fb_ct_split (p : Nat → Bool) (m : Nat) : ∀ n, fb_ct p (m + n) = fb_ct p m + fb_ct (fun k => p (m + k)) n
  | 0 => rfl
  | n + 1 => by
    have h := fb_ct_split p m n
    show fb_ct p (m + n + 1) = _
    rw [fb_ct_succ, fb_ct_succ, h, Nat.add_assoc]
theorem fb_ct_zero {p : Nat → Bool} : ∀ {n : Nat}, fb_ct p n = 0 ↔ ∀ k, k < n → p k = false
  | 0 => ⟨fun _ k hk => absurd hk (Nat.not_lt_zero k), fun _ => rfl⟩
  | n + 1 => by
    have h := fb_ct_zero (p := p) (n := n)
    rw [fb_ct_succ]
    constructor
    · intro e k hk
      have e1 : fb_ct p n = 0 := by omega
      rcases Nat.lt_or_ge k n with q | q
      · exact h.mp e1 k q
      · have ek : k = n := by omega
        subst ek
        cases hp : p k
        · rfl
        · simp [hp] at e
    · intro a
      rw [h.mpr (fun k hk => a k (by omega)), a n (by omega)]
      rfl
theorem fb_ct_pos {p : Nat → Bool} {n : Nat} : 0 < fb_ct p n ↔ ∃ k, k < n ∧ p k = true := by
  constructor
  · intro h
    refine Classical.byContradiction fun hx => ?_
    have := fb_ct_zero.mpr (fun k hk => by
      cases hp : p k
      · rfl
      · exact absurd ⟨k, hk, hp⟩ hx : ∀ k, k < n → p k = false)
    omega
  · rintro ⟨k, hk, hp⟩
    rcases Nat.eq_zero_or_pos (fb_ct p n) with e | e
    · have := fb_ct_zero.mp e k hk
      rw [this] at hp
      cases hp
    · exact e
theorem fb_ct_all {p : Nat → Bool} {n : Nat} : fb_ct p n = n ↔ ∀ k, k < n → p k = true := by
  have h := fb_ct_not p n
  constructor
  · intro e k hk
    have z : fb_ct (fun k => !p k) n = 0 := by omega
    have := fb_ct_zero.mp z k hk
    cases hp : p k
    · simp [hp] at this
    · rfl
  · intro a
    have z : fb_ct (fun k => !p k) n = 0 := fb_ct_zero.mpr (fun k hk => by simp [a k hk])
    omega
/-- the k-th place with the property -/

theorem sn_k3 {k : Nat} (hk : k < 256) : nI k &&& (3 : Int32) = nI (k % 4) := pk_andN (by omega) 2 (by decide)
theorem sn_and1 (y : Int32) : (y &&& (1 : Int32)) = (0 : Int32) ↔ bt y 0 = false := by
  have h1 : ∀ i, i < 32 → bt (1 : Int32) i = decide (i = 0) := by decide +kernel
  constructor
  · intro h
    have h2 := congrArg (fun z => bt z 0) h
    simp only [b_and, b_0] at h2
    rw [h1 0 (by omega)] at h2
    simpa using h2
  · intro h
    refine b_ext (fun i hi => ?_)
    rw [b_and, b_0, h1 i hi]
    by_cases e : i = 0
    · subst e; rw [h]; rfl
    · simp [e]
theorem sn_bit (x : Int32) {k : Nat} (hk : k < 256) : ((sn_ushr x (nI k &&& (3 : Int32))) &&& (1 : Int32)) = (0 : Int32) ↔ bt x (k % 4) = false := by
  rw [sn_k3 hk, sn_and1]
  unfold sn_ushr
  rw [b_ushr (k % 4) (by omega), Nat.add_zero]
theorem sn_one {n : Nat} (hn : n < 32) {i : Nat} (hi : i < 32) : bt ((1 : Int32) <<< (nI n &&& 31)) i = decide (i = n) := by
  have h1 : ∀ i, i < 32 → bt (1 : Int32) i = decide (i = 0) := by decide +kernel
  rw [b_shl n hn 1 hi, h1 (i - n) (by omega)]
  by_cases e : i = n
  · subst e; simp
  · by_cases e2 : n ≤ i
    · have : ¬ i - n = 0 := by omega
      simp [e, e2, this]
    · simp [e, e2]
theorem sn_set (x : Int32) {k : Nat} (hk : k < 256) {i : Nat} (hi : i < 32) : bt (x ||| ((1 : Int32) <<< ((nI k &&& (3 : Int32)) &&& 31))) i = (bt x i || decide (i = k % 4)) := by
  rw [b_or, sn_k3 hk, sn_one (by omega) hi]
theorem sn_clr (x : Int32) {k : Nat} (hk : k < 256) {i : Nat} (hi : i < 32) : bt (x &&& (((1 : Int32) <<< ((nI k &&& (3 : Int32)) &&& 31)) ^^^ (-1 : Int32))) i = (bt x i && !decide (i = k % 4)) := by
  rw [b_and, b_xor, sn_k3 hk, sn_one (by omega) hi, b_m1 i hi, Bool.xor_true]
theorem sn_256 (x : Int32) : (x &&& (256 : Int32)) = (0 : Int32) ↔ bt x 8 = false := by
  have h1 : ∀ i, i < 32 → bt (256 : Int32) i = decide (i = 8) := by decide +kernel
  constructor
  · intro h
    have h2 := congrArg (fun z => bt z 8) h
    simp only [b_and, b_0] at h2
    rw [h1 8 (by omega)] at h2
    simpa using h2
  · intro h
    refine b_ext (fun i hi => ?_)
    rw [b_and, b_0, h1 i hi]
    by_cases e : i = 8
    · subst e; rw [h]; rfl
    · simp [e]
theorem sn_15 (x : Int32) : (x &&& (15 : Int32)) = (0 : Int32) → ∀ i, i < 4 → bt x i = false := by
  have h1 : ∀ i, i < 4 → bt (15 : Int32) i = true := by decide +kernel
  intro h i hi
  have h2 := congrArg (fun z => bt z i) h
  simp only [b_and, b_0] at h2
  rw [h1 i hi] at h2
  simpa using h2
theorem sn_o256 (x : Int32) {i : Nat} (hi : i < 32) : bt (x ||| (256 : Int32)) i = (bt x i || decide (i = 8)) := by
  have h1 : ∀ i, i < 32 → bt (256 : Int32) i = decide (i = 8) := by decide +kernel
  rw [b_or, h1 i hi]
theorem sn_turn : ∀ k, k < 256 → ∀ l, l < 3 → (sn_ushr (nI k) ((6 : Int32) - ((2 : Int32) * nI l)) &&& (3 : Int32)) = nI (k / 4 ^ (3 - l) % 4) := by decide +kernel
theorem sn_behind : ∀ k, k < 256 → ∀ l, l < 5 → ((nI k &&& (((sn_ushr (256 : Int32) ((2 : Int32) * nI l)) - (1 : Int32)) ^^^ (-1 : Int32))) + (sn_ushr (256 : Int32) ((2 : Int32) * nI l))) = nI ((k / 4 ^ (4 - l) + 1) * 4 ^ (4 - l)) := by decide +kernel
theorem sn_ix (c t : Nat) : ((4 : Int32) * nI c) + nI t = nI (4 * c + t) := by
  rw [show (4 : Int32) = nI 4 from rfl, pk_mul, nI_add]
theorem sn_ix256 (c t : Nat) : ((256 : Int32) * nI c) + nI t = nI (256 * c + t) := by
  rw [show (256 : Int32) = nI 256 from rfl, pk_mul, nI_add]
theorem sn_p1 (n : Nat) : nI n + (1 : Int32) = nI (n + 1) := nI_1 n
theorem sn_neg1 : (-1 : Int32) < 0 := by decide
theorem sn_nn {n : Nat} (h : n < 2 ^ 31) : ¬ nI n < (0 : Int32) := nI_pos h
theorem sn_m1ne {n : Nat} (h : n < 2 ^ 31) : ¬ (-1 : Int32) = nI n := fun e => nI_pos h (by rw [← e]; decide)
theorem sn_inj {a b : Nat} (ha : a < 2 ^ 31) (hb : b < 2 ^ 31) (h : nI a = nI b) : a = b := (nI_eq ha hb).mp h
theorem sn_le {a b : Nat} (ha : a < 2 ^ 31) (hb : b < 2 ^ 31) : nI a ≤ nI b ↔ a ≤ b := nI_leI ha hb
/-- an index: a number below n -/
theorem sn_in {x : Int32} {n : Nat} (hn : n < 2 ^ 31) {c : Nat} (hx : x = nI c) (hc : c < n) : vp_in x n := by rw [hx]; exact vp_in_nI hc hn
end
section
/-! the tree, plainly: what a node leads to, what keeps it in order -/
/-- the node d turns further down on the way of the key k -/
def sn_dn (w : Nat → Int32) (k : Nat) : Nat → Int32 → Int32
  | 0, x => x
  | d + 1, x => if x < 0 then x else sn_dn w k d (w (4 * x.toNatClampNeg + k / 4 ^ (d + 1) % 4))
def sn_lf (w h : Nat → Int32) (x : Int32) (j : Nat) : Option Int32 := if x < 0 then none else if bt (h x.toNatClampNeg) j = true then some (w (4 * x.toNatClampNeg + j)) else none
/-- what is bound to k below x, d turns above the last level -/
def sn_sem (w h : Nat → Int32) (d : Nat) (x : Int32) (k : Nat) : Option Int32 := sn_lf w h (sn_dn w k d x) (k % 4)
def sn_ok (lev : Nat → Nat) (l : Nat) (x : Int32) : Prop := x = -1 ∨ ∃ c, c < 400 ∧ x = nI c ∧ lev c = l
def sn_lv (u : Nat → Int32) (lev : Nat → Nat) (l : Nat) (x : Int32) : Prop := x = -1 ∨ ∃ c, c < 400 ∧ x = nI c ∧ u c ≠ 0 ∧ lev c = l
/-- all places that lead to nodes: 8 roots, then the ways of the nodes in use that aren't of the last level -/
def sn_En (w u r : Nat → Int32) (lev : Nat → Nat) (i : Nat) : Int32 := if i < 8 then r i else if u ((i - 8) / 4) ≠ 0 ∧ lev ((i - 8) / 4) < 3 then w (i - 8) else -1
def sn_ct (E : Nat → Int32) (N : Nat) (v : Int32) : Nat := fb_ct (fun i => decide (E i = v)) N
def sn_WA (lev : Nat → Nat) (w h u : Nat → Int32) : Prop := ∀ n, n < 400 → u n ≠ 0 → lev n ≤ 3 ∧ (bt (h n) 8 = true ↔ lev n = 3) ∧ (lev n < 3 → ∀ j, j < 4 → sn_ok lev (lev n + 1) (w (4 * n + j)))
/-- in order: levels, roots, users counted (dep nodes of stk are still to be given back), numbers from hw on are free -/
def sn_WF (lev : Nat → Nat) (hw : Nat) (w h u r stk : Nat → Int32) (dep : Nat) : Prop :=
  sn_WA lev w h u ∧ (∀ t, t < 8 → sn_ok lev 0 (r t)) ∧ (∀ n, n < 400 → u n = nI (sn_ct (sn_En w u r lev) 1608 (nI n) + sn_ct stk dep (nI n))) ∧ (∀ n, hw ≤ n → n < 400 → u n = 0) ∧ dep ≤ 16
/-! counting -/
theorem sn_ct_cong {E E' : Nat → Int32} {N : Nat} (h : ∀ i, i < N → E' i = E i) (v : Int32) : sn_ct E' N v = sn_ct E N v := fb_ct_cong (fun i hi => by simp only [h i hi])
theorem sn_ct_le (E : Nat → Int32) (N : Nat) (v : Int32) : sn_ct E N v ≤ N := fb_ct_le _ N
theorem sn_ct_pos {E : Nat → Int32} {N : Nat} {v : Int32} {i : Nat} (hi : i < N) (h : E i = v) : 0 < sn_ct E N v := fb_ct_pos.mpr ⟨i, hi, by simp [h]⟩
theorem sn_ct_0 {E : Nat → Int32} {N : Nat} {v : Int32} (h : ∀ i, i < N → ¬ E i = v) : sn_ct E N v = 0 := fb_ct_zero.mpr (fun i hi => by simp [h i hi])
theorem sn_ct_0' {E : Nat → Int32} {N : Nat} {v : Int32} (h : sn_ct E N v = 0) : ∀ i, i < N → ¬ E i = v := fun i hi => by
  have := fb_ct_zero.mp h i hi
  simpa using this
theorem sn_ct_upd {E E' : Nat → Int32} {N i0 : Nat} (hi : i0 < N) (h : ∀ i, i < N → i ≠ i0 → E' i = E i) (v : Int32) : sn_ct E' N v + (if E i0 = v then 1 else 0) = sn_ct E N v + (if E' i0 = v then 1 else 0) := by
  have h1 := fb_ct_upd (fun i => decide (E i = v)) (decide (E' i0 = v)) hi
  have h2 : fb_ct (fun k => if k = i0 then decide (E' i0 = v) else decide (E k = v)) N = fb_ct (fun i => decide (E' i = v)) N := by
    refine fb_ct_cong (fun k hk => ?_)
    by_cases e : k = i0
    · subst e; simp
    · simp [e, h k hk e]
  rw [h2] at h1
  simpa [sn_ct] using h1
theorem sn_ct_one {E : Nat → Int32} {N : Nat} {v : Int32} (h : sn_ct E N v ≤ 1) {i j : Nat} (hi : i < N) (hj : j < N) (ei : E i = v) (ej : E j = v) : i = j := by
  refine Classical.byContradiction fun hne => ?_
  have hv : ¬ (v + 1 = v) := by
    intro e
    have : (1 : Int32) = 0 := by grind
    exact absurd this (by decide)
  have h1 := sn_ct_upd (E := E) (E' := fun q => if q = i then v + 1 else E q) hi (fun q _ hq => by simp [hq]) v
  simp only [ei, if_true, if_neg hv] at h1
  have h2 := sn_ct_pos (E := fun q => if q = i then v + 1 else E q) (v := v) hj (by simp [Ne.symm hne, ej])
  omega
/-! ways down -/
theorem sn_dn_neg (w : Nat → Int32) (k : Nat) : ∀ (d : Nat) {x : Int32}, x < 0 → sn_dn w k d x = x
  | 0, _, _ => rfl
  | d + 1, x, h => by unfold sn_dn; rw [if_pos h]
theorem sn_sem_neg (w h : Nat → Int32) (d k : Nat) {x : Int32} (hx : x < 0) : sn_sem w h d x k = none := by
  unfold sn_sem
  rw [sn_dn_neg w k d hx]
  unfold sn_lf
  rw [if_pos hx]
theorem sn_sem_s (w h : Nat → Int32) (d k : Nat) {c : Nat} (hc : c < 400) : sn_sem w h (d + 1) (nI c) k = sn_sem w h d (w (4 * c + k / 4 ^ (d + 1) % 4)) k := by
  unfold sn_sem
  rw [show sn_dn w k (d + 1) (nI c) = sn_dn w k d (w (4 * c + k / 4 ^ (d + 1) % 4)) from by
    conv => lhs; unfold sn_dn
    rw [if_neg (nI_pos (by omega)), nI_clamp (by omega)]]
theorem sn_sem_0 (w h : Nat → Int32) (k : Nat) {c : Nat} (hc : c < 400) : sn_sem w h 0 (nI c) k = if bt (h c) (k % 4) = true then some (w (4 * c + k % 4)) else none := by
  unfold sn_sem sn_dn sn_lf
  rw [if_neg (nI_pos (by omega)), nI_clamp (by omega)]
theorem sn_lv_ok {u : Nat → Int32} {lev : Nat → Nat} {l : Nat} {x : Int32} (h : sn_lv u lev l x) : sn_ok lev l x := by
  rcases h with h | ⟨c, h1, h2, -, h3⟩
  · exact Or.inl h
  · exact Or.inr ⟨c, h1, h2, h3⟩
theorem sn_lv_nn {u : Nat → Int32} {lev : Nat → Nat} {l : Nat} {x : Int32} (h : sn_lv u lev l x) (hx : ¬ x < 0) : ∃ c, c < 400 ∧ x = nI c ∧ u c ≠ 0 ∧ lev c = l := by
  rcases h with h | h
  · rw [h] at hx; exact absurd (by decide) hx
  · exact h
section WFS
variable {lev : Nat → Nat} {hw : Nat} {w h u r stk : Nat → Int32} {dep : Nat}
theorem sn_WF_live (F : sn_WF lev hw w h u r stk dep) {n : Nat} (hn : n < 400) (hp : 0 < sn_ct (sn_En w u r lev) 1608 (nI n) + sn_ct stk dep (nI n)) : u n ≠ 0 := by
  obtain ⟨-, -, hC, -, hd⟩ := F
  rw [hC n hn]
  have a := sn_ct_le (sn_En w u r lev) 1608 (nI n)
  have b := sn_ct_le stk dep (nI n)
  exact nI_ne0 hp (by omega)
theorem sn_WF_root (F : sn_WF lev hw w h u r stk dep) {t : Nat} (ht : t < 8) : sn_lv u lev 0 (r t) := by
  rcases F.2.1 t ht with e | ⟨c, h1, h2, h3⟩
  · exact Or.inl e
  · refine Or.inr ⟨c, h1, h2, sn_WF_live F h1 ?_, h3⟩
    have := sn_ct_pos (E := sn_En w u r lev) (N := 1608) (v := nI c) (i := t) (by omega) (by unfold sn_En; rw [if_pos ht]; exact h2)
    omega
theorem sn_En_way (w u r : Nat → Int32) (lev : Nat → Nat) {n j : Nat} (hj : j < 4) : sn_En w u r lev (8 + 4 * n + j) = if u n ≠ 0 ∧ lev n < 3 then w (4 * n + j) else -1 := by
  unfold sn_En
  rw [if_neg (by omega), show (8 + 4 * n + j - 8) / 4 = n by omega, show 8 + 4 * n + j - 8 = 4 * n + j by omega]
theorem sn_WF_kid (F : sn_WF lev hw w h u r stk dep) {n : Nat} (hn : n < 400) (hu : u n ≠ 0) (hl : lev n < 3) {j : Nat} (hj : j < 4) : sn_lv u lev (lev n + 1) (w (4 * n + j)) := by
  rcases (F.1 n hn hu).2.2 hl j hj with e | ⟨c, h1, h2, h3⟩
  · exact Or.inl e
  · refine Or.inr ⟨c, h1, h2, sn_WF_live F h1 ?_, h3⟩
    have := sn_ct_pos (E := sn_En w u r lev) (N := 1608) (v := nI c) (i := 8 + 4 * n + j) (by omega) (by rw [sn_En_way w u r lev hj, if_pos ⟨hu, hl⟩]; exact h2)
    omega
end WFS
/-! the questions' own ways -/
theorem sn_sp_turn {k l : Nat} (hk : k < 256) (hl : l < 3) {post : Int32 → Prop} (h : post (nI (k / 4 ^ (3 - l) % 4))) : mX0_turn (nI k) (nI l) post := by
  unfold mX0_turn
  rw [sn_turn k hk l hl]
  exact h
theorem sn_sp_behind {k l : Nat} (hk : k < 256) (hl : l < 5) {post : Int32 → Prop} (h : post (nI ((k / 4 ^ (4 - l) + 1) * 4 ^ (4 - l)))) : mX0_behind (nI k) (nI l) post := by
  unfold mX0_behind
  rw [sn_behind k hk l hl]
  exact h
section WFR
variable {lev : Nat → Nat} {hw : Nat} {w h u r stk : Nat → Int32} {dep : Nat}
theorem sn_sp_leaf10 (F : sn_WF lev hw w h u r stk dep) {k : Nat} (hk : k < 256) : ∀ (d : Nat), d ≤ 3 → ∀ x, sn_lv u lev (3 - d) x → ∀ (post : Int32 → Prop), post (sn_dn w k d x) → mX0_leafFor_10 (d + 1) w r (nI k) x (nI (3 - d)) post
  | 0, _, x, _, post, hp => by
    unfold mX0_leafFor_10
    exact ⟨fun _ => hp, fun q => absurd (show (3 : Int32) ≤ nI 3 by decide) q⟩
  | d + 1, hd, x, hx, post, hp => by
    unfold mX0_leafFor_10
    refine ⟨fun q => absurd q (nI_ge (b := 3) (by omega) (by omega)), fun _ => ⟨fun q => ?_, fun q => ?_⟩⟩
    · rw [sn_dn_neg w k _ q] at hp
      exact hp
    · obtain ⟨c, hc, rfl, hu, hlv⟩ := sn_lv_nn hx q
      refine sn_sp_turn hk (by omega) ?_
      have e : 3 - (3 - (d + 1)) = d + 1 := by omega
      rw [e]
      have ht : k / 4 ^ (d + 1) % 4 < 4 := Nat.mod_lt _ (by omega)
      rw [sn_ix, sn_p1, nI_clamp (by omega), show 3 - (d + 1) + 1 = 3 - d by omega]
      refine ⟨vp_in_nI (by omega) (by omega), sn_sp_leaf10 F hk d (by omega) _ ?_ post ?_⟩
      · have := sn_WF_kid F hc hu (by omega) ht
        rw [show lev c + 1 = 3 - d by omega] at this
        exact this
      · unfold sn_dn at hp
        rw [if_neg q, nI_clamp (by omega)] at hp
        exact hp
theorem sn_sp_leaf (F : sn_WF lev hw w h u r stk dep) {t k : Nat} (ht : t < 8) (hk : k < 256) {post : Int32 → Prop} (hp : post (sn_dn w k 3 (r t))) : mX0_leafFor w r (nI t) (nI k) post := by
  unfold mX0_leafFor
  rw [nI_clamp (by omega)]
  exact ⟨vp_in_nI ht (by omega), 4, sn_sp_leaf10 F hk 3 (by omega) _ (sn_WF_root F ht) post hp⟩
/-- the leaf on the way: none, or a node in use of the last level -/
theorem sn_dn_lv (F : sn_WF lev hw w h u r stk dep) (k : Nat) : ∀ (d : Nat), d ≤ 3 → ∀ x, sn_lv u lev (3 - d) x → sn_lv u lev 3 (sn_dn w k d x)
  | 0, _, x, hx => hx
  | d + 1, hd, x, hx => by
    by_cases q : x < 0
    · rw [sn_dn_neg w k _ q]
      rcases hx with e | ⟨c, h1, h2, -⟩
      · exact Or.inl e
      · rw [h2] at q; exact absurd q (nI_pos (by omega))
    · obtain ⟨c, hc, rfl, hu, hlv⟩ := sn_lv_nn hx q
      unfold sn_dn
      rw [if_neg q, nI_clamp (by omega)]
      have := sn_WF_kid F hc hu (by omega) (Nat.mod_lt (k / 4 ^ (d + 1)) (show 0 < 4 by omega))
      rw [show lev c + 1 = 3 - d by omega] at this
      exact sn_dn_lv F k d (by omega) _ this
theorem sn_sp_holds (F : sn_WF lev hw w h u r stk dep) {t k : Nat} (ht : t < 8) (hk : k < 256) {post : Int32 → Prop} (h1 : sn_sem w h 3 (r t) k ≠ none → post 1) (h0 : sn_sem w h 3 (r t) k = none → post 0) : mX0_holds w h r (nI t) (nI k) post := by
  unfold mX0_holds
  refine sn_sp_leaf F ht hk ?_
  have hl := sn_dn_lv F k 3 (by omega) _ (sn_WF_root F ht)
  unfold sn_sem at h0 h1
  generalize sn_dn w k 3 (r t) = x at hl h0 h1
  refine ⟨fun q => ?_, fun q => ?_⟩
  · refine h0 ?_
    unfold sn_lf
    rw [if_pos q]
  · obtain ⟨c, hc, rfl, hu, hlv⟩ := sn_lv_nn hl q
    unfold sn_lf at h0 h1
    rw [if_neg q, nI_clamp (by omega)] at h0 h1
    rw [nI_clamp (by omega)]
    refine ⟨vp_in_nI hc (by omega), fun q => ?_, fun q => ?_⟩
    · rw [sn_bit _ hk] at q
      exact h0 (by rw [q]; rfl)
    · rw [sn_bit _ hk] at q
      exact h1 (by rw [if_pos (by simpa using q)]; simp)
/-- the level from which on the key's part of the map is empty -/
def sn_Ms (C : Nat → Option Int32) (k l : Nat) : Prop := (l = 5 ∧ C k ≠ none) ∨ (l ≤ 4 ∧ ∀ k', k' / 4 ^ (4 - l) = k / 4 ^ (4 - l) → C k' = none)
theorem sn_blk {k k' e : Nat} (h : k' / 4 ^ e = k / 4 ^ e) : k' / 4 ^ (e + 1) = k / 4 ^ (e + 1) := by
  rw [Nat.pow_succ, ← Nat.div_div_eq_div_mul, ← Nat.div_div_eq_div_mul, h]
theorem sn_sp_miss10 (F : sn_WF lev hw w h u r stk dep) {k : Nat} (hk : k < 256) (C : Nat → Option Int32) (post : Int32 → Prop) (hp : ∀ l, l ≤ 5 → sn_Ms C k l → post (nI l)) : ∀ (d : Nat), d ≤ 3 → ∀ x, sn_lv u lev (3 - d) x → (∀ k', k' / 4 ^ (d + 1) = k / 4 ^ (d + 1) → C k' = sn_sem w h d x k') → mX0_missingLevel_10 (d + 1) w h r (nI k) x (nI (3 - d)) post
  | 0, _, x, hx, hC => by
    unfold mX0_missingLevel_10
    refine ⟨fun _ => ⟨fun q => ?_, fun q => ?_⟩, fun q => absurd (show (3 : Int32) ≤ nI 3 by decide) q⟩
    · obtain ⟨c, hc, rfl, hu, hlv⟩ := sn_lv_nn hx (Int32.not_lt.mpr q)
      rw [nI_clamp (by omega)]
      have hck := hC k rfl
      rw [sn_sem_0 w h k hc] at hck
      refine ⟨vp_in_nI hc (by omega), fun q => ?_, fun q => ?_⟩
      · rw [sn_bit _ hk] at q
        refine hp 4 (by omega) (Or.inr ⟨by omega, fun k' hk' => ?_⟩)
        simp only [Nat.sub_self, Nat.pow_zero, Nat.div_one] at hk'
        rw [hk', hck, q]
        rfl
      · rw [sn_bit _ hk] at q
        refine hp 5 (by omega) (Or.inl ⟨rfl, ?_⟩)
        rw [hck, if_pos (by simpa using q)]
        simp
    · refine hp 3 (by omega) (Or.inr ⟨by omega, fun k' hk' => ?_⟩)
      rw [hC k' hk', sn_sem_neg w h 0 k' (Int32.not_le.mp q)]
  | d + 1, hd, x, hx, hC => by
    unfold mX0_missingLevel_10
    refine ⟨fun q => absurd q (nI_ge (b := 3) (by omega) (by omega)), fun _ => ⟨fun q => ?_, fun q => ?_⟩⟩
    · obtain ⟨c, hc, rfl, hu, hlv⟩ := sn_lv_nn hx (Int32.not_lt.mpr q)
      refine sn_sp_turn hk (by omega) ?_
      have e : 3 - (3 - (d + 1)) = d + 1 := by omega
      rw [e]
      have ht : k / 4 ^ (d + 1) % 4 < 4 := Nat.mod_lt _ (by omega)
      rw [sn_ix, sn_p1, nI_clamp (by omega), show 3 - (d + 1) + 1 = 3 - d by omega]
      refine ⟨vp_in_nI (by omega) (by omega), sn_sp_miss10 F hk C post hp d (by omega) _ ?_ ?_⟩
      · have := sn_WF_kid F hc hu (by omega) ht
        rw [show lev c + 1 = 3 - d by omega] at this
        exact this
      · intro k' hk'
        rw [hC k' (sn_blk hk'), sn_sem_s w h d k' hc, hk']
    · refine hp (3 - (d + 1)) (by omega) (Or.inr ⟨by omega, fun k' hk' => ?_⟩)
      rw [show 4 - (3 - (d + 1)) = d + 1 + 1 by omega] at hk'
      rw [hC k' hk', sn_sem_neg w h _ k' (Int32.not_le.mp q)]
theorem sn_sp_miss (F : sn_WF lev hw w h u r stk dep) {t k : Nat} (ht : t < 8) (hk : k < 256) {post : Int32 → Prop} (hp : ∀ l, l ≤ 5 → sn_Ms (sn_sem w h 3 (r t)) k l → post (nI l)) : mX0_missingLevel w h r (nI t) (nI k) post := by
  unfold mX0_missingLevel
  rw [nI_clamp (by omega)]
  exact ⟨vp_in_nI ht (by omega), 4, sn_sp_miss10 F hk (sn_sem w h 3 (r t)) post hp 3 (by omega) _ (sn_WF_root F ht) (fun _ _ => rfl)⟩
end WFR
end
section
/-! the questions, on the tree (fb_rng .. out of kit/laws COUNTS.to-paste) -/
theorem fb_rng (x : Int32) : -2147483648 ≤ x.toInt ∧ x.toInt < 2147483648 := by
  have h1 := Int32.le_toInt x
  have h2 := Int32.toInt_lt x
  omega
theorem fb_bmod {z : Int} (h1 : -2147483648 ≤ z) (h2 : z < 2147483648) : z.bmod (2 ^ 32) = z := by
  rw [Int.bmod_eq_of_le (by omega) (by omega)]
theorem fb_addI {x y : Int32} (h1 : -2147483648 ≤ x.toInt + y.toInt) (h2 : x.toInt + y.toInt < 2147483648) : (x + y).toInt = x.toInt + y.toInt := by
  rw [Int32.toInt_add, fb_bmod h1 h2]
theorem fb_subI {x y : Int32} (h1 : -2147483648 ≤ x.toInt - y.toInt) (h2 : x.toInt - y.toInt < 2147483648) : (x - y).toInt = x.toInt - y.toInt := by
  rw [Int32.toInt_sub, fb_bmod h1 h2]
theorem fb_mulI {x y : Int32} (h1 : -2147483648 ≤ x.toInt * y.toInt) (h2 : x.toInt * y.toInt < 2147483648) : (x * y).toInt = x.toInt * y.toInt := by
  rw [Int32.toInt_mul, fb_bmod h1 h2]

/-- x names the map t, which is there -/
def sn_Map (f3 : Nat → Int32) (x : Int32) (t : Nat) : Prop := t < 8 ∧ x + 1 = nI t ∧ f3 t ≠ 0
theorem sn_m8 {x : Int32} (h1 : ¬ x < (-1 : Int32)) (h2 : ¬ (6 : Int32) < x) : ∃ t, t < 8 ∧ x + 1 = nI t := by
  have a : -1 ≤ x.toInt := by
    have := Int32.le_iff_toInt_le.mp (Int32.not_lt.mp h1)
    simpa using this
  have b : x.toInt ≤ 6 := by
    have := Int32.le_iff_toInt_le.mp (Int32.not_lt.mp h2)
    simpa using this
  have e : (x + 1).toInt = x.toInt + 1 := by
    have := fb_addI (x := x) (y := 1) (by simp; omega) (by simp; omega)
    simpa using this
  obtain ⟨j, hj, e2⟩ := nI_of2 (x := x + 1) (M := 7) (n := 7) (by decide) (by rw [Int32.lt_iff_toInt_lt, e]; simp; omega) (by rw [Int32.le_iff_toInt_le, e]; simp; omega)
  exact ⟨j, by omega, e2⟩
theorem sn_m8' {x : Int32} {t : Nat} (ht : t < 8) (e : x + 1 = nI t) : ¬ x < (-1 : Int32) ∧ ¬ (6 : Int32) < x := by
  have e2 : x = nI t - 1 := by rw [← e]; grind
  rw [e2]
  exact (by decide +kernel : ∀ t, t < 8 → ¬ nI t - 1 < (-1 : Int32) ∧ ¬ (6 : Int32) < nI t - 1) t ht
theorem sn_Map_one {f3 : Nat → Int32} {x : Int32} {t t' : Nat} (h : sn_Map f3 x t) (h' : x + 1 = nI t') (ht' : t' < 8) : t' = t := sn_inj (by omega) (by have := h.1; omega) (h'.symm.trans h.2.1)
theorem sn_sp_isMap {f3 : Nat → Int32} {x : Int32} {post : Int32 → Prop} (h1 : ∀ t, sn_Map f3 x t → post 1) (h0 : (∀ t, ¬ sn_Map f3 x t) → post 0) : mX0_isMap f3 x post := by
  unfold mX0_isMap
  refine ⟨fun q => h0 (fun t ht => (sn_m8' ht.1 ht.2.1).1 q), fun q1 => ⟨fun q => h0 (fun t ht => (sn_m8' ht.1 ht.2.1).2 q), fun q2 => ?_⟩⟩
  obtain ⟨t, ht, e⟩ := sn_m8 q1 q2
  rw [e, nI_clamp (by omega)]
  refine ⟨vp_in_nI ht (by omega), fun q => h0 (fun t' ht' => ?_), fun q => h1 t ⟨ht, e, q⟩⟩
  have := sn_Map_one ht' e ht
  subst this
  exact ht'.2.2 q
/-- the first k from fr on with P, 256 if there is none -/
def sn_Nx (P : Nat → Bool) (fr r : Int32) : Prop := (∃ k, k < 256 ∧ r = nI k ∧ fr ≤ nI k ∧ P k = true ∧ ∀ j, j < k → fr ≤ nI j → P j = false) ∨ (r = 256 ∧ ∀ j, j < 256 → fr ≤ nI j → P j = false)
theorem sn_Nx_one {P : Nat → Bool} {fr r r' : Int32} (h : sn_Nx P fr r) (h' : sn_Nx P fr r') : r = r' := by
  rcases h with ⟨k, hk, rfl, h1, h2, h3⟩ | ⟨rfl, h3⟩
  · rcases h' with ⟨k', hk', rfl, h1', h2', h3'⟩ | ⟨rfl, h3'⟩
    · rcases Nat.lt_trichotomy k k' with q | q | q
      · rw [h3' k q h1] at h2; cases h2
      · rw [q]
      · rw [h3 k' q h1'] at h2'; cases h2'
    · rw [h3' k hk h1] at h2; cases h2
  · rcases h' with ⟨k', hk', rfl, h1', h2', h3'⟩ | ⟨rfl, h3'⟩
    · rw [h3 k' hk' h1'] at h2'; cases h2'
    · rfl
theorem sn_bh {k l : Nat} (hk : k < 256) (hl : l < 5) : k < (k / 4 ^ (4 - l) + 1) * 4 ^ (4 - l) ∧ (k / 4 ^ (4 - l) + 1) * 4 ^ (4 - l) ≤ 256 ∧ ∀ j, k ≤ j → j < (k / 4 ^ (4 - l) + 1) * 4 ^ (4 - l) → j / 4 ^ (4 - l) = k / 4 ^ (4 - l) := by
  have key : ∀ s, s = 1 ∨ s = 4 ∨ s = 16 ∨ s = 64 ∨ s = 256 → k < (k / s + 1) * s ∧ (k / s + 1) * s ≤ 256 ∧ ∀ j, k ≤ j → j < (k / s + 1) * s → j / s = k / s := by
    intro s hs
    rcases hs with rfl | rfl | rfl | rfl | rfl
    · refine ⟨by omega, by omega, fun j h1 h2 => by omega⟩
    · refine ⟨by omega, by omega, fun j h1 h2 => by omega⟩
    · refine ⟨by omega, by omega, fun j h1 h2 => by omega⟩
    · refine ⟨by omega, by omega, fun j h1 h2 => by omega⟩
    · refine ⟨by omega, by omega, fun j h1 h2 => by omega⟩
  refine key _ ?_
  rcases (show l = 0 ∨ l = 1 ∨ l = 2 ∨ l = 3 ∨ l = 4 by omega) with rfl | rfl | rfl | rfl | rfl <;> decide
theorem sn_lt5 {l : Nat} (hl : l ≤ 5) (h : nI l ≤ (4 : Int32)) : l ≤ 4 := (sn_le (a := l) (b := 4) (by omega) (by omega)).mp h
section NX
variable {lev : Nat → Nat} {hw : Nat} {w h u r stk : Nat → Int32} {dep : Nat} {f3 : Nat → Int32}
theorem sn_sp_next23 (F : sn_WF lev hw w h u r stk dep) {t : Nat} (ht : t < 8) {x1 fr : Int32} (hx : x1 + 1 = nI t) {post : Int32 → Prop} (hp : ∀ y, sn_Nx (fun k => (sn_sem w h 3 (r t) k).isSome) fr y → post y) : ∀ (n key s : Nat), 256 < n + key ∧ 0 < n → s ≤ key → key < 2 ^ 31 → fr ≤ nI key → (∀ j, j < key → j < 256 → fr ≤ nI j → (sn_sem w h 3 (r t) j).isSome = false) → mX0_next_23 n w h f3 r x1 (nI key) (nI s) post := by
  intro n
  induction n with
  | zero =>
    intro key s hn hs hk hf hj
    omega
  | succ n ih =>
    intro key s hn hs hk hf hj
    unfold mX0_next_23
    refine ⟨fun q => ?_, fun q => ⟨fun q => ?_, fun q => ?_⟩⟩
    · have := (sn_le (a := 256) (b := s) (by omega) (by omega)).mp q
      exact hp _ (Or.inr ⟨rfl, fun j hj2 hf2 => hj j (by omega) hj2 hf2⟩)
    · have := (sn_le (a := 256) (b := key) (by omega) (by omega)).mp q
      exact hp _ (Or.inr ⟨rfl, fun j hj2 hf2 => hj j (by omega) hj2 hf2⟩)
    · have hk2 : key < 256 := by
        rcases Nat.lt_or_ge key 256 with z | z
        · exact z
        · exact absurd ((sn_le (a := 256) (b := key) (by omega) (by omega)).mpr z) q
      rw [hx]
      refine sn_sp_miss F ht hk2 (fun l hl hM => ⟨fun q => ?_, fun q => ?_⟩)
      · have hl4 := sn_lt5 hl q
        obtain ⟨b1, b2, b3⟩ := sn_bh hk2 (show l < 5 by omega)
        refine sn_sp_behind hk2 (by omega) ?_
        rw [sn_p1]
        refine ih _ _ (by omega) (by omega) (by omega) ?_ ?_
        · refine Int32.le_trans hf (nI_le (by omega) (by omega))
        · intro j h1 h2 h3
          rcases Nat.lt_or_ge j key with z | z
          · exact hj j z h2 h3
          · rcases hM with ⟨e, -⟩ | ⟨-, hM⟩
            · omega
            · rw [hM j (b3 j z h1)]
              rfl
      · rcases hM with ⟨e, hM⟩ | ⟨e, -⟩
        · refine hp _ (Or.inl ⟨key, hk2, rfl, hf, Option.isSome_iff_ne_none.mpr hM, fun j h1 h2 => hj j h1 (by omega) h2⟩)
        · exact absurd ((sn_le (a := l) (b := 4) (by omega) (by omega)).mpr e) q
theorem sn_sp_next (F : sn_WF lev hw w h u r stk dep) {x1 fr : Int32} {post : Int32 → Prop} (hp : ∀ t, sn_Map f3 x1 t → ∀ y, sn_Nx (fun k => (sn_sem w h 3 (r t) k).isSome) fr y → post y) (h0 : (∀ t, ¬ sn_Map f3 x1 t) → post (-1)) : mX0_next w h f3 r x1 fr post := by
  unfold mX0_next
  refine sn_sp_isMap (fun t ht => ⟨fun _ => ⟨fun q => ?_, fun q => ?_⟩, fun q => absurd q (by decide)⟩) (fun q => ⟨fun z => absurd rfl z, fun _ => h0 q⟩)
  · obtain ⟨key, hk, e⟩ := nI_of (Int32.not_lt.mpr q)
    refine ⟨257, ?_⟩
    rw [e]
    refine sn_sp_next23 (fr := fr) F ht.1 ht.2.1 (hp t ht) 257 key 0 (by omega) (by omega) hk (by rw [e]; exact Int32.le_refl _) (fun j h1 h2 h3 => ?_)
    rw [e] at h3
    have := (sn_le (by omega) (by omega)).mp h3
    omega
  · refine ⟨257, ?_⟩
    refine sn_sp_next23 (fr := fr) F ht.1 ht.2.1 (hp t ht) 257 0 0 (by omega) (by omega) (by omega) (Int32.le_of_lt (Int32.not_le.mp q)) (fun j h1 h2 h3 => absurd h1 (by omega))
/-! two maps -/
def sn_Sh (A B : Nat → Option Int32) (k l : Nat) : Prop := (l = 5 ∧ A k ≠ B k) ∨ (l ≤ 4 ∧ ∀ k', k' / 4 ^ (4 - l) = k / 4 ^ (4 - l) → A k' = B k')
theorem sn_Sh4 {A B : Nat → Option Int32} {k : Nat} (h : A k = B k) : sn_Sh A B k 4 := by
  refine Or.inr ⟨by omega, fun k' hk' => ?_⟩
  simp only [Nat.sub_self, Nat.pow_zero, Nat.div_one] at hk'
  rw [hk', h]
theorem sn_sh160 {A B : Nat → Option Int32} {k : Nat} (hk : k < 256) {x y i j : Int32} (hi : (i = 0 ∧ A k = none) ∨ (i = 1 ∧ ∃ a, a < 400 ∧ x = nI a ∧ A k = some (w (4 * a + k % 4)))) (hj : (j = 0 ∧ B k = none) ∨ (j = 1 ∧ ∃ a, a < 400 ∧ y = nI a ∧ B k = some (w (4 * a + k % 4)))) {post : Int32 → Prop} (hp : ∀ l, l ≤ 5 → sn_Sh A B k l → post (nI l)) : mX0_sharedLevel_160 w h r (nI k) x y i j post := by
  unfold mX0_sharedLevel_160
  rcases hi with ⟨rfl, ha⟩ | ⟨rfl, a, hac, rfl, ha⟩ <;> rcases hj with ⟨rfl, hb⟩ | ⟨rfl, b, hbc, rfl, hb⟩
  · exact ⟨fun _ => ⟨fun _ => hp 4 (by omega) (sn_Sh4 (by rw [ha, hb])), fun q => absurd rfl q⟩, fun q => absurd rfl q⟩
  · exact ⟨fun q => absurd q (by decide), fun _ => hp 5 (by omega) (Or.inl ⟨rfl, by rw [ha, hb]; simp⟩)⟩
  · exact ⟨fun q => absurd q (by decide), fun _ => hp 5 (by omega) (Or.inl ⟨rfl, by rw [ha, hb]; simp⟩)⟩
  · refine ⟨fun _ => ⟨fun q => absurd q (by decide), fun _ => ?_⟩, fun q => absurd rfl q⟩
    rw [sn_k3 hk, sn_ix, sn_ix, nI_clamp (by omega), nI_clamp (by omega)]
    refine ⟨vp_in_nI (by omega) (by omega), vp_in_nI (by omega) (by omega), fun q => ?_, fun q => ?_⟩
    · exact hp 4 (by omega) (sn_Sh4 (by rw [ha, hb, q]))
    · exact hp 5 (by omega) (Or.inl ⟨rfl, by rw [ha, hb]; simpa using q⟩)
theorem sn_sp_sh19 (F : sn_WF lev hw w h u r stk dep) {k : Nat} (hk : k < 256) (A B : Nat → Option Int32) (post : Int32 → Prop) (hp : ∀ l, l ≤ 5 → sn_Sh A B k l → post (nI l)) : ∀ (d : Nat), d ≤ 3 → ∀ x y, sn_lv u lev (3 - d) x → sn_lv u lev (3 - d) y → (∀ k', k' / 4 ^ (d + 1) = k / 4 ^ (d + 1) → A k' = sn_sem w h d x k') → (∀ k', k' / 4 ^ (d + 1) = k / 4 ^ (d + 1) → B k' = sn_sem w h d y k') → mX0_sharedLevel_19 (d + 1) w h r (nI k) x y (nI (3 - d)) post
  | 0, _, x, y, hx, hy, hA, hB => by
    unfold mX0_sharedLevel_19
    refine ⟨fun _ => ⟨fun _ => ?_, fun q => ?_⟩, fun q => absurd (show (3 : Int32) ≤ nI 3 by decide) q⟩
    · have hAk := hA k rfl
      have hBk := hB k rfl
      have h132 : ∀ i : Int32, ((i = 0 ∧ A k = none) ∨ (i = 1 ∧ ∃ a, a < 400 ∧ x = nI a ∧ A k = some (w (4 * a + k % 4)))) → mX0_sharedLevel_132 w h r (nI k) x y i post := by
        intro i hi
        unfold mX0_sharedLevel_132
        refine ⟨fun q => sn_sh160 hk hi (Or.inl ⟨rfl, by rw [hBk, sn_sem_neg w h 0 k q]⟩) hp, fun q => ?_⟩
        obtain ⟨c, hc, rfl, hu, hlv⟩ := sn_lv_nn hy q
        rw [sn_sem_0 w h k hc] at hBk
        rw [nI_clamp (by omega)]
        refine ⟨vp_in_nI hc (by omega), fun q => ?_, fun q => ?_⟩
        · rw [sn_bit _ hk] at q
          exact sn_sh160 hk hi (Or.inl ⟨rfl, by rw [hBk, q]; rfl⟩) hp
        · rw [sn_bit _ hk] at q
          exact sn_sh160 hk hi (Or.inr ⟨rfl, c, hc, rfl, by rw [hBk, if_pos (by simpa using q)]⟩) hp
      refine ⟨fun q => h132 0 (Or.inl ⟨rfl, by rw [hAk, sn_sem_neg w h 0 k q]⟩), fun q => ?_⟩
      obtain ⟨c, hc, rfl, hu, hlv⟩ := sn_lv_nn hx q
      rw [sn_sem_0 w h k hc] at hAk
      rw [nI_clamp (by omega)]
      refine ⟨vp_in_nI hc (by omega), fun q => ?_, fun q => ?_⟩
      · rw [sn_bit _ hk] at q
        exact h132 0 (Or.inl ⟨rfl, by rw [hAk, q]; rfl⟩)
      · rw [sn_bit _ hk] at q
        exact h132 1 (Or.inr ⟨rfl, c, hc, rfl, by rw [hAk, if_pos (by simpa using q)]⟩)
    · refine hp 3 (by omega) (Or.inr ⟨by omega, fun k' hk' => ?_⟩)
      rw [hA k' hk', hB k' hk', q]
  | d + 1, hd, x, y, hx, hy, hA, hB => by
    unfold mX0_sharedLevel_19
    have e : 3 - (3 - (d + 1)) = d + 1 := by omega
    have ht : k / 4 ^ (d + 1) % 4 < 4 := Nat.mod_lt _ (by omega)
    have hneg : ∀ {z : Int32} {C : Nat → Option Int32}, z < 0 → (∀ k', k' / 4 ^ (d + 1 + 1) = k / 4 ^ (d + 1 + 1) → C k' = sn_sem w h (d + 1) z k') → ∀ k', k' / 4 ^ (d + 1) = k / 4 ^ (d + 1) → C k' = sn_sem w h d (-1) k' := by
      intro z C hz hC k' hk'
      rw [hC k' (sn_blk hk'), sn_sem_neg w h _ k' hz, sn_sem_neg w h d k' (by decide)]
    have hpos : ∀ {c : Nat} {C : Nat → Option Int32}, c < 400 → (∀ k', k' / 4 ^ (d + 1 + 1) = k / 4 ^ (d + 1 + 1) → C k' = sn_sem w h (d + 1) (nI c) k') → ∀ k', k' / 4 ^ (d + 1) = k / 4 ^ (d + 1) → C k' = sn_sem w h d (w (4 * c + k / 4 ^ (d + 1) % 4)) k' := by
      intro c C hc hC k' hk'
      rw [hC k' (sn_blk hk'), sn_sem_s w h d k' hc, hk']
    have hkid : ∀ {c : Nat}, c < 400 → u c ≠ 0 → lev c = 3 - (d + 1) → sn_lv u lev (3 - d) (w (4 * c + k / 4 ^ (d + 1) % 4)) := by
      intro c hc hu hlv
      have := sn_WF_kid F hc hu (by omega) ht
      rw [show lev c + 1 = 3 - d by omega] at this
      exact this
    refine ⟨fun q => absurd q (nI_ge (b := 3) (by omega) (by omega)), fun _ => ⟨fun _ => ⟨fun q => ?_, fun q => ?_⟩, fun q => ?_⟩⟩
    · obtain ⟨c, hc, rfl, hu, hlv⟩ := sn_lv_nn hx (Int32.not_lt.mpr q)
      refine sn_sp_turn hk (by omega) ?_
      rw [e, sn_ix, nI_clamp (by omega)]
      refine ⟨vp_in_nI (by omega) (by omega), fun q => ?_, fun q => ?_⟩
      · obtain ⟨c', hc', rfl, hu', hlv'⟩ := sn_lv_nn hy (Int32.not_lt.mpr q)
        refine sn_sp_turn hk (by omega) ?_
        rw [e, sn_ix, nI_clamp (by omega), sn_p1, show 3 - (d + 1) + 1 = 3 - d by omega]
        exact ⟨vp_in_nI (by omega) (by omega), sn_sp_sh19 F hk A B post hp d (by omega) _ _ (hkid hc hu hlv) (hkid hc' hu' hlv') (hpos hc hA) (hpos hc' hB)⟩
      · rw [sn_p1, show 3 - (d + 1) + 1 = 3 - d by omega]
        exact sn_sp_sh19 F hk A B post hp d (by omega) _ _ (hkid hc hu hlv) (Or.inl rfl) (hpos hc hA) (hneg (Int32.not_le.mp q) hB)
    · refine ⟨fun q2 => ?_, fun q2 => ?_⟩
      · obtain ⟨c', hc', rfl, hu', hlv'⟩ := sn_lv_nn hy (Int32.not_lt.mpr q2)
        refine sn_sp_turn hk (by omega) ?_
        rw [e, sn_ix, nI_clamp (by omega), sn_p1, show 3 - (d + 1) + 1 = 3 - d by omega]
        exact ⟨vp_in_nI (by omega) (by omega), sn_sp_sh19 F hk A B post hp d (by omega) _ _ (Or.inl rfl) (hkid hc' hu' hlv') (hneg (Int32.not_le.mp q) hA) (hpos hc' hB)⟩
      · rw [sn_p1, show 3 - (d + 1) + 1 = 3 - d by omega]
        exact sn_sp_sh19 F hk A B post hp d (by omega) _ _ (Or.inl rfl) (Or.inl rfl) (hneg (Int32.not_le.mp q) hA) (hneg (Int32.not_le.mp q2) hB)
    · refine hp (3 - (d + 1)) (by omega) (Or.inr ⟨by omega, fun k' hk' => ?_⟩)
      rw [show 4 - (3 - (d + 1)) = d + 1 + 1 by omega] at hk'
      rw [hA k' hk', hB k' hk', q]
theorem sn_sp_shared (F : sn_WF lev hw w h u r stk dep) {a b k : Nat} (ha : a < 8) (hb : b < 8) (hk : k < 256) {post : Int32 → Prop} (hp : ∀ l, l ≤ 5 → sn_Sh (sn_sem w h 3 (r a)) (sn_sem w h 3 (r b)) k l → post (nI l)) : mX0_sharedLevel w h r (nI a) (nI b) (nI k) post := by
  unfold mX0_sharedLevel
  rw [nI_clamp (by omega), nI_clamp (by omega)]
  exact ⟨vp_in_nI ha (by omega), vp_in_nI hb (by omega), 4, sn_sp_sh19 F hk _ _ post hp 3 (by omega) _ _ (sn_WF_root F ha) (sn_WF_root F hb) (fun _ _ => rfl) (fun _ _ => rfl)⟩
def sn_df (A B : Nat → Option Int32) (k : Nat) : Bool := decide (A k ≠ B k)
theorem sn_sp_nc32 (F : sn_WF lev hw w h u r stk dep) {a b : Nat} (ha : a < 8) (hb : b < 8) {x1 x2 fr : Int32} (hx : x1 + 1 = nI a) (hy : x2 + 1 = nI b) {post : Int32 → Prop} (hp : ∀ y, sn_Nx (sn_df (sn_sem w h 3 (r a)) (sn_sem w h 3 (r b))) fr y → post y) : ∀ (n key s : Nat), 256 < n + key ∧ 0 < n → s ≤ key → key < 2 ^ 31 → fr ≤ nI key → (∀ j, j < key → j < 256 → fr ≤ nI j → sn_df (sn_sem w h 3 (r a)) (sn_sem w h 3 (r b)) j = false) → mX0_nextChange_32 n w h f3 r x1 x2 (nI key) (nI s) post := by
  intro n
  induction n with
  | zero =>
    intro key s hn hs hk hf hj
    omega
  | succ n ih =>
    intro key s hn hs hk hf hj
    unfold mX0_nextChange_32
    refine ⟨fun q => ?_, fun q => ⟨fun q => ?_, fun q => ?_⟩⟩
    · have := (sn_le (a := 256) (b := s) (by omega) (by omega)).mp q
      exact hp _ (Or.inr ⟨rfl, fun j hj2 hf2 => hj j (by omega) hj2 hf2⟩)
    · have := (sn_le (a := 256) (b := key) (by omega) (by omega)).mp q
      exact hp _ (Or.inr ⟨rfl, fun j hj2 hf2 => hj j (by omega) hj2 hf2⟩)
    · have hk2 : key < 256 := by
        rcases Nat.lt_or_ge key 256 with z | z
        · exact z
        · exact absurd ((sn_le (a := 256) (b := key) (by omega) (by omega)).mpr z) q
      rw [hx, hy]
      refine sn_sp_shared F ha hb hk2 (fun l hl hM => ⟨fun q => ?_, fun q => ?_⟩)
      · have hl4 := sn_lt5 hl q
        obtain ⟨b1, b2, b3⟩ := sn_bh hk2 (show l < 5 by omega)
        refine sn_sp_behind hk2 (by omega) ?_
        rw [sn_p1]
        refine ih _ _ (by omega) (by omega) (by omega) ?_ ?_
        · refine Int32.le_trans hf (nI_le (by omega) (by omega))
        · intro j h1 h2 h3
          rcases Nat.lt_or_ge j key with z | z
          · exact hj j z h2 h3
          · rcases hM with ⟨e, -⟩ | ⟨-, hM⟩
            · omega
            · unfold sn_df
              rw [hM j (b3 j z h1)]
              simp
      · rcases hM with ⟨e, hM⟩ | ⟨e, -⟩
        · exact hp _ (Or.inl ⟨key, hk2, rfl, hf, by unfold sn_df; simpa using hM, fun j h1 h2 => hj j h1 (by omega) h2⟩)
        · exact absurd ((sn_le (a := l) (b := 4) (by omega) (by omega)).mpr e) q
theorem sn_sp_nc (F : sn_WF lev hw w h u r stk dep) {a b : Nat} {x1 x2 fr : Int32} (ha : sn_Map f3 x1 a) (hb : sn_Map f3 x2 b) {post : Int32 → Prop} (hp : ∀ y, sn_Nx (sn_df (sn_sem w h 3 (r a)) (sn_sem w h 3 (r b))) fr y → post y) : mX0_nextChange w h f3 r x1 x2 fr post := by
  unfold mX0_nextChange
  refine sn_sp_isMap (fun t ht => ⟨fun q => absurd q (by decide), fun _ => ?_⟩) (fun q => absurd ha (q a))
  refine sn_sp_isMap (fun t ht => ⟨fun _ => ⟨fun q => ?_, fun q => ?_⟩, fun q => absurd q (by decide)⟩) (fun q => absurd hb (q b))
  · obtain ⟨key, hk, e⟩ := nI_of (Int32.not_lt.mpr q)
    refine ⟨257, ?_⟩
    rw [e]
    refine sn_sp_nc32 (fr := fr) F ha.1 hb.1 ha.2.1 hb.2.1 hp 257 key 0 (by omega) (by omega) hk (by rw [e]; exact Int32.le_refl _) (fun j h1 h2 h3 => ?_)
    rw [e] at h3
    have := (sn_le (by omega) (by omega)).mp h3
    omega
  · refine ⟨257, ?_⟩
    refine sn_sp_nc32 (fr := fr) F ha.1 hb.1 ha.2.1 hb.2.1 hp 257 0 0 (by omega) (by omega) (by omega) (Int32.le_of_lt (Int32.not_le.mp q)) (fun j h1 h2 h3 => absurd h1 (by omega))
theorem sn_sp_nc0 {x1 x2 fr : Int32} (hh : (∀ t, ¬ sn_Map f3 x1 t) ∨ (∀ t, ¬ sn_Map f3 x2 t)) {post : Int32 → Prop} (hp : post (-1)) : mX0_nextChange w h f3 r x1 x2 fr post := by
  unfold mX0_nextChange
  refine sn_sp_isMap (fun t ht => ⟨fun q => absurd q (by decide), fun _ => ?_⟩) (fun q => ⟨fun _ => hp, fun z => absurd rfl z⟩)
  refine sn_sp_isMap (fun t' ht' => ?_) (fun q => ⟨fun z => absurd rfl z, fun _ => hp⟩)
  rcases hh with hh | hh
  · exact absurd ht (hh t)
  · exact absurd ht' (hh t')
/-- the changes counted: at each stop the number of changes below the key -/
theorem sn_sp_ch32 (F : sn_WF lev hw w h u r stk dep) {a b : Nat} {x1 x2 : Int32} (ha : sn_Map f3 x1 a) (hb : sn_Map f3 x2 b) {post : Int32 → Prop} (hp : post (nI (fb_ct (sn_df (sn_sem w h 3 (r a)) (sn_sem w h 3 (r b))) 256))) : ∀ (n key s : Nat), 256 < n + key → 0 < n → s ≤ key → key ≤ 256 → (key < 256 → sn_df (sn_sem w h 3 (r a)) (sn_sem w h 3 (r b)) key = true) → mX0_changes_32 n w h f3 r x1 x2 (nI (fb_ct (sn_df (sn_sem w h 3 (r a)) (sn_sem w h 3 (r b))) key)) (nI key) (nI s) post := by
  intro n
  induction n with
  | zero =>
    intro key s hn h0 hs hk hd
    omega
  | succ n ih =>
    intro key s hn h0 hs hk hd
    unfold mX0_changes_32
    refine ⟨fun q => ?_, fun q => ⟨fun q => ?_, fun q => ?_⟩⟩
    · have := (sn_le (a := 256) (b := s) (by omega) (by omega)).mp q
      rw [show key = 256 by omega]
      exact hp
    · have := (sn_le (a := 256) (b := key) (by omega) (by omega)).mp q
      rw [show key = 256 by omega]
      exact hp
    · have hk2 : key < 256 := by
        rcases Nat.lt_or_ge key 256 with z | z
        · exact z
        · exact absurd ((sn_le (a := 256) (b := key) (by omega) (by omega)).mpr z) q
      rw [sn_p1, sn_p1]
      refine sn_sp_nc F ha hb (fun y hy => ?_)
      rw [sn_p1]
      have hgo : ∀ k', key + 1 ≤ k' → k' ≤ 256 → (∀ j, key < j → j < k' → sn_df (sn_sem w h 3 (r a)) (sn_sem w h 3 (r b)) j = false) → fb_ct (sn_df (sn_sem w h 3 (r a)) (sn_sem w h 3 (r b))) key + 1 = fb_ct (sn_df (sn_sem w h 3 (r a)) (sn_sem w h 3 (r b))) k' := by
        intro k' h1 h2 h3
        have e1 : fb_ct (sn_df (sn_sem w h 3 (r a)) (sn_sem w h 3 (r b))) (key + 1) = fb_ct (sn_df (sn_sem w h 3 (r a)) (sn_sem w h 3 (r b))) key + 1 := by
          rw [fb_ct_succ, if_pos (hd hk2)]
        have e2 := fb_ct_split (sn_df (sn_sem w h 3 (r a)) (sn_sem w h 3 (r b))) (key + 1) (k' - (key + 1))
        rw [show key + 1 + (k' - (key + 1)) = k' by omega, fb_ct_zero.mpr (fun j hj => h3 (key + 1 + j) (by omega) (by omega))] at e2
        omega
      rcases hy with ⟨k', hk', rfl, h1, h2, h3⟩ | ⟨rfl, h3⟩
      · have h1 := (sn_le (by omega) (by omega)).mp h1
        rw [hgo k' h1 (by omega) (fun j hj1 hj2 => h3 j hj2 (nI_le (by omega) (by omega)))]
        exact ih k' (s + 1) (by omega) (by omega) (by omega) (by omega) (fun _ => h2)
      · rw [hgo 256 (by omega) (by omega) (fun j hj1 hj2 => h3 j hj2 (nI_le (by omega) (by omega)))]
        exact ih 256 (s + 1) (by omega) (by omega) (by omega) (by omega) (fun q => absurd q (by omega))
theorem sn_sp_ch (F : sn_WF lev hw w h u r stk dep) {a b : Nat} {x1 x2 : Int32} (ha : sn_Map f3 x1 a) (hb : sn_Map f3 x2 b) {post : Int32 → Prop} (hp : post (nI (fb_ct (sn_df (sn_sem w h 3 (r a)) (sn_sem w h 3 (r b))) 256))) : mX0_changes w h f3 r x1 x2 post := by
  unfold mX0_changes
  refine sn_sp_isMap (fun t ht => ⟨fun q => absurd q (by decide), fun _ => ?_⟩) (fun q => absurd ha (q a))
  refine sn_sp_isMap (fun t ht => ⟨fun _ => ?_, fun q => absurd q (by decide)⟩) (fun q => absurd hb (q b))
  refine sn_sp_nc F ha hb (fun y hy => ⟨258, ?_⟩)
  have hgo : ∀ k', k' ≤ 256 → (∀ j, j < k' → sn_df (sn_sem w h 3 (r a)) (sn_sem w h 3 (r b)) j = false) → (0 : Int32) = nI (fb_ct (sn_df (sn_sem w h 3 (r a)) (sn_sem w h 3 (r b))) k') := by
    intro k' h1 h3
    rw [fb_ct_zero.mpr (fun j hj => h3 j hj)]
    rfl
  rcases hy with ⟨k', hk', rfl, h1, h2, h3⟩ | ⟨rfl, h3⟩
  · have z := sn_sp_ch32 F ha hb hp 258 k' 0 (by omega) (by omega) (by omega) (by omega) (fun _ => h2)
    rw [← hgo k' (by omega) (fun j hj => h3 j hj (nI_pos' (by omega)))] at z
    exact z
  · have z := sn_sp_ch32 F ha hb hp 258 256 0 (by omega) (by omega) (by omega) (by omega) (fun q => absurd q (by omega))
    rw [← hgo 256 (by omega) (fun j hj => h3 j hj (nI_pos' (by omega)))] at z
    exact z
theorem sn_sp_ch0 {x1 x2 : Int32} (hh : (∀ t, ¬ sn_Map f3 x1 t) ∨ (∀ t, ¬ sn_Map f3 x2 t)) {post : Int32 → Prop} (hp : post (-1)) : mX0_changes w h f3 r x1 x2 post := by
  unfold mX0_changes
  refine sn_sp_isMap (fun t ht => ⟨fun q => absurd q (by decide), fun _ => ?_⟩) (fun q => ⟨fun _ => hp, fun z => absurd rfl z⟩)
  refine sn_sp_isMap (fun t' ht' => ?_) (fun q => ⟨fun z => absurd rfl z, fun _ => hp⟩)
  rcases hh with hh | hh
  · exact absurd ht (hh t)
  · exact absurd ht' (hh t')
end NX
end
section
/-! the reference, plainly -/
def sn_mt (t : Nat) : Nat := if t = 0 then 7 else t - 1
theorem sn_mt_lt {t : Nat} (h : t < 8) : sn_mt t < 8 := by unfold sn_mt; split <;> omega
/-- what the map at m binds to k -/
def sn_cM (g1 g2 : Nat → Int32) (m k : Nat) : Option Int32 := if g1 (256 * m + k) = 0 then none else some (g2 (256 * m + k))
def sn_cnt (g1 : Nat → Int32) (m : Nat) : Nat := fb_ct (fun k => decide (¬ g1 (256 * m + k) = 0)) 256
def sn_01 (g1 : Nat → Int32) : Prop := ∀ i, i < 2048 → g1 i = 0 ∨ g1 i = 1
theorem sn_cM_some (g1 g2 : Nat → Int32) (m k : Nat) : (sn_cM g1 g2 m k).isSome = decide (¬ g1 (256 * m + k) = 0) := by
  unfold sn_cM
  by_cases h : g1 (256 * m + k) = 0 <;> simp [h]
theorem sn_key (x : Int32) : x < 0 ∨ (255 : Int32) < x ∨ ∃ k, k < 256 ∧ x = nI k := by
  rcases pk_ix x (n := 256) (by omega) with h | h | h
  · exact Or.inl h
  · refine Or.inr (Or.inl ?_)
    rw [Int32.lt_iff_toInt_lt]
    rw [Int32.le_iff_toInt_le, nI_toInt (by omega)] at h
    have : (255 : Int32).toInt = 255 := by decide
    omega
  · exact Or.inr (Or.inr h)
theorem sn_keyle {k : Nat} (hk : k < 256) : nI k ≤ (255 : Int32) := (sn_le (a := k) (b := 255) (by omega) (by omega)).mpr (by omega)
theorem sn_sp_badKey {x : Int32} {post : Int32 → Prop} (h0 : ∀ k, k < 256 → x = nI k → post 0) (h1 : (∀ k, k < 256 → ¬ x = nI k) → post 1) : mX1_badKey x post := by
  unfold mX1_badKey
  refine ⟨fun q => h1 (fun k hk e => nI_pos (n := k) (by omega) (by rw [← e]; exact q)), fun q1 => ⟨fun q => ?_, fun q => h1 (fun k hk e => q (by rw [e]; exact sn_keyle hk))⟩⟩
  rcases sn_key x with h | h | ⟨k, hk, e⟩
  · exact absurd h q1
  · exact absurd q (Int32.not_le.mpr h)
  · exact h0 k hk e
theorem sn_sp_count4 {g1 : Nat → Int32} {m : Nat} (hm : m < 8) {post : Int32 → Prop} (hp : post (nI (sn_cnt g1 m))) : ∀ (n i : Nat), i + n = 256 → mX1_count_4 (n + 1) g1 (nI m) (nI (fb_ct (fun k => decide (¬ g1 (256 * m + k) = 0)) i)) (nI i) post := by
  intro n
  induction n with
  | zero =>
    intro i hi
    unfold mX1_count_4
    refine ⟨fun _ => ?_, fun q => absurd (nI_le (a := 256) (b := i) (by omega) (by omega)) q⟩
    rw [show i = 256 by omega]
    exact hp
  | succ n ih =>
    intro i hi
    unfold mX1_count_4
    refine ⟨fun q => absurd q (nI_ge (a := i) (b := 256) (by omega) (by omega)), fun _ => ?_⟩
    rw [sn_ix256, nI_clamp (by omega), sn_p1, sn_p1]
    have z := ih (i + 1) (by omega)
    rw [fb_ct_succ] at z
    refine ⟨vp_in_nI (by omega) (by omega), fun q => ?_, fun q => ?_⟩
    · rw [if_neg (by simp [q])] at z
      exact z
    · rw [if_pos (by simp [q])] at z
      exact z
theorem sn_sp_count {g1 : Nat → Int32} {m : Nat} (hm : m < 8) {post : Int32 → Prop} (hp : post (nI (sn_cnt g1 m))) : mX1_count g1 (nI m) post := ⟨257, sn_sp_count4 hm hp 256 0 (by omega)⟩
def sn_cp (g : Nat → Int32) (f t : Nat) (F : Int32 → Int32) (n : Nat) : Nat → Int32 := fun i => if 256 * t ≤ i ∧ i < 256 * t + n then F (g (256 * f + (i - 256 * t))) else g i
theorem sn_cp_step {g : Nat → Int32} {f t : Nat} {F : Int32 → Int32} {n : Nat} (hn : n < 256) (hft : f ≠ t) : upd (sn_cp g f t F n) (256 * t + n) (F (sn_cp g f t F n (256 * f + n))) = sn_cp g f t F (n + 1) := by
  funext i
  have e : sn_cp g f t F n (256 * f + n) = g (256 * f + n) := by
    unfold sn_cp
    rw [if_neg]
    rcases Nat.lt_or_gt_of_ne hft with h | h
    · omega
    · omega
  by_cases h : i = 256 * t + n
  · subst h
    rw [pk_us, e]
    unfold sn_cp
    rw [if_pos (by omega), show 256 * t + n - 256 * t = n by omega]
  · rw [pk_un h]
    unfold sn_cp
    by_cases h2 : 256 * t ≤ i ∧ i < 256 * t + n
    · rw [if_pos h2, if_pos (by omega)]
    · rw [if_neg h2, if_neg (by omega)]
theorem sn_sp_copy2 {g1 g2 : Nat → Int32} {f t : Nat} (hf : f < 8) (ht : t < 8) (hft : f ≠ t) {post : (Nat → Int32) → (Nat → Int32) → Prop} (hp : post (sn_cp g1 f t (vp_nar .boolean) 256) (sn_cp g2 f t id 256)) : ∀ (n i : Nat), i + n = 256 → mX1_copy_2 (n + 1) (sn_cp g1 f t (vp_nar .boolean) i) (sn_cp g2 f t id i) (nI f) (nI t) (nI i) post := by
  intro n
  induction n with
  | zero =>
    intro i hi
    unfold mX1_copy_2
    refine ⟨fun _ => ?_, fun q => absurd (nI_le (a := 256) (b := i) (by omega) (by omega)) q⟩
    rw [show i = 256 by omega]
    exact hp
  | succ n ih =>
    intro i hi
    unfold mX1_copy_2
    refine ⟨fun q => absurd q (nI_ge (a := i) (b := 256) (by omega) (by omega)), fun _ => ?_⟩
    rw [sn_ix256, sn_ix256, nI_clamp (by omega), nI_clamp (by omega), sn_p1]
    refine ⟨vp_in_nI (by omega) (by omega), vp_in_nI (by omega) (by omega), vp_in_nI (by omega) (by omega), vp_in_nI (by omega) (by omega), ?_⟩
    have z := ih (i + 1) (by omega)
    rw [← sn_cp_step (by omega) hft, ← sn_cp_step (by omega) hft] at z
    exact z
theorem sn_sp_copy {g1 g2 : Nat → Int32} {f t : Nat} (hf : f < 8) (ht : t < 8) (hft : f ≠ t) {post : (Nat → Int32) → (Nat → Int32) → Prop} (hp : post (sn_cp g1 f t (vp_nar .boolean) 256) (sn_cp g2 f t id 256)) : mX1_copy g1 g2 (nI f) (nI t) post := by
  refine ⟨257, ?_⟩
  have z := sn_sp_copy2 hf ht hft hp 256 0 (by omega)
  have e : ∀ (g : Nat → Int32) (F : Int32 → Int32), sn_cp g f t F 0 = g := by
    intro g F
    funext i
    unfold sn_cp
    rw [if_neg (by omega)]
  rw [e, e] at z
  exact z
theorem sn_nar0 : vp_nar .boolean (0 : Int32) = 0 := by decide
theorem sn_nar1 : vp_nar .boolean (1 : Int32) = 1 := by decide
theorem sn_cp_01 {g : Nat → Int32} (h : sn_01 g) {f t : Nat} (hf : f < 8) : sn_01 (sn_cp g f t (vp_nar .boolean) 256) := by
  intro i hi
  unfold sn_cp
  split
  · rename_i q
    rcases h (256 * f + (i - 256 * t)) (by omega) with e | e
    · rw [e, sn_nar0]; exact Or.inl rfl
    · rw [e, sn_nar1]; exact Or.inr rfl
  · exact h i hi
theorem sn_cp_at {g : Nat → Int32} {f t m k : Nat} {F : Int32 → Int32} (hk : k < 256) : sn_cp g f t F 256 (256 * m + k) = if m = t then F (g (256 * f + k)) else g (256 * m + k) := by
  unfold sn_cp
  by_cases h : m = t
  · subst h
    rw [if_pos (by omega), if_pos rfl, show 256 * m + k - 256 * m = k by omega]
  · rw [if_neg h, if_neg (by omega)]
theorem sn_cp_h {g : Nat → Int32} (h : sn_01 g) {f t m k : Nat} (hf : f < 8) (hk : k < 256) : sn_cp g f t (vp_nar .boolean) 256 (256 * m + k) = if m = t then g (256 * f + k) else g (256 * m + k) := by
  rw [sn_cp_at hk]
  split
  · rcases h (256 * f + k) (by omega) with e | e
    · rw [e, sn_nar0]
    · rw [e, sn_nar1]
  · rfl
theorem sn_cp_cM {g1 g2 : Nat → Int32} (h : sn_01 g1) {f t m k : Nat} (hf : f < 8) (hk : k < 256) : sn_cM (sn_cp g1 f t (vp_nar .boolean) 256) (sn_cp g2 f t id 256) m k = sn_cM g1 g2 (if m = t then f else m) k := by
  unfold sn_cM
  rw [sn_cp_h h hf hk, sn_cp_at hk]
  by_cases e : m = t
  · simp [e]
  · simp [e]
theorem sn_cp_cnt {g1 : Nat → Int32} (h : sn_01 g1) {f t m : Nat} (hf : f < 8) : sn_cnt (sn_cp g1 f t (vp_nar .boolean) 256) m = sn_cnt g1 (if m = t then f else m) := by
  unfold sn_cnt
  refine fb_ct_cong (fun k hk => ?_)
  rw [sn_cp_h h hf hk]
  by_cases e : m = t
  · simp [e]
  · simp [e]
section PL
variable {f3 g0 : Nat → Int32}
def sn_R1 (f3 g0 : Nat → Int32) : Prop := f3 0 ≠ 0 ∧ ∀ s, s < 7 → (f3 (s + 1) = 0 ↔ g0 s = 0)
theorem sn_sp_place (hR : sn_R1 f3 g0) {x : Int32} {post : Int32 → Prop} (h1 : ∀ t, sn_Map f3 x t → post (nI (sn_mt t))) (h0 : (∀ t, ¬ sn_Map f3 x t) → post (-1)) : mX1_place g0 x post := by
  have hm1 : ∀ {t : Nat}, t < 8 → x + 1 = nI t → t ≠ 0 → x = nI (t - 1) := by
    intro t ht e h
    have e2 : x = nI t - 1 := by rw [← e]; grind
    rw [e2]
    obtain ⟨s, rfl⟩ : ∃ s, t = s + 1 := ⟨t - 1, by omega⟩
    rw [nI_pred]
    rfl
  unfold mX1_place
  refine ⟨fun q => ⟨fun q1 => h0 (fun t ht => ?_), fun q1 => ⟨fun q2 => h0 (fun t ht => (sn_m8' ht.1 ht.2.1).2 q2), fun q2 => ?_⟩⟩, fun q => ?_⟩
  · by_cases e : t = 0
    · subst e
      exact q (by have := ht.2.1; have e3 : x = nI 0 - 1 := by rw [← this]; grind
                  rw [e3]; decide)
    · have := hm1 ht.1 ht.2.1 e
      rw [this] at q1
      exact nI_pos (by have := ht.1; omega) q1
  · obtain ⟨s, hs, e⟩ := nI_of2 (x := x) (M := 6) (n := 6) (by decide) q1 (Int32.not_lt.mp q2)
    rw [e, nI_clamp (by omega)]
    have hx : x + 1 = nI (s + 1) := by rw [e, nI_1]
    refine ⟨vp_in_nI (by omega) (by omega), fun z => h0 (fun t ht => ?_), fun z => ?_⟩
    · have := sn_Map_one ht hx (by omega)
      subst this
      exact ht.2.2 ((hR.2 s (by omega)).mpr z)
    · have := h1 (s + 1) ⟨by omega, hx, fun z2 => z ((hR.2 s (by omega)).mp z2)⟩
      unfold sn_mt at this
      rw [if_neg (by omega)] at this
      exact this
  · have := h1 0 ⟨by omega, by rw [q]; decide, hR.1⟩
    exact this
/-- a slot that holds a snapshot -/
theorem sn_sp_free {x : Int32} {post : Int32 → Prop} (h0 : ∀ s, s < 7 → x = nI s → g0 s ≠ 0 → post 0) (h1 : (∀ s, s < 7 → x = nI s → g0 s = 0) → post 1) : mX1_free g0 x post := by
  unfold mX1_free
  refine ⟨fun q => h1 (fun s hs e => absurd q (by rw [e]; exact nI_pos (by omega))), fun q1 => ⟨fun q => h1 (fun s hs e => absurd q (by rw [e]; exact Int32.not_lt.mpr ((sn_le (a := s) (b := 6) (by omega) (by omega)).mpr (by omega)))), fun q2 => ?_⟩⟩
  obtain ⟨s, hs, e⟩ := nI_of2 (x := x) (M := 6) (n := 6) (by decide) q1 (Int32.not_lt.mp q2)
  rw [e, nI_clamp (by omega)]
  refine ⟨vp_in_nI (by omega) (by omega), fun z => h0 s (by omega) e z, fun z => h1 (fun s' hs' e' => ?_)⟩
  have := sn_inj (by omega) (by omega) (e'.symm.trans e)
  rw [this]
  exact z
variable {g1 g2 : Nat → Int32}
theorem sn_sp_mget (hR : sn_R1 f3 g0) {x y : Int32} {post : Int32 → Prop} (h1 : ∀ t k, sn_Map f3 x t → k < 256 → y = nI k → post ((sn_cM g1 g2 (sn_mt t) k).getD 0)) (h0 : (∀ t, ¬ sn_Map f3 x t) ∨ (∀ k, k < 256 → ¬ y = nI k) → post 0) : mX1_get g0 g1 g2 x y post := by
  unfold mX1_get
  refine sn_sp_place hR (fun t ht => ⟨fun q => absurd q (nI_pos (by have := sn_mt_lt ht.1; omega)), fun _ => ?_⟩) (fun q => ⟨fun _ => h0 (Or.inl q), fun z => absurd (by decide) z⟩)
  have hm := sn_mt_lt ht.1
  refine sn_sp_badKey (fun k hk e => ⟨fun z => absurd rfl z, fun _ => ?_⟩) (fun q => ⟨fun _ => h0 (Or.inr q), fun z => absurd z (by decide)⟩)
  have z := h1 t k ht hk e
  unfold sn_cM at z
  rw [e, sn_ix256, nI_clamp (by omega)]
  refine ⟨vp_in_nI (by omega) (by omega), fun q => ⟨vp_in_nI (by omega) (by omega), ?_⟩, fun q => ?_⟩
  · rw [if_neg q] at z
    exact z
  · rw [if_pos q] at z
    exact z
theorem sn_sp_mhas (hR : sn_R1 f3 g0) {x y : Int32} {post : Int32 → Prop} (h1 : ∀ t k, sn_Map f3 x t → k < 256 → y = nI k → post (if (sn_cM g1 g2 (sn_mt t) k).isSome then 1 else 0)) (h2 : ∀ t, sn_Map f3 x t → (∀ k, k < 256 → ¬ y = nI k) → post 0) (h0 : (∀ t, ¬ sn_Map f3 x t) → post (-1)) : mX1_has g0 g1 x y post := by
  unfold mX1_has
  refine sn_sp_place hR (fun t ht => ⟨fun _ => ?_, fun z => absurd (nI_pos' (by have := sn_mt_lt ht.1; omega)) z⟩) (fun q => ⟨fun z => absurd z (by decide), fun _ => h0 q⟩)
  have hm := sn_mt_lt ht.1
  refine sn_sp_badKey (fun k hk e => ⟨fun z => absurd rfl z, fun _ => ?_⟩) (fun q => ⟨fun _ => h2 t ht q, fun z => absurd z (by decide)⟩)
  have z := h1 t k ht hk e
  rw [sn_cM_some] at z
  rw [e, sn_ix256, nI_clamp (by omega)]
  refine ⟨vp_in_nI (by omega) (by omega), fun q => ?_, fun q => ?_⟩
  · rw [if_neg (by simp [q])] at z
    exact z
  · rw [if_pos (by simp [q])] at z
    exact z
theorem sn_sp_msize (hR : sn_R1 f3 g0) {x : Int32} {post : Int32 → Prop} (h1 : ∀ t, sn_Map f3 x t → post (nI (sn_cnt g1 (sn_mt t)))) (h0 : (∀ t, ¬ sn_Map f3 x t) → post (-1)) : mX1_size g0 g1 x post := by
  unfold mX1_size
  refine sn_sp_place hR (fun t ht => ⟨fun _ => ?_, fun z => absurd (nI_pos' (by have := sn_mt_lt ht.1; omega)) z⟩) (fun q => ⟨fun z => absurd z (by decide), fun _ => h0 q⟩)
  exact sn_sp_count (sn_mt_lt ht.1) (h1 t ht)
theorem sn_sp_mnext15 {m : Nat} (hm : m < 8) {fr : Int32} {post : Int32 → Prop} (hp : ∀ y, sn_Nx (fun k => (sn_cM g1 g2 m k).isSome) fr y → post y) : ∀ (n i : Nat), i + n = 256 → (∀ j, j < i → fr ≤ nI j → (sn_cM g1 g2 m j).isSome = false) → mX1_next_15 (n + 1) g0 g1 fr (nI m) (nI i) post := by
  intro n
  induction n with
  | zero =>
    intro i hi hj
    unfold mX1_next_15
    refine ⟨fun _ => hp _ (Or.inr ⟨rfl, fun j h1 h2 => hj j (by omega) h2⟩), fun q => absurd (nI_le (a := 256) (b := i) (by omega) (by omega)) q⟩
  | succ n ih =>
    intro i hi hj
    unfold mX1_next_15
    refine ⟨fun q => absurd q (nI_ge (a := i) (b := 256) (by omega) (by omega)), fun _ => ⟨fun q => ?_, fun q => ?_⟩⟩
    · rw [sn_p1]
      refine ih (i + 1) (by omega) (fun j h1 h2 => ?_)
      rcases Nat.lt_or_ge j i with z | z
      · exact hj j z h2
      · rw [show j = i by omega] at h2
        exact absurd q (Int32.not_lt.mpr h2)
    · rw [sn_ix256, nI_clamp (by omega), sn_p1]
      refine ⟨vp_in_nI (by omega) (by omega), fun q2 => ?_, fun q2 => ?_⟩
      · refine ih (i + 1) (by omega) (fun j h1 h2 => ?_)
        rcases Nat.lt_or_ge j i with z | z
        · exact hj j z h2
        · rw [show j = i by omega, sn_cM_some]
          simp [q2]
      · refine hp _ (Or.inl ⟨i, by omega, rfl, Int32.not_lt.mp q, ?_, hj⟩)
        show (sn_cM g1 g2 m i).isSome = true
        rw [sn_cM_some]
        simp [q2]
theorem sn_sp_mnext (hR : sn_R1 f3 g0) {x fr : Int32} {post : Int32 → Prop} (h1 : ∀ t, sn_Map f3 x t → ∀ y, sn_Nx (fun k => (sn_cM g1 g2 (sn_mt t) k).isSome) fr y → post y) (h0 : (∀ t, ¬ sn_Map f3 x t) → post (-1)) : mX1_next g0 g1 x fr post := by
  unfold mX1_next
  refine sn_sp_place hR (fun t ht => ⟨fun _ => ⟨257, ?_⟩, fun z => absurd (nI_pos' (by have := sn_mt_lt ht.1; omega)) z⟩) (fun q => ⟨fun z => absurd z (by decide), fun _ => h0 q⟩)
  exact sn_sp_mnext15 (sn_mt_lt ht.1) (h1 t ht) 256 0 (by omega) (fun j h => absurd h (by omega))
theorem sn_sp_differ (h01 : sn_01 g1) {a b k : Nat} (ha : a < 8) (hb : b < 8) (hk : k < 256) {post : Int32 → Prop} (h1 : sn_df (sn_cM g1 g2 a) (sn_cM g1 g2 b) k = true → post 1) (h0 : sn_df (sn_cM g1 g2 a) (sn_cM g1 g2 b) k = false → post 0) : mX1_differ g1 g2 (nI a) (nI b) (nI k) post := by
  unfold mX1_differ
  rw [sn_ix256, sn_ix256, nI_clamp (by omega), nI_clamp (by omega)]
  unfold sn_df sn_cM at h0 h1
  refine ⟨vp_in_nI (by omega) (by omega), vp_in_nI (by omega) (by omega), fun q => ⟨vp_in_nI (by omega) (by omega), fun z => ?_, fun z => ⟨vp_in_nI (by omega) (by omega), vp_in_nI (by omega) (by omega), fun e => ?_, fun e => ?_⟩⟩, fun q => ?_⟩
  · rw [if_pos z, if_pos (by rw [← q]; exact z)] at h0
    exact h0 (by simp)
  · rw [if_neg z, if_neg (by rw [← q]; exact z), e] at h0
    exact h0 (by simp)
  · rw [if_neg z, if_neg (by rw [← q]; exact z)] at h1
    exact h1 (by simpa using e)
  · rcases h01 (256 * a + k) (by omega) with e1 | e1 <;> rcases h01 (256 * b + k) (by omega) with e2 | e2
    · exact absurd (e1.trans e2.symm) q
    · rw [e1, e2] at h1
      exact h1 (by simp)
    · rw [e1, e2] at h1
      exact h1 (by simp)
    · exact absurd (e1.trans e2.symm) q
theorem sn_sp_mnc29 (h01 : sn_01 g1) {a b : Nat} (ha : a < 8) (hb : b < 8) {fr : Int32} {post : Int32 → Prop} (hp : ∀ y, sn_Nx (sn_df (sn_cM g1 g2 a) (sn_cM g1 g2 b)) fr y → post y) : ∀ (n i : Nat), i + n = 256 → (∀ j, j < i → fr ≤ nI j → sn_df (sn_cM g1 g2 a) (sn_cM g1 g2 b) j = false) → mX1_nextChange_29 (n + 1) g0 g1 g2 fr (nI a) (nI b) (nI i) post := by
  intro n
  induction n with
  | zero =>
    intro i hi hj
    unfold mX1_nextChange_29
    refine ⟨fun _ => hp _ (Or.inr ⟨rfl, fun j h1 h2 => hj j (by omega) h2⟩), fun q => absurd (nI_le (a := 256) (b := i) (by omega) (by omega)) q⟩
  | succ n ih =>
    intro i hi hj
    unfold mX1_nextChange_29
    refine ⟨fun q => absurd q (nI_ge (a := i) (b := 256) (by omega) (by omega)), fun _ => ⟨fun q => ?_, fun q => ?_⟩⟩
    · rw [sn_p1]
      refine ih (i + 1) (by omega) (fun j h1 h2 => ?_)
      rcases Nat.lt_or_ge j i with z | z
      · exact hj j z h2
      · rw [show j = i by omega] at h2
        exact absurd q (Int32.not_lt.mpr h2)
    · refine sn_sp_differ h01 ha hb (by omega) (fun q2 => ⟨fun z => absurd z (by decide), fun _ => ?_⟩) (fun q2 => ⟨fun _ => ?_, fun z => absurd rfl z⟩)
      · exact hp _ (Or.inl ⟨i, by omega, rfl, Int32.not_lt.mp q, q2, hj⟩)
      · rw [sn_p1]
        refine ih (i + 1) (by omega) (fun j h1 h2 => ?_)
        rcases Nat.lt_or_ge j i with z | z
        · exact hj j z h2
        · rw [show j = i by omega]
          exact q2
theorem sn_sp_mnc (hR : sn_R1 f3 g0) (h01 : sn_01 g1) {x y fr : Int32} {post : Int32 → Prop} (h1 : ∀ a b, sn_Map f3 x a → sn_Map f3 y b → ∀ z, sn_Nx (sn_df (sn_cM g1 g2 (sn_mt a)) (sn_cM g1 g2 (sn_mt b))) fr z → post z) (h0 : (∀ t, ¬ sn_Map f3 x t) ∨ (∀ t, ¬ sn_Map f3 y t) → post (-1)) : mX1_nextChange g0 g1 g2 x y fr post := by
  unfold mX1_nextChange
  refine sn_sp_place hR (fun a ha => ?_) (fun q => ?_)
  · refine sn_sp_place hR (fun b hb => ⟨fun z => absurd z (nI_pos (by have := sn_mt_lt ha.1; omega)), fun _ => ⟨fun _ => ⟨257, ?_⟩, fun z => absurd (nI_pos' (by have := sn_mt_lt hb.1; omega)) z⟩⟩) (fun q => ⟨fun z => absurd z (nI_pos (by have := sn_mt_lt ha.1; omega)), fun _ => ⟨fun z => absurd z (by decide), fun _ => h0 (Or.inr q)⟩⟩)
    exact sn_sp_mnc29 h01 (sn_mt_lt ha.1) (sn_mt_lt hb.1) (h1 a b ha hb) 256 0 (by omega) (fun j h => absurd h (by omega))
  · refine sn_sp_place hR (fun b hb => ⟨fun _ => h0 (Or.inl q), fun z => absurd (by decide) z⟩) (fun _ => ⟨fun _ => h0 (Or.inl q), fun z => absurd (by decide) z⟩)
theorem sn_sp_mch30 (h01 : sn_01 g1) {a b : Nat} (ha : a < 8) (hb : b < 8) {post : Int32 → Prop} (hp : post (nI (fb_ct (sn_df (sn_cM g1 g2 a) (sn_cM g1 g2 b)) 256))) : ∀ (n i : Nat), i + n = 256 → mX1_changes_30 (n + 1) g0 g1 g2 (nI a) (nI b) (nI (fb_ct (sn_df (sn_cM g1 g2 a) (sn_cM g1 g2 b)) i)) (nI i) post := by
  intro n
  induction n with
  | zero =>
    intro i hi
    unfold mX1_changes_30
    refine ⟨fun _ => ?_, fun q => absurd (nI_le (a := 256) (b := i) (by omega) (by omega)) q⟩
    rw [show i = 256 by omega]
    exact hp
  | succ n ih =>
    intro i hi
    unfold mX1_changes_30
    refine ⟨fun q => absurd q (nI_ge (a := i) (b := 256) (by omega) (by omega)), fun _ => ?_⟩
    have z := ih (i + 1) (by omega)
    rw [fb_ct_succ] at z
    refine sn_sp_differ h01 ha hb (by omega) (fun q2 => ⟨fun y => absurd y (by decide), fun _ => ?_⟩) (fun q2 => ⟨fun _ => ?_, fun y => absurd rfl y⟩)
    · rw [if_pos q2] at z
      rw [sn_p1, sn_p1]
      exact z
    · rw [if_neg (by rw [q2]; simp)] at z
      rw [sn_p1]
      exact z
theorem sn_sp_mch (hR : sn_R1 f3 g0) (h01 : sn_01 g1) {x y : Int32} {post : Int32 → Prop} (h1 : ∀ a b, sn_Map f3 x a → sn_Map f3 y b → post (nI (fb_ct (sn_df (sn_cM g1 g2 (sn_mt a)) (sn_cM g1 g2 (sn_mt b))) 256))) (h0 : (∀ t, ¬ sn_Map f3 x t) ∨ (∀ t, ¬ sn_Map f3 y t) → post (-1)) : mX1_changes g0 g1 g2 x y post := by
  unfold mX1_changes
  refine sn_sp_place hR (fun a ha => ?_) (fun q => ?_)
  · refine sn_sp_place hR (fun b hb => ⟨fun z => absurd z (nI_pos (by have := sn_mt_lt ha.1; omega)), fun _ => ⟨fun _ => ⟨257, ?_⟩, fun z => absurd (nI_pos' (by have := sn_mt_lt hb.1; omega)) z⟩⟩) (fun q => ⟨fun z => absurd z (nI_pos (by have := sn_mt_lt ha.1; omega)), fun _ => ⟨fun z => absurd z (by decide), fun _ => h0 (Or.inr q)⟩⟩)
    exact sn_sp_mch30 h01 (sn_mt_lt ha.1) (sn_mt_lt hb.1) (h1 a b ha hb) 256 0 (by omega)
  · refine sn_sp_place hR (fun b hb => ⟨fun _ => h0 (Or.inl q), fun z => absurd (by decide) z⟩) (fun _ => ⟨fun _ => h0 (Or.inl q), fun z => absurd (by decide) z⟩)
end PL
end
section
/-! a node made the working map's own -/
theorem sn_nz {a : Nat} (ha : a < 2 ^ 31) : nI a = 0 ↔ a = 0 := by
  rw [← nI_0, nI_eq ha (by omega)]
theorem sn_n1 {a : Nat} (ha : a < 2 ^ 31) : nI a = 1 ↔ a = 1 := by
  rw [show (1 : Int32) = nI 1 from rfl, nI_eq ha (by omega)]
theorem sn_uu (f : Nat → Int32) (k : Nat) (a b : Int32) : upd (upd f k a) k b = upd f k b := by
  funext q
  by_cases h : q = k
  · subst h; rw [pk_us, pk_us]
  · rw [pk_un h, pk_un h, pk_un h]
theorem sn_sp_fn2 {u : Nat → Int32} {hw : Nat} (hhw : hw < 400) (hD : u hw = 0) {post : Int32 → Prop} (hp : ∀ n, n ≤ hw → u n = 0 → post (nI n)) : ∀ (n i : Nat), i ≤ hw → hw < i + n → mX0_freeNode_2 n u (nI i) post := by
  intro n
  induction n with
  | zero =>
    intro i h1 h2
    omega
  | succ n ih =>
    intro i h1 h2
    unfold mX0_freeNode_2
    refine ⟨fun q => absurd q (nI_ge (a := i) (b := 400) (by omega) (by omega)), fun _ => ?_⟩
    rw [nI_clamp (by omega), sn_p1]
    refine ⟨vp_in_nI (by omega) (by omega), fun q => ?_, fun q => hp i h1 q⟩
    rcases Nat.lt_or_ge i hw with z | z
    · exact ih (i + 1) (by omega) (by omega)
    · rw [show i = hw by omega] at q
      exact absurd hD q
theorem sn_sp_fn {u : Nat → Int32} {hw : Nat} (hhw : hw < 400) (hD : ∀ n, hw ≤ n → n < 400 → u n = 0) {post : Int32 → Prop} (hp : ∀ n, n ≤ hw → u n = 0 → post (nI n)) : mX0_freeNode u post := ⟨hw + 1, sn_sp_fn2 hhw (hD hw (by omega) hhw) hp (hw + 1) 0 (by omega) (by omega)⟩
theorem sn_sp_lm {h : Nat → Int32} {n l : Nat} (hn : n < 400) (hl : l ≤ 3) {post : (Nat → Int32) → Prop} (hp : post (upd h n (if l = 3 then h n ||| (256 : Int32) else 0))) : mX0_levelMark h (nI n) (nI l) post := by
  unfold mX0_levelMark
  rw [nI_clamp (by omega)]
  have e : nI l = (3 : Int32) ↔ l = 3 := by rw [show (3 : Int32) = nI 3 from rfl, nI_eq (by omega) (by omega)]
  refine ⟨fun q => ⟨vp_in_nI hn (by omega), ?_⟩, fun q => ⟨vp_in_nI hn (by omega), vp_in_nI hn (by omega), ?_⟩⟩
  · rw [if_neg (fun z => q (e.mpr z))] at hp
    exact hp
  · rw [if_pos (e.mp q)] at hp
    exact hp
/-- the ways of a copy of x, of the level l -/
def sn_vl (w : Nat → Int32) (x : Int32) (l j : Nat) : Int32 := if x < 0 then (if l < 3 then -1 else 0) else w (4 * x.toNatClampNeg + j)
def sn_ow (w : Nat → Int32) (n : Nat) (v : Nat → Int32) (j : Nat) : Nat → Int32 := fun q => if 4 * n ≤ q ∧ q < 4 * n + j then v (q - 4 * n) else w q
theorem sn_ow_s (w : Nat → Int32) (n : Nat) (v : Nat → Int32) (j : Nat) : upd (sn_ow w n v j) (4 * n + j) (v j) = sn_ow w n v (j + 1) := by
  funext q
  by_cases h : q = 4 * n + j
  · subst h
    rw [pk_us]
    unfold sn_ow
    rw [if_pos (by omega), show 4 * n + j - 4 * n = j by omega]
  · rw [pk_un h]
    unfold sn_ow
    by_cases h2 : 4 * n ≤ q ∧ q < 4 * n + j
    · rw [if_pos h2, if_pos (by omega)]
    · rw [if_neg h2, if_neg (by omega)]
def sn_K (w : Nat → Int32) (x : Int32) (l m j : Nat) : Nat := if l < 3 then fb_ct (fun i => decide (sn_vl w x l i = nI m)) j else 0
theorem sn_K_le (w : Nat → Int32) (x : Int32) (l m j : Nat) : sn_K w x l m j ≤ j := by
  unfold sn_K
  split
  · exact fb_ct_le _ j
  · omega
/-- the tail of ownNode's loop: the way is laid, its node has one user more -/
def sn_tl (n31 : Nat) (f0 f1 f2 : Nat → Int32) (x1 x2 x3 x4 : Int32) (post : Int32 → (Nat → Int32) → (Nat → Int32) → (Nat → Int32) → Prop) : Prop := (((3 : Int32) ≤ x2 → (mX0_ownNode_31 n31 f0 f1 f2 x1 x2 x3 (x4 + (1 : Int32)) post)) ∧ (¬ (3 : Int32) ≤ x2 → (vp_in (((4 : Int32) * x3) + x4) 1600 ∧ (((f0 (((4 : Int32) * x3) + x4).toNatClampNeg) < (0 : Int32) → (mX0_ownNode_31 n31 f0 f1 f2 x1 x2 x3 (x4 + (1 : Int32)) post)) ∧ (¬ (f0 (((4 : Int32) * x3) + x4).toNatClampNeg) < (0 : Int32) → (vp_in (((4 : Int32) * x3) + x4) 1600 ∧ vp_in (f0 (((4 : Int32) * x3) + x4).toNatClampNeg) 400 ∧ vp_in (f0 (((4 : Int32) * x3) + x4).toNatClampNeg) 400 ∧ mX0_ownNode_31 n31 f0 f1 (upd f2 (f0 (((4 : Int32) * x3) + x4).toNatClampNeg).toNatClampNeg ((f2 (f0 (((4 : Int32) * x3) + x4).toNatClampNeg).toNatClampNeg) + (1 : Int32))) x1 x2 x3 (x4 + (1 : Int32)) post))))))
theorem sn_ow31 {w h : Nat → Int32} {x : Int32} {l n : Nat} (hl : l ≤ 3) (hn : n < 400) (hx : x = -1 ∨ ∃ c, c < 400 ∧ x = nI c ∧ c ≠ n) (hv : l < 3 → ∀ j, j < 4 → sn_vl w x l j = -1 ∨ ∃ c, c < 400 ∧ sn_vl w x l j = nI c) (u0 : Nat → Int32) {post : Int32 → (Nat → Int32) → (Nat → Int32) → (Nat → Int32) → Prop} (hp : ∀ u', (∀ m, m < 400 → u' m = u0 m + nI (sn_K w x l m 4)) → mX0_ownNode_141 (sn_ow w n (sn_vl w x l) 4) (upd h n (if x < 0 then 0 else h x.toNatClampNeg)) u' x (nI l) (nI n) post) : ∀ (i j : Nat), j + i = 4 → ∀ u', (∀ m, m < 400 → u' m = u0 m + nI (sn_K w x l m j)) → mX0_ownNode_31 (i + 1) (sn_ow w n (sn_vl w x l) j) h u' x (nI l) (nI n) (nI j) post := by
  intro i
  have h3 : (3 : Int32) ≤ nI l ↔ 3 ≤ l := sn_le (a := 3) (b := l) (by omega) (by omega)
  induction i with
  | zero =>
    intro j hj u' hu
    obtain rfl : j = 4 := by omega
    have z := hp u' hu
    unfold mX0_ownNode_31
    refine ⟨fun _ => ⟨fun q => ?_, fun q => ?_⟩, fun q => absurd (show (4 : Int32) ≤ nI 4 by decide) q⟩
    · rcases hx with rfl | ⟨c, hc, rfl, hcn⟩
      · exact absurd q (by decide)
      · rw [if_neg (nI_pos (by omega)), nI_clamp (by omega)] at z
        rw [nI_clamp (by omega), nI_clamp (by omega)]
        exact ⟨vp_in_nI hc (by omega), vp_in_nI hn (by omega), z⟩
    · rw [if_pos (Int32.not_le.mp q)] at z
      rw [nI_clamp (by omega)]
      exact ⟨vp_in_nI hn (by omega), z⟩
  | succ i ih =>
    intro j hj u' hu
    have hat : sn_ow w n (sn_vl w x l) (j + 1) (4 * n + j) = sn_vl w x l j := by
      unfold sn_ow
      rw [if_pos (by omega), show 4 * n + j - 4 * n = j by omega]
    have hKs : ∀ m, l < 3 → sn_K w x l m (j + 1) = sn_K w x l m j + (if sn_vl w x l j = nI m then 1 else 0) := by
      intro m hl3
      unfold sn_K
      rw [if_pos hl3, if_pos hl3, fb_ct_succ]
      simp
    have tl : sn_tl (i + 1) (sn_ow w n (sn_vl w x l) (j + 1)) h u' x (nI l) (nI n) (nI j) post := by
      unfold sn_tl
      rw [sn_p1, sn_ix, nI_clamp (by omega), hat]
      refine ⟨fun q => ?_, fun q => ⟨vp_in_nI (by omega) (by omega), fun q2 => ?_, fun q2 => ?_⟩⟩
      · refine ih (j + 1) (by omega) u' (fun m hm => ?_)
        have hl3 := h3.mp q
        rw [hu m hm]
        unfold sn_K
        rw [if_neg (by omega), if_neg (by omega)]
      · have hl3 : l < 3 := by
          rcases Nat.lt_or_ge l 3 with z | z
          · exact z
          · exact absurd (h3.mpr z) q
        refine ih (j + 1) (by omega) u' (fun m hm => ?_)
        rw [hu m hm, hKs m hl3, if_neg, Nat.add_zero]
        intro e
        rw [e] at q2
        exact nI_pos (by omega) q2
      · have hl3 : l < 3 := by
          rcases Nat.lt_or_ge l 3 with z | z
          · exact z
          · exact absurd (h3.mpr z) q
        rcases hv hl3 j (by omega) with e | ⟨c, hc, e⟩
        · rw [e] at q2
          exact absurd (by decide) q2
        · rw [e, nI_clamp (by omega)]
          refine ⟨vp_in_nI (by omega) (by omega), vp_in_nI hc (by omega), vp_in_nI hc (by omega), ih (j + 1) (by omega) _ (fun m hm => ?_)⟩
          rw [hKs m hl3, e]
          by_cases hmc : m = c
          · subst hmc
            rw [pk_us, hu m hm, if_pos rfl, ← nI_1]
            grind
          · rw [pk_un hmc, hu m hm, if_neg (fun z => hmc (sn_inj (by omega) (by omega) z).symm), Nat.add_zero]
    unfold mX0_ownNode_31
    refine ⟨fun q => absurd q (nI_ge (a := j) (b := 4) (by omega) (by omega)), fun _ => ⟨fun q => ?_, fun q => ⟨fun q2 => ?_, fun q2 => ?_⟩⟩⟩
    · rcases hx with rfl | ⟨c, hc, rfl, hcn⟩
      · exact absurd q (by decide)
      · rw [sn_ix, sn_ix]
        refine ⟨vp_in_nI (by omega) (by omega), vp_in_nI (by omega) (by omega), ?_⟩
        rw [nI_clamp (n := 4 * c + j) (by omega)]
        have e1 : sn_ow w n (sn_vl w (nI c) l) j (4 * c + j) = sn_vl w (nI c) l j := by
          unfold sn_ow
          rw [if_neg (by omega)]
          unfold sn_vl
          rw [if_neg (nI_pos (by omega)), nI_clamp (by omega)]
        rw [e1]
        have e2 : upd (sn_ow w n (sn_vl w (nI c) l) j) (nI (4 * n + j)).toNatClampNeg (sn_vl w (nI c) l j) = sn_ow w n (sn_vl w (nI c) l) (j + 1) := by
          rw [nI_clamp (by omega)]
          exact sn_ow_s w n _ j
        rw [e2]
        unfold sn_tl at tl
        rw [sn_ix] at tl
        exact tl
    · rw [sn_ix]
      refine ⟨vp_in_nI (by omega) (by omega), ?_⟩
      have hxn := Int32.not_le.mp q
      have e1 : sn_vl w x l j = 0 := by
        unfold sn_vl
        rw [if_pos hxn, if_neg (by have := h3.mp q2; omega)]
      have e2 : upd (sn_ow w n (sn_vl w x l) j) (nI (4 * n + j)).toNatClampNeg (0 : Int32) = sn_ow w n (sn_vl w x l) (j + 1) := by
        rw [nI_clamp (by omega), ← sn_ow_s w n _ j, e1]
      rw [e2]
      unfold sn_tl at tl
      rw [sn_ix] at tl
      exact tl
    · rw [sn_ix]
      refine ⟨vp_in_nI (by omega) (by omega), ?_⟩
      have hxn := Int32.not_le.mp q
      have e1 : sn_vl w x l j = -1 := by
        unfold sn_vl
        rw [if_pos hxn, if_pos (by
          rcases Nat.lt_or_ge l 3 with z | z
          · exact z
          · exact absurd (h3.mpr z) q2)]
      have e2 : upd (sn_ow w n (sn_vl w x l) j) (nI (4 * n + j)).toNatClampNeg (-1 : Int32) = sn_ow w n (sn_vl w x l) (j + 1) := by
        rw [nI_clamp (by omega), ← sn_ow_s w n _ j, e1]
      rw [e2]
      unfold sn_tl at tl
      rw [sn_ix] at tl
      exact tl
/-- ownNode: the node itself if it has one user, else a copy at a free number -/
theorem sn_sp_own {w h u : Nat → Int32} {x : Int32} {l hw : Nat} (hl : l ≤ 3) (hhw : hw < 400) (hD : ∀ n, hw ≤ n → n < 400 → u n = 0) (hx : x = -1 ∨ ∃ c, c < 400 ∧ x = nI c ∧ u c ≠ 0) (hv : l < 3 → ∀ j, j < 4 → sn_vl w x l j = -1 ∨ ∃ c, c < 400 ∧ sn_vl w x l j = nI c) {post : Int32 → (Nat → Int32) → (Nat → Int32) → (Nat → Int32) → Prop}
    (h1 : ∀ c, c < 400 → x = nI c → u c = 1 → post x w h u)
    (h2 : (∀ c, c < 400 → x = nI c → u c ≠ 1) → ∀ n u', n ≤ hw → u n = 0 → (∀ m, m < 400 → u' m = (if m = n then 1 else u m) + nI (sn_K w x l m 4) - (if x = nI m then 1 else 0)) → post (nI n) (sn_ow w n (sn_vl w x l) 4) (upd h n (if l = 3 then (if x < 0 then 0 else h x.toNatClampNeg) ||| (256 : Int32) else 0)) u') : mX0_ownNode w h u x (nI l) post := by
  have go : (∀ c, c < 400 → x = nI c → u c ≠ 1) → mX0_freeNode u (fun r_2 => vp_in r_2 400 ∧ ∃ n31 : Nat, mX0_ownNode_31 n31 w h (upd u (r_2).toNatClampNeg (1 : Int32)) x (nI l) r_2 (0 : Int32) post) := by
    intro hne
    refine sn_sp_fn hhw hD (fun n hnw hun => ?_)
    rw [nI_clamp (by omega)]
    refine ⟨vp_in_nI (by omega) (by omega), 5, ?_⟩
    have hx' : x = -1 ∨ ∃ c, c < 400 ∧ x = nI c ∧ c ≠ n := by
      rcases hx with e | ⟨c, hc, e, hu⟩
      · exact Or.inl e
      · exact Or.inr ⟨c, hc, e, fun z => hu (by rw [z]; exact hun)⟩
    have z := sn_ow31 (w := w) (h := h) (post := post) hl (show n < 400 by omega) hx' hv (upd u n 1) (fun u' hu' => ?_) 4 0 (by omega) (upd u n 1) (fun m hm => by
      rw [show sn_K w x l m 0 = 0 by unfold sn_K; split <;> rfl, nI_0]
      grind)
    · have e : sn_ow w n (sn_vl w x l) 0 = w := by
        funext q
        unfold sn_ow
        rw [if_neg (by omega)]
      rw [e] at z
      exact z
    · unfold mX0_ownNode_141
      refine sn_sp_lm (by omega) hl ?_
      rw [pk_us, sn_uu]
      have hu1 : ∀ m, m < 400 → u' m = (if m = n then 1 else u m) + nI (sn_K w x l m 4) := by
        intro m hm
        rw [hu' m hm]
        rfl
      refine ⟨fun q => ?_, fun q => ?_⟩
      · refine h2 hne n u' hnw hun (fun m hm => ?_)
        rw [hu1 m hm, if_neg (c := x = nI m) (fun e => nI_pos (n := m) (by omega) (by rw [← e]; exact q))]
        grind
      · rcases hx' with e | ⟨c, hc, e, hcn⟩
        · rw [e] at q
          exact absurd (by decide) q
        · have hin : vp_in x 400 := sn_in (by omega) e hc
          refine ⟨hin, hin, h2 hne n _ hnw hun (fun m hm => ?_)⟩
          rw [show x.toNatClampNeg = c by rw [e]; exact nI_clamp (by omega)]
          by_cases hmc : m = c
          · subst hmc
            rw [pk_us, hu1 m hm, if_pos e]
          · rw [pk_un hmc, hu1 m hm, if_neg (c := x = nI m) (fun z => hmc (sn_inj (by omega) (by omega) (z.symm.trans e)))]
            grind
  unfold mX0_ownNode
  refine ⟨fun q => go (fun c hc e => absurd q (by rw [e]; exact nI_pos (by omega))), fun q => ?_⟩
  rcases hx with e | ⟨c, hc, e, hu⟩
  · rw [e] at q
    exact absurd (by decide) q
  · refine ⟨sn_in (by omega) e hc, fun q2 => go (fun c' hc' e' => ?_), fun q2 => ?_⟩
    · have := sn_inj (by omega) (by omega) (e'.symm.trans e)
      subst this
      rw [e, nI_clamp (by omega)] at q2
      exact q2
    · rw [e, nI_clamp (by omega)] at q2
      exact h1 c hc e q2
end
section
/-! a node made own and laid at its place: all stays in order, all maps hold what they held -/
theorem sn_ct5 {E E' : Nat → Int32} {b i0 N : Nat} {v : Int32} (hb : b + 4 ≤ N) (hi : i0 < N) (hd : i0 < b ∨ b + 4 ≤ i0) (hc : ∀ i, i < N → i ≠ i0 → (i < b ∨ b + 4 ≤ i) → E' i = E i) (hE : ∀ j, j < 4 → ¬ E (b + j) = v) : sn_ct E' N v + (if E i0 = v then 1 else 0) = sn_ct E N v + (if E' i0 = v then 1 else 0) + fb_ct (fun j => decide (E' (b + j) = v)) 4 := by
  obtain ⟨Em, hEm⟩ : ∃ Em : Nat → Nat → Int32, ∀ m i, Em m i = if i = i0 then E' i0 else if b ≤ i ∧ i < b + m then E' i else E i := ⟨fun m i => if i = i0 then E' i0 else if b ≤ i ∧ i < b + m then E' i else E i, fun _ _ => rfl⟩
  have key : ∀ m, m ≤ 4 → sn_ct (Em m) N v + (if E i0 = v then 1 else 0) = sn_ct E N v + (if E' i0 = v then 1 else 0) + fb_ct (fun j => decide (E' (b + j) = v)) m := by
    intro m
    induction m with
    | zero =>
      intro _
      have z := sn_ct_upd (E := E) (E' := Em 0) hi (fun i _ h => by rw [hEm, if_neg h, if_neg (by omega)]) v
      rw [hEm 0 i0, if_pos rfl] at z
      rw [show fb_ct (fun j => decide (E' (b + j) = v)) 0 = 0 from rfl]
      omega
    | succ m ih =>
      intro hm
      have z0 := ih (by omega)
      have z := sn_ct_upd (E := Em m) (E' := Em (m + 1)) (N := N) (i0 := b + m) (by omega) (fun i _ h => by
        rw [hEm, hEm]
        by_cases e : i = i0
        · rw [if_pos e, if_pos e]
        · rw [if_neg e, if_neg e]
          by_cases e2 : b ≤ i ∧ i < b + m
          · rw [if_pos e2, if_pos (by omega)]
          · rw [if_neg e2, if_neg (by omega)]) v
      have e1 : Em m (b + m) = E (b + m) := by rw [hEm, if_neg (by omega), if_neg (by omega)]
      have e2 : Em (m + 1) (b + m) = E' (b + m) := by rw [hEm, if_neg (by omega), if_pos (by omega)]
      rw [e1, e2, if_neg (hE m (by omega))] at z
      rw [fb_ct_succ]
      simp only [decide_eq_true_eq]
      omega
  have z := key 4 (by omega)
  rw [sn_ct_cong (E := Em 4) (E' := E') (fun i hi' => by
    rw [hEm]
    by_cases e : i = i0
    · rw [if_pos e, e]
    · rw [if_neg e]
      by_cases e2 : b ≤ i ∧ i < b + 4
      · rw [if_pos e2]
      · rw [if_neg e2]
        exact hc i hi' e (by omega)) v]
  exact z
section OS
variable {lev : Nat → Nat} {hw : Nat} {w h u r stk : Nat → Int32} {l n s : Nat} {x : Int32} {w' h' u' r' : Nat → Int32}
/-- where the child hangs: at the root of the working map, or at a way of a node in use -/
def sn_At (lev : Nat → Nat) (w u r r' : Nat → Int32) (l n s : Nat) (x : Int32) : Prop := (s = 1600 ∧ l = 0 ∧ x = r 0 ∧ r' 0 = nI n ∧ ∀ t, t < 8 → t ≠ 0 → r' t = r t) ∨ (∃ p jj, p < 400 ∧ jj < 4 ∧ s = 4 * p + jj ∧ u p ≠ 0 ∧ lev p + 1 = l ∧ x = w s ∧ ∀ t, t < 8 → r' t = r t)
theorem sn_vl_lv (F : sn_WF lev hw w h u r stk 0) (hx : sn_lv u lev l x) (hl3 : l < 3) {j : Nat} (hj : j < 4) : sn_lv u lev (l + 1) (sn_vl w x l j) := by
  unfold sn_vl
  rcases hx with e | ⟨c, hc, e, hu, hlv⟩
  · rw [e, if_pos (by decide), if_pos hl3]
    exact Or.inl rfl
  · rw [e, if_neg (nI_pos (by omega)), nI_clamp (by omega)]
    have := sn_WF_kid F hc hu (by omega) hj
    rw [hlv] at this
    exact this
theorem sn_own_sem (F : sn_WF lev hw w h u r stk 0) (hl : l ≤ 3) (hn : n < 400) (hun : u n = 0) (hx : sn_lv u lev l x)
    (hw' : ∀ q, w' q = if 4 * n ≤ q ∧ q < 4 * n + 4 then sn_vl w x l (q - 4 * n) else if q = s ∧ s < 1600 then nI n else w q)
    (hh' : ∀ q, h' q = if q = n then (if l = 3 then (if x < 0 then 0 else h x.toNatClampNeg) ||| (256 : Int32) else 0) else h q)
    (hs : sn_At lev w u r r' l n s x) (k : Nat) : (∀ d, d ≤ 3 → ∀ y, sn_lv u lev (3 - d) y → sn_sem w' h' d y k = sn_sem w h d y k) ∧ sn_sem w' h' (3 - l) (nI n) k = sn_sem w h (3 - l) x k := by
  have hne : ∀ {a : Nat}, u a ≠ 0 → a ≠ n := fun ha e => ha (by rw [e]; exact hun)
  have hw'n : ∀ j, j < 4 → w' (4 * n + j) = sn_vl w x l j := by
    intro j hj
    rw [hw', if_pos (by omega), show 4 * n + j - 4 * n = j by omega]
  have Q : ∀ d, d = 3 - l → (∀ e, e < d → ∀ y, sn_lv u lev (3 - e) y → sn_sem w' h' e y k = sn_sem w h e y k) → sn_sem w' h' d (nI n) k = sn_sem w h d x k := by
    intro d hd hP
    cases d with
    | zero =>
      have hl3 : l = 3 := by omega
      rw [sn_sem_0 w' h' k hn, hh', if_pos rfl, if_pos hl3, sn_o256 _ (show k % 4 < 32 by omega), hw'n _ (by omega)]
      rcases hx with e | ⟨c, hc, e, hu, hlv⟩
      · rw [sn_sem_neg w h 0 k (by rw [e]; decide), e, if_pos (c := (-1 : Int32) < 0) (by decide), b_0, if_neg]
        rw [Bool.false_or, decide_eq_true_eq]
        omega
      · rw [e, sn_sem_0 w h k hc, if_neg (nI_pos (by omega)), nI_clamp (by omega)]
        have e4 : decide (k % 4 = 8) = false := decide_eq_false (by omega)
        rw [e4, Bool.or_false]
        unfold sn_vl
        rw [if_neg (nI_pos (by omega)), nI_clamp (by omega)]
    | succ d =>
      rw [sn_sem_s w' h' d k hn, hw'n _ (Nat.mod_lt _ (by omega))]
      have hv := sn_vl_lv F hx (show l < 3 by omega) (Nat.mod_lt (k / 4 ^ (d + 1)) (show 0 < 4 by omega))
      rw [show l + 1 = 3 - d by omega] at hv
      rw [hP d (by omega) _ hv]
      rcases hx with e | ⟨c, hc, e, hu, hlv⟩
      · rw [sn_sem_neg w h (d + 1) k (by rw [e]; decide)]
        refine sn_sem_neg w h d k ?_
        unfold sn_vl
        rw [e, if_pos (by decide), if_pos (by omega)]
        decide
      · rw [e, sn_sem_s w h d k hc]
        unfold sn_vl
        rw [if_neg (nI_pos (by omega)), nI_clamp (by omega)]
  have P : ∀ d, d ≤ 3 → ∀ e, e ≤ d → ∀ y, sn_lv u lev (3 - e) y → sn_sem w' h' e y k = sn_sem w h e y k := by
    intro d
    induction d with
    | zero =>
      intro _ e he y hy
      obtain rfl : e = 0 := by omega
      rcases hy with e1 | ⟨a, ha, e1, hua, hla⟩
      · rw [sn_sem_neg w' h' 0 k (by rw [e1]; decide), sn_sem_neg w h 0 k (by rw [e1]; decide)]
      · have han := hne hua
        have ew : w' (4 * a + k % 4) = w (4 * a + k % 4) := by
          rw [hw', if_neg (by omega), if_neg]
          intro z
          rcases hs with ⟨hs1, -⟩ | ⟨p, jj, hp, hj, hs1, hup, hlp, -⟩
          · omega
          · have : a = p := by omega
            rw [this] at hla
            omega
        rw [e1, sn_sem_0 w' h' k ha, sn_sem_0 w h k ha, ew, hh', if_neg han]
    | succ d ih =>
      intro hd e he y hy
      rcases Nat.lt_or_ge e (d + 1) with z | z
      · exact ih (by omega) e (by omega) y hy
      · obtain rfl : e = d + 1 := by omega
        rcases hy with e1 | ⟨a, ha, e1, hua, hla⟩
        · rw [sn_sem_neg w' h' _ k (by rw [e1]; decide), sn_sem_neg w h _ k (by rw [e1]; decide)]
        · have han := hne hua
          have ht : k / 4 ^ (d + 1) % 4 < 4 := Nat.mod_lt _ (by omega)
          rw [e1, sn_sem_s w' h' d k ha, sn_sem_s w h d k ha, hw', if_neg (by omega)]
          by_cases hqs : 4 * a + k / 4 ^ (d + 1) % 4 = s ∧ s < 1600
          · rw [if_pos hqs]
            rcases hs with ⟨hs1, -⟩ | ⟨p, jj, hp, hj, hs1, hup, hlp, hxs, -⟩
            · omega
            · have hap : a = p := by omega
              rw [hqs.1, ← hxs]
              refine Q d (by rw [hap] at hla; omega) (fun e2 he2 y2 hy2 => ih (by omega) e2 (by omega) y2 hy2)
          · rw [if_neg hqs]
            have hv := sn_WF_kid F ha hua (by omega) ht
            rw [show lev a + 1 = 3 - d by omega] at hv
            exact ih (by omega) d (by omega) _ hv
  exact ⟨fun d hd y hy => P d hd d (by omega) y hy, Q (3 - l) rfl (fun e he y hy => P e (by omega) e (by omega) y hy)⟩
theorem sn_own_step (F : sn_WF lev hw w h u r stk 0) (hl : l ≤ 3) (hn : n < 400) (hun : u n = 0) (hx : sn_lv u lev l x) (hx1 : ∀ c, c < 400 → x = nI c → u c ≠ 1)
    (hw' : ∀ q, w' q = if 4 * n ≤ q ∧ q < 4 * n + 4 then sn_vl w x l (q - 4 * n) else if q = s ∧ s < 1600 then nI n else w q)
    (hh' : ∀ q, h' q = if q = n then (if l = 3 then (if x < 0 then 0 else h x.toNatClampNeg) ||| (256 : Int32) else 0) else h q)
    (hu' : ∀ m, m < 400 → u' m = (if m = n then 1 else u m) + nI (sn_K w x l m 4) - (if x = nI m then 1 else 0))
    (hs : sn_At lev w u r r' l n s x) :
    sn_WF (fun m => if m = n then l else lev m) (max hw (n + 1)) w' h' u' r' stk 0 ∧ u' n = 1 ∧ (∀ a, a < 400 → u a ≠ 0 → a ≠ n ∧ u' a ≠ 0) ∧ (∀ a, a < 400 → u a = 1 → lev a < l → u' a = 1) ∧ (∀ t, t < 8 → ∀ k, sn_sem w' h' 3 (r' t) k = sn_sem w h 3 (r t) k) := by
  have hne : ∀ {a : Nat}, u a ≠ 0 → a ≠ n := fun ha e => ha (by rw [e]; exact hun)
  have hU : ∀ m, m < 400 → u m = nI (sn_ct (sn_En w u r lev) 1608 (nI m)) := by
    intro m hm
    have := F.2.2.1 m hm
    rw [show sn_ct stk 0 (nI m) = 0 from rfl, Nat.add_zero] at this
    exact this
  have hUle : ∀ m, sn_ct (sn_En w u r lev) 1608 (nI m) ≤ 1608 := fun m => sn_ct_le _ _ _
  have hU0 : ∀ m, m < 400 → (u m = 0 ↔ sn_ct (sn_En w u r lev) 1608 (nI m) = 0) := by
    intro m hm
    rw [hU m hm]
    exact sn_nz (by have := hUle m; omega)
  have hU1 : ∀ m, m < 400 → (u m = 1 ↔ sn_ct (sn_En w u r lev) 1608 (nI m) = 1) := by
    intro m hm
    rw [hU m hm]
    exact sn_n1 (by have := hUle m; omega)
  have hK4 : ∀ m, sn_K w x l m 4 ≤ 4 := fun m => sn_K_le w x l m 4
  have hK0 : ∀ m, m < 400 → (u m = 0 ∨ (u m ≠ 0 ∧ lev m ≠ l + 1)) → sn_K w x l m 4 = 0 := by
    intro m hm hz
    unfold sn_K
    by_cases hl3 : l < 3
    · rw [if_pos hl3]
      refine fb_ct_zero.mpr (fun j hj => decide_eq_false (fun e => ?_))
      rcases sn_vl_lv F hx hl3 hj with e2 | ⟨c, hc, e2, hu2, hlv2⟩
      · exact sn_m1ne (n := m) (by omega) (e2.symm.trans e)
      · have := sn_inj (by omega) (by omega) (e.symm.trans e2)
        rw [this] at hz
        rcases hz with hz | hz
        · exact hu2 hz
        · exact hz.2 hlv2
    · rw [if_neg hl3]
  have hxu : ∀ m, m < 400 → x = nI m → u m ≠ 0 ∧ lev m = l := by
    intro m hm e
    rcases hx with e2 | ⟨c, hc, e2, hu2, hlv2⟩
    · exact absurd (e2.symm.trans e) (sn_m1ne (by omega))
    · have := sn_inj (by omega) (by omega) (e.symm.trans e2)
      rw [this]
      exact ⟨hu2, hlv2⟩
  have hV : ∀ m, m < 400 → u' m = nI (sn_ct (sn_En w u r lev) 1608 (nI m) + (if m = n then 1 else 0) + sn_K w x l m 4 - (if x = nI m then 1 else 0)) ∧ (x = nI m → 2 ≤ sn_ct (sn_En w u r lev) 1608 (nI m)) := by
    intro m hm
    have hx2 : x = nI m → 2 ≤ sn_ct (sn_En w u r lev) 1608 (nI m) := by
      intro e
      have a1 := (hxu m hm e).1
      have a2 := hx1 m hm e
      have b1 := hU0 m hm
      have b2 := hU1 m hm
      have : ¬ sn_ct (sn_En w u r lev) 1608 (nI m) = 0 := fun z => a1 (b1.mpr z)
      have : ¬ sn_ct (sn_En w u r lev) 1608 (nI m) = 1 := fun z => a2 (b2.mpr z)
      omega
    refine ⟨?_, hx2⟩
    rw [hu' m hm]
    have e1 : (if m = n then (1 : Int32) else u m) = nI (sn_ct (sn_En w u r lev) 1608 (nI m) + (if m = n then 1 else 0)) := by
      by_cases e : m = n
      · rw [if_pos e, if_pos e, (hU0 m hm).mp (by rw [e]; exact hun)]
        rfl
      · rw [if_neg e, if_neg e, Nat.add_zero]
        exact hU m hm
    rw [e1, nI_add]
    by_cases e : x = nI m
    · rw [if_pos e, if_pos e]
      have := hx2 e
      exact pk_sub (b := 1) (by omega)
    · rw [if_neg e, if_neg e, Nat.sub_zero]
      grind
  have hlv' : ∀ m, m < 400 → (u' m ≠ 0 ↔ (u m ≠ 0 ∨ m = n)) := by
    intro m hm
    obtain ⟨v1, v2⟩ := hV m hm
    have b1 := hUle m
    have b2 := hK4 m
    have b3 : (if m = n then 1 else 0 : Nat) ≤ 1 := by split <;> omega
    rw [v1, ne_eq, sn_nz (by omega)]
    have c1 := hU0 m hm
    constructor
    · intro hz
      by_cases e : m = n
      · exact Or.inr e
      · refine Or.inl (fun z => hz ?_)
        rw [if_neg e, c1.mp z, hK0 m hm (Or.inl z)]
        omega
    · intro hz
      rcases hz with hz | hz
      · have : ¬ sn_ct (sn_En w u r lev) 1608 (nI m) = 0 := fun z => hz (c1.mpr z)
        by_cases e : x = nI m
        · have := v2 e
          rw [if_pos e]
          omega
        · rw [if_neg e]
          omega
      · rw [if_pos hz, if_neg (c := x = nI m) (fun e => (hxu m hm e).1 (by rw [hz]; exact hun))]
        omega
  have hn1 : u' n = 1 := by
    obtain ⟨v1, v2⟩ := hV n hn
    rw [v1, if_pos rfl, (hU0 n hn).mp hun, hK0 n hn (Or.inl hun), if_neg (c := x = nI n) (fun e => (hxu n hn e).1 hun)]
    rfl
  have hok : ∀ {q : Nat} {y : Int32}, sn_lv u lev q y → sn_ok (fun m => if m = n then l else lev m) q y := by
    intro q y hy
    rcases hy with e | ⟨c, hc, e, hu2, hlv2⟩
    · exact Or.inl e
    · refine Or.inr ⟨c, hc, e, ?_⟩
      show (if c = n then l else lev c) = q
      rw [if_neg (hne hu2)]
      exact hlv2
  have hw'n : ∀ j, j < 4 → w' (4 * n + j) = sn_vl w x l j := by
    intro j hj
    rw [hw', if_pos (by omega), show 4 * n + j - 4 * n = j by omega]
  have hs16 : ∀ p jj, p < 400 → jj < 4 → 4 * p + jj = s → u p ≠ 0 ∧ lev p + 1 = l ∧ x = w s := by
    intro p jj hp hj e
    rcases hs with ⟨hs1, -⟩ | ⟨p', jj', hp', hj', hs1, hup, hlp, hxs, -⟩
    · omega
    · have : p = p' := by omega
      rw [this]
      exact ⟨hup, hlp, hxs⟩
  -- the places
  have hEn : ∀ j, j < 4 → sn_En w u r lev (8 + 4 * n + j) = -1 := by
    intro j hj
    rw [sn_En_way w u r lev hj, if_neg (fun z => z.1 hun)]
  have hEn' : ∀ j, j < 4 → sn_En w' u' r' (fun m => if m = n then l else lev m) (8 + 4 * n + j) = if l < 3 then sn_vl w x l j else -1 := by
    intro j hj
    rw [sn_En_way w' u' r' _ hj, hw'n j hj]
    have a1 : u' n ≠ 0 := by rw [hn1]; decide
    by_cases hl3 : l < 3
    · rw [if_pos hl3, if_pos ⟨a1, by rw [if_pos rfl]; exact hl3⟩]
    · rw [if_neg hl3, if_neg]
      rintro ⟨-, z⟩
      rw [if_pos rfl] at z
      exact hl3 z
  obtain ⟨i0, hi0, hE0, hE0', hid, hEo⟩ : ∃ i0, i0 < 1608 ∧ sn_En w u r lev i0 = x ∧ sn_En w' u' r' (fun m => if m = n then l else lev m) i0 = nI n ∧ (i0 < 8 + 4 * n ∨ 8 + 4 * n + 4 ≤ i0) ∧ ∀ i, i < 1608 → i ≠ i0 → (i < 8 + 4 * n ∨ 8 + 4 * n + 4 ≤ i) → sn_En w' u' r' (fun m => if m = n then l else lev m) i = sn_En w u r lev i := by
    have hway : ∀ p jj, p < 400 → jj < 4 → p ≠ n → 4 * p + jj ≠ s → sn_En w' u' r' (fun m => if m = n then l else lev m) (8 + 4 * p + jj) = sn_En w u r lev (8 + 4 * p + jj) := by
      intro p jj hp hj hpn hps
      rw [sn_En_way w' u' r' _ hj, sn_En_way w u r lev hj]
      have e1 : (u' p ≠ 0 ∧ (if p = n then l else lev p) < 3) ↔ (u p ≠ 0 ∧ lev p < 3) := by
        rw [hlv' p hp, if_neg hpn]
        constructor
        · rintro ⟨a | a, b⟩
          · exact ⟨a, b⟩
          · exact absurd a hpn
        · rintro ⟨a, b⟩
          exact ⟨Or.inl a, b⟩
      by_cases e : u p ≠ 0 ∧ lev p < 3
      · rw [if_pos (e1.mpr e), if_pos e, hw', if_neg (by omega), if_neg (fun z => hps z.1)]
      · rw [if_neg (fun z => e (e1.mp z)), if_neg e]
    have hdec : ∀ i, 8 ≤ i → i < 1608 → ∃ p jj, p < 400 ∧ jj < 4 ∧ i = 8 + 4 * p + jj := fun i h1 h2 => ⟨(i - 8) / 4, (i - 8) % 4, by omega, by omega, by omega⟩
    rcases hs with ⟨hs1, hl0, hxr, hr0, hrt⟩ | ⟨p', jj', hp', hj', hs1, hup, hlp, hxs, hrt⟩
    · refine ⟨0, by omega, ?_, ?_, by omega, fun i hi1 hi2 hi3 => ?_⟩
      · unfold sn_En
        rw [if_pos (by omega)]
        exact hxr.symm
      · unfold sn_En
        rw [if_pos (by omega)]
        exact hr0
      · rcases Nat.lt_or_ge i 8 with z | z
        · unfold sn_En
          rw [if_pos z, if_pos z]
          exact hrt i z hi2
        · obtain ⟨p, jj, hp, hj, rfl⟩ := hdec i z hi1
          exact hway p jj hp hj (by omega) (by omega)
    · have hpn := hne hup
      refine ⟨8 + 4 * p' + jj', by omega, ?_, ?_, by omega, fun i hi1 hi2 hi3 => ?_⟩
      · have hle := (F.1 p' hp' hup).1
        rw [sn_En_way w u r lev hj', if_pos ⟨hup, by omega⟩, hxs, hs1]
      · rw [sn_En_way w' u' r' _ hj', if_pos ⟨(hlv' p' hp').mpr (Or.inl hup), by rw [if_neg hpn]; omega⟩, hw', if_neg (by omega), if_pos ⟨hs1.symm, by omega⟩]
      · rcases Nat.lt_or_ge i 8 with z | z
        · unfold sn_En
          rw [if_pos z, if_pos z]
          exact hrt i z
        · obtain ⟨p, jj, hp, hj, rfl⟩ := hdec i z hi1
          exact hway p jj hp hj (by omega) (by omega)
  refine ⟨⟨?_, ?_, ?_, ?_, by omega⟩, hn1, ?_, ?_, ?_⟩
  · -- levels
    intro a ha hua
    by_cases han : a = n
    · subst han
      refine ⟨by show (if a = a then l else lev a) ≤ 3; rw [if_pos rfl]; exact hl, ?_, ?_⟩
      · show bt (h' a) 8 = true ↔ (if a = a then l else lev a) = 3
        rw [if_pos rfl, hh', if_pos rfl]
        by_cases e : l = 3
        · rw [if_pos e, sn_o256 _ (by omega)]
          simp [e]
        · rw [if_neg e, b_0]
          simp [e]
      · show (if a = a then l else lev a) < 3 → ∀ j, j < 4 → sn_ok _ ((if a = a then l else lev a) + 1) (w' (4 * a + j))
        rw [if_pos rfl]
        intro hl3 j hj
        rw [hw'n j hj]
        exact hok (sn_vl_lv F hx hl3 hj)
    · have hua0 : u a ≠ 0 := by
        rcases (hlv' a ha).mp hua with z | z
        · exact z
        · exact absurd z han
      obtain ⟨a1, a2, a3⟩ := F.1 a ha hua0
      refine ⟨by show (if a = n then l else lev a) ≤ 3; rw [if_neg han]; exact a1, ?_, ?_⟩
      · show bt (h' a) 8 = true ↔ (if a = n then l else lev a) = 3
        rw [if_neg han, hh', if_neg han]
        exact a2
      · show (if a = n then l else lev a) < 3 → ∀ j, j < 4 → sn_ok _ ((if a = n then l else lev a) + 1) (w' (4 * a + j))
        rw [if_neg han]
        intro hl3 j hj
        rw [hw', if_neg (by omega)]
        by_cases hq : 4 * a + j = s ∧ s < 1600
        · rw [if_pos hq]
          refine Or.inr ⟨n, hn, rfl, ?_⟩
          show (if n = n then l else lev n) = lev a + 1
          rw [if_pos rfl]
          exact (hs16 a j ha hj hq.1).2.1.symm
        · rw [if_neg hq]
          exact hok (sn_WF_kid F ha hua0 hl3 hj)
  · -- roots
    intro t ht
    rcases hs with ⟨hs1, hl0, hxr, hr0, hrt⟩ | ⟨p', jj', hp', hj', hs1, hup, hlp, hxs, hrt⟩
    · by_cases e : t = 0
      · rw [e, hr0]
        refine Or.inr ⟨n, hn, rfl, ?_⟩
        show (if n = n then l else lev n) = 0
        rw [if_pos rfl]
        exact hl0
      · rw [hrt t ht e]
        exact hok (sn_WF_root F ht)
    · rw [hrt t ht]
      exact hok (sn_WF_root F ht)
  · -- users
    intro m hm
    obtain ⟨v1, v2⟩ := hV m hm
    rw [v1, show sn_ct stk 0 (nI m) = 0 from rfl, Nat.add_zero]
    have z := sn_ct5 (E := sn_En w u r lev) (E' := sn_En w' u' r' (fun m => if m = n then l else lev m)) (b := 8 + 4 * n) (i0 := i0) (N := 1608) (v := nI m) (by omega) hi0 hid hEo (fun j hj => by rw [hEn j hj]; exact sn_m1ne (by omega))
    rw [hE0, hE0'] at z
    have e1 : fb_ct (fun j => decide (sn_En w' u' r' (fun m => if m = n then l else lev m) (8 + 4 * n + j) = nI m)) 4 = sn_K w x l m 4 := by
      unfold sn_K
      by_cases hl3 : l < 3
      · rw [if_pos hl3]
        refine fb_ct_cong (fun j hj => ?_)
        rw [hEn' j hj, if_pos hl3]
      · rw [if_neg hl3]
        refine fb_ct_zero.mpr (fun j hj => ?_)
        rw [hEn' j hj, if_neg hl3]
        exact decide_eq_false (sn_m1ne (by omega))
    rw [e1] at z
    have e2 : (if nI n = nI m then 1 else 0) = (if m = n then 1 else 0) := by
      by_cases e : m = n
      · rw [if_pos e, e, if_pos rfl]
      · rw [if_neg e, if_neg (fun q => e (sn_inj (by omega) (by omega) q).symm)]
    rw [e2] at z
    congr 1
    omega
  · -- free numbers
    intro a h1 ha
    have han : a ≠ n := by omega
    refine Classical.byContradiction fun q => ?_
    rcases (hlv' a ha).mp q with z | z
    · exact z (F.2.2.2.1 a (by omega) ha)
    · exact han z
  · intro a ha hua
    exact ⟨hne hua, (hlv' a ha).mpr (Or.inl hua)⟩
  · intro a ha hua hlt
    obtain ⟨v1, v2⟩ := hV a ha
    have hua0 : u a ≠ 0 := by rw [hua]; decide
    rw [v1, if_neg (hne hua0), hK0 a ha (Or.inr ⟨hua0, by omega⟩), if_neg (c := x = nI a) (fun e => by have := (hxu a ha e).2; omega), (hU1 a ha).mp hua]
    rfl
  · intro t ht k
    obtain ⟨p1, p2⟩ := sn_own_sem F hl hn hun hx hw' hh' hs k
    rcases hs with ⟨hs1, hl0, hxr, hr0, hrt⟩ | ⟨p', jj', hp', hj', hs1, hup, hlp, hxs, hrt⟩
    · by_cases e : t = 0
      · rw [e, hr0, ← hxr]
        rw [hl0] at p2
        exact p2
      · rw [hrt t ht e]
        exact p1 3 (by omega) _ (sn_WF_root F ht)
    · rw [hrt t ht]
      exact p1 3 (by omega) _ (sn_WF_root F ht)
end OS
end
section
/-! the way to a key made the working map's own -/
theorem sn_WF_mono {lev : Nat → Nat} {hw hw2 : Nat} {w h u r stk : Nat → Int32} {dep : Nat} (F : sn_WF lev hw w h u r stk dep) (hle : hw ≤ hw2) : sn_WF lev hw2 w h u r stk dep := ⟨F.1, F.2.1, F.2.2.1, fun n h1 h2 => F.2.2.2.1 n (by omega) h2, F.2.2.2.2⟩
/-- the nodes pt 0 .. pt j stand on the working map's way to k, each with one user -/
def sn_Ch (lev : Nat → Nat) (w u r : Nat → Int32) (k : Nat) (pt : Nat → Nat) (j : Nat) : Prop := r 0 = nI (pt 0) ∧ (∀ i, i ≤ j → pt i < 400 ∧ u (pt i) = 1 ∧ lev (pt i) = i) ∧ ∀ i, i < j → w (4 * pt i + k / 4 ^ (3 - i) % 4) = nI (pt (i + 1))
theorem sn_lv_x {u : Nat → Int32} {lev : Nat → Nat} {l : Nat} {x : Int32} (h : sn_lv u lev l x) : x = -1 ∨ ∃ c, c < 400 ∧ x = nI c ∧ u c ≠ 0 := by
  rcases h with e | ⟨c, h1, h2, h3, -⟩
  · exact Or.inl e
  · exact Or.inr ⟨c, h1, h2, h3⟩
theorem sn_lv_y {u : Nat → Int32} {lev : Nat → Nat} {l : Nat} {x : Int32} (h : sn_lv u lev l x) : x = -1 ∨ ∃ c, c < 400 ∧ x = nI c := by
  rcases h with e | ⟨c, h1, h2, h3, -⟩
  · exact Or.inl e
  · exact Or.inr ⟨c, h1, h2⟩
theorem sn_upd_self (f : Nat → Int32) (k : Nat) : upd f k (f k) = f := by
  funext q
  by_cases h : q = k
  · subst h; rw [pk_us]
  · rw [pk_un h]
section OP
variable {stk : Nat → Int32} {k hw : Nat} {C : Nat → Nat → Option Int32} {r0 : Nat → Int32}
theorem sn_sp_op31 (hk : k < 256) (hhw : hw + 4 ≤ 400) {post : Int32 → (Nat → Int32) → (Nat → Int32) → (Nat → Int32) → (Nat → Int32) → (Nat → Int32) → Prop}
    (hp : ∀ lev w h u r p pt, sn_WF lev (hw + 4) w h u r stk 0 → sn_Ch lev w u r k pt 3 → (∀ i, i ≤ 3 → p i = nI (pt i)) → (∀ t, t < 8 → ∀ k', sn_sem w h 3 (r t) k' = C t k') → (∀ t, t < 8 → t ≠ 0 → r t = r0 t) → post (nI (pt 3)) w h u r p) :
    ∀ (i j : Nat), j + i = 3 → ∀ (lev : Nat → Nat) (w h u r p : Nat → Int32) (pt : Nat → Nat), sn_WF lev (hw + j + 1) w h u r stk 0 → sn_Ch lev w u r k pt j → (∀ i, i ≤ j → p i = nI (pt i)) → (∀ t, t < 8 → ∀ k', sn_sem w h 3 (r t) k' = C t k') → (∀ t, t < 8 → t ≠ 0 → r t = r0 t) → mX0_ownPath_31 (i + 1) w h u r p (nI k) (nI j) post := by
  intro i
  induction i with
  | zero =>
    intro j hj lev w h u r p pt F hc hpt hsem hr
    obtain rfl : j = 3 := by omega
    unfold mX0_ownPath_31
    refine ⟨fun _ => ⟨by unfold vp_in; decide, ?_⟩, fun q => absurd (show (3 : Int32) ≤ nI 3 by decide) q⟩
    have e : (3 : Int32).toNatClampNeg = 3 := by decide
    rw [e, hpt 3 (by omega)]
    exact hp lev w h u r p pt F hc hpt hsem hr
  | succ i ih =>
    intro j hj lev w h u r p pt F hc hpt hsem hr
    obtain ⟨hc0, hc1, hc2⟩ := hc
    obtain ⟨hpj, hupj, hlpj⟩ := hc1 j (by omega)
    have hupj0 : u (pt j) ≠ 0 := by rw [hupj]; decide
    have ht : k / 4 ^ (3 - j) % 4 < 4 := Nat.mod_lt _ (by omega)
    unfold mX0_ownPath_31
    refine ⟨fun q => absurd q (nI_ge (a := j) (b := 3) (by omega) (by omega)), fun _ => ?_⟩
    rw [nI_clamp (n := j) (by omega), hpt j (by omega)]
    refine ⟨vp_in_nI (by omega) (by omega), sn_sp_turn hk (by omega) ?_⟩
    rw [sn_ix, sn_p1, nI_clamp (n := 4 * pt j + k / 4 ^ (3 - j) % 4) (by omega), nI_clamp (n := j + 1) (by omega)]
    obtain ⟨s, hs⟩ : ∃ s, s = 4 * pt j + k / 4 ^ (3 - j) % 4 := ⟨_, rfl⟩
    rw [← hs]
    have hins : vp_in (nI s) 1600 := vp_in_nI (by omega) (by omega)
    have hx := sn_WF_kid F hpj hupj0 (by omega) ht
    rw [hlpj, ← hs] at hx
    have go : ∀ (lev' : Nat → Nat) (w' h' u' : Nat → Int32) (c : Nat), sn_WF lev' (hw + (j + 1) + 1) w' h' u' r stk 0 → (∀ i, i ≤ j → u' (pt i) = 1 ∧ lev' (pt i) = i) → c < 400 → u' c = 1 → lev' c = j + 1 → (∀ i, i < j → w' (4 * pt i + k / 4 ^ (3 - i) % 4) = nI (pt (i + 1))) → w' s = nI c → (∀ t, t < 8 → ∀ k', sn_sem w' h' 3 (r t) k' = C t k') → mX0_ownPath_31 (i + 1) w' h' u' r (upd p (j + 1) (nI c)) (nI k) (nI (j + 1)) post := by
      intro lev' w' h' u' c F' hch hc hu hlv hws hwc hsem'
      refine ih (j + 1) (by omega) lev' w' h' u' r _ (fun i => if i = j + 1 then c else pt i) F' ⟨?_, fun i hi => ?_, fun i hi => ?_⟩ (fun i hi => ?_) hsem' hr
      · show r 0 = nI (if 0 = j + 1 then c else pt 0)
        rw [if_neg (by omega)]
        exact hc0
      · dsimp only
        by_cases e : i = j + 1
        · rw [if_pos e, e]
          exact ⟨hc, hu, hlv⟩
        · rw [if_neg e]
          exact ⟨(hc1 i (by omega)).1, hch i (by omega)⟩
      · dsimp only
        rw [if_neg (show ¬ i = j + 1 by omega)]
        by_cases e : i = j
        · rw [if_pos (by omega), e, ← hs]
          exact hwc
        · rw [if_neg (by omega)]
          exact hws i (by omega)
      · by_cases e : i = j + 1
        · rw [if_pos e, e, pk_us]
        · rw [if_neg e, pk_un e]
          exact hpt i (by omega)
    refine ⟨hins, sn_sp_own (hw := hw + j + 1) (by omega) (by omega) F.2.2.2.1 (sn_lv_x hx) (fun hl3 jj hjj => sn_lv_y (sn_vl_lv F hx hl3 hjj)) (fun c hc e huc => ⟨hins, hins, vp_in_nI (by omega) (by omega), ?_⟩) (fun hne n u' hnw hun hu' => ⟨hins, hins, vp_in_nI (by omega) (by omega), ?_⟩)⟩
    · rw [sn_upd_self, e]
      refine go lev w h u c (sn_WF_mono F (by omega)) (fun i hi => ⟨(hc1 i hi).2.1, (hc1 i hi).2.2⟩) hc huc ?_ hc2 e hsem
      rcases hx with e2 | ⟨c', hc', e2, hu2, hlv2⟩
      · exact absurd (e2.symm.trans e) (sn_m1ne (by omega))
      · have := sn_inj (by omega) (by omega) (e.symm.trans e2)
        rw [this]
        exact hlv2
    · have hne2 : pt j ≠ n := fun z => hupj0 (by rw [z]; exact hun)
      rw [pk_us]
      obtain ⟨F', hn1, hlive, hone, hsem'⟩ := sn_own_step (w' := upd (sn_ow w n (sn_vl w (w s) (j + 1)) 4) s (nI n)) (h' := upd h n (if j + 1 = 3 then (if w s < 0 then 0 else h (w s).toNatClampNeg) ||| (256 : Int32) else 0)) (u' := u') (r' := r) (n := n) (s := s) F (show j + 1 ≤ 3 by omega) (by omega) hun hx hne (fun q => by
          by_cases e : q = s
          · subst e
            rw [pk_us, if_neg (by omega), if_pos ⟨rfl, by omega⟩]
          · rw [pk_un e]
            unfold sn_ow
            by_cases e2 : 4 * n ≤ q ∧ q < 4 * n + 4
            · rw [if_pos e2, if_pos e2]
            · rw [if_neg e2, if_neg e2, if_neg (fun z => e z.1)]) (fun q => by
          by_cases e : q = n
          · subst e
            rw [pk_us, if_pos rfl]
          · rw [pk_un e, if_neg e]) hu' (Or.inr ⟨pt j, k / 4 ^ (3 - j) % 4, hpj, ht, hs, hupj0, by omega, rfl, fun _ _ => rfl⟩)
      refine go _ _ _ _ n (sn_WF_mono F' (by omega)) (fun i hi => ?_) (by omega) hn1 (if_pos rfl) (fun i hi => ?_) pk_us (fun t ht k' => by rw [hsem' t ht k']; exact hsem t ht k')
      · obtain ⟨a1, a2, a3⟩ := hc1 i hi
        have a4 : u (pt i) ≠ 0 := by rw [a2]; decide
        refine ⟨hone (pt i) a1 a2 (by omega), ?_⟩
        show (if pt i = n then j + 1 else lev (pt i)) = i
        rw [if_neg (hlive (pt i) a1 a4).1]
        exact a3
      · obtain ⟨a1, a2, a3⟩ := hc1 i (by omega)
        have a4 : u (pt i) ≠ 0 := by rw [a2]; decide
        have a5 := (hlive (pt i) a1 a4).1
        have a6 : pt i ≠ pt j := fun z => by rw [z] at a3; omega
        have a7 : k / 4 ^ (3 - i) % 4 < 4 := Nat.mod_lt _ (by omega)
        rw [pk_un (by omega)]
        unfold sn_ow
        rw [if_neg (by omega)]
        exact hc2 i hi
theorem sn_sp_op (hk : k < 256) (hhw : hw + 4 ≤ 400) {lev : Nat → Nat} {w h u r p : Nat → Int32} (F : sn_WF lev hw w h u r stk 0) {post : Int32 → (Nat → Int32) → (Nat → Int32) → (Nat → Int32) → (Nat → Int32) → (Nat → Int32) → Prop}
    (hp : ∀ lev' w' h' u' r' p' pt, sn_WF lev' (hw + 4) w' h' u' r' stk 0 → sn_Ch lev' w' u' r' k pt 3 → (∀ i, i ≤ 3 → p' i = nI (pt i)) → (∀ t, t < 8 → ∀ k', sn_sem w' h' 3 (r' t) k' = sn_sem w h 3 (r t) k') → (∀ t, t < 8 → t ≠ 0 → r' t = r t) → post (nI (pt 3)) w' h' u' r' p') : mX0_ownPath w h u r p (nI k) post := by
  unfold mX0_ownPath
  have e0 : (0 : Int32).toNatClampNeg = 0 := by decide
  rw [e0]
  have hi8 : vp_in (0 : Int32) 8 := by unfold vp_in; decide
  have hi4 : vp_in (0 : Int32) 4 := by unfold vp_in; decide
  have hx := sn_WF_root F (t := 0) (by omega)
  have go : ∀ (lev' : Nat → Nat) (w' h' u' : Nat → Int32) (c : Nat), sn_WF lev' (hw + 0 + 1) w' h' u' (upd r 0 (nI c)) stk 0 → c < 400 → u' c = 1 → lev' c = 0 → (∀ t, t < 8 → ∀ k', sn_sem w' h' 3 (upd r 0 (nI c) t) k' = sn_sem w h 3 (r t) k') → ∃ n31 : Nat, mX0_ownPath_31 n31 w' h' u' (upd r 0 (nI c)) (upd p 0 ((upd r 0 (nI c)) 0)) (nI k) (0 : Int32) post := by
    intro lev' w' h' u' c F' hc hu hlv hsem'
    refine ⟨4, ?_⟩
    refine sn_sp_op31 (C := fun t k' => sn_sem w h 3 (r t) k') (r0 := r) hk hhw hp 3 0 (by omega) lev' w' h' u' _ _ (fun _ => c) F' ⟨pk_us, fun i hi => ?_, fun i hi => absurd hi (by omega)⟩ (fun i hi => ?_) hsem' (fun t ht ht0 => pk_un ht0)
    · rw [show i = 0 by omega]
      exact ⟨hc, hu, hlv⟩
    · rw [show i = 0 by omega, pk_us, pk_us]
  refine ⟨hi8, ?_⟩
  show mX0_ownNode w h u (r 0) (nI 0) _
  refine sn_sp_own (hw := hw) (by omega) (by omega) F.2.2.2.1 (sn_lv_x hx) (fun hl3 jj hjj => sn_lv_y (sn_vl_lv F hx hl3 hjj)) (fun c hc e huc => ⟨hi8, hi8, hi4, ?_⟩) (fun hne n u' hnw hun hu' => ⟨hi8, hi8, hi4, ?_⟩)
  · rw [e]
    have er : upd r 0 (nI c) = r := by rw [← e]; exact sn_upd_self r 0
    refine go lev w h u c ?_ hc huc ?_ (fun t ht k' => by rw [er])
    · rw [er]
      exact sn_WF_mono F (by omega)
    · rcases hx with e2 | ⟨c', hc', e2, hu2, hlv2⟩
      · exact absurd (e2.symm.trans e) (sn_m1ne (by omega))
      · have := sn_inj (by omega) (by omega) (e.symm.trans e2)
        rw [this]
        exact hlv2
  · obtain ⟨F', hn1, hlive, hone, hsem'⟩ := sn_own_step (w' := sn_ow w n (sn_vl w (r 0) 0) 4) (h' := upd h n (if 0 = 3 then (if r 0 < 0 then 0 else h (r 0).toNatClampNeg) ||| (256 : Int32) else 0)) (u' := u') (r' := upd r 0 (nI n)) (n := n) (s := 1600) F (show 0 ≤ 3 by omega) (by omega) hun hx hne (fun q => by
        unfold sn_ow
        by_cases e2 : 4 * n ≤ q ∧ q < 4 * n + 4
        · rw [if_pos e2, if_pos e2]
        · rw [if_neg e2, if_neg e2, if_neg (by omega)]) (fun q => by
        by_cases e : q = n
        · subst e
          rw [pk_us, if_pos rfl]
        · rw [pk_un e, if_neg e]) hu' (Or.inl ⟨rfl, rfl, rfl, pk_us, fun t ht ht0 => pk_un ht0⟩)
    exact go _ _ _ _ n (sn_WF_mono F' (by omega)) (by omega) hn1 (if_pos rfl) hsem'
end OP
end
section
/-! a leaf of the working map's own changed; nodes that lead nowhere taken away -/
section LC
variable {lev : Nat → Nat} {hw : Nat} {w h u r stk : Nat → Int32} {k : Nat} {pt : Nat → Nat}
theorem sn_U0 (F : sn_WF lev hw w h u r stk 0) {m : Nat} (hm : m < 400) : u m = nI (sn_ct (sn_En w u r lev) 1608 (nI m)) := by
  have := F.2.2.1 m hm
  rw [show sn_ct stk 0 (nI m) = 0 from rfl, Nat.add_zero] at this
  exact this
theorem sn_U1 (F : sn_WF lev hw w h u r stk 0) {m : Nat} (hm : m < 400) (hu : u m = 1) : sn_ct (sn_En w u r lev) 1608 (nI m) = 1 := by
  rw [sn_U0 F hm] at hu
  exact (sn_n1 (by have := sn_ct_le (sn_En w u r lev) 1608 (nI m); omega)).mp hu
/-- the leaf pt 3 stands on no other way -/
theorem sn_only (F : sn_WF lev hw w h u r stk 0) (hc : sn_Ch lev w u r k pt 3) (k' : Nat) : ∀ d, d ≤ 3 → ∀ y, sn_lv u lev (3 - d) y → sn_dn w k' d y = nI (pt 3) → y = nI (pt (3 - d)) ∧ ∀ e, 1 ≤ e → e ≤ d → k' / 4 ^ e % 4 = k / 4 ^ e % 4 := by
  intro d
  induction d with
  | zero =>
    intro _ y hy e
    exact ⟨e, fun e h1 h2 => by omega⟩
  | succ d ih =>
    intro hd y hy e
    obtain ⟨hc0, hc1, hc2⟩ := hc
    by_cases q : y < 0
    · rw [sn_dn_neg w k' _ q] at e
      rw [e] at q
      exact absurd q (nI_pos (by have := (hc1 3 (by omega)).1; omega))
    · obtain ⟨a, ha, rfl, hu, hlv⟩ := sn_lv_nn hy q
      unfold sn_dn at e
      rw [if_neg q, nI_clamp (by omega)] at e
      have ht' : k' / 4 ^ (d + 1) % 4 < 4 := Nat.mod_lt _ (by omega)
      have ht : k / 4 ^ (d + 1) % 4 < 4 := Nat.mod_lt _ (by omega)
      have hz := sn_WF_kid F ha hu (by omega) ht'
      rw [show lev a + 1 = 3 - d by omega] at hz
      obtain ⟨e1, e2⟩ := ih (by omega) _ hz e
      obtain ⟨a1, a2, a3⟩ := hc1 (3 - (d + 1)) (by omega)
      obtain ⟨b1, b2, b3⟩ := hc1 (3 - d) (by omega)
      have a4 : u (pt (3 - (d + 1))) ≠ 0 := by rw [a2]; decide
      have e3 := hc2 (3 - (d + 1)) (by omega)
      rw [show 3 - (3 - (d + 1)) = d + 1 by omega, show 3 - (d + 1) + 1 = 3 - d by omega] at e3
      have z := sn_ct_one (E := sn_En w u r lev) (N := 1608) (v := nI (pt (3 - d))) (Nat.le_of_eq (sn_U1 F b1 b2)) (i := 8 + 4 * a + k' / 4 ^ (d + 1) % 4) (j := 8 + 4 * pt (3 - (d + 1)) + k / 4 ^ (d + 1) % 4) (by omega) (by omega) (by rw [sn_En_way w u r lev ht', if_pos ⟨hu, by omega⟩]; exact e1) (by rw [sn_En_way w u r lev ht, if_pos ⟨a4, by omega⟩]; exact e3)
      have z1 : a = pt (3 - (d + 1)) := by omega
      refine ⟨by rw [z1], fun e h1 h2 => ?_⟩
      rcases Nat.lt_or_ge e (d + 1) with q2 | q2
      · exact e2 e h1 (by omega)
      · rw [show e = d + 1 by omega]
        omega
theorem sn_only3 (F : sn_WF lev hw w h u r stk 0) (hc : sn_Ch lev w u r k pt 3) (hk : k < 256) {t k' : Nat} (ht : t < 8) (hk' : k' < 256) (e : sn_dn w k' 3 (r t) = nI (pt 3)) : t = 0 ∧ k' / 4 = k / 4 := by
  obtain ⟨e1, e2⟩ := sn_only F hc k' 3 (by omega) _ (sn_WF_root F ht) e
  obtain ⟨hc0, hc1, hc2⟩ := hc
  obtain ⟨b1, b2, b3⟩ := hc1 0 (by omega)
  refine ⟨?_, ?_⟩
  · refine sn_ct_one (E := sn_En w u r lev) (N := 1608) (v := nI (pt 0)) (Nat.le_of_eq (sn_U1 F b1 b2)) (i := t) (j := 0) (by omega) (by omega) ?_ ?_
    · unfold sn_En
      rw [if_pos ht]
      exact e1
    · unfold sn_En
      rw [if_pos (by omega)]
      exact hc0
  · have h1 := e2 1 (by omega) (by omega)
    have h2 := e2 2 (by omega) (by omega)
    have h3 := e2 3 (by omega) (by omega)
    simp only [show (4 : Nat) ^ 1 = 4 from rfl, show (4 : Nat) ^ 2 = 16 from rfl, show (4 : Nat) ^ 3 = 64 from rfl] at h1 h2 h3
    omega
variable {w2 h2 : Nat → Int32}
theorem sn_leafch (F : sn_WF lev hw w h u r stk 0) (hc : sn_Ch lev w u r k pt 3) (hk : k < 256) (hw2 : ∀ q, q ≠ 4 * pt 3 + k % 4 → w2 q = w q) (hh2 : ∀ q, q ≠ pt 3 → h2 q = h q) (h8 : bt (h2 (pt 3)) 8 = bt (h (pt 3)) 8) (hb : ∀ i, i < 4 → i ≠ k % 4 → bt (h2 (pt 3)) i = bt (h (pt 3)) i) :
    sn_WF lev hw w2 h2 u r stk 0 ∧ sn_Ch lev w2 u r k pt 3 ∧ (∀ t, t < 8 → ∀ k', k' < 256 → (t ≠ 0 ∨ k' ≠ k) → sn_sem w2 h2 3 (r t) k' = sn_sem w h 3 (r t) k') ∧ sn_sem w2 h2 3 (r 0) k = if bt (h2 (pt 3)) (k % 4) = true then some (w2 (4 * pt 3 + k % 4)) else none := by
  obtain ⟨p1, p2, p3⟩ := hc.2.1 3 (by omega)
  have p4 : u (pt 3) ≠ 0 := by rw [p2]; decide
  have hway : ∀ a j, j < 4 → lev a < 3 → w2 (4 * a + j) = w (4 * a + j) := by
    intro a j hj hla
    refine hw2 _ (fun z => ?_)
    have : a = pt 3 := by omega
    rw [this] at hla
    omega
  have hdn : ∀ k' d, d ≤ 3 → ∀ y, sn_lv u lev (3 - d) y → sn_dn w2 k' d y = sn_dn w k' d y := by
    intro k' d
    induction d with
    | zero => intro _ y _; rfl
    | succ d ih =>
      intro hd y hy
      by_cases q : y < 0
      · rw [sn_dn_neg w k' _ q, sn_dn_neg w2 k' _ q]
      · obtain ⟨a, ha, rfl, hu, hlv⟩ := sn_lv_nn hy q
        unfold sn_dn
        rw [if_neg q, if_neg q, nI_clamp (by omega)]
        have ht' : k' / 4 ^ (d + 1) % 4 < 4 := Nat.mod_lt _ (by omega)
        rw [hway a _ ht' (by omega)]
        have hz := sn_WF_kid F ha hu (by omega) ht'
        rw [show lev a + 1 = 3 - d by omega] at hz
        exact ih (by omega) _ hz
  refine ⟨⟨?_, F.2.1, ?_, F.2.2.2.1, F.2.2.2.2⟩, ⟨hc.1, hc.2.1, fun i hi => ?_⟩, ?_, ?_⟩
  · intro a ha hua
    obtain ⟨a1, a2, a3⟩ := F.1 a ha hua
    refine ⟨a1, ?_, fun hl3 j hj => ?_⟩
    · by_cases e : a = pt 3
      · rw [e, h8, ← e]
        exact a2
      · rw [hh2 a e]
        exact a2
    · rw [hway a j hj hl3]
      exact a3 hl3 j hj
  · intro m hm
    rw [sn_ct_cong (E := sn_En w u r lev) (E' := sn_En w2 u r lev) (N := 1608) (fun i hi => ?_) (nI m)]
    · exact F.2.2.1 m hm
    unfold sn_En
    by_cases e : i < 8
    · rw [if_pos e, if_pos e]
    · rw [if_neg e, if_neg e]
      by_cases e2 : u ((i - 8) / 4) ≠ 0 ∧ lev ((i - 8) / 4) < 3
      · rw [if_pos e2, if_pos e2]
        have := hway ((i - 8) / 4) ((i - 8) % 4) (by omega) e2.2
        rw [show 4 * ((i - 8) / 4) + (i - 8) % 4 = i - 8 by omega] at this
        exact this
      · rw [if_neg e2, if_neg e2]
  · rw [hway (pt i) _ (Nat.mod_lt _ (by omega)) (by rw [(hc.2.1 i (by omega)).2.2]; exact hi)]
    exact hc.2.2 i hi
  · intro t ht k' hk' hne
    unfold sn_sem
    rw [hdn k' 3 (by omega) _ (sn_WF_root F ht)]
    have hl := sn_dn_lv F k' 3 (by omega) _ (sn_WF_root F ht)
    have ho := fun e => sn_only3 F hc hk ht hk' e
    generalize sn_dn w k' 3 (r t) = x at hl ho
    rcases hl with e | ⟨c, hcc, rfl, huc, hlc⟩
    · unfold sn_lf
      rw [e, if_pos (by decide), if_pos (by decide)]
    · unfold sn_lf
      rw [if_neg (nI_pos (by omega)), if_neg (nI_pos (by omega)), nI_clamp (by omega)]
      by_cases e : c = pt 3
      · obtain ⟨o1, o2⟩ := ho (by rw [e])
        have o3 : k' % 4 ≠ k % 4 := by
          intro z
          rcases hne with hne | hne
          · exact hne o1
          · omega
        rw [e, hb _ (by omega) o3, hw2 _ (by omega)]
      · rw [hh2 c e, hw2 _ (by omega)]
  · have e1 : sn_dn w k 3 (r 0) = nI (pt 3) := by
      obtain ⟨c0, c1, c2⟩ := hc
      have s0 := (c1 0 (by omega)).1
      have s1 := (c1 1 (by omega)).1
      have s2 := (c1 2 (by omega)).1
      have w0 : w (4 * pt 0 + k / 4 ^ (3 - 0) % 4) = nI (pt 1) := c2 0 (by omega)
      have w1 : w (4 * pt 1 + k / 4 ^ (3 - 1) % 4) = nI (pt 2) := c2 1 (by omega)
      have w2' : w (4 * pt 2 + k / 4 ^ (3 - 2) % 4) = nI (pt 3) := c2 2 (by omega)
      rw [c0]
      unfold sn_dn
      rw [if_neg (nI_pos (by omega)), nI_clamp (by omega), show k / 4 ^ (2 + 1) % 4 = k / 4 ^ (3 - 0) % 4 from rfl, w0]
      unfold sn_dn
      rw [if_neg (nI_pos (by omega)), nI_clamp (by omega), show k / 4 ^ (1 + 1) % 4 = k / 4 ^ (3 - 1) % 4 from rfl, w1]
      unfold sn_dn
      rw [if_neg (nI_pos (by omega)), nI_clamp (by omega), show k / 4 ^ (0 + 1) % 4 = k / 4 ^ (3 - 2) % 4 from rfl, w2']
      rfl
    unfold sn_sem
    rw [hdn k 3 (by omega) _ (sn_WF_root F (by omega)), e1]
    unfold sn_lf
    rw [if_neg (nI_pos (by omega)), nI_clamp (by omega)]
end LC
section CUT
variable {lev : Nat → Nat} {hw : Nat} {w h u r stk : Nat → Int32} {l q s : Nat} {w' r' : Nat → Int32}
/-- where the node q hangs, and what stands there behind the cut -/
def sn_Ct (lev : Nat → Nat) (w u r w' r' : Nat → Int32) (l q s : Nat) : Prop := (s = 1600 ∧ l = 0 ∧ r 0 = nI q ∧ r' 0 = -1 ∧ (∀ t, t < 8 → t ≠ 0 → r' t = r t) ∧ ∀ i, w' i = w i) ∨ (∃ p jj, p < 400 ∧ jj < 4 ∧ s = 4 * p + jj ∧ u p ≠ 0 ∧ lev p + 1 = l ∧ w s = nI q ∧ (∀ t, t < 8 → r' t = r t) ∧ ∀ i, w' i = if i = s then -1 else w i)
theorem sn_cut (F : sn_WF lev hw w h u r stk 0) (hl : l ≤ 3) (hq : q < 400) (huq : u q = 1) (hlq : lev q = l) (hem : (l = 3 → ∀ j, j < 4 → bt (h q) j = false) ∧ (l < 3 → ∀ j, j < 4 → w (4 * q + j) = -1)) (hs : sn_Ct lev w u r w' r' l q s) : sn_WF lev hw w' h (upd u q 0) r' stk 0 ∧ ∀ t, t < 8 → ∀ k, sn_sem w' h 3 (r' t) k = sn_sem w h 3 (r t) k := by
  have huq0 : u q ≠ 0 := by rw [huq]; decide
  have hU := fun {m : Nat} (hm : m < 400) => sn_U0 F hm
  have hq1 := sn_U1 F hq huq
  have hdec : ∀ i, 8 ≤ i → i < 1608 → ∃ p jj, p < 400 ∧ jj < 4 ∧ i = 8 + 4 * p + jj := fun i h1 h2 => ⟨(i - 8) / 4, (i - 8) % 4, by omega, by omega, by omega⟩
  have hw'o : ∀ i, i ≠ s → i < 1600 → w' i = w i := by
    intro i hi hi2
    rcases hs with ⟨-, -, -, -, -, z⟩ | ⟨p, jj, -, -, -, -, -, -, -, z⟩
    · exact z i
    · rw [z i, if_neg hi]
  have hempty : ∀ d, d = 3 - l → ∀ k, sn_sem w h d (nI q) k = none := by
    intro d hd k
    cases d with
    | zero =>
      rw [sn_sem_0 w h k hq, hem.1 (by omega) (k % 4) (by omega)]
      rfl
    | succ d =>
      rw [sn_sem_s w h d k hq, hem.2 (by omega) _ (Nat.mod_lt _ (by omega))]
      exact sn_sem_neg w h d k (by decide)
  have hway : ∀ p jj, p < 400 → jj < 4 → 4 * p + jj ≠ s → sn_En w' (upd u q 0) r' lev (8 + 4 * p + jj) = sn_En w u r lev (8 + 4 * p + jj) := by
    intro p jj hp hj hps
    rw [sn_En_way w' _ r' lev hj, sn_En_way w u r lev hj, hw'o _ hps (by omega)]
    by_cases e : p = q
    · subst e
      rw [pk_us, if_neg (fun z => z.1 rfl)]
      by_cases hl3 : lev p < 3
      · rw [if_pos ⟨huq0, hl3⟩, hem.2 (by omega) jj hj]
      · rw [if_neg (fun z => hl3 z.2)]
    · rw [pk_un e]
  obtain ⟨i0, hi0, hE0, hE0', hEo⟩ : ∃ i0, i0 < 1608 ∧ sn_En w u r lev i0 = nI q ∧ sn_En w' (upd u q 0) r' lev i0 = -1 ∧ ∀ i, i < 1608 → i ≠ i0 → sn_En w' (upd u q 0) r' lev i = sn_En w u r lev i := by
    rcases hs with ⟨hs1, hl0, hr0, hr0', hrt, hww⟩ | ⟨p', jj', hp', hj', hs1, hup, hlp, hws, hrt, hww⟩
    · refine ⟨0, by omega, ?_, ?_, fun i hi1 hi2 => ?_⟩
      · unfold sn_En
        rw [if_pos (by omega)]
        exact hr0
      · unfold sn_En
        rw [if_pos (by omega)]
        exact hr0'
      · rcases Nat.lt_or_ge i 8 with z | z
        · unfold sn_En
          rw [if_pos z, if_pos z]
          exact hrt i z hi2
        · obtain ⟨p, jj, hp, hj, rfl⟩ := hdec i z hi1
          exact hway p jj hp hj (by omega)
    · have hpq : p' ≠ q := fun z => by rw [z] at hlp; omega
      have hle := (F.1 p' hp' hup).1
      refine ⟨8 + 4 * p' + jj', by omega, ?_, ?_, fun i hi1 hi2 => ?_⟩
      · rw [sn_En_way w u r lev hj', if_pos ⟨hup, by omega⟩, ← hs1]
        exact hws
      · rw [sn_En_way w' _ r' lev hj', if_pos ⟨by rw [pk_un hpq]; exact hup, by omega⟩, hww, if_pos hs1.symm]
      · rcases Nat.lt_or_ge i 8 with z | z
        · unfold sn_En
          rw [if_pos z, if_pos z]
          exact hrt i z
        · obtain ⟨p, jj, hp, hj, rfl⟩ := hdec i z hi1
          exact hway p jj hp hj (by omega)
  have hsem : ∀ k d, d ≤ 3 → ∀ y, sn_lv u lev (3 - d) y → sn_sem w' h d y k = sn_sem w h d y k := by
    intro k d
    induction d with
    | zero =>
      intro _ y hy
      rcases hy with e | ⟨a, ha, e, hua, hla⟩
      · rw [sn_sem_neg w' h 0 k (by rw [e]; decide), sn_sem_neg w h 0 k (by rw [e]; decide)]
      · have ew : w' (4 * a + k % 4) = w (4 * a + k % 4) := by
          refine hw'o _ (fun z => ?_) (by omega)
          rcases hs with ⟨hs1, -⟩ | ⟨p, jj, hp, hj, hs1, hup, hlp, -⟩
          · omega
          · have : a = p := by omega
            rw [this] at hla
            omega
        rw [e, sn_sem_0 w' h k ha, sn_sem_0 w h k ha, ew]
    | succ d ih =>
      intro hd y hy
      rcases hy with e | ⟨a, ha, e, hua, hla⟩
      · rw [sn_sem_neg w' h _ k (by rw [e]; decide), sn_sem_neg w h _ k (by rw [e]; decide)]
      · have ht : k / 4 ^ (d + 1) % 4 < 4 := Nat.mod_lt _ (by omega)
        rw [e, sn_sem_s w' h d k ha, sn_sem_s w h d k ha]
        have hz := sn_WF_kid F ha hua (by omega) ht
        rw [show lev a + 1 = 3 - d by omega] at hz
        by_cases hqs : 4 * a + k / 4 ^ (d + 1) % 4 = s
        · rcases hs with ⟨hs1, -⟩ | ⟨p, jj, hp, hj, hs1, hup, hlp, hws, -, hww⟩
          · omega
          · have hap : a = p := by omega
            rw [hqs, hww, if_pos rfl, hws, hempty d (by rw [hap] at hla; omega) k]
            exact sn_sem_neg w' h d k (by decide)
        · rw [hw'o _ hqs (by omega)]
          exact ih (by omega) _ hz
  refine ⟨⟨?_, ?_, ?_, ?_, by omega⟩, ?_⟩
  · intro a ha hua
    have haq : a ≠ q := fun z => by rw [z, pk_us] at hua; exact hua rfl
    rw [pk_un haq] at hua
    obtain ⟨a1, a2, a3⟩ := F.1 a ha hua
    refine ⟨a1, a2, fun hl3 j hj => ?_⟩
    by_cases e : 4 * a + j = s
    · rcases hs with ⟨hs1, -⟩ | ⟨p, jj, hp, hj, hs1, hup, hlp, hws, -, hww⟩
      · omega
      · rw [hww, if_pos e]
        exact Or.inl rfl
    · rw [hw'o _ e (by omega)]
      exact a3 hl3 j hj
  · intro t ht
    rcases hs with ⟨hs1, hl0, hr0, hr0', hrt, hww⟩ | ⟨p', jj', hp', hj', hs1, hup, hlp, hws, hrt, hww⟩
    · by_cases e : t = 0
      · rw [e, hr0']
        exact Or.inl rfl
      · rw [hrt t ht e]
        exact F.2.1 t ht
    · rw [hrt t ht]
      exact F.2.1 t ht
  · intro m hm
    rw [show sn_ct stk 0 (nI m) = 0 from rfl, Nat.add_zero]
    have z := sn_ct_upd (E := sn_En w u r lev) (E' := sn_En w' (upd u q 0) r' lev) hi0 hEo (nI m)
    rw [hE0, hE0', if_neg (c := (-1 : Int32) = nI m) (sn_m1ne (by omega))] at z
    by_cases e : m = q
    · subst e
      rw [if_pos rfl] at z
      rw [pk_us, show sn_ct (sn_En w' (upd u m 0) r' lev) 1608 (nI m) = 0 by omega]
      rfl
    · rw [if_neg (fun y => e (sn_inj (by omega) (by omega) y).symm)] at z
      rw [pk_un e, hU hm, show sn_ct (sn_En w' (upd u q 0) r' lev) 1608 (nI m) = sn_ct (sn_En w u r lev) 1608 (nI m) by omega]
  · intro a h1 ha
    by_cases e : a = q
    · rw [e, pk_us]
    · rw [pk_un e]
      exact F.2.2.2.1 a h1 ha
  · intro t ht k
    rcases hs with ⟨hs1, hl0, hr0, hr0', hrt, hww⟩ | ⟨p', jj', hp', hj', hs1, hup, hlp, hws, hrt, hww⟩
    · by_cases e : t = 0
      · rw [e, hr0', hr0, hempty 3 (by omega) k]
        exact sn_sem_neg w' h 3 k (by decide)
      · rw [hrt t ht e]
        exact hsem k 3 (by omega) _ (sn_WF_root F ht)
    · rw [hrt t ht]
      exact hsem k 3 (by omega) _ (sn_WF_root F ht)
end CUT
end
section
/-! prune -/
theorem sn_sp_lo2 {w : Nat → Int32} {n : Nat} (hn : n < 400) {post : Int32 → Prop} (h1 : post 1) (h0 : (∀ j, j < 4 → w (4 * n + j) < 0) → post 0) : ∀ (i j : Nat), j + i = 4 → (∀ q, q < j → w (4 * n + q) < 0) → mX0_leadsOn_2 (i + 1) w (nI n) (nI j) post := by
  intro i
  induction i with
  | zero =>
    intro j hj hq
    obtain rfl : j = 4 := by omega
    unfold mX0_leadsOn_2
    exact ⟨fun _ => h0 hq, fun q => absurd (show (4 : Int32) ≤ nI 4 by decide) q⟩
  | succ i ih =>
    intro j hj hq
    unfold mX0_leadsOn_2
    refine ⟨fun q => absurd q (nI_ge (a := j) (b := 4) (by omega) (by omega)), fun _ => ?_⟩
    rw [sn_ix, nI_clamp (by omega), sn_p1]
    refine ⟨vp_in_nI (by omega) (by omega), fun q => ih (j + 1) (by omega) (fun q2 hq2 => ?_), fun _ => h1⟩
    rcases Nat.lt_or_ge q2 j with z | z
    · exact hq q2 z
    · rw [show q2 = j by omega]
      exact q
theorem sn_sp_lo {w : Nat → Int32} {n : Nat} (hn : n < 400) {post : Int32 → Prop} (h1 : post 1) (h0 : (∀ j, j < 4 → w (4 * n + j) < 0) → post 0) : mX0_leadsOn w (nI n) post := ⟨5, sn_sp_lo2 hn h1 h0 4 0 (by omega) (fun q h => absurd h (by omega))⟩
section PR
variable {stk : Nat → Int32} {k hw : Nat} {C : Nat → Nat → Option Int32} {r0 h p : Nat → Int32} {lev : Nat → Nat}
theorem sn_sp_pr32 (hk : k < 256) {post : (Nat → Int32) → (Nat → Int32) → (Nat → Int32) → Prop} (hp : ∀ w' u' r', sn_WF lev hw w' h u' r' stk 0 → (∀ t, t < 8 → ∀ k', sn_sem w' h 3 (r' t) k' = C t k') → (∀ t, t < 8 → t ≠ 0 → r' t = r0 t) → post w' u' r') :
    ∀ (j : Nat), j ≤ 2 → ∀ (w u r : Nat → Int32) (pt : Nat → Nat), sn_WF lev hw (upd w (4 * pt j + k / 4 ^ (3 - j) % 4) (-1)) h u r stk 0 → sn_Ch lev (upd w (4 * pt j + k / 4 ^ (3 - j) % 4) (-1)) u r k pt j → (∀ i, i ≤ 3 → p i = nI (pt i)) → (∀ t, t < 8 → ∀ k', sn_sem (upd w (4 * pt j + k / 4 ^ (3 - j) % 4) (-1)) h 3 (r t) k' = C t k') → (∀ t, t < 8 → t ≠ 0 → r t = r0 t) → mX0_prune_32 (j + 2) w h u r p (nI k) (nI j) post := by
  intro j
  induction j with
  | zero =>
    intro hj w u r pt F hc hpt hsem hr
    obtain ⟨hc0, hc1, hc2⟩ := hc
    obtain ⟨p1, p2, p3⟩ := hc1 0 (by omega)
    have p4 : u (pt 0) ≠ 0 := by rw [p2]; decide
    have ht : k / 4 ^ (3 - 0) % 4 < 4 := Nat.mod_lt _ (by omega)
    unfold mX0_prune_32
    refine ⟨fun q => absurd q (nI_pos (by omega)), fun _ => ?_⟩
    rw [nI_clamp (n := 0) (by omega), hpt 0 (by omega)]
    refine ⟨vp_in_nI (by omega) (by omega), sn_sp_turn hk (by omega) ?_⟩
    rw [sn_ix, nI_clamp (n := 4 * pt 0 + k / 4 ^ (3 - 0) % 4) (by omega)]
    refine ⟨vp_in_nI (by omega) (by omega), vp_in_nI (by omega) (by omega), sn_sp_lo p1 ⟨fun z => absurd z (by decide), fun _ => hp _ _ _ F hsem hr⟩ (fun hem => ⟨fun _ => ⟨vp_in_nI (by omega) (by omega), vp_in_nI p1 (by omega), ?_⟩, fun z => absurd rfl z⟩)⟩
    rw [nI_clamp (n := pt 0) (by omega)]
    unfold mX0_prune_32
    refine ⟨fun _ => ⟨by unfold vp_in; decide, ?_⟩, fun z => absurd (by decide) z⟩
    rw [show (0 : Int32).toNatClampNeg = 0 by decide]
    obtain ⟨F', hs'⟩ := sn_cut (q := pt 0) (s := 1600) (w' := upd w (4 * pt 0 + k / 4 ^ (3 - 0) % 4) (-1)) (r' := upd r 0 (-1)) F (l := 0) (by omega) p1 p2 p3 ⟨fun z => absurd z (by omega), fun _ jj hjj => by
        rcases (F.1 (pt 0) p1 p4).2.2 (by omega) jj hjj with e | ⟨c, hcc, e, -⟩
        · exact e
        · have z := hem jj hjj
          rw [e] at z
          exact absurd z (nI_pos (by omega))⟩ (Or.inl ⟨rfl, rfl, hc0, pk_us, fun t ht ht0 => pk_un ht0, fun _ => rfl⟩)
    refine hp _ _ _ F' (fun t ht k' => by rw [hs' t ht k']; exact hsem t ht k') (fun t ht ht0 => ?_)
    rw [pk_un ht0]
    exact hr t ht ht0
  | succ j ih =>
    intro hj w u r pt F hc hpt hsem hr
    obtain ⟨hc0, hc1, hc2⟩ := hc
    obtain ⟨p1, p2, p3⟩ := hc1 (j + 1) (by omega)
    obtain ⟨q1, q2, q3⟩ := hc1 j (by omega)
    have p4 : u (pt (j + 1)) ≠ 0 := by rw [p2]; decide
    have q4 : u (pt j) ≠ 0 := by rw [q2]; decide
    have ht : k / 4 ^ (3 - (j + 1)) % 4 < 4 := Nat.mod_lt _ (by omega)
    have ht2 : k / 4 ^ (3 - j) % 4 < 4 := Nat.mod_lt _ (by omega)
    unfold mX0_prune_32
    refine ⟨fun q => absurd q (nI_pos (by omega)), fun _ => ?_⟩
    rw [nI_clamp (n := j + 1) (by omega), hpt (j + 1) (by omega)]
    refine ⟨vp_in_nI (by omega) (by omega), sn_sp_turn hk (by omega) ?_⟩
    rw [sn_ix, nI_clamp (n := 4 * pt (j + 1) + k / 4 ^ (3 - (j + 1)) % 4) (by omega)]
    refine ⟨vp_in_nI (by omega) (by omega), vp_in_nI (by omega) (by omega), sn_sp_lo p1 ⟨fun z => absurd z (by decide), fun _ => hp _ _ _ F hsem hr⟩ (fun hem => ⟨fun _ => ⟨vp_in_nI (by omega) (by omega), vp_in_nI p1 (by omega), ?_⟩, fun z => absurd rfl z⟩)⟩
    rw [nI_clamp (n := pt (j + 1)) (by omega), pk_m1]
    generalize upd w (4 * pt (j + 1) + k / 4 ^ (3 - (j + 1)) % 4) (-1) = w1 at F hc2 hsem hem ⊢
    obtain ⟨F', hs'⟩ := sn_cut (q := pt (j + 1)) (s := 4 * pt j + k / 4 ^ (3 - j) % 4) (w' := upd w1 (4 * pt j + k / 4 ^ (3 - j) % 4) (-1)) (r' := r) F (l := j + 1) (by omega) p1 p2 p3 ⟨fun z => absurd z (by omega), fun _ jj hjj => by
        rcases (F.1 (pt (j + 1)) p1 p4).2.2 (by omega) jj hjj with e | ⟨c, hcc, e, -⟩
        · exact e
        · have z := hem jj hjj
          rw [e] at z
          exact absurd z (nI_pos (by omega))⟩ (Or.inr ⟨pt j, k / 4 ^ (3 - j) % 4, q1, ht2, rfl, q4, by omega, hc2 j (by omega), fun _ _ => rfl, fun i => by
        by_cases e : i = 4 * pt j + k / 4 ^ (3 - j) % 4
        · rw [if_pos e, e, pk_us]
        · rw [if_neg e, pk_un e]⟩)
    refine ih (by omega) w1 (upd u (pt (j + 1)) 0) r pt F' ⟨hc0, fun i hi => ?_, fun i hi => ?_⟩ hpt (fun t ht k' => by rw [hs' t ht k']; exact hsem t ht k') hr
    · obtain ⟨a1, a2, a3⟩ := hc1 i (by omega)
      refine ⟨a1, ?_, a3⟩
      rw [pk_un (fun z => by rw [z] at a3; omega)]
      exact a2
    · obtain ⟨a1, a2, a3⟩ := hc1 i (by omega)
      have a6 : pt i ≠ pt j := fun z => by rw [z] at a3; omega
      have a7 : k / 4 ^ (3 - i) % 4 < 4 := Nat.mod_lt _ (by omega)
      rw [pk_un (by omega)]
      exact hc2 i (by omega)
theorem sn_sp_prune (hk : k < 256) {w u r : Nat → Int32} {pt : Nat → Nat} (F : sn_WF lev hw w h u r stk 0) (hc : sn_Ch lev w u r k pt 3) (hpt : ∀ i, i ≤ 3 → p i = nI (pt i)) {post : (Nat → Int32) → (Nat → Int32) → (Nat → Int32) → Prop} (hp : ∀ w' u' r', sn_WF lev hw w' h u' r' stk 0 → (∀ t, t < 8 → ∀ k', sn_sem w' h 3 (r' t) k' = sn_sem w h 3 (r t) k') → (∀ t, t < 8 → t ≠ 0 → r' t = r t) → post w' u' r') : mX0_prune w h u r p (nI k) post := by
  unfold mX0_prune
  obtain ⟨hc0, hc1, hc2⟩ := hc
  obtain ⟨p1, p2, p3⟩ := hc1 3 (by omega)
  obtain ⟨q1, q2, q3⟩ := hc1 2 (by omega)
  have q4 : u (pt 2) ≠ 0 := by rw [q2]; decide
  have ht2 : k / 4 ^ (3 - 2) % 4 < 4 := Nat.mod_lt _ (by omega)
  have hi3 : vp_in (3 : Int32) 4 := by unfold vp_in; decide
  rw [show (3 : Int32).toNatClampNeg = 3 by decide, hpt 3 (by omega), nI_clamp (by omega)]
  refine ⟨hi3, vp_in_nI p1 (by omega), fun q => ⟨hi3, vp_in_nI p1 (by omega), 4, ?_⟩, fun _ => hp w u r F (fun _ _ _ => rfl) (fun _ _ _ => rfl)⟩
  obtain ⟨F', hs'⟩ := sn_cut (q := pt 3) (s := 4 * pt 2 + k / 4 ^ (3 - 2) % 4) (w' := upd w (4 * pt 2 + k / 4 ^ (3 - 2) % 4) (-1)) (r' := r) F (l := 3) (by omega) p1 p2 p3 ⟨fun _ => sn_15 _ q, fun z => absurd z (by omega)⟩ (Or.inr ⟨pt 2, k / 4 ^ (3 - 2) % 4, q1, ht2, rfl, q4, by omega, hc2 2 (by omega), fun _ _ => rfl, fun i => by
      by_cases e : i = 4 * pt 2 + k / 4 ^ (3 - 2) % 4
      · rw [if_pos e, e, pk_us]
      · rw [if_neg e, pk_un e]⟩)
  refine sn_sp_pr32 (C := fun t k' => sn_sem w h 3 (r t) k') (r0 := r) hk hp 2 (by omega) w (upd u (pt 3) 0) r pt F' ⟨hc0, fun i hi => ?_, fun i hi => ?_⟩ hpt hs' (fun _ _ _ => rfl)
  · obtain ⟨a1, a2, a3⟩ := hc1 i (by omega)
    refine ⟨a1, ?_, a3⟩
    rw [pk_un (fun z => by rw [z] at a3; omega)]
    exact a2
  · obtain ⟨a1, a2, a3⟩ := hc1 i (by omega)
    have a6 : pt i ≠ pt 2 := fun z => by rw [z] at a3; omega
    have a7 : k / 4 ^ (3 - i) % 4 < 4 := Nat.mod_lt _ (by omega)
    rw [pk_un (by omega)]
    exact hc2 i (by omega)
end PR
end
section
/-! nodes given back; roots shared -/
def sn_S (l : Nat) : Nat := if l = 0 then 85 else if l = 1 then 21 else if l = 2 then 5 else 1
theorem sn_S_pos (l : Nat) : 1 ≤ sn_S l := by
  unfold sn_S
  split
  · omega
  · split
    · omega
    · split <;> omega
theorem sn_S_s {l : Nat} (hl : l < 3) : sn_S l = 1 + 4 * sn_S (l + 1) := by
  rcases (show l = 0 ∨ l = 1 ∨ l = 2 by omega) with rfl | rfl | rfl <;> rfl
/-- an upper bound of the steps that the nodes of the stack still take -/
def sn_ms (lev : Nat → Nat) (stk : Nat → Int32) : Nat → Nat
  | 0 => 0
  | n + 1 => sn_ms lev stk n + sn_S (lev (stk n).toNatClampNeg)
theorem sn_ms_cong {lev : Nat → Nat} {stk stk' : Nat → Int32} : ∀ {n : Nat}, (∀ i, i < n → stk' i = stk i) → sn_ms lev stk' n = sn_ms lev stk n
  | 0, _ => rfl
  | n + 1, h => by
    unfold sn_ms
    rw [sn_ms_cong (fun i hi => h i (by omega)), h n (by omega)]
theorem sn_ct_s (E : Nat → Int32) (n : Nat) (v : Int32) : sn_ct E (n + 1) v = sn_ct E n v + (if E n = v then 1 else 0) := by
  unfold sn_ct
  rw [fb_ct_succ]
  simp only [decide_eq_true_eq]
section GB
variable {lev : Nat → Nat} {hw : Nat} {w h u r stk : Nat → Int32} {e c : Nat}
theorem sn_popu (F : sn_WF lev hw w h u r stk (e + 1)) (hc : c < 400) (hs : stk e = nI c) : u c ≠ 0 ∧ ∀ m, m < 400 → upd u c (u c - 1) m = nI (sn_ct (sn_En w u r lev) 1608 (nI m) + sn_ct stk e (nI m)) := by
  have hd := F.2.2.2.2
  refine ⟨sn_WF_live F hc ?_, fun m hm => ?_⟩
  · have := sn_ct_pos (E := stk) (N := e + 1) (v := nI c) (i := e) (by omega) hs
    omega
  · have z := F.2.2.1 m hm
    rw [sn_ct_s stk e, hs] at z
    by_cases q : m = c
    · subst q
      rw [if_pos rfl, ← Nat.add_assoc] at z
      rw [pk_us, z]
      exact nI_pred _
    · rw [if_neg (fun y => q (sn_inj (by omega) (by omega) y).symm), Nat.add_zero] at z
      rw [pk_un q, z]
theorem sn_pop_keep (F : sn_WF lev hw w h u r stk (e + 1)) (hc : c < 400) (hs : stk e = nI c) (hk : u c - 1 ≠ 0 ∨ lev c = 3) : sn_WF lev hw w h (upd u c (u c - 1)) r stk e := by
  obtain ⟨hu0, hV⟩ := sn_popu F hc hs
  have hE : ∀ i, i < 1608 → sn_En w (upd u c (u c - 1)) r lev i = sn_En w u r lev i := by
    intro i hi
    unfold sn_En
    by_cases q : i < 8
    · rw [if_pos q, if_pos q]
    · rw [if_neg q, if_neg q]
      by_cases q2 : (i - 8) / 4 = c
      · rw [q2, pk_us]
        rcases hk with hk | hk
        · by_cases q3 : lev c < 3
          · rw [if_pos ⟨hk, q3⟩, if_pos ⟨hu0, q3⟩]
          · rw [if_neg (fun z => q3 z.2), if_neg (fun z => q3 z.2)]
        · rw [if_neg (fun z => by have := z.2; omega), if_neg (fun z => by have := z.2; omega)]
      · rw [pk_un q2]
  refine ⟨?_, F.2.1, ?_, ?_, by have := F.2.2.2.2; omega⟩
  · intro a ha hua
    refine F.1 a ha (fun z => ?_)
    by_cases q : a = c
    · rw [q] at z
      exact hu0 z
    · rw [pk_un q] at hua
      exact hua z
  · intro m hm
    rw [hV m hm, sn_ct_cong hE]
  · intro a h1 ha
    by_cases q : a = c
    · rw [q] at h1
      exact absurd (F.2.2.2.1 c h1 hc) hu0
    · rw [pk_un q]
      exact F.2.2.2.1 a h1 ha
theorem sn_pop_free (F : sn_WF lev hw w h u r stk (e + 1)) (hc : c < 400) (hs : stk e = nI c) (h0 : u c - 1 = 0) (hl : lev c < 3) {stk' : Nat → Int32} {dep' : Nat} (hd : dep' ≤ 16) (hP : ∀ m, m < 400 → sn_ct stk' dep' (nI m) = sn_ct stk e (nI m) + fb_ct (fun j => decide (w (4 * c + j) = nI m)) 4) : sn_WF lev hw w h (upd u c (u c - 1)) r stk' dep' := by
  obtain ⟨hu0, hV⟩ := sn_popu F hc hs
  have hEc : ∀ j, j < 4 → sn_En w (upd u c (u c - 1)) r lev (8 + 4 * c + j) = -1 := by
    intro j hj
    rw [sn_En_way w _ r lev hj, pk_us, h0, if_neg (fun z => z.1 rfl)]
  have hEc0 : ∀ j, j < 4 → sn_En w u r lev (8 + 4 * c + j) = w (4 * c + j) := by
    intro j hj
    rw [sn_En_way w u r lev hj, if_pos ⟨hu0, hl⟩]
  have hE : ∀ i, i < 1608 → i ≠ 0 → (i < 8 + 4 * c ∨ 8 + 4 * c + 4 ≤ i) → sn_En w u r lev i = sn_En w (upd u c (u c - 1)) r lev i := by
    intro i hi _ hi2
    unfold sn_En
    by_cases q : i < 8
    · rw [if_pos q, if_pos q]
    · rw [if_neg q, if_neg q, pk_un (by omega)]
  refine ⟨?_, F.2.1, ?_, ?_, hd⟩
  · intro a ha hua
    refine F.1 a ha (fun z => ?_)
    by_cases q : a = c
    · rw [q, pk_us, h0] at hua
      exact hua rfl
    · rw [pk_un q] at hua
      exact hua z
  · intro m hm
    have z := sn_ct5 (E := sn_En w (upd u c (u c - 1)) r lev) (E' := sn_En w u r lev) (b := 8 + 4 * c) (i0 := 0) (N := 1608) (v := nI m) (by omega) (by omega) (by omega) hE (fun j hj => by rw [hEc j hj]; exact sn_m1ne (by omega))
    have e1 : sn_En w (upd u c (u c - 1)) r lev 0 = sn_En w u r lev 0 := by
      unfold sn_En
      rw [if_pos (by omega), if_pos (by omega)]
    have e2 : fb_ct (fun j => decide (sn_En w u r lev (8 + 4 * c + j) = nI m)) 4 = fb_ct (fun j => decide (w (4 * c + j) = nI m)) 4 := fb_ct_cong (fun j hj => by rw [hEc0 j hj])
    rw [e1, e2] at z
    rw [hV m hm, hP m hm, show sn_ct (sn_En w u r lev) 1608 (nI m) + sn_ct stk e (nI m) = sn_ct (sn_En w (upd u c (u c - 1)) r lev) 1608 (nI m) + (sn_ct stk e (nI m) + fb_ct (fun j => decide (w (4 * c + j) = nI m)) 4) by omega]
  · intro a h1 ha
    by_cases q : a = c
    · rw [q, pk_us, h0]
    · rw [pk_un q]
      exact F.2.2.2.1 a h1 ha
/-- where the stack's nodes stand: none of level l above the place 3 l -/
def sn_Po (lev : Nat → Nat) (stk : Nat → Int32) (dep : Nat) : Prop := ∀ j, j < dep → ∃ c, c < 400 ∧ stk j = nI c ∧ lev c ≤ 3 ∧ j ≤ 3 * lev c
/-- the children of c laid on the stack, up to the j-th way -/
def sn_Pu (lev : Nat → Nat) (w stk : Nat → Int32) (e c j : Nat) (stk' : Nat → Int32) (dep' : Nat) : Prop := e ≤ dep' ∧ dep' ≤ e + j ∧ (∀ q, q < e → stk' q = stk q) ∧ (∀ q, e ≤ q → q < dep' → ∃ c', c' < 400 ∧ stk' q = nI c' ∧ lev c' = lev c + 1) ∧ (∀ m, m < 400 → sn_ct stk' dep' (nI m) = sn_ct stk e (nI m) + fb_ct (fun i => decide (w (4 * c + i) = nI m)) j) ∧ sn_ms lev stk' dep' ≤ sn_ms lev stk e + j * sn_S (lev c + 1)
theorem sn_sp_gb76 (hc : c < 400) (he : e ≤ 12) (hkid : ∀ j, j < 4 → sn_ok lev (lev c + 1) (w (4 * c + j))) {st : Int32} {kx : Int32 → (Nat → Int32) → Prop} (hk : ∀ stk' dep', sn_Pu lev w stk e c 4 stk' dep' → kx (nI dep') stk') : ∀ (i j : Nat), j + i = 4 → ∀ stk' dep', sn_Pu lev w stk e c j stk' dep' → mX0_giveBack_76 (i + 1) w h u stk' (nI dep') st (nI c) (nI j) kx := by
  intro i
  induction i with
  | zero =>
    intro j hj stk' dep' hP
    obtain rfl : j = 4 := by omega
    unfold mX0_giveBack_76
    exact ⟨fun _ => hk stk' dep' hP, fun q => absurd (show (4 : Int32) ≤ nI 4 by decide) q⟩
  | succ i ih =>
    intro j hj stk' dep' hP
    obtain ⟨b1, b2, b3, b4, b5, b6⟩ := hP
    unfold mX0_giveBack_76
    refine ⟨fun q => absurd q (nI_ge (a := j) (b := 4) (by omega) (by omega)), fun _ => ?_⟩
    rw [sn_ix, nI_clamp (n := 4 * c + j) (by omega), sn_p1, sn_p1, nI_clamp (n := dep') (by omega)]
    have hS : (j + 1) * sn_S (lev c + 1) = j * sn_S (lev c + 1) + sn_S (lev c + 1) := Nat.succ_mul _ _
    refine ⟨vp_in_nI (by omega) (by omega), fun q => ?_, fun q => ?_⟩
    · refine ih (j + 1) (by omega) stk' dep' ⟨b1, by omega, b3, b4, fun m hm => ?_, by omega⟩
      rw [b5 m hm, fb_ct_succ, if_neg, Nat.add_zero]
      intro z
      rw [of_decide_eq_true z] at q
      exact nI_pos (by omega) q
    · rcases hkid j (by omega) with z | ⟨c', hc', z, hlc'⟩
      · rw [z] at q
        exact absurd (by decide) q
      · refine ⟨vp_in_nI (by omega) (by omega), vp_in_nI (by omega) (by omega), ih (j + 1) (by omega) _ (dep' + 1) ⟨by omega, by omega, fun q hq => ?_, fun q hq1 hq2 => ?_, fun m hm => ?_, ?_⟩⟩
        · rw [pk_un (by omega)]
          exact b3 q hq
        · by_cases y : q = dep'
          · rw [y, pk_us]
            exact ⟨c', hc', z, hlc'⟩
          · rw [pk_un y]
            exact b4 q hq1 (by omega)
        · rw [sn_ct_s, pk_us, sn_ct_cong (E := stk') (fun i hi => pk_un (by omega)), b5 m hm, fb_ct_succ]
          simp only [decide_eq_true_eq]
          omega
        · show sn_ms lev _ dep' + sn_S (lev (upd stk' dep' (w (4 * c + j)) dep').toNatClampNeg) ≤ _
          rw [sn_ms_cong (stk := stk') (fun i hi => pk_un (by omega)), pk_us, z, nI_clamp (by omega), hlc']
          omega
theorem sn_sp_gb16 {post : (Nat → Int32) → (Nat → Int32) → Prop} (hp : ∀ u' stk', sn_WF lev hw w h u' r stk' 0 → post u' stk') : ∀ (n : Nat) (u stk : Nat → Int32) (dep st : Nat), sn_ms lev stk dep < n → st + sn_ms lev stk dep ≤ 85 → sn_WF lev hw w h u r stk dep → sn_Po lev stk dep → mX0_giveBack_16 n w h u stk (nI dep) (nI st) post := by
  intro n
  induction n with
  | zero =>
    intro u stk dep st h1
    omega
  | succ n ih =>
    intro u stk dep st h1 h2 F hPo
    have hd := F.2.2.2.2
    unfold mX0_giveBack_16
    refine ⟨fun q => absurd q (nI_ge (a := st) (b := 400) (by omega) (by omega)), fun _ => ⟨fun q => ?_, fun q => ?_⟩⟩
    · have hd0 : dep = 0 := by
        rcases Nat.eq_zero_or_pos dep with z | z
        · exact z
        · exact absurd q (nI_nle z (by omega))
      rw [hd0] at F
      exact hp u stk F
    · obtain ⟨e, rfl⟩ : ∃ e, dep = e + 1 := by
        rcases Nat.eq_zero_or_pos dep with z | z
        · rw [z] at q
          exact absurd (by decide) q
        · exact ⟨dep - 1, by omega⟩
      obtain ⟨c, hc, hs, hlc, hpc⟩ := hPo e (by omega)
      obtain ⟨hu0, hV⟩ := sn_popu F hc hs
      have hPo' : sn_Po lev stk e := fun j hj => hPo j (by omega)
      have hms : sn_ms lev stk (e + 1) = sn_ms lev stk e + sn_S (lev c) := by
        show sn_ms lev stk e + sn_S (lev (stk e).toNatClampNeg) = _
        rw [hs, nI_clamp (by omega)]
      have hSp := sn_S_pos (lev c)
      rw [pk_m1, nI_clamp (n := e) (by omega), hs, nI_clamp (n := c) (by omega), sn_p1, pk_us]
      have hic : vp_in (nI c) 400 := vp_in_nI hc (by omega)
      refine ⟨vp_in_nI (by omega) (by omega), hic, hic, hic, fun q2 => ?_, fun q2 => ⟨hic, fun q3 => ?_, fun q3 => ?_⟩⟩
      · exact ih _ _ e (st + 1) (by omega) (by omega) (sn_pop_keep F hc hs (Or.inl q2)) hPo'
      · have hl3 : lev c = 3 := by
          rw [sn_256] at q3
          exact (F.1 c hc hu0).2.1.mp (by simpa using q3)
        exact ih _ _ e (st + 1) (by omega) (by omega) (sn_pop_keep F hc hs (Or.inr hl3)) hPo'
      · have hl3 : lev c < 3 := by
          rw [sn_256] at q3
          have z := (F.1 c hc hu0).2.1
          rcases Nat.lt_or_ge (lev c) 3 with y | y
          · exact y
          · rw [z.mpr (by omega)] at q3
            cases q3
        have hSs := sn_S_s hl3
        refine ⟨5, sn_sp_gb76 (stk := stk) (e := e) hc (by omega) (fun j hj => (F.1 c hc hu0).2.2 hl3 j hj) (fun stk' dep' hP => ?_) 4 0 (by omega) stk e ⟨by omega, by omega, fun _ _ => rfl, fun q h1 h2 => by omega, fun m hm => rfl, by omega⟩⟩
        obtain ⟨b1, b2, b3, b4, b5, b6⟩ := hP
        refine ih _ _ dep' (st + 1) (by omega) (by omega) (sn_pop_free F hc hs q2 hl3 (by omega) b5) (fun j hj => ?_)
        rcases Nat.lt_or_ge j e with y | y
        · rw [b3 j y]
          exact hPo j (by omega)
        · obtain ⟨c', hc', y2, hlc'⟩ := b4 j y hj
          exact ⟨c', hc', y2, by omega, by omega⟩
end GB
section SH
variable {lev : Nat → Nat} {hw : Nat} {w h u r stk : Nat → Int32}
theorem sn_WF_stk {dep : Nat} {stk' : Nat → Int32} (F : sn_WF lev hw w h u r stk dep) (hs : ∀ i, i < dep → stk' i = stk i) : sn_WF lev hw w h u r stk' dep := by
  refine ⟨F.1, F.2.1, fun m hm => ?_, F.2.2.2.1, F.2.2.2.2⟩
  rw [F.2.2.1 m hm, sn_ct_cong hs]
/-- a root laid anew: the old node is still to be given back -/
theorem sn_reroot (F : sn_WF lev hw w h u r stk 0) {t : Nat} (ht : t < 8) {x' : Int32} (hx' : sn_lv u lev 0 x') {u' r' : Nat → Int32} (hu' : ∀ m, m < 400 → u' m = u m + (if x' = nI m then 1 else 0)) (hr' : ∀ i, i < 8 → r' i = if i = t then x' else r i) : sn_WF lev hw w h u' r' (fun _ => r t) (if r t < 0 then 0 else 1) := by
  have hUle : ∀ m, sn_ct (sn_En w u r lev) 1608 (nI m) ≤ 1608 := fun m => sn_ct_le _ _ _
  have hV : ∀ m, m < 400 → u' m = nI (sn_ct (sn_En w u r lev) 1608 (nI m) + (if x' = nI m then 1 else 0)) := by
    intro m hm
    rw [hu' m hm, sn_U0 F hm]
    by_cases q : x' = nI m
    · rw [if_pos q, if_pos q, nI_1]
    · rw [if_neg q, if_neg q, Nat.add_zero]
      grind
  have hlive : ∀ m, m < 400 → (u' m ≠ 0 ↔ u m ≠ 0) := by
    intro m hm
    have b := hUle m
    by_cases q : x' = nI m
    · have hum : u m ≠ 0 := by
        rcases hx' with z | ⟨c, hc, z, huc, -⟩
        · exact absurd (z.symm.trans q) (sn_m1ne (by omega))
        · have := sn_inj (by omega) (by omega) (q.symm.trans z)
          rw [this]
          exact huc
      have hz := hV m hm
      rw [if_pos q] at hz
      refine ⟨fun _ => hum, fun _ => ?_⟩
      rw [hz]
      exact nI_ne0 (by omega) (by omega)
    · rw [hu' m hm, if_neg q]
      rw [show u m + (0 : Int32) = u m by grind]
  have hE : ∀ i, i < 1608 → i ≠ t → sn_En w u' r' lev i = sn_En w u r lev i := by
    intro i hi hit
    unfold sn_En
    by_cases q : i < 8
    · rw [if_pos q, if_pos q, hr' i q, if_neg hit]
    · rw [if_neg q, if_neg q]
      have := hlive ((i - 8) / 4) (by omega)
      by_cases q2 : u ((i - 8) / 4) ≠ 0 ∧ lev ((i - 8) / 4) < 3
      · rw [if_pos q2, if_pos ⟨this.mpr q2.1, q2.2⟩]
      · rw [if_neg q2, if_neg (fun z => q2 ⟨this.mp z.1, z.2⟩)]
  refine ⟨fun a ha hua => F.1 a ha ((hlive a ha).mp hua), fun i hi => ?_, fun m hm => ?_, fun a h1 ha => ?_, by split <;> omega⟩
  · rw [hr' i hi]
    by_cases q : i = t
    · rw [if_pos q]
      exact sn_lv_ok hx'
    · rw [if_neg q]
      exact F.2.1 i hi
  · have z := sn_ct_upd (E := sn_En w u r lev) (E' := sn_En w u' r' lev) (N := 1608) (i0 := t) (by omega) hE (nI m)
    have e1 : sn_En w u r lev t = r t := by unfold sn_En; rw [if_pos ht]
    have e2 : sn_En w u' r' lev t = x' := by unfold sn_En; rw [if_pos ht, hr' t ht, if_pos rfl]
    rw [e1, e2] at z
    rw [hV m hm]
    by_cases q : r t < 0
    · rw [if_pos q, show sn_ct (fun _ => r t) 0 (nI m) = 0 from rfl]
      rw [if_neg (c := r t = nI m) (fun y => by rw [y] at q; exact nI_pos (by omega) q)] at z
      rw [show sn_ct (sn_En w u r lev) 1608 (nI m) + (if x' = nI m then 1 else 0) = sn_ct (sn_En w u' r' lev) 1608 (nI m) + 0 by omega]
    · rw [if_neg q, sn_ct_s (fun _ => r t) 0, show sn_ct (fun _ => r t) 0 (nI m) = 0 from rfl, Nat.zero_add, ← z]
  · have := hlive a ha
    refine Classical.byContradiction fun q => ?_
    exact (this.mp q) (F.2.2.2.1 a h1 ha)
/-- giveBack of the old root -/
theorem sn_sp_gb {y : Int32} (hy : sn_ok lev 0 y) (F : sn_WF lev hw w h u r (fun _ => y) (if y < 0 then 0 else 1)) {post : (Nat → Int32) → (Nat → Int32) → Prop} (hp : ∀ u' stk', sn_WF lev hw w h u' r stk' 0 → post u' stk') : mX0_giveBack w h u stk y post := by
  unfold mX0_giveBack
  rw [show (0 : Int32).toNatClampNeg = 0 by decide]
  refine ⟨fun q => ⟨by unfold vp_in; decide, 86, ?_⟩, fun q => ?_⟩
  · rw [if_neg (Int32.not_lt.mpr q)] at F
    rcases hy with z | ⟨c, hc, z, hlc⟩
    · rw [z] at q
      exact absurd q (by decide)
    · have F1 : sn_WF lev hw w h u r (upd stk 0 y) 1 := sn_WF_stk F (fun i hi => by rw [show i = 0 by omega, pk_us])
      have hm : sn_ms lev (upd stk 0 y) 1 = 85 := by
        show 0 + sn_S (lev (upd stk 0 y 0).toNatClampNeg) = 85
        rw [pk_us, z, nI_clamp (by omega), hlc]
        rfl
      exact sn_sp_gb16 hp 86 u (upd stk 0 y) 1 0 (by omega) (by omega) F1 (fun j hj => by
        rw [show j = 0 by omega, pk_us]
        exact ⟨c, hc, z, by omega, by omega⟩)
  · rw [if_pos (Int32.not_le.mp q)] at F
    exact hp u stk (sn_WF_stk F (fun i hi => absurd hi (by omega)))
theorem sn_sp_share (F : sn_WF lev hw w h u r stk 0) {z : Nat → Int32} {f t : Nat} (hf : f < 8) (ht : t < 8) {post : (Nat → Int32) → (Nat → Int32) → (Nat → Int32) → Prop} (hp : ∀ u', sn_WF lev hw w h u' (upd r t (r f)) (fun _ => r t) (if r t < 0 then 0 else 1) → post u' (upd r t (r f)) (upd z t (z f))) : mX0_share u r z (nI f) (nI t) post := by
  unfold mX0_share
  rw [nI_clamp (n := f) (by omega), nI_clamp (n := t) (by omega), pk_us]
  have if8 : vp_in (nI f) 8 := vp_in_nI hf (by omega)
  have it8 : vp_in (nI t) 8 := vp_in_nI ht (by omega)
  have hx := sn_WF_root F hf
  have hr : ∀ i, i < 8 → upd r t (r f) i = if i = t then r f else r i := by
    intro i _
    by_cases q : i = t
    · rw [if_pos q, q, pk_us]
    · rw [if_neg q, pk_un q]
  refine ⟨if8, it8, if8, it8, it8, fun q => ?_, fun q => ?_⟩
  · refine hp u (sn_reroot F ht hx (fun m hm => ?_) hr)
    rw [if_neg (fun y => by rw [y] at q; exact nI_pos (by omega) q)]
    grind
  · obtain ⟨c, hc, e, huc, -⟩ := sn_lv_nn hx q
    have hin : vp_in (r f) 400 := sn_in (by omega) e hc
    refine ⟨it8, hin, hin, ?_⟩
    rw [show (r f).toNatClampNeg = c by rw [e]; exact nI_clamp (by omega)]
    refine hp _ (sn_reroot F ht hx (fun m hm => ?_) hr)
    by_cases q2 : m = c
    · rw [q2, pk_us, if_pos e]
    · rw [pk_un q2, if_neg (fun y => q2 (sn_inj (by omega) (by omega) (y.symm.trans e)))]
      grind
end SH
end
section
/-! the operations, each by itself: the tree's and the reference's -/
theorem sn_nokey {y : Int32} (h : y < 0 ∨ (255 : Int32) < y) : ∀ k, k < 256 → ¬ y = nI k := by
  intro k hk e
  rw [e] at h
  rcases h with h | h
  · exact nI_pos (by omega) h
  · exact Int32.not_lt.mpr (sn_keyle hk) h
theorem sn_in0 : vp_in (0 : Int32) 8 := by unfold vp_in; decide
theorem sn_c0 : (0 : Int32).toNatClampNeg = 0 := by decide
section TQ
variable {lev : Nat → Nat} {hw : Nat} {w h u r stk : Nat → Int32} {dep : Nat} {f3 f5 : Nat → Int32}
theorem sn_sp_get (F : sn_WF lev hw w h u r stk dep) {x y : Int32} {post : Int32 → Prop} (h1 : ∀ t k, sn_Map f3 x t → k < 256 → y = nI k → post ((sn_sem w h 3 (r t) k).getD 0)) (h0 : (∀ t, ¬ sn_Map f3 x t) ∨ (∀ k, k < 256 → ¬ y = nI k) → post 0) : mX0_get w h f3 r x y post := by
  unfold mX0_get
  refine sn_sp_isMap (fun t ht => ⟨fun q => absurd q (by decide), fun _ => ⟨fun q => h0 (Or.inr (sn_nokey (Or.inl q))), fun q => ⟨fun q2 => ?_, fun q2 => h0 (Or.inr (sn_nokey (Or.inr (Int32.not_le.mp q2))))⟩⟩⟩) (fun q => ⟨fun _ => h0 (Or.inl q), fun z => absurd rfl z⟩)
  rcases sn_key y with z | z | ⟨k, hk, e⟩
  · exact absurd z q
  · exact absurd z (Int32.not_lt.mpr q2)
  · have hz := h1 t k ht hk e
    rw [e, ht.2.1]
    refine sn_sp_leaf F ht.1 hk ?_
    have hl := sn_dn_lv F k 3 (by omega) _ (sn_WF_root F ht.1)
    unfold sn_sem at hz
    generalize sn_dn w k 3 (r t) = a at hl hz
    refine ⟨fun q3 => ?_, fun q3 => ?_⟩
    · unfold sn_lf at hz
      rw [if_pos q3] at hz
      exact hz
    · obtain ⟨c, hc, rfl, hu, hlv⟩ := sn_lv_nn hl q3
      unfold sn_lf at hz
      rw [if_neg q3, nI_clamp (by omega)] at hz
      rw [nI_clamp (n := c) (by omega)]
      refine ⟨vp_in_nI hc (by omega), fun q4 => ?_, fun q4 => ?_⟩
      · rw [sn_bit _ hk] at q4
        rw [q4] at hz
        exact hz
      · rw [sn_bit _ hk] at q4
        rw [if_pos (by simpa using q4)] at hz
        rw [sn_k3 hk, sn_ix, nI_clamp (by omega)]
        exact ⟨vp_in_nI (by omega) (by omega), hz⟩
theorem sn_sp_has (F : sn_WF lev hw w h u r stk dep) {x y : Int32} {post : Int32 → Prop} (h1 : ∀ t k, sn_Map f3 x t → k < 256 → y = nI k → post (if (sn_sem w h 3 (r t) k).isSome then 1 else 0)) (h2 : ∀ t, sn_Map f3 x t → (∀ k, k < 256 → ¬ y = nI k) → post 0) (h0 : (∀ t, ¬ sn_Map f3 x t) → post (-1)) : mX0_has w h f3 r x y post := by
  unfold mX0_has
  refine sn_sp_isMap (fun t ht => ⟨fun _ => ⟨fun q => h2 t ht (sn_nokey (Or.inl q)), fun q => ⟨fun q2 => h2 t ht (sn_nokey (Or.inr q2)), fun q2 => ?_⟩⟩, fun q => absurd q (by decide)⟩) (fun q => ⟨fun z => absurd rfl z, fun _ => h0 q⟩)
  rcases sn_key y with z | z | ⟨k, hk, e⟩
  · exact absurd z q
  · exact absurd z q2
  · have hz := h1 t k ht hk e
    rw [e, ht.2.1]
    refine sn_sp_holds F ht.1 hk (fun q3 => ⟨fun z => absurd z (by decide), fun _ => ?_⟩) (fun q3 => ⟨fun _ => ?_, fun z => absurd rfl z⟩)
    · rw [if_pos (Option.isSome_iff_ne_none.mpr q3)] at hz
      exact hz
    · rw [q3] at hz
      exact hz
theorem sn_sp_size {x : Int32} {post : Int32 → Prop} (h1 : ∀ t, sn_Map f3 x t → post (f5 t)) (h0 : (∀ t, ¬ sn_Map f3 x t) → post (-1)) : mX0_size f3 f5 x post := by
  unfold mX0_size
  refine sn_sp_isMap (fun t ht => ⟨fun q => absurd q (by decide), fun _ => ?_⟩) (fun q => ⟨fun _ => h0 q, fun z => absurd rfl z⟩)
  have ht8 := ht.1
  rw [ht.2.1, nI_clamp (by omega)]
  exact ⟨vp_in_nI ht.1 (by omega), h1 t ht⟩
end TQ
section TO
variable {lev : Nat → Nat} {hw : Nat} {w h u r stk : Nat → Int32} {f3 f5 f6 f7 : Nat → Int32}
theorem sn_sp_put37 (F : sn_WF lev hw w h u r stk 0) (hhw : hw + 4 ≤ 400) {k : Nat} (hk : k < 256) {v x3 : Int32} {post : Int32 → (Nat → Int32) → (Nat → Int32) → (Nat → Int32) → (Nat → Int32) → (Nat → Int32) → (Nat → Int32) → Prop}
    (hok : ∀ lev' w' h' u' r' p', sn_WF lev' (hw + 4) w' h' u' r' stk 0 → (∀ t, t < 8 → ∀ k', k' < 256 → (t ≠ 0 ∨ k' ≠ k) → sn_sem w' h' 3 (r' t) k' = sn_sem w h 3 (r t) k') → sn_sem w' h' 3 (r' 0) k = some v → (∀ t, t < 8 → t ≠ 0 → r' t = r t) → post (f5 0 + (if x3 = 0 then 1 else 0)) w' h' u' r' (upd f5 0 (f5 0 + (if x3 = 0 then 1 else 0))) p') : mX0_put_37 w h u r f5 f6 (nI k) v x3 post := by
  unfold mX0_put_37
  refine sn_sp_op hk hhw F (fun lev' w' h' u' r' p' pt F' hc hpt hsem hr => ?_)
  obtain ⟨p1, p2, p3⟩ := hc.2.1 3 (by omega)
  obtain ⟨G1, G2, G3, G4⟩ := sn_leafch (w2 := upd w' (4 * pt 3 + k % 4) v) (h2 := upd h' (pt 3) (h' (pt 3) ||| ((1 : Int32) <<< ((nI k &&& (3 : Int32)) &&& 31)))) F' hc hk (fun q hq => pk_un hq) (fun q hq => pk_un hq) (by
      rw [pk_us, sn_set _ hk (by omega), decide_eq_false (by omega), Bool.or_false]) (fun i hi hne => by
      rw [pk_us, sn_set _ hk (by omega), decide_eq_false hne, Bool.or_false])
  rw [pk_us, pk_us, sn_set _ hk (by omega), decide_eq_true rfl, Bool.or_true, if_pos rfl] at G4
  have z := hok lev' _ _ u' r' p' G1 (fun t ht k' hk' hne => by rw [G3 t ht k' hk' hne]; exact hsem t ht k') G4 hr
  rw [sn_c0, pk_us, pk_us]
  have e1 : (((4 : Int32) * nI (pt 3)) + (nI k &&& (3 : Int32))) = nI (4 * pt 3 + k % 4) := by rw [sn_k3 hk, sn_ix]
  rw [e1, nI_clamp (n := 4 * pt 3 + k % 4) (by omega), nI_clamp (n := pt 3) (by omega)]
  refine ⟨vp_in_nI (by omega) (by omega), vp_in_nI p1 (by omega), vp_in_nI p1 (by omega), sn_in0, fun q => ⟨sn_in0, sn_in0, ?_⟩, fun q => ⟨sn_in0, sn_in0, ?_⟩⟩
  · rw [if_pos q] at z
    exact z
  · rw [if_neg q] at z
    exact z
theorem sn_sp_put (F : sn_WF lev hw w h u r stk 0) (hhw : hw + 4 ≤ 400) {x v : Int32} {post : Int32 → (Nat → Int32) → (Nat → Int32) → (Nat → Int32) → (Nat → Int32) → (Nat → Int32) → (Nat → Int32) → Prop}
    (hbad : (∀ k, k < 256 → ¬ x = nI k) → post (-1) w h u r f5 f6)
    (hfull : ∀ k, k < 256 → x = nI k → sn_sem w h 3 (r 0) k = none → ¬ f5 0 < 16 → post (-1) w h u r f5 f6)
    (hok : ∀ k, k < 256 → x = nI k → (sn_sem w h 3 (r 0) k = none → f5 0 < 16) → ∀ lev' w' h' u' r' p', sn_WF lev' (hw + 4) w' h' u' r' stk 0 → (∀ t, t < 8 → ∀ k', k' < 256 → (t ≠ 0 ∨ k' ≠ k) → sn_sem w' h' 3 (r' t) k' = sn_sem w h 3 (r t) k') → sn_sem w' h' 3 (r' 0) k = some v → (∀ t, t < 8 → t ≠ 0 → r' t = r t) → post (f5 0 + (if sn_sem w h 3 (r 0) k = none then 1 else 0)) w' h' u' r' (upd f5 0 (f5 0 + (if sn_sem w h 3 (r 0) k = none then 1 else 0))) p') : mX0_put w h u r f5 f6 x v post := by
  unfold mX0_put
  refine ⟨fun q => hbad (sn_nokey (Or.inl q)), fun q => ⟨fun q2 => ?_, fun q2 => hbad (sn_nokey (Or.inr (Int32.not_le.mp q2)))⟩⟩
  rcases sn_key x with z | z | ⟨k, hk, e⟩
  · exact absurd z q
  · exact absurd z (Int32.not_lt.mpr q2)
  · have ho := hok k hk e
    have hf := hfull k hk e
    rw [e, sn_c0]
    show mX0_holds w h r (nI 0) (nI k) _
    refine sn_sp_holds F (by omega) hk (fun q3 => ⟨fun _ => ?_, fun z => absurd z (by decide)⟩) (fun q3 => ⟨fun z => absurd rfl z, fun _ => ⟨sn_in0, fun q4 => ?_, fun q4 => ?_⟩⟩)
    · refine sn_sp_put37 F hhw hk (fun lev' w' h' u' r' p' F' a1 a2 a3 => ?_)
      have z := ho (fun y => absurd y q3) lev' w' h' u' r' p' F' a1 a2 a3
      rw [if_neg q3] at z
      exact z
    · refine sn_sp_put37 F hhw hk (fun lev' w' h' u' r' p' F' a1 a2 a3 => ?_)
      have z := ho (fun _ => q4) lev' w' h' u' r' p' F' a1 a2 a3
      rw [if_pos q3] at z
      exact z
    · exact hf q3 q4
theorem sn_sp_remove (F : sn_WF lev hw w h u r stk 0) (hhw : hw + 4 ≤ 400) {x : Int32} {post : Int32 → (Nat → Int32) → (Nat → Int32) → (Nat → Int32) → (Nat → Int32) → (Nat → Int32) → (Nat → Int32) → Prop}
    (hbad : (∀ k, k < 256 → ¬ x = nI k) → post (-1) w h u r f5 f6)
    (hno : ∀ k, k < 256 → x = nI k → sn_sem w h 3 (r 0) k = none → post (-1) w h u r f5 f6)
    (hok : ∀ k, k < 256 → x = nI k → sn_sem w h 3 (r 0) k ≠ none → ∀ lev' w' h' u' r' p', sn_WF lev' (hw + 4) w' h' u' r' stk 0 → (∀ t, t < 8 → ∀ k', k' < 256 → (t ≠ 0 ∨ k' ≠ k) → sn_sem w' h' 3 (r' t) k' = sn_sem w h 3 (r t) k') → sn_sem w' h' 3 (r' 0) k = none → (∀ t, t < 8 → t ≠ 0 → r' t = r t) → post (f5 0 - 1) w' h' u' r' (upd f5 0 (f5 0 - 1)) p') : mX0_remove w h u r f5 f6 x post := by
  unfold mX0_remove
  refine ⟨fun q => hbad (sn_nokey (Or.inl q)), fun q => ⟨fun q2 => hbad (sn_nokey (Or.inr q2)), fun q2 => ?_⟩⟩
  rcases sn_key x with z | z | ⟨k, hk, e⟩
  · exact absurd z q
  · exact absurd z q2
  · have ho := hok k hk e
    have hf := hno k hk e
    rw [e, sn_c0]
    show mX0_holds w h r (nI 0) (nI k) _
    refine sn_sp_holds F (by omega) hk (fun q3 => ⟨fun _ => ?_, fun z => absurd z (by decide)⟩) (fun q3 => ⟨fun z => absurd rfl z, fun _ => hf q3⟩)
    refine sn_sp_op hk hhw F (fun lev' w' h' u' r' p' pt F' hc hpt hsem hr => ?_)
    obtain ⟨p1, p2, p3⟩ := hc.2.1 3 (by omega)
    obtain ⟨G1, G2, G3, G4⟩ := sn_leafch (w2 := w') (h2 := upd h' (pt 3) (h' (pt 3) &&& (((1 : Int32) <<< ((nI k &&& (3 : Int32)) &&& 31)) ^^^ (-1 : Int32)))) F' hc hk (fun q hq => rfl) (fun q hq => pk_un hq) (by
        rw [pk_us, sn_clr _ hk (by omega), decide_eq_false (by omega), Bool.not_false, Bool.and_true]) (fun i hi hne => by
        rw [pk_us, sn_clr _ hk (by omega), decide_eq_false hne, Bool.not_false, Bool.and_true])
    rw [pk_us, sn_clr _ hk (by omega), decide_eq_true rfl, Bool.not_true, Bool.and_false] at G4
    rw [nI_clamp (n := pt 3) (by omega)]
    refine ⟨vp_in_nI p1 (by omega), vp_in_nI p1 (by omega), sn_sp_prune hk G1 G2 hpt (fun w2 u2 r2 F2 hs2 hr2 => ⟨sn_in0, sn_in0, sn_in0, ?_⟩)⟩
    rw [pk_us]
    refine ho q3 lev' _ _ _ _ _ F2 (fun t ht k' hk' hne => ?_) ?_ (fun t ht ht0 => by rw [hr2 t ht ht0]; exact hr t ht ht0)
    · rw [hs2 t ht k', G3 t ht k' hk' hne]
      exact hsem t ht k'
    · rw [hs2 0 (by omega) k]
      exact G4
theorem sn_sp_commit2 (F : sn_WF lev hw w h u r stk 0) {post : Int32 → (Nat → Int32) → (Nat → Int32) → (Nat → Int32) → (Nat → Int32) → Prop} (hno : (∀ s, s < 7 → f3 (s + 1) ≠ 0) → post (-1) u f3 r f5)
    (hok : ∀ s, s < 7 → f3 (s + 1) = 0 → (∀ q, q < s → f3 (q + 1) ≠ 0) → ∀ u', sn_WF lev hw w h u' (upd r (s + 1) (r 0)) (fun _ => r (s + 1)) (if r (s + 1) < 0 then 0 else 1) → post (nI s) u' (upd f3 (s + 1) 1) (upd r (s + 1) (r 0)) (upd f5 (s + 1) (f5 0))) : ∀ (i s : Nat), s + i = 7 → (∀ q, q < s → f3 (q + 1) ≠ 0) → mX0_commit_2 (i + 1) u f3 r f5 (nI (s + 1)) post := by
  intro i
  induction i with
  | zero =>
    intro s hs hq
    obtain rfl : s = 7 := by omega
    unfold mX0_commit_2
    exact ⟨fun _ => hno hq, fun q => absurd (show (8 : Int32) ≤ nI (7 + 1) by decide) q⟩
  | succ i ih =>
    intro s hs hq
    unfold mX0_commit_2
    refine ⟨fun q => absurd q (nI_ge (a := s + 1) (b := 8) (by omega) (by omega)), fun _ => ?_⟩
    rw [nI_clamp (n := s + 1) (by omega), nI_pred, sn_p1, sn_nar1]
    refine ⟨vp_in_nI (by omega) (by omega), fun q => ih (s + 1) (by omega) (fun q2 hq2 => ?_), fun q => ⟨vp_in_nI (by omega) (by omega), ?_⟩⟩
    · rcases Nat.lt_or_ge q2 s with z | z
      · exact hq q2 z
      · rw [show q2 = s by omega]
        exact q
    · show mX0_share u r f5 (nI 0) (nI (s + 1)) _
      exact sn_sp_share F (by omega) (by omega) (fun u' F' => hok s (by omega) q hq u' F')
theorem sn_sp_restore (F : sn_WF lev hw w h u r stk 0) {x : Int32} {post : Int32 → (Nat → Int32) → (Nat → Int32) → (Nat → Int32) → (Nat → Int32) → Prop} (hno : (∀ s, s < 7 → x = nI s → f3 (s + 1) = 0) → post (-1) u r f5 f7)
    (hok : ∀ s, s < 7 → x = nI s → f3 (s + 1) ≠ 0 → ∀ u' stk', sn_WF lev hw w h u' (upd r 0 (r (s + 1))) stk' 0 → post (f5 (s + 1)) u' (upd r 0 (r (s + 1))) (upd f5 0 (f5 (s + 1))) stk') : mX0_restore w h u f3 r f5 f7 x post := by
  unfold mX0_restore
  refine ⟨fun q => hno (fun s hs e => absurd q (by rw [e]; exact nI_pos (by omega))), fun q1 => ⟨fun q => hno (fun s hs e => absurd q (by rw [e]; exact Int32.not_lt.mpr ((sn_le (a := s) (b := 6) (by omega) (by omega)).mpr (by omega)))), fun q2 => ?_⟩⟩
  obtain ⟨s, hs, e⟩ := nI_of2 (x := x) (M := 6) (n := 6) (by decide) q1 (Int32.not_lt.mp q2)
  rw [e, sn_p1, nI_clamp (n := s + 1) (by omega), sn_c0]
  refine ⟨vp_in_nI (by omega) (by omega), fun z => ⟨sn_in0, ?_⟩, fun z => hno (fun s' hs' e' => ?_)⟩
  · show mX0_share u r f5 (nI (s + 1)) (nI 0) _
    refine sn_sp_share F (by omega) (by omega) (fun u' F' => sn_sp_gb (F.2.1 0 (by omega)) F' (fun u2 stk2 F2 => ⟨sn_in0, ?_⟩))
    rw [pk_us]
    exact hok s (by omega) e z u2 stk2 F2
  · have := sn_inj (by omega) (by omega) (e'.symm.trans e)
    rw [this]
    exact z
theorem sn_sp_drop (F : sn_WF lev hw w h u r stk 0) {x : Int32} {post : Int32 → (Nat → Int32) → (Nat → Int32) → (Nat → Int32) → (Nat → Int32) → (Nat → Int32) → Prop} (hno : (∀ s, s < 7 → x = nI s → f3 (s + 1) = 0) → post (-1) u f3 r f5 f7)
    (hok : ∀ s, s < 7 → x = nI s → f3 (s + 1) ≠ 0 → ∀ u' stk', sn_WF lev hw w h u' (upd r (s + 1) (-1)) stk' 0 → post 0 u' (upd f3 (s + 1) 0) (upd r (s + 1) (-1)) (upd f5 (s + 1) 0) stk') : mX0_drop w h u f3 r f5 f7 x post := by
  unfold mX0_drop
  refine ⟨fun q => hno (fun s hs e => absurd q (by rw [e]; exact nI_pos (by omega))), fun q1 => ⟨fun q => hno (fun s hs e => absurd q (by rw [e]; exact Int32.not_lt.mpr ((sn_le (a := s) (b := 6) (by omega) (by omega)).mpr (by omega)))), fun q2 => ?_⟩⟩
  obtain ⟨s, hs, e⟩ := nI_of2 (x := x) (M := 6) (n := 6) (by decide) q1 (Int32.not_lt.mp q2)
  rw [e, sn_p1, nI_clamp (n := s + 1) (by omega), sn_nar0]
  have hi : vp_in (nI (s + 1)) 8 := vp_in_nI (by omega) (by omega)
  refine ⟨hi, fun z => ⟨hi, hi, ?_⟩, fun z => hno (fun s' hs' e' => ?_)⟩
  · have F' := sn_reroot F (t := s + 1) (by omega) (x' := -1) (Or.inl rfl) (u' := u) (r' := upd r (s + 1) (-1)) (fun m hm => by
      rw [if_neg (sn_m1ne (by omega))]
      grind) (fun i hi => by
      by_cases q : i = s + 1
      · rw [if_pos q, q, pk_us]
      · rw [if_neg q, pk_un q])
    exact sn_sp_gb (F.2.1 (s + 1) (by omega)) F' (fun u2 stk2 F2 => ⟨hi, hi, hok s (by omega) e z u2 stk2 F2⟩)
  · have := sn_inj (by omega) (by omega) (e'.symm.trans e)
    rw [this]
    exact z
end TO
section MO
variable {g0 g1 g2 : Nat → Int32}
theorem sn_1792 (k : Nat) : (1792 : Int32) + nI k = nI (256 * 7 + k) := by
  rw [show (1792 : Int32) = nI (256 * 7) from rfl, nI_add]
theorem sn_sp_mput {x v : Int32} {post : Int32 → (Nat → Int32) → (Nat → Int32) → Prop} (hbad : (∀ k, k < 256 → ¬ x = nI k) → post (-1) g1 g2) (hfull : ∀ k, k < 256 → x = nI k → g1 (256 * 7 + k) = 0 → sn_cnt g1 7 = 16 → post (-1) g1 g2)
    (hok : ∀ k, k < 256 → x = nI k → (g1 (256 * 7 + k) = 0 → sn_cnt g1 7 ≠ 16) → post (nI (sn_cnt (upd g1 (256 * 7 + k) 1) 7)) (upd g1 (256 * 7 + k) 1) (upd g2 (256 * 7 + k) v)) : mX1_put g1 g2 x v post := by
  unfold mX1_put
  refine sn_sp_badKey (fun k hk e => ⟨fun z => absurd rfl z, fun _ => ?_⟩) (fun q => ⟨fun _ => hbad q, fun z => absurd z (by decide)⟩)
  have ho := hok k hk e
  have hf := hfull k hk e
  have hcl : sn_cnt g1 7 ≤ 256 := fb_ct_le _ _
  rw [e, sn_1792, nI_clamp (by omega)]
  have hi : vp_in (nI (256 * 7 + k)) 2048 := vp_in_nI (by omega) (by omega)
  have go : (g1 (256 * 7 + k) = 0 → sn_cnt g1 7 ≠ 16) → mX1_put_33 g1 g2 (nI k) v post := by
    intro hz
    unfold mX1_put_33
    rw [sn_1792, nI_clamp (by omega), sn_nar1]
    exact ⟨hi, hi, sn_sp_count (m := 7) (by omega) (ho hz)⟩
  refine ⟨hi, fun q => go (fun y => absurd y q), fun q => ?_⟩
  refine sn_sp_count (m := 7) (by omega) ⟨fun q2 => go (fun _ y => q2 ?_), fun q2 => hf q ?_⟩
  · rw [y]
    rfl
  · exact sn_inj (b := 16) (by omega) (by omega) q2
theorem sn_sp_mremove {x : Int32} {post : Int32 → (Nat → Int32) → Prop} (hbad : (∀ k, k < 256 → ¬ x = nI k) → post (-1) g1) (hno : ∀ k, k < 256 → x = nI k → g1 (256 * 7 + k) = 0 → post (-1) g1)
    (hok : ∀ k, k < 256 → x = nI k → g1 (256 * 7 + k) ≠ 0 → post (nI (sn_cnt (upd g1 (256 * 7 + k) 0) 7)) (upd g1 (256 * 7 + k) 0)) : mX1_remove g1 x post := by
  unfold mX1_remove
  refine sn_sp_badKey (fun k hk e => ⟨fun z => absurd rfl z, fun _ => ?_⟩) (fun q => ⟨fun _ => hbad q, fun z => absurd z (by decide)⟩)
  rw [e, sn_1792, nI_clamp (by omega), sn_nar0]
  have hi : vp_in (nI (256 * 7 + k)) 2048 := vp_in_nI (by omega) (by omega)
  exact ⟨hi, fun q => ⟨hi, sn_sp_count (m := 7) (by omega) (hok k hk e q)⟩, fun q => hno k hk e q⟩
theorem sn_sp_mcommit2 {post : Int32 → (Nat → Int32) → (Nat → Int32) → (Nat → Int32) → Prop} (hno : (∀ s, s < 7 → g0 s ≠ 0) → post (-1) g0 g1 g2)
    (hok : ∀ s, s < 7 → g0 s = 0 → (∀ q, q < s → g0 q ≠ 0) → post (nI s) (upd g0 s 1) (sn_cp g1 7 s (vp_nar .boolean) 256) (sn_cp g2 7 s id 256)) : ∀ (i s : Nat), s + i = 7 → (∀ q, q < s → g0 q ≠ 0) → mX1_commit_2 (i + 1) g0 g1 g2 (nI s) post := by
  intro i
  induction i with
  | zero =>
    intro s hs hq
    obtain rfl : s = 7 := by omega
    unfold mX1_commit_2
    exact ⟨fun _ => hno hq, fun q => absurd (show (7 : Int32) ≤ nI 7 by decide) q⟩
  | succ i ih =>
    intro s hs hq
    unfold mX1_commit_2
    refine ⟨fun q => absurd q (nI_ge (a := s) (b := 7) (by omega) (by omega)), fun _ => ?_⟩
    rw [nI_clamp (n := s) (by omega), sn_p1, sn_nar1]
    refine ⟨vp_in_nI (by omega) (by omega), fun q => ih (s + 1) (by omega) (fun q2 hq2 => ?_), fun q => ⟨vp_in_nI (by omega) (by omega), ?_⟩⟩
    · rcases Nat.lt_or_ge q2 s with z | z
      · exact hq q2 z
      · rw [show q2 = s by omega]
        exact q
    · exact sn_sp_copy (f := 7) (by omega) (by omega) (by omega) (hok s (by omega) q hq)
theorem sn_sp_mrestore {x : Int32} {post : Int32 → (Nat → Int32) → (Nat → Int32) → Prop} (hno : (∀ s, s < 7 → x = nI s → g0 s = 0) → post (-1) g1 g2)
    (hok : ∀ s, s < 7 → x = nI s → g0 s ≠ 0 → post (nI (sn_cnt (sn_cp g1 s 7 (vp_nar .boolean) 256) 7)) (sn_cp g1 s 7 (vp_nar .boolean) 256) (sn_cp g2 s 7 id 256)) : mX1_restore g0 g1 g2 x post := by
  unfold mX1_restore
  refine sn_sp_free (fun s hs e hg => ⟨fun _ => ?_, fun z => absurd rfl z⟩) (fun q => ⟨fun z => absurd z (by decide), fun _ => hno q⟩)
  have ho := hok s hs e hg
  rw [e]
  exact sn_sp_copy (t := 7) (by omega) (by omega) (by omega) (sn_sp_count (m := 7) (by omega) ho)
theorem sn_sp_mdrop {x : Int32} {post : Int32 → (Nat → Int32) → Prop} (hno : (∀ s, s < 7 → x = nI s → g0 s = 0) → post (-1) g0) (hok : ∀ s, s < 7 → x = nI s → g0 s ≠ 0 → post 0 (upd g0 s 0)) : mX1_drop g0 x post := by
  unfold mX1_drop
  refine sn_sp_free (fun s hs e hg => ⟨fun _ => ?_, fun z => absurd rfl z⟩) (fun q => ⟨fun z => absurd z (by decide), fun _ => hno q⟩)
  have ho := hok s hs e hg
  rw [e, nI_clamp (by omega), sn_nar0]
  exact ⟨vp_in_nI (by omega) (by omega), ho⟩
end MO
end
section
/-! tree and reference side by side: what holds between two calls -/
def sn_Inv (c : Nat) (f0 f1 f2 f3 f4 f5 g0 g1 g2 : Nat → Int32) : Prop := (∃ lev stk, sn_WF lev (4 * c) f0 f1 f2 f4 stk 0) ∧ sn_R1 f3 g0 ∧ sn_01 g1 ∧ (∀ t, t < 8 → f3 t ≠ 0 → (∀ k, k < 256 → sn_sem f0 f1 3 (f4 t) k = sn_cM g1 g2 (sn_mt t) k) ∧ f5 t = nI (sn_cnt g1 (sn_mt t)) ∧ sn_cnt g1 (sn_mt t) ≤ 16) ∧ ∀ t, t < 8 → f3 t = 0 → f4 t = -1
theorem sn_mt0 : sn_mt 0 = 7 := rfl
theorem sn_mts (s : Nat) : sn_mt (s + 1) = s := by
  unfold sn_mt
  rw [if_neg (by omega)]
  omega
theorem sn_mt7 {t : Nat} (ht : t < 8) : sn_mt t = 7 ↔ t = 0 := by
  unfold sn_mt
  split
  · omega
  · omega
theorem sn_cnt_upd {g1 : Nat → Int32} {k : Nat} (hk : k < 256) (b : Int32) : sn_cnt (upd g1 (256 * 7 + k) b) 7 + (if g1 (256 * 7 + k) = 0 then 0 else 1) = sn_cnt g1 7 + (if b = 0 then 0 else 1) := by
  have z := fb_ct_upd (fun j => decide (¬ g1 (256 * 7 + j) = 0)) (decide (¬ b = 0)) hk
  have e : fb_ct (fun j => if j = k then decide (¬ b = 0) else decide (¬ g1 (256 * 7 + j) = 0)) 256 = sn_cnt (upd g1 (256 * 7 + k) b) 7 := by
    refine fb_ct_cong (fun j hj => ?_)
    by_cases q : j = k
    · rw [if_pos q, q, pk_us]
    · rw [if_neg q, pk_un (by omega)]
  rw [e] at z
  have e2 : (if decide (¬ g1 (256 * 7 + k) = 0) = true then 1 else 0) = (if g1 (256 * 7 + k) = 0 then 0 else 1 : Nat) := by
    by_cases q : g1 (256 * 7 + k) = 0 <;> simp [q]
  have e3 : (if decide (¬ b = 0) = true then 1 else 0) = (if b = 0 then 0 else 1 : Nat) := by
    by_cases q : b = 0 <;> simp [q]
  rw [e2, e3] at z
  exact z
theorem sn_cnt_ne {g1 : Nat → Int32} {k m : Nat} (hk : k < 256) (hm : m < 7) (b : Int32) : sn_cnt (upd g1 (256 * 7 + k) b) m = sn_cnt g1 m := by
  refine fb_ct_cong (fun j hj => ?_)
  rw [pk_un (by omega)]
theorem sn_cM_upd {g1 g2 : Nat → Int32} {k m k' : Nat} {v : Int32} (hk : k < 256) (hk' : k' < 256) (hm : m < 8) : sn_cM (upd g1 (256 * 7 + k) 1) (upd g2 (256 * 7 + k) v) m k' = if m = 7 ∧ k' = k then some v else sn_cM g1 g2 m k' := by
  unfold sn_cM
  by_cases q : m = 7 ∧ k' = k
  · rw [if_pos q, q.1, q.2, pk_us, pk_us, if_neg (by decide)]
  · rw [if_neg q, pk_un (by omega), pk_un (by omega)]
theorem sn_cM_del {g1 g2 : Nat → Int32} {k m k' : Nat} (hk : k < 256) (hk' : k' < 256) (hm : m < 8) : sn_cM (upd g1 (256 * 7 + k) 0) g2 m k' = if m = 7 ∧ k' = k then none else sn_cM g1 g2 m k' := by
  unfold sn_cM
  by_cases q : m = 7 ∧ k' = k
  · rw [if_pos q, q.1, q.2, pk_us, if_pos rfl]
  · rw [if_neg q, pk_un (by omega)]
theorem sn_cM_none {g1 g2 : Nat → Int32} {m k : Nat} : sn_cM g1 g2 m k = none ↔ g1 (256 * m + k) = 0 := by
  unfold sn_cM
  by_cases q : g1 (256 * m + k) = 0 <;> simp [q]
theorem sn_01_upd {g1 : Nat → Int32} (h : sn_01 g1) (i : Nat) {b : Int32} (hb : b = 0 ∨ b = 1) : sn_01 (upd g1 i b) := by
  intro j hj
  by_cases q : j = i
  · rw [q, pk_us]
    exact hb
  · rw [pk_un q]
    exact h j hj
theorem sn_Nx_cong {P Q : Nat → Bool} (h : ∀ k, k < 256 → P k = Q k) {fr y : Int32} (hy : sn_Nx P fr y) : sn_Nx Q fr y := by
  rcases hy with ⟨k, hk, e, h1, h2, h3⟩ | ⟨e, h3⟩
  · exact Or.inl ⟨k, hk, e, h1, by rw [← h k hk]; exact h2, fun j hj hf => by rw [← h j (by omega)]; exact h3 j hj hf⟩
  · exact Or.inr ⟨e, fun j hj hf => by rw [← h j hj]; exact h3 j hj hf⟩
section OPS
variable {c : Nat} {f0 f1 f2 f3 f4 f5 f6 f7 g0 g1 g2 : Nat → Int32}
theorem sn_Inv_up (I : sn_Inv c f0 f1 f2 f3 f4 f5 g0 g1 g2) : sn_Inv (c + 1) f0 f1 f2 f3 f4 f5 g0 g1 g2 := by
  obtain ⟨⟨lev, stk, F⟩, h⟩ := I
  exact ⟨⟨lev, stk, sn_WF_mono F (by omega)⟩, h⟩
theorem sn_op_get (I : sn_Inv c f0 f1 f2 f3 f4 f5 g0 g1 g2) {x y : Int32} {post : Int32 → Prop} (hp : ∀ rr, (∀ post' : Int32 → Prop, post' rr → mX1_get g0 g1 g2 x y post') → post rr) : mX0_get f0 f1 f3 f4 x y post := by
  obtain ⟨⟨lev, stk, F⟩, hR, h01, hM, hN⟩ := I
  refine sn_sp_get F (fun t k ht hk e => hp _ (fun post' hq => sn_sp_mget hR (fun t' k' ht' hk' e' => ?_) (fun hn => ?_))) (fun hn => hp _ (fun post' hq => sn_sp_mget hR (fun t k ht hk e => ?_) (fun _ => hq)))
  · have e1 := sn_Map_one ht ht'.2.1 ht'.1
    have e2 := sn_inj (by omega) (by omega) (e'.symm.trans e)
    rw [e1, e2, ← (hM t ht.1 ht.2.2).1 k hk]
    exact hq
  · rcases hn with hn | hn
    · exact absurd ht (hn t)
    · exact absurd e (hn k hk)
  · rcases hn with hn | hn
    · exact absurd ht (hn t)
    · exact absurd e (hn k hk)
theorem sn_op_has (I : sn_Inv c f0 f1 f2 f3 f4 f5 g0 g1 g2) {x y : Int32} {post : Int32 → Prop} (hp : ∀ rr, (∀ post' : Int32 → Prop, post' rr → mX1_has g0 g1 x y post') → post rr) : mX0_has f0 f1 f3 f4 x y post := by
  obtain ⟨⟨lev, stk, F⟩, hR, h01, hM, hN⟩ := I
  refine sn_sp_has F (fun t k ht hk e => hp _ (fun post' hq => sn_sp_mhas (g2 := g2) hR (fun t' k' ht' hk' e' => ?_) (fun t' ht' hn => absurd e (hn k hk)) (fun hn => absurd ht (hn t)))) (fun t ht hn => hp _ (fun post' hq => sn_sp_mhas (g2 := g2) hR (fun t' k' ht' hk' e' => absurd e' (hn k' hk')) (fun _ _ _ => hq) (fun hn' => absurd ht (hn' t)))) (fun hn => hp _ (fun post' hq => sn_sp_mhas (g2 := g2) hR (fun t k ht _ _ => absurd ht (hn t)) (fun t ht _ => absurd ht (hn t)) (fun _ => hq)))
  have e1 := sn_Map_one ht ht'.2.1 ht'.1
  have e2 := sn_inj (by omega) (by omega) (e'.symm.trans e)
  rw [e1, e2, ← (hM t ht.1 ht.2.2).1 k hk]
  exact hq
theorem sn_op_size (I : sn_Inv c f0 f1 f2 f3 f4 f5 g0 g1 g2) {x : Int32} {post : Int32 → Prop} (hp : ∀ rr, (∀ post' : Int32 → Prop, post' rr → mX1_size g0 g1 x post') → post rr) : mX0_size f3 f5 x post := by
  obtain ⟨⟨lev, stk, F⟩, hR, h01, hM, hN⟩ := I
  refine sn_sp_size (fun t ht => hp _ (fun post' hq => sn_sp_msize hR (fun t' ht' => ?_) (fun hn => absurd ht (hn t)))) (fun hn => hp _ (fun post' hq => sn_sp_msize hR (fun t ht => absurd ht (hn t)) (fun _ => hq)))
  have e1 := sn_Map_one ht ht'.2.1 ht'.1
  rw [e1, ← (hM t ht.1 ht.2.2).2.1]
  exact hq
theorem sn_op_next (I : sn_Inv c f0 f1 f2 f3 f4 f5 g0 g1 g2) {x y : Int32} {post : Int32 → Prop} (hp : ∀ rr, (∀ post' : Int32 → Prop, post' rr → mX1_next g0 g1 x y post') → post rr) : mX0_next f0 f1 f3 f4 x y post := by
  obtain ⟨⟨lev, stk, F⟩, hR, h01, hM, hN⟩ := I
  refine sn_sp_next F (fun t ht z hz => hp _ (fun post' hq => sn_sp_mnext (g2 := g2) hR (fun t' ht' z' hz' => ?_) (fun hn => absurd ht (hn t)))) (fun hn => hp _ (fun post' hq => sn_sp_mnext (g2 := g2) hR (fun t ht => absurd ht (hn t)) (fun _ => hq)))
  have e1 := sn_Map_one ht ht'.2.1 ht'.1
  rw [e1] at hz'
  have hz2 := sn_Nx_cong (Q := fun k => (sn_cM g1 g2 (sn_mt t) k).isSome) (fun k hk => by
    show (sn_sem f0 f1 3 (f4 t) k).isSome = _
    rw [(hM t ht.1 ht.2.2).1 k hk]) hz
  rw [sn_Nx_one hz' hz2]
  exact hq
theorem sn_dfc (hM : ∀ t, t < 8 → f3 t ≠ 0 → (∀ k, k < 256 → sn_sem f0 f1 3 (f4 t) k = sn_cM g1 g2 (sn_mt t) k) ∧ f5 t = nI (sn_cnt g1 (sn_mt t)) ∧ sn_cnt g1 (sn_mt t) ≤ 16) {x y : Int32} {a b : Nat} (ha : sn_Map f3 x a) (hb : sn_Map f3 y b) : ∀ k, k < 256 → sn_df (sn_sem f0 f1 3 (f4 a)) (sn_sem f0 f1 3 (f4 b)) k = sn_df (sn_cM g1 g2 (sn_mt a)) (sn_cM g1 g2 (sn_mt b)) k := by
  intro k hk
  unfold sn_df
  rw [(hM a ha.1 ha.2.2).1 k hk, (hM b hb.1 hb.2.2).1 k hk]
theorem sn_op_nc (I : sn_Inv c f0 f1 f2 f3 f4 f5 g0 g1 g2) {x y z : Int32} {post : Int32 → Prop} (hp : ∀ rr, (∀ post' : Int32 → Prop, post' rr → mX1_nextChange g0 g1 g2 x y z post') → post rr) : mX0_nextChange f0 f1 f3 f4 x y z post := by
  obtain ⟨⟨lev, stk, F⟩, hR, h01, hM, hN⟩ := I
  by_cases hx : ∃ a, sn_Map f3 x a
  · by_cases hy : ∃ b, sn_Map f3 y b
    · obtain ⟨a, ha⟩ := hx
      obtain ⟨b, hb⟩ := hy
      refine sn_sp_nc F ha hb (fun z hz => hp _ (fun post' hq => sn_sp_mnc hR h01 (fun a' b' ha' hb' z' hz' => ?_) (fun hn => ?_)))
      · rw [sn_Map_one ha ha'.2.1 ha'.1, sn_Map_one hb hb'.2.1 hb'.1] at hz'
        rw [sn_Nx_one hz' (sn_Nx_cong (sn_dfc hM ha hb) hz)]
        exact hq
      · rcases hn with hn | hn
        · exact absurd ha (hn a)
        · exact absurd hb (hn b)
    · have hn : ∀ t, ¬ sn_Map f3 y t := fun t ht => hy ⟨t, ht⟩
      exact sn_sp_nc0 (Or.inr hn) (hp _ (fun post' hq => sn_sp_mnc hR h01 (fun a b ha hb => absurd hb (hn b)) (fun _ => hq)))
  · have hn : ∀ t, ¬ sn_Map f3 x t := fun t ht => hx ⟨t, ht⟩
    exact sn_sp_nc0 (Or.inl hn) (hp _ (fun post' hq => sn_sp_mnc hR h01 (fun a b ha hb => absurd ha (hn a)) (fun _ => hq)))
theorem sn_op_ch (I : sn_Inv c f0 f1 f2 f3 f4 f5 g0 g1 g2) {x y : Int32} {post : Int32 → Prop} (hp : ∀ rr, (∀ post' : Int32 → Prop, post' rr → mX1_changes g0 g1 g2 x y post') → post rr) : mX0_changes f0 f1 f3 f4 x y post := by
  obtain ⟨⟨lev, stk, F⟩, hR, h01, hM, hN⟩ := I
  by_cases hx : ∃ a, sn_Map f3 x a
  · by_cases hy : ∃ b, sn_Map f3 y b
    · obtain ⟨a, ha⟩ := hx
      obtain ⟨b, hb⟩ := hy
      refine sn_sp_ch F ha hb (hp _ (fun post' hq => sn_sp_mch hR h01 (fun a' b' ha' hb' => ?_) (fun hn => ?_)))
      · rw [sn_Map_one ha ha'.2.1 ha'.1, sn_Map_one hb hb'.2.1 hb'.1, ← fb_ct_cong (sn_dfc hM ha hb)]
        exact hq
      · rcases hn with hn | hn
        · exact absurd ha (hn a)
        · exact absurd hb (hn b)
    · have hn : ∀ t, ¬ sn_Map f3 y t := fun t ht => hy ⟨t, ht⟩
      exact sn_sp_ch0 (Or.inr hn) (hp _ (fun post' hq => sn_sp_mch hR h01 (fun a b ha hb => absurd hb (hn b)) (fun _ => hq)))
  · have hn : ∀ t, ¬ sn_Map f3 x t := fun t ht => hx ⟨t, ht⟩
    exact sn_sp_ch0 (Or.inl hn) (hp _ (fun post' hq => sn_sp_mch hR h01 (fun a b ha hb => absurd ha (hn a)) (fun _ => hq)))
theorem sn_op_put (I : sn_Inv c f0 f1 f2 f3 f4 f5 g0 g1 g2) (hc : 4 * c + 4 ≤ 400) {x v : Int32} {post : Int32 → (Nat → Int32) → (Nat → Int32) → (Nat → Int32) → (Nat → Int32) → (Nat → Int32) → (Nat → Int32) → Prop} (hp : ∀ rr f0' f1' f2' f4' f5' f6', (∀ post' : Int32 → (Nat → Int32) → (Nat → Int32) → Prop, (∀ g1' g2', sn_Inv (c + 1) f0' f1' f2' f3 f4' f5' g0 g1' g2' → post' rr g1' g2') → mX1_put g1 g2 x v post') → post rr f0' f1' f2' f4' f5' f6') : mX0_put f0 f1 f2 f4 f5 f6 x v post := by
  obtain ⟨⟨lev, stk, F⟩, hR, h01, hM, hN⟩ := id I
  obtain ⟨m1, m2, m3⟩ := hM 0 (by omega) hR.1
  rw [sn_mt0] at m1 m2 m3
  have h16 : f5 0 < 16 ↔ sn_cnt g1 7 < 16 := by
    rw [m2]
    exact nI_ltI (b := 16) (by omega) (by omega)
  have hnone : ∀ k, k < 256 → (sn_sem f0 f1 3 (f4 0) k = none ↔ g1 (256 * 7 + k) = 0) := by
    intro k hk
    rw [m1 k hk]
    exact sn_cM_none
  have hone : ∀ {k k' : Nat}, k < 256 → k' < 256 → x = nI k → x = nI k' → k' = k := fun h1 h2 e e' => sn_inj (by omega) (by omega) (e'.symm.trans e)
  refine sn_sp_put F hc (fun hb => ?_) (fun k hk e hs hf => ?_) (fun k hk e hlt lev' w' h' u' r' p' F' hs1 hs2 hr => ?_)
  · exact hp _ _ _ _ _ _ _ (fun post' hq => sn_sp_mput (fun _ => hq g1 g2 (sn_Inv_up I)) (fun k hk e => absurd e (hb k hk)) (fun k hk e => absurd e (hb k hk)))
  · refine hp _ _ _ _ _ _ _ (fun post' hq => sn_sp_mput (fun hb => absurd e (hb k hk)) (fun _ _ _ _ _ => hq g1 g2 (sn_Inv_up I)) (fun k' hk' e' hz => ?_))
    rw [hone hk hk' e e'] at hz
    refine absurd ?_ (hz ((hnone k hk).mp hs))
    rw [h16] at hf
    omega
  · refine hp _ _ _ _ _ _ _ (fun post' hq => sn_sp_mput (fun hb => absurd e (hb k hk)) (fun k' hk' e' hz h2 => ?_) (fun k' hk' e' hz => ?_))
    · rw [hone hk hk' e e'] at hz
      have := h16.mp (hlt ((hnone k hk).mpr hz))
      omega
    · rw [hone hk hk' e e']
      have hcu := sn_cnt_upd (g1 := g1) hk 1
      rw [if_neg (show ¬ (1 : Int32) = 0 by decide)] at hcu
      have hval : f5 0 + (if sn_sem f0 f1 3 (f4 0) k = none then 1 else 0) = nI (sn_cnt (upd g1 (256 * 7 + k) 1) 7) ∧ sn_cnt (upd g1 (256 * 7 + k) 1) 7 ≤ 16 := by
        by_cases q : g1 (256 * 7 + k) = 0
        · rw [if_pos q] at hcu
          have := h16.mp (hlt ((hnone k hk).mpr q))
          rw [if_pos ((hnone k hk).mpr q), m2, nI_1]
          exact ⟨by rw [show sn_cnt (upd g1 (256 * 7 + k) 1) 7 = sn_cnt g1 7 + 1 by omega], by omega⟩
        · rw [if_neg q] at hcu
          rw [if_neg (fun z => q ((hnone k hk).mp z)), m2, show sn_cnt (upd g1 (256 * 7 + k) 1) 7 = sn_cnt g1 7 by omega]
          exact ⟨by grind, m3⟩
      rw [← hval.1]
      refine hq _ _ ⟨⟨lev', stk, F'⟩, hR, sn_01_upd h01 _ (Or.inr rfl), fun t ht ht3 => ?_, fun t ht ht3 => ?_⟩
      · have hmt := sn_mt_lt ht
        by_cases q : t = 0
        · subst q
          rw [sn_mt0, pk_us]
          refine ⟨fun k' hk' => ?_, hval.1, hval.2⟩
          rw [sn_cM_upd hk hk' (by omega)]
          by_cases q2 : k' = k
          · rw [if_pos ⟨rfl, q2⟩, q2]
            exact hs2
          · rw [if_neg (fun z => q2 z.2), hs1 0 (by omega) k' hk' (Or.inr q2)]
            exact m1 k' hk'
        · have hm7 : sn_mt t ≠ 7 := fun z => q ((sn_mt7 ht).mp z)
          obtain ⟨a1, a2, a3⟩ := hM t ht ht3
          rw [pk_un q, sn_cnt_ne hk (by omega)]
          refine ⟨fun k' hk' => ?_, a2, a3⟩
          rw [sn_cM_upd hk hk' hmt, if_neg (fun z => hm7 z.1), hs1 t ht k' hk' (Or.inl q)]
          exact a1 k' hk'
      · have q : t ≠ 0 := fun z => hR.1 (by rw [← z]; exact ht3)
        rw [hr t ht q]
        exact hN t ht ht3
theorem sn_op_remove (I : sn_Inv c f0 f1 f2 f3 f4 f5 g0 g1 g2) (hc : 4 * c + 4 ≤ 400) {x : Int32} {post : Int32 → (Nat → Int32) → (Nat → Int32) → (Nat → Int32) → (Nat → Int32) → (Nat → Int32) → (Nat → Int32) → Prop} (hp : ∀ rr f0' f1' f2' f4' f5' f6', (∀ post' : Int32 → (Nat → Int32) → Prop, (∀ g1', sn_Inv (c + 1) f0' f1' f2' f3 f4' f5' g0 g1' g2 → post' rr g1') → mX1_remove g1 x post') → post rr f0' f1' f2' f4' f5' f6') : mX0_remove f0 f1 f2 f4 f5 f6 x post := by
  obtain ⟨⟨lev, stk, F⟩, hR, h01, hM, hN⟩ := id I
  obtain ⟨m1, m2, m3⟩ := hM 0 (by omega) hR.1
  rw [sn_mt0] at m1 m2 m3
  have hnone : ∀ k, k < 256 → (sn_sem f0 f1 3 (f4 0) k = none ↔ g1 (256 * 7 + k) = 0) := by
    intro k hk
    rw [m1 k hk]
    exact sn_cM_none
  have hone : ∀ {k k' : Nat}, k < 256 → k' < 256 → x = nI k → x = nI k' → k' = k := fun h1 h2 e e' => sn_inj (by omega) (by omega) (e'.symm.trans e)
  refine sn_sp_remove F hc (fun hb => ?_) (fun k hk e hs => ?_) (fun k hk e hs lev' w' h' u' r' p' F' hs1 hs2 hr => ?_)
  · exact hp _ _ _ _ _ _ _ (fun post' hq => sn_sp_mremove (fun _ => hq g1 (sn_Inv_up I)) (fun k hk e => absurd e (hb k hk)) (fun k hk e => absurd e (hb k hk)))
  · refine hp _ _ _ _ _ _ _ (fun post' hq => sn_sp_mremove (fun hb => absurd e (hb k hk)) (fun _ _ _ _ => hq g1 (sn_Inv_up I)) (fun k' hk' e' hz => ?_))
    rw [hone hk hk' e e'] at hz
    exact absurd ((hnone k hk).mp hs) hz
  · refine hp _ _ _ _ _ _ _ (fun post' hq => sn_sp_mremove (fun hb => absurd e (hb k hk)) (fun k' hk' e' hz => ?_) (fun k' hk' e' hz => ?_))
    · rw [hone hk hk' e e'] at hz
      exact absurd ((hnone k hk).mpr hz) hs
    · rw [hone hk hk' e e'] at hz ⊢
      have hcu := sn_cnt_upd (g1 := g1) hk 0
      rw [if_neg hz, if_pos rfl] at hcu
      have hval : f5 0 - 1 = nI (sn_cnt (upd g1 (256 * 7 + k) 0) 7) := by
        rw [m2, show sn_cnt g1 7 = sn_cnt (upd g1 (256 * 7 + k) 0) 7 + 1 by omega]
        exact nI_pred _
      rw [← hval]
      refine hq _ ⟨⟨lev', stk, F'⟩, hR, sn_01_upd h01 _ (Or.inl rfl), fun t ht ht3 => ?_, fun t ht ht3 => ?_⟩
      · have hmt := sn_mt_lt ht
        by_cases q : t = 0
        · subst q
          rw [sn_mt0, pk_us]
          refine ⟨fun k' hk' => ?_, hval, by omega⟩
          rw [sn_cM_del hk hk' (by omega)]
          by_cases q2 : k' = k
          · rw [if_pos ⟨rfl, q2⟩, q2]
            exact hs2
          · rw [if_neg (fun z => q2 z.2), hs1 0 (by omega) k' hk' (Or.inr q2)]
            exact m1 k' hk'
        · have hm7 : sn_mt t ≠ 7 := fun z => q ((sn_mt7 ht).mp z)
          obtain ⟨a1, a2, a3⟩ := hM t ht ht3
          rw [pk_un q, sn_cnt_ne hk (by omega)]
          refine ⟨fun k' hk' => ?_, a2, a3⟩
          rw [sn_cM_del hk hk' hmt, if_neg (fun z => hm7 z.1), hs1 t ht k' hk' (Or.inl q)]
          exact a1 k' hk'
      · have q : t ≠ 0 := fun z => hR.1 (by rw [← z]; exact ht3)
        rw [hr t ht q]
        exact hN t ht ht3
theorem sn_op_commit (I : sn_Inv c f0 f1 f2 f3 f4 f5 g0 g1 g2) {post : Int32 → (Nat → Int32) → (Nat → Int32) → (Nat → Int32) → (Nat → Int32) → Prop} (hp : ∀ rr f2' f3' f4' f5', (∀ post' : Int32 → (Nat → Int32) → (Nat → Int32) → (Nat → Int32) → Prop, (∀ g0' g1' g2', sn_Inv (c + 1) f0 f1 f2' f3' f4' f5' g0' g1' g2' → post' rr g0' g1' g2') → mX1_commit g0 g1 g2 post') → post rr f2' f3' f4' f5') : mX0_commit f2 f3 f4 f5 post := by
  obtain ⟨⟨lev, stk, F⟩, hR, h01, hM, hN⟩ := id I
  refine ⟨8, sn_sp_commit2 F (fun hn => ?_) (fun s hs h0 hq u' F' => ?_) 7 0 (by omega) (fun q h => absurd h (by omega))⟩
  · refine hp _ _ _ _ _ (fun post' hq => ⟨8, sn_sp_mcommit2 (fun _ => hq _ _ _ (sn_Inv_up I)) (fun s hs h0 _ => ?_) 7 0 (by omega) (fun q h => absurd h (by omega))⟩)
    exact absurd ((hR.2 s hs).mpr h0) (hn s hs)
  · have hroot := hN (s + 1) (by omega) h0
    rw [hroot, if_pos (by decide)] at F'
    refine hp _ _ _ _ _ (fun post' hq' => ⟨8, sn_sp_mcommit2 (fun hn => ?_) (fun s' hs' h0' hq2 => ?_) 7 0 (by omega) (fun q h => absurd h (by omega))⟩)
    · exact absurd ((hR.2 s hs).mp h0) (hn s hs)
    · have es : s' = s := by
        rcases Nat.lt_trichotomy s' s with z | z | z
        · exact absurd ((hR.2 s' hs').mpr h0') (hq s' z)
        · exact z
        · exact absurd ((hR.2 s hs).mp h0) (hq2 s z)
      subst es
      refine hq' _ _ _ ⟨⟨lev, _, sn_WF_mono F' (by omega)⟩, ⟨by rw [pk_un (by omega)]; exact hR.1, fun q hq3 => ?_⟩, sn_cp_01 h01 (by omega), fun t ht ht3 => ?_, fun t ht ht3 => ?_⟩
      · by_cases z : q = s'
        · rw [z, pk_us, pk_us]
        · rw [pk_un (by omega), pk_un z]
          exact hR.2 q hq3
      · rw [sn_cp_cnt h01 (by omega)]
        by_cases z : t = s' + 1
        · subst z
          obtain ⟨a1, a2, a3⟩ := hM 0 (by omega) hR.1
          rw [sn_mt0] at a1 a2 a3
          rw [sn_mts, pk_us, pk_us, if_pos rfl]
          refine ⟨fun k hk => ?_, a2, a3⟩
          rw [sn_cp_cM h01 (by omega) hk, if_pos rfl]
          exact a1 k hk
        · rw [pk_un z] at ht3
          have hmt : sn_mt t ≠ s' := by
            unfold sn_mt
            split <;> omega
          obtain ⟨a1, a2, a3⟩ := hM t ht ht3
          rw [pk_un z, pk_un z, if_neg hmt]
          refine ⟨fun k hk => ?_, a2, a3⟩
          rw [sn_cp_cM h01 (by omega) hk, if_neg hmt]
          exact a1 k hk
      · by_cases z : t = s' + 1
        · rw [z, pk_us] at ht3
          exact absurd ht3 (by decide)
        · rw [pk_un z] at ht3 ⊢
          exact hN t ht ht3
theorem sn_op_restore (I : sn_Inv c f0 f1 f2 f3 f4 f5 g0 g1 g2) {x : Int32} {post : Int32 → (Nat → Int32) → (Nat → Int32) → (Nat → Int32) → (Nat → Int32) → Prop} (hp : ∀ rr f2' f4' f5' f7', (∀ post' : Int32 → (Nat → Int32) → (Nat → Int32) → Prop, (∀ g1' g2', sn_Inv (c + 1) f0 f1 f2' f3 f4' f5' g0 g1' g2' → post' rr g1' g2') → mX1_restore g0 g1 g2 x post') → post rr f2' f4' f5' f7') : mX0_restore f0 f1 f2 f3 f4 f5 f7 x post := by
  obtain ⟨⟨lev, stk, F⟩, hR, h01, hM, hN⟩ := id I
  refine sn_sp_restore F (fun hn => ?_) (fun s hs e h0 u' stk' F' => ?_)
  · refine hp _ _ _ _ _ (fun post' hq => sn_sp_mrestore (fun _ => hq _ _ (sn_Inv_up I)) (fun s hs e h0 => ?_))
    exact absurd ((hR.2 s hs).mp (hn s hs e)) h0
  · refine hp _ _ _ _ _ (fun post' hq => sn_sp_mrestore (fun hn => ?_) (fun s' hs' e' h0' => ?_))
    · exact absurd ((hR.2 s hs).mpr (hn s hs e)) h0
    · have es : s' = s := sn_inj (by omega) (by omega) (e'.symm.trans e)
      subst es
      obtain ⟨a1, a2, a3⟩ := hM (s' + 1) (by omega) h0
      rw [sn_mts] at a1 a2 a3
      have hcn : sn_cnt (sn_cp g1 s' 7 (vp_nar .boolean) 256) 7 = sn_cnt g1 s' := by
        rw [sn_cp_cnt h01 (by omega), if_pos rfl]
      rw [hcn, ← a2]
      refine hq _ _ ⟨⟨lev, stk', sn_WF_mono F' (by omega)⟩, hR, sn_cp_01 h01 (by omega), fun t ht ht3 => ?_, fun t ht ht3 => ?_⟩
      · by_cases z : t = 0
        · subst z
          rw [sn_mt0, pk_us, pk_us, hcn]
          refine ⟨fun k hk => ?_, a2, a3⟩
          rw [sn_cp_cM h01 (by omega) hk, if_pos rfl]
          exact a1 k hk
        · have hm7 : sn_mt t ≠ 7 := fun y => z ((sn_mt7 ht).mp y)
          obtain ⟨b1, b2, b3⟩ := hM t ht ht3
          rw [pk_un z, pk_un z, sn_cp_cnt h01 (by omega), if_neg hm7]
          refine ⟨fun k hk => ?_, b2, b3⟩
          rw [sn_cp_cM h01 (by omega) hk, if_neg hm7]
          exact b1 k hk
      · have q : t ≠ 0 := fun z => hR.1 (by rw [← z]; exact ht3)
        rw [pk_un q]
        exact hN t ht ht3
theorem sn_op_drop (I : sn_Inv c f0 f1 f2 f3 f4 f5 g0 g1 g2) {x : Int32} {post : Int32 → (Nat → Int32) → (Nat → Int32) → (Nat → Int32) → (Nat → Int32) → (Nat → Int32) → Prop} (hp : ∀ rr f2' f3' f4' f5' f7', (∀ post' : Int32 → (Nat → Int32) → Prop, (∀ g0', sn_Inv (c + 1) f0 f1 f2' f3' f4' f5' g0' g1 g2 → post' rr g0') → mX1_drop g0 x post') → post rr f2' f3' f4' f5' f7') : mX0_drop f0 f1 f2 f3 f4 f5 f7 x post := by
  obtain ⟨⟨lev, stk, F⟩, hR, h01, hM, hN⟩ := id I
  refine sn_sp_drop F (fun hn => ?_) (fun s hs e h0 u' stk' F' => ?_)
  · refine hp _ _ _ _ _ _ (fun post' hq => sn_sp_mdrop (fun _ => hq _ (sn_Inv_up I)) (fun s hs e h0 => ?_))
    exact absurd ((hR.2 s hs).mp (hn s hs e)) h0
  · refine hp _ _ _ _ _ _ (fun post' hq => sn_sp_mdrop (fun hn => ?_) (fun s' hs' e' h0' => ?_))
    · exact absurd ((hR.2 s hs).mpr (hn s hs e)) h0
    · have es : s' = s := sn_inj (by omega) (by omega) (e'.symm.trans e)
      subst es
      refine hq _ ⟨⟨lev, stk', sn_WF_mono F' (by omega)⟩, ⟨by rw [pk_un (by omega)]; exact hR.1, fun q hq3 => ?_⟩, h01, fun t ht ht3 => ?_, fun t ht ht3 => ?_⟩
      · by_cases z : q = s'
        · rw [z, pk_us, pk_us]
        · rw [pk_un (by omega), pk_un z]
          exact hR.2 q hq3
      · by_cases z : t = s' + 1
        · rw [z, pk_us] at ht3
          exact absurd rfl ht3
        · rw [pk_un z] at ht3
          rw [pk_un z, pk_un z]
          exact hM t ht ht3
      · by_cases z : t = s' + 1
        · rw [z, pk_us]
        · rw [pk_un z] at ht3 ⊢
          exact hN t ht ht3
end OPS
end
section
/-! the law's loop: answers agree, call after call -/
abbrev sn_z : Nat → Int32 := fun _ => 0
abbrev sn_t0 : Nat → Int32 := upd (fun _ => 0) (0 : Int32).toNatClampNeg (vp_nar .boolean (1 : Int32))
abbrev sn_u0 : Nat → Int32 := upd (fun _ => 0) (7 : Int32).toNatClampNeg (vp_nar .boolean (1 : Int32))
theorem sn_loop {L : Nat} (hL : L ≤ 256) (xs : Nat → Int32) : ∀ (n c : Nat), 65 ≤ c + n → c ≤ 64 → ∀ (f0 f1 f2 f3 f4 f5 f6 f7 g0 g1 g2 : Nat → Int32), sn_Inv c f0 f1 f2 f3 f4 f5 g0 g1 g2 → mLaw L xs n f0 f1 f2 f3 f4 f5 f6 f7 g0 g1 g2 (nI (4 * c)) := by
  intro n
  induction n with
  | zero =>
    intro c h1 h2
    omega
  | succ n ih =>
    intro c hc1 hc2 f0 f1 f2 f3 f4 f5 f6 f7 g0 g1 g2 I
    unfold mLaw
    refine ⟨fun _ => trivial, fun q => ?_⟩
    have h4 : 4 * c + 4 ≤ L := by
      have z := Int32.not_lt.mp q
      rw [Int32.le_iff_toInt_le, nI_toInt (by omega)] at z
      have e : (Int32.ofNat L - 4).toInt = (L : Int) - 4 := by
        have e1 : (Int32.ofNat L).toInt = (L : Int) := nI_toInt (n := L) (by omega)
        have e2 : (4 : Int32).toInt = 4 := by decide
        have := fb_subI (x := Int32.ofNat L) (y := 4) (by rw [e1, e2]; omega) (by rw [e1, e2]; omega)
        rw [this, e1, e2]
      rw [e] at z
      omega
    have a1 : nI (4 * c) + (1 : Int32) = nI (4 * c + 1) := nI_1 _
    have a2 : nI (4 * c) + (2 : Int32) = nI (4 * c + 2) := nI_add (4 * c) 2
    have a3 : nI (4 * c) + (3 : Int32) = nI (4 * c + 3) := nI_add (4 * c) 3
    have a4 : nI (4 * c) + (4 : Int32) = nI (4 * (c + 1)) := nI_add (4 * c) 4
    rw [a1, a2, a3, a4]
    have i0 : vp_in (nI (4 * c)) L := vp_in_nI (by omega) (by omega)
    have i1 : vp_in (nI (4 * c + 1)) L := vp_in_nI (by omega) (by omega)
    have i2 : vp_in (nI (4 * c + 2)) L := vp_in_nI (by omega) (by omega)
    have i3 : vp_in (nI (4 * c + 3)) L := vp_in_nI (by omega) (by omega)
    have go := ih (c + 1) (by omega) (by omega)
    have I1 := sn_Inv_up I
    refine ⟨i0, fun _ => ⟨i1, i2, ?_⟩, fun _ => ⟨i1, ?_⟩, fun _ => ?_, fun _ => ⟨i1, ?_⟩, fun _ => ⟨i1, ?_⟩, fun _ => ⟨i1, i2, ?_⟩, fun _ => ⟨i1, i2, ?_⟩, fun _ => ⟨i1, ?_⟩, fun _ => ⟨i1, i2, ?_⟩, fun _ => ⟨i1, i2, i3, ?_⟩, fun _ => ⟨i1, i2, ?_⟩, fun _ _ _ _ _ _ _ _ _ _ _ => go _ _ _ _ _ _ _ _ _ _ _ I1⟩
    · exact sn_op_put I (by omega) (fun rr b0 b1 b2 b4 b5 b6 hM => ⟨i1, i2, hM _ (fun d1 d2 I' => ⟨fun _ => go _ _ _ _ _ _ _ _ _ _ _ I', fun z => absurd rfl z⟩)⟩)
    · exact sn_op_remove I (by omega) (fun rr b0 b1 b2 b4 b5 b6 hM => ⟨i1, hM _ (fun d1 I' => ⟨fun _ => go _ _ _ _ _ _ _ _ _ _ _ I', fun z => absurd rfl z⟩)⟩)
    · exact sn_op_commit I (fun rr b2 b3 b4 b5 hM => hM _ (fun d0 d1 d2 I' => ⟨fun _ => go _ _ _ _ _ _ _ _ _ _ _ I', fun z => absurd rfl z⟩))
    · exact sn_op_restore I (fun rr b2 b4 b5 b7 hM => ⟨i1, hM _ (fun d1 d2 I' => ⟨fun _ => go _ _ _ _ _ _ _ _ _ _ _ I', fun z => absurd rfl z⟩)⟩)
    · exact sn_op_drop I (fun rr b2 b3 b4 b5 b7 hM => ⟨i1, hM _ (fun d0 I' => ⟨fun _ => go _ _ _ _ _ _ _ _ _ _ _ I', fun z => absurd rfl z⟩)⟩)
    · exact sn_op_get I (fun rr hM => ⟨i1, i2, hM _ ⟨fun _ => go _ _ _ _ _ _ _ _ _ _ _ I1, fun z => absurd rfl z⟩⟩)
    · exact sn_op_has I (fun rr hM => ⟨i1, i2, hM _ ⟨fun _ => go _ _ _ _ _ _ _ _ _ _ _ I1, fun z => absurd rfl z⟩⟩)
    · exact sn_op_size I (fun rr hM => ⟨i1, hM _ ⟨fun _ => go _ _ _ _ _ _ _ _ _ _ _ I1, fun z => absurd rfl z⟩⟩)
    · exact sn_op_next I (fun rr hM => ⟨i1, i2, hM _ ⟨fun _ => go _ _ _ _ _ _ _ _ _ _ _ I1, fun z => absurd rfl z⟩⟩)
    · exact sn_op_nc I (fun rr hM => ⟨i1, i2, i3, hM _ ⟨fun _ => go _ _ _ _ _ _ _ _ _ _ _ I1, fun z => absurd rfl z⟩⟩)
    · exact sn_op_ch I (fun rr hM => ⟨i1, i2, hM _ ⟨fun _ => go _ _ _ _ _ _ _ _ _ _ _ I1, fun z => absurd rfl z⟩⟩)
theorem sn_Inv_0 {f4 : Nat → Int32} (h4 : ∀ i : Nat, i < 8 → f4 i = -1) : sn_Inv 0 sn_z sn_z sn_z sn_t0 f4 sn_z sn_u0 sn_z sn_z := by
  have e7 : (7 : Int32).toNatClampNeg = 7 := by decide
  have ht0 : sn_t0 0 = 1 := by
    show upd (fun _ => 0) (0 : Int32).toNatClampNeg (vp_nar .boolean (1 : Int32)) 0 = 1
    rw [sn_c0, sn_nar1, pk_us]
  have hts : ∀ s, sn_t0 (s + 1) = 0 := by
    intro s
    show upd (fun _ => 0) (0 : Int32).toNatClampNeg (vp_nar .boolean (1 : Int32)) (s + 1) = 0
    rw [sn_c0, pk_un (by omega)]
  have hu : ∀ s, s < 7 → sn_u0 s = 0 := by
    intro s hs
    show upd (fun _ => 0) (7 : Int32).toNatClampNeg (vp_nar .boolean (1 : Int32)) s = 0
    rw [e7, pk_un (by omega)]
  have hcnt : sn_cnt sn_z 7 = 0 := fb_ct_zero.mpr (fun k hk => by simp)
  refine ⟨⟨fun _ => 0, sn_z, fun n hn h => absurd rfl h, fun t ht => Or.inl (h4 t ht), fun n hn => ?_, fun _ _ _ => rfl, by omega⟩, ⟨by rw [ht0]; decide, fun s hs => ?_⟩, fun i hi => Or.inl rfl, fun t ht ht3 => ?_, fun t ht ht3 => h4 t ht⟩
  · rw [sn_ct_0 (E := sn_En sn_z sn_z f4 (fun _ => 0)) (fun i hi => ?_), show sn_ct sn_z 0 (nI n) = 0 from rfl]
    · rfl
    · unfold sn_En
      by_cases q : i < 8
      · rw [if_pos q, h4 i q]
        exact sn_m1ne (by omega)
      · rw [if_neg q, if_neg (fun z => z.1 rfl)]
        exact sn_m1ne (by omega)
  · rw [hts s, hu s hs]
  · have e : t = 0 := by
      rcases Nat.eq_zero_or_pos t with z | z
      · exact z
      · obtain ⟨s, rfl⟩ : ∃ s, t = s + 1 := ⟨t - 1, by omega⟩
        exact absurd (hts s) ht3
    subst e
    rw [sn_mt0, hcnt]
    refine ⟨fun k hk => ?_, rfl, by omega⟩
    rw [sn_sem_neg sn_z sn_z 3 k (by rw [h4 0 (by omega)]; decide), sn_cM_none.mpr rfl]
theorem sn_pure {L : Nat} (hL : L ≤ 256) (xs f4 : Nat → Int32) (h4 : ∀ i : Nat, i < 8 → f4 i = -1) : ∃ n, mLaw L xs n sn_z sn_z sn_z sn_t0 f4 sn_z sn_z sn_z sn_u0 sn_z sn_z 0 := ⟨65, sn_loop hL xs 65 0 (by omega) (by omega) _ _ _ _ _ _ _ _ _ _ _ (sn_Inv_0 h4)⟩
end
section
/-! the law's entry: both objects made, then its loop -/
set_option maxHeartbeats 4000000 in
set_option maxRecDepth 100000 in
/-- YOUR PART: from the entry, for every script of at most 256 ints, the law comes to its end with true -/
theorem whole_start {p : Program} {e : Env} {s : State} {m : MethodId} {below : List Frame} {meth : Method} {c : Code} (l : Launch) {b L : Nat} {xs : Nat → Int32} (hL : L ≤ 256) (C0 : lw_At p s m meth c b L xs) : W p l e room_1 s m #[Value.ref b] below meth c s.heap [] 0 0 (lw_Z below #[Value.ref b] s) (entryFrame m ([Value.ref b] : List Value).toArray 4) := by
  obtain ⟨hx, hb, hr, hml, hown, hts, hX, hbl, hlocks, hgv⟩ := id C0
  have hta : ∀ w ∈ lw_all, w.before #[Value.ref b] s = true := fun w h => hts w (lw_all_tbl h)
  have hA : ∀ q : Nat, s.heap.size ≤ q → (fun q : Nat => s.heap.size ≤ q) q := fun _ h => h
  obtain ⟨c0, iS0, hKn0⟩ := u_known (C := RX0) (T := TX0) (N := 8) (n := 8) hts (fun w h => lw_all_tbl (in_X0 w h)) (hts _ (lw_all_tbl q22))
  obtain ⟨c1, iS1, hKn1⟩ := u_known (C := RX1) (T := TX1) (N := 3) (n := 3) hts (fun w h => lw_all_tbl (in_X1 w h)) (hts _ (lw_all_tbl q160))
  obtain ⟨dC, dI, hKc⟩ : ∃ (dC : Nat → ClassId) (dI : Nat → Nat → Nat), ∀ (k : Nat) (q : vw_C), sn_cl[k]? = some q → u_Kn s q.1 q.2.1 q.2.2 (dC k) (dI k) := by
    refine ⟨fun k => if k = 0 then c0 else c1, fun k => if k = 0 then iS0 else iS1, ?_⟩
    intro k q hq
    match k, hq with
    | 0, hq => cases hq; exact hKn0
    | 1, hq => cases hq; exact hKn1
    | k + 2, hq => simp [sn_cl] at hq
  have hS : va_S (fun q : Nat => s.heap.size ≤ q) s.heap s.heap [] := va_S.rf
  have hK : va_K (dC, dI) sn_cl [] s := ⟨hKc, fun k q h => by simp at h⟩
  have hP : va_P (dC, dI) sn_cl [] s.heap := fun k q h => by simp at h
  have hD : va_D (fun q : Nat => s.heap.size ≤ q) [] := ⟨fun i j p q h => by simp at h, fun k q h => by simp at h⟩
  have hl := lv_entry ([.ref b]) (n := 4) (Nat.le_of_ble_eq_true rfl)
  rw [lg_entry_eq]
  generalize (lg_sl ([.ref b]) ++ List.replicate (4 - (lg_sl ([.ref b])).length) Slot.unset).toArray = ls at hl ⊢
  have hl : lv_has ls 4 [(0, .ref b)] := hl
  refine va_new (ci := 0) (fs := [.null, .null, .null, .null, .null, .null, .null, .null]) (C := RX0) (T := TX0) (N := 8) hx hb hta in_X0 tyX0 tyX0_ok hown (hta _ q21) (hta _ q22) (hta _ q19) hK hP hD hS hA rfl (fun j hj => by rcases (show j = 0 ∨ j = 1 ∨ j = 2 ∨ j = 3 ∨ j = 4 ∨ j = 5 ∨ j = 6 ∨ j = 7 by omega) with rfl | rfl | rfl | rfl | rfl | rfl | rfl | rfl <;> rfl) (Nat.le_of_ble_eq_true rfl) (Nat.le_of_ble_eq_true rfl) dL_law_0 (fun h0 H hP hD hS => ?_)
  have hP : va_P (dC, dI) sn_cl [(h0, .inr (0, [.null, .null, .null, .null, .null, .null, .null, .null]))] H := hP
  have hD : va_D (fun q : Nat => s.heap.size ≤ q) [(h0, .inr (0, [.null, .null, .null, .null, .null, .null, .null, .null]))] := hD
  refine W.widen (k := 1) (n := 8) (by omega) (by omega) ?_
  refine lv_dup hx hb dL_law_3 rfl ?_
  have hFc := sn_A1 hD hS hA
  refine va_callv (va_runI (As := []) (rest := [.ref h0]) ⟨hx, hb, hml, hown, hta⟩ (kX0_init l dC dI h0 H.size) (cwI 0 hta (lw_meth q25) rfl rfl rfl (hta _ q19) (hta _ q23) (hta _ q24) rfl (by decide +kernel) ⟨Nat.le_of_ble_eq_true rfl, Nat.le_of_ble_eq_true rfl⟩) ⟨sn_fb, fun U hU hW => ⟨rfl, by rw [hU], by rw [hU]; exact hP, va_K.moved hW.alike hK, hD.weaken (fun _ _ _ _ => trivial)⟩⟩ rfl rfl hl.1 rfl (lv_room (Nat.le_of_ble_eq_true rfl)) dL_law_4 ⟨Nat.le_of_ble_eq_true rfl, Nat.le_of_ble_eq_true rfl⟩) hS (fun q _ h => hFc q h) hFc (fun u t H1 locs ht hvm hw hB hz1 hk1 hS => ?_)
  obtain ⟨ad, cs, f4⟩ := u
  obtain ⟨hP1, hK1, hD1⟩ := hB
  rw [ht] at hP1
  have hK := va_K.moved hvm.symm hK1
  have hP : va_P (dC, dI) sn_cl (sn_pwX0 h0 ad cs sn_z sn_z sn_z sn_t0 f4 sn_z sn_z sn_z) H1 := hP1
  have hD : va_D (fun q : Nat => s.heap.size ≤ q) (sn_pwX0 h0 ad cs sn_z sn_z sn_z sn_t0 f4 sn_z sn_z sn_z) := hD1.weaken (fun k q _ h => hFc q.1 h)
  have hK : va_K (dC, dI) sn_cl (sn_tyX0 cs) s := hK
  generalize H1 = H at hP hS ⊢
  refine W.widen (k := 9) (n := 2452) (by omega) (by omega) ?_
  refine lv_astore_n (lv' := [(1, .ref h0), (0, .ref b)]) hx hb dL_law_7 rfl hl (by decide) rfl (fun ls hl => ?_)
  refine va_new (ci := 1) (fs := [.null, .null, .null]) (C := RX1) (T := TX1) (N := 3) hx hb hta in_X1 tyX1 tyX1_ok hown (hta _ q159) (hta _ q160) (hta _ q20) hK hP hD hS hA rfl (fun j hj => by rcases (show j = 0 ∨ j = 1 ∨ j = 2 by omega) with rfl | rfl | rfl <;> rfl) (Nat.le_of_ble_eq_true rfl) (Nat.le_of_ble_eq_true rfl) dL_law_8 (fun h1 H hP hD hS => ?_)
  refine W.widen (k := 10) (n := 2455) (by omega) (by omega) ?_
  refine lv_dup hx hb dL_law_11 rfl ?_
  have hPc := hP.sub (ws' := [(h1, .inr (1, [.null, .null, .null]))]) [9] rfl
  have hDc := hD.sub (ws' := [(h1, .inr (1, [.null, .null, .null]))]) [9] (by decide) rfl
  have hKc := hK.sub (tys' := []) [] rfl
  have hFc := va_free (wc := [(h1, .inr (1, [.null, .null, .null]))]) hD hS hA [9] rfl
  refine va_callv (va_runI (As := []) (rest := [.ref h1]) ⟨hx, hb, hml, hown, hta⟩ (kX1_init l dC dI h1 H.size) (cwI 0 hta (lw_meth q163) rfl rfl rfl (hta _ q20) (hta _ q161) (hta _ q162) rfl (by decide +kernel) ⟨Nat.le_of_ble_eq_true rfl, Nat.le_of_ble_eq_true rfl⟩) ⟨sn_fb, fun U hU hW => ⟨rfl, by rw [hU], by rw [hU]; exact hPc, va_K.moved hW.alike hKc, hDc.weaken (fun _ _ _ _ => trivial)⟩⟩ rfl rfl hl.1 rfl (lv_room (Nat.le_of_ble_eq_true rfl)) dL_law_12 ⟨Nat.le_of_ble_eq_true rfl, Nat.le_of_ble_eq_true rfl⟩) hS (fun q _ h => hFc q h) hFc (fun u t H1 locs ht hvm hw2 hB hz1 hk1 hS => ?_)
  obtain ⟨ad1, cs1⟩ := u
  obtain ⟨hP1, hK1, hD1⟩ := hB
  rw [ht] at hP1
  have hK1 := va_K.moved hvm.symm hK1
  obtain ⟨hP, hD⟩ := va_join (wr := sn_pwX0 h0 ad cs sn_z sn_z sn_z sn_t0 f4 sn_z sn_z sn_z) (w1 := sn_pwX1 h1 ad1 cs1 sn_u0 sn_z sn_z) hP hD [9] [0, 1, 2, 3, 4, 5, 6, 7, 8] rfl rfl (by decide) (by decide) hk1 hFc hP1 hD1
  have hK : va_K (dC, dI) sn_cl (sn_tyX0 cs ++ sn_tyX1 cs1) s := hK.app hK1
  generalize H1 = H at hP hS ⊢
  refine W.widen (k := 13) (n := 6559) (by omega) (by omega) ?_
  refine lv_astore_n (lv' := [(2, .ref h1), (1, .ref h0), (0, .ref b)]) hx hb dL_law_15 rfl hl (by decide) rfl (fun ls hl => ?_)
  refine lv_iconst (v := (0 : Int32)) hx hb dL_law_16 (by decide) ?_
  refine lv_istore_n (lv' := [(3, .int (0 : Int32)), (2, .ref h1), (1, .ref h0), (0, .ref b)]) hx hb dL_law_17 rfl hl (by decide) rfl (fun ls hl => ?_)
  obtain ⟨n, hm⟩ := sn_pure hL xs f4 hw
  exact wLaw C0 hK n _ _ _ _ _ _ _ _ _ _ _ _ hm H locs hP hD hS ls (lv_sub hl [3, 2, 1, 0] rfl)
end
section
set_option maxHeartbeats 4000000 in
theorem lw_walk (l : Launch) (b : Addr) (xs : List Int32) : MetFree l x (headSpec (Jvm.Cond.code x code maxLocals ret :: tables_1) room_1) (lw_P b xs) (fun _ _ _ _ _ => True) lw_Q := by
  refine MetFree.of_bodyS (code := code) (maxLocals := maxLocals) (ret := ret) (by decide) ?_ ?_
  · intro args s m h hn
    obtain ⟨meth, c, h1, h2, h3, h4, h5, h6, -, -⟩ := Cond.code_spec hn (atoms_spec (ws := Jvm.Cond.code x code maxLocals ret :: tables_1) h _ List.mem_cons_self)
    exact ⟨meth, c, h1, h2, h3, h4, h5, h6⟩
  · intro p e s m args below meth c s₁ B hml0 hP _
    obtain ⟨rfl, hx, hbd, hgv⟩ := hP
    obtain ⟨scr, harrAt, hlist, hof, hsmall⟩ := hx
    obtain ⟨hcb, hkn, -, -⟩ := State.arrayAt?_spec harrAt
    have hown : s.vm.findClass R_law = some m.cls := findClass_of_methodNamed B.named
    have hts0 : ∀ c ∈ (Jvm.Cond.code x code maxLocals ret :: tables_1), c.before #[Value.ref b] s = true := atoms_spec (ws := Jvm.Cond.code x code maxLocals ret :: tables_1) B.pre
    have hts : ∀ w ∈ lw_tbl, w.before #[Value.ref b] s = true := k2_hts_sels lw_privs (fun w hw => hts0 w (List.mem_cons_of_mem _ hw)) lw_privs_ok
    have hml : c.maxLocals = 4 := B.maxLocals_eq (hts0 _ List.mem_cons_self)
    have X₀ : Stand p l e room_1 s m #[Value.ref b] below meth c s₁ [] 0 0 := Stand.of_body B
    have hh0 : s₁.heap = s.heap := by rw [B.state]; rfl
    have hsz : scr.slots.size = xs.length := by rw [← Array.length_toList, hlist, List.length_map]
    have hval : ∀ j : Nat, j < xs.length → scr.slots[j]? = some (.int (xs.getD j 0)) := fun j hj => by
      rw [← Array.getElem?_toList, hlist]
      simp [hj]
    have hbl : b < s.heap.size := (Array.getElem?_eq_some_iff.mp hcb).1
    have hX : va_X b xs.length (fun j => xs.getD j 0) s s.heap := ⟨scr, hcb, hof, hkn, hsz, hval⟩
    have K : W p l e room_1 s m #[Value.ref b] below meth c s₁.heap [] 0 0 (lw_Z below #[Value.ref b] s) (entryFrame m ([Value.ref b] : List Value).toArray 4) := by
      rw [hh0]
      exact whole_start l hbd ⟨B.exec, B.bytes, B.returns, hml, hown, hts, hX, hbl, B.notSynchronized, hgv⟩
    obtain ⟨t, a1, o, b1, b2, b3⟩ := K s₁ rfl X₀
    exact ⟨t, o, a1, b1, b2, b3⟩
theorem lw_pre_spec {args : Array Value} {s : State} (h : (Jvm.Cond.and given_1 narrow_1).before args s = true) (hr : rest_1_c.before args s = true) : ∃ (b : Addr) (xs : List Int32), lw_P b xs args s := by
  have hs := flat_of_before _ h
  have hq := flat_of_before _ hr
  have hc : (Cond.count 1).before args s = true := hs _ (by decide +kernel)
  have harr : (Cond.arrayOf (.arg 0) .int).before args s = true := hs _ (by decide +kernel)
  have hle : (Cond.le (.length (.arg 0)) (.int 256)).before args s = true := hs _ (by decide +kernel)
  have hlen : (Cond.isInt (.length (.arg 0))).before args s = true := hq _ (by decide +kernel)
  have hall : (Cond.all (.arg 0) (.isInt (.elem (.arg 0) (.index 0)))).before args s = true := hq _ (by decide +kernel)
  obtain ⟨b, xs, hb, hx⟩ := State.ints_of_pre rfl harr hlen hall
  have hsm : xs.length < 2 ^ 31 := hx.choose_spec.2.2.2
  have hev : (Term.length (.arg 0)).eval args s none [] s = some (.int xs.length.toInt32) := hx.length_eval hb
  have hv := Cond.le_ints hev (show (Term.int 256).eval args s none [] s = some (.int 256) from rfl)
  have hd : xs.length.toInt32 ≤ 256 := by
    simpa [Cond.before, Cond.holds, hv] using hle
  have hN : xs.length ≤ 256 := (Int32.ofNat_le_ofNat hsm (by decide)).mp (show Int32.ofNat xs.length ≤ Int32.ofNat 256 from hd)
  exact ⟨b, xs, Cond.one_arg hc (show args[0]? = some (.ref b) from hb), hx, hN, h⟩
theorem lw_comes (l : Launch) : Comes l x (Jvm.Cond.code x code maxLocals ret :: tables_1) room_1 (fun tb e args s => Calls_1 tb e args s ∧ rest_1 tb e args s ∧ Pre_1 tb e args s)
    (fun _ _ args s o t => lw_Q args s o t) := by
  intro p e ha hc hk s m args below hf hfit hheap happ hpre
  obtain ⟨b, xs, hP⟩ := lw_pre_spec hpre.2.2 hpre.2.1
  obtain ⟨k, o, h1, h2, h3, hQ⟩ := lw_walk l b xs p e ha hc hk s m args below hf ((Spec.applies_iff_loose hf).mp happ).1 hP trivial
  exact ⟨k, o, h1, h2, h3, hQ⟩
theorem lw_frame {s t : State} {o : Outcome} {args : Array Value} (h : Framed s o t [] 600000 7290000) :
    Framed s o t (fieldLocs frame_1_writes args s ++ arrayLocs frame_1_arrays args s ++ staticLocs frame_1_statics s) 600000 7290000 := h
theorem lw_limb (L : Cond) (hL : ∀ (args : Array Value) (s t : State), L.after args s (.returned (some (.int 1))) t = true) :
    ArmFor flags0 classFile x code maxLocals ret World_1 tables_1 room_1 Calls_1 rest_1 Pre_1
      (fun tb e a s o t => postC L tb e a s o t ∧ Framed s o t (fieldLocs frame_1_writes a s ++ arrayLocs frame_1_arrays a s ++ staticLocs frame_1_statics s) 600000 7290000) := by
  intro l _ _ _ p e ha hc hk s m args below hf hfit hheap happ hpre
  obtain ⟨k, o, h1, h2, h3, rfl, hF⟩ := lw_comes l p e ha hc hk s m args below hf hfit hheap happ hpre
  exact ⟨k, _, h1, h2, h3, hL args s _, lw_frame hF⟩
theorem i_vc : Claimed_1_1 ∧ Claimed_1_2 := ⟨lw_limb limb_1_1 (fun args s t => by simp [limb_1_1, Cond.after, Cond.holds, Cond.value]), lw_limb limb_1_2 (fun args s t => Cond.after_iff.mpr (by
  first | (rw [show limb_1_2 = Cond.eq .result (.int 1) from rfl, Cond.eq_ints (x := 1) (y := 1) rfl rfl]; simp; done) | (simp [limb_1_2, Cond.value, Term.eval]; done)))⟩
end
