section
-- ===== PART A: goes FIRST, ahead of the names: the tables' words, and 'selects' of the private methods out of them =====
/-- a private method of a class that the tables say can be made, by its rows of tables_1 -/
def lw_okq (q : MethodName × Nat) : Prop := (q.1.cls ≠ "java/lang/invoke/MethodHandle" ∧ q.1.cls ≠ "java/lang/invoke/VarHandle") ∧ Cond.instantiable q.1.cls q.2 ∈ tables_1 ∧ Cond.privateMethod q.1 ∈ tables_1 ∧ Cond.instanceMethod q.1 ∈ tables_1
set_option maxRecDepth 100000
theorem lw_t1 {w : Cond} (h : w ∈ tables_1_1) : w ∈ tables_1 := List.mem_append_left _ h
theorem lw_t2 {w : Cond} (h : w ∈ tables_1_2) : w ∈ tables_1 := List.mem_append_right _ h
theorem lw_p0 : lw_okq (⟨"HaplotypeRows", "noRow", "(I)Z"⟩, 7) := ⟨⟨by decide +kernel, by decide +kernel⟩, lw_t1 (List.mem_of_getElem? (i := 4) rfl), lw_t1 (List.mem_of_getElem? (i := 47) rfl), lw_t1 (List.mem_of_getElem? (i := 48) rfl)⟩
theorem lw_p1 : lw_okq (⟨"HaplotypeRows", "at", "(II)I"⟩, 7) := ⟨⟨by decide +kernel, by decide +kernel⟩, lw_t1 (List.mem_of_getElem? (i := 4) rfl), lw_t1 (List.mem_of_getElem? (i := 51) rfl), lw_t1 (List.mem_of_getElem? (i := 52) rfl)⟩
theorem lw_p2 : lw_okq (⟨"HaplotypeRows", "noPlace", "(II)Z"⟩, 7) := ⟨⟨by decide +kernel, by decide +kernel⟩, lw_t1 (List.mem_of_getElem? (i := 4) rfl), lw_t1 (List.mem_of_getElem? (i := 63) rfl), lw_t1 (List.mem_of_getElem? (i := 64) rfl)⟩
theorem lw_p3 : lw_okq (⟨"HaplotypeRows", "build", "()V"⟩, 7) := ⟨⟨by decide +kernel, by decide +kernel⟩, lw_t1 (List.mem_of_getElem? (i := 4) rfl), lw_t1 (List.mem_of_getElem? (i := 67) rfl), lw_t1 (List.mem_of_getElem? (i := 68) rfl)⟩
theorem lw_p4 : lw_okq (⟨"HaplotypeRows", "part", "(I)V"⟩, 7) := ⟨⟨by decide +kernel, by decide +kernel⟩, lw_t1 (List.mem_of_getElem? (i := 4) rfl), lw_t1 (List.mem_of_getElem? (i := 71) rfl), lw_t1 (List.mem_of_getElem? (i := 72) rfl)⟩
theorem lw_p5 : lw_okq (⟨"HaplotypeRows", "endingAt", "(II)I"⟩, 7) := ⟨⟨by decide +kernel, by decide +kernel⟩, lw_t1 (List.mem_of_getElem? (i := 4) rfl), lw_t1 (List.mem_of_getElem? (i := 83) rfl), lw_t1 (List.mem_of_getElem? (i := 84) rfl)⟩
theorem lw_p6 : lw_okq (⟨"HaplotypeRows", "parts", "(III)Z"⟩, 7) := ⟨⟨by decide +kernel, by decide +kernel⟩, lw_t1 (List.mem_of_getElem? (i := 4) rfl), lw_t1 (List.mem_of_getElem? (i := 87) rfl), lw_t1 (List.mem_of_getElem? (i := 88) rfl)⟩
theorem lw_p7 : lw_okq (⟨"HaplotypeRows", "agreeSince", "(III)I"⟩, 7) := ⟨⟨by decide +kernel, by decide +kernel⟩, lw_t1 (List.mem_of_getElem? (i := 4) rfl), lw_t1 (List.mem_of_getElem? (i := 95) rfl), lw_t1 (List.mem_of_getElem? (i := 96) rfl)⟩
theorem lw_p8 : lw_okq (⟨"HaplotypeRows", "placeOf", "(II)I"⟩, 7) := ⟨⟨by decide +kernel, by decide +kernel⟩, lw_t1 (List.mem_of_getElem? (i := 4) rfl), lw_t1 (List.mem_of_getElem? (i := 99) rfl), lw_t1 (List.mem_of_getElem? (i := 100) rfl)⟩
theorem lw_p9 : lw_okq (⟨"HaplotypeRows", "winsBefore", "(II)I"⟩, 7) := ⟨⟨by decide +kernel, by decide +kernel⟩, lw_t1 (List.mem_of_getElem? (i := 4) rfl), lw_t1 (List.mem_of_getElem? (i := 107) rfl), lw_t1 (List.mem_of_getElem? (i := 108) rfl)⟩
theorem lw_p10 : lw_okq (⟨"HaplotypeRows", "bestSince", "(II)I"⟩, 7) := ⟨⟨by decide +kernel, by decide +kernel⟩, lw_t1 (List.mem_of_getElem? (i := 4) rfl), lw_t1 (List.mem_of_getElem? (i := 111) rfl), lw_t1 (List.mem_of_getElem? (i := 112) rfl)⟩
theorem lw_p11 : lw_okq (⟨"HaplotypeRows", "isBefore", "(III)Z"⟩, 7) := ⟨⟨by decide +kernel, by decide +kernel⟩, lw_t1 (List.mem_of_getElem? (i := 4) rfl), lw_t1 (List.mem_of_getElem? (i := 131) rfl), lw_t1 (List.mem_of_getElem? (i := 132) rfl)⟩
theorem lw_p12 : lw_okq (⟨"HaplotypeRows", "sameBack", "(III)I"⟩, 7) := ⟨⟨by decide +kernel, by decide +kernel⟩, lw_t1 (List.mem_of_getElem? (i := 4) rfl), lw_t1 (List.mem_of_getElem? (i := 135) rfl), lw_t1 (List.mem_of_getElem? (i := 136) rfl)⟩
theorem lw_p13 : lw_okq (⟨"HaplotypeRowsModel", "isBits", "(I)Z"⟩, 2) := ⟨⟨by decide +kernel, by decide +kernel⟩, lw_t1 (List.mem_of_getElem? (i := 139) rfl), lw_t1 (List.mem_of_getElem? (i := 156) rfl), lw_t1 (List.mem_of_getElem? (i := 157) rfl)⟩
theorem lw_p14 : lw_okq (⟨"HaplotypeRowsModel", "isRow", "(I)Z"⟩, 2) := ⟨⟨by decide +kernel, by decide +kernel⟩, lw_t1 (List.mem_of_getElem? (i := 139) rfl), lw_t1 (List.mem_of_getElem? (i := 168) rfl), lw_t1 (List.mem_of_getElem? (i := 169) rfl)⟩
theorem lw_p15 : lw_okq (⟨"HaplotypeRowsModel", "isColumn", "(I)Z"⟩, 2) := ⟨⟨by decide +kernel, by decide +kernel⟩, lw_t1 (List.mem_of_getElem? (i := 139) rfl), lw_t1 (List.mem_of_getElem? (i := 180) rfl), lw_t1 (List.mem_of_getElem? (i := 181) rfl)⟩
def lw_privs_1 : List (MethodName × Nat) := [(⟨"HaplotypeRows", "noRow", "(I)Z"⟩, 7), (⟨"HaplotypeRows", "at", "(II)I"⟩, 7), (⟨"HaplotypeRows", "noPlace", "(II)Z"⟩, 7), (⟨"HaplotypeRows", "build", "()V"⟩, 7), (⟨"HaplotypeRows", "part", "(I)V"⟩, 7), (⟨"HaplotypeRows", "endingAt", "(II)I"⟩, 7), (⟨"HaplotypeRows", "parts", "(III)Z"⟩, 7), (⟨"HaplotypeRows", "agreeSince", "(III)I"⟩, 7), (⟨"HaplotypeRows", "placeOf", "(II)I"⟩, 7), (⟨"HaplotypeRows", "winsBefore", "(II)I"⟩, 7), (⟨"HaplotypeRows", "bestSince", "(II)I"⟩, 7), (⟨"HaplotypeRows", "isBefore", "(III)Z"⟩, 7), (⟨"HaplotypeRows", "sameBack", "(III)I"⟩, 7), (⟨"HaplotypeRowsModel", "isBits", "(I)Z"⟩, 2), (⟨"HaplotypeRowsModel", "isRow", "(I)Z"⟩, 2), (⟨"HaplotypeRowsModel", "isColumn", "(I)Z"⟩, 2)]
theorem lw_r1 : ∀ q ∈ lw_privs_1, lw_okq q := List.forall_mem_cons.mpr ⟨lw_p0, List.forall_mem_cons.mpr ⟨lw_p1, List.forall_mem_cons.mpr ⟨lw_p2, List.forall_mem_cons.mpr ⟨lw_p3, List.forall_mem_cons.mpr ⟨lw_p4, List.forall_mem_cons.mpr ⟨lw_p5, List.forall_mem_cons.mpr ⟨lw_p6, List.forall_mem_cons.mpr ⟨lw_p7, List.forall_mem_cons.mpr ⟨lw_p8, List.forall_mem_cons.mpr ⟨lw_p9, List.forall_mem_cons.mpr ⟨lw_p10, List.forall_mem_cons.mpr ⟨lw_p11, List.forall_mem_cons.mpr ⟨lw_p12, List.forall_mem_cons.mpr ⟨lw_p13, List.forall_mem_cons.mpr ⟨lw_p14, List.forall_mem_cons.mpr ⟨lw_p15, fun _ h => absurd h List.not_mem_nil⟩⟩⟩⟩⟩⟩⟩⟩⟩⟩⟩⟩⟩⟩⟩⟩
theorem lw_p16 : lw_okq (⟨"HaplotypeRowsModel", "rowAt", "(II)I"⟩, 2) := ⟨⟨by decide +kernel, by decide +kernel⟩, lw_t1 (List.mem_of_getElem? (i := 139) rfl), lw_t1 (List.mem_of_getElem? (i := 184) rfl), lw_t1 (List.mem_of_getElem? (i := 185) rfl)⟩
theorem lw_p17 : lw_okq (⟨"HaplotypeRowsModel", "comesBefore", "(III)Z"⟩, 2) := ⟨⟨by decide +kernel, by decide +kernel⟩, lw_t1 (List.mem_of_getElem? (i := 139) rfl), lw_t1 (List.mem_of_getElem? (i := 188) rfl), lw_t1 (List.mem_of_getElem? (i := 189) rfl)⟩
theorem lw_p18 : lw_okq (⟨"HaplotypeRowsModel", "differ", "(III)Z"⟩, 2) := ⟨⟨by decide +kernel, by decide +kernel⟩, lw_t1 (List.mem_of_getElem? (i := 139) rfl), lw_t1 (List.mem_of_getElem? (i := 192) rfl), lw_t1 (List.mem_of_getElem? (i := 193) rfl)⟩
theorem lw_p19 : lw_okq (⟨"HaplotypeRowsModel", "agreeFrom", "(III)I"⟩, 2) := ⟨⟨by decide +kernel, by decide +kernel⟩, lw_t1 (List.mem_of_getElem? (i := 139) rfl), lw_t1 (List.mem_of_getElem? (i := 201) rfl), lw_t1 (List.mem_of_getElem? (i := 202) rfl)⟩
theorem lw_p20 : lw_okq (⟨"HaplotypeRowsModel", "agreeMost", "(IIII)Z"⟩, 2) := ⟨⟨by decide +kernel, by decide +kernel⟩, lw_t1 (List.mem_of_getElem? (i := 139) rfl), lw_t1 (List.mem_of_getElem? (i := 209) rfl), lw_t1 (List.mem_of_getElem? (i := 210) rfl)⟩
theorem lw_p21 : lw_okq (⟨"HaplotypeRowsModel", "isBeaten", "(III)Z"⟩, 2) := ⟨⟨by decide +kernel, by decide +kernel⟩, lw_t1 (List.mem_of_getElem? (i := 139) rfl), lw_t1 (List.mem_of_getElem? (i := 221) rfl), lw_t1 (List.mem_of_getElem? (i := 222) rfl)⟩
theorem lw_p22 : lw_okq (⟨"HaplotypeRowsModel", "agree", "(IIII)Z"⟩, 2) := ⟨⟨by decide +kernel, by decide +kernel⟩, lw_t1 (List.mem_of_getElem? (i := 139) rfl), lw_t1 (List.mem_of_getElem? (i := 225) rfl), lw_t1 (List.mem_of_getElem? (i := 226) rfl)⟩
theorem lw_p23 : lw_okq (⟨"HaplotypeRowsModel", "widestOver", "(II)I"⟩, 2) := ⟨⟨by decide +kernel, by decide +kernel⟩, lw_t1 (List.mem_of_getElem? (i := 139) rfl), lw_t1 (List.mem_of_getElem? (i := 233) rfl), lw_t1 (List.mem_of_getElem? (i := 234) rfl)⟩
def lw_privs_2 : List (MethodName × Nat) := [(⟨"HaplotypeRowsModel", "rowAt", "(II)I"⟩, 2), (⟨"HaplotypeRowsModel", "comesBefore", "(III)Z"⟩, 2), (⟨"HaplotypeRowsModel", "differ", "(III)Z"⟩, 2), (⟨"HaplotypeRowsModel", "agreeFrom", "(III)I"⟩, 2), (⟨"HaplotypeRowsModel", "agreeMost", "(IIII)Z"⟩, 2), (⟨"HaplotypeRowsModel", "isBeaten", "(III)Z"⟩, 2), (⟨"HaplotypeRowsModel", "agree", "(IIII)Z"⟩, 2), (⟨"HaplotypeRowsModel", "widestOver", "(II)I"⟩, 2)]
theorem lw_r2 : ∀ q ∈ lw_privs_2, lw_okq q := List.forall_mem_cons.mpr ⟨lw_p16, List.forall_mem_cons.mpr ⟨lw_p17, List.forall_mem_cons.mpr ⟨lw_p18, List.forall_mem_cons.mpr ⟨lw_p19, List.forall_mem_cons.mpr ⟨lw_p20, List.forall_mem_cons.mpr ⟨lw_p21, List.forall_mem_cons.mpr ⟨lw_p22, List.forall_mem_cons.mpr ⟨lw_p23, fun _ h => absurd h List.not_mem_nil⟩⟩⟩⟩⟩⟩⟩⟩
def lw_privs : List (MethodName × Nat) := lw_privs_1 ++ (lw_privs_2)
def lw_tbl : List Cond := k2_sels lw_privs ++ tables_1
theorem lw_privs_ok : ∀ q ∈ lw_privs, lw_okq q := by
  show ∀ q ∈ lw_privs_1 ++ (lw_privs_2), lw_okq q
  exact List.forall_mem_append.mpr ⟨lw_r1, lw_r2⟩
-- ===== ONE list of words for every method: the tables' words that hold all through a run =====
def lw_all : List Cond := lw_tbl.filter goodWord
/-- a word of the tables by its place: claim/WORDS.tsv -/
theorem lw_w {w : Cond} (i : Nat) (h : lw_tbl[i]? = some w) (g : goodWord w = true) : w ∈ lw_all := List.mem_filter.mpr ⟨List.mem_of_getElem? h, g⟩
theorem lw_all_tbl {w : Cond} (h : w ∈ lw_all) : w ∈ lw_tbl := (List.mem_filter.mp h).1
theorem lw_self : GoodIn lw_all lw_all := fun w h => ⟨h, good_of_word (List.mem_filter.mp h).2⟩
/-- a class's field words, by their places -/
theorem lw_in (ws : List Cond) (ps : List Nat) (hp : ws = ps.filterMap (fun i => lw_tbl[i]?)) (hg : ws.all goodWord = true) : ∀ w ∈ ws, w ∈ lw_all := by
  intro w h
  have h1 := List.all_eq_true.mp hg w h
  rw [hp] at h
  obtain ⟨i, -, hi⟩ := List.mem_filterMap.mp h
  exact lw_w i hi h1
/-- the words of a contract for the method y with code b, L locals, answer r -/
abbrev ws_ (y : MethodName) (b : ByteArray) (L : Nat) (r : Option FieldType) : List Cond := Cond.code y b L r :: lw_all
theorem lw_meth {y : MethodName} {b : ByteArray} {L : Nat} {r : Option FieldType} (h : Cond.code y b L r ∈ lw_all) : GoodIn lw_all (ws_ y b L r) := by
  intro w hw
  rcases List.mem_cons.mp hw with e | e
  · rw [e]
    exact lw_self _ h
  · exact lw_self _ e
theorem lw_app {a c : List Cond} (ha : ∀ w ∈ a, w ∈ lw_all) (hc : GoodIn lw_all c) : GoodIn lw_all (a ++ c) := by
  intro w hw
  rcases List.mem_append.mp hw with e | e
  · exact lw_self w (ha w e)
  · exact hc w e
/-- what a call through an object asks: cwV n hts (lw_V ..) -/
theorem lw_V {own : String} {idx : Nat} {C : String} {y : MethodName} {b : ByteArray} {L : Nat} {r : Option FieldType} (h1 : Cond.methodLink own idx y ∈ lw_all) (h2 : Cond.instanceMethod y ∈ lw_all) (h3 : Cond.selects C y y ∈ lw_all) (h4 : Cond.initialized C ∈ lw_all) (h5 : Cond.code y b L r ∈ lw_all) : GoodIn lw_all (wsV own idx C y (ws_ y b L r)) := by
  refine lw_app ?_ (lw_meth h5)
  intro w hw
  simp only [List.mem_cons, List.not_mem_nil, or_false] at hw
  rcases hw with e | e | e | e
  · rw [e]; exact h1
  · rw [e]; exact h2
  · rw [e]; exact h3
  · rw [e]; exact h4
/-- what a static call asks: va_cwS n hts (lw_S ..) -/
theorem lw_S {own : String} {idx : Nat} {y : MethodName} {b : ByteArray} {L : Nat} {r : Option FieldType} (h1 : Cond.methodLink own idx y ∈ lw_all) (h2 : Cond.static y ∈ lw_all) (h3 : Cond.initialized y.cls ∈ lw_all) (h4 : Cond.code y b L r ∈ lw_all) : GoodIn lw_all (va_wsS own idx y (ws_ y b L r)) := by
  refine lw_app ?_ (lw_meth h4)
  intro w hw
  simp only [List.mem_cons, List.not_mem_nil, or_false] at hw
  rcases hw with e | e | e
  · rw [e]; exact h1
  · rw [e]; exact h2
  · rw [e]; exact h3
/-- the words of a contract for a method WITH HANDLERS (hh: its table) -/
abbrev wsW_ (y : MethodName) (b : ByteArray) (L : Nat) (r : Option FieldType) (hh : List (Nat × Nat × Nat × Nat)) : List Cond := Cond.codeWith y b L r hh :: lw_all
theorem lw_methW {y : MethodName} {b : ByteArray} {L : Nat} {r : Option FieldType} {hh : List (Nat × Nat × Nat × Nat)} (h : Cond.codeWith y b L r hh ∈ lw_all) : GoodIn lw_all (wsW_ y b L r hh) := by
  intro w hw
  rcases List.mem_cons.mp hw with e | e
  · rw [e]
    exact lw_self _ h
  · exact lw_self _ e
/-- any list of words by their places (lw_in), good -/
theorem lw_good {ws : List Cond} (h : ∀ w ∈ ws, w ∈ lw_all) : GoodIn lw_all ws := fun w hw => lw_self w (h w hw)
/-- what a call of a method with handlers asks: vx_cwVW n hts (lw_VW ..), vx_cwSW n hts (lw_SW ..) -/
theorem lw_VW {own : String} {idx : Nat} {C : String} {y : MethodName} {b : ByteArray} {L : Nat} {r : Option FieldType} {hh : List (Nat × Nat × Nat × Nat)} (h1 : Cond.methodLink own idx y ∈ lw_all) (h2 : Cond.instanceMethod y ∈ lw_all) (h3 : Cond.selects C y y ∈ lw_all) (h4 : Cond.initialized C ∈ lw_all) (h5 : Cond.codeWith y b L r hh ∈ lw_all) : GoodIn lw_all (wsV own idx C y (wsW_ y b L r hh)) := by
  refine lw_app ?_ (lw_methW h5)
  intro w hw
  simp only [List.mem_cons, List.not_mem_nil, or_false] at hw
  rcases hw with e | e | e | e
  · rw [e]; exact h1
  · rw [e]; exact h2
  · rw [e]; exact h3
  · rw [e]; exact h4
theorem lw_SW {own : String} {idx : Nat} {y : MethodName} {b : ByteArray} {L : Nat} {r : Option FieldType} {hh : List (Nat × Nat × Nat × Nat)} (h1 : Cond.methodLink own idx y ∈ lw_all) (h2 : Cond.static y ∈ lw_all) (h3 : Cond.initialized y.cls ∈ lw_all) (h4 : Cond.codeWith y b L r hh ∈ lw_all) : GoodIn lw_all (va_wsS own idx y (wsW_ y b L r hh)) := by
  refine lw_app ?_ (lw_methW h4)
  intro w hw
  simp only [List.mem_cons, List.not_mem_nil, or_false] at hw
  rcases hw with e | e | e
  · rw [e]; exact h1
  · rw [e]; exact h2
  · rw [e]; exact h3
/-- a word by its place in its run of the tables -/
theorem lw_at {r : List Cond} (hr : ∀ w ∈ r, w ∈ lw_tbl) {w : Cond} (i : Nat) (h : r[i]? = some w) : w ∈ lw_tbl := hr w (List.mem_of_getElem? h)
theorem lw_g {w : Cond} (h : w ∈ lw_tbl) (g : goodWord w = true) : w ∈ lw_all := List.mem_filter.mpr ⟨h, g⟩
theorem lw_ms : ∀ w ∈ k2_sels lw_privs, w ∈ lw_tbl := fun w h => show w ∈ k2_sels lw_privs ++ tables_1 from List.mem_append_left _ h
theorem lw_m1 : ∀ w ∈ tables_1_1, w ∈ lw_tbl := fun w h => show w ∈ k2_sels lw_privs ++ tables_1 from List.mem_append_right (k2_sels lw_privs) (show w ∈ tables_1 from List.mem_append_left _ h)
theorem lw_m2 : ∀ w ∈ tables_1_2, w ∈ lw_tbl := fun w h => show w ∈ k2_sels lw_privs ++ tables_1 from List.mem_append_right (k2_sels lw_privs) (show w ∈ tables_1 from List.mem_append_right _ h)
theorem qs0 : (Cond.selects "HaplotypeRows" ⟨"HaplotypeRows", "noRow", "(I)Z"⟩ ⟨"HaplotypeRows", "noRow", "(I)Z"⟩) ∈ lw_all := lw_g (lw_at lw_ms 0 rfl) rfl
theorem qs1 : (Cond.selects "HaplotypeRows" ⟨"HaplotypeRows", "at", "(II)I"⟩ ⟨"HaplotypeRows", "at", "(II)I"⟩) ∈ lw_all := lw_g (lw_at lw_ms 1 rfl) rfl
theorem qs2 : (Cond.selects "HaplotypeRows" ⟨"HaplotypeRows", "noPlace", "(II)Z"⟩ ⟨"HaplotypeRows", "noPlace", "(II)Z"⟩) ∈ lw_all := lw_g (lw_at lw_ms 2 rfl) rfl
theorem qs3 : (Cond.selects "HaplotypeRows" ⟨"HaplotypeRows", "build", "()V"⟩ ⟨"HaplotypeRows", "build", "()V"⟩) ∈ lw_all := lw_g (lw_at lw_ms 3 rfl) rfl
theorem qs4 : (Cond.selects "HaplotypeRows" ⟨"HaplotypeRows", "part", "(I)V"⟩ ⟨"HaplotypeRows", "part", "(I)V"⟩) ∈ lw_all := lw_g (lw_at lw_ms 4 rfl) rfl
theorem qs5 : (Cond.selects "HaplotypeRows" ⟨"HaplotypeRows", "endingAt", "(II)I"⟩ ⟨"HaplotypeRows", "endingAt", "(II)I"⟩) ∈ lw_all := lw_g (lw_at lw_ms 5 rfl) rfl
theorem qs6 : (Cond.selects "HaplotypeRows" ⟨"HaplotypeRows", "parts", "(III)Z"⟩ ⟨"HaplotypeRows", "parts", "(III)Z"⟩) ∈ lw_all := lw_g (lw_at lw_ms 6 rfl) rfl
theorem qs7 : (Cond.selects "HaplotypeRows" ⟨"HaplotypeRows", "agreeSince", "(III)I"⟩ ⟨"HaplotypeRows", "agreeSince", "(III)I"⟩) ∈ lw_all := lw_g (lw_at lw_ms 7 rfl) rfl
theorem qs8 : (Cond.selects "HaplotypeRows" ⟨"HaplotypeRows", "placeOf", "(II)I"⟩ ⟨"HaplotypeRows", "placeOf", "(II)I"⟩) ∈ lw_all := lw_g (lw_at lw_ms 8 rfl) rfl
theorem qs9 : (Cond.selects "HaplotypeRows" ⟨"HaplotypeRows", "winsBefore", "(II)I"⟩ ⟨"HaplotypeRows", "winsBefore", "(II)I"⟩) ∈ lw_all := lw_g (lw_at lw_ms 9 rfl) rfl
theorem qs10 : (Cond.selects "HaplotypeRows" ⟨"HaplotypeRows", "bestSince", "(II)I"⟩ ⟨"HaplotypeRows", "bestSince", "(II)I"⟩) ∈ lw_all := lw_g (lw_at lw_ms 10 rfl) rfl
theorem qs11 : (Cond.selects "HaplotypeRows" ⟨"HaplotypeRows", "isBefore", "(III)Z"⟩ ⟨"HaplotypeRows", "isBefore", "(III)Z"⟩) ∈ lw_all := lw_g (lw_at lw_ms 11 rfl) rfl
theorem qs12 : (Cond.selects "HaplotypeRows" ⟨"HaplotypeRows", "sameBack", "(III)I"⟩ ⟨"HaplotypeRows", "sameBack", "(III)I"⟩) ∈ lw_all := lw_g (lw_at lw_ms 12 rfl) rfl
theorem qs13 : (Cond.selects "HaplotypeRowsModel" ⟨"HaplotypeRowsModel", "isBits", "(I)Z"⟩ ⟨"HaplotypeRowsModel", "isBits", "(I)Z"⟩) ∈ lw_all := lw_g (lw_at lw_ms 13 rfl) rfl
theorem qs14 : (Cond.selects "HaplotypeRowsModel" ⟨"HaplotypeRowsModel", "isRow", "(I)Z"⟩ ⟨"HaplotypeRowsModel", "isRow", "(I)Z"⟩) ∈ lw_all := lw_g (lw_at lw_ms 14 rfl) rfl
theorem qs15 : (Cond.selects "HaplotypeRowsModel" ⟨"HaplotypeRowsModel", "isColumn", "(I)Z"⟩ ⟨"HaplotypeRowsModel", "isColumn", "(I)Z"⟩) ∈ lw_all := lw_g (lw_at lw_ms 15 rfl) rfl
theorem qs16 : (Cond.selects "HaplotypeRowsModel" ⟨"HaplotypeRowsModel", "rowAt", "(II)I"⟩ ⟨"HaplotypeRowsModel", "rowAt", "(II)I"⟩) ∈ lw_all := lw_g (lw_at lw_ms 16 rfl) rfl
theorem qs17 : (Cond.selects "HaplotypeRowsModel" ⟨"HaplotypeRowsModel", "comesBefore", "(III)Z"⟩ ⟨"HaplotypeRowsModel", "comesBefore", "(III)Z"⟩) ∈ lw_all := lw_g (lw_at lw_ms 17 rfl) rfl
theorem qs18 : (Cond.selects "HaplotypeRowsModel" ⟨"HaplotypeRowsModel", "differ", "(III)Z"⟩ ⟨"HaplotypeRowsModel", "differ", "(III)Z"⟩) ∈ lw_all := lw_g (lw_at lw_ms 18 rfl) rfl
theorem qs19 : (Cond.selects "HaplotypeRowsModel" ⟨"HaplotypeRowsModel", "agreeFrom", "(III)I"⟩ ⟨"HaplotypeRowsModel", "agreeFrom", "(III)I"⟩) ∈ lw_all := lw_g (lw_at lw_ms 19 rfl) rfl
theorem qs20 : (Cond.selects "HaplotypeRowsModel" ⟨"HaplotypeRowsModel", "agreeMost", "(IIII)Z"⟩ ⟨"HaplotypeRowsModel", "agreeMost", "(IIII)Z"⟩) ∈ lw_all := lw_g (lw_at lw_ms 20 rfl) rfl
theorem qs21 : (Cond.selects "HaplotypeRowsModel" ⟨"HaplotypeRowsModel", "isBeaten", "(III)Z"⟩ ⟨"HaplotypeRowsModel", "isBeaten", "(III)Z"⟩) ∈ lw_all := lw_g (lw_at lw_ms 21 rfl) rfl
theorem qs22 : (Cond.selects "HaplotypeRowsModel" ⟨"HaplotypeRowsModel", "agree", "(IIII)Z"⟩ ⟨"HaplotypeRowsModel", "agree", "(IIII)Z"⟩) ∈ lw_all := lw_g (lw_at lw_ms 22 rfl) rfl
theorem qs23 : (Cond.selects "HaplotypeRowsModel" ⟨"HaplotypeRowsModel", "widestOver", "(II)I"⟩ ⟨"HaplotypeRowsModel", "widestOver", "(II)I"⟩) ∈ lw_all := lw_g (lw_at lw_ms 23 rfl) rfl
end
section
set_option maxRecDepth 100000
/-! HaplotypeRows -/
def RX0 : String := "HaplotypeRows"
def TX0 : u_T := fun k => match k with
  | 0 => ("HaplotypeRows", "count", "I", false)
  | 1 => ("HaplotypeRows", "bits", "[I", true)
  | 2 => ("HaplotypeRows", "built", "Z", false)
  | 3 => ("HaplotypeRows", "order", "[I", true)
  | 4 => ("HaplotypeRows", "begin", "[I", true)
  | 5 => ("HaplotypeRows", "ones", "[I", true)
  | _ => ("HaplotypeRows", "onesBegin", "[I", true)
def tyX0 : Nat → FieldType := fun k => match k with
  | 0 => .int
  | 1 => .array .int
  | 2 => .boolean
  | 3 => .array .int
  | 4 => .array .int
  | 5 => .array .int
  | _ => .array .int
abbrev wsX00 : List Cond := u_ws RX0 TX0 7
theorem nmX0 : ∀ a, a < 7 → ∀ b, b < 7 → a ≠ b → (TX0 a).2.1 ≠ (TX0 b).2.1 := by decide +kernel
theorem tyX0_ok : ∀ k, k < 7 → parseFieldDescriptor (TX0 k).2.2.1 = some (tyX0 k) := by decide +kernel
abbrev cX0_init : ByteArray := prog_1_method_1_code
def yX0_init : MethodName := ⟨RX0, "<init>", "()V"⟩
abbrev cX0_add : ByteArray := prog_1_method_4_code
def yX0_add : MethodName := ⟨RX0, "add", "(I)I"⟩
abbrev cX0_remove : ByteArray := prog_1_method_5_code
def yX0_remove : MethodName := ⟨RX0, "remove", "()I"⟩
abbrev cX0_turn : ByteArray := prog_1_method_6_code
def yX0_turn : MethodName := ⟨RX0, "turn", "(II)I"⟩
abbrev cX0_noRow : ByteArray := prog_1_method_2_code
def yX0_noRow : MethodName := ⟨RX0, "noRow", "(I)Z"⟩
abbrev cX0_at : ByteArray := prog_1_method_3_code
def yX0_at : MethodName := ⟨RX0, "at", "(II)I"⟩
abbrev cX0_rows : ByteArray := prog_1_method_7_code
def yX0_rows : MethodName := ⟨RX0, "rows", "()I"⟩
abbrev cX0_ordered : ByteArray := prog_1_method_11_code
def yX0_ordered : MethodName := ⟨RX0, "ordered", "(II)I"⟩
abbrev cX0_noPlace : ByteArray := prog_1_method_10_code
def yX0_noPlace : MethodName := ⟨RX0, "noPlace", "(II)Z"⟩
abbrev cX0_build : ByteArray := prog_1_method_9_code
def yX0_build : MethodName := ⟨RX0, "build", "()V"⟩
abbrev cX0_part : ByteArray := prog_1_method_8_code
def yX0_part : MethodName := ⟨RX0, "part", "(I)V"⟩
abbrev cX0_since : ByteArray := prog_1_method_12_code
def yX0_since : MethodName := ⟨RX0, "since", "(II)I"⟩
abbrev cX0_matches : ByteArray := prog_1_method_15_code
def yX0_matches : MethodName := ⟨RX0, "matches", "(I)I"⟩
abbrev cX0_endingAt : ByteArray := prog_1_method_14_code
def yX0_endingAt : MethodName := ⟨RX0, "endingAt", "(II)I"⟩
abbrev cX0_parts : ByteArray := prog_1_method_13_code
def yX0_parts : MethodName := ⟨RX0, "parts", "(III)Z"⟩
abbrev cX0_longest : ByteArray := prog_1_method_18_code
def yX0_longest : MethodName := ⟨RX0, "longest", "(II)I"⟩
abbrev cX0_agreeSince : ByteArray := prog_1_method_17_code
def yX0_agreeSince : MethodName := ⟨RX0, "agreeSince", "(III)I"⟩
abbrev cX0_placeOf : ByteArray := prog_1_method_16_code
def yX0_placeOf : MethodName := ⟨RX0, "placeOf", "(II)I"⟩
abbrev cX0_winning : ByteArray := prog_1_method_21_code
def yX0_winning : MethodName := ⟨RX0, "winning", "(I)I"⟩
abbrev cX0_winsBefore : ByteArray := prog_1_method_20_code
def yX0_winsBefore : MethodName := ⟨RX0, "winsBefore", "(II)I"⟩
abbrev cX0_bestSince : ByteArray := prog_1_method_19_code
def yX0_bestSince : MethodName := ⟨RX0, "bestSince", "(II)I"⟩
abbrev cX0_cover : ByteArray := prog_1_method_22_code
def yX0_cover : MethodName := ⟨RX0, "cover", "(I)I"⟩
abbrev cX0_kinds : ByteArray := prog_1_method_23_code
def yX0_kinds : MethodName := ⟨RX0, "kinds", "(II)I"⟩
abbrev cX0_having : ByteArray := prog_1_method_24_code
def yX0_having : MethodName := ⟨RX0, "having", "(III)I"⟩
abbrev cX0_fit : ByteArray := prog_1_method_25_code
def yX0_fit : MethodName := ⟨RX0, "fit", "(II)I"⟩
abbrev cX0_isBefore : ByteArray := prog_1_method_27_code
def yX0_isBefore : MethodName := ⟨RX0, "isBefore", "(III)Z"⟩
abbrev cX0_sameBack : ByteArray := prog_1_method_26_code
def yX0_sameBack : MethodName := ⟨RX0, "sameBack", "(III)I"⟩
theorem q25 : (Jvm.Cond.initialized "HaplotypeRows") ∈ lw_all := lw_g (lw_at lw_m1 1 rfl) rfl
theorem q28 : (Jvm.Cond.instantiable "HaplotypeRows" (7 : Nat)) ∈ lw_all := lw_g (lw_at lw_m1 4 rfl) rfl
theorem q30 : (Jvm.Cond.instanceMethod ({ cls := "HaplotypeRows", name := "<init>", desc := "()V" } : Jvm.MethodName)) ∈ lw_all := lw_g (lw_at lw_m1 6 rfl) rfl
theorem q31 : (Jvm.Cond.code ({ cls := "HaplotypeRows", name := "<init>", desc := "()V" } : Jvm.MethodName) prog_1_method_1_code (1 : Nat) (Option.none : Option Jvm.ClassFile.FieldType)) ∈ lw_all := lw_g (lw_at lw_m1 7 rfl) rfl
theorem q32 : (Jvm.Cond.methodLink "HaplotypeRows" (1 : Nat) ({ cls := "java/lang/Object", name := "<init>", desc := "()V" } : Jvm.MethodName)) ∈ lw_all := lw_g (lw_at lw_m1 8 rfl) rfl
theorem q35 : (Jvm.Cond.fieldLink "HaplotypeRows" (25 : Nat) "HaplotypeRows" "count" "I") ∈ lw_all := lw_g (lw_at lw_m1 11 rfl) rfl
theorem q36 : (Jvm.Cond.fieldLink "HaplotypeRows" (7 : Nat) "HaplotypeRows" "bits" "[I") ∈ lw_all := lw_g (lw_at lw_m1 12 rfl) rfl
theorem q37 : (Jvm.Cond.fieldLink "HaplotypeRows" (29 : Nat) "HaplotypeRows" "built" "Z") ∈ lw_all := lw_g (lw_at lw_m1 13 rfl) rfl
theorem q38 : (Jvm.Cond.fieldLink "HaplotypeRows" (13 : Nat) "HaplotypeRows" "order" "[I") ∈ lw_all := lw_g (lw_at lw_m1 14 rfl) rfl
theorem q39 : (Jvm.Cond.fieldLink "HaplotypeRows" (16 : Nat) "HaplotypeRows" "begin" "[I") ∈ lw_all := lw_g (lw_at lw_m1 15 rfl) rfl
theorem q40 : (Jvm.Cond.fieldLink "HaplotypeRows" (19 : Nat) "HaplotypeRows" "ones" "[I") ∈ lw_all := lw_g (lw_at lw_m1 16 rfl) rfl
theorem q41 : (Jvm.Cond.fieldLink "HaplotypeRows" (22 : Nat) "HaplotypeRows" "onesBegin" "[I") ∈ lw_all := lw_g (lw_at lw_m1 17 rfl) rfl
theorem q42 : (Jvm.Cond.lays "HaplotypeRows" "HaplotypeRows" "count" "I") ∈ lw_all := lw_g (lw_at lw_m1 18 rfl) rfl
theorem q43 : (Jvm.Cond.soleField "HaplotypeRows" "count") ∈ lw_all := lw_g (lw_at lw_m1 19 rfl) rfl
theorem q44 : (Jvm.Cond.laysFinal "HaplotypeRows" "HaplotypeRows" "bits" "[I") ∈ lw_all := lw_g (lw_at lw_m1 20 rfl) rfl
theorem q45 : (Jvm.Cond.soleField "HaplotypeRows" "bits") ∈ lw_all := lw_g (lw_at lw_m1 21 rfl) rfl
theorem q46 : (Jvm.Cond.lays "HaplotypeRows" "HaplotypeRows" "built" "Z") ∈ lw_all := lw_g (lw_at lw_m1 22 rfl) rfl
theorem q47 : (Jvm.Cond.soleField "HaplotypeRows" "built") ∈ lw_all := lw_g (lw_at lw_m1 23 rfl) rfl
theorem q48 : (Jvm.Cond.laysFinal "HaplotypeRows" "HaplotypeRows" "order" "[I") ∈ lw_all := lw_g (lw_at lw_m1 24 rfl) rfl
theorem q49 : (Jvm.Cond.soleField "HaplotypeRows" "order") ∈ lw_all := lw_g (lw_at lw_m1 25 rfl) rfl
theorem q50 : (Jvm.Cond.laysFinal "HaplotypeRows" "HaplotypeRows" "begin" "[I") ∈ lw_all := lw_g (lw_at lw_m1 26 rfl) rfl
theorem q51 : (Jvm.Cond.soleField "HaplotypeRows" "begin") ∈ lw_all := lw_g (lw_at lw_m1 27 rfl) rfl
theorem q52 : (Jvm.Cond.laysFinal "HaplotypeRows" "HaplotypeRows" "ones" "[I") ∈ lw_all := lw_g (lw_at lw_m1 28 rfl) rfl
theorem q53 : (Jvm.Cond.soleField "HaplotypeRows" "ones") ∈ lw_all := lw_g (lw_at lw_m1 29 rfl) rfl
theorem q54 : (Jvm.Cond.laysFinal "HaplotypeRows" "HaplotypeRows" "onesBegin" "[I") ∈ lw_all := lw_g (lw_at lw_m1 30 rfl) rfl
theorem q55 : (Jvm.Cond.soleField "HaplotypeRows" "onesBegin") ∈ lw_all := lw_g (lw_at lw_m1 31 rfl) rfl
theorem q56 : (Jvm.Cond.superclass "HaplotypeRows" "java/lang/Object") ∈ lw_all := lw_g (lw_at lw_m1 32 rfl) rfl
theorem q59 : (Jvm.Cond.instanceMethod ({ cls := "HaplotypeRows", name := "add", desc := "(I)I" } : Jvm.MethodName)) ∈ lw_all := lw_g (lw_at lw_m1 35 rfl) rfl
theorem q60 : (Jvm.Cond.selects "HaplotypeRows" ({ cls := "HaplotypeRows", name := "add", desc := "(I)I" } : Jvm.MethodName) ({ cls := "HaplotypeRows", name := "add", desc := "(I)I" } : Jvm.MethodName)) ∈ lw_all := lw_g (lw_at lw_m1 36 rfl) rfl
theorem q61 : (Jvm.Cond.code ({ cls := "HaplotypeRows", name := "add", desc := "(I)I" } : Jvm.MethodName) prog_1_method_4_code (2 : Nat) (Option.some Jvm.ClassFile.FieldType.int)) ∈ lw_all := lw_g (lw_at lw_m1 37 rfl) rfl
theorem q63 : (Jvm.Cond.instanceMethod ({ cls := "HaplotypeRows", name := "remove", desc := "()I" } : Jvm.MethodName)) ∈ lw_all := lw_g (lw_at lw_m1 39 rfl) rfl
theorem q64 : (Jvm.Cond.selects "HaplotypeRows" ({ cls := "HaplotypeRows", name := "remove", desc := "()I" } : Jvm.MethodName) ({ cls := "HaplotypeRows", name := "remove", desc := "()I" } : Jvm.MethodName)) ∈ lw_all := lw_g (lw_at lw_m1 40 rfl) rfl
theorem q65 : (Jvm.Cond.code ({ cls := "HaplotypeRows", name := "remove", desc := "()I" } : Jvm.MethodName) prog_1_method_5_code (1 : Nat) (Option.some Jvm.ClassFile.FieldType.int)) ∈ lw_all := lw_g (lw_at lw_m1 41 rfl) rfl
theorem q67 : (Jvm.Cond.instanceMethod ({ cls := "HaplotypeRows", name := "turn", desc := "(II)I" } : Jvm.MethodName)) ∈ lw_all := lw_g (lw_at lw_m1 43 rfl) rfl
theorem q68 : (Jvm.Cond.selects "HaplotypeRows" ({ cls := "HaplotypeRows", name := "turn", desc := "(II)I" } : Jvm.MethodName) ({ cls := "HaplotypeRows", name := "turn", desc := "(II)I" } : Jvm.MethodName)) ∈ lw_all := lw_g (lw_at lw_m1 44 rfl) rfl
theorem q69 : (Jvm.Cond.code ({ cls := "HaplotypeRows", name := "turn", desc := "(II)I" } : Jvm.MethodName) prog_1_method_6_code (3 : Nat) (Option.some Jvm.ClassFile.FieldType.int)) ∈ lw_all := lw_g (lw_at lw_m1 45 rfl) rfl
theorem q70 : (Jvm.Cond.methodLink "HaplotypeRows" (33 : Nat) ({ cls := "HaplotypeRows", name := "noRow", desc := "(I)Z" } : Jvm.MethodName)) ∈ lw_all := lw_g (lw_at lw_m1 46 rfl) rfl
theorem q71 : (Jvm.Cond.privateMethod ({ cls := "HaplotypeRows", name := "noRow", desc := "(I)Z" } : Jvm.MethodName)) ∈ lw_tbl := lw_at lw_m1 47 rfl
theorem q72 : (Jvm.Cond.instanceMethod ({ cls := "HaplotypeRows", name := "noRow", desc := "(I)Z" } : Jvm.MethodName)) ∈ lw_all := lw_g (lw_at lw_m1 48 rfl) rfl
theorem q73 : (Jvm.Cond.code ({ cls := "HaplotypeRows", name := "noRow", desc := "(I)Z" } : Jvm.MethodName) prog_1_method_2_code (2 : Nat) (Option.some Jvm.ClassFile.FieldType.boolean)) ∈ lw_all := lw_g (lw_at lw_m1 49 rfl) rfl
theorem q74 : (Jvm.Cond.methodLink "HaplotypeRows" (37 : Nat) ({ cls := "HaplotypeRows", name := "at", desc := "(II)I" } : Jvm.MethodName)) ∈ lw_all := lw_g (lw_at lw_m1 50 rfl) rfl
theorem q75 : (Jvm.Cond.privateMethod ({ cls := "HaplotypeRows", name := "at", desc := "(II)I" } : Jvm.MethodName)) ∈ lw_tbl := lw_at lw_m1 51 rfl
theorem q76 : (Jvm.Cond.instanceMethod ({ cls := "HaplotypeRows", name := "at", desc := "(II)I" } : Jvm.MethodName)) ∈ lw_all := lw_g (lw_at lw_m1 52 rfl) rfl
theorem q77 : (Jvm.Cond.code ({ cls := "HaplotypeRows", name := "at", desc := "(II)I" } : Jvm.MethodName) prog_1_method_3_code (3 : Nat) (Option.some Jvm.ClassFile.FieldType.int)) ∈ lw_all := lw_g (lw_at lw_m1 53 rfl) rfl
theorem q79 : (Jvm.Cond.instanceMethod ({ cls := "HaplotypeRows", name := "rows", desc := "()I" } : Jvm.MethodName)) ∈ lw_all := lw_g (lw_at lw_m1 55 rfl) rfl
theorem q80 : (Jvm.Cond.selects "HaplotypeRows" ({ cls := "HaplotypeRows", name := "rows", desc := "()I" } : Jvm.MethodName) ({ cls := "HaplotypeRows", name := "rows", desc := "()I" } : Jvm.MethodName)) ∈ lw_all := lw_g (lw_at lw_m1 56 rfl) rfl
theorem q81 : (Jvm.Cond.code ({ cls := "HaplotypeRows", name := "rows", desc := "()I" } : Jvm.MethodName) prog_1_method_7_code (1 : Nat) (Option.some Jvm.ClassFile.FieldType.int)) ∈ lw_all := lw_g (lw_at lw_m1 57 rfl) rfl
theorem q83 : (Jvm.Cond.instanceMethod ({ cls := "HaplotypeRows", name := "ordered", desc := "(II)I" } : Jvm.MethodName)) ∈ lw_all := lw_g (lw_at lw_m1 59 rfl) rfl
theorem q84 : (Jvm.Cond.selects "HaplotypeRows" ({ cls := "HaplotypeRows", name := "ordered", desc := "(II)I" } : Jvm.MethodName) ({ cls := "HaplotypeRows", name := "ordered", desc := "(II)I" } : Jvm.MethodName)) ∈ lw_all := lw_g (lw_at lw_m1 60 rfl) rfl
theorem q85 : (Jvm.Cond.code ({ cls := "HaplotypeRows", name := "ordered", desc := "(II)I" } : Jvm.MethodName) prog_1_method_11_code (3 : Nat) (Option.some Jvm.ClassFile.FieldType.int)) ∈ lw_all := lw_g (lw_at lw_m1 61 rfl) rfl
theorem q86 : (Jvm.Cond.methodLink "HaplotypeRows" (45 : Nat) ({ cls := "HaplotypeRows", name := "noPlace", desc := "(II)Z" } : Jvm.MethodName)) ∈ lw_all := lw_g (lw_at lw_m1 62 rfl) rfl
theorem q87 : (Jvm.Cond.privateMethod ({ cls := "HaplotypeRows", name := "noPlace", desc := "(II)Z" } : Jvm.MethodName)) ∈ lw_tbl := lw_at lw_m1 63 rfl
theorem q88 : (Jvm.Cond.instanceMethod ({ cls := "HaplotypeRows", name := "noPlace", desc := "(II)Z" } : Jvm.MethodName)) ∈ lw_all := lw_g (lw_at lw_m1 64 rfl) rfl
theorem q89 : (Jvm.Cond.code ({ cls := "HaplotypeRows", name := "noPlace", desc := "(II)Z" } : Jvm.MethodName) prog_1_method_10_code (3 : Nat) (Option.some Jvm.ClassFile.FieldType.boolean)) ∈ lw_all := lw_g (lw_at lw_m1 65 rfl) rfl
theorem q90 : (Jvm.Cond.methodLink "HaplotypeRows" (49 : Nat) ({ cls := "HaplotypeRows", name := "build", desc := "()V" } : Jvm.MethodName)) ∈ lw_all := lw_g (lw_at lw_m1 66 rfl) rfl
theorem q91 : (Jvm.Cond.privateMethod ({ cls := "HaplotypeRows", name := "build", desc := "()V" } : Jvm.MethodName)) ∈ lw_tbl := lw_at lw_m1 67 rfl
theorem q92 : (Jvm.Cond.instanceMethod ({ cls := "HaplotypeRows", name := "build", desc := "()V" } : Jvm.MethodName)) ∈ lw_all := lw_g (lw_at lw_m1 68 rfl) rfl
theorem q93 : (Jvm.Cond.code ({ cls := "HaplotypeRows", name := "build", desc := "()V" } : Jvm.MethodName) prog_1_method_9_code (2 : Nat) (Option.none : Option Jvm.ClassFile.FieldType)) ∈ lw_all := lw_g (lw_at lw_m1 69 rfl) rfl
theorem q94 : (Jvm.Cond.methodLink "HaplotypeRows" (41 : Nat) ({ cls := "HaplotypeRows", name := "part", desc := "(I)V" } : Jvm.MethodName)) ∈ lw_all := lw_g (lw_at lw_m1 70 rfl) rfl
theorem q95 : (Jvm.Cond.privateMethod ({ cls := "HaplotypeRows", name := "part", desc := "(I)V" } : Jvm.MethodName)) ∈ lw_tbl := lw_at lw_m1 71 rfl
theorem q96 : (Jvm.Cond.instanceMethod ({ cls := "HaplotypeRows", name := "part", desc := "(I)V" } : Jvm.MethodName)) ∈ lw_all := lw_g (lw_at lw_m1 72 rfl) rfl
theorem q97 : (Jvm.Cond.code ({ cls := "HaplotypeRows", name := "part", desc := "(I)V" } : Jvm.MethodName) prog_1_method_8_code (11 : Nat) (Option.none : Option Jvm.ClassFile.FieldType)) ∈ lw_all := lw_g (lw_at lw_m1 73 rfl) rfl
theorem q99 : (Jvm.Cond.instanceMethod ({ cls := "HaplotypeRows", name := "since", desc := "(II)I" } : Jvm.MethodName)) ∈ lw_all := lw_g (lw_at lw_m1 75 rfl) rfl
theorem q100 : (Jvm.Cond.selects "HaplotypeRows" ({ cls := "HaplotypeRows", name := "since", desc := "(II)I" } : Jvm.MethodName) ({ cls := "HaplotypeRows", name := "since", desc := "(II)I" } : Jvm.MethodName)) ∈ lw_all := lw_g (lw_at lw_m1 76 rfl) rfl
theorem q101 : (Jvm.Cond.code ({ cls := "HaplotypeRows", name := "since", desc := "(II)I" } : Jvm.MethodName) prog_1_method_12_code (3 : Nat) (Option.some Jvm.ClassFile.FieldType.int)) ∈ lw_all := lw_g (lw_at lw_m1 77 rfl) rfl
theorem q103 : (Jvm.Cond.instanceMethod ({ cls := "HaplotypeRows", name := "matches", desc := "(I)I" } : Jvm.MethodName)) ∈ lw_all := lw_g (lw_at lw_m1 79 rfl) rfl
theorem q104 : (Jvm.Cond.selects "HaplotypeRows" ({ cls := "HaplotypeRows", name := "matches", desc := "(I)I" } : Jvm.MethodName) ({ cls := "HaplotypeRows", name := "matches", desc := "(I)I" } : Jvm.MethodName)) ∈ lw_all := lw_g (lw_at lw_m1 80 rfl) rfl
theorem q105 : (Jvm.Cond.code ({ cls := "HaplotypeRows", name := "matches", desc := "(I)I" } : Jvm.MethodName) prog_1_method_15_code (5 : Nat) (Option.some Jvm.ClassFile.FieldType.int)) ∈ lw_all := lw_g (lw_at lw_m1 81 rfl) rfl
theorem q106 : (Jvm.Cond.methodLink "HaplotypeRows" (56 : Nat) ({ cls := "HaplotypeRows", name := "endingAt", desc := "(II)I" } : Jvm.MethodName)) ∈ lw_all := lw_g (lw_at lw_m1 82 rfl) rfl
theorem q107 : (Jvm.Cond.privateMethod ({ cls := "HaplotypeRows", name := "endingAt", desc := "(II)I" } : Jvm.MethodName)) ∈ lw_tbl := lw_at lw_m1 83 rfl
theorem q108 : (Jvm.Cond.instanceMethod ({ cls := "HaplotypeRows", name := "endingAt", desc := "(II)I" } : Jvm.MethodName)) ∈ lw_all := lw_g (lw_at lw_m1 84 rfl) rfl
theorem q109 : (Jvm.Cond.code ({ cls := "HaplotypeRows", name := "endingAt", desc := "(II)I" } : Jvm.MethodName) prog_1_method_14_code (10 : Nat) (Option.some Jvm.ClassFile.FieldType.int)) ∈ lw_all := lw_g (lw_at lw_m1 85 rfl) rfl
theorem q110 : (Jvm.Cond.methodLink "HaplotypeRows" (52 : Nat) ({ cls := "HaplotypeRows", name := "parts", desc := "(III)Z" } : Jvm.MethodName)) ∈ lw_all := lw_g (lw_at lw_m1 86 rfl) rfl
theorem q111 : (Jvm.Cond.privateMethod ({ cls := "HaplotypeRows", name := "parts", desc := "(III)Z" } : Jvm.MethodName)) ∈ lw_tbl := lw_at lw_m1 87 rfl
theorem q112 : (Jvm.Cond.instanceMethod ({ cls := "HaplotypeRows", name := "parts", desc := "(III)Z" } : Jvm.MethodName)) ∈ lw_all := lw_g (lw_at lw_m1 88 rfl) rfl
theorem q113 : (Jvm.Cond.code ({ cls := "HaplotypeRows", name := "parts", desc := "(III)Z" } : Jvm.MethodName) prog_1_method_13_code (4 : Nat) (Option.some Jvm.ClassFile.FieldType.boolean)) ∈ lw_all := lw_g (lw_at lw_m1 89 rfl) rfl
theorem q115 : (Jvm.Cond.instanceMethod ({ cls := "HaplotypeRows", name := "longest", desc := "(II)I" } : Jvm.MethodName)) ∈ lw_all := lw_g (lw_at lw_m1 91 rfl) rfl
theorem q116 : (Jvm.Cond.selects "HaplotypeRows" ({ cls := "HaplotypeRows", name := "longest", desc := "(II)I" } : Jvm.MethodName) ({ cls := "HaplotypeRows", name := "longest", desc := "(II)I" } : Jvm.MethodName)) ∈ lw_all := lw_g (lw_at lw_m1 92 rfl) rfl
theorem q117 : (Jvm.Cond.code ({ cls := "HaplotypeRows", name := "longest", desc := "(II)I" } : Jvm.MethodName) prog_1_method_18_code (6 : Nat) (Option.some Jvm.ClassFile.FieldType.int)) ∈ lw_all := lw_g (lw_at lw_m1 93 rfl) rfl
theorem q118 : (Jvm.Cond.methodLink "HaplotypeRows" (62 : Nat) ({ cls := "HaplotypeRows", name := "agreeSince", desc := "(III)I" } : Jvm.MethodName)) ∈ lw_all := lw_g (lw_at lw_m1 94 rfl) rfl
theorem q119 : (Jvm.Cond.privateMethod ({ cls := "HaplotypeRows", name := "agreeSince", desc := "(III)I" } : Jvm.MethodName)) ∈ lw_tbl := lw_at lw_m1 95 rfl
theorem q120 : (Jvm.Cond.instanceMethod ({ cls := "HaplotypeRows", name := "agreeSince", desc := "(III)I" } : Jvm.MethodName)) ∈ lw_all := lw_g (lw_at lw_m1 96 rfl) rfl
theorem q121 : (Jvm.Cond.code ({ cls := "HaplotypeRows", name := "agreeSince", desc := "(III)I" } : Jvm.MethodName) prog_1_method_17_code (11 : Nat) (Option.some Jvm.ClassFile.FieldType.int)) ∈ lw_all := lw_g (lw_at lw_m1 97 rfl) rfl
theorem q122 : (Jvm.Cond.methodLink "HaplotypeRows" (59 : Nat) ({ cls := "HaplotypeRows", name := "placeOf", desc := "(II)I" } : Jvm.MethodName)) ∈ lw_all := lw_g (lw_at lw_m1 98 rfl) rfl
theorem q123 : (Jvm.Cond.privateMethod ({ cls := "HaplotypeRows", name := "placeOf", desc := "(II)I" } : Jvm.MethodName)) ∈ lw_tbl := lw_at lw_m1 99 rfl
theorem q124 : (Jvm.Cond.instanceMethod ({ cls := "HaplotypeRows", name := "placeOf", desc := "(II)I" } : Jvm.MethodName)) ∈ lw_all := lw_g (lw_at lw_m1 100 rfl) rfl
theorem q125 : (Jvm.Cond.code ({ cls := "HaplotypeRows", name := "placeOf", desc := "(II)I" } : Jvm.MethodName) prog_1_method_16_code (5 : Nat) (Option.some Jvm.ClassFile.FieldType.int)) ∈ lw_all := lw_g (lw_at lw_m1 101 rfl) rfl
theorem q127 : (Jvm.Cond.instanceMethod ({ cls := "HaplotypeRows", name := "winning", desc := "(I)I" } : Jvm.MethodName)) ∈ lw_all := lw_g (lw_at lw_m1 103 rfl) rfl
theorem q128 : (Jvm.Cond.selects "HaplotypeRows" ({ cls := "HaplotypeRows", name := "winning", desc := "(I)I" } : Jvm.MethodName) ({ cls := "HaplotypeRows", name := "winning", desc := "(I)I" } : Jvm.MethodName)) ∈ lw_all := lw_g (lw_at lw_m1 104 rfl) rfl
theorem q129 : (Jvm.Cond.code ({ cls := "HaplotypeRows", name := "winning", desc := "(I)I" } : Jvm.MethodName) prog_1_method_21_code (5 : Nat) (Option.some Jvm.ClassFile.FieldType.int)) ∈ lw_all := lw_g (lw_at lw_m1 105 rfl) rfl
theorem q130 : (Jvm.Cond.methodLink "HaplotypeRows" (69 : Nat) ({ cls := "HaplotypeRows", name := "winsBefore", desc := "(II)I" } : Jvm.MethodName)) ∈ lw_all := lw_g (lw_at lw_m1 106 rfl) rfl
theorem q131 : (Jvm.Cond.privateMethod ({ cls := "HaplotypeRows", name := "winsBefore", desc := "(II)I" } : Jvm.MethodName)) ∈ lw_tbl := lw_at lw_m1 107 rfl
theorem q132 : (Jvm.Cond.instanceMethod ({ cls := "HaplotypeRows", name := "winsBefore", desc := "(II)I" } : Jvm.MethodName)) ∈ lw_all := lw_g (lw_at lw_m1 108 rfl) rfl
theorem q133 : (Jvm.Cond.code ({ cls := "HaplotypeRows", name := "winsBefore", desc := "(II)I" } : Jvm.MethodName) prog_1_method_20_code (9 : Nat) (Option.some Jvm.ClassFile.FieldType.int)) ∈ lw_all := lw_g (lw_at lw_m1 109 rfl) rfl
theorem q134 : (Jvm.Cond.methodLink "HaplotypeRows" (66 : Nat) ({ cls := "HaplotypeRows", name := "bestSince", desc := "(II)I" } : Jvm.MethodName)) ∈ lw_all := lw_g (lw_at lw_m1 110 rfl) rfl
theorem q135 : (Jvm.Cond.privateMethod ({ cls := "HaplotypeRows", name := "bestSince", desc := "(II)I" } : Jvm.MethodName)) ∈ lw_tbl := lw_at lw_m1 111 rfl
theorem q136 : (Jvm.Cond.instanceMethod ({ cls := "HaplotypeRows", name := "bestSince", desc := "(II)I" } : Jvm.MethodName)) ∈ lw_all := lw_g (lw_at lw_m1 112 rfl) rfl
theorem q137 : (Jvm.Cond.code ({ cls := "HaplotypeRows", name := "bestSince", desc := "(II)I" } : Jvm.MethodName) prog_1_method_19_code (6 : Nat) (Option.some Jvm.ClassFile.FieldType.int)) ∈ lw_all := lw_g (lw_at lw_m1 113 rfl) rfl
theorem q139 : (Jvm.Cond.instanceMethod ({ cls := "HaplotypeRows", name := "cover", desc := "(I)I" } : Jvm.MethodName)) ∈ lw_all := lw_g (lw_at lw_m1 115 rfl) rfl
theorem q140 : (Jvm.Cond.selects "HaplotypeRows" ({ cls := "HaplotypeRows", name := "cover", desc := "(I)I" } : Jvm.MethodName) ({ cls := "HaplotypeRows", name := "cover", desc := "(I)I" } : Jvm.MethodName)) ∈ lw_all := lw_g (lw_at lw_m1 116 rfl) rfl
theorem q141 : (Jvm.Cond.code ({ cls := "HaplotypeRows", name := "cover", desc := "(I)I" } : Jvm.MethodName) prog_1_method_22_code (8 : Nat) (Option.some Jvm.ClassFile.FieldType.int)) ∈ lw_all := lw_g (lw_at lw_m1 117 rfl) rfl
theorem q143 : (Jvm.Cond.instanceMethod ({ cls := "HaplotypeRows", name := "kinds", desc := "(II)I" } : Jvm.MethodName)) ∈ lw_all := lw_g (lw_at lw_m1 119 rfl) rfl
theorem q144 : (Jvm.Cond.selects "HaplotypeRows" ({ cls := "HaplotypeRows", name := "kinds", desc := "(II)I" } : Jvm.MethodName) ({ cls := "HaplotypeRows", name := "kinds", desc := "(II)I" } : Jvm.MethodName)) ∈ lw_all := lw_g (lw_at lw_m1 120 rfl) rfl
theorem q145 : (Jvm.Cond.code ({ cls := "HaplotypeRows", name := "kinds", desc := "(II)I" } : Jvm.MethodName) prog_1_method_23_code (5 : Nat) (Option.some Jvm.ClassFile.FieldType.int)) ∈ lw_all := lw_g (lw_at lw_m1 121 rfl) rfl
theorem q147 : (Jvm.Cond.instanceMethod ({ cls := "HaplotypeRows", name := "having", desc := "(III)I" } : Jvm.MethodName)) ∈ lw_all := lw_g (lw_at lw_m1 123 rfl) rfl
theorem q148 : (Jvm.Cond.selects "HaplotypeRows" ({ cls := "HaplotypeRows", name := "having", desc := "(III)I" } : Jvm.MethodName) ({ cls := "HaplotypeRows", name := "having", desc := "(III)I" } : Jvm.MethodName)) ∈ lw_all := lw_g (lw_at lw_m1 124 rfl) rfl
theorem q149 : (Jvm.Cond.code ({ cls := "HaplotypeRows", name := "having", desc := "(III)I" } : Jvm.MethodName) prog_1_method_24_code (9 : Nat) (Option.some Jvm.ClassFile.FieldType.int)) ∈ lw_all := lw_g (lw_at lw_m1 125 rfl) rfl
theorem q151 : (Jvm.Cond.instanceMethod ({ cls := "HaplotypeRows", name := "fit", desc := "(II)I" } : Jvm.MethodName)) ∈ lw_all := lw_g (lw_at lw_m1 127 rfl) rfl
theorem q152 : (Jvm.Cond.selects "HaplotypeRows" ({ cls := "HaplotypeRows", name := "fit", desc := "(II)I" } : Jvm.MethodName) ({ cls := "HaplotypeRows", name := "fit", desc := "(II)I" } : Jvm.MethodName)) ∈ lw_all := lw_g (lw_at lw_m1 128 rfl) rfl
theorem q153 : (Jvm.Cond.code ({ cls := "HaplotypeRows", name := "fit", desc := "(II)I" } : Jvm.MethodName) prog_1_method_25_code (6 : Nat) (Option.some Jvm.ClassFile.FieldType.int)) ∈ lw_all := lw_g (lw_at lw_m1 129 rfl) rfl
theorem q154 : (Jvm.Cond.methodLink "HaplotypeRows" (72 : Nat) ({ cls := "HaplotypeRows", name := "isBefore", desc := "(III)Z" } : Jvm.MethodName)) ∈ lw_all := lw_g (lw_at lw_m1 130 rfl) rfl
theorem q155 : (Jvm.Cond.privateMethod ({ cls := "HaplotypeRows", name := "isBefore", desc := "(III)Z" } : Jvm.MethodName)) ∈ lw_tbl := lw_at lw_m1 131 rfl
theorem q156 : (Jvm.Cond.instanceMethod ({ cls := "HaplotypeRows", name := "isBefore", desc := "(III)Z" } : Jvm.MethodName)) ∈ lw_all := lw_g (lw_at lw_m1 132 rfl) rfl
theorem q157 : (Jvm.Cond.code ({ cls := "HaplotypeRows", name := "isBefore", desc := "(III)Z" } : Jvm.MethodName) prog_1_method_27_code (5 : Nat) (Option.some Jvm.ClassFile.FieldType.boolean)) ∈ lw_all := lw_g (lw_at lw_m1 133 rfl) rfl
theorem q158 : (Jvm.Cond.methodLink "HaplotypeRows" (75 : Nat) ({ cls := "HaplotypeRows", name := "sameBack", desc := "(III)I" } : Jvm.MethodName)) ∈ lw_all := lw_g (lw_at lw_m1 134 rfl) rfl
theorem q159 : (Jvm.Cond.privateMethod ({ cls := "HaplotypeRows", name := "sameBack", desc := "(III)I" } : Jvm.MethodName)) ∈ lw_tbl := lw_at lw_m1 135 rfl
theorem q160 : (Jvm.Cond.instanceMethod ({ cls := "HaplotypeRows", name := "sameBack", desc := "(III)I" } : Jvm.MethodName)) ∈ lw_all := lw_g (lw_at lw_m1 136 rfl) rfl
theorem q161 : (Jvm.Cond.code ({ cls := "HaplotypeRows", name := "sameBack", desc := "(III)I" } : Jvm.MethodName) prog_1_method_26_code (6 : Nat) (Option.some Jvm.ClassFile.FieldType.int)) ∈ lw_all := lw_g (lw_at lw_m1 137 rfl) rfl
theorem in_X0 : ∀ w ∈ wsX00, w ∈ lw_all := lw_in wsX00 [42, 44, 46, 48, 50, 52, 54] (by decide +kernel) (by decide +kernel)

/-! HaplotypeRowsModel -/
def RX1 : String := "HaplotypeRowsModel"
def TX1 : u_T := fun k => match k with
  | 0 => ("HaplotypeRowsModel", "bits", "[I", true)
  | _ => ("HaplotypeRowsModel", "count", "I", false)
def tyX1 : Nat → FieldType := fun k => match k with
  | 0 => .array .int
  | _ => .int
abbrev wsX10 : List Cond := u_ws RX1 TX1 2
theorem nmX1 : ∀ a, a < 2 → ∀ b, b < 2 → a ≠ b → (TX1 a).2.1 ≠ (TX1 b).2.1 := by decide +kernel
theorem tyX1_ok : ∀ k, k < 2 → parseFieldDescriptor (TX1 k).2.2.1 = some (tyX1 k) := by decide +kernel
abbrev cX1_init : ByteArray := prog_3_method_1_code
def yX1_init : MethodName := ⟨RX1, "<init>", "()V"⟩
abbrev cX1_add : ByteArray := prog_3_method_4_code
def yX1_add : MethodName := ⟨RX1, "add", "(I)I"⟩
abbrev cX1_isBits : ByteArray := prog_3_method_3_code
def yX1_isBits : MethodName := ⟨RX1, "isBits", "(I)Z"⟩
abbrev cX1_remove : ByteArray := prog_3_method_5_code
def yX1_remove : MethodName := ⟨RX1, "remove", "()I"⟩
abbrev cX1_turn : ByteArray := prog_3_method_6_code
def yX1_turn : MethodName := ⟨RX1, "turn", "(II)I"⟩
abbrev cX1_isRow : ByteArray := prog_3_method_2_code
def yX1_isRow : MethodName := ⟨RX1, "isRow", "(I)Z"⟩
abbrev cX1_rows : ByteArray := prog_3_method_7_code
def yX1_rows : MethodName := ⟨RX1, "rows", "()I"⟩
abbrev cX1_ordered : ByteArray := prog_3_method_12_code
def yX1_ordered : MethodName := ⟨RX1, "ordered", "(II)I"⟩
abbrev cX1_isColumn : ByteArray := prog_3_method_11_code
def yX1_isColumn : MethodName := ⟨RX1, "isColumn", "(I)Z"⟩
abbrev cX1_rowAt : ByteArray := prog_3_method_10_code
def yX1_rowAt : MethodName := ⟨RX1, "rowAt", "(II)I"⟩
abbrev cX1_comesBefore : ByteArray := prog_3_method_9_code
def yX1_comesBefore : MethodName := ⟨RX1, "comesBefore", "(III)Z"⟩
abbrev cX1_differ : ByteArray := prog_3_method_8_code
def yX1_differ : MethodName := ⟨RX1, "differ", "(III)Z"⟩
abbrev cX1_since : ByteArray := prog_3_method_14_code
def yX1_since : MethodName := ⟨RX1, "since", "(II)I"⟩
abbrev cX1_agreeFrom : ByteArray := prog_3_method_13_code
def yX1_agreeFrom : MethodName := ⟨RX1, "agreeFrom", "(III)I"⟩
abbrev cX1_matches : ByteArray := prog_3_method_16_code
def yX1_matches : MethodName := ⟨RX1, "matches", "(I)I"⟩
abbrev cX1_agreeMost : ByteArray := prog_3_method_15_code
def yX1_agreeMost : MethodName := ⟨RX1, "agreeMost", "(IIII)Z"⟩
abbrev cX1_longest : ByteArray := prog_3_method_17_code
def yX1_longest : MethodName := ⟨RX1, "longest", "(II)I"⟩
abbrev cX1_winning : ByteArray := prog_3_method_20_code
def yX1_winning : MethodName := ⟨RX1, "winning", "(I)I"⟩
abbrev cX1_isBeaten : ByteArray := prog_3_method_19_code
def yX1_isBeaten : MethodName := ⟨RX1, "isBeaten", "(III)Z"⟩
abbrev cX1_agree : ByteArray := prog_3_method_18_code
def yX1_agree : MethodName := ⟨RX1, "agree", "(IIII)Z"⟩
abbrev cX1_cover : ByteArray := prog_3_method_22_code
def yX1_cover : MethodName := ⟨RX1, "cover", "(I)I"⟩
abbrev cX1_widestOver : ByteArray := prog_3_method_21_code
def yX1_widestOver : MethodName := ⟨RX1, "widestOver", "(II)I"⟩
abbrev cX1_kinds : ByteArray := prog_3_method_23_code
def yX1_kinds : MethodName := ⟨RX1, "kinds", "(II)I"⟩
abbrev cX1_having : ByteArray := prog_3_method_24_code
def yX1_having : MethodName := ⟨RX1, "having", "(III)I"⟩
abbrev cX1_fit : ByteArray := prog_3_method_25_code
def yX1_fit : MethodName := ⟨RX1, "fit", "(II)I"⟩
theorem q26 : (Jvm.Cond.initialized "HaplotypeRowsModel") ∈ lw_all := lw_g (lw_at lw_m1 2 rfl) rfl
theorem q163 : (Jvm.Cond.instantiable "HaplotypeRowsModel" (2 : Nat)) ∈ lw_all := lw_g (lw_at lw_m1 139 rfl) rfl
theorem q165 : (Jvm.Cond.instanceMethod ({ cls := "HaplotypeRowsModel", name := "<init>", desc := "()V" } : Jvm.MethodName)) ∈ lw_all := lw_g (lw_at lw_m1 141 rfl) rfl
theorem q166 : (Jvm.Cond.code ({ cls := "HaplotypeRowsModel", name := "<init>", desc := "()V" } : Jvm.MethodName) prog_3_method_1_code (1 : Nat) (Option.none : Option Jvm.ClassFile.FieldType)) ∈ lw_all := lw_g (lw_at lw_m1 142 rfl) rfl
theorem q167 : (Jvm.Cond.methodLink "HaplotypeRowsModel" (1 : Nat) ({ cls := "java/lang/Object", name := "<init>", desc := "()V" } : Jvm.MethodName)) ∈ lw_all := lw_g (lw_at lw_m1 143 rfl) rfl
theorem q168 : (Jvm.Cond.fieldLink "HaplotypeRowsModel" (7 : Nat) "HaplotypeRowsModel" "bits" "[I") ∈ lw_all := lw_g (lw_at lw_m1 144 rfl) rfl
theorem q169 : (Jvm.Cond.fieldLink "HaplotypeRowsModel" (13 : Nat) "HaplotypeRowsModel" "count" "I") ∈ lw_all := lw_g (lw_at lw_m1 145 rfl) rfl
theorem q170 : (Jvm.Cond.laysFinal "HaplotypeRowsModel" "HaplotypeRowsModel" "bits" "[I") ∈ lw_all := lw_g (lw_at lw_m1 146 rfl) rfl
theorem q171 : (Jvm.Cond.soleField "HaplotypeRowsModel" "bits") ∈ lw_all := lw_g (lw_at lw_m1 147 rfl) rfl
theorem q172 : (Jvm.Cond.lays "HaplotypeRowsModel" "HaplotypeRowsModel" "count" "I") ∈ lw_all := lw_g (lw_at lw_m1 148 rfl) rfl
theorem q173 : (Jvm.Cond.soleField "HaplotypeRowsModel" "count") ∈ lw_all := lw_g (lw_at lw_m1 149 rfl) rfl
theorem q174 : (Jvm.Cond.superclass "HaplotypeRowsModel" "java/lang/Object") ∈ lw_all := lw_g (lw_at lw_m1 150 rfl) rfl
theorem q176 : (Jvm.Cond.instanceMethod ({ cls := "HaplotypeRowsModel", name := "add", desc := "(I)I" } : Jvm.MethodName)) ∈ lw_all := lw_g (lw_at lw_m1 152 rfl) rfl
theorem q177 : (Jvm.Cond.selects "HaplotypeRowsModel" ({ cls := "HaplotypeRowsModel", name := "add", desc := "(I)I" } : Jvm.MethodName) ({ cls := "HaplotypeRowsModel", name := "add", desc := "(I)I" } : Jvm.MethodName)) ∈ lw_all := lw_g (lw_at lw_m1 153 rfl) rfl
theorem q178 : (Jvm.Cond.code ({ cls := "HaplotypeRowsModel", name := "add", desc := "(I)I" } : Jvm.MethodName) prog_3_method_4_code (2 : Nat) (Option.some Jvm.ClassFile.FieldType.int)) ∈ lw_all := lw_g (lw_at lw_m1 154 rfl) rfl
theorem q179 : (Jvm.Cond.methodLink "HaplotypeRowsModel" (17 : Nat) ({ cls := "HaplotypeRowsModel", name := "isBits", desc := "(I)Z" } : Jvm.MethodName)) ∈ lw_all := lw_g (lw_at lw_m1 155 rfl) rfl
theorem q180 : (Jvm.Cond.privateMethod ({ cls := "HaplotypeRowsModel", name := "isBits", desc := "(I)Z" } : Jvm.MethodName)) ∈ lw_tbl := lw_at lw_m1 156 rfl
theorem q181 : (Jvm.Cond.instanceMethod ({ cls := "HaplotypeRowsModel", name := "isBits", desc := "(I)Z" } : Jvm.MethodName)) ∈ lw_all := lw_g (lw_at lw_m1 157 rfl) rfl
theorem q182 : (Jvm.Cond.code ({ cls := "HaplotypeRowsModel", name := "isBits", desc := "(I)Z" } : Jvm.MethodName) prog_3_method_3_code (2 : Nat) (Option.some Jvm.ClassFile.FieldType.boolean)) ∈ lw_all := lw_g (lw_at lw_m1 158 rfl) rfl
theorem q184 : (Jvm.Cond.instanceMethod ({ cls := "HaplotypeRowsModel", name := "remove", desc := "()I" } : Jvm.MethodName)) ∈ lw_all := lw_g (lw_at lw_m1 160 rfl) rfl
theorem q185 : (Jvm.Cond.selects "HaplotypeRowsModel" ({ cls := "HaplotypeRowsModel", name := "remove", desc := "()I" } : Jvm.MethodName) ({ cls := "HaplotypeRowsModel", name := "remove", desc := "()I" } : Jvm.MethodName)) ∈ lw_all := lw_g (lw_at lw_m1 161 rfl) rfl
theorem q186 : (Jvm.Cond.code ({ cls := "HaplotypeRowsModel", name := "remove", desc := "()I" } : Jvm.MethodName) prog_3_method_5_code (1 : Nat) (Option.some Jvm.ClassFile.FieldType.int)) ∈ lw_all := lw_g (lw_at lw_m1 162 rfl) rfl
theorem q188 : (Jvm.Cond.instanceMethod ({ cls := "HaplotypeRowsModel", name := "turn", desc := "(II)I" } : Jvm.MethodName)) ∈ lw_all := lw_g (lw_at lw_m1 164 rfl) rfl
theorem q189 : (Jvm.Cond.selects "HaplotypeRowsModel" ({ cls := "HaplotypeRowsModel", name := "turn", desc := "(II)I" } : Jvm.MethodName) ({ cls := "HaplotypeRowsModel", name := "turn", desc := "(II)I" } : Jvm.MethodName)) ∈ lw_all := lw_g (lw_at lw_m1 165 rfl) rfl
theorem q190 : (Jvm.Cond.code ({ cls := "HaplotypeRowsModel", name := "turn", desc := "(II)I" } : Jvm.MethodName) prog_3_method_6_code (3 : Nat) (Option.some Jvm.ClassFile.FieldType.int)) ∈ lw_all := lw_g (lw_at lw_m1 166 rfl) rfl
theorem q191 : (Jvm.Cond.methodLink "HaplotypeRowsModel" (21 : Nat) ({ cls := "HaplotypeRowsModel", name := "isRow", desc := "(I)Z" } : Jvm.MethodName)) ∈ lw_all := lw_g (lw_at lw_m1 167 rfl) rfl
theorem q192 : (Jvm.Cond.privateMethod ({ cls := "HaplotypeRowsModel", name := "isRow", desc := "(I)Z" } : Jvm.MethodName)) ∈ lw_tbl := lw_at lw_m1 168 rfl
theorem q193 : (Jvm.Cond.instanceMethod ({ cls := "HaplotypeRowsModel", name := "isRow", desc := "(I)Z" } : Jvm.MethodName)) ∈ lw_all := lw_g (lw_at lw_m1 169 rfl) rfl
theorem q194 : (Jvm.Cond.code ({ cls := "HaplotypeRowsModel", name := "isRow", desc := "(I)Z" } : Jvm.MethodName) prog_3_method_2_code (2 : Nat) (Option.some Jvm.ClassFile.FieldType.boolean)) ∈ lw_all := lw_g (lw_at lw_m1 170 rfl) rfl
theorem q196 : (Jvm.Cond.instanceMethod ({ cls := "HaplotypeRowsModel", name := "rows", desc := "()I" } : Jvm.MethodName)) ∈ lw_all := lw_g (lw_at lw_m1 172 rfl) rfl
theorem q197 : (Jvm.Cond.selects "HaplotypeRowsModel" ({ cls := "HaplotypeRowsModel", name := "rows", desc := "()I" } : Jvm.MethodName) ({ cls := "HaplotypeRowsModel", name := "rows", desc := "()I" } : Jvm.MethodName)) ∈ lw_all := lw_g (lw_at lw_m1 173 rfl) rfl
theorem q198 : (Jvm.Cond.code ({ cls := "HaplotypeRowsModel", name := "rows", desc := "()I" } : Jvm.MethodName) prog_3_method_7_code (1 : Nat) (Option.some Jvm.ClassFile.FieldType.int)) ∈ lw_all := lw_g (lw_at lw_m1 174 rfl) rfl
theorem q200 : (Jvm.Cond.instanceMethod ({ cls := "HaplotypeRowsModel", name := "ordered", desc := "(II)I" } : Jvm.MethodName)) ∈ lw_all := lw_g (lw_at lw_m1 176 rfl) rfl
theorem q201 : (Jvm.Cond.selects "HaplotypeRowsModel" ({ cls := "HaplotypeRowsModel", name := "ordered", desc := "(II)I" } : Jvm.MethodName) ({ cls := "HaplotypeRowsModel", name := "ordered", desc := "(II)I" } : Jvm.MethodName)) ∈ lw_all := lw_g (lw_at lw_m1 177 rfl) rfl
theorem q202 : (Jvm.Cond.code ({ cls := "HaplotypeRowsModel", name := "ordered", desc := "(II)I" } : Jvm.MethodName) prog_3_method_12_code (3 : Nat) (Option.some Jvm.ClassFile.FieldType.int)) ∈ lw_all := lw_g (lw_at lw_m1 178 rfl) rfl
theorem q203 : (Jvm.Cond.methodLink "HaplotypeRowsModel" (31 : Nat) ({ cls := "HaplotypeRowsModel", name := "isColumn", desc := "(I)Z" } : Jvm.MethodName)) ∈ lw_all := lw_g (lw_at lw_m1 179 rfl) rfl
theorem q204 : (Jvm.Cond.privateMethod ({ cls := "HaplotypeRowsModel", name := "isColumn", desc := "(I)Z" } : Jvm.MethodName)) ∈ lw_tbl := lw_at lw_m1 180 rfl
theorem q205 : (Jvm.Cond.instanceMethod ({ cls := "HaplotypeRowsModel", name := "isColumn", desc := "(I)Z" } : Jvm.MethodName)) ∈ lw_all := lw_g (lw_at lw_m1 181 rfl) rfl
theorem q206 : (Jvm.Cond.code ({ cls := "HaplotypeRowsModel", name := "isColumn", desc := "(I)Z" } : Jvm.MethodName) prog_3_method_11_code (2 : Nat) (Option.some Jvm.ClassFile.FieldType.boolean)) ∈ lw_all := lw_g (lw_at lw_m1 182 rfl) rfl
theorem q207 : (Jvm.Cond.methodLink "HaplotypeRowsModel" (34 : Nat) ({ cls := "HaplotypeRowsModel", name := "rowAt", desc := "(II)I" } : Jvm.MethodName)) ∈ lw_all := lw_g (lw_at lw_m1 183 rfl) rfl
theorem q208 : (Jvm.Cond.privateMethod ({ cls := "HaplotypeRowsModel", name := "rowAt", desc := "(II)I" } : Jvm.MethodName)) ∈ lw_tbl := lw_at lw_m1 184 rfl
theorem q209 : (Jvm.Cond.instanceMethod ({ cls := "HaplotypeRowsModel", name := "rowAt", desc := "(II)I" } : Jvm.MethodName)) ∈ lw_all := lw_g (lw_at lw_m1 185 rfl) rfl
theorem q210 : (Jvm.Cond.code ({ cls := "HaplotypeRowsModel", name := "rowAt", desc := "(II)I" } : Jvm.MethodName) prog_3_method_10_code (6 : Nat) (Option.some Jvm.ClassFile.FieldType.int)) ∈ lw_all := lw_g (lw_at lw_m1 186 rfl) rfl
theorem q211 : (Jvm.Cond.methodLink "HaplotypeRowsModel" (28 : Nat) ({ cls := "HaplotypeRowsModel", name := "comesBefore", desc := "(III)Z" } : Jvm.MethodName)) ∈ lw_all := lw_g (lw_at lw_m1 187 rfl) rfl
theorem q212 : (Jvm.Cond.privateMethod ({ cls := "HaplotypeRowsModel", name := "comesBefore", desc := "(III)Z" } : Jvm.MethodName)) ∈ lw_tbl := lw_at lw_m1 188 rfl
theorem q213 : (Jvm.Cond.instanceMethod ({ cls := "HaplotypeRowsModel", name := "comesBefore", desc := "(III)Z" } : Jvm.MethodName)) ∈ lw_all := lw_g (lw_at lw_m1 189 rfl) rfl
theorem q214 : (Jvm.Cond.code ({ cls := "HaplotypeRowsModel", name := "comesBefore", desc := "(III)Z" } : Jvm.MethodName) prog_3_method_9_code (5 : Nat) (Option.some Jvm.ClassFile.FieldType.boolean)) ∈ lw_all := lw_g (lw_at lw_m1 190 rfl) rfl
theorem q215 : (Jvm.Cond.methodLink "HaplotypeRowsModel" (24 : Nat) ({ cls := "HaplotypeRowsModel", name := "differ", desc := "(III)Z" } : Jvm.MethodName)) ∈ lw_all := lw_g (lw_at lw_m1 191 rfl) rfl
theorem q216 : (Jvm.Cond.privateMethod ({ cls := "HaplotypeRowsModel", name := "differ", desc := "(III)Z" } : Jvm.MethodName)) ∈ lw_tbl := lw_at lw_m1 192 rfl
theorem q217 : (Jvm.Cond.instanceMethod ({ cls := "HaplotypeRowsModel", name := "differ", desc := "(III)Z" } : Jvm.MethodName)) ∈ lw_all := lw_g (lw_at lw_m1 193 rfl) rfl
theorem q218 : (Jvm.Cond.code ({ cls := "HaplotypeRowsModel", name := "differ", desc := "(III)Z" } : Jvm.MethodName) prog_3_method_8_code (4 : Nat) (Option.some Jvm.ClassFile.FieldType.boolean)) ∈ lw_all := lw_g (lw_at lw_m1 194 rfl) rfl
theorem q220 : (Jvm.Cond.instanceMethod ({ cls := "HaplotypeRowsModel", name := "since", desc := "(II)I" } : Jvm.MethodName)) ∈ lw_all := lw_g (lw_at lw_m1 196 rfl) rfl
theorem q221 : (Jvm.Cond.selects "HaplotypeRowsModel" ({ cls := "HaplotypeRowsModel", name := "since", desc := "(II)I" } : Jvm.MethodName) ({ cls := "HaplotypeRowsModel", name := "since", desc := "(II)I" } : Jvm.MethodName)) ∈ lw_all := lw_g (lw_at lw_m1 197 rfl) rfl
theorem q222 : (Jvm.Cond.code ({ cls := "HaplotypeRowsModel", name := "since", desc := "(II)I" } : Jvm.MethodName) prog_3_method_14_code (4 : Nat) (Option.some Jvm.ClassFile.FieldType.int)) ∈ lw_all := lw_g (lw_at lw_m1 198 rfl) rfl
theorem q223 : (Jvm.Cond.methodLink "HaplotypeRowsModel" (38 : Nat) ({ cls := "HaplotypeRowsModel", name := "ordered", desc := "(II)I" } : Jvm.MethodName)) ∈ lw_all := lw_g (lw_at lw_m1 199 rfl) rfl
theorem q224 : (Jvm.Cond.methodLink "HaplotypeRowsModel" (41 : Nat) ({ cls := "HaplotypeRowsModel", name := "agreeFrom", desc := "(III)I" } : Jvm.MethodName)) ∈ lw_all := lw_g (lw_at lw_m1 200 rfl) rfl
theorem q225 : (Jvm.Cond.privateMethod ({ cls := "HaplotypeRowsModel", name := "agreeFrom", desc := "(III)I" } : Jvm.MethodName)) ∈ lw_tbl := lw_at lw_m1 201 rfl
theorem q226 : (Jvm.Cond.instanceMethod ({ cls := "HaplotypeRowsModel", name := "agreeFrom", desc := "(III)I" } : Jvm.MethodName)) ∈ lw_all := lw_g (lw_at lw_m1 202 rfl) rfl
theorem q227 : (Jvm.Cond.code ({ cls := "HaplotypeRowsModel", name := "agreeFrom", desc := "(III)I" } : Jvm.MethodName) prog_3_method_13_code (5 : Nat) (Option.some Jvm.ClassFile.FieldType.int)) ∈ lw_all := lw_g (lw_at lw_m1 203 rfl) rfl
theorem q229 : (Jvm.Cond.instanceMethod ({ cls := "HaplotypeRowsModel", name := "matches", desc := "(I)I" } : Jvm.MethodName)) ∈ lw_all := lw_g (lw_at lw_m1 205 rfl) rfl
theorem q230 : (Jvm.Cond.selects "HaplotypeRowsModel" ({ cls := "HaplotypeRowsModel", name := "matches", desc := "(I)I" } : Jvm.MethodName) ({ cls := "HaplotypeRowsModel", name := "matches", desc := "(I)I" } : Jvm.MethodName)) ∈ lw_all := lw_g (lw_at lw_m1 206 rfl) rfl
theorem q231 : (Jvm.Cond.code ({ cls := "HaplotypeRowsModel", name := "matches", desc := "(I)I" } : Jvm.MethodName) prog_3_method_16_code (10 : Nat) (Option.some Jvm.ClassFile.FieldType.int)) ∈ lw_all := lw_g (lw_at lw_m1 207 rfl) rfl
theorem q232 : (Jvm.Cond.methodLink "HaplotypeRowsModel" (45 : Nat) ({ cls := "HaplotypeRowsModel", name := "agreeMost", desc := "(IIII)Z" } : Jvm.MethodName)) ∈ lw_all := lw_g (lw_at lw_m1 208 rfl) rfl
theorem q233 : (Jvm.Cond.privateMethod ({ cls := "HaplotypeRowsModel", name := "agreeMost", desc := "(IIII)Z" } : Jvm.MethodName)) ∈ lw_tbl := lw_at lw_m1 209 rfl
theorem q234 : (Jvm.Cond.instanceMethod ({ cls := "HaplotypeRowsModel", name := "agreeMost", desc := "(IIII)Z" } : Jvm.MethodName)) ∈ lw_all := lw_g (lw_at lw_m1 210 rfl) rfl
theorem q235 : (Jvm.Cond.code ({ cls := "HaplotypeRowsModel", name := "agreeMost", desc := "(IIII)Z" } : Jvm.MethodName) prog_3_method_15_code (5 : Nat) (Option.some Jvm.ClassFile.FieldType.boolean)) ∈ lw_all := lw_g (lw_at lw_m1 211 rfl) rfl
theorem q237 : (Jvm.Cond.instanceMethod ({ cls := "HaplotypeRowsModel", name := "longest", desc := "(II)I" } : Jvm.MethodName)) ∈ lw_all := lw_g (lw_at lw_m1 213 rfl) rfl
theorem q238 : (Jvm.Cond.selects "HaplotypeRowsModel" ({ cls := "HaplotypeRowsModel", name := "longest", desc := "(II)I" } : Jvm.MethodName) ({ cls := "HaplotypeRowsModel", name := "longest", desc := "(II)I" } : Jvm.MethodName)) ∈ lw_all := lw_g (lw_at lw_m1 214 rfl) rfl
theorem q239 : (Jvm.Cond.code ({ cls := "HaplotypeRowsModel", name := "longest", desc := "(II)I" } : Jvm.MethodName) prog_3_method_17_code (6 : Nat) (Option.some Jvm.ClassFile.FieldType.int)) ∈ lw_all := lw_g (lw_at lw_m1 215 rfl) rfl
theorem q241 : (Jvm.Cond.instanceMethod ({ cls := "HaplotypeRowsModel", name := "winning", desc := "(I)I" } : Jvm.MethodName)) ∈ lw_all := lw_g (lw_at lw_m1 217 rfl) rfl
theorem q242 : (Jvm.Cond.selects "HaplotypeRowsModel" ({ cls := "HaplotypeRowsModel", name := "winning", desc := "(I)I" } : Jvm.MethodName) ({ cls := "HaplotypeRowsModel", name := "winning", desc := "(I)I" } : Jvm.MethodName)) ∈ lw_all := lw_g (lw_at lw_m1 218 rfl) rfl
theorem q243 : (Jvm.Cond.code ({ cls := "HaplotypeRowsModel", name := "winning", desc := "(I)I" } : Jvm.MethodName) prog_3_method_20_code (7 : Nat) (Option.some Jvm.ClassFile.FieldType.int)) ∈ lw_all := lw_g (lw_at lw_m1 219 rfl) rfl
theorem q244 : (Jvm.Cond.methodLink "HaplotypeRowsModel" (52 : Nat) ({ cls := "HaplotypeRowsModel", name := "isBeaten", desc := "(III)Z" } : Jvm.MethodName)) ∈ lw_all := lw_g (lw_at lw_m1 220 rfl) rfl
theorem q245 : (Jvm.Cond.privateMethod ({ cls := "HaplotypeRowsModel", name := "isBeaten", desc := "(III)Z" } : Jvm.MethodName)) ∈ lw_tbl := lw_at lw_m1 221 rfl
theorem q246 : (Jvm.Cond.instanceMethod ({ cls := "HaplotypeRowsModel", name := "isBeaten", desc := "(III)Z" } : Jvm.MethodName)) ∈ lw_all := lw_g (lw_at lw_m1 222 rfl) rfl
theorem q247 : (Jvm.Cond.code ({ cls := "HaplotypeRowsModel", name := "isBeaten", desc := "(III)Z" } : Jvm.MethodName) prog_3_method_19_code (6 : Nat) (Option.some Jvm.ClassFile.FieldType.boolean)) ∈ lw_all := lw_g (lw_at lw_m1 223 rfl) rfl
theorem q248 : (Jvm.Cond.methodLink "HaplotypeRowsModel" (49 : Nat) ({ cls := "HaplotypeRowsModel", name := "agree", desc := "(IIII)Z" } : Jvm.MethodName)) ∈ lw_all := lw_g (lw_at lw_m1 224 rfl) rfl
theorem q249 : (Jvm.Cond.privateMethod ({ cls := "HaplotypeRowsModel", name := "agree", desc := "(IIII)Z" } : Jvm.MethodName)) ∈ lw_tbl := lw_at lw_m1 225 rfl
theorem q250 : (Jvm.Cond.instanceMethod ({ cls := "HaplotypeRowsModel", name := "agree", desc := "(IIII)Z" } : Jvm.MethodName)) ∈ lw_all := lw_g (lw_at lw_m1 226 rfl) rfl
theorem q251 : (Jvm.Cond.code ({ cls := "HaplotypeRowsModel", name := "agree", desc := "(IIII)Z" } : Jvm.MethodName) prog_3_method_18_code (5 : Nat) (Option.some Jvm.ClassFile.FieldType.boolean)) ∈ lw_all := lw_g (lw_at lw_m1 227 rfl) rfl
theorem q253 : (Jvm.Cond.instanceMethod ({ cls := "HaplotypeRowsModel", name := "cover", desc := "(I)I" } : Jvm.MethodName)) ∈ lw_all := lw_g (lw_at lw_m1 229 rfl) rfl
theorem q254 : (Jvm.Cond.selects "HaplotypeRowsModel" ({ cls := "HaplotypeRowsModel", name := "cover", desc := "(I)I" } : Jvm.MethodName) ({ cls := "HaplotypeRowsModel", name := "cover", desc := "(I)I" } : Jvm.MethodName)) ∈ lw_all := lw_g (lw_at lw_m1 230 rfl) rfl
theorem q255 : (Jvm.Cond.code ({ cls := "HaplotypeRowsModel", name := "cover", desc := "(I)I" } : Jvm.MethodName) prog_3_method_22_code (4 : Nat) (Option.some Jvm.ClassFile.FieldType.int)) ∈ lw_all := lw_g (lw_at lw_m1 231 rfl) rfl
theorem q256 : (Jvm.Cond.methodLink "HaplotypeRowsModel" (55 : Nat) ({ cls := "HaplotypeRowsModel", name := "widestOver", desc := "(II)I" } : Jvm.MethodName)) ∈ lw_all := lw_g (lw_at lw_m1 232 rfl) rfl
theorem q257 : (Jvm.Cond.privateMethod ({ cls := "HaplotypeRowsModel", name := "widestOver", desc := "(II)I" } : Jvm.MethodName)) ∈ lw_tbl := lw_at lw_m1 233 rfl
theorem q258 : (Jvm.Cond.instanceMethod ({ cls := "HaplotypeRowsModel", name := "widestOver", desc := "(II)I" } : Jvm.MethodName)) ∈ lw_all := lw_g (lw_at lw_m1 234 rfl) rfl
theorem q259 : (Jvm.Cond.code ({ cls := "HaplotypeRowsModel", name := "widestOver", desc := "(II)I" } : Jvm.MethodName) prog_3_method_21_code (7 : Nat) (Option.some Jvm.ClassFile.FieldType.int)) ∈ lw_all := lw_g (lw_at lw_m1 235 rfl) rfl
theorem q261 : (Jvm.Cond.instanceMethod ({ cls := "HaplotypeRowsModel", name := "kinds", desc := "(II)I" } : Jvm.MethodName)) ∈ lw_all := lw_g (lw_at lw_m1 237 rfl) rfl
theorem q262 : (Jvm.Cond.selects "HaplotypeRowsModel" ({ cls := "HaplotypeRowsModel", name := "kinds", desc := "(II)I" } : Jvm.MethodName) ({ cls := "HaplotypeRowsModel", name := "kinds", desc := "(II)I" } : Jvm.MethodName)) ∈ lw_all := lw_g (lw_at lw_m1 238 rfl) rfl
theorem q263 : (Jvm.Cond.code ({ cls := "HaplotypeRowsModel", name := "kinds", desc := "(II)I" } : Jvm.MethodName) prog_3_method_23_code (7 : Nat) (Option.some Jvm.ClassFile.FieldType.int)) ∈ lw_all := lw_g (lw_at lw_m1 239 rfl) rfl
theorem q265 : (Jvm.Cond.instanceMethod ({ cls := "HaplotypeRowsModel", name := "having", desc := "(III)I" } : Jvm.MethodName)) ∈ lw_all := lw_g (lw_at lw_m2 1 rfl) rfl
theorem q266 : (Jvm.Cond.selects "HaplotypeRowsModel" ({ cls := "HaplotypeRowsModel", name := "having", desc := "(III)I" } : Jvm.MethodName) ({ cls := "HaplotypeRowsModel", name := "having", desc := "(III)I" } : Jvm.MethodName)) ∈ lw_all := lw_g (lw_at lw_m2 2 rfl) rfl
theorem q267 : (Jvm.Cond.code ({ cls := "HaplotypeRowsModel", name := "having", desc := "(III)I" } : Jvm.MethodName) prog_3_method_24_code (7 : Nat) (Option.some Jvm.ClassFile.FieldType.int)) ∈ lw_all := lw_g (lw_at lw_m2 3 rfl) rfl
theorem q269 : (Jvm.Cond.instanceMethod ({ cls := "HaplotypeRowsModel", name := "fit", desc := "(II)I" } : Jvm.MethodName)) ∈ lw_all := lw_g (lw_at lw_m2 5 rfl) rfl
theorem q270 : (Jvm.Cond.selects "HaplotypeRowsModel" ({ cls := "HaplotypeRowsModel", name := "fit", desc := "(II)I" } : Jvm.MethodName) ({ cls := "HaplotypeRowsModel", name := "fit", desc := "(II)I" } : Jvm.MethodName)) ∈ lw_all := lw_g (lw_at lw_m2 6 rfl) rfl
theorem q271 : (Jvm.Cond.code ({ cls := "HaplotypeRowsModel", name := "fit", desc := "(II)I" } : Jvm.MethodName) prog_3_method_25_code (6 : Nat) (Option.some Jvm.ClassFile.FieldType.int)) ∈ lw_all := lw_g (lw_at lw_m2 7 rfl) rfl
theorem in_X1 : ∀ w ∈ wsX10, w ∈ lw_all := lw_in wsX10 [170, 172] (by decide +kernel) (by decide +kernel)

/-! the law's own entry -/
abbrev cL_law : ByteArray := code

/-! java/lang/Object -/
def RJ0 : String := "java/lang/Object"
abbrev cJ0_init : ByteArray := object_method_1_code
def yJ0_init : MethodName := ⟨RJ0, "<init>", "()V"⟩
theorem dJ0_init_0 : decode cJ0_init 0 = .ok (.return_, 1) := by decide +kernel
theorem q33 : (Jvm.Cond.instanceMethod ({ cls := "java/lang/Object", name := "<init>", desc := "()V" } : Jvm.MethodName)) ∈ lw_all := lw_g (lw_at lw_m1 9 rfl) rfl
theorem q34 : (Jvm.Cond.code ({ cls := "java/lang/Object", name := "<init>", desc := "()V" } : Jvm.MethodName) object_method_1_code (1 : Nat) (Option.none : Option Jvm.ClassFile.FieldType)) ∈ lw_all := lw_g (lw_at lw_m1 10 rfl) rfl

theorem q24 : (Jvm.Cond.initialized "HaplotypeRowsLaw") ∈ lw_all := lw_g (lw_at lw_m1 0 rfl) rfl
theorem q27 : (Jvm.Cond.classLink "HaplotypeRowsLaw" (7 : Nat) "HaplotypeRows") ∈ lw_all := lw_g (lw_at lw_m1 3 rfl) rfl
theorem q29 : (Jvm.Cond.methodLink "HaplotypeRowsLaw" (9 : Nat) ({ cls := "HaplotypeRows", name := "<init>", desc := "()V" } : Jvm.MethodName)) ∈ lw_all := lw_g (lw_at lw_m1 5 rfl) rfl
theorem q58 : (Jvm.Cond.methodLink "HaplotypeRowsLaw" (13 : Nat) ({ cls := "HaplotypeRows", name := "add", desc := "(I)I" } : Jvm.MethodName)) ∈ lw_all := lw_g (lw_at lw_m1 34 rfl) rfl
theorem q62 : (Jvm.Cond.methodLink "HaplotypeRowsLaw" (18 : Nat) ({ cls := "HaplotypeRows", name := "remove", desc := "()I" } : Jvm.MethodName)) ∈ lw_all := lw_g (lw_at lw_m1 38 rfl) rfl
theorem q66 : (Jvm.Cond.methodLink "HaplotypeRowsLaw" (23 : Nat) ({ cls := "HaplotypeRows", name := "turn", desc := "(II)I" } : Jvm.MethodName)) ∈ lw_all := lw_g (lw_at lw_m1 42 rfl) rfl
theorem q78 : (Jvm.Cond.methodLink "HaplotypeRowsLaw" (28 : Nat) ({ cls := "HaplotypeRows", name := "rows", desc := "()I" } : Jvm.MethodName)) ∈ lw_all := lw_g (lw_at lw_m1 54 rfl) rfl
theorem q82 : (Jvm.Cond.methodLink "HaplotypeRowsLaw" (32 : Nat) ({ cls := "HaplotypeRows", name := "ordered", desc := "(II)I" } : Jvm.MethodName)) ∈ lw_all := lw_g (lw_at lw_m1 58 rfl) rfl
theorem q98 : (Jvm.Cond.methodLink "HaplotypeRowsLaw" (36 : Nat) ({ cls := "HaplotypeRows", name := "since", desc := "(II)I" } : Jvm.MethodName)) ∈ lw_all := lw_g (lw_at lw_m1 74 rfl) rfl
theorem q102 : (Jvm.Cond.methodLink "HaplotypeRowsLaw" (40 : Nat) ({ cls := "HaplotypeRows", name := "matches", desc := "(I)I" } : Jvm.MethodName)) ∈ lw_all := lw_g (lw_at lw_m1 78 rfl) rfl
theorem q114 : (Jvm.Cond.methodLink "HaplotypeRowsLaw" (44 : Nat) ({ cls := "HaplotypeRows", name := "longest", desc := "(II)I" } : Jvm.MethodName)) ∈ lw_all := lw_g (lw_at lw_m1 90 rfl) rfl
theorem q126 : (Jvm.Cond.methodLink "HaplotypeRowsLaw" (48 : Nat) ({ cls := "HaplotypeRows", name := "winning", desc := "(I)I" } : Jvm.MethodName)) ∈ lw_all := lw_g (lw_at lw_m1 102 rfl) rfl
theorem q138 : (Jvm.Cond.methodLink "HaplotypeRowsLaw" (52 : Nat) ({ cls := "HaplotypeRows", name := "cover", desc := "(I)I" } : Jvm.MethodName)) ∈ lw_all := lw_g (lw_at lw_m1 114 rfl) rfl
theorem q142 : (Jvm.Cond.methodLink "HaplotypeRowsLaw" (56 : Nat) ({ cls := "HaplotypeRows", name := "kinds", desc := "(II)I" } : Jvm.MethodName)) ∈ lw_all := lw_g (lw_at lw_m1 118 rfl) rfl
theorem q146 : (Jvm.Cond.methodLink "HaplotypeRowsLaw" (60 : Nat) ({ cls := "HaplotypeRows", name := "having", desc := "(III)I" } : Jvm.MethodName)) ∈ lw_all := lw_g (lw_at lw_m1 122 rfl) rfl
theorem q150 : (Jvm.Cond.methodLink "HaplotypeRowsLaw" (65 : Nat) ({ cls := "HaplotypeRows", name := "fit", desc := "(II)I" } : Jvm.MethodName)) ∈ lw_all := lw_g (lw_at lw_m1 126 rfl) rfl
theorem q162 : (Jvm.Cond.classLink "HaplotypeRowsLaw" (10 : Nat) "HaplotypeRowsModel") ∈ lw_all := lw_g (lw_at lw_m1 138 rfl) rfl
theorem q164 : (Jvm.Cond.methodLink "HaplotypeRowsLaw" (12 : Nat) ({ cls := "HaplotypeRowsModel", name := "<init>", desc := "()V" } : Jvm.MethodName)) ∈ lw_all := lw_g (lw_at lw_m1 140 rfl) rfl
theorem q175 : (Jvm.Cond.methodLink "HaplotypeRowsLaw" (17 : Nat) ({ cls := "HaplotypeRowsModel", name := "add", desc := "(I)I" } : Jvm.MethodName)) ∈ lw_all := lw_g (lw_at lw_m1 151 rfl) rfl
theorem q183 : (Jvm.Cond.methodLink "HaplotypeRowsLaw" (22 : Nat) ({ cls := "HaplotypeRowsModel", name := "remove", desc := "()I" } : Jvm.MethodName)) ∈ lw_all := lw_g (lw_at lw_m1 159 rfl) rfl
theorem q187 : (Jvm.Cond.methodLink "HaplotypeRowsLaw" (27 : Nat) ({ cls := "HaplotypeRowsModel", name := "turn", desc := "(II)I" } : Jvm.MethodName)) ∈ lw_all := lw_g (lw_at lw_m1 163 rfl) rfl
theorem q195 : (Jvm.Cond.methodLink "HaplotypeRowsLaw" (31 : Nat) ({ cls := "HaplotypeRowsModel", name := "rows", desc := "()I" } : Jvm.MethodName)) ∈ lw_all := lw_g (lw_at lw_m1 171 rfl) rfl
theorem q199 : (Jvm.Cond.methodLink "HaplotypeRowsLaw" (35 : Nat) ({ cls := "HaplotypeRowsModel", name := "ordered", desc := "(II)I" } : Jvm.MethodName)) ∈ lw_all := lw_g (lw_at lw_m1 175 rfl) rfl
theorem q219 : (Jvm.Cond.methodLink "HaplotypeRowsLaw" (39 : Nat) ({ cls := "HaplotypeRowsModel", name := "since", desc := "(II)I" } : Jvm.MethodName)) ∈ lw_all := lw_g (lw_at lw_m1 195 rfl) rfl
theorem q228 : (Jvm.Cond.methodLink "HaplotypeRowsLaw" (43 : Nat) ({ cls := "HaplotypeRowsModel", name := "matches", desc := "(I)I" } : Jvm.MethodName)) ∈ lw_all := lw_g (lw_at lw_m1 204 rfl) rfl
theorem q236 : (Jvm.Cond.methodLink "HaplotypeRowsLaw" (47 : Nat) ({ cls := "HaplotypeRowsModel", name := "longest", desc := "(II)I" } : Jvm.MethodName)) ∈ lw_all := lw_g (lw_at lw_m1 212 rfl) rfl
theorem q240 : (Jvm.Cond.methodLink "HaplotypeRowsLaw" (51 : Nat) ({ cls := "HaplotypeRowsModel", name := "winning", desc := "(I)I" } : Jvm.MethodName)) ∈ lw_all := lw_g (lw_at lw_m1 216 rfl) rfl
theorem q252 : (Jvm.Cond.methodLink "HaplotypeRowsLaw" (55 : Nat) ({ cls := "HaplotypeRowsModel", name := "cover", desc := "(I)I" } : Jvm.MethodName)) ∈ lw_all := lw_g (lw_at lw_m1 228 rfl) rfl
theorem q260 : (Jvm.Cond.methodLink "HaplotypeRowsLaw" (59 : Nat) ({ cls := "HaplotypeRowsModel", name := "kinds", desc := "(II)I" } : Jvm.MethodName)) ∈ lw_all := lw_g (lw_at lw_m1 236 rfl) rfl
theorem q264 : (Jvm.Cond.methodLink "HaplotypeRowsLaw" (64 : Nat) ({ cls := "HaplotypeRowsModel", name := "having", desc := "(III)I" } : Jvm.MethodName)) ∈ lw_all := lw_g (lw_at lw_m2 0 rfl) rfl
theorem q268 : (Jvm.Cond.methodLink "HaplotypeRowsLaw" (68 : Nat) ({ cls := "HaplotypeRowsModel", name := "fit", desc := "(II)I" } : Jvm.MethodName)) ∈ lw_all := lw_g (lw_at lw_m2 4 rfl) rfl

theorem q57 : (Jvm.Cond.arrayClass Jvm.ClassFile.FieldType.int) ∈ lw_all := lw_g (lw_at lw_m1 33 rfl) rfl
end
section
set_option maxRecDepth 100000
theorem dX0_init_0 : decode cX0_init 0 = .ok (.aload_n 0, 1) := by decide +kernel
theorem dX0_init_1 : decode cX0_init 1 = .ok (.invokespecial 1, 3) := by decide +kernel
theorem dX0_init_4 : decode cX0_init 4 = .ok (.aload_n 0, 1) := by decide +kernel
theorem dX0_init_5 : decode cX0_init 5 = .ok (.bipush 8, 2) := by decide +kernel
theorem dX0_init_7 : decode cX0_init 7 = .ok (.newarray .int, 2) := by decide +kernel
theorem dX0_init_9 : decode cX0_init 9 = .ok (.putfield 7, 3) := by decide +kernel
theorem dX0_init_12 : decode cX0_init 12 = .ok (.aload_n 0, 1) := by decide +kernel
theorem dX0_init_13 : decode cX0_init 13 = .ok (.bipush 104, 2) := by decide +kernel
theorem dX0_init_15 : decode cX0_init 15 = .ok (.newarray .int, 2) := by decide +kernel
theorem dX0_init_17 : decode cX0_init 17 = .ok (.putfield 13, 3) := by decide +kernel
theorem dX0_init_20 : decode cX0_init 20 = .ok (.aload_n 0, 1) := by decide +kernel
theorem dX0_init_21 : decode cX0_init 21 = .ok (.bipush 104, 2) := by decide +kernel
theorem dX0_init_23 : decode cX0_init 23 = .ok (.newarray .int, 2) := by decide +kernel
theorem dX0_init_25 : decode cX0_init 25 = .ok (.putfield 16, 3) := by decide +kernel
theorem dX0_init_28 : decode cX0_init 28 = .ok (.aload_n 0, 1) := by decide +kernel
theorem dX0_init_29 : decode cX0_init 29 = .ok (.bipush 8, 2) := by decide +kernel
theorem dX0_init_31 : decode cX0_init 31 = .ok (.newarray .int, 2) := by decide +kernel
theorem dX0_init_33 : decode cX0_init 33 = .ok (.putfield 19, 3) := by decide +kernel
theorem dX0_init_36 : decode cX0_init 36 = .ok (.aload_n 0, 1) := by decide +kernel
theorem dX0_init_37 : decode cX0_init 37 = .ok (.bipush 8, 2) := by decide +kernel
theorem dX0_init_39 : decode cX0_init 39 = .ok (.newarray .int, 2) := by decide +kernel
theorem dX0_init_41 : decode cX0_init 41 = .ok (.putfield 22, 3) := by decide +kernel
theorem dX0_init_44 : decode cX0_init 44 = .ok (.return_, 1) := by decide +kernel
theorem dX0_add_0 : decode cX0_add 0 = .ok (.iload_n 1, 1) := by decide +kernel
theorem dX0_add_1 : decode cX0_add 1 = .ok (.ifCond .lt 10, 3) := by decide +kernel
theorem dX0_add_4 : decode cX0_add 4 = .ok (.iload_n 1, 1) := by decide +kernel
theorem dX0_add_5 : decode cX0_add 5 = .ok (.sipush 4095, 3) := by decide +kernel
theorem dX0_add_8 : decode cX0_add 8 = .ok (.if_icmp .le 5, 3) := by decide +kernel
theorem dX0_add_11 : decode cX0_add 11 = .ok (.iconst (-1), 1) := by decide +kernel
theorem dX0_add_12 : decode cX0_add 12 = .ok (.ireturn, 1) := by decide +kernel
theorem dX0_add_13 : decode cX0_add 13 = .ok (.aload_n 0, 1) := by decide +kernel
theorem dX0_add_14 : decode cX0_add 14 = .ok (.getfield 25, 3) := by decide +kernel
theorem dX0_add_17 : decode cX0_add 17 = .ok (.bipush 8, 2) := by decide +kernel
theorem dX0_add_19 : decode cX0_add 19 = .ok (.if_icmp .ne 6, 3) := by decide +kernel
theorem dX0_add_22 : decode cX0_add 22 = .ok (.bipush (-2), 2) := by decide +kernel
theorem dX0_add_24 : decode cX0_add 24 = .ok (.ireturn, 1) := by decide +kernel
theorem dX0_add_25 : decode cX0_add 25 = .ok (.aload_n 0, 1) := by decide +kernel
theorem dX0_add_26 : decode cX0_add 26 = .ok (.getfield 7, 3) := by decide +kernel
theorem dX0_add_29 : decode cX0_add 29 = .ok (.aload_n 0, 1) := by decide +kernel
theorem dX0_add_30 : decode cX0_add 30 = .ok (.getfield 25, 3) := by decide +kernel
theorem dX0_add_33 : decode cX0_add 33 = .ok (.iload_n 1, 1) := by decide +kernel
theorem dX0_add_34 : decode cX0_add 34 = .ok (.iastore, 1) := by decide +kernel
theorem dX0_add_35 : decode cX0_add 35 = .ok (.aload_n 0, 1) := by decide +kernel
theorem dX0_add_36 : decode cX0_add 36 = .ok (.dup, 1) := by decide +kernel
theorem dX0_add_37 : decode cX0_add 37 = .ok (.getfield 25, 3) := by decide +kernel
theorem dX0_add_40 : decode cX0_add 40 = .ok (.iconst 1, 1) := by decide +kernel
theorem dX0_add_41 : decode cX0_add 41 = .ok (.iadd, 1) := by decide +kernel
theorem dX0_add_42 : decode cX0_add 42 = .ok (.putfield 25, 3) := by decide +kernel
theorem dX0_add_45 : decode cX0_add 45 = .ok (.aload_n 0, 1) := by decide +kernel
theorem dX0_add_46 : decode cX0_add 46 = .ok (.iconst 0, 1) := by decide +kernel
theorem dX0_add_47 : decode cX0_add 47 = .ok (.putfield 29, 3) := by decide +kernel
theorem dX0_add_50 : decode cX0_add 50 = .ok (.aload_n 0, 1) := by decide +kernel
theorem dX0_add_51 : decode cX0_add 51 = .ok (.getfield 25, 3) := by decide +kernel
theorem dX0_add_54 : decode cX0_add 54 = .ok (.iconst 1, 1) := by decide +kernel
theorem dX0_add_55 : decode cX0_add 55 = .ok (.isub, 1) := by decide +kernel
theorem dX0_add_56 : decode cX0_add 56 = .ok (.ireturn, 1) := by decide +kernel
theorem dX0_remove_0 : decode cX0_remove 0 = .ok (.aload_n 0, 1) := by decide +kernel
theorem dX0_remove_1 : decode cX0_remove 1 = .ok (.getfield 25, 3) := by decide +kernel
theorem dX0_remove_4 : decode cX0_remove 4 = .ok (.ifCond .ne 6, 3) := by decide +kernel
theorem dX0_remove_7 : decode cX0_remove 7 = .ok (.bipush (-4), 2) := by decide +kernel
theorem dX0_remove_9 : decode cX0_remove 9 = .ok (.ireturn, 1) := by decide +kernel
theorem dX0_remove_10 : decode cX0_remove 10 = .ok (.aload_n 0, 1) := by decide +kernel
theorem dX0_remove_11 : decode cX0_remove 11 = .ok (.dup, 1) := by decide +kernel
theorem dX0_remove_12 : decode cX0_remove 12 = .ok (.getfield 25, 3) := by decide +kernel
theorem dX0_remove_15 : decode cX0_remove 15 = .ok (.iconst 1, 1) := by decide +kernel
theorem dX0_remove_16 : decode cX0_remove 16 = .ok (.isub, 1) := by decide +kernel
theorem dX0_remove_17 : decode cX0_remove 17 = .ok (.putfield 25, 3) := by decide +kernel
theorem dX0_remove_20 : decode cX0_remove 20 = .ok (.aload_n 0, 1) := by decide +kernel
theorem dX0_remove_21 : decode cX0_remove 21 = .ok (.iconst 0, 1) := by decide +kernel
theorem dX0_remove_22 : decode cX0_remove 22 = .ok (.putfield 29, 3) := by decide +kernel
theorem dX0_remove_25 : decode cX0_remove 25 = .ok (.aload_n 0, 1) := by decide +kernel
theorem dX0_remove_26 : decode cX0_remove 26 = .ok (.getfield 7, 3) := by decide +kernel
theorem dX0_remove_29 : decode cX0_remove 29 = .ok (.aload_n 0, 1) := by decide +kernel
theorem dX0_remove_30 : decode cX0_remove 30 = .ok (.getfield 25, 3) := by decide +kernel
theorem dX0_remove_33 : decode cX0_remove 33 = .ok (.iaload, 1) := by decide +kernel
theorem dX0_remove_34 : decode cX0_remove 34 = .ok (.ireturn, 1) := by decide +kernel
theorem dX0_turn_0 : decode cX0_turn 0 = .ok (.aload_n 0, 1) := by decide +kernel
theorem dX0_turn_1 : decode cX0_turn 1 = .ok (.iload_n 1, 1) := by decide +kernel
theorem dX0_turn_2 : decode cX0_turn 2 = .ok (.invokevirtual 33, 3) := by decide +kernel
theorem dX0_turn_5 : decode cX0_turn 5 = .ok (.ifCond .ne 13, 3) := by decide +kernel
theorem dX0_turn_8 : decode cX0_turn 8 = .ok (.iload_n 2, 1) := by decide +kernel
theorem dX0_turn_9 : decode cX0_turn 9 = .ok (.ifCond .lt 9, 3) := by decide +kernel
theorem dX0_turn_12 : decode cX0_turn 12 = .ok (.iload_n 2, 1) := by decide +kernel
theorem dX0_turn_13 : decode cX0_turn 13 = .ok (.bipush 12, 2) := by decide +kernel
theorem dX0_turn_15 : decode cX0_turn 15 = .ok (.if_icmp .lt 6, 3) := by decide +kernel
theorem dX0_turn_18 : decode cX0_turn 18 = .ok (.bipush (-4), 2) := by decide +kernel
theorem dX0_turn_20 : decode cX0_turn 20 = .ok (.ireturn, 1) := by decide +kernel
theorem dX0_turn_21 : decode cX0_turn 21 = .ok (.aload_n 0, 1) := by decide +kernel
theorem dX0_turn_22 : decode cX0_turn 22 = .ok (.getfield 7, 3) := by decide +kernel
theorem dX0_turn_25 : decode cX0_turn 25 = .ok (.iload_n 1, 1) := by decide +kernel
theorem dX0_turn_26 : decode cX0_turn 26 = .ok (.aload_n 0, 1) := by decide +kernel
theorem dX0_turn_27 : decode cX0_turn 27 = .ok (.getfield 7, 3) := by decide +kernel
theorem dX0_turn_30 : decode cX0_turn 30 = .ok (.iload_n 1, 1) := by decide +kernel
theorem dX0_turn_31 : decode cX0_turn 31 = .ok (.iaload, 1) := by decide +kernel
theorem dX0_turn_32 : decode cX0_turn 32 = .ok (.iconst 1, 1) := by decide +kernel
theorem dX0_turn_33 : decode cX0_turn 33 = .ok (.iload_n 2, 1) := by decide +kernel
theorem dX0_turn_34 : decode cX0_turn 34 = .ok (.ishl, 1) := by decide +kernel
theorem dX0_turn_35 : decode cX0_turn 35 = .ok (.ixor, 1) := by decide +kernel
theorem dX0_turn_36 : decode cX0_turn 36 = .ok (.iastore, 1) := by decide +kernel
theorem dX0_turn_37 : decode cX0_turn 37 = .ok (.aload_n 0, 1) := by decide +kernel
theorem dX0_turn_38 : decode cX0_turn 38 = .ok (.iconst 0, 1) := by decide +kernel
theorem dX0_turn_39 : decode cX0_turn 39 = .ok (.putfield 29, 3) := by decide +kernel
theorem dX0_turn_42 : decode cX0_turn 42 = .ok (.aload_n 0, 1) := by decide +kernel
theorem dX0_turn_43 : decode cX0_turn 43 = .ok (.iload_n 1, 1) := by decide +kernel
theorem dX0_turn_44 : decode cX0_turn 44 = .ok (.iload_n 2, 1) := by decide +kernel
theorem dX0_turn_45 : decode cX0_turn 45 = .ok (.invokevirtual 37, 3) := by decide +kernel
theorem dX0_turn_48 : decode cX0_turn 48 = .ok (.ireturn, 1) := by decide +kernel
theorem dX0_noRow_0 : decode cX0_noRow 0 = .ok (.iload_n 1, 1) := by decide +kernel
theorem dX0_noRow_1 : decode cX0_noRow 1 = .ok (.ifCond .lt 11, 3) := by decide +kernel
theorem dX0_noRow_4 : decode cX0_noRow 4 = .ok (.iload_n 1, 1) := by decide +kernel
theorem dX0_noRow_5 : decode cX0_noRow 5 = .ok (.aload_n 0, 1) := by decide +kernel
theorem dX0_noRow_6 : decode cX0_noRow 6 = .ok (.getfield 25, 3) := by decide +kernel
theorem dX0_noRow_9 : decode cX0_noRow 9 = .ok (.if_icmp .lt 7, 3) := by decide +kernel
theorem dX0_noRow_12 : decode cX0_noRow 12 = .ok (.iconst 1, 1) := by decide +kernel
theorem dX0_noRow_13 : decode cX0_noRow 13 = .ok (.goto 4, 3) := by decide +kernel
theorem dX0_noRow_16 : decode cX0_noRow 16 = .ok (.iconst 0, 1) := by decide +kernel
theorem dX0_noRow_17 : decode cX0_noRow 17 = .ok (.ireturn, 1) := by decide +kernel
theorem dX0_at_0 : decode cX0_at 0 = .ok (.aload_n 0, 1) := by decide +kernel
theorem dX0_at_1 : decode cX0_at 1 = .ok (.getfield 7, 3) := by decide +kernel
theorem dX0_at_4 : decode cX0_at 4 = .ok (.iload_n 1, 1) := by decide +kernel
theorem dX0_at_5 : decode cX0_at 5 = .ok (.iaload, 1) := by decide +kernel
theorem dX0_at_6 : decode cX0_at 6 = .ok (.iload_n 2, 1) := by decide +kernel
theorem dX0_at_7 : decode cX0_at 7 = .ok (.ishr, 1) := by decide +kernel
theorem dX0_at_8 : decode cX0_at 8 = .ok (.iconst 1, 1) := by decide +kernel
theorem dX0_at_9 : decode cX0_at 9 = .ok (.iand, 1) := by decide +kernel
theorem dX0_at_10 : decode cX0_at 10 = .ok (.ireturn, 1) := by decide +kernel
theorem dX0_rows_0 : decode cX0_rows 0 = .ok (.aload_n 0, 1) := by decide +kernel
theorem dX0_rows_1 : decode cX0_rows 1 = .ok (.getfield 25, 3) := by decide +kernel
theorem dX0_rows_4 : decode cX0_rows 4 = .ok (.ireturn, 1) := by decide +kernel
theorem dX0_ordered_0 : decode cX0_ordered 0 = .ok (.aload_n 0, 1) := by decide +kernel
theorem dX0_ordered_1 : decode cX0_ordered 1 = .ok (.iload_n 1, 1) := by decide +kernel
theorem dX0_ordered_2 : decode cX0_ordered 2 = .ok (.iload_n 2, 1) := by decide +kernel
theorem dX0_ordered_3 : decode cX0_ordered 3 = .ok (.invokevirtual 45, 3) := by decide +kernel
theorem dX0_ordered_6 : decode cX0_ordered 6 = .ok (.ifCond .eq 6, 3) := by decide +kernel
theorem dX0_ordered_9 : decode cX0_ordered 9 = .ok (.bipush (-4), 2) := by decide +kernel
theorem dX0_ordered_11 : decode cX0_ordered 11 = .ok (.ireturn, 1) := by decide +kernel
theorem dX0_ordered_12 : decode cX0_ordered 12 = .ok (.aload_n 0, 1) := by decide +kernel
theorem dX0_ordered_13 : decode cX0_ordered 13 = .ok (.invokevirtual 49, 3) := by decide +kernel
theorem dX0_ordered_16 : decode cX0_ordered 16 = .ok (.aload_n 0, 1) := by decide +kernel
theorem dX0_ordered_17 : decode cX0_ordered 17 = .ok (.getfield 13, 3) := by decide +kernel
theorem dX0_ordered_20 : decode cX0_ordered 20 = .ok (.bipush 8, 2) := by decide +kernel
theorem dX0_ordered_22 : decode cX0_ordered 22 = .ok (.iload_n 1, 1) := by decide +kernel
theorem dX0_ordered_23 : decode cX0_ordered 23 = .ok (.imul, 1) := by decide +kernel
theorem dX0_ordered_24 : decode cX0_ordered 24 = .ok (.iload_n 2, 1) := by decide +kernel
theorem dX0_ordered_25 : decode cX0_ordered 25 = .ok (.iadd, 1) := by decide +kernel
theorem dX0_ordered_26 : decode cX0_ordered 26 = .ok (.iaload, 1) := by decide +kernel
theorem dX0_ordered_27 : decode cX0_ordered 27 = .ok (.ireturn, 1) := by decide +kernel
theorem dX0_noPlace_0 : decode cX0_noPlace 0 = .ok (.iload_n 1, 1) := by decide +kernel
theorem dX0_noPlace_1 : decode cX0_noPlace 1 = .ok (.ifCond .lt 21, 3) := by decide +kernel
theorem dX0_noPlace_4 : decode cX0_noPlace 4 = .ok (.iload_n 1, 1) := by decide +kernel
theorem dX0_noPlace_5 : decode cX0_noPlace 5 = .ok (.bipush 12, 2) := by decide +kernel
theorem dX0_noPlace_7 : decode cX0_noPlace 7 = .ok (.if_icmp .gt 15, 3) := by decide +kernel
theorem dX0_noPlace_10 : decode cX0_noPlace 10 = .ok (.iload_n 2, 1) := by decide +kernel
theorem dX0_noPlace_11 : decode cX0_noPlace 11 = .ok (.ifCond .lt 11, 3) := by decide +kernel
theorem dX0_noPlace_14 : decode cX0_noPlace 14 = .ok (.iload_n 2, 1) := by decide +kernel
theorem dX0_noPlace_15 : decode cX0_noPlace 15 = .ok (.aload_n 0, 1) := by decide +kernel
theorem dX0_noPlace_16 : decode cX0_noPlace 16 = .ok (.getfield 25, 3) := by decide +kernel
theorem dX0_noPlace_19 : decode cX0_noPlace 19 = .ok (.if_icmp .lt 7, 3) := by decide +kernel
theorem dX0_noPlace_22 : decode cX0_noPlace 22 = .ok (.iconst 1, 1) := by decide +kernel
theorem dX0_noPlace_23 : decode cX0_noPlace 23 = .ok (.goto 4, 3) := by decide +kernel
theorem dX0_noPlace_26 : decode cX0_noPlace 26 = .ok (.iconst 0, 1) := by decide +kernel
theorem dX0_noPlace_27 : decode cX0_noPlace 27 = .ok (.ireturn, 1) := by decide +kernel
theorem dX0_build_0 : decode cX0_build 0 = .ok (.aload_n 0, 1) := by decide +kernel
theorem dX0_build_1 : decode cX0_build 1 = .ok (.getfield 29, 3) := by decide +kernel
theorem dX0_build_4 : decode cX0_build 4 = .ok (.ifCond .eq 4, 3) := by decide +kernel
theorem dX0_build_7 : decode cX0_build 7 = .ok (.return_, 1) := by decide +kernel
theorem dX0_build_8 : decode cX0_build 8 = .ok (.iconst 0, 1) := by decide +kernel
theorem dX0_build_9 : decode cX0_build 9 = .ok (.istore_n 1, 1) := by decide +kernel
theorem dX0_build_10 : decode cX0_build 10 = .ok (.iload_n 1, 1) := by decide +kernel
theorem dX0_build_11 : decode cX0_build 11 = .ok (.aload_n 0, 1) := by decide +kernel
theorem dX0_build_12 : decode cX0_build 12 = .ok (.getfield 25, 3) := by decide +kernel
theorem dX0_build_15 : decode cX0_build 15 = .ok (.if_icmp .ge 23, 3) := by decide +kernel
theorem dX0_build_18 : decode cX0_build 18 = .ok (.aload_n 0, 1) := by decide +kernel
theorem dX0_build_19 : decode cX0_build 19 = .ok (.getfield 13, 3) := by decide +kernel
theorem dX0_build_22 : decode cX0_build 22 = .ok (.iload_n 1, 1) := by decide +kernel
theorem dX0_build_23 : decode cX0_build 23 = .ok (.iload_n 1, 1) := by decide +kernel
theorem dX0_build_24 : decode cX0_build 24 = .ok (.iastore, 1) := by decide +kernel
theorem dX0_build_25 : decode cX0_build 25 = .ok (.aload_n 0, 1) := by decide +kernel
theorem dX0_build_26 : decode cX0_build 26 = .ok (.getfield 16, 3) := by decide +kernel
theorem dX0_build_29 : decode cX0_build 29 = .ok (.iload_n 1, 1) := by decide +kernel
theorem dX0_build_30 : decode cX0_build 30 = .ok (.iconst 0, 1) := by decide +kernel
theorem dX0_build_31 : decode cX0_build 31 = .ok (.iastore, 1) := by decide +kernel
theorem dX0_build_32 : decode cX0_build 32 = .ok (.iinc 1 1, 3) := by decide +kernel
theorem dX0_build_35 : decode cX0_build 35 = .ok (.goto (-25), 3) := by decide +kernel
theorem dX0_build_38 : decode cX0_build 38 = .ok (.iconst 0, 1) := by decide +kernel
theorem dX0_build_39 : decode cX0_build 39 = .ok (.istore_n 1, 1) := by decide +kernel
theorem dX0_build_40 : decode cX0_build 40 = .ok (.iload_n 1, 1) := by decide +kernel
theorem dX0_build_41 : decode cX0_build 41 = .ok (.bipush 12, 2) := by decide +kernel
theorem dX0_build_43 : decode cX0_build 43 = .ok (.if_icmp .ge 14, 3) := by decide +kernel
theorem dX0_build_46 : decode cX0_build 46 = .ok (.aload_n 0, 1) := by decide +kernel
theorem dX0_build_47 : decode cX0_build 47 = .ok (.iload_n 1, 1) := by decide +kernel
theorem dX0_build_48 : decode cX0_build 48 = .ok (.invokevirtual 41, 3) := by decide +kernel
theorem dX0_build_51 : decode cX0_build 51 = .ok (.iinc 1 1, 3) := by decide +kernel
theorem dX0_build_54 : decode cX0_build 54 = .ok (.goto (-14), 3) := by decide +kernel
theorem dX0_build_57 : decode cX0_build 57 = .ok (.aload_n 0, 1) := by decide +kernel
theorem dX0_build_58 : decode cX0_build 58 = .ok (.iconst 1, 1) := by decide +kernel
theorem dX0_build_59 : decode cX0_build 59 = .ok (.putfield 29, 3) := by decide +kernel
theorem dX0_build_62 : decode cX0_build 62 = .ok (.return_, 1) := by decide +kernel
theorem dX0_part_0 : decode cX0_part 0 = .ok (.bipush 8, 2) := by decide +kernel
theorem dX0_part_2 : decode cX0_part 2 = .ok (.iload_n 1, 1) := by decide +kernel
theorem dX0_part_3 : decode cX0_part 3 = .ok (.imul, 1) := by decide +kernel
theorem dX0_part_4 : decode cX0_part 4 = .ok (.istore_n 2, 1) := by decide +kernel
theorem dX0_part_5 : decode cX0_part 5 = .ok (.iload_n 2, 1) := by decide +kernel
theorem dX0_part_6 : decode cX0_part 6 = .ok (.bipush 8, 2) := by decide +kernel
theorem dX0_part_8 : decode cX0_part 8 = .ok (.iadd, 1) := by decide +kernel
theorem dX0_part_9 : decode cX0_part 9 = .ok (.istore_n 3, 1) := by decide +kernel
theorem dX0_part_10 : decode cX0_part 10 = .ok (.iconst 0, 1) := by decide +kernel
theorem dX0_part_11 : decode cX0_part 11 = .ok (.istore 4, 2) := by decide +kernel
theorem dX0_part_13 : decode cX0_part 13 = .ok (.iconst 0, 1) := by decide +kernel
theorem dX0_part_14 : decode cX0_part 14 = .ok (.istore 5, 2) := by decide +kernel
theorem dX0_part_16 : decode cX0_part 16 = .ok (.iload_n 1, 1) := by decide +kernel
theorem dX0_part_17 : decode cX0_part 17 = .ok (.iconst 1, 1) := by decide +kernel
theorem dX0_part_18 : decode cX0_part 18 = .ok (.iadd, 1) := by decide +kernel
theorem dX0_part_19 : decode cX0_part 19 = .ok (.istore 6, 2) := by decide +kernel
theorem dX0_part_21 : decode cX0_part 21 = .ok (.iload_n 1, 1) := by decide +kernel
theorem dX0_part_22 : decode cX0_part 22 = .ok (.iconst 1, 1) := by decide +kernel
theorem dX0_part_23 : decode cX0_part 23 = .ok (.iadd, 1) := by decide +kernel
theorem dX0_part_24 : decode cX0_part 24 = .ok (.istore 7, 2) := by decide +kernel
theorem dX0_part_26 : decode cX0_part 26 = .ok (.iconst 0, 1) := by decide +kernel
theorem dX0_part_27 : decode cX0_part 27 = .ok (.istore 8, 2) := by decide +kernel
theorem dX0_part_29 : decode cX0_part 29 = .ok (.iload 8, 2) := by decide +kernel
theorem dX0_part_31 : decode cX0_part 31 = .ok (.aload_n 0, 1) := by decide +kernel
theorem dX0_part_32 : decode cX0_part 32 = .ok (.getfield 25, 3) := by decide +kernel
theorem dX0_part_35 : decode cX0_part 35 = .ok (.if_icmp .ge 128, 3) := by decide +kernel
theorem dX0_part_38 : decode cX0_part 38 = .ok (.aload_n 0, 1) := by decide +kernel
theorem dX0_part_39 : decode cX0_part 39 = .ok (.getfield 13, 3) := by decide +kernel
theorem dX0_part_42 : decode cX0_part 42 = .ok (.iload_n 2, 1) := by decide +kernel
theorem dX0_part_43 : decode cX0_part 43 = .ok (.iload 8, 2) := by decide +kernel
theorem dX0_part_45 : decode cX0_part 45 = .ok (.iadd, 1) := by decide +kernel
theorem dX0_part_46 : decode cX0_part 46 = .ok (.iaload, 1) := by decide +kernel
theorem dX0_part_47 : decode cX0_part 47 = .ok (.istore 9, 2) := by decide +kernel
theorem dX0_part_49 : decode cX0_part 49 = .ok (.aload_n 0, 1) := by decide +kernel
theorem dX0_part_50 : decode cX0_part 50 = .ok (.getfield 16, 3) := by decide +kernel
theorem dX0_part_53 : decode cX0_part 53 = .ok (.iload_n 2, 1) := by decide +kernel
theorem dX0_part_54 : decode cX0_part 54 = .ok (.iload 8, 2) := by decide +kernel
theorem dX0_part_56 : decode cX0_part 56 = .ok (.iadd, 1) := by decide +kernel
theorem dX0_part_57 : decode cX0_part 57 = .ok (.iaload, 1) := by decide +kernel
theorem dX0_part_58 : decode cX0_part 58 = .ok (.istore 10, 2) := by decide +kernel
theorem dX0_part_60 : decode cX0_part 60 = .ok (.iload 10, 2) := by decide +kernel
theorem dX0_part_62 : decode cX0_part 62 = .ok (.iload 6, 2) := by decide +kernel
theorem dX0_part_64 : decode cX0_part 64 = .ok (.if_icmp .le 8, 3) := by decide +kernel
theorem dX0_part_67 : decode cX0_part 67 = .ok (.iload 10, 2) := by decide +kernel
theorem dX0_part_69 : decode cX0_part 69 = .ok (.goto 5, 3) := by decide +kernel
theorem dX0_part_72 : decode cX0_part 72 = .ok (.iload 6, 2) := by decide +kernel
theorem dX0_part_74 : decode cX0_part 74 = .ok (.istore 6, 2) := by decide +kernel
theorem dX0_part_76 : decode cX0_part 76 = .ok (.iload 10, 2) := by decide +kernel
theorem dX0_part_78 : decode cX0_part 78 = .ok (.iload 7, 2) := by decide +kernel
theorem dX0_part_80 : decode cX0_part 80 = .ok (.if_icmp .le 8, 3) := by decide +kernel
theorem dX0_part_83 : decode cX0_part 83 = .ok (.iload 10, 2) := by decide +kernel
theorem dX0_part_85 : decode cX0_part 85 = .ok (.goto 5, 3) := by decide +kernel
theorem dX0_part_88 : decode cX0_part 88 = .ok (.iload 7, 2) := by decide +kernel
theorem dX0_part_90 : decode cX0_part 90 = .ok (.istore 7, 2) := by decide +kernel
theorem dX0_part_92 : decode cX0_part 92 = .ok (.aload_n 0, 1) := by decide +kernel
theorem dX0_part_93 : decode cX0_part 93 = .ok (.iload 9, 2) := by decide +kernel
theorem dX0_part_95 : decode cX0_part 95 = .ok (.iload_n 1, 1) := by decide +kernel
theorem dX0_part_96 : decode cX0_part 96 = .ok (.invokevirtual 37, 3) := by decide +kernel
theorem dX0_part_99 : decode cX0_part 99 = .ok (.ifCond .ne 34, 3) := by decide +kernel
theorem dX0_part_102 : decode cX0_part 102 = .ok (.aload_n 0, 1) := by decide +kernel
theorem dX0_part_103 : decode cX0_part 103 = .ok (.getfield 13, 3) := by decide +kernel
theorem dX0_part_106 : decode cX0_part 106 = .ok (.iload_n 3, 1) := by decide +kernel
theorem dX0_part_107 : decode cX0_part 107 = .ok (.iload 4, 2) := by decide +kernel
theorem dX0_part_109 : decode cX0_part 109 = .ok (.iadd, 1) := by decide +kernel
theorem dX0_part_110 : decode cX0_part 110 = .ok (.iload 9, 2) := by decide +kernel
theorem dX0_part_112 : decode cX0_part 112 = .ok (.iastore, 1) := by decide +kernel
theorem dX0_part_113 : decode cX0_part 113 = .ok (.aload_n 0, 1) := by decide +kernel
theorem dX0_part_114 : decode cX0_part 114 = .ok (.getfield 16, 3) := by decide +kernel
theorem dX0_part_117 : decode cX0_part 117 = .ok (.iload_n 3, 1) := by decide +kernel
theorem dX0_part_118 : decode cX0_part 118 = .ok (.iload 4, 2) := by decide +kernel
theorem dX0_part_120 : decode cX0_part 120 = .ok (.iadd, 1) := by decide +kernel
theorem dX0_part_121 : decode cX0_part 121 = .ok (.iload 6, 2) := by decide +kernel
theorem dX0_part_123 : decode cX0_part 123 = .ok (.iastore, 1) := by decide +kernel
theorem dX0_part_124 : decode cX0_part 124 = .ok (.iinc 4 1, 3) := by decide +kernel
theorem dX0_part_127 : decode cX0_part 127 = .ok (.iconst 0, 1) := by decide +kernel
theorem dX0_part_128 : decode cX0_part 128 = .ok (.istore 6, 2) := by decide +kernel
theorem dX0_part_130 : decode cX0_part 130 = .ok (.goto 27, 3) := by decide +kernel
theorem dX0_part_133 : decode cX0_part 133 = .ok (.aload_n 0, 1) := by decide +kernel
theorem dX0_part_134 : decode cX0_part 134 = .ok (.getfield 19, 3) := by decide +kernel
theorem dX0_part_137 : decode cX0_part 137 = .ok (.iload 5, 2) := by decide +kernel
theorem dX0_part_139 : decode cX0_part 139 = .ok (.iload 9, 2) := by decide +kernel
theorem dX0_part_141 : decode cX0_part 141 = .ok (.iastore, 1) := by decide +kernel
theorem dX0_part_142 : decode cX0_part 142 = .ok (.aload_n 0, 1) := by decide +kernel
theorem dX0_part_143 : decode cX0_part 143 = .ok (.getfield 22, 3) := by decide +kernel
theorem dX0_part_146 : decode cX0_part 146 = .ok (.iload 5, 2) := by decide +kernel
theorem dX0_part_148 : decode cX0_part 148 = .ok (.iload 7, 2) := by decide +kernel
theorem dX0_part_150 : decode cX0_part 150 = .ok (.iastore, 1) := by decide +kernel
theorem dX0_part_151 : decode cX0_part 151 = .ok (.iinc 5 1, 3) := by decide +kernel
theorem dX0_part_154 : decode cX0_part 154 = .ok (.iconst 0, 1) := by decide +kernel
theorem dX0_part_155 : decode cX0_part 155 = .ok (.istore 7, 2) := by decide +kernel
theorem dX0_part_157 : decode cX0_part 157 = .ok (.iinc 8 1, 3) := by decide +kernel
theorem dX0_part_160 : decode cX0_part 160 = .ok (.goto (-131), 3) := by decide +kernel
theorem dX0_part_163 : decode cX0_part 163 = .ok (.iconst 0, 1) := by decide +kernel
theorem dX0_part_164 : decode cX0_part 164 = .ok (.istore 8, 2) := by decide +kernel
theorem dX0_part_166 : decode cX0_part 166 = .ok (.iload 8, 2) := by decide +kernel
theorem dX0_part_168 : decode cX0_part 168 = .ok (.iload 5, 2) := by decide +kernel
theorem dX0_part_170 : decode cX0_part 170 = .ok (.if_icmp .ge 47, 3) := by decide +kernel
theorem dX0_part_173 : decode cX0_part 173 = .ok (.aload_n 0, 1) := by decide +kernel
theorem dX0_part_174 : decode cX0_part 174 = .ok (.getfield 13, 3) := by decide +kernel
theorem dX0_part_177 : decode cX0_part 177 = .ok (.iload_n 3, 1) := by decide +kernel
theorem dX0_part_178 : decode cX0_part 178 = .ok (.iload 4, 2) := by decide +kernel
theorem dX0_part_180 : decode cX0_part 180 = .ok (.iadd, 1) := by decide +kernel
theorem dX0_part_181 : decode cX0_part 181 = .ok (.iload 8, 2) := by decide +kernel
theorem dX0_part_183 : decode cX0_part 183 = .ok (.iadd, 1) := by decide +kernel
theorem dX0_part_184 : decode cX0_part 184 = .ok (.aload_n 0, 1) := by decide +kernel
theorem dX0_part_185 : decode cX0_part 185 = .ok (.getfield 19, 3) := by decide +kernel
theorem dX0_part_188 : decode cX0_part 188 = .ok (.iload 8, 2) := by decide +kernel
theorem dX0_part_190 : decode cX0_part 190 = .ok (.iaload, 1) := by decide +kernel
theorem dX0_part_191 : decode cX0_part 191 = .ok (.iastore, 1) := by decide +kernel
theorem dX0_part_192 : decode cX0_part 192 = .ok (.aload_n 0, 1) := by decide +kernel
theorem dX0_part_193 : decode cX0_part 193 = .ok (.getfield 16, 3) := by decide +kernel
theorem dX0_part_196 : decode cX0_part 196 = .ok (.iload_n 3, 1) := by decide +kernel
theorem dX0_part_197 : decode cX0_part 197 = .ok (.iload 4, 2) := by decide +kernel
theorem dX0_part_199 : decode cX0_part 199 = .ok (.iadd, 1) := by decide +kernel
theorem dX0_part_200 : decode cX0_part 200 = .ok (.iload 8, 2) := by decide +kernel
theorem dX0_part_202 : decode cX0_part 202 = .ok (.iadd, 1) := by decide +kernel
theorem dX0_part_203 : decode cX0_part 203 = .ok (.aload_n 0, 1) := by decide +kernel
theorem dX0_part_204 : decode cX0_part 204 = .ok (.getfield 22, 3) := by decide +kernel
theorem dX0_part_207 : decode cX0_part 207 = .ok (.iload 8, 2) := by decide +kernel
theorem dX0_part_209 : decode cX0_part 209 = .ok (.iaload, 1) := by decide +kernel
theorem dX0_part_210 : decode cX0_part 210 = .ok (.iastore, 1) := by decide +kernel
theorem dX0_part_211 : decode cX0_part 211 = .ok (.iinc 8 1, 3) := by decide +kernel
theorem dX0_part_214 : decode cX0_part 214 = .ok (.goto (-48), 3) := by decide +kernel
theorem dX0_part_217 : decode cX0_part 217 = .ok (.return_, 1) := by decide +kernel
theorem dX0_since_0 : decode cX0_since 0 = .ok (.aload_n 0, 1) := by decide +kernel
theorem dX0_since_1 : decode cX0_since 1 = .ok (.iload_n 1, 1) := by decide +kernel
theorem dX0_since_2 : decode cX0_since 2 = .ok (.iload_n 2, 1) := by decide +kernel
theorem dX0_since_3 : decode cX0_since 3 = .ok (.invokevirtual 45, 3) := by decide +kernel
theorem dX0_since_6 : decode cX0_since 6 = .ok (.ifCond .eq 6, 3) := by decide +kernel
theorem dX0_since_9 : decode cX0_since 9 = .ok (.bipush (-4), 2) := by decide +kernel
theorem dX0_since_11 : decode cX0_since 11 = .ok (.ireturn, 1) := by decide +kernel
theorem dX0_since_12 : decode cX0_since 12 = .ok (.aload_n 0, 1) := by decide +kernel
theorem dX0_since_13 : decode cX0_since 13 = .ok (.invokevirtual 49, 3) := by decide +kernel
theorem dX0_since_16 : decode cX0_since 16 = .ok (.iload_n 2, 1) := by decide +kernel
theorem dX0_since_17 : decode cX0_since 17 = .ok (.ifCond .ne 7, 3) := by decide +kernel
theorem dX0_since_20 : decode cX0_since 20 = .ok (.iload_n 1, 1) := by decide +kernel
theorem dX0_since_21 : decode cX0_since 21 = .ok (.goto 14, 3) := by decide +kernel
theorem dX0_since_24 : decode cX0_since 24 = .ok (.aload_n 0, 1) := by decide +kernel
theorem dX0_since_25 : decode cX0_since 25 = .ok (.getfield 16, 3) := by decide +kernel
theorem dX0_since_28 : decode cX0_since 28 = .ok (.bipush 8, 2) := by decide +kernel
theorem dX0_since_30 : decode cX0_since 30 = .ok (.iload_n 1, 1) := by decide +kernel
theorem dX0_since_31 : decode cX0_since 31 = .ok (.imul, 1) := by decide +kernel
theorem dX0_since_32 : decode cX0_since 32 = .ok (.iload_n 2, 1) := by decide +kernel
theorem dX0_since_33 : decode cX0_since 33 = .ok (.iadd, 1) := by decide +kernel
theorem dX0_since_34 : decode cX0_since 34 = .ok (.iaload, 1) := by decide +kernel
theorem dX0_since_35 : decode cX0_since 35 = .ok (.ireturn, 1) := by decide +kernel
theorem dX0_matches_0 : decode cX0_matches 0 = .ok (.iload_n 1, 1) := by decide +kernel
theorem dX0_matches_1 : decode cX0_matches 1 = .ok (.iconst 1, 1) := by decide +kernel
theorem dX0_matches_2 : decode cX0_matches 2 = .ok (.if_icmp .lt 9, 3) := by decide +kernel
theorem dX0_matches_5 : decode cX0_matches 5 = .ok (.iload_n 1, 1) := by decide +kernel
theorem dX0_matches_6 : decode cX0_matches 6 = .ok (.bipush 12, 2) := by decide +kernel
theorem dX0_matches_8 : decode cX0_matches 8 = .ok (.if_icmp .le 5, 3) := by decide +kernel
theorem dX0_matches_11 : decode cX0_matches 11 = .ok (.iconst (-1), 1) := by decide +kernel
theorem dX0_matches_12 : decode cX0_matches 12 = .ok (.ireturn, 1) := by decide +kernel
theorem dX0_matches_13 : decode cX0_matches 13 = .ok (.aload_n 0, 1) := by decide +kernel
theorem dX0_matches_14 : decode cX0_matches 14 = .ok (.invokevirtual 49, 3) := by decide +kernel
theorem dX0_matches_17 : decode cX0_matches 17 = .ok (.iconst 0, 1) := by decide +kernel
theorem dX0_matches_18 : decode cX0_matches 18 = .ok (.istore_n 2, 1) := by decide +kernel
theorem dX0_matches_19 : decode cX0_matches 19 = .ok (.iconst 1, 1) := by decide +kernel
theorem dX0_matches_20 : decode cX0_matches 20 = .ok (.istore_n 3, 1) := by decide +kernel
theorem dX0_matches_21 : decode cX0_matches 21 = .ok (.iload_n 3, 1) := by decide +kernel
theorem dX0_matches_22 : decode cX0_matches 22 = .ok (.bipush 12, 2) := by decide +kernel
theorem dX0_matches_24 : decode cX0_matches 24 = .ok (.if_icmp .gt 22, 3) := by decide +kernel
theorem dX0_matches_27 : decode cX0_matches 27 = .ok (.aload_n 0, 1) := by decide +kernel
theorem dX0_matches_28 : decode cX0_matches 28 = .ok (.iload_n 3, 1) := by decide +kernel
theorem dX0_matches_29 : decode cX0_matches 29 = .ok (.iload_n 1, 1) := by decide +kernel
theorem dX0_matches_30 : decode cX0_matches 30 = .ok (.invokevirtual 56, 3) := by decide +kernel
theorem dX0_matches_33 : decode cX0_matches 33 = .ok (.istore 4, 2) := by decide +kernel
theorem dX0_matches_35 : decode cX0_matches 35 = .ok (.iload_n 2, 1) := by decide +kernel
theorem dX0_matches_36 : decode cX0_matches 36 = .ok (.iload 4, 2) := by decide +kernel
theorem dX0_matches_38 : decode cX0_matches 38 = .ok (.iadd, 1) := by decide +kernel
theorem dX0_matches_39 : decode cX0_matches 39 = .ok (.istore_n 2, 1) := by decide +kernel
theorem dX0_matches_40 : decode cX0_matches 40 = .ok (.iinc 3 1, 3) := by decide +kernel
theorem dX0_matches_43 : decode cX0_matches 43 = .ok (.goto (-22), 3) := by decide +kernel
theorem dX0_matches_46 : decode cX0_matches 46 = .ok (.iload_n 2, 1) := by decide +kernel
theorem dX0_matches_47 : decode cX0_matches 47 = .ok (.ireturn, 1) := by decide +kernel
theorem dX0_endingAt_0 : decode cX0_endingAt 0 = .ok (.iconst 0, 1) := by decide +kernel
theorem dX0_endingAt_1 : decode cX0_endingAt 1 = .ok (.istore_n 3, 1) := by decide +kernel
theorem dX0_endingAt_2 : decode cX0_endingAt 2 = .ok (.iconst 0, 1) := by decide +kernel
theorem dX0_endingAt_3 : decode cX0_endingAt 3 = .ok (.istore 4, 2) := by decide +kernel
theorem dX0_endingAt_5 : decode cX0_endingAt 5 = .ok (.iload 4, 2) := by decide +kernel
theorem dX0_endingAt_7 : decode cX0_endingAt 7 = .ok (.aload_n 0, 1) := by decide +kernel
theorem dX0_endingAt_8 : decode cX0_endingAt 8 = .ok (.getfield 25, 3) := by decide +kernel
theorem dX0_endingAt_11 : decode cX0_endingAt 11 = .ok (.if_icmp .ge 114, 3) := by decide +kernel
theorem dX0_endingAt_14 : decode cX0_endingAt 14 = .ok (.iconst 0, 1) := by decide +kernel
theorem dX0_endingAt_15 : decode cX0_endingAt 15 = .ok (.istore 5, 2) := by decide +kernel
theorem dX0_endingAt_17 : decode cX0_endingAt 17 = .ok (.iload 4, 2) := by decide +kernel
theorem dX0_endingAt_19 : decode cX0_endingAt 19 = .ok (.iconst 1, 1) := by decide +kernel
theorem dX0_endingAt_20 : decode cX0_endingAt 20 = .ok (.iadd, 1) := by decide +kernel
theorem dX0_endingAt_21 : decode cX0_endingAt 21 = .ok (.istore 6, 2) := by decide +kernel
theorem dX0_endingAt_23 : decode cX0_endingAt 23 = .ok (.iload 6, 2) := by decide +kernel
theorem dX0_endingAt_25 : decode cX0_endingAt 25 = .ok (.aload_n 0, 1) := by decide +kernel
theorem dX0_endingAt_26 : decode cX0_endingAt 26 = .ok (.getfield 25, 3) := by decide +kernel
theorem dX0_endingAt_29 : decode cX0_endingAt 29 = .ok (.if_icmp .ge 90, 3) := by decide +kernel
theorem dX0_endingAt_32 : decode cX0_endingAt 32 = .ok (.aload_n 0, 1) := by decide +kernel
theorem dX0_endingAt_33 : decode cX0_endingAt 33 = .ok (.getfield 16, 3) := by decide +kernel
theorem dX0_endingAt_36 : decode cX0_endingAt 36 = .ok (.bipush 8, 2) := by decide +kernel
theorem dX0_endingAt_38 : decode cX0_endingAt 38 = .ok (.iload_n 1, 1) := by decide +kernel
theorem dX0_endingAt_39 : decode cX0_endingAt 39 = .ok (.imul, 1) := by decide +kernel
theorem dX0_endingAt_40 : decode cX0_endingAt 40 = .ok (.iload 6, 2) := by decide +kernel
theorem dX0_endingAt_42 : decode cX0_endingAt 42 = .ok (.iadd, 1) := by decide +kernel
theorem dX0_endingAt_43 : decode cX0_endingAt 43 = .ok (.iaload, 1) := by decide +kernel
theorem dX0_endingAt_44 : decode cX0_endingAt 44 = .ok (.istore 7, 2) := by decide +kernel
theorem dX0_endingAt_46 : decode cX0_endingAt 46 = .ok (.iload 7, 2) := by decide +kernel
theorem dX0_endingAt_48 : decode cX0_endingAt 48 = .ok (.iload 5, 2) := by decide +kernel
theorem dX0_endingAt_50 : decode cX0_endingAt 50 = .ok (.if_icmp .le 8, 3) := by decide +kernel
theorem dX0_endingAt_53 : decode cX0_endingAt 53 = .ok (.iload 7, 2) := by decide +kernel
theorem dX0_endingAt_55 : decode cX0_endingAt 55 = .ok (.goto 5, 3) := by decide +kernel
theorem dX0_endingAt_58 : decode cX0_endingAt 58 = .ok (.iload 5, 2) := by decide +kernel
theorem dX0_endingAt_60 : decode cX0_endingAt 60 = .ok (.istore 5, 2) := by decide +kernel
theorem dX0_endingAt_62 : decode cX0_endingAt 62 = .ok (.aload_n 0, 1) := by decide +kernel
theorem dX0_endingAt_63 : decode cX0_endingAt 63 = .ok (.getfield 13, 3) := by decide +kernel
theorem dX0_endingAt_66 : decode cX0_endingAt 66 = .ok (.bipush 8, 2) := by decide +kernel
theorem dX0_endingAt_68 : decode cX0_endingAt 68 = .ok (.iload_n 1, 1) := by decide +kernel
theorem dX0_endingAt_69 : decode cX0_endingAt 69 = .ok (.imul, 1) := by decide +kernel
theorem dX0_endingAt_70 : decode cX0_endingAt 70 = .ok (.iload 4, 2) := by decide +kernel
theorem dX0_endingAt_72 : decode cX0_endingAt 72 = .ok (.iadd, 1) := by decide +kernel
theorem dX0_endingAt_73 : decode cX0_endingAt 73 = .ok (.iaload, 1) := by decide +kernel
theorem dX0_endingAt_74 : decode cX0_endingAt 74 = .ok (.istore 8, 2) := by decide +kernel
theorem dX0_endingAt_76 : decode cX0_endingAt 76 = .ok (.aload_n 0, 1) := by decide +kernel
theorem dX0_endingAt_77 : decode cX0_endingAt 77 = .ok (.getfield 13, 3) := by decide +kernel
theorem dX0_endingAt_80 : decode cX0_endingAt 80 = .ok (.bipush 8, 2) := by decide +kernel
theorem dX0_endingAt_82 : decode cX0_endingAt 82 = .ok (.iload_n 1, 1) := by decide +kernel
theorem dX0_endingAt_83 : decode cX0_endingAt 83 = .ok (.imul, 1) := by decide +kernel
theorem dX0_endingAt_84 : decode cX0_endingAt 84 = .ok (.iload 6, 2) := by decide +kernel
theorem dX0_endingAt_86 : decode cX0_endingAt 86 = .ok (.iadd, 1) := by decide +kernel
theorem dX0_endingAt_87 : decode cX0_endingAt 87 = .ok (.iaload, 1) := by decide +kernel
theorem dX0_endingAt_88 : decode cX0_endingAt 88 = .ok (.istore 9, 2) := by decide +kernel
theorem dX0_endingAt_90 : decode cX0_endingAt 90 = .ok (.iload_n 1, 1) := by decide +kernel
theorem dX0_endingAt_91 : decode cX0_endingAt 91 = .ok (.iload 5, 2) := by decide +kernel
theorem dX0_endingAt_93 : decode cX0_endingAt 93 = .ok (.isub, 1) := by decide +kernel
theorem dX0_endingAt_94 : decode cX0_endingAt 94 = .ok (.iload_n 2, 1) := by decide +kernel
theorem dX0_endingAt_95 : decode cX0_endingAt 95 = .ok (.if_icmp .lt 18, 3) := by decide +kernel
theorem dX0_endingAt_98 : decode cX0_endingAt 98 = .ok (.aload_n 0, 1) := by decide +kernel
theorem dX0_endingAt_99 : decode cX0_endingAt 99 = .ok (.iload 8, 2) := by decide +kernel
theorem dX0_endingAt_101 : decode cX0_endingAt 101 = .ok (.iload 9, 2) := by decide +kernel
theorem dX0_endingAt_103 : decode cX0_endingAt 103 = .ok (.iload_n 1, 1) := by decide +kernel
theorem dX0_endingAt_104 : decode cX0_endingAt 104 = .ok (.invokevirtual 52, 3) := by decide +kernel
theorem dX0_endingAt_107 : decode cX0_endingAt 107 = .ok (.ifCond .eq 6, 3) := by decide +kernel
theorem dX0_endingAt_110 : decode cX0_endingAt 110 = .ok (.iinc 3 1, 3) := by decide +kernel
theorem dX0_endingAt_113 : decode cX0_endingAt 113 = .ok (.iinc 6 1, 3) := by decide +kernel
theorem dX0_endingAt_116 : decode cX0_endingAt 116 = .ok (.goto (-93), 3) := by decide +kernel
theorem dX0_endingAt_119 : decode cX0_endingAt 119 = .ok (.iinc 4 1, 3) := by decide +kernel
theorem dX0_endingAt_122 : decode cX0_endingAt 122 = .ok (.goto (-117), 3) := by decide +kernel
theorem dX0_endingAt_125 : decode cX0_endingAt 125 = .ok (.iload_n 3, 1) := by decide +kernel
theorem dX0_endingAt_126 : decode cX0_endingAt 126 = .ok (.ireturn, 1) := by decide +kernel
theorem dX0_parts_0 : decode cX0_parts 0 = .ok (.iload_n 3, 1) := by decide +kernel
theorem dX0_parts_1 : decode cX0_parts 1 = .ok (.bipush 12, 2) := by decide +kernel
theorem dX0_parts_3 : decode cX0_parts 3 = .ok (.if_icmp .eq 18, 3) := by decide +kernel
theorem dX0_parts_6 : decode cX0_parts 6 = .ok (.aload_n 0, 1) := by decide +kernel
theorem dX0_parts_7 : decode cX0_parts 7 = .ok (.iload_n 1, 1) := by decide +kernel
theorem dX0_parts_8 : decode cX0_parts 8 = .ok (.iload_n 3, 1) := by decide +kernel
theorem dX0_parts_9 : decode cX0_parts 9 = .ok (.invokevirtual 37, 3) := by decide +kernel
theorem dX0_parts_12 : decode cX0_parts 12 = .ok (.aload_n 0, 1) := by decide +kernel
theorem dX0_parts_13 : decode cX0_parts 13 = .ok (.iload_n 2, 1) := by decide +kernel
theorem dX0_parts_14 : decode cX0_parts 14 = .ok (.iload_n 3, 1) := by decide +kernel
theorem dX0_parts_15 : decode cX0_parts 15 = .ok (.invokevirtual 37, 3) := by decide +kernel
theorem dX0_parts_18 : decode cX0_parts 18 = .ok (.if_icmp .eq 7, 3) := by decide +kernel
theorem dX0_parts_21 : decode cX0_parts 21 = .ok (.iconst 1, 1) := by decide +kernel
theorem dX0_parts_22 : decode cX0_parts 22 = .ok (.goto 4, 3) := by decide +kernel
theorem dX0_parts_25 : decode cX0_parts 25 = .ok (.iconst 0, 1) := by decide +kernel
theorem dX0_parts_26 : decode cX0_parts 26 = .ok (.ireturn, 1) := by decide +kernel
theorem dX0_longest_0 : decode cX0_longest 0 = .ok (.aload_n 0, 1) := by decide +kernel
theorem dX0_longest_1 : decode cX0_longest 1 = .ok (.iload_n 1, 1) := by decide +kernel
theorem dX0_longest_2 : decode cX0_longest 2 = .ok (.invokevirtual 33, 3) := by decide +kernel
theorem dX0_longest_5 : decode cX0_longest 5 = .ok (.ifCond .ne 16, 3) := by decide +kernel
theorem dX0_longest_8 : decode cX0_longest 8 = .ok (.aload_n 0, 1) := by decide +kernel
theorem dX0_longest_9 : decode cX0_longest 9 = .ok (.iload_n 2, 1) := by decide +kernel
theorem dX0_longest_10 : decode cX0_longest 10 = .ok (.invokevirtual 33, 3) := by decide +kernel
theorem dX0_longest_13 : decode cX0_longest 13 = .ok (.ifCond .ne 8, 3) := by decide +kernel
theorem dX0_longest_16 : decode cX0_longest 16 = .ok (.iload_n 1, 1) := by decide +kernel
theorem dX0_longest_17 : decode cX0_longest 17 = .ok (.iload_n 2, 1) := by decide +kernel
theorem dX0_longest_18 : decode cX0_longest 18 = .ok (.if_icmp .ne 6, 3) := by decide +kernel
theorem dX0_longest_21 : decode cX0_longest 21 = .ok (.bipush (-4), 2) := by decide +kernel
theorem dX0_longest_23 : decode cX0_longest 23 = .ok (.ireturn, 1) := by decide +kernel
theorem dX0_longest_24 : decode cX0_longest 24 = .ok (.aload_n 0, 1) := by decide +kernel
theorem dX0_longest_25 : decode cX0_longest 25 = .ok (.invokevirtual 49, 3) := by decide +kernel
theorem dX0_longest_28 : decode cX0_longest 28 = .ok (.iconst 0, 1) := by decide +kernel
theorem dX0_longest_29 : decode cX0_longest 29 = .ok (.istore_n 3, 1) := by decide +kernel
theorem dX0_longest_30 : decode cX0_longest 30 = .ok (.iconst 1, 1) := by decide +kernel
theorem dX0_longest_31 : decode cX0_longest 31 = .ok (.istore 4, 2) := by decide +kernel
theorem dX0_longest_33 : decode cX0_longest 33 = .ok (.iload 4, 2) := by decide +kernel
theorem dX0_longest_35 : decode cX0_longest 35 = .ok (.bipush 12, 2) := by decide +kernel
theorem dX0_longest_37 : decode cX0_longest 37 = .ok (.if_icmp .gt 38, 3) := by decide +kernel
theorem dX0_longest_40 : decode cX0_longest 40 = .ok (.aload_n 0, 1) := by decide +kernel
theorem dX0_longest_41 : decode cX0_longest 41 = .ok (.iload_n 1, 1) := by decide +kernel
theorem dX0_longest_42 : decode cX0_longest 42 = .ok (.iload_n 2, 1) := by decide +kernel
theorem dX0_longest_43 : decode cX0_longest 43 = .ok (.iload 4, 2) := by decide +kernel
theorem dX0_longest_45 : decode cX0_longest 45 = .ok (.invokevirtual 62, 3) := by decide +kernel
theorem dX0_longest_48 : decode cX0_longest 48 = .ok (.istore 5, 2) := by decide +kernel
theorem dX0_longest_50 : decode cX0_longest 50 = .ok (.iload 4, 2) := by decide +kernel
theorem dX0_longest_52 : decode cX0_longest 52 = .ok (.iload 5, 2) := by decide +kernel
theorem dX0_longest_54 : decode cX0_longest 54 = .ok (.isub, 1) := by decide +kernel
theorem dX0_longest_55 : decode cX0_longest 55 = .ok (.iload_n 3, 1) := by decide +kernel
theorem dX0_longest_56 : decode cX0_longest 56 = .ok (.if_icmp .le 11, 3) := by decide +kernel
theorem dX0_longest_59 : decode cX0_longest 59 = .ok (.iload 4, 2) := by decide +kernel
theorem dX0_longest_61 : decode cX0_longest 61 = .ok (.iload 5, 2) := by decide +kernel
theorem dX0_longest_63 : decode cX0_longest 63 = .ok (.isub, 1) := by decide +kernel
theorem dX0_longest_64 : decode cX0_longest 64 = .ok (.goto 4, 3) := by decide +kernel
theorem dX0_longest_67 : decode cX0_longest 67 = .ok (.iload_n 3, 1) := by decide +kernel
theorem dX0_longest_68 : decode cX0_longest 68 = .ok (.istore_n 3, 1) := by decide +kernel
theorem dX0_longest_69 : decode cX0_longest 69 = .ok (.iinc 4 1, 3) := by decide +kernel
theorem dX0_longest_72 : decode cX0_longest 72 = .ok (.goto (-39), 3) := by decide +kernel
theorem dX0_longest_75 : decode cX0_longest 75 = .ok (.iload_n 3, 1) := by decide +kernel
theorem dX0_longest_76 : decode cX0_longest 76 = .ok (.ireturn, 1) := by decide +kernel
theorem dX0_agreeSince_0 : decode cX0_agreeSince 0 = .ok (.aload_n 0, 1) := by decide +kernel
theorem dX0_agreeSince_1 : decode cX0_agreeSince 1 = .ok (.iload_n 1, 1) := by decide +kernel
theorem dX0_agreeSince_2 : decode cX0_agreeSince 2 = .ok (.iload_n 3, 1) := by decide +kernel
theorem dX0_agreeSince_3 : decode cX0_agreeSince 3 = .ok (.invokevirtual 59, 3) := by decide +kernel
theorem dX0_agreeSince_6 : decode cX0_agreeSince 6 = .ok (.istore 4, 2) := by decide +kernel
theorem dX0_agreeSince_8 : decode cX0_agreeSince 8 = .ok (.aload_n 0, 1) := by decide +kernel
theorem dX0_agreeSince_9 : decode cX0_agreeSince 9 = .ok (.iload_n 2, 1) := by decide +kernel
theorem dX0_agreeSince_10 : decode cX0_agreeSince 10 = .ok (.iload_n 3, 1) := by decide +kernel
theorem dX0_agreeSince_11 : decode cX0_agreeSince 11 = .ok (.invokevirtual 59, 3) := by decide +kernel
theorem dX0_agreeSince_14 : decode cX0_agreeSince 14 = .ok (.istore 5, 2) := by decide +kernel
theorem dX0_agreeSince_16 : decode cX0_agreeSince 16 = .ok (.iload 4, 2) := by decide +kernel
theorem dX0_agreeSince_18 : decode cX0_agreeSince 18 = .ok (.iload 5, 2) := by decide +kernel
theorem dX0_agreeSince_20 : decode cX0_agreeSince 20 = .ok (.if_icmp .ge 8, 3) := by decide +kernel
theorem dX0_agreeSince_23 : decode cX0_agreeSince 23 = .ok (.iload 4, 2) := by decide +kernel
theorem dX0_agreeSince_25 : decode cX0_agreeSince 25 = .ok (.goto 5, 3) := by decide +kernel
theorem dX0_agreeSince_28 : decode cX0_agreeSince 28 = .ok (.iload 5, 2) := by decide +kernel
theorem dX0_agreeSince_30 : decode cX0_agreeSince 30 = .ok (.istore 6, 2) := by decide +kernel
theorem dX0_agreeSince_32 : decode cX0_agreeSince 32 = .ok (.iload 4, 2) := by decide +kernel
end
section
set_option maxRecDepth 100000
theorem dX0_agreeSince_34 : decode cX0_agreeSince 34 = .ok (.iload 5, 2) := by decide +kernel
theorem dX0_agreeSince_36 : decode cX0_agreeSince 36 = .ok (.if_icmp .ge 8, 3) := by decide +kernel
theorem dX0_agreeSince_39 : decode cX0_agreeSince 39 = .ok (.iload 5, 2) := by decide +kernel
theorem dX0_agreeSince_41 : decode cX0_agreeSince 41 = .ok (.goto 5, 3) := by decide +kernel
theorem dX0_agreeSince_44 : decode cX0_agreeSince 44 = .ok (.iload 4, 2) := by decide +kernel
theorem dX0_agreeSince_46 : decode cX0_agreeSince 46 = .ok (.istore 7, 2) := by decide +kernel
theorem dX0_agreeSince_48 : decode cX0_agreeSince 48 = .ok (.iconst 0, 1) := by decide +kernel
theorem dX0_agreeSince_49 : decode cX0_agreeSince 49 = .ok (.istore 8, 2) := by decide +kernel
theorem dX0_agreeSince_51 : decode cX0_agreeSince 51 = .ok (.iload 6, 2) := by decide +kernel
theorem dX0_agreeSince_53 : decode cX0_agreeSince 53 = .ok (.iconst 1, 1) := by decide +kernel
theorem dX0_agreeSince_54 : decode cX0_agreeSince 54 = .ok (.iadd, 1) := by decide +kernel
theorem dX0_agreeSince_55 : decode cX0_agreeSince 55 = .ok (.istore 9, 2) := by decide +kernel
theorem dX0_agreeSince_57 : decode cX0_agreeSince 57 = .ok (.iload 9, 2) := by decide +kernel
theorem dX0_agreeSince_59 : decode cX0_agreeSince 59 = .ok (.iload 7, 2) := by decide +kernel
theorem dX0_agreeSince_61 : decode cX0_agreeSince 61 = .ok (.if_icmp .gt 39, 3) := by decide +kernel
theorem dX0_agreeSince_64 : decode cX0_agreeSince 64 = .ok (.aload_n 0, 1) := by decide +kernel
theorem dX0_agreeSince_65 : decode cX0_agreeSince 65 = .ok (.getfield 16, 3) := by decide +kernel
theorem dX0_agreeSince_68 : decode cX0_agreeSince 68 = .ok (.bipush 8, 2) := by decide +kernel
theorem dX0_agreeSince_70 : decode cX0_agreeSince 70 = .ok (.iload_n 3, 1) := by decide +kernel
theorem dX0_agreeSince_71 : decode cX0_agreeSince 71 = .ok (.imul, 1) := by decide +kernel
theorem dX0_agreeSince_72 : decode cX0_agreeSince 72 = .ok (.iload 9, 2) := by decide +kernel
theorem dX0_agreeSince_74 : decode cX0_agreeSince 74 = .ok (.iadd, 1) := by decide +kernel
theorem dX0_agreeSince_75 : decode cX0_agreeSince 75 = .ok (.iaload, 1) := by decide +kernel
theorem dX0_agreeSince_76 : decode cX0_agreeSince 76 = .ok (.istore 10, 2) := by decide +kernel
theorem dX0_agreeSince_78 : decode cX0_agreeSince 78 = .ok (.iload 10, 2) := by decide +kernel
theorem dX0_agreeSince_80 : decode cX0_agreeSince 80 = .ok (.iload 8, 2) := by decide +kernel
theorem dX0_agreeSince_82 : decode cX0_agreeSince 82 = .ok (.if_icmp .le 8, 3) := by decide +kernel
theorem dX0_agreeSince_85 : decode cX0_agreeSince 85 = .ok (.iload 10, 2) := by decide +kernel
theorem dX0_agreeSince_87 : decode cX0_agreeSince 87 = .ok (.goto 5, 3) := by decide +kernel
theorem dX0_agreeSince_90 : decode cX0_agreeSince 90 = .ok (.iload 8, 2) := by decide +kernel
theorem dX0_agreeSince_92 : decode cX0_agreeSince 92 = .ok (.istore 8, 2) := by decide +kernel
theorem dX0_agreeSince_94 : decode cX0_agreeSince 94 = .ok (.iinc 9 1, 3) := by decide +kernel
theorem dX0_agreeSince_97 : decode cX0_agreeSince 97 = .ok (.goto (-40), 3) := by decide +kernel
theorem dX0_agreeSince_100 : decode cX0_agreeSince 100 = .ok (.iload 8, 2) := by decide +kernel
theorem dX0_agreeSince_102 : decode cX0_agreeSince 102 = .ok (.ireturn, 1) := by decide +kernel
theorem dX0_placeOf_0 : decode cX0_placeOf 0 = .ok (.iconst 0, 1) := by decide +kernel
theorem dX0_placeOf_1 : decode cX0_placeOf 1 = .ok (.istore_n 3, 1) := by decide +kernel
theorem dX0_placeOf_2 : decode cX0_placeOf 2 = .ok (.iconst 0, 1) := by decide +kernel
theorem dX0_placeOf_3 : decode cX0_placeOf 3 = .ok (.istore 4, 2) := by decide +kernel
theorem dX0_placeOf_5 : decode cX0_placeOf 5 = .ok (.iload 4, 2) := by decide +kernel
theorem dX0_placeOf_7 : decode cX0_placeOf 7 = .ok (.aload_n 0, 1) := by decide +kernel
theorem dX0_placeOf_8 : decode cX0_placeOf 8 = .ok (.getfield 25, 3) := by decide +kernel
theorem dX0_placeOf_11 : decode cX0_placeOf 11 = .ok (.if_icmp .ge 32, 3) := by decide +kernel
theorem dX0_placeOf_14 : decode cX0_placeOf 14 = .ok (.aload_n 0, 1) := by decide +kernel
theorem dX0_placeOf_15 : decode cX0_placeOf 15 = .ok (.getfield 13, 3) := by decide +kernel
theorem dX0_placeOf_18 : decode cX0_placeOf 18 = .ok (.bipush 8, 2) := by decide +kernel
theorem dX0_placeOf_20 : decode cX0_placeOf 20 = .ok (.iload_n 2, 1) := by decide +kernel
theorem dX0_placeOf_21 : decode cX0_placeOf 21 = .ok (.imul, 1) := by decide +kernel
theorem dX0_placeOf_22 : decode cX0_placeOf 22 = .ok (.iload 4, 2) := by decide +kernel
theorem dX0_placeOf_24 : decode cX0_placeOf 24 = .ok (.iadd, 1) := by decide +kernel
theorem dX0_placeOf_25 : decode cX0_placeOf 25 = .ok (.iaload, 1) := by decide +kernel
theorem dX0_placeOf_26 : decode cX0_placeOf 26 = .ok (.iload_n 1, 1) := by decide +kernel
theorem dX0_placeOf_27 : decode cX0_placeOf 27 = .ok (.if_icmp .ne 8, 3) := by decide +kernel
theorem dX0_placeOf_30 : decode cX0_placeOf 30 = .ok (.iload 4, 2) := by decide +kernel
theorem dX0_placeOf_32 : decode cX0_placeOf 32 = .ok (.goto 4, 3) := by decide +kernel
theorem dX0_placeOf_35 : decode cX0_placeOf 35 = .ok (.iload_n 3, 1) := by decide +kernel
theorem dX0_placeOf_36 : decode cX0_placeOf 36 = .ok (.istore_n 3, 1) := by decide +kernel
theorem dX0_placeOf_37 : decode cX0_placeOf 37 = .ok (.iinc 4 1, 3) := by decide +kernel
theorem dX0_placeOf_40 : decode cX0_placeOf 40 = .ok (.goto (-35), 3) := by decide +kernel
theorem dX0_placeOf_43 : decode cX0_placeOf 43 = .ok (.iload_n 3, 1) := by decide +kernel
theorem dX0_placeOf_44 : decode cX0_placeOf 44 = .ok (.ireturn, 1) := by decide +kernel
theorem dX0_winning_0 : decode cX0_winning 0 = .ok (.aload_n 0, 1) := by decide +kernel
theorem dX0_winning_1 : decode cX0_winning 1 = .ok (.iload_n 1, 1) := by decide +kernel
theorem dX0_winning_2 : decode cX0_winning 2 = .ok (.invokevirtual 33, 3) := by decide +kernel
theorem dX0_winning_5 : decode cX0_winning 5 = .ok (.ifCond .eq 6, 3) := by decide +kernel
theorem dX0_winning_8 : decode cX0_winning 8 = .ok (.bipush (-4), 2) := by decide +kernel
theorem dX0_winning_10 : decode cX0_winning 10 = .ok (.ireturn, 1) := by decide +kernel
theorem dX0_winning_11 : decode cX0_winning 11 = .ok (.aload_n 0, 1) := by decide +kernel
theorem dX0_winning_12 : decode cX0_winning 12 = .ok (.invokevirtual 49, 3) := by decide +kernel
theorem dX0_winning_15 : decode cX0_winning 15 = .ok (.iconst 0, 1) := by decide +kernel
theorem dX0_winning_16 : decode cX0_winning 16 = .ok (.istore_n 2, 1) := by decide +kernel
theorem dX0_winning_17 : decode cX0_winning 17 = .ok (.iconst 1, 1) := by decide +kernel
theorem dX0_winning_18 : decode cX0_winning 18 = .ok (.istore_n 3, 1) := by decide +kernel
theorem dX0_winning_19 : decode cX0_winning 19 = .ok (.iload_n 3, 1) := by decide +kernel
theorem dX0_winning_20 : decode cX0_winning 20 = .ok (.bipush 12, 2) := by decide +kernel
theorem dX0_winning_22 : decode cX0_winning 22 = .ok (.if_icmp .gt 22, 3) := by decide +kernel
theorem dX0_winning_25 : decode cX0_winning 25 = .ok (.aload_n 0, 1) := by decide +kernel
theorem dX0_winning_26 : decode cX0_winning 26 = .ok (.iload_n 1, 1) := by decide +kernel
theorem dX0_winning_27 : decode cX0_winning 27 = .ok (.iload_n 3, 1) := by decide +kernel
theorem dX0_winning_28 : decode cX0_winning 28 = .ok (.invokevirtual 69, 3) := by decide +kernel
theorem dX0_winning_31 : decode cX0_winning 31 = .ok (.istore 4, 2) := by decide +kernel
theorem dX0_winning_33 : decode cX0_winning 33 = .ok (.iload_n 2, 1) := by decide +kernel
theorem dX0_winning_34 : decode cX0_winning 34 = .ok (.iload 4, 2) := by decide +kernel
theorem dX0_winning_36 : decode cX0_winning 36 = .ok (.iadd, 1) := by decide +kernel
theorem dX0_winning_37 : decode cX0_winning 37 = .ok (.istore_n 2, 1) := by decide +kernel
theorem dX0_winning_38 : decode cX0_winning 38 = .ok (.iinc 3 1, 3) := by decide +kernel
theorem dX0_winning_41 : decode cX0_winning 41 = .ok (.goto (-22), 3) := by decide +kernel
theorem dX0_winning_44 : decode cX0_winning 44 = .ok (.iload_n 2, 1) := by decide +kernel
theorem dX0_winning_45 : decode cX0_winning 45 = .ok (.ireturn, 1) := by decide +kernel
theorem dX0_winsBefore_0 : decode cX0_winsBefore 0 = .ok (.aload_n 0, 1) := by decide +kernel
theorem dX0_winsBefore_1 : decode cX0_winsBefore 1 = .ok (.iload_n 1, 1) := by decide +kernel
theorem dX0_winsBefore_2 : decode cX0_winsBefore 2 = .ok (.iload_n 2, 1) := by decide +kernel
theorem dX0_winsBefore_3 : decode cX0_winsBefore 3 = .ok (.invokevirtual 66, 3) := by decide +kernel
theorem dX0_winsBefore_6 : decode cX0_winsBefore 6 = .ok (.istore_n 3, 1) := by decide +kernel
theorem dX0_winsBefore_7 : decode cX0_winsBefore 7 = .ok (.iload_n 3, 1) := by decide +kernel
theorem dX0_winsBefore_8 : decode cX0_winsBefore 8 = .ok (.iload_n 2, 1) := by decide +kernel
theorem dX0_winsBefore_9 : decode cX0_winsBefore 9 = .ok (.if_icmp .ne 5, 3) := by decide +kernel
theorem dX0_winsBefore_12 : decode cX0_winsBefore 12 = .ok (.iconst 0, 1) := by decide +kernel
theorem dX0_winsBefore_13 : decode cX0_winsBefore 13 = .ok (.ireturn, 1) := by decide +kernel
theorem dX0_winsBefore_14 : decode cX0_winsBefore 14 = .ok (.iconst 0, 1) := by decide +kernel
theorem dX0_winsBefore_15 : decode cX0_winsBefore 15 = .ok (.istore 4, 2) := by decide +kernel
theorem dX0_winsBefore_17 : decode cX0_winsBefore 17 = .ok (.iconst 0, 1) := by decide +kernel
theorem dX0_winsBefore_18 : decode cX0_winsBefore 18 = .ok (.istore 5, 2) := by decide +kernel
theorem dX0_winsBefore_20 : decode cX0_winsBefore 20 = .ok (.iconst 0, 1) := by decide +kernel
theorem dX0_winsBefore_21 : decode cX0_winsBefore 21 = .ok (.istore 6, 2) := by decide +kernel
theorem dX0_winsBefore_23 : decode cX0_winsBefore 23 = .ok (.iload 6, 2) := by decide +kernel
theorem dX0_winsBefore_25 : decode cX0_winsBefore 25 = .ok (.aload_n 0, 1) := by decide +kernel
theorem dX0_winsBefore_26 : decode cX0_winsBefore 26 = .ok (.getfield 25, 3) := by decide +kernel
theorem dX0_winsBefore_29 : decode cX0_winsBefore 29 = .ok (.if_icmp .ge 61, 3) := by decide +kernel
theorem dX0_winsBefore_32 : decode cX0_winsBefore 32 = .ok (.iload 6, 2) := by decide +kernel
theorem dX0_winsBefore_34 : decode cX0_winsBefore 34 = .ok (.iload_n 1, 1) := by decide +kernel
theorem dX0_winsBefore_35 : decode cX0_winsBefore 35 = .ok (.if_icmp .eq 49, 3) := by decide +kernel
theorem dX0_winsBefore_38 : decode cX0_winsBefore 38 = .ok (.aload_n 0, 1) := by decide +kernel
theorem dX0_winsBefore_39 : decode cX0_winsBefore 39 = .ok (.iload_n 1, 1) := by decide +kernel
theorem dX0_winsBefore_40 : decode cX0_winsBefore 40 = .ok (.iload 6, 2) := by decide +kernel
theorem dX0_winsBefore_42 : decode cX0_winsBefore 42 = .ok (.iload_n 2, 1) := by decide +kernel
theorem dX0_winsBefore_43 : decode cX0_winsBefore 43 = .ok (.invokevirtual 62, 3) := by decide +kernel
theorem dX0_winsBefore_46 : decode cX0_winsBefore 46 = .ok (.istore 7, 2) := by decide +kernel
theorem dX0_winsBefore_48 : decode cX0_winsBefore 48 = .ok (.iload 7, 2) := by decide +kernel
theorem dX0_winsBefore_50 : decode cX0_winsBefore 50 = .ok (.iload_n 3, 1) := by decide +kernel
theorem dX0_winsBefore_51 : decode cX0_winsBefore 51 = .ok (.if_icmp .ne 33, 3) := by decide +kernel
theorem dX0_winsBefore_54 : decode cX0_winsBefore 54 = .ok (.iinc 4 1, 3) := by decide +kernel
theorem dX0_winsBefore_57 : decode cX0_winsBefore 57 = .ok (.aload_n 0, 1) := by decide +kernel
theorem dX0_winsBefore_58 : decode cX0_winsBefore 58 = .ok (.iload_n 1, 1) := by decide +kernel
theorem dX0_winsBefore_59 : decode cX0_winsBefore 59 = .ok (.iload 6, 2) := by decide +kernel
theorem dX0_winsBefore_61 : decode cX0_winsBefore 61 = .ok (.iload_n 2, 1) := by decide +kernel
theorem dX0_winsBefore_62 : decode cX0_winsBefore 62 = .ok (.invokevirtual 52, 3) := by decide +kernel
theorem dX0_winsBefore_65 : decode cX0_winsBefore 65 = .ok (.istore 8, 2) := by decide +kernel
theorem dX0_winsBefore_67 : decode cX0_winsBefore 67 = .ok (.iload 5, 2) := by decide +kernel
theorem dX0_winsBefore_69 : decode cX0_winsBefore 69 = .ok (.ifCond .ne 8, 3) := by decide +kernel
theorem dX0_winsBefore_72 : decode cX0_winsBefore 72 = .ok (.iload 8, 2) := by decide +kernel
theorem dX0_winsBefore_74 : decode cX0_winsBefore 74 = .ok (.ifCond .ne 7, 3) := by decide +kernel
theorem dX0_winsBefore_77 : decode cX0_winsBefore 77 = .ok (.iconst 1, 1) := by decide +kernel
theorem dX0_winsBefore_78 : decode cX0_winsBefore 78 = .ok (.goto 4, 3) := by decide +kernel
theorem dX0_winsBefore_81 : decode cX0_winsBefore 81 = .ok (.iconst 0, 1) := by decide +kernel
theorem dX0_winsBefore_82 : decode cX0_winsBefore 82 = .ok (.istore 5, 2) := by decide +kernel
theorem dX0_winsBefore_84 : decode cX0_winsBefore 84 = .ok (.iinc 6 1, 3) := by decide +kernel
theorem dX0_winsBefore_87 : decode cX0_winsBefore 87 = .ok (.goto (-64), 3) := by decide +kernel
theorem dX0_winsBefore_90 : decode cX0_winsBefore 90 = .ok (.iload 5, 2) := by decide +kernel
theorem dX0_winsBefore_92 : decode cX0_winsBefore 92 = .ok (.ifCond .eq 7, 3) := by decide +kernel
theorem dX0_winsBefore_95 : decode cX0_winsBefore 95 = .ok (.iconst 0, 1) := by decide +kernel
theorem dX0_winsBefore_96 : decode cX0_winsBefore 96 = .ok (.goto 5, 3) := by decide +kernel
theorem dX0_winsBefore_99 : decode cX0_winsBefore 99 = .ok (.iload 4, 2) := by decide +kernel
theorem dX0_winsBefore_101 : decode cX0_winsBefore 101 = .ok (.ireturn, 1) := by decide +kernel
theorem dX0_bestSince_0 : decode cX0_bestSince 0 = .ok (.aload_n 0, 1) := by decide +kernel
theorem dX0_bestSince_1 : decode cX0_bestSince 1 = .ok (.iload_n 1, 1) := by decide +kernel
theorem dX0_bestSince_2 : decode cX0_bestSince 2 = .ok (.iload_n 2, 1) := by decide +kernel
theorem dX0_bestSince_3 : decode cX0_bestSince 3 = .ok (.invokevirtual 59, 3) := by decide +kernel
theorem dX0_bestSince_6 : decode cX0_bestSince 6 = .ok (.istore_n 3, 1) := by decide +kernel
theorem dX0_bestSince_7 : decode cX0_bestSince 7 = .ok (.iload_n 3, 1) := by decide +kernel
theorem dX0_bestSince_8 : decode cX0_bestSince 8 = .ok (.ifCond .le 17, 3) := by decide +kernel
theorem dX0_bestSince_11 : decode cX0_bestSince 11 = .ok (.aload_n 0, 1) := by decide +kernel
theorem dX0_bestSince_12 : decode cX0_bestSince 12 = .ok (.getfield 16, 3) := by decide +kernel
theorem dX0_bestSince_15 : decode cX0_bestSince 15 = .ok (.bipush 8, 2) := by decide +kernel
theorem dX0_bestSince_17 : decode cX0_bestSince 17 = .ok (.iload_n 2, 1) := by decide +kernel
theorem dX0_bestSince_18 : decode cX0_bestSince 18 = .ok (.imul, 1) := by decide +kernel
theorem dX0_bestSince_19 : decode cX0_bestSince 19 = .ok (.iload_n 3, 1) := by decide +kernel
theorem dX0_bestSince_20 : decode cX0_bestSince 20 = .ok (.iadd, 1) := by decide +kernel
theorem dX0_bestSince_21 : decode cX0_bestSince 21 = .ok (.iaload, 1) := by decide +kernel
theorem dX0_bestSince_22 : decode cX0_bestSince 22 = .ok (.goto 4, 3) := by decide +kernel
theorem dX0_bestSince_25 : decode cX0_bestSince 25 = .ok (.iload_n 2, 1) := by decide +kernel
theorem dX0_bestSince_26 : decode cX0_bestSince 26 = .ok (.istore 4, 2) := by decide +kernel
theorem dX0_bestSince_28 : decode cX0_bestSince 28 = .ok (.iload_n 3, 1) := by decide +kernel
theorem dX0_bestSince_29 : decode cX0_bestSince 29 = .ok (.iconst 1, 1) := by decide +kernel
theorem dX0_bestSince_30 : decode cX0_bestSince 30 = .ok (.iadd, 1) := by decide +kernel
theorem dX0_bestSince_31 : decode cX0_bestSince 31 = .ok (.aload_n 0, 1) := by decide +kernel
theorem dX0_bestSince_32 : decode cX0_bestSince 32 = .ok (.getfield 25, 3) := by decide +kernel
theorem dX0_bestSince_35 : decode cX0_bestSince 35 = .ok (.if_icmp .ge 19, 3) := by decide +kernel
theorem dX0_bestSince_38 : decode cX0_bestSince 38 = .ok (.aload_n 0, 1) := by decide +kernel
theorem dX0_bestSince_39 : decode cX0_bestSince 39 = .ok (.getfield 16, 3) := by decide +kernel
theorem dX0_bestSince_42 : decode cX0_bestSince 42 = .ok (.bipush 8, 2) := by decide +kernel
theorem dX0_bestSince_44 : decode cX0_bestSince 44 = .ok (.iload_n 2, 1) := by decide +kernel
theorem dX0_bestSince_45 : decode cX0_bestSince 45 = .ok (.imul, 1) := by decide +kernel
theorem dX0_bestSince_46 : decode cX0_bestSince 46 = .ok (.iload_n 3, 1) := by decide +kernel
theorem dX0_bestSince_47 : decode cX0_bestSince 47 = .ok (.iadd, 1) := by decide +kernel
theorem dX0_bestSince_48 : decode cX0_bestSince 48 = .ok (.iconst 1, 1) := by decide +kernel
theorem dX0_bestSince_49 : decode cX0_bestSince 49 = .ok (.iadd, 1) := by decide +kernel
theorem dX0_bestSince_50 : decode cX0_bestSince 50 = .ok (.iaload, 1) := by decide +kernel
theorem dX0_bestSince_51 : decode cX0_bestSince 51 = .ok (.goto 4, 3) := by decide +kernel
theorem dX0_bestSince_54 : decode cX0_bestSince 54 = .ok (.iload_n 2, 1) := by decide +kernel
theorem dX0_bestSince_55 : decode cX0_bestSince 55 = .ok (.istore 5, 2) := by decide +kernel
theorem dX0_bestSince_57 : decode cX0_bestSince 57 = .ok (.iload 4, 2) := by decide +kernel
theorem dX0_bestSince_59 : decode cX0_bestSince 59 = .ok (.iload 5, 2) := by decide +kernel
theorem dX0_bestSince_61 : decode cX0_bestSince 61 = .ok (.if_icmp .ge 8, 3) := by decide +kernel
theorem dX0_bestSince_64 : decode cX0_bestSince 64 = .ok (.iload 4, 2) := by decide +kernel
theorem dX0_bestSince_66 : decode cX0_bestSince 66 = .ok (.goto 5, 3) := by decide +kernel
theorem dX0_bestSince_69 : decode cX0_bestSince 69 = .ok (.iload 5, 2) := by decide +kernel
theorem dX0_bestSince_71 : decode cX0_bestSince 71 = .ok (.ireturn, 1) := by decide +kernel
theorem dX0_cover_0 : decode cX0_cover 0 = .ok (.aload_n 0, 1) := by decide +kernel
theorem dX0_cover_1 : decode cX0_cover 1 = .ok (.iload_n 1, 1) := by decide +kernel
theorem dX0_cover_2 : decode cX0_cover 2 = .ok (.invokevirtual 33, 3) := by decide +kernel
theorem dX0_cover_5 : decode cX0_cover 5 = .ok (.ifCond .eq 6, 3) := by decide +kernel
theorem dX0_cover_8 : decode cX0_cover 8 = .ok (.bipush (-4), 2) := by decide +kernel
theorem dX0_cover_10 : decode cX0_cover 10 = .ok (.ireturn, 1) := by decide +kernel
theorem dX0_cover_11 : decode cX0_cover 11 = .ok (.aload_n 0, 1) := by decide +kernel
theorem dX0_cover_12 : decode cX0_cover 12 = .ok (.invokevirtual 49, 3) := by decide +kernel
theorem dX0_cover_15 : decode cX0_cover 15 = .ok (.iconst 0, 1) := by decide +kernel
theorem dX0_cover_16 : decode cX0_cover 16 = .ok (.istore_n 2, 1) := by decide +kernel
theorem dX0_cover_17 : decode cX0_cover 17 = .ok (.iconst 0, 1) := by decide +kernel
theorem dX0_cover_18 : decode cX0_cover 18 = .ok (.istore_n 3, 1) := by decide +kernel
theorem dX0_cover_19 : decode cX0_cover 19 = .ok (.iload_n 3, 1) := by decide +kernel
theorem dX0_cover_20 : decode cX0_cover 20 = .ok (.bipush 12, 2) := by decide +kernel
theorem dX0_cover_22 : decode cX0_cover 22 = .ok (.if_icmp .ge 77, 3) := by decide +kernel
theorem dX0_cover_25 : decode cX0_cover 25 = .ok (.iconst 0, 1) := by decide +kernel
theorem dX0_cover_26 : decode cX0_cover 26 = .ok (.istore 4, 2) := by decide +kernel
theorem dX0_cover_28 : decode cX0_cover 28 = .ok (.iload_n 3, 1) := by decide +kernel
theorem dX0_cover_29 : decode cX0_cover 29 = .ok (.iconst 1, 1) := by decide +kernel
theorem dX0_cover_30 : decode cX0_cover 30 = .ok (.iadd, 1) := by decide +kernel
theorem dX0_cover_31 : decode cX0_cover 31 = .ok (.istore 5, 2) := by decide +kernel
theorem dX0_cover_33 : decode cX0_cover 33 = .ok (.iload 5, 2) := by decide +kernel
theorem dX0_cover_35 : decode cX0_cover 35 = .ok (.bipush 12, 2) := by decide +kernel
theorem dX0_cover_37 : decode cX0_cover 37 = .ok (.if_icmp .gt 51, 3) := by decide +kernel
theorem dX0_cover_40 : decode cX0_cover 40 = .ok (.aload_n 0, 1) := by decide +kernel
theorem dX0_cover_41 : decode cX0_cover 41 = .ok (.iload_n 1, 1) := by decide +kernel
theorem dX0_cover_42 : decode cX0_cover 42 = .ok (.iload 5, 2) := by decide +kernel
theorem dX0_cover_44 : decode cX0_cover 44 = .ok (.invokevirtual 66, 3) := by decide +kernel
theorem dX0_cover_47 : decode cX0_cover 47 = .ok (.istore 6, 2) := by decide +kernel
theorem dX0_cover_49 : decode cX0_cover 49 = .ok (.iload 6, 2) := by decide +kernel
theorem dX0_cover_51 : decode cX0_cover 51 = .ok (.iload_n 3, 1) := by decide +kernel
theorem dX0_cover_52 : decode cX0_cover 52 = .ok (.if_icmp .gt 11, 3) := by decide +kernel
theorem dX0_cover_55 : decode cX0_cover 55 = .ok (.iload 5, 2) := by decide +kernel
theorem dX0_cover_57 : decode cX0_cover 57 = .ok (.iload 6, 2) := by decide +kernel
theorem dX0_cover_59 : decode cX0_cover 59 = .ok (.isub, 1) := by decide +kernel
theorem dX0_cover_60 : decode cX0_cover 60 = .ok (.goto 4, 3) := by decide +kernel
theorem dX0_cover_63 : decode cX0_cover 63 = .ok (.iconst 0, 1) := by decide +kernel
theorem dX0_cover_64 : decode cX0_cover 64 = .ok (.istore 7, 2) := by decide +kernel
theorem dX0_cover_66 : decode cX0_cover 66 = .ok (.iload 7, 2) := by decide +kernel
theorem dX0_cover_68 : decode cX0_cover 68 = .ok (.iload 4, 2) := by decide +kernel
theorem dX0_cover_70 : decode cX0_cover 70 = .ok (.if_icmp .le 8, 3) := by decide +kernel
theorem dX0_cover_73 : decode cX0_cover 73 = .ok (.iload 7, 2) := by decide +kernel
theorem dX0_cover_75 : decode cX0_cover 75 = .ok (.goto 5, 3) := by decide +kernel
theorem dX0_cover_78 : decode cX0_cover 78 = .ok (.iload 4, 2) := by decide +kernel
theorem dX0_cover_80 : decode cX0_cover 80 = .ok (.istore 4, 2) := by decide +kernel
theorem dX0_cover_82 : decode cX0_cover 82 = .ok (.iinc 5 1, 3) := by decide +kernel
theorem dX0_cover_85 : decode cX0_cover 85 = .ok (.goto (-52), 3) := by decide +kernel
theorem dX0_cover_88 : decode cX0_cover 88 = .ok (.iload_n 2, 1) := by decide +kernel
theorem dX0_cover_89 : decode cX0_cover 89 = .ok (.iload 4, 2) := by decide +kernel
theorem dX0_cover_91 : decode cX0_cover 91 = .ok (.iadd, 1) := by decide +kernel
theorem dX0_cover_92 : decode cX0_cover 92 = .ok (.istore_n 2, 1) := by decide +kernel
theorem dX0_cover_93 : decode cX0_cover 93 = .ok (.iinc 3 1, 3) := by decide +kernel
theorem dX0_cover_96 : decode cX0_cover 96 = .ok (.goto (-77), 3) := by decide +kernel
theorem dX0_cover_99 : decode cX0_cover 99 = .ok (.iload_n 2, 1) := by decide +kernel
theorem dX0_cover_100 : decode cX0_cover 100 = .ok (.ireturn, 1) := by decide +kernel
theorem dX0_kinds_0 : decode cX0_kinds 0 = .ok (.iload_n 1, 1) := by decide +kernel
theorem dX0_kinds_1 : decode cX0_kinds 1 = .ok (.ifCond .lt 14, 3) := by decide +kernel
theorem dX0_kinds_4 : decode cX0_kinds 4 = .ok (.iload_n 2, 1) := by decide +kernel
theorem dX0_kinds_5 : decode cX0_kinds 5 = .ok (.bipush 12, 2) := by decide +kernel
theorem dX0_kinds_7 : decode cX0_kinds 7 = .ok (.if_icmp .ge 8, 3) := by decide +kernel
theorem dX0_kinds_10 : decode cX0_kinds 10 = .ok (.iload_n 1, 1) := by decide +kernel
theorem dX0_kinds_11 : decode cX0_kinds 11 = .ok (.iload_n 2, 1) := by decide +kernel
theorem dX0_kinds_12 : decode cX0_kinds 12 = .ok (.if_icmp .le 5, 3) := by decide +kernel
theorem dX0_kinds_15 : decode cX0_kinds 15 = .ok (.iconst (-1), 1) := by decide +kernel
theorem dX0_kinds_16 : decode cX0_kinds 16 = .ok (.ireturn, 1) := by decide +kernel
theorem dX0_kinds_17 : decode cX0_kinds 17 = .ok (.aload_n 0, 1) := by decide +kernel
theorem dX0_kinds_18 : decode cX0_kinds 18 = .ok (.invokevirtual 49, 3) := by decide +kernel
theorem dX0_kinds_21 : decode cX0_kinds 21 = .ok (.iconst 0, 1) := by decide +kernel
theorem dX0_kinds_22 : decode cX0_kinds 22 = .ok (.istore_n 3, 1) := by decide +kernel
theorem dX0_kinds_23 : decode cX0_kinds 23 = .ok (.iconst 0, 1) := by decide +kernel
theorem dX0_kinds_24 : decode cX0_kinds 24 = .ok (.istore 4, 2) := by decide +kernel
theorem dX0_kinds_26 : decode cX0_kinds 26 = .ok (.iload 4, 2) := by decide +kernel
theorem dX0_kinds_28 : decode cX0_kinds 28 = .ok (.aload_n 0, 1) := by decide +kernel
theorem dX0_kinds_29 : decode cX0_kinds 29 = .ok (.getfield 25, 3) := by decide +kernel
theorem dX0_kinds_32 : decode cX0_kinds 32 = .ok (.if_icmp .ge 40, 3) := by decide +kernel
theorem dX0_kinds_35 : decode cX0_kinds 35 = .ok (.iload 4, 2) := by decide +kernel
theorem dX0_kinds_37 : decode cX0_kinds 37 = .ok (.ifCond .eq 21, 3) := by decide +kernel
theorem dX0_kinds_40 : decode cX0_kinds 40 = .ok (.aload_n 0, 1) := by decide +kernel
theorem dX0_kinds_41 : decode cX0_kinds 41 = .ok (.getfield 16, 3) := by decide +kernel
theorem dX0_kinds_44 : decode cX0_kinds 44 = .ok (.bipush 8, 2) := by decide +kernel
theorem dX0_kinds_46 : decode cX0_kinds 46 = .ok (.iload_n 2, 1) := by decide +kernel
theorem dX0_kinds_47 : decode cX0_kinds 47 = .ok (.iconst 1, 1) := by decide +kernel
theorem dX0_kinds_48 : decode cX0_kinds 48 = .ok (.iadd, 1) := by decide +kernel
theorem dX0_kinds_49 : decode cX0_kinds 49 = .ok (.imul, 1) := by decide +kernel
theorem dX0_kinds_50 : decode cX0_kinds 50 = .ok (.iload 4, 2) := by decide +kernel
theorem dX0_kinds_52 : decode cX0_kinds 52 = .ok (.iadd, 1) := by decide +kernel
theorem dX0_kinds_53 : decode cX0_kinds 53 = .ok (.iaload, 1) := by decide +kernel
theorem dX0_kinds_54 : decode cX0_kinds 54 = .ok (.iload_n 1, 1) := by decide +kernel
theorem dX0_kinds_55 : decode cX0_kinds 55 = .ok (.if_icmp .le 9, 3) := by decide +kernel
theorem dX0_kinds_58 : decode cX0_kinds 58 = .ok (.iload_n 3, 1) := by decide +kernel
theorem dX0_kinds_59 : decode cX0_kinds 59 = .ok (.iconst 1, 1) := by decide +kernel
theorem dX0_kinds_60 : decode cX0_kinds 60 = .ok (.iadd, 1) := by decide +kernel
theorem dX0_kinds_61 : decode cX0_kinds 61 = .ok (.goto 4, 3) := by decide +kernel
theorem dX0_kinds_64 : decode cX0_kinds 64 = .ok (.iload_n 3, 1) := by decide +kernel
theorem dX0_kinds_65 : decode cX0_kinds 65 = .ok (.istore_n 3, 1) := by decide +kernel
theorem dX0_kinds_66 : decode cX0_kinds 66 = .ok (.iinc 4 1, 3) := by decide +kernel
theorem dX0_kinds_69 : decode cX0_kinds 69 = .ok (.goto (-43), 3) := by decide +kernel
theorem dX0_kinds_72 : decode cX0_kinds 72 = .ok (.iload_n 3, 1) := by decide +kernel
theorem dX0_kinds_73 : decode cX0_kinds 73 = .ok (.ireturn, 1) := by decide +kernel
theorem dX0_having_0 : decode cX0_having 0 = .ok (.iload_n 1, 1) := by decide +kernel
theorem dX0_having_1 : decode cX0_having 1 = .ok (.ifCond .lt 38, 3) := by decide +kernel
theorem dX0_having_4 : decode cX0_having 4 = .ok (.iload_n 1, 1) := by decide +kernel
theorem dX0_having_5 : decode cX0_having 5 = .ok (.bipush 12, 2) := by decide +kernel
theorem dX0_having_7 : decode cX0_having 7 = .ok (.if_icmp .gt 32, 3) := by decide +kernel
theorem dX0_having_10 : decode cX0_having 10 = .ok (.iload_n 2, 1) := by decide +kernel
theorem dX0_having_11 : decode cX0_having 11 = .ok (.ifCond .lt 28, 3) := by decide +kernel
theorem dX0_having_14 : decode cX0_having 14 = .ok (.iload_n 2, 1) := by decide +kernel
theorem dX0_having_15 : decode cX0_having 15 = .ok (.bipush 12, 2) := by decide +kernel
theorem dX0_having_17 : decode cX0_having 17 = .ok (.if_icmp .gt 22, 3) := by decide +kernel
theorem dX0_having_20 : decode cX0_having 20 = .ok (.iload_n 1, 1) := by decide +kernel
theorem dX0_having_21 : decode cX0_having 21 = .ok (.iload_n 2, 1) := by decide +kernel
theorem dX0_having_22 : decode cX0_having 22 = .ok (.iadd, 1) := by decide +kernel
theorem dX0_having_23 : decode cX0_having 23 = .ok (.bipush 12, 2) := by decide +kernel
theorem dX0_having_25 : decode cX0_having 25 = .ok (.if_icmp .gt 14, 3) := by decide +kernel
theorem dX0_having_28 : decode cX0_having 28 = .ok (.iload_n 3, 1) := by decide +kernel
theorem dX0_having_29 : decode cX0_having 29 = .ok (.ifCond .lt 10, 3) := by decide +kernel
theorem dX0_having_32 : decode cX0_having 32 = .ok (.iload_n 3, 1) := by decide +kernel
theorem dX0_having_33 : decode cX0_having 33 = .ok (.sipush 4095, 3) := by decide +kernel
theorem dX0_having_36 : decode cX0_having 36 = .ok (.if_icmp .le 5, 3) := by decide +kernel
theorem dX0_having_39 : decode cX0_having 39 = .ok (.iconst (-1), 1) := by decide +kernel
theorem dX0_having_40 : decode cX0_having 40 = .ok (.ireturn, 1) := by decide +kernel
theorem dX0_having_41 : decode cX0_having 41 = .ok (.aload_n 0, 1) := by decide +kernel
theorem dX0_having_42 : decode cX0_having 42 = .ok (.invokevirtual 49, 3) := by decide +kernel
theorem dX0_having_45 : decode cX0_having 45 = .ok (.iconst 1, 1) := by decide +kernel
theorem dX0_having_46 : decode cX0_having 46 = .ok (.iload_n 2, 1) := by decide +kernel
theorem dX0_having_47 : decode cX0_having 47 = .ok (.ishl, 1) := by decide +kernel
theorem dX0_having_48 : decode cX0_having 48 = .ok (.iconst 1, 1) := by decide +kernel
theorem dX0_having_49 : decode cX0_having 49 = .ok (.isub, 1) := by decide +kernel
theorem dX0_having_50 : decode cX0_having 50 = .ok (.istore 4, 2) := by decide +kernel
theorem dX0_having_52 : decode cX0_having 52 = .ok (.iload_n 1, 1) := by decide +kernel
theorem dX0_having_53 : decode cX0_having 53 = .ok (.iload_n 2, 1) := by decide +kernel
theorem dX0_having_54 : decode cX0_having 54 = .ok (.iadd, 1) := by decide +kernel
theorem dX0_having_55 : decode cX0_having 55 = .ok (.istore 5, 2) := by decide +kernel
theorem dX0_having_57 : decode cX0_having 57 = .ok (.iconst 0, 1) := by decide +kernel
theorem dX0_having_58 : decode cX0_having 58 = .ok (.istore 6, 2) := by decide +kernel
theorem dX0_having_60 : decode cX0_having 60 = .ok (.iconst 0, 1) := by decide +kernel
theorem dX0_having_61 : decode cX0_having 61 = .ok (.istore 7, 2) := by decide +kernel
theorem dX0_having_63 : decode cX0_having 63 = .ok (.iconst 0, 1) := by decide +kernel
theorem dX0_having_64 : decode cX0_having 64 = .ok (.istore 8, 2) := by decide +kernel
theorem dX0_having_66 : decode cX0_having 66 = .ok (.iload 8, 2) := by decide +kernel
theorem dX0_having_68 : decode cX0_having 68 = .ok (.aload_n 0, 1) := by decide +kernel
theorem dX0_having_69 : decode cX0_having 69 = .ok (.getfield 25, 3) := by decide +kernel
theorem dX0_having_72 : decode cX0_having 72 = .ok (.if_icmp .ge 99, 3) := by decide +kernel
theorem dX0_having_75 : decode cX0_having 75 = .ok (.iload 7, 2) := by decide +kernel
theorem dX0_having_77 : decode cX0_having 77 = .ok (.ifCond .eq 30, 3) := by decide +kernel
theorem dX0_having_80 : decode cX0_having 80 = .ok (.aload_n 0, 1) := by decide +kernel
theorem dX0_having_81 : decode cX0_having 81 = .ok (.getfield 16, 3) := by decide +kernel
theorem dX0_having_84 : decode cX0_having 84 = .ok (.bipush 8, 2) := by decide +kernel
theorem dX0_having_86 : decode cX0_having 86 = .ok (.iload 5, 2) := by decide +kernel
theorem dX0_having_88 : decode cX0_having 88 = .ok (.imul, 1) := by decide +kernel
theorem dX0_having_89 : decode cX0_having 89 = .ok (.iload 8, 2) := by decide +kernel
theorem dX0_having_91 : decode cX0_having 91 = .ok (.iadd, 1) := by decide +kernel
theorem dX0_having_92 : decode cX0_having 92 = .ok (.iaload, 1) := by decide +kernel
theorem dX0_having_93 : decode cX0_having 93 = .ok (.iload_n 1, 1) := by decide +kernel
theorem dX0_having_94 : decode cX0_having 94 = .ok (.if_icmp .gt 7, 3) := by decide +kernel
theorem dX0_having_97 : decode cX0_having 97 = .ok (.iconst 1, 1) := by decide +kernel
theorem dX0_having_98 : decode cX0_having 98 = .ok (.goto 4, 3) := by decide +kernel
theorem dX0_having_101 : decode cX0_having 101 = .ok (.iconst 0, 1) := by decide +kernel
theorem dX0_having_102 : decode cX0_having 102 = .ok (.istore 7, 2) := by decide +kernel
theorem dX0_having_104 : decode cX0_having 104 = .ok (.goto 45, 3) := by decide +kernel
theorem dX0_having_107 : decode cX0_having 107 = .ok (.iload 6, 2) := by decide +kernel
theorem dX0_having_109 : decode cX0_having 109 = .ok (.ifCond .ne 40, 3) := by decide +kernel
theorem dX0_having_112 : decode cX0_having 112 = .ok (.aload_n 0, 1) := by decide +kernel
theorem dX0_having_113 : decode cX0_having 113 = .ok (.getfield 7, 3) := by decide +kernel
theorem dX0_having_116 : decode cX0_having 116 = .ok (.aload_n 0, 1) := by decide +kernel
theorem dX0_having_117 : decode cX0_having 117 = .ok (.getfield 13, 3) := by decide +kernel
theorem dX0_having_120 : decode cX0_having 120 = .ok (.bipush 8, 2) := by decide +kernel
theorem dX0_having_122 : decode cX0_having 122 = .ok (.iload 5, 2) := by decide +kernel
theorem dX0_having_124 : decode cX0_having 124 = .ok (.imul, 1) := by decide +kernel
theorem dX0_having_125 : decode cX0_having 125 = .ok (.iload 8, 2) := by decide +kernel
theorem dX0_having_127 : decode cX0_having 127 = .ok (.iadd, 1) := by decide +kernel
theorem dX0_having_128 : decode cX0_having 128 = .ok (.iaload, 1) := by decide +kernel
theorem dX0_having_129 : decode cX0_having 129 = .ok (.iaload, 1) := by decide +kernel
theorem dX0_having_130 : decode cX0_having 130 = .ok (.iload_n 1, 1) := by decide +kernel
theorem dX0_having_131 : decode cX0_having 131 = .ok (.ishr, 1) := by decide +kernel
theorem dX0_having_132 : decode cX0_having 132 = .ok (.iload 4, 2) := by decide +kernel
theorem dX0_having_134 : decode cX0_having 134 = .ok (.iand, 1) := by decide +kernel
theorem dX0_having_135 : decode cX0_having 135 = .ok (.iload_n 3, 1) := by decide +kernel
theorem dX0_having_136 : decode cX0_having 136 = .ok (.iload 4, 2) := by decide +kernel
theorem dX0_having_138 : decode cX0_having 138 = .ok (.iand, 1) := by decide +kernel
theorem dX0_having_139 : decode cX0_having 139 = .ok (.if_icmp .ne 7, 3) := by decide +kernel
theorem dX0_having_142 : decode cX0_having 142 = .ok (.iconst 1, 1) := by decide +kernel
theorem dX0_having_143 : decode cX0_having 143 = .ok (.goto 4, 3) := by decide +kernel
theorem dX0_having_146 : decode cX0_having 146 = .ok (.iconst 0, 1) := by decide +kernel
theorem dX0_having_147 : decode cX0_having 147 = .ok (.istore 7, 2) := by decide +kernel
theorem dX0_having_149 : decode cX0_having 149 = .ok (.iload 7, 2) := by decide +kernel
theorem dX0_having_151 : decode cX0_having 151 = .ok (.ifCond .eq 10, 3) := by decide +kernel
theorem dX0_having_154 : decode cX0_having 154 = .ok (.iload 6, 2) := by decide +kernel
theorem dX0_having_156 : decode cX0_having 156 = .ok (.iconst 1, 1) := by decide +kernel
theorem dX0_having_157 : decode cX0_having 157 = .ok (.iadd, 1) := by decide +kernel
theorem dX0_having_158 : decode cX0_having 158 = .ok (.goto 5, 3) := by decide +kernel
theorem dX0_having_161 : decode cX0_having 161 = .ok (.iload 6, 2) := by decide +kernel
theorem dX0_having_163 : decode cX0_having 163 = .ok (.istore 6, 2) := by decide +kernel
theorem dX0_having_165 : decode cX0_having 165 = .ok (.iinc 8 1, 3) := by decide +kernel
theorem dX0_having_168 : decode cX0_having 168 = .ok (.goto (-102), 3) := by decide +kernel
theorem dX0_having_171 : decode cX0_having 171 = .ok (.iload 6, 2) := by decide +kernel
theorem dX0_having_173 : decode cX0_having 173 = .ok (.ireturn, 1) := by decide +kernel
theorem dX0_fit_0 : decode cX0_fit 0 = .ok (.iload_n 1, 1) := by decide +kernel
theorem dX0_fit_1 : decode cX0_fit 1 = .ok (.ifCond .lt 20, 3) := by decide +kernel
theorem dX0_fit_4 : decode cX0_fit 4 = .ok (.iload_n 1, 1) := by decide +kernel
theorem dX0_fit_5 : decode cX0_fit 5 = .ok (.bipush 12, 2) := by decide +kernel
theorem dX0_fit_7 : decode cX0_fit 7 = .ok (.if_icmp .gt 14, 3) := by decide +kernel
theorem dX0_fit_10 : decode cX0_fit 10 = .ok (.iload_n 2, 1) := by decide +kernel
theorem dX0_fit_11 : decode cX0_fit 11 = .ok (.ifCond .lt 10, 3) := by decide +kernel
theorem dX0_fit_14 : decode cX0_fit 14 = .ok (.iload_n 2, 1) := by decide +kernel
theorem dX0_fit_15 : decode cX0_fit 15 = .ok (.sipush 4095, 3) := by decide +kernel
theorem dX0_fit_18 : decode cX0_fit 18 = .ok (.if_icmp .le 5, 3) := by decide +kernel
theorem dX0_fit_21 : decode cX0_fit 21 = .ok (.iconst (-1), 1) := by decide +kernel
theorem dX0_fit_22 : decode cX0_fit 22 = .ok (.ireturn, 1) := by decide +kernel
theorem dX0_fit_23 : decode cX0_fit 23 = .ok (.aload_n 0, 1) := by decide +kernel
theorem dX0_fit_24 : decode cX0_fit 24 = .ok (.invokevirtual 49, 3) := by decide +kernel
theorem dX0_fit_27 : decode cX0_fit 27 = .ok (.iconst 0, 1) := by decide +kernel
theorem dX0_fit_28 : decode cX0_fit 28 = .ok (.istore_n 3, 1) := by decide +kernel
theorem dX0_fit_29 : decode cX0_fit 29 = .ok (.iconst 0, 1) := by decide +kernel
theorem dX0_fit_30 : decode cX0_fit 30 = .ok (.istore 4, 2) := by decide +kernel
theorem dX0_fit_32 : decode cX0_fit 32 = .ok (.iload 4, 2) := by decide +kernel
theorem dX0_fit_34 : decode cX0_fit 34 = .ok (.aload_n 0, 1) := by decide +kernel
theorem dX0_fit_35 : decode cX0_fit 35 = .ok (.getfield 25, 3) := by decide +kernel
theorem dX0_fit_38 : decode cX0_fit 38 = .ok (.if_icmp .ge 43, 3) := by decide +kernel
theorem dX0_fit_41 : decode cX0_fit 41 = .ok (.aload_n 0, 1) := by decide +kernel
theorem dX0_fit_42 : decode cX0_fit 42 = .ok (.aload_n 0, 1) := by decide +kernel
theorem dX0_fit_43 : decode cX0_fit 43 = .ok (.getfield 13, 3) := by decide +kernel
theorem dX0_fit_46 : decode cX0_fit 46 = .ok (.bipush 8, 2) := by decide +kernel
theorem dX0_fit_48 : decode cX0_fit 48 = .ok (.iload_n 1, 1) := by decide +kernel
theorem dX0_fit_49 : decode cX0_fit 49 = .ok (.imul, 1) := by decide +kernel
theorem dX0_fit_50 : decode cX0_fit 50 = .ok (.iload 4, 2) := by decide +kernel
theorem dX0_fit_52 : decode cX0_fit 52 = .ok (.iadd, 1) := by decide +kernel
theorem dX0_fit_53 : decode cX0_fit 53 = .ok (.iaload, 1) := by decide +kernel
theorem dX0_fit_54 : decode cX0_fit 54 = .ok (.iload_n 2, 1) := by decide +kernel
theorem dX0_fit_55 : decode cX0_fit 55 = .ok (.iload_n 1, 1) := by decide +kernel
theorem dX0_fit_56 : decode cX0_fit 56 = .ok (.invokevirtual 72, 3) := by decide +kernel
theorem dX0_fit_59 : decode cX0_fit 59 = .ok (.istore 5, 2) := by decide +kernel
theorem dX0_fit_61 : decode cX0_fit 61 = .ok (.iload 5, 2) := by decide +kernel
theorem dX0_fit_63 : decode cX0_fit 63 = .ok (.ifCond .eq 10, 3) := by decide +kernel
theorem dX0_fit_66 : decode cX0_fit 66 = .ok (.iload 4, 2) := by decide +kernel
theorem dX0_fit_68 : decode cX0_fit 68 = .ok (.iconst 1, 1) := by decide +kernel
theorem dX0_fit_69 : decode cX0_fit 69 = .ok (.iadd, 1) := by decide +kernel
theorem dX0_fit_70 : decode cX0_fit 70 = .ok (.goto 4, 3) := by decide +kernel
theorem dX0_fit_73 : decode cX0_fit 73 = .ok (.iload_n 3, 1) := by decide +kernel
theorem dX0_fit_74 : decode cX0_fit 74 = .ok (.istore_n 3, 1) := by decide +kernel
theorem dX0_fit_75 : decode cX0_fit 75 = .ok (.iinc 4 1, 3) := by decide +kernel
theorem dX0_fit_78 : decode cX0_fit 78 = .ok (.goto (-46), 3) := by decide +kernel
theorem dX0_fit_81 : decode cX0_fit 81 = .ok (.iload_n 3, 1) := by decide +kernel
theorem dX0_fit_82 : decode cX0_fit 82 = .ok (.ifCond .le 25, 3) := by decide +kernel
theorem dX0_fit_85 : decode cX0_fit 85 = .ok (.aload_n 0, 1) := by decide +kernel
theorem dX0_fit_86 : decode cX0_fit 86 = .ok (.aload_n 0, 1) := by decide +kernel
theorem dX0_fit_87 : decode cX0_fit 87 = .ok (.getfield 13, 3) := by decide +kernel
theorem dX0_fit_90 : decode cX0_fit 90 = .ok (.bipush 8, 2) := by decide +kernel
theorem dX0_fit_92 : decode cX0_fit 92 = .ok (.iload_n 1, 1) := by decide +kernel
theorem dX0_fit_93 : decode cX0_fit 93 = .ok (.imul, 1) := by decide +kernel
theorem dX0_fit_94 : decode cX0_fit 94 = .ok (.iload_n 3, 1) := by decide +kernel
theorem dX0_fit_95 : decode cX0_fit 95 = .ok (.iadd, 1) := by decide +kernel
theorem dX0_fit_96 : decode cX0_fit 96 = .ok (.iconst 1, 1) := by decide +kernel
theorem dX0_fit_97 : decode cX0_fit 97 = .ok (.isub, 1) := by decide +kernel
theorem dX0_fit_98 : decode cX0_fit 98 = .ok (.iaload, 1) := by decide +kernel
theorem dX0_fit_99 : decode cX0_fit 99 = .ok (.iload_n 2, 1) := by decide +kernel
theorem dX0_fit_100 : decode cX0_fit 100 = .ok (.iload_n 1, 1) := by decide +kernel
theorem dX0_fit_101 : decode cX0_fit 101 = .ok (.invokevirtual 75, 3) := by decide +kernel
theorem dX0_fit_104 : decode cX0_fit 104 = .ok (.goto 4, 3) := by decide +kernel
theorem dX0_fit_107 : decode cX0_fit 107 = .ok (.iconst 0, 1) := by decide +kernel
theorem dX0_fit_108 : decode cX0_fit 108 = .ok (.istore 4, 2) := by decide +kernel
theorem dX0_fit_110 : decode cX0_fit 110 = .ok (.iload_n 3, 1) := by decide +kernel
theorem dX0_fit_111 : decode cX0_fit 111 = .ok (.aload_n 0, 1) := by decide +kernel
theorem dX0_fit_112 : decode cX0_fit 112 = .ok (.getfield 25, 3) := by decide +kernel
theorem dX0_fit_115 : decode cX0_fit 115 = .ok (.if_icmp .ge 23, 3) := by decide +kernel
theorem dX0_fit_118 : decode cX0_fit 118 = .ok (.aload_n 0, 1) := by decide +kernel
theorem dX0_fit_119 : decode cX0_fit 119 = .ok (.aload_n 0, 1) := by decide +kernel
theorem dX0_fit_120 : decode cX0_fit 120 = .ok (.getfield 13, 3) := by decide +kernel
theorem dX0_fit_123 : decode cX0_fit 123 = .ok (.bipush 8, 2) := by decide +kernel
theorem dX0_fit_125 : decode cX0_fit 125 = .ok (.iload_n 1, 1) := by decide +kernel
theorem dX0_fit_126 : decode cX0_fit 126 = .ok (.imul, 1) := by decide +kernel
theorem dX0_fit_127 : decode cX0_fit 127 = .ok (.iload_n 3, 1) := by decide +kernel
theorem dX0_fit_128 : decode cX0_fit 128 = .ok (.iadd, 1) := by decide +kernel
theorem dX0_fit_129 : decode cX0_fit 129 = .ok (.iaload, 1) := by decide +kernel
theorem dX0_fit_130 : decode cX0_fit 130 = .ok (.iload_n 2, 1) := by decide +kernel
theorem dX0_fit_131 : decode cX0_fit 131 = .ok (.iload_n 1, 1) := by decide +kernel
theorem dX0_fit_132 : decode cX0_fit 132 = .ok (.invokevirtual 75, 3) := by decide +kernel
theorem dX0_fit_135 : decode cX0_fit 135 = .ok (.goto 4, 3) := by decide +kernel
theorem dX0_fit_138 : decode cX0_fit 138 = .ok (.iconst 0, 1) := by decide +kernel
theorem dX0_fit_139 : decode cX0_fit 139 = .ok (.istore 5, 2) := by decide +kernel
theorem dX0_fit_141 : decode cX0_fit 141 = .ok (.iload 4, 2) := by decide +kernel
theorem dX0_fit_143 : decode cX0_fit 143 = .ok (.iload 5, 2) := by decide +kernel
theorem dX0_fit_145 : decode cX0_fit 145 = .ok (.if_icmp .le 8, 3) := by decide +kernel
theorem dX0_fit_148 : decode cX0_fit 148 = .ok (.iload 4, 2) := by decide +kernel
theorem dX0_fit_150 : decode cX0_fit 150 = .ok (.goto 5, 3) := by decide +kernel
theorem dX0_fit_153 : decode cX0_fit 153 = .ok (.iload 5, 2) := by decide +kernel
theorem dX0_fit_155 : decode cX0_fit 155 = .ok (.ireturn, 1) := by decide +kernel
theorem dX0_isBefore_0 : decode cX0_isBefore 0 = .ok (.aload_n 0, 1) := by decide +kernel
theorem dX0_isBefore_1 : decode cX0_isBefore 1 = .ok (.iload_n 1, 1) := by decide +kernel
theorem dX0_isBefore_2 : decode cX0_isBefore 2 = .ok (.iload_n 2, 1) := by decide +kernel
theorem dX0_isBefore_3 : decode cX0_isBefore 3 = .ok (.iload_n 3, 1) := by decide +kernel
theorem dX0_isBefore_4 : decode cX0_isBefore 4 = .ok (.invokevirtual 75, 3) := by decide +kernel
theorem dX0_isBefore_7 : decode cX0_isBefore 7 = .ok (.istore 4, 2) := by decide +kernel
theorem dX0_isBefore_9 : decode cX0_isBefore 9 = .ok (.iload 4, 2) := by decide +kernel
theorem dX0_isBefore_11 : decode cX0_isBefore 11 = .ok (.iload_n 3, 1) := by decide +kernel
theorem dX0_isBefore_12 : decode cX0_isBefore 12 = .ok (.if_icmp .ge 21, 3) := by decide +kernel
theorem dX0_isBefore_15 : decode cX0_isBefore 15 = .ok (.aload_n 0, 1) := by decide +kernel
theorem dX0_isBefore_16 : decode cX0_isBefore 16 = .ok (.iload_n 1, 1) := by decide +kernel
theorem dX0_isBefore_17 : decode cX0_isBefore 17 = .ok (.iload_n 3, 1) := by decide +kernel
theorem dX0_isBefore_18 : decode cX0_isBefore 18 = .ok (.iconst 1, 1) := by decide +kernel
theorem dX0_isBefore_19 : decode cX0_isBefore 19 = .ok (.isub, 1) := by decide +kernel
theorem dX0_isBefore_20 : decode cX0_isBefore 20 = .ok (.iload 4, 2) := by decide +kernel
theorem dX0_isBefore_22 : decode cX0_isBefore 22 = .ok (.isub, 1) := by decide +kernel
theorem dX0_isBefore_23 : decode cX0_isBefore 23 = .ok (.invokevirtual 37, 3) := by decide +kernel
theorem dX0_isBefore_26 : decode cX0_isBefore 26 = .ok (.ifCond .ne 7, 3) := by decide +kernel
theorem dX0_isBefore_29 : decode cX0_isBefore 29 = .ok (.iconst 1, 1) := by decide +kernel
theorem dX0_isBefore_30 : decode cX0_isBefore 30 = .ok (.goto 4, 3) := by decide +kernel
theorem dX0_isBefore_33 : decode cX0_isBefore 33 = .ok (.iconst 0, 1) := by decide +kernel
theorem dX0_isBefore_34 : decode cX0_isBefore 34 = .ok (.ireturn, 1) := by decide +kernel
theorem dX0_sameBack_0 : decode cX0_sameBack 0 = .ok (.iconst 0, 1) := by decide +kernel
theorem dX0_sameBack_1 : decode cX0_sameBack 1 = .ok (.istore 4, 2) := by decide +kernel
theorem dX0_sameBack_3 : decode cX0_sameBack 3 = .ok (.iload_n 3, 1) := by decide +kernel
theorem dX0_sameBack_4 : decode cX0_sameBack 4 = .ok (.iconst 1, 1) := by decide +kernel
theorem dX0_sameBack_5 : decode cX0_sameBack 5 = .ok (.isub, 1) := by decide +kernel
theorem dX0_sameBack_6 : decode cX0_sameBack 6 = .ok (.istore 5, 2) := by decide +kernel
theorem dX0_sameBack_8 : decode cX0_sameBack 8 = .ok (.iload 5, 2) := by decide +kernel
theorem dX0_sameBack_10 : decode cX0_sameBack 10 = .ok (.ifCond .lt 28, 3) := by decide +kernel
theorem dX0_sameBack_13 : decode cX0_sameBack 13 = .ok (.aload_n 0, 1) := by decide +kernel
theorem dX0_sameBack_14 : decode cX0_sameBack 14 = .ok (.iload_n 1, 1) := by decide +kernel
theorem dX0_sameBack_15 : decode cX0_sameBack 15 = .ok (.iload 5, 2) := by decide +kernel
theorem dX0_sameBack_17 : decode cX0_sameBack 17 = .ok (.invokevirtual 37, 3) := by decide +kernel
theorem dX0_sameBack_20 : decode cX0_sameBack 20 = .ok (.iload_n 2, 1) := by decide +kernel
theorem dX0_sameBack_21 : decode cX0_sameBack 21 = .ok (.iload 5, 2) := by decide +kernel
theorem dX0_sameBack_23 : decode cX0_sameBack 23 = .ok (.ishr, 1) := by decide +kernel
theorem dX0_sameBack_24 : decode cX0_sameBack 24 = .ok (.iconst 1, 1) := by decide +kernel
theorem dX0_sameBack_25 : decode cX0_sameBack 25 = .ok (.iand, 1) := by decide +kernel
theorem dX0_sameBack_26 : decode cX0_sameBack 26 = .ok (.if_icmp .ne 12, 3) := by decide +kernel
theorem dX0_sameBack_29 : decode cX0_sameBack 29 = .ok (.iinc 4 1, 3) := by decide +kernel
theorem dX0_sameBack_32 : decode cX0_sameBack 32 = .ok (.iinc 5 (-1), 3) := by decide +kernel
theorem dX0_sameBack_35 : decode cX0_sameBack 35 = .ok (.goto (-27), 3) := by decide +kernel
theorem dX0_sameBack_38 : decode cX0_sameBack 38 = .ok (.iload 4, 2) := by decide +kernel
theorem dX0_sameBack_40 : decode cX0_sameBack 40 = .ok (.ireturn, 1) := by decide +kernel
end
section
set_option maxRecDepth 100000
theorem dX1_init_0 : decode cX1_init 0 = .ok (.aload_n 0, 1) := by decide +kernel
theorem dX1_init_1 : decode cX1_init 1 = .ok (.invokespecial 1, 3) := by decide +kernel
theorem dX1_init_4 : decode cX1_init 4 = .ok (.aload_n 0, 1) := by decide +kernel
theorem dX1_init_5 : decode cX1_init 5 = .ok (.bipush 8, 2) := by decide +kernel
theorem dX1_init_7 : decode cX1_init 7 = .ok (.newarray .int, 2) := by decide +kernel
theorem dX1_init_9 : decode cX1_init 9 = .ok (.putfield 7, 3) := by decide +kernel
theorem dX1_init_12 : decode cX1_init 12 = .ok (.return_, 1) := by decide +kernel
theorem dX1_add_0 : decode cX1_add 0 = .ok (.aload_n 0, 1) := by decide +kernel
theorem dX1_add_1 : decode cX1_add 1 = .ok (.iload_n 1, 1) := by decide +kernel
theorem dX1_add_2 : decode cX1_add 2 = .ok (.invokevirtual 17, 3) := by decide +kernel
theorem dX1_add_5 : decode cX1_add 5 = .ok (.ifCond .ne 5, 3) := by decide +kernel
theorem dX1_add_8 : decode cX1_add 8 = .ok (.iconst (-1), 1) := by decide +kernel
theorem dX1_add_9 : decode cX1_add 9 = .ok (.ireturn, 1) := by decide +kernel
theorem dX1_add_10 : decode cX1_add 10 = .ok (.aload_n 0, 1) := by decide +kernel
theorem dX1_add_11 : decode cX1_add 11 = .ok (.getfield 13, 3) := by decide +kernel
theorem dX1_add_14 : decode cX1_add 14 = .ok (.bipush 8, 2) := by decide +kernel
theorem dX1_add_16 : decode cX1_add 16 = .ok (.if_icmp .ne 6, 3) := by decide +kernel
theorem dX1_add_19 : decode cX1_add 19 = .ok (.bipush (-2), 2) := by decide +kernel
theorem dX1_add_21 : decode cX1_add 21 = .ok (.ireturn, 1) := by decide +kernel
theorem dX1_add_22 : decode cX1_add 22 = .ok (.aload_n 0, 1) := by decide +kernel
theorem dX1_add_23 : decode cX1_add 23 = .ok (.getfield 7, 3) := by decide +kernel
theorem dX1_add_26 : decode cX1_add 26 = .ok (.aload_n 0, 1) := by decide +kernel
theorem dX1_add_27 : decode cX1_add 27 = .ok (.getfield 13, 3) := by decide +kernel
theorem dX1_add_30 : decode cX1_add 30 = .ok (.iload_n 1, 1) := by decide +kernel
theorem dX1_add_31 : decode cX1_add 31 = .ok (.iastore, 1) := by decide +kernel
theorem dX1_add_32 : decode cX1_add 32 = .ok (.aload_n 0, 1) := by decide +kernel
theorem dX1_add_33 : decode cX1_add 33 = .ok (.dup, 1) := by decide +kernel
theorem dX1_add_34 : decode cX1_add 34 = .ok (.getfield 13, 3) := by decide +kernel
theorem dX1_add_37 : decode cX1_add 37 = .ok (.iconst 1, 1) := by decide +kernel
theorem dX1_add_38 : decode cX1_add 38 = .ok (.iadd, 1) := by decide +kernel
theorem dX1_add_39 : decode cX1_add 39 = .ok (.putfield 13, 3) := by decide +kernel
theorem dX1_add_42 : decode cX1_add 42 = .ok (.aload_n 0, 1) := by decide +kernel
theorem dX1_add_43 : decode cX1_add 43 = .ok (.getfield 13, 3) := by decide +kernel
theorem dX1_add_46 : decode cX1_add 46 = .ok (.iconst 1, 1) := by decide +kernel
theorem dX1_add_47 : decode cX1_add 47 = .ok (.isub, 1) := by decide +kernel
theorem dX1_add_48 : decode cX1_add 48 = .ok (.ireturn, 1) := by decide +kernel
theorem dX1_isBits_0 : decode cX1_isBits 0 = .ok (.iload_n 1, 1) := by decide +kernel
theorem dX1_isBits_1 : decode cX1_isBits 1 = .ok (.ifCond .lt 14, 3) := by decide +kernel
theorem dX1_isBits_4 : decode cX1_isBits 4 = .ok (.iload_n 1, 1) := by decide +kernel
theorem dX1_isBits_5 : decode cX1_isBits 5 = .ok (.sipush 4095, 3) := by decide +kernel
theorem dX1_isBits_8 : decode cX1_isBits 8 = .ok (.if_icmp .gt 7, 3) := by decide +kernel
theorem dX1_isBits_11 : decode cX1_isBits 11 = .ok (.iconst 1, 1) := by decide +kernel
theorem dX1_isBits_12 : decode cX1_isBits 12 = .ok (.goto 4, 3) := by decide +kernel
theorem dX1_isBits_15 : decode cX1_isBits 15 = .ok (.iconst 0, 1) := by decide +kernel
theorem dX1_isBits_16 : decode cX1_isBits 16 = .ok (.ireturn, 1) := by decide +kernel
theorem dX1_remove_0 : decode cX1_remove 0 = .ok (.aload_n 0, 1) := by decide +kernel
theorem dX1_remove_1 : decode cX1_remove 1 = .ok (.getfield 13, 3) := by decide +kernel
theorem dX1_remove_4 : decode cX1_remove 4 = .ok (.ifCond .ne 6, 3) := by decide +kernel
theorem dX1_remove_7 : decode cX1_remove 7 = .ok (.bipush (-4), 2) := by decide +kernel
theorem dX1_remove_9 : decode cX1_remove 9 = .ok (.ireturn, 1) := by decide +kernel
theorem dX1_remove_10 : decode cX1_remove 10 = .ok (.aload_n 0, 1) := by decide +kernel
theorem dX1_remove_11 : decode cX1_remove 11 = .ok (.dup, 1) := by decide +kernel
theorem dX1_remove_12 : decode cX1_remove 12 = .ok (.getfield 13, 3) := by decide +kernel
theorem dX1_remove_15 : decode cX1_remove 15 = .ok (.iconst 1, 1) := by decide +kernel
theorem dX1_remove_16 : decode cX1_remove 16 = .ok (.isub, 1) := by decide +kernel
theorem dX1_remove_17 : decode cX1_remove 17 = .ok (.putfield 13, 3) := by decide +kernel
theorem dX1_remove_20 : decode cX1_remove 20 = .ok (.aload_n 0, 1) := by decide +kernel
theorem dX1_remove_21 : decode cX1_remove 21 = .ok (.getfield 7, 3) := by decide +kernel
theorem dX1_remove_24 : decode cX1_remove 24 = .ok (.aload_n 0, 1) := by decide +kernel
theorem dX1_remove_25 : decode cX1_remove 25 = .ok (.getfield 13, 3) := by decide +kernel
theorem dX1_remove_28 : decode cX1_remove 28 = .ok (.iaload, 1) := by decide +kernel
theorem dX1_remove_29 : decode cX1_remove 29 = .ok (.ireturn, 1) := by decide +kernel
theorem dX1_turn_0 : decode cX1_turn 0 = .ok (.aload_n 0, 1) := by decide +kernel
theorem dX1_turn_1 : decode cX1_turn 1 = .ok (.iload_n 1, 1) := by decide +kernel
theorem dX1_turn_2 : decode cX1_turn 2 = .ok (.invokevirtual 21, 3) := by decide +kernel
theorem dX1_turn_5 : decode cX1_turn 5 = .ok (.ifCond .eq 13, 3) := by decide +kernel
theorem dX1_turn_8 : decode cX1_turn 8 = .ok (.iload_n 2, 1) := by decide +kernel
theorem dX1_turn_9 : decode cX1_turn 9 = .ok (.ifCond .lt 9, 3) := by decide +kernel
theorem dX1_turn_12 : decode cX1_turn 12 = .ok (.iload_n 2, 1) := by decide +kernel
theorem dX1_turn_13 : decode cX1_turn 13 = .ok (.bipush 11, 2) := by decide +kernel
theorem dX1_turn_15 : decode cX1_turn 15 = .ok (.if_icmp .le 6, 3) := by decide +kernel
theorem dX1_turn_18 : decode cX1_turn 18 = .ok (.bipush (-4), 2) := by decide +kernel
theorem dX1_turn_20 : decode cX1_turn 20 = .ok (.ireturn, 1) := by decide +kernel
theorem dX1_turn_21 : decode cX1_turn 21 = .ok (.aload_n 0, 1) := by decide +kernel
theorem dX1_turn_22 : decode cX1_turn 22 = .ok (.getfield 7, 3) := by decide +kernel
theorem dX1_turn_25 : decode cX1_turn 25 = .ok (.iload_n 1, 1) := by decide +kernel
theorem dX1_turn_26 : decode cX1_turn 26 = .ok (.aload_n 0, 1) := by decide +kernel
theorem dX1_turn_27 : decode cX1_turn 27 = .ok (.getfield 7, 3) := by decide +kernel
theorem dX1_turn_30 : decode cX1_turn 30 = .ok (.iload_n 1, 1) := by decide +kernel
theorem dX1_turn_31 : decode cX1_turn 31 = .ok (.iaload, 1) := by decide +kernel
theorem dX1_turn_32 : decode cX1_turn 32 = .ok (.iconst 1, 1) := by decide +kernel
theorem dX1_turn_33 : decode cX1_turn 33 = .ok (.iload_n 2, 1) := by decide +kernel
theorem dX1_turn_34 : decode cX1_turn 34 = .ok (.ishl, 1) := by decide +kernel
theorem dX1_turn_35 : decode cX1_turn 35 = .ok (.ixor, 1) := by decide +kernel
theorem dX1_turn_36 : decode cX1_turn 36 = .ok (.iastore, 1) := by decide +kernel
theorem dX1_turn_37 : decode cX1_turn 37 = .ok (.aload_n 0, 1) := by decide +kernel
theorem dX1_turn_38 : decode cX1_turn 38 = .ok (.getfield 7, 3) := by decide +kernel
theorem dX1_turn_41 : decode cX1_turn 41 = .ok (.iload_n 1, 1) := by decide +kernel
theorem dX1_turn_42 : decode cX1_turn 42 = .ok (.iaload, 1) := by decide +kernel
theorem dX1_turn_43 : decode cX1_turn 43 = .ok (.iload_n 2, 1) := by decide +kernel
theorem dX1_turn_44 : decode cX1_turn 44 = .ok (.ishr, 1) := by decide +kernel
theorem dX1_turn_45 : decode cX1_turn 45 = .ok (.iconst 1, 1) := by decide +kernel
theorem dX1_turn_46 : decode cX1_turn 46 = .ok (.iand, 1) := by decide +kernel
theorem dX1_turn_47 : decode cX1_turn 47 = .ok (.ireturn, 1) := by decide +kernel
theorem dX1_isRow_0 : decode cX1_isRow 0 = .ok (.iload_n 1, 1) := by decide +kernel
theorem dX1_isRow_1 : decode cX1_isRow 1 = .ok (.ifCond .lt 15, 3) := by decide +kernel
theorem dX1_isRow_4 : decode cX1_isRow 4 = .ok (.iload_n 1, 1) := by decide +kernel
theorem dX1_isRow_5 : decode cX1_isRow 5 = .ok (.aload_n 0, 1) := by decide +kernel
theorem dX1_isRow_6 : decode cX1_isRow 6 = .ok (.getfield 13, 3) := by decide +kernel
theorem dX1_isRow_9 : decode cX1_isRow 9 = .ok (.if_icmp .ge 7, 3) := by decide +kernel
theorem dX1_isRow_12 : decode cX1_isRow 12 = .ok (.iconst 1, 1) := by decide +kernel
theorem dX1_isRow_13 : decode cX1_isRow 13 = .ok (.goto 4, 3) := by decide +kernel
theorem dX1_isRow_16 : decode cX1_isRow 16 = .ok (.iconst 0, 1) := by decide +kernel
theorem dX1_isRow_17 : decode cX1_isRow 17 = .ok (.ireturn, 1) := by decide +kernel
theorem dX1_rows_0 : decode cX1_rows 0 = .ok (.aload_n 0, 1) := by decide +kernel
theorem dX1_rows_1 : decode cX1_rows 1 = .ok (.getfield 13, 3) := by decide +kernel
theorem dX1_rows_4 : decode cX1_rows 4 = .ok (.ireturn, 1) := by decide +kernel
theorem dX1_ordered_0 : decode cX1_ordered 0 = .ok (.aload_n 0, 1) := by decide +kernel
theorem dX1_ordered_1 : decode cX1_ordered 1 = .ok (.iload_n 1, 1) := by decide +kernel
theorem dX1_ordered_2 : decode cX1_ordered 2 = .ok (.invokevirtual 31, 3) := by decide +kernel
theorem dX1_ordered_5 : decode cX1_ordered 5 = .ok (.ifCond .eq 12, 3) := by decide +kernel
theorem dX1_ordered_8 : decode cX1_ordered 8 = .ok (.aload_n 0, 1) := by decide +kernel
theorem dX1_ordered_9 : decode cX1_ordered 9 = .ok (.iload_n 1, 1) := by decide +kernel
theorem dX1_ordered_10 : decode cX1_ordered 10 = .ok (.iload_n 2, 1) := by decide +kernel
theorem dX1_ordered_11 : decode cX1_ordered 11 = .ok (.invokevirtual 34, 3) := by decide +kernel
theorem dX1_ordered_14 : decode cX1_ordered 14 = .ok (.goto 5, 3) := by decide +kernel
theorem dX1_ordered_17 : decode cX1_ordered 17 = .ok (.bipush (-4), 2) := by decide +kernel
theorem dX1_ordered_19 : decode cX1_ordered 19 = .ok (.ireturn, 1) := by decide +kernel
theorem dX1_isColumn_0 : decode cX1_isColumn 0 = .ok (.iload_n 1, 1) := by decide +kernel
theorem dX1_isColumn_1 : decode cX1_isColumn 1 = .ok (.ifCond .lt 13, 3) := by decide +kernel
theorem dX1_isColumn_4 : decode cX1_isColumn 4 = .ok (.iload_n 1, 1) := by decide +kernel
theorem dX1_isColumn_5 : decode cX1_isColumn 5 = .ok (.bipush 12, 2) := by decide +kernel
theorem dX1_isColumn_7 : decode cX1_isColumn 7 = .ok (.if_icmp .gt 7, 3) := by decide +kernel
theorem dX1_isColumn_10 : decode cX1_isColumn 10 = .ok (.iconst 1, 1) := by decide +kernel
theorem dX1_isColumn_11 : decode cX1_isColumn 11 = .ok (.goto 4, 3) := by decide +kernel
theorem dX1_isColumn_14 : decode cX1_isColumn 14 = .ok (.iconst 0, 1) := by decide +kernel
theorem dX1_isColumn_15 : decode cX1_isColumn 15 = .ok (.ireturn, 1) := by decide +kernel
theorem dX1_rowAt_0 : decode cX1_rowAt 0 = .ok (.iconst 0, 1) := by decide +kernel
theorem dX1_rowAt_1 : decode cX1_rowAt 1 = .ok (.istore_n 3, 1) := by decide +kernel
theorem dX1_rowAt_2 : decode cX1_rowAt 2 = .ok (.iload_n 3, 1) := by decide +kernel
theorem dX1_rowAt_3 : decode cX1_rowAt 3 = .ok (.aload_n 0, 1) := by decide +kernel
theorem dX1_rowAt_4 : decode cX1_rowAt 4 = .ok (.getfield 13, 3) := by decide +kernel
theorem dX1_rowAt_7 : decode cX1_rowAt 7 = .ok (.if_icmp .ge 66, 3) := by decide +kernel
theorem dX1_rowAt_10 : decode cX1_rowAt 10 = .ok (.iconst 0, 1) := by decide +kernel
theorem dX1_rowAt_11 : decode cX1_rowAt 11 = .ok (.istore 4, 2) := by decide +kernel
theorem dX1_rowAt_13 : decode cX1_rowAt 13 = .ok (.iconst 0, 1) := by decide +kernel
theorem dX1_rowAt_14 : decode cX1_rowAt 14 = .ok (.istore 5, 2) := by decide +kernel
theorem dX1_rowAt_16 : decode cX1_rowAt 16 = .ok (.iload 5, 2) := by decide +kernel
theorem dX1_rowAt_18 : decode cX1_rowAt 18 = .ok (.aload_n 0, 1) := by decide +kernel
theorem dX1_rowAt_19 : decode cX1_rowAt 19 = .ok (.getfield 13, 3) := by decide +kernel
theorem dX1_rowAt_22 : decode cX1_rowAt 22 = .ok (.if_icmp .ge 37, 3) := by decide +kernel
theorem dX1_rowAt_25 : decode cX1_rowAt 25 = .ok (.iload 5, 2) := by decide +kernel
theorem dX1_rowAt_27 : decode cX1_rowAt 27 = .ok (.iload_n 3, 1) := by decide +kernel
theorem dX1_rowAt_28 : decode cX1_rowAt 28 = .ok (.if_icmp .eq 21, 3) := by decide +kernel
theorem dX1_rowAt_31 : decode cX1_rowAt 31 = .ok (.aload_n 0, 1) := by decide +kernel
theorem dX1_rowAt_32 : decode cX1_rowAt 32 = .ok (.iload 5, 2) := by decide +kernel
theorem dX1_rowAt_34 : decode cX1_rowAt 34 = .ok (.iload_n 3, 1) := by decide +kernel
theorem dX1_rowAt_35 : decode cX1_rowAt 35 = .ok (.iload_n 1, 1) := by decide +kernel
theorem dX1_rowAt_36 : decode cX1_rowAt 36 = .ok (.invokevirtual 28, 3) := by decide +kernel
theorem dX1_rowAt_39 : decode cX1_rowAt 39 = .ok (.ifCond .eq 10, 3) := by decide +kernel
theorem dX1_rowAt_42 : decode cX1_rowAt 42 = .ok (.iload 4, 2) := by decide +kernel
theorem dX1_rowAt_44 : decode cX1_rowAt 44 = .ok (.iconst 1, 1) := by decide +kernel
theorem dX1_rowAt_45 : decode cX1_rowAt 45 = .ok (.iadd, 1) := by decide +kernel
theorem dX1_rowAt_46 : decode cX1_rowAt 46 = .ok (.goto 5, 3) := by decide +kernel
theorem dX1_rowAt_49 : decode cX1_rowAt 49 = .ok (.iload 4, 2) := by decide +kernel
theorem dX1_rowAt_51 : decode cX1_rowAt 51 = .ok (.istore 4, 2) := by decide +kernel
theorem dX1_rowAt_53 : decode cX1_rowAt 53 = .ok (.iinc 5 1, 3) := by decide +kernel
theorem dX1_rowAt_56 : decode cX1_rowAt 56 = .ok (.goto (-40), 3) := by decide +kernel
theorem dX1_rowAt_59 : decode cX1_rowAt 59 = .ok (.iload 4, 2) := by decide +kernel
theorem dX1_rowAt_61 : decode cX1_rowAt 61 = .ok (.iload_n 2, 1) := by decide +kernel
theorem dX1_rowAt_62 : decode cX1_rowAt 62 = .ok (.if_icmp .ne 5, 3) := by decide +kernel
theorem dX1_rowAt_65 : decode cX1_rowAt 65 = .ok (.iload_n 3, 1) := by decide +kernel
theorem dX1_rowAt_66 : decode cX1_rowAt 66 = .ok (.ireturn, 1) := by decide +kernel
theorem dX1_rowAt_67 : decode cX1_rowAt 67 = .ok (.iinc 3 1, 3) := by decide +kernel
theorem dX1_rowAt_70 : decode cX1_rowAt 70 = .ok (.goto (-68), 3) := by decide +kernel
theorem dX1_rowAt_73 : decode cX1_rowAt 73 = .ok (.bipush (-4), 2) := by decide +kernel
theorem dX1_rowAt_75 : decode cX1_rowAt 75 = .ok (.ireturn, 1) := by decide +kernel
theorem dX1_comesBefore_0 : decode cX1_comesBefore 0 = .ok (.iload_n 3, 1) := by decide +kernel
theorem dX1_comesBefore_1 : decode cX1_comesBefore 1 = .ok (.iconst 1, 1) := by decide +kernel
theorem dX1_comesBefore_2 : decode cX1_comesBefore 2 = .ok (.isub, 1) := by decide +kernel
theorem dX1_comesBefore_3 : decode cX1_comesBefore 3 = .ok (.istore 4, 2) := by decide +kernel
theorem dX1_comesBefore_5 : decode cX1_comesBefore 5 = .ok (.iload 4, 2) := by decide +kernel
theorem dX1_comesBefore_7 : decode cX1_comesBefore 7 = .ok (.ifCond .lt 40, 3) := by decide +kernel
theorem dX1_comesBefore_10 : decode cX1_comesBefore 10 = .ok (.aload_n 0, 1) := by decide +kernel
theorem dX1_comesBefore_11 : decode cX1_comesBefore 11 = .ok (.iload_n 1, 1) := by decide +kernel
theorem dX1_comesBefore_12 : decode cX1_comesBefore 12 = .ok (.iload_n 2, 1) := by decide +kernel
theorem dX1_comesBefore_13 : decode cX1_comesBefore 13 = .ok (.iload 4, 2) := by decide +kernel
theorem dX1_comesBefore_15 : decode cX1_comesBefore 15 = .ok (.invokevirtual 24, 3) := by decide +kernel
theorem dX1_comesBefore_18 : decode cX1_comesBefore 18 = .ok (.ifCond .eq 23, 3) := by decide +kernel
theorem dX1_comesBefore_21 : decode cX1_comesBefore 21 = .ok (.aload_n 0, 1) := by decide +kernel
theorem dX1_comesBefore_22 : decode cX1_comesBefore 22 = .ok (.getfield 7, 3) := by decide +kernel
theorem dX1_comesBefore_25 : decode cX1_comesBefore 25 = .ok (.iload_n 1, 1) := by decide +kernel
theorem dX1_comesBefore_26 : decode cX1_comesBefore 26 = .ok (.iaload, 1) := by decide +kernel
theorem dX1_comesBefore_27 : decode cX1_comesBefore 27 = .ok (.iload 4, 2) := by decide +kernel
theorem dX1_comesBefore_29 : decode cX1_comesBefore 29 = .ok (.ishr, 1) := by decide +kernel
theorem dX1_comesBefore_30 : decode cX1_comesBefore 30 = .ok (.iconst 1, 1) := by decide +kernel
theorem dX1_comesBefore_31 : decode cX1_comesBefore 31 = .ok (.iand, 1) := by decide +kernel
theorem dX1_comesBefore_32 : decode cX1_comesBefore 32 = .ok (.ifCond .ne 7, 3) := by decide +kernel
theorem dX1_comesBefore_35 : decode cX1_comesBefore 35 = .ok (.iconst 1, 1) := by decide +kernel
theorem dX1_comesBefore_36 : decode cX1_comesBefore 36 = .ok (.goto 4, 3) := by decide +kernel
theorem dX1_comesBefore_39 : decode cX1_comesBefore 39 = .ok (.iconst 0, 1) := by decide +kernel
theorem dX1_comesBefore_40 : decode cX1_comesBefore 40 = .ok (.ireturn, 1) := by decide +kernel
theorem dX1_comesBefore_41 : decode cX1_comesBefore 41 = .ok (.iinc 4 (-1), 3) := by decide +kernel
theorem dX1_comesBefore_44 : decode cX1_comesBefore 44 = .ok (.goto (-39), 3) := by decide +kernel
theorem dX1_comesBefore_47 : decode cX1_comesBefore 47 = .ok (.iload_n 1, 1) := by decide +kernel
theorem dX1_comesBefore_48 : decode cX1_comesBefore 48 = .ok (.iload_n 2, 1) := by decide +kernel
theorem dX1_comesBefore_49 : decode cX1_comesBefore 49 = .ok (.if_icmp .ge 7, 3) := by decide +kernel
theorem dX1_comesBefore_52 : decode cX1_comesBefore 52 = .ok (.iconst 1, 1) := by decide +kernel
theorem dX1_comesBefore_53 : decode cX1_comesBefore 53 = .ok (.goto 4, 3) := by decide +kernel
theorem dX1_comesBefore_56 : decode cX1_comesBefore 56 = .ok (.iconst 0, 1) := by decide +kernel
theorem dX1_comesBefore_57 : decode cX1_comesBefore 57 = .ok (.ireturn, 1) := by decide +kernel
theorem dX1_differ_0 : decode cX1_differ 0 = .ok (.aload_n 0, 1) := by decide +kernel
theorem dX1_differ_1 : decode cX1_differ 1 = .ok (.getfield 7, 3) := by decide +kernel
theorem dX1_differ_4 : decode cX1_differ 4 = .ok (.iload_n 1, 1) := by decide +kernel
theorem dX1_differ_5 : decode cX1_differ 5 = .ok (.iaload, 1) := by decide +kernel
theorem dX1_differ_6 : decode cX1_differ 6 = .ok (.aload_n 0, 1) := by decide +kernel
theorem dX1_differ_7 : decode cX1_differ 7 = .ok (.getfield 7, 3) := by decide +kernel
theorem dX1_differ_10 : decode cX1_differ 10 = .ok (.iload_n 2, 1) := by decide +kernel
theorem dX1_differ_11 : decode cX1_differ 11 = .ok (.iaload, 1) := by decide +kernel
theorem dX1_differ_12 : decode cX1_differ 12 = .ok (.ixor, 1) := by decide +kernel
theorem dX1_differ_13 : decode cX1_differ 13 = .ok (.iload_n 3, 1) := by decide +kernel
theorem dX1_differ_14 : decode cX1_differ 14 = .ok (.ishr, 1) := by decide +kernel
theorem dX1_differ_15 : decode cX1_differ 15 = .ok (.iconst 1, 1) := by decide +kernel
theorem dX1_differ_16 : decode cX1_differ 16 = .ok (.iand, 1) := by decide +kernel
theorem dX1_differ_17 : decode cX1_differ 17 = .ok (.iconst 1, 1) := by decide +kernel
theorem dX1_differ_18 : decode cX1_differ 18 = .ok (.if_icmp .ne 7, 3) := by decide +kernel
theorem dX1_differ_21 : decode cX1_differ 21 = .ok (.iconst 1, 1) := by decide +kernel
theorem dX1_differ_22 : decode cX1_differ 22 = .ok (.goto 4, 3) := by decide +kernel
theorem dX1_differ_25 : decode cX1_differ 25 = .ok (.iconst 0, 1) := by decide +kernel
theorem dX1_differ_26 : decode cX1_differ 26 = .ok (.ireturn, 1) := by decide +kernel
theorem dX1_since_0 : decode cX1_since 0 = .ok (.aload_n 0, 1) := by decide +kernel
theorem dX1_since_1 : decode cX1_since 1 = .ok (.iload_n 1, 1) := by decide +kernel
theorem dX1_since_2 : decode cX1_since 2 = .ok (.iload_n 2, 1) := by decide +kernel
theorem dX1_since_3 : decode cX1_since 3 = .ok (.invokevirtual 38, 3) := by decide +kernel
theorem dX1_since_6 : decode cX1_since 6 = .ok (.istore_n 3, 1) := by decide +kernel
theorem dX1_since_7 : decode cX1_since 7 = .ok (.iload_n 3, 1) := by decide +kernel
theorem dX1_since_8 : decode cX1_since 8 = .ok (.ifCond .ge 6, 3) := by decide +kernel
theorem dX1_since_11 : decode cX1_since 11 = .ok (.bipush (-4), 2) := by decide +kernel
theorem dX1_since_13 : decode cX1_since 13 = .ok (.ireturn, 1) := by decide +kernel
theorem dX1_since_14 : decode cX1_since 14 = .ok (.iload_n 2, 1) := by decide +kernel
theorem dX1_since_15 : decode cX1_since 15 = .ok (.ifCond .ne 7, 3) := by decide +kernel
theorem dX1_since_18 : decode cX1_since 18 = .ok (.iload_n 1, 1) := by decide +kernel
theorem dX1_since_19 : decode cX1_since 19 = .ok (.goto 17, 3) := by decide +kernel
theorem dX1_since_22 : decode cX1_since 22 = .ok (.aload_n 0, 1) := by decide +kernel
theorem dX1_since_23 : decode cX1_since 23 = .ok (.iload_n 3, 1) := by decide +kernel
theorem dX1_since_24 : decode cX1_since 24 = .ok (.aload_n 0, 1) := by decide +kernel
theorem dX1_since_25 : decode cX1_since 25 = .ok (.iload_n 1, 1) := by decide +kernel
theorem dX1_since_26 : decode cX1_since 26 = .ok (.iload_n 2, 1) := by decide +kernel
theorem dX1_since_27 : decode cX1_since 27 = .ok (.iconst 1, 1) := by decide +kernel
theorem dX1_since_28 : decode cX1_since 28 = .ok (.isub, 1) := by decide +kernel
theorem dX1_since_29 : decode cX1_since 29 = .ok (.invokevirtual 34, 3) := by decide +kernel
theorem dX1_since_32 : decode cX1_since 32 = .ok (.iload_n 1, 1) := by decide +kernel
theorem dX1_since_33 : decode cX1_since 33 = .ok (.invokevirtual 41, 3) := by decide +kernel
theorem dX1_since_36 : decode cX1_since 36 = .ok (.ireturn, 1) := by decide +kernel
theorem dX1_agreeFrom_0 : decode cX1_agreeFrom 0 = .ok (.iload_n 3, 1) := by decide +kernel
theorem dX1_agreeFrom_1 : decode cX1_agreeFrom 1 = .ok (.istore 4, 2) := by decide +kernel
theorem dX1_agreeFrom_3 : decode cX1_agreeFrom 3 = .ok (.iload 4, 2) := by decide +kernel
theorem dX1_agreeFrom_5 : decode cX1_agreeFrom 5 = .ok (.ifCond .le 22, 3) := by decide +kernel
theorem dX1_agreeFrom_8 : decode cX1_agreeFrom 8 = .ok (.aload_n 0, 1) := by decide +kernel
theorem dX1_agreeFrom_9 : decode cX1_agreeFrom 9 = .ok (.iload_n 1, 1) := by decide +kernel
theorem dX1_agreeFrom_10 : decode cX1_agreeFrom 10 = .ok (.iload_n 2, 1) := by decide +kernel
theorem dX1_agreeFrom_11 : decode cX1_agreeFrom 11 = .ok (.iload 4, 2) := by decide +kernel
theorem dX1_agreeFrom_13 : decode cX1_agreeFrom 13 = .ok (.iconst 1, 1) := by decide +kernel
theorem dX1_agreeFrom_14 : decode cX1_agreeFrom 14 = .ok (.isub, 1) := by decide +kernel
theorem dX1_agreeFrom_15 : decode cX1_agreeFrom 15 = .ok (.invokevirtual 24, 3) := by decide +kernel
theorem dX1_agreeFrom_18 : decode cX1_agreeFrom 18 = .ok (.ifCond .ne 9, 3) := by decide +kernel
theorem dX1_agreeFrom_21 : decode cX1_agreeFrom 21 = .ok (.iinc 4 (-1), 3) := by decide +kernel
theorem dX1_agreeFrom_24 : decode cX1_agreeFrom 24 = .ok (.goto (-21), 3) := by decide +kernel
theorem dX1_agreeFrom_27 : decode cX1_agreeFrom 27 = .ok (.iload 4, 2) := by decide +kernel
theorem dX1_agreeFrom_29 : decode cX1_agreeFrom 29 = .ok (.ireturn, 1) := by decide +kernel
theorem dX1_matches_0 : decode cX1_matches 0 = .ok (.iload_n 1, 1) := by decide +kernel
theorem dX1_matches_1 : decode cX1_matches 1 = .ok (.iconst 1, 1) := by decide +kernel
theorem dX1_matches_2 : decode cX1_matches 2 = .ok (.if_icmp .lt 9, 3) := by decide +kernel
theorem dX1_matches_5 : decode cX1_matches 5 = .ok (.iload_n 1, 1) := by decide +kernel
theorem dX1_matches_6 : decode cX1_matches 6 = .ok (.bipush 12, 2) := by decide +kernel
theorem dX1_matches_8 : decode cX1_matches 8 = .ok (.if_icmp .le 5, 3) := by decide +kernel
theorem dX1_matches_11 : decode cX1_matches 11 = .ok (.iconst (-1), 1) := by decide +kernel
theorem dX1_matches_12 : decode cX1_matches 12 = .ok (.ireturn, 1) := by decide +kernel
theorem dX1_matches_13 : decode cX1_matches 13 = .ok (.iconst 0, 1) := by decide +kernel
theorem dX1_matches_14 : decode cX1_matches 14 = .ok (.istore_n 2, 1) := by decide +kernel
theorem dX1_matches_15 : decode cX1_matches 15 = .ok (.iconst 0, 1) := by decide +kernel
theorem dX1_matches_16 : decode cX1_matches 16 = .ok (.istore_n 3, 1) := by decide +kernel
theorem dX1_matches_17 : decode cX1_matches 17 = .ok (.iload_n 3, 1) := by decide +kernel
theorem dX1_matches_18 : decode cX1_matches 18 = .ok (.bipush 64, 2) := by decide +kernel
theorem dX1_matches_20 : decode cX1_matches 20 = .ok (.if_icmp .ge 114, 3) := by decide +kernel
theorem dX1_matches_23 : decode cX1_matches 23 = .ok (.iconst 0, 1) := by decide +kernel
theorem dX1_matches_24 : decode cX1_matches 24 = .ok (.istore 4, 2) := by decide +kernel
theorem dX1_matches_26 : decode cX1_matches 26 = .ok (.iload 4, 2) := by decide +kernel
theorem dX1_matches_28 : decode cX1_matches 28 = .ok (.sipush 144, 3) := by decide +kernel
theorem dX1_matches_31 : decode cX1_matches 31 = .ok (.if_icmp .ge 97, 3) := by decide +kernel
theorem dX1_matches_34 : decode cX1_matches 34 = .ok (.iload_n 3, 1) := by decide +kernel
theorem dX1_matches_35 : decode cX1_matches 35 = .ok (.bipush 8, 2) := by decide +kernel
theorem dX1_matches_37 : decode cX1_matches 37 = .ok (.idiv, 1) := by decide +kernel
theorem dX1_matches_38 : decode cX1_matches 38 = .ok (.istore 5, 2) := by decide +kernel
theorem dX1_matches_40 : decode cX1_matches 40 = .ok (.iload_n 3, 1) := by decide +kernel
theorem dX1_matches_41 : decode cX1_matches 41 = .ok (.bipush 8, 2) := by decide +kernel
theorem dX1_matches_43 : decode cX1_matches 43 = .ok (.irem, 1) := by decide +kernel
theorem dX1_matches_44 : decode cX1_matches 44 = .ok (.istore 6, 2) := by decide +kernel
theorem dX1_matches_46 : decode cX1_matches 46 = .ok (.iload 4, 2) := by decide +kernel
theorem dX1_matches_48 : decode cX1_matches 48 = .ok (.bipush 12, 2) := by decide +kernel
theorem dX1_matches_50 : decode cX1_matches 50 = .ok (.idiv, 1) := by decide +kernel
theorem dX1_matches_51 : decode cX1_matches 51 = .ok (.istore 7, 2) := by decide +kernel
theorem dX1_matches_53 : decode cX1_matches 53 = .ok (.iload 4, 2) := by decide +kernel
theorem dX1_matches_55 : decode cX1_matches 55 = .ok (.bipush 12, 2) := by decide +kernel
theorem dX1_matches_57 : decode cX1_matches 57 = .ok (.irem, 1) := by decide +kernel
theorem dX1_matches_58 : decode cX1_matches 58 = .ok (.istore 8, 2) := by decide +kernel
theorem dX1_matches_60 : decode cX1_matches 60 = .ok (.iload 5, 2) := by decide +kernel
theorem dX1_matches_62 : decode cX1_matches 62 = .ok (.iload 6, 2) := by decide +kernel
theorem dX1_matches_64 : decode cX1_matches 64 = .ok (.if_icmp .ge 42, 3) := by decide +kernel
theorem dX1_matches_67 : decode cX1_matches 67 = .ok (.iload 6, 2) := by decide +kernel
theorem dX1_matches_69 : decode cX1_matches 69 = .ok (.aload_n 0, 1) := by decide +kernel
theorem dX1_matches_70 : decode cX1_matches 70 = .ok (.getfield 13, 3) := by decide +kernel
theorem dX1_matches_73 : decode cX1_matches 73 = .ok (.if_icmp .ge 33, 3) := by decide +kernel
theorem dX1_matches_76 : decode cX1_matches 76 = .ok (.iload 8, 2) := by decide +kernel
theorem dX1_matches_78 : decode cX1_matches 78 = .ok (.iload 7, 2) := by decide +kernel
theorem dX1_matches_80 : decode cX1_matches 80 = .ok (.isub, 1) := by decide +kernel
theorem dX1_matches_81 : decode cX1_matches 81 = .ok (.iconst 1, 1) := by decide +kernel
theorem dX1_matches_82 : decode cX1_matches 82 = .ok (.iadd, 1) := by decide +kernel
theorem dX1_matches_83 : decode cX1_matches 83 = .ok (.iload_n 1, 1) := by decide +kernel
theorem dX1_matches_84 : decode cX1_matches 84 = .ok (.if_icmp .lt 22, 3) := by decide +kernel
theorem dX1_matches_87 : decode cX1_matches 87 = .ok (.aload_n 0, 1) := by decide +kernel
theorem dX1_matches_88 : decode cX1_matches 88 = .ok (.iload 5, 2) := by decide +kernel
theorem dX1_matches_90 : decode cX1_matches 90 = .ok (.iload 6, 2) := by decide +kernel
theorem dX1_matches_92 : decode cX1_matches 92 = .ok (.iload 7, 2) := by decide +kernel
theorem dX1_matches_94 : decode cX1_matches 94 = .ok (.iload 8, 2) := by decide +kernel
theorem dX1_matches_96 : decode cX1_matches 96 = .ok (.invokevirtual 45, 3) := by decide +kernel
theorem dX1_matches_99 : decode cX1_matches 99 = .ok (.ifCond .eq 7, 3) := by decide +kernel
theorem dX1_matches_102 : decode cX1_matches 102 = .ok (.iconst 1, 1) := by decide +kernel
theorem dX1_matches_103 : decode cX1_matches 103 = .ok (.goto 4, 3) := by decide +kernel
theorem dX1_matches_106 : decode cX1_matches 106 = .ok (.iconst 0, 1) := by decide +kernel
theorem dX1_matches_107 : decode cX1_matches 107 = .ok (.istore 9, 2) := by decide +kernel
theorem dX1_matches_109 : decode cX1_matches 109 = .ok (.iload 9, 2) := by decide +kernel
theorem dX1_matches_111 : decode cX1_matches 111 = .ok (.ifCond .eq 9, 3) := by decide +kernel
theorem dX1_matches_114 : decode cX1_matches 114 = .ok (.iload_n 2, 1) := by decide +kernel
theorem dX1_matches_115 : decode cX1_matches 115 = .ok (.iconst 1, 1) := by decide +kernel
theorem dX1_matches_116 : decode cX1_matches 116 = .ok (.iadd, 1) := by decide +kernel
theorem dX1_matches_117 : decode cX1_matches 117 = .ok (.goto 4, 3) := by decide +kernel
theorem dX1_matches_120 : decode cX1_matches 120 = .ok (.iload_n 2, 1) := by decide +kernel
theorem dX1_matches_121 : decode cX1_matches 121 = .ok (.istore_n 2, 1) := by decide +kernel
theorem dX1_matches_122 : decode cX1_matches 122 = .ok (.iinc 4 1, 3) := by decide +kernel
theorem dX1_matches_125 : decode cX1_matches 125 = .ok (.goto (-99), 3) := by decide +kernel
theorem dX1_matches_128 : decode cX1_matches 128 = .ok (.iinc 3 1, 3) := by decide +kernel
theorem dX1_matches_131 : decode cX1_matches 131 = .ok (.goto (-114), 3) := by decide +kernel
theorem dX1_matches_134 : decode cX1_matches 134 = .ok (.iload_n 2, 1) := by decide +kernel
theorem dX1_matches_135 : decode cX1_matches 135 = .ok (.ireturn, 1) := by decide +kernel
theorem dX1_agreeMost_0 : decode cX1_agreeMost 0 = .ok (.aload_n 0, 1) := by decide +kernel
theorem dX1_agreeMost_1 : decode cX1_agreeMost 1 = .ok (.iload_n 1, 1) := by decide +kernel
theorem dX1_agreeMost_2 : decode cX1_agreeMost 2 = .ok (.iload_n 2, 1) := by decide +kernel
theorem dX1_agreeMost_3 : decode cX1_agreeMost 3 = .ok (.iload 4, 2) := by decide +kernel
theorem dX1_agreeMost_5 : decode cX1_agreeMost 5 = .ok (.iconst 1, 1) := by decide +kernel
theorem dX1_agreeMost_6 : decode cX1_agreeMost 6 = .ok (.iadd, 1) := by decide +kernel
theorem dX1_agreeMost_7 : decode cX1_agreeMost 7 = .ok (.invokevirtual 41, 3) := by decide +kernel
theorem dX1_agreeMost_10 : decode cX1_agreeMost 10 = .ok (.iload_n 3, 1) := by decide +kernel
theorem dX1_agreeMost_11 : decode cX1_agreeMost 11 = .ok (.if_icmp .ne 27, 3) := by decide +kernel
theorem dX1_agreeMost_14 : decode cX1_agreeMost 14 = .ok (.iload 4, 2) := by decide +kernel
theorem dX1_agreeMost_16 : decode cX1_agreeMost 16 = .ok (.bipush 11, 2) := by decide +kernel
theorem dX1_agreeMost_18 : decode cX1_agreeMost 18 = .ok (.if_icmp .eq 16, 3) := by decide +kernel
theorem dX1_agreeMost_21 : decode cX1_agreeMost 21 = .ok (.aload_n 0, 1) := by decide +kernel
theorem dX1_agreeMost_22 : decode cX1_agreeMost 22 = .ok (.iload_n 1, 1) := by decide +kernel
theorem dX1_agreeMost_23 : decode cX1_agreeMost 23 = .ok (.iload_n 2, 1) := by decide +kernel
theorem dX1_agreeMost_24 : decode cX1_agreeMost 24 = .ok (.iload 4, 2) := by decide +kernel
theorem dX1_agreeMost_26 : decode cX1_agreeMost 26 = .ok (.iconst 1, 1) := by decide +kernel
theorem dX1_agreeMost_27 : decode cX1_agreeMost 27 = .ok (.iadd, 1) := by decide +kernel
theorem dX1_agreeMost_28 : decode cX1_agreeMost 28 = .ok (.invokevirtual 24, 3) := by decide +kernel
theorem dX1_agreeMost_31 : decode cX1_agreeMost 31 = .ok (.ifCond .eq 7, 3) := by decide +kernel
theorem dX1_agreeMost_34 : decode cX1_agreeMost 34 = .ok (.iconst 1, 1) := by decide +kernel
theorem dX1_agreeMost_35 : decode cX1_agreeMost 35 = .ok (.goto 4, 3) := by decide +kernel
theorem dX1_agreeMost_38 : decode cX1_agreeMost 38 = .ok (.iconst 0, 1) := by decide +kernel
theorem dX1_agreeMost_39 : decode cX1_agreeMost 39 = .ok (.ireturn, 1) := by decide +kernel
theorem dX1_longest_0 : decode cX1_longest 0 = .ok (.aload_n 0, 1) := by decide +kernel
theorem dX1_longest_1 : decode cX1_longest 1 = .ok (.iload_n 1, 1) := by decide +kernel
theorem dX1_longest_2 : decode cX1_longest 2 = .ok (.invokevirtual 21, 3) := by decide +kernel
theorem dX1_longest_5 : decode cX1_longest 5 = .ok (.ifCond .eq 16, 3) := by decide +kernel
theorem dX1_longest_8 : decode cX1_longest 8 = .ok (.aload_n 0, 1) := by decide +kernel
theorem dX1_longest_9 : decode cX1_longest 9 = .ok (.iload_n 2, 1) := by decide +kernel
theorem dX1_longest_10 : decode cX1_longest 10 = .ok (.invokevirtual 21, 3) := by decide +kernel
theorem dX1_longest_13 : decode cX1_longest 13 = .ok (.ifCond .eq 8, 3) := by decide +kernel
theorem dX1_longest_16 : decode cX1_longest 16 = .ok (.iload_n 1, 1) := by decide +kernel
theorem dX1_longest_17 : decode cX1_longest 17 = .ok (.iload_n 2, 1) := by decide +kernel
theorem dX1_longest_18 : decode cX1_longest 18 = .ok (.if_icmp .ne 6, 3) := by decide +kernel
theorem dX1_longest_21 : decode cX1_longest 21 = .ok (.bipush (-4), 2) := by decide +kernel
theorem dX1_longest_23 : decode cX1_longest 23 = .ok (.ireturn, 1) := by decide +kernel
theorem dX1_longest_24 : decode cX1_longest 24 = .ok (.iconst 0, 1) := by decide +kernel
theorem dX1_longest_25 : decode cX1_longest 25 = .ok (.istore_n 3, 1) := by decide +kernel
theorem dX1_longest_26 : decode cX1_longest 26 = .ok (.iconst 1, 1) := by decide +kernel
theorem dX1_longest_27 : decode cX1_longest 27 = .ok (.istore 4, 2) := by decide +kernel
theorem dX1_longest_29 : decode cX1_longest 29 = .ok (.iload 4, 2) := by decide +kernel
theorem dX1_longest_31 : decode cX1_longest 31 = .ok (.bipush 12, 2) := by decide +kernel
theorem dX1_longest_33 : decode cX1_longest 33 = .ok (.if_icmp .gt 35, 3) := by decide +kernel
theorem dX1_longest_36 : decode cX1_longest 36 = .ok (.iload 4, 2) := by decide +kernel
theorem dX1_longest_38 : decode cX1_longest 38 = .ok (.aload_n 0, 1) := by decide +kernel
theorem dX1_longest_39 : decode cX1_longest 39 = .ok (.iload_n 1, 1) := by decide +kernel
theorem dX1_longest_40 : decode cX1_longest 40 = .ok (.iload_n 2, 1) := by decide +kernel
theorem dX1_longest_41 : decode cX1_longest 41 = .ok (.iload 4, 2) := by decide +kernel
theorem dX1_longest_43 : decode cX1_longest 43 = .ok (.invokevirtual 41, 3) := by decide +kernel
theorem dX1_longest_46 : decode cX1_longest 46 = .ok (.isub, 1) := by decide +kernel
theorem dX1_longest_47 : decode cX1_longest 47 = .ok (.istore 5, 2) := by decide +kernel
theorem dX1_longest_49 : decode cX1_longest 49 = .ok (.iload 5, 2) := by decide +kernel
theorem dX1_longest_51 : decode cX1_longest 51 = .ok (.iload_n 3, 1) := by decide +kernel
theorem dX1_longest_52 : decode cX1_longest 52 = .ok (.if_icmp .le 8, 3) := by decide +kernel
theorem dX1_longest_55 : decode cX1_longest 55 = .ok (.iload 5, 2) := by decide +kernel
theorem dX1_longest_57 : decode cX1_longest 57 = .ok (.goto 4, 3) := by decide +kernel
theorem dX1_longest_60 : decode cX1_longest 60 = .ok (.iload_n 3, 1) := by decide +kernel
theorem dX1_longest_61 : decode cX1_longest 61 = .ok (.istore_n 3, 1) := by decide +kernel
theorem dX1_longest_62 : decode cX1_longest 62 = .ok (.iinc 4 1, 3) := by decide +kernel
theorem dX1_longest_65 : decode cX1_longest 65 = .ok (.goto (-36), 3) := by decide +kernel
theorem dX1_longest_68 : decode cX1_longest 68 = .ok (.iload_n 3, 1) := by decide +kernel
theorem dX1_longest_69 : decode cX1_longest 69 = .ok (.ireturn, 1) := by decide +kernel
theorem dX1_winning_0 : decode cX1_winning 0 = .ok (.aload_n 0, 1) := by decide +kernel
theorem dX1_winning_1 : decode cX1_winning 1 = .ok (.iload_n 1, 1) := by decide +kernel
theorem dX1_winning_2 : decode cX1_winning 2 = .ok (.invokevirtual 21, 3) := by decide +kernel
theorem dX1_winning_5 : decode cX1_winning 5 = .ok (.ifCond .ne 6, 3) := by decide +kernel
theorem dX1_winning_8 : decode cX1_winning 8 = .ok (.bipush (-4), 2) := by decide +kernel
theorem dX1_winning_10 : decode cX1_winning 10 = .ok (.ireturn, 1) := by decide +kernel
theorem dX1_winning_11 : decode cX1_winning 11 = .ok (.iconst 0, 1) := by decide +kernel
theorem dX1_winning_12 : decode cX1_winning 12 = .ok (.istore_n 2, 1) := by decide +kernel
theorem dX1_winning_13 : decode cX1_winning 13 = .ok (.iconst 0, 1) := by decide +kernel
theorem dX1_winning_14 : decode cX1_winning 14 = .ok (.istore_n 3, 1) := by decide +kernel
theorem dX1_winning_15 : decode cX1_winning 15 = .ok (.iload_n 3, 1) := by decide +kernel
theorem dX1_winning_16 : decode cX1_winning 16 = .ok (.aload_n 0, 1) := by decide +kernel
theorem dX1_winning_17 : decode cX1_winning 17 = .ok (.getfield 13, 3) := by decide +kernel
theorem dX1_winning_20 : decode cX1_winning 20 = .ok (.if_icmp .ge 80, 3) := by decide +kernel
theorem dX1_winning_23 : decode cX1_winning 23 = .ok (.iconst 0, 1) := by decide +kernel
theorem dX1_winning_24 : decode cX1_winning 24 = .ok (.istore 4, 2) := by decide +kernel
theorem dX1_winning_26 : decode cX1_winning 26 = .ok (.iload 4, 2) := by decide +kernel
theorem dX1_winning_28 : decode cX1_winning 28 = .ok (.sipush 144, 3) := by decide +kernel
theorem dX1_winning_31 : decode cX1_winning 31 = .ok (.if_icmp .ge 63, 3) := by decide +kernel
theorem dX1_winning_34 : decode cX1_winning 34 = .ok (.iload 4, 2) := by decide +kernel
theorem dX1_winning_36 : decode cX1_winning 36 = .ok (.bipush 12, 2) := by decide +kernel
theorem dX1_winning_38 : decode cX1_winning 38 = .ok (.idiv, 1) := by decide +kernel
theorem dX1_winning_39 : decode cX1_winning 39 = .ok (.istore 5, 2) := by decide +kernel
theorem dX1_winning_41 : decode cX1_winning 41 = .ok (.iload 4, 2) := by decide +kernel
theorem dX1_winning_43 : decode cX1_winning 43 = .ok (.bipush 12, 2) := by decide +kernel
theorem dX1_winning_45 : decode cX1_winning 45 = .ok (.irem, 1) := by decide +kernel
theorem dX1_winning_46 : decode cX1_winning 46 = .ok (.istore 6, 2) := by decide +kernel
theorem dX1_winning_48 : decode cX1_winning 48 = .ok (.iload_n 3, 1) := by decide +kernel
theorem dX1_winning_49 : decode cX1_winning 49 = .ok (.iload_n 1, 1) := by decide +kernel
theorem dX1_winning_50 : decode cX1_winning 50 = .ok (.if_icmp .eq 38, 3) := by decide +kernel
theorem dX1_winning_53 : decode cX1_winning 53 = .ok (.iload 5, 2) := by decide +kernel
theorem dX1_winning_55 : decode cX1_winning 55 = .ok (.iload 6, 2) := by decide +kernel
theorem dX1_winning_57 : decode cX1_winning 57 = .ok (.if_icmp .gt 31, 3) := by decide +kernel
theorem dX1_winning_60 : decode cX1_winning 60 = .ok (.aload_n 0, 1) := by decide +kernel
theorem dX1_winning_61 : decode cX1_winning 61 = .ok (.iload_n 1, 1) := by decide +kernel
theorem dX1_winning_62 : decode cX1_winning 62 = .ok (.iload_n 3, 1) := by decide +kernel
theorem dX1_winning_63 : decode cX1_winning 63 = .ok (.iload 5, 2) := by decide +kernel
theorem dX1_winning_65 : decode cX1_winning 65 = .ok (.iload 6, 2) := by decide +kernel
theorem dX1_winning_67 : decode cX1_winning 67 = .ok (.invokevirtual 45, 3) := by decide +kernel
theorem dX1_winning_70 : decode cX1_winning 70 = .ok (.ifCond .eq 18, 3) := by decide +kernel
theorem dX1_winning_73 : decode cX1_winning 73 = .ok (.aload_n 0, 1) := by decide +kernel
theorem dX1_winning_74 : decode cX1_winning 74 = .ok (.iload_n 1, 1) := by decide +kernel
theorem dX1_winning_75 : decode cX1_winning 75 = .ok (.iload 5, 2) := by decide +kernel
theorem dX1_winning_77 : decode cX1_winning 77 = .ok (.iload 6, 2) := by decide +kernel
theorem dX1_winning_79 : decode cX1_winning 79 = .ok (.invokevirtual 52, 3) := by decide +kernel
theorem dX1_winning_82 : decode cX1_winning 82 = .ok (.ifCond .ne 6, 3) := by decide +kernel
theorem dX1_winning_85 : decode cX1_winning 85 = .ok (.iinc 2 1, 3) := by decide +kernel
theorem dX1_winning_88 : decode cX1_winning 88 = .ok (.iinc 4 1, 3) := by decide +kernel
theorem dX1_winning_91 : decode cX1_winning 91 = .ok (.goto (-65), 3) := by decide +kernel
theorem dX1_winning_94 : decode cX1_winning 94 = .ok (.iinc 3 1, 3) := by decide +kernel
theorem dX1_winning_97 : decode cX1_winning 97 = .ok (.goto (-82), 3) := by decide +kernel
theorem dX1_winning_100 : decode cX1_winning 100 = .ok (.iload_n 2, 1) := by decide +kernel
theorem dX1_winning_101 : decode cX1_winning 101 = .ok (.ireturn, 1) := by decide +kernel
theorem dX1_isBeaten_0 : decode cX1_isBeaten 0 = .ok (.iconst 0, 1) := by decide +kernel
theorem dX1_isBeaten_1 : decode cX1_isBeaten 1 = .ok (.istore 4, 2) := by decide +kernel
theorem dX1_isBeaten_3 : decode cX1_isBeaten 3 = .ok (.iload 4, 2) := by decide +kernel
theorem dX1_isBeaten_5 : decode cX1_isBeaten 5 = .ok (.aload_n 0, 1) := by decide +kernel
theorem dX1_isBeaten_6 : decode cX1_isBeaten 6 = .ok (.getfield 13, 3) := by decide +kernel
theorem dX1_isBeaten_9 : decode cX1_isBeaten 9 = .ok (.if_icmp .ge 67, 3) := by decide +kernel
theorem dX1_isBeaten_12 : decode cX1_isBeaten 12 = .ok (.iload_n 2, 1) := by decide +kernel
theorem dX1_isBeaten_13 : decode cX1_isBeaten 13 = .ok (.ifCond .le 17, 3) := by decide +kernel
theorem dX1_isBeaten_16 : decode cX1_isBeaten 16 = .ok (.aload_n 0, 1) := by decide +kernel
theorem dX1_isBeaten_17 : decode cX1_isBeaten 17 = .ok (.iload_n 1, 1) := by decide +kernel
theorem dX1_isBeaten_18 : decode cX1_isBeaten 18 = .ok (.iload 4, 2) := by decide +kernel
theorem dX1_isBeaten_20 : decode cX1_isBeaten 20 = .ok (.iload_n 2, 1) := by decide +kernel
theorem dX1_isBeaten_21 : decode cX1_isBeaten 21 = .ok (.iconst 1, 1) := by decide +kernel
theorem dX1_isBeaten_22 : decode cX1_isBeaten 22 = .ok (.isub, 1) := by decide +kernel
theorem dX1_isBeaten_23 : decode cX1_isBeaten 23 = .ok (.iload_n 3, 1) := by decide +kernel
theorem dX1_isBeaten_24 : decode cX1_isBeaten 24 = .ok (.invokevirtual 49, 3) := by decide +kernel
theorem dX1_isBeaten_27 : decode cX1_isBeaten 27 = .ok (.ifCond .ne 23, 3) := by decide +kernel
theorem dX1_isBeaten_30 : decode cX1_isBeaten 30 = .ok (.iload_n 3, 1) := by decide +kernel
theorem dX1_isBeaten_31 : decode cX1_isBeaten 31 = .ok (.bipush 11, 2) := by decide +kernel
theorem dX1_isBeaten_33 : decode cX1_isBeaten 33 = .ok (.if_icmp .ge 21, 3) := by decide +kernel
theorem dX1_isBeaten_36 : decode cX1_isBeaten 36 = .ok (.aload_n 0, 1) := by decide +kernel
theorem dX1_isBeaten_37 : decode cX1_isBeaten 37 = .ok (.iload_n 1, 1) := by decide +kernel
theorem dX1_isBeaten_38 : decode cX1_isBeaten 38 = .ok (.iload 4, 2) := by decide +kernel
theorem dX1_isBeaten_40 : decode cX1_isBeaten 40 = .ok (.iload_n 2, 1) := by decide +kernel
theorem dX1_isBeaten_41 : decode cX1_isBeaten 41 = .ok (.iload_n 3, 1) := by decide +kernel
theorem dX1_isBeaten_42 : decode cX1_isBeaten 42 = .ok (.iconst 1, 1) := by decide +kernel
theorem dX1_isBeaten_43 : decode cX1_isBeaten 43 = .ok (.iadd, 1) := by decide +kernel
theorem dX1_isBeaten_44 : decode cX1_isBeaten 44 = .ok (.invokevirtual 49, 3) := by decide +kernel
theorem dX1_isBeaten_47 : decode cX1_isBeaten 47 = .ok (.ifCond .eq 7, 3) := by decide +kernel
theorem dX1_isBeaten_50 : decode cX1_isBeaten 50 = .ok (.iconst 1, 1) := by decide +kernel
theorem dX1_isBeaten_51 : decode cX1_isBeaten 51 = .ok (.goto 4, 3) := by decide +kernel
theorem dX1_isBeaten_54 : decode cX1_isBeaten 54 = .ok (.iconst 0, 1) := by decide +kernel
theorem dX1_isBeaten_55 : decode cX1_isBeaten 55 = .ok (.istore 5, 2) := by decide +kernel
theorem dX1_isBeaten_57 : decode cX1_isBeaten 57 = .ok (.iload 4, 2) := by decide +kernel
theorem dX1_isBeaten_59 : decode cX1_isBeaten 59 = .ok (.iload_n 1, 1) := by decide +kernel
theorem dX1_isBeaten_60 : decode cX1_isBeaten 60 = .ok (.if_icmp .eq 10, 3) := by decide +kernel
theorem dX1_isBeaten_63 : decode cX1_isBeaten 63 = .ok (.iload 5, 2) := by decide +kernel
theorem dX1_isBeaten_65 : decode cX1_isBeaten 65 = .ok (.ifCond .eq 5, 3) := by decide +kernel
theorem dX1_isBeaten_68 : decode cX1_isBeaten 68 = .ok (.iconst 1, 1) := by decide +kernel
theorem dX1_isBeaten_69 : decode cX1_isBeaten 69 = .ok (.ireturn, 1) := by decide +kernel
theorem dX1_isBeaten_70 : decode cX1_isBeaten 70 = .ok (.iinc 4 1, 3) := by decide +kernel
theorem dX1_isBeaten_73 : decode cX1_isBeaten 73 = .ok (.goto (-70), 3) := by decide +kernel
theorem dX1_isBeaten_76 : decode cX1_isBeaten 76 = .ok (.iconst 0, 1) := by decide +kernel
theorem dX1_isBeaten_77 : decode cX1_isBeaten 77 = .ok (.ireturn, 1) := by decide +kernel
theorem dX1_agree_0 : decode cX1_agree 0 = .ok (.aload_n 0, 1) := by decide +kernel
theorem dX1_agree_1 : decode cX1_agree 1 = .ok (.iload_n 1, 1) := by decide +kernel
theorem dX1_agree_2 : decode cX1_agree 2 = .ok (.iload_n 2, 1) := by decide +kernel
theorem dX1_agree_3 : decode cX1_agree 3 = .ok (.iload 4, 2) := by decide +kernel
theorem dX1_agree_5 : decode cX1_agree 5 = .ok (.iconst 1, 1) := by decide +kernel
theorem dX1_agree_6 : decode cX1_agree 6 = .ok (.iadd, 1) := by decide +kernel
theorem dX1_agree_7 : decode cX1_agree 7 = .ok (.invokevirtual 41, 3) := by decide +kernel
theorem dX1_agree_10 : decode cX1_agree 10 = .ok (.iload_n 3, 1) := by decide +kernel
theorem dX1_agree_11 : decode cX1_agree 11 = .ok (.if_icmp .gt 7, 3) := by decide +kernel
theorem dX1_agree_14 : decode cX1_agree 14 = .ok (.iconst 1, 1) := by decide +kernel
theorem dX1_agree_15 : decode cX1_agree 15 = .ok (.goto 4, 3) := by decide +kernel
theorem dX1_agree_18 : decode cX1_agree 18 = .ok (.iconst 0, 1) := by decide +kernel
theorem dX1_agree_19 : decode cX1_agree 19 = .ok (.ireturn, 1) := by decide +kernel
theorem dX1_cover_0 : decode cX1_cover 0 = .ok (.aload_n 0, 1) := by decide +kernel
theorem dX1_cover_1 : decode cX1_cover 1 = .ok (.iload_n 1, 1) := by decide +kernel
theorem dX1_cover_2 : decode cX1_cover 2 = .ok (.invokevirtual 21, 3) := by decide +kernel
theorem dX1_cover_5 : decode cX1_cover 5 = .ok (.ifCond .ne 6, 3) := by decide +kernel
theorem dX1_cover_8 : decode cX1_cover 8 = .ok (.bipush (-4), 2) := by decide +kernel
theorem dX1_cover_10 : decode cX1_cover 10 = .ok (.ireturn, 1) := by decide +kernel
theorem dX1_cover_11 : decode cX1_cover 11 = .ok (.iconst 0, 1) := by decide +kernel
theorem dX1_cover_12 : decode cX1_cover 12 = .ok (.istore_n 2, 1) := by decide +kernel
theorem dX1_cover_13 : decode cX1_cover 13 = .ok (.iconst 0, 1) := by decide +kernel
theorem dX1_cover_14 : decode cX1_cover 14 = .ok (.istore_n 3, 1) := by decide +kernel
theorem dX1_cover_15 : decode cX1_cover 15 = .ok (.iload_n 3, 1) := by decide +kernel
theorem dX1_cover_16 : decode cX1_cover 16 = .ok (.bipush 12, 2) := by decide +kernel
theorem dX1_cover_18 : decode cX1_cover 18 = .ok (.if_icmp .ge 18, 3) := by decide +kernel
theorem dX1_cover_21 : decode cX1_cover 21 = .ok (.iload_n 2, 1) := by decide +kernel
theorem dX1_cover_22 : decode cX1_cover 22 = .ok (.aload_n 0, 1) := by decide +kernel
theorem dX1_cover_23 : decode cX1_cover 23 = .ok (.iload_n 1, 1) := by decide +kernel
theorem dX1_cover_24 : decode cX1_cover 24 = .ok (.iload_n 3, 1) := by decide +kernel
theorem dX1_cover_25 : decode cX1_cover 25 = .ok (.invokevirtual 55, 3) := by decide +kernel
theorem dX1_cover_28 : decode cX1_cover 28 = .ok (.iadd, 1) := by decide +kernel
theorem dX1_cover_29 : decode cX1_cover 29 = .ok (.istore_n 2, 1) := by decide +kernel
theorem dX1_cover_30 : decode cX1_cover 30 = .ok (.iinc 3 1, 3) := by decide +kernel
theorem dX1_cover_33 : decode cX1_cover 33 = .ok (.goto (-18), 3) := by decide +kernel
theorem dX1_cover_36 : decode cX1_cover 36 = .ok (.iload_n 2, 1) := by decide +kernel
theorem dX1_cover_37 : decode cX1_cover 37 = .ok (.ireturn, 1) := by decide +kernel
theorem dX1_widestOver_0 : decode cX1_widestOver 0 = .ok (.iconst 0, 1) := by decide +kernel
theorem dX1_widestOver_1 : decode cX1_widestOver 1 = .ok (.istore_n 3, 1) := by decide +kernel
theorem dX1_widestOver_2 : decode cX1_widestOver 2 = .ok (.iconst 0, 1) := by decide +kernel
theorem dX1_widestOver_3 : decode cX1_widestOver 3 = .ok (.istore 4, 2) := by decide +kernel
theorem dX1_widestOver_5 : decode cX1_widestOver 5 = .ok (.iload 4, 2) := by decide +kernel
theorem dX1_widestOver_7 : decode cX1_widestOver 7 = .ok (.aload_n 0, 1) := by decide +kernel
theorem dX1_widestOver_8 : decode cX1_widestOver 8 = .ok (.getfield 13, 3) := by decide +kernel
theorem dX1_widestOver_11 : decode cX1_widestOver 11 = .ok (.if_icmp .ge 73, 3) := by decide +kernel
theorem dX1_widestOver_14 : decode cX1_widestOver 14 = .ok (.iload_n 2, 1) := by decide +kernel
theorem dX1_widestOver_15 : decode cX1_widestOver 15 = .ok (.istore 5, 2) := by decide +kernel
theorem dX1_widestOver_17 : decode cX1_widestOver 17 = .ok (.iload 5, 2) := by decide +kernel
theorem dX1_widestOver_19 : decode cX1_widestOver 19 = .ok (.bipush 12, 2) := by decide +kernel
theorem dX1_widestOver_21 : decode cX1_widestOver 21 = .ok (.if_icmp .ge 57, 3) := by decide +kernel
theorem dX1_widestOver_24 : decode cX1_widestOver 24 = .ok (.iload 4, 2) := by decide +kernel
theorem dX1_widestOver_26 : decode cX1_widestOver 26 = .ok (.iload_n 1, 1) := by decide +kernel
theorem dX1_widestOver_27 : decode cX1_widestOver 27 = .ok (.if_icmp .eq 51, 3) := by decide +kernel
theorem dX1_widestOver_30 : decode cX1_widestOver 30 = .ok (.aload_n 0, 1) := by decide +kernel
theorem dX1_widestOver_31 : decode cX1_widestOver 31 = .ok (.iload_n 1, 1) := by decide +kernel
theorem dX1_widestOver_32 : decode cX1_widestOver 32 = .ok (.iload 4, 2) := by decide +kernel
theorem dX1_widestOver_34 : decode cX1_widestOver 34 = .ok (.iload 5, 2) := by decide +kernel
theorem dX1_widestOver_36 : decode cX1_widestOver 36 = .ok (.iconst 1, 1) := by decide +kernel
theorem dX1_widestOver_37 : decode cX1_widestOver 37 = .ok (.iadd, 1) := by decide +kernel
theorem dX1_widestOver_38 : decode cX1_widestOver 38 = .ok (.invokevirtual 41, 3) := by decide +kernel
theorem dX1_widestOver_41 : decode cX1_widestOver 41 = .ok (.istore 6, 2) := by decide +kernel
theorem dX1_widestOver_43 : decode cX1_widestOver 43 = .ok (.iload 6, 2) := by decide +kernel
theorem dX1_widestOver_45 : decode cX1_widestOver 45 = .ok (.iload_n 2, 1) := by decide +kernel
theorem dX1_widestOver_46 : decode cX1_widestOver 46 = .ok (.if_icmp .gt 24, 3) := by decide +kernel
theorem dX1_widestOver_49 : decode cX1_widestOver 49 = .ok (.iload 5, 2) := by decide +kernel
theorem dX1_widestOver_51 : decode cX1_widestOver 51 = .ok (.iload 6, 2) := by decide +kernel
theorem dX1_widestOver_53 : decode cX1_widestOver 53 = .ok (.isub, 1) := by decide +kernel
theorem dX1_widestOver_54 : decode cX1_widestOver 54 = .ok (.iconst 1, 1) := by decide +kernel
theorem dX1_widestOver_55 : decode cX1_widestOver 55 = .ok (.iadd, 1) := by decide +kernel
theorem dX1_widestOver_56 : decode cX1_widestOver 56 = .ok (.iload_n 3, 1) := by decide +kernel
theorem dX1_widestOver_57 : decode cX1_widestOver 57 = .ok (.if_icmp .le 13, 3) := by decide +kernel
theorem dX1_widestOver_60 : decode cX1_widestOver 60 = .ok (.iload 5, 2) := by decide +kernel
theorem dX1_widestOver_62 : decode cX1_widestOver 62 = .ok (.iload 6, 2) := by decide +kernel
theorem dX1_widestOver_64 : decode cX1_widestOver 64 = .ok (.isub, 1) := by decide +kernel
theorem dX1_widestOver_65 : decode cX1_widestOver 65 = .ok (.iconst 1, 1) := by decide +kernel
theorem dX1_widestOver_66 : decode cX1_widestOver 66 = .ok (.iadd, 1) := by decide +kernel
theorem dX1_widestOver_67 : decode cX1_widestOver 67 = .ok (.goto 4, 3) := by decide +kernel
theorem dX1_widestOver_70 : decode cX1_widestOver 70 = .ok (.iload_n 3, 1) := by decide +kernel
theorem dX1_widestOver_71 : decode cX1_widestOver 71 = .ok (.istore_n 3, 1) := by decide +kernel
theorem dX1_widestOver_72 : decode cX1_widestOver 72 = .ok (.iinc 5 1, 3) := by decide +kernel
theorem dX1_widestOver_75 : decode cX1_widestOver 75 = .ok (.goto (-58), 3) := by decide +kernel
theorem dX1_widestOver_78 : decode cX1_widestOver 78 = .ok (.iinc 4 1, 3) := by decide +kernel
theorem dX1_widestOver_81 : decode cX1_widestOver 81 = .ok (.goto (-76), 3) := by decide +kernel
theorem dX1_widestOver_84 : decode cX1_widestOver 84 = .ok (.iload_n 3, 1) := by decide +kernel
theorem dX1_widestOver_85 : decode cX1_widestOver 85 = .ok (.ireturn, 1) := by decide +kernel
theorem dX1_kinds_0 : decode cX1_kinds 0 = .ok (.iload_n 1, 1) := by decide +kernel
theorem dX1_kinds_1 : decode cX1_kinds 1 = .ok (.ifCond .lt 14, 3) := by decide +kernel
theorem dX1_kinds_4 : decode cX1_kinds 4 = .ok (.iload_n 2, 1) := by decide +kernel
theorem dX1_kinds_5 : decode cX1_kinds 5 = .ok (.bipush 11, 2) := by decide +kernel
theorem dX1_kinds_7 : decode cX1_kinds 7 = .ok (.if_icmp .gt 8, 3) := by decide +kernel
theorem dX1_kinds_10 : decode cX1_kinds 10 = .ok (.iload_n 1, 1) := by decide +kernel
theorem dX1_kinds_11 : decode cX1_kinds 11 = .ok (.iload_n 2, 1) := by decide +kernel
theorem dX1_kinds_12 : decode cX1_kinds 12 = .ok (.if_icmp .le 5, 3) := by decide +kernel
theorem dX1_kinds_15 : decode cX1_kinds 15 = .ok (.iconst (-1), 1) := by decide +kernel
theorem dX1_kinds_16 : decode cX1_kinds 16 = .ok (.ireturn, 1) := by decide +kernel
theorem dX1_kinds_17 : decode cX1_kinds 17 = .ok (.iconst 0, 1) := by decide +kernel
theorem dX1_kinds_18 : decode cX1_kinds 18 = .ok (.istore_n 3, 1) := by decide +kernel
theorem dX1_kinds_19 : decode cX1_kinds 19 = .ok (.iconst 0, 1) := by decide +kernel
theorem dX1_kinds_20 : decode cX1_kinds 20 = .ok (.istore 4, 2) := by decide +kernel
theorem dX1_kinds_22 : decode cX1_kinds 22 = .ok (.iload 4, 2) := by decide +kernel
theorem dX1_kinds_24 : decode cX1_kinds 24 = .ok (.aload_n 0, 1) := by decide +kernel
theorem dX1_kinds_25 : decode cX1_kinds 25 = .ok (.getfield 13, 3) := by decide +kernel
theorem dX1_kinds_28 : decode cX1_kinds 28 = .ok (.if_icmp .ge 66, 3) := by decide +kernel
theorem dX1_kinds_31 : decode cX1_kinds 31 = .ok (.iconst 1, 1) := by decide +kernel
theorem dX1_kinds_32 : decode cX1_kinds 32 = .ok (.istore 5, 2) := by decide +kernel
theorem dX1_kinds_34 : decode cX1_kinds 34 = .ok (.iconst 0, 1) := by decide +kernel
theorem dX1_kinds_35 : decode cX1_kinds 35 = .ok (.istore 6, 2) := by decide +kernel
theorem dX1_kinds_37 : decode cX1_kinds 37 = .ok (.iload 6, 2) := by decide +kernel
theorem dX1_kinds_39 : decode cX1_kinds 39 = .ok (.iload 4, 2) := by decide +kernel
theorem dX1_kinds_41 : decode cX1_kinds 41 = .ok (.if_icmp .ge 34, 3) := by decide +kernel
theorem dX1_kinds_44 : decode cX1_kinds 44 = .ok (.iload 5, 2) := by decide +kernel
theorem dX1_kinds_46 : decode cX1_kinds 46 = .ok (.ifCond .eq 20, 3) := by decide +kernel
theorem dX1_kinds_49 : decode cX1_kinds 49 = .ok (.aload_n 0, 1) := by decide +kernel
theorem dX1_kinds_50 : decode cX1_kinds 50 = .ok (.iload 4, 2) := by decide +kernel
theorem dX1_kinds_52 : decode cX1_kinds 52 = .ok (.iload 6, 2) := by decide +kernel
theorem dX1_kinds_54 : decode cX1_kinds 54 = .ok (.iload_n 1, 1) := by decide +kernel
theorem dX1_kinds_55 : decode cX1_kinds 55 = .ok (.iload_n 2, 1) := by decide +kernel
theorem dX1_kinds_56 : decode cX1_kinds 56 = .ok (.invokevirtual 49, 3) := by decide +kernel
theorem dX1_kinds_59 : decode cX1_kinds 59 = .ok (.ifCond .ne 7, 3) := by decide +kernel
theorem dX1_kinds_62 : decode cX1_kinds 62 = .ok (.iconst 1, 1) := by decide +kernel
theorem dX1_kinds_63 : decode cX1_kinds 63 = .ok (.goto 4, 3) := by decide +kernel
theorem dX1_kinds_66 : decode cX1_kinds 66 = .ok (.iconst 0, 1) := by decide +kernel
theorem dX1_kinds_67 : decode cX1_kinds 67 = .ok (.istore 5, 2) := by decide +kernel
theorem dX1_kinds_69 : decode cX1_kinds 69 = .ok (.iinc 6 1, 3) := by decide +kernel
theorem dX1_kinds_72 : decode cX1_kinds 72 = .ok (.goto (-35), 3) := by decide +kernel
theorem dX1_kinds_75 : decode cX1_kinds 75 = .ok (.iload 5, 2) := by decide +kernel
theorem dX1_kinds_77 : decode cX1_kinds 77 = .ok (.ifCond .eq 9, 3) := by decide +kernel
theorem dX1_kinds_80 : decode cX1_kinds 80 = .ok (.iload_n 3, 1) := by decide +kernel
theorem dX1_kinds_81 : decode cX1_kinds 81 = .ok (.iconst 1, 1) := by decide +kernel
theorem dX1_kinds_82 : decode cX1_kinds 82 = .ok (.iadd, 1) := by decide +kernel
theorem dX1_kinds_83 : decode cX1_kinds 83 = .ok (.goto 4, 3) := by decide +kernel
theorem dX1_kinds_86 : decode cX1_kinds 86 = .ok (.iload_n 3, 1) := by decide +kernel
theorem dX1_kinds_87 : decode cX1_kinds 87 = .ok (.istore_n 3, 1) := by decide +kernel
theorem dX1_kinds_88 : decode cX1_kinds 88 = .ok (.iinc 4 1, 3) := by decide +kernel
theorem dX1_kinds_91 : decode cX1_kinds 91 = .ok (.goto (-69), 3) := by decide +kernel
theorem dX1_kinds_94 : decode cX1_kinds 94 = .ok (.iload_n 3, 1) := by decide +kernel
theorem dX1_kinds_95 : decode cX1_kinds 95 = .ok (.ireturn, 1) := by decide +kernel
theorem dX1_having_0 : decode cX1_having 0 = .ok (.iload_n 2, 1) := by decide +kernel
theorem dX1_having_1 : decode cX1_having 1 = .ok (.ifCond .lt 33, 3) := by decide +kernel
theorem dX1_having_4 : decode cX1_having 4 = .ok (.iload_n 2, 1) := by decide +kernel
theorem dX1_having_5 : decode cX1_having 5 = .ok (.bipush 12, 2) := by decide +kernel
theorem dX1_having_7 : decode cX1_having 7 = .ok (.if_icmp .gt 27, 3) := by decide +kernel
theorem dX1_having_10 : decode cX1_having 10 = .ok (.aload_n 0, 1) := by decide +kernel
theorem dX1_having_11 : decode cX1_having 11 = .ok (.iload_n 1, 1) := by decide +kernel
theorem dX1_having_12 : decode cX1_having 12 = .ok (.invokevirtual 31, 3) := by decide +kernel
theorem dX1_having_15 : decode cX1_having 15 = .ok (.ifCond .eq 19, 3) := by decide +kernel
theorem dX1_having_18 : decode cX1_having 18 = .ok (.iload_n 1, 1) := by decide +kernel
theorem dX1_having_19 : decode cX1_having 19 = .ok (.iload_n 2, 1) := by decide +kernel
theorem dX1_having_20 : decode cX1_having 20 = .ok (.iadd, 1) := by decide +kernel
theorem dX1_having_21 : decode cX1_having 21 = .ok (.bipush 12, 2) := by decide +kernel
theorem dX1_having_23 : decode cX1_having 23 = .ok (.if_icmp .gt 11, 3) := by decide +kernel
theorem dX1_having_26 : decode cX1_having 26 = .ok (.aload_n 0, 1) := by decide +kernel
theorem dX1_having_27 : decode cX1_having 27 = .ok (.iload_n 3, 1) := by decide +kernel
theorem dX1_having_28 : decode cX1_having 28 = .ok (.invokevirtual 17, 3) := by decide +kernel
theorem dX1_having_31 : decode cX1_having 31 = .ok (.ifCond .ne 5, 3) := by decide +kernel
theorem dX1_having_34 : decode cX1_having 34 = .ok (.iconst (-1), 1) := by decide +kernel
theorem dX1_having_35 : decode cX1_having 35 = .ok (.ireturn, 1) := by decide +kernel
theorem dX1_having_36 : decode cX1_having 36 = .ok (.iconst 0, 1) := by decide +kernel
theorem dX1_having_37 : decode cX1_having 37 = .ok (.istore 4, 2) := by decide +kernel
theorem dX1_having_39 : decode cX1_having 39 = .ok (.iconst 0, 1) := by decide +kernel
theorem dX1_having_40 : decode cX1_having 40 = .ok (.istore 5, 2) := by decide +kernel
theorem dX1_having_42 : decode cX1_having 42 = .ok (.iload 5, 2) := by decide +kernel
theorem dX1_having_44 : decode cX1_having 44 = .ok (.aload_n 0, 1) := by decide +kernel
theorem dX1_having_45 : decode cX1_having 45 = .ok (.getfield 13, 3) := by decide +kernel
theorem dX1_having_48 : decode cX1_having 48 = .ok (.if_icmp .ge 44, 3) := by decide +kernel
theorem dX1_having_51 : decode cX1_having 51 = .ok (.aload_n 0, 1) := by decide +kernel
theorem dX1_having_52 : decode cX1_having 52 = .ok (.getfield 7, 3) := by decide +kernel
theorem dX1_having_55 : decode cX1_having 55 = .ok (.iload 5, 2) := by decide +kernel
theorem dX1_having_57 : decode cX1_having 57 = .ok (.iaload, 1) := by decide +kernel
theorem dX1_having_58 : decode cX1_having 58 = .ok (.iload_n 1, 1) := by decide +kernel
theorem dX1_having_59 : decode cX1_having 59 = .ok (.ishr, 1) := by decide +kernel
theorem dX1_having_60 : decode cX1_having 60 = .ok (.iload_n 3, 1) := by decide +kernel
theorem dX1_having_61 : decode cX1_having 61 = .ok (.ixor, 1) := by decide +kernel
theorem dX1_having_62 : decode cX1_having 62 = .ok (.iconst 1, 1) := by decide +kernel
theorem dX1_having_63 : decode cX1_having 63 = .ok (.iload_n 2, 1) := by decide +kernel
theorem dX1_having_64 : decode cX1_having 64 = .ok (.ishl, 1) := by decide +kernel
theorem dX1_having_65 : decode cX1_having 65 = .ok (.iconst 1, 1) := by decide +kernel
theorem dX1_having_66 : decode cX1_having 66 = .ok (.isub, 1) := by decide +kernel
theorem dX1_having_67 : decode cX1_having 67 = .ok (.iand, 1) := by decide +kernel
theorem dX1_having_68 : decode cX1_having 68 = .ok (.istore 6, 2) := by decide +kernel
theorem dX1_having_70 : decode cX1_having 70 = .ok (.iload 6, 2) := by decide +kernel
theorem dX1_having_72 : decode cX1_having 72 = .ok (.ifCond .ne 10, 3) := by decide +kernel
theorem dX1_having_75 : decode cX1_having 75 = .ok (.iload 4, 2) := by decide +kernel
theorem dX1_having_77 : decode cX1_having 77 = .ok (.iconst 1, 1) := by decide +kernel
theorem dX1_having_78 : decode cX1_having 78 = .ok (.iadd, 1) := by decide +kernel
theorem dX1_having_79 : decode cX1_having 79 = .ok (.goto 5, 3) := by decide +kernel
theorem dX1_having_82 : decode cX1_having 82 = .ok (.iload 4, 2) := by decide +kernel
theorem dX1_having_84 : decode cX1_having 84 = .ok (.istore 4, 2) := by decide +kernel
theorem dX1_having_86 : decode cX1_having 86 = .ok (.iinc 5 1, 3) := by decide +kernel
theorem dX1_having_89 : decode cX1_having 89 = .ok (.goto (-47), 3) := by decide +kernel
theorem dX1_having_92 : decode cX1_having 92 = .ok (.iload 4, 2) := by decide +kernel
theorem dX1_having_94 : decode cX1_having 94 = .ok (.ireturn, 1) := by decide +kernel
theorem dX1_fit_0 : decode cX1_fit 0 = .ok (.aload_n 0, 1) := by decide +kernel
theorem dX1_fit_1 : decode cX1_fit 1 = .ok (.iload_n 1, 1) := by decide +kernel
theorem dX1_fit_2 : decode cX1_fit 2 = .ok (.invokevirtual 31, 3) := by decide +kernel
theorem dX1_fit_5 : decode cX1_fit 5 = .ok (.ifCond .eq 11, 3) := by decide +kernel
theorem dX1_fit_8 : decode cX1_fit 8 = .ok (.aload_n 0, 1) := by decide +kernel
theorem dX1_fit_9 : decode cX1_fit 9 = .ok (.iload_n 2, 1) := by decide +kernel
theorem dX1_fit_10 : decode cX1_fit 10 = .ok (.invokevirtual 17, 3) := by decide +kernel
theorem dX1_fit_13 : decode cX1_fit 13 = .ok (.ifCond .ne 5, 3) := by decide +kernel
theorem dX1_fit_16 : decode cX1_fit 16 = .ok (.iconst (-1), 1) := by decide +kernel
theorem dX1_fit_17 : decode cX1_fit 17 = .ok (.ireturn, 1) := by decide +kernel
theorem dX1_fit_18 : decode cX1_fit 18 = .ok (.iconst 0, 1) := by decide +kernel
theorem dX1_fit_19 : decode cX1_fit 19 = .ok (.istore_n 3, 1) := by decide +kernel
theorem dX1_fit_20 : decode cX1_fit 20 = .ok (.iconst 0, 1) := by decide +kernel
theorem dX1_fit_21 : decode cX1_fit 21 = .ok (.istore 4, 2) := by decide +kernel
theorem dX1_fit_23 : decode cX1_fit 23 = .ok (.iload 4, 2) := by decide +kernel
theorem dX1_fit_25 : decode cX1_fit 25 = .ok (.aload_n 0, 1) := by decide +kernel
theorem dX1_fit_26 : decode cX1_fit 26 = .ok (.getfield 13, 3) := by decide +kernel
theorem dX1_fit_29 : decode cX1_fit 29 = .ok (.if_icmp .ge 58, 3) := by decide +kernel
theorem dX1_fit_32 : decode cX1_fit 32 = .ok (.iconst 0, 1) := by decide +kernel
theorem dX1_fit_33 : decode cX1_fit 33 = .ok (.istore 5, 2) := by decide +kernel
theorem dX1_fit_35 : decode cX1_fit 35 = .ok (.iload 5, 2) := by decide +kernel
theorem dX1_fit_37 : decode cX1_fit 37 = .ok (.iload_n 1, 1) := by decide +kernel
theorem dX1_fit_38 : decode cX1_fit 38 = .ok (.if_icmp .ge 30, 3) := by decide +kernel
theorem dX1_fit_41 : decode cX1_fit 41 = .ok (.aload_n 0, 1) := by decide +kernel
theorem dX1_fit_42 : decode cX1_fit 42 = .ok (.getfield 7, 3) := by decide +kernel
theorem dX1_fit_45 : decode cX1_fit 45 = .ok (.iload 4, 2) := by decide +kernel
theorem dX1_fit_47 : decode cX1_fit 47 = .ok (.iaload, 1) := by decide +kernel
theorem dX1_fit_48 : decode cX1_fit 48 = .ok (.iload_n 2, 1) := by decide +kernel
theorem dX1_fit_49 : decode cX1_fit 49 = .ok (.ixor, 1) := by decide +kernel
theorem dX1_fit_50 : decode cX1_fit 50 = .ok (.iload_n 1, 1) := by decide +kernel
theorem dX1_fit_51 : decode cX1_fit 51 = .ok (.iconst 1, 1) := by decide +kernel
theorem dX1_fit_52 : decode cX1_fit 52 = .ok (.isub, 1) := by decide +kernel
theorem dX1_fit_53 : decode cX1_fit 53 = .ok (.iload 5, 2) := by decide +kernel
theorem dX1_fit_55 : decode cX1_fit 55 = .ok (.isub, 1) := by decide +kernel
theorem dX1_fit_56 : decode cX1_fit 56 = .ok (.ishr, 1) := by decide +kernel
theorem dX1_fit_57 : decode cX1_fit 57 = .ok (.iconst 1, 1) := by decide +kernel
theorem dX1_fit_58 : decode cX1_fit 58 = .ok (.iand, 1) := by decide +kernel
theorem dX1_fit_59 : decode cX1_fit 59 = .ok (.ifCond .ne 9, 3) := by decide +kernel
theorem dX1_fit_62 : decode cX1_fit 62 = .ok (.iinc 5 1, 3) := by decide +kernel
theorem dX1_fit_65 : decode cX1_fit 65 = .ok (.goto (-30), 3) := by decide +kernel
theorem dX1_fit_68 : decode cX1_fit 68 = .ok (.iload 5, 2) := by decide +kernel
theorem dX1_fit_70 : decode cX1_fit 70 = .ok (.iload_n 3, 1) := by decide +kernel
theorem dX1_fit_71 : decode cX1_fit 71 = .ok (.if_icmp .le 8, 3) := by decide +kernel
theorem dX1_fit_74 : decode cX1_fit 74 = .ok (.iload 5, 2) := by decide +kernel
theorem dX1_fit_76 : decode cX1_fit 76 = .ok (.goto 4, 3) := by decide +kernel
theorem dX1_fit_79 : decode cX1_fit 79 = .ok (.iload_n 3, 1) := by decide +kernel
theorem dX1_fit_80 : decode cX1_fit 80 = .ok (.istore_n 3, 1) := by decide +kernel
theorem dX1_fit_81 : decode cX1_fit 81 = .ok (.iinc 4 1, 3) := by decide +kernel
theorem dX1_fit_84 : decode cX1_fit 84 = .ok (.goto (-61), 3) := by decide +kernel
theorem dX1_fit_87 : decode cX1_fit 87 = .ok (.iload_n 3, 1) := by decide +kernel
theorem dX1_fit_88 : decode cX1_fit 88 = .ok (.ireturn, 1) := by decide +kernel
end
section
set_option maxRecDepth 100000
theorem dL_law_0 : decode cL_law 0 = .ok (.new 7, 3) := by decide +kernel
theorem dL_law_3 : decode cL_law 3 = .ok (.dup, 1) := by decide +kernel
theorem dL_law_4 : decode cL_law 4 = .ok (.invokespecial 9, 3) := by decide +kernel
theorem dL_law_7 : decode cL_law 7 = .ok (.astore_n 1, 1) := by decide +kernel
theorem dL_law_8 : decode cL_law 8 = .ok (.new 10, 3) := by decide +kernel
theorem dL_law_11 : decode cL_law 11 = .ok (.dup, 1) := by decide +kernel
theorem dL_law_12 : decode cL_law 12 = .ok (.invokespecial 12, 3) := by decide +kernel
theorem dL_law_15 : decode cL_law 15 = .ok (.astore_n 2, 1) := by decide +kernel
theorem dL_law_16 : decode cL_law 16 = .ok (.iconst 0, 1) := by decide +kernel
theorem dL_law_17 : decode cL_law 17 = .ok (.istore_n 3, 1) := by decide +kernel
theorem dL_law_18 : decode cL_law 18 = .ok (.iload_n 3, 1) := by decide +kernel
theorem dL_law_19 : decode cL_law 19 = .ok (.aload_n 0, 1) := by decide +kernel
theorem dL_law_20 : decode cL_law 20 = .ok (.arraylength, 1) := by decide +kernel
theorem dL_law_21 : decode cL_law 21 = .ok (.iconst 4, 1) := by decide +kernel
theorem dL_law_22 : decode cL_law 22 = .ok (.isub, 1) := by decide +kernel
theorem dL_law_23 : decode cL_law 23 = .ok (.if_icmp .gt 442, 3) := by decide +kernel
theorem dL_law_26 : decode cL_law 26 = .ok (.aload_n 0, 1) := by decide +kernel
theorem dL_law_27 : decode cL_law 27 = .ok (.iload_n 3, 1) := by decide +kernel
theorem dL_law_28 : decode cL_law 28 = .ok (.iaload, 1) := by decide +kernel
theorem dL_law_29 : decode cL_law 29 = .ok (.bipush 15, 2) := by decide +kernel
theorem dL_law_31 : decode cL_law 31 = .ok (.iand, 1) := by decide +kernel
theorem dL_law_32 : decode cL_law 32 = .ok (.tableswitch 427 0 12 #[68, 91, 104, 137, 150, 183, 216, 239, 272, 295, 318, 351, 394], 68) := by decide +kernel
theorem dL_law_100 : decode cL_law 100 = .ok (.aload_n 1, 1) := by decide +kernel
theorem dL_law_101 : decode cL_law 101 = .ok (.aload_n 0, 1) := by decide +kernel
theorem dL_law_102 : decode cL_law 102 = .ok (.iload_n 3, 1) := by decide +kernel
theorem dL_law_103 : decode cL_law 103 = .ok (.iconst 1, 1) := by decide +kernel
theorem dL_law_104 : decode cL_law 104 = .ok (.iadd, 1) := by decide +kernel
theorem dL_law_105 : decode cL_law 105 = .ok (.iaload, 1) := by decide +kernel
theorem dL_law_106 : decode cL_law 106 = .ok (.invokevirtual 13, 3) := by decide +kernel
theorem dL_law_109 : decode cL_law 109 = .ok (.aload_n 2, 1) := by decide +kernel
theorem dL_law_110 : decode cL_law 110 = .ok (.aload_n 0, 1) := by decide +kernel
theorem dL_law_111 : decode cL_law 111 = .ok (.iload_n 3, 1) := by decide +kernel
theorem dL_law_112 : decode cL_law 112 = .ok (.iconst 1, 1) := by decide +kernel
theorem dL_law_113 : decode cL_law 113 = .ok (.iadd, 1) := by decide +kernel
theorem dL_law_114 : decode cL_law 114 = .ok (.iaload, 1) := by decide +kernel
theorem dL_law_115 : decode cL_law 115 = .ok (.invokevirtual 17, 3) := by decide +kernel
theorem dL_law_118 : decode cL_law 118 = .ok (.if_icmp .eq 341, 3) := by decide +kernel
theorem dL_law_121 : decode cL_law 121 = .ok (.iconst 0, 1) := by decide +kernel
theorem dL_law_122 : decode cL_law 122 = .ok (.ireturn, 1) := by decide +kernel
theorem dL_law_123 : decode cL_law 123 = .ok (.aload_n 1, 1) := by decide +kernel
theorem dL_law_124 : decode cL_law 124 = .ok (.invokevirtual 18, 3) := by decide +kernel
theorem dL_law_127 : decode cL_law 127 = .ok (.aload_n 2, 1) := by decide +kernel
theorem dL_law_128 : decode cL_law 128 = .ok (.invokevirtual 22, 3) := by decide +kernel
theorem dL_law_131 : decode cL_law 131 = .ok (.if_icmp .eq 328, 3) := by decide +kernel
theorem dL_law_134 : decode cL_law 134 = .ok (.iconst 0, 1) := by decide +kernel
theorem dL_law_135 : decode cL_law 135 = .ok (.ireturn, 1) := by decide +kernel
theorem dL_law_136 : decode cL_law 136 = .ok (.aload_n 1, 1) := by decide +kernel
theorem dL_law_137 : decode cL_law 137 = .ok (.aload_n 0, 1) := by decide +kernel
theorem dL_law_138 : decode cL_law 138 = .ok (.iload_n 3, 1) := by decide +kernel
theorem dL_law_139 : decode cL_law 139 = .ok (.iconst 1, 1) := by decide +kernel
theorem dL_law_140 : decode cL_law 140 = .ok (.iadd, 1) := by decide +kernel
theorem dL_law_141 : decode cL_law 141 = .ok (.iaload, 1) := by decide +kernel
theorem dL_law_142 : decode cL_law 142 = .ok (.aload_n 0, 1) := by decide +kernel
theorem dL_law_143 : decode cL_law 143 = .ok (.iload_n 3, 1) := by decide +kernel
theorem dL_law_144 : decode cL_law 144 = .ok (.iconst 2, 1) := by decide +kernel
theorem dL_law_145 : decode cL_law 145 = .ok (.iadd, 1) := by decide +kernel
theorem dL_law_146 : decode cL_law 146 = .ok (.iaload, 1) := by decide +kernel
theorem dL_law_147 : decode cL_law 147 = .ok (.invokevirtual 23, 3) := by decide +kernel
theorem dL_law_150 : decode cL_law 150 = .ok (.aload_n 2, 1) := by decide +kernel
theorem dL_law_151 : decode cL_law 151 = .ok (.aload_n 0, 1) := by decide +kernel
theorem dL_law_152 : decode cL_law 152 = .ok (.iload_n 3, 1) := by decide +kernel
theorem dL_law_153 : decode cL_law 153 = .ok (.iconst 1, 1) := by decide +kernel
theorem dL_law_154 : decode cL_law 154 = .ok (.iadd, 1) := by decide +kernel
theorem dL_law_155 : decode cL_law 155 = .ok (.iaload, 1) := by decide +kernel
theorem dL_law_156 : decode cL_law 156 = .ok (.aload_n 0, 1) := by decide +kernel
theorem dL_law_157 : decode cL_law 157 = .ok (.iload_n 3, 1) := by decide +kernel
theorem dL_law_158 : decode cL_law 158 = .ok (.iconst 2, 1) := by decide +kernel
theorem dL_law_159 : decode cL_law 159 = .ok (.iadd, 1) := by decide +kernel
theorem dL_law_160 : decode cL_law 160 = .ok (.iaload, 1) := by decide +kernel
theorem dL_law_161 : decode cL_law 161 = .ok (.invokevirtual 27, 3) := by decide +kernel
theorem dL_law_164 : decode cL_law 164 = .ok (.if_icmp .eq 295, 3) := by decide +kernel
theorem dL_law_167 : decode cL_law 167 = .ok (.iconst 0, 1) := by decide +kernel
theorem dL_law_168 : decode cL_law 168 = .ok (.ireturn, 1) := by decide +kernel
theorem dL_law_169 : decode cL_law 169 = .ok (.aload_n 1, 1) := by decide +kernel
theorem dL_law_170 : decode cL_law 170 = .ok (.invokevirtual 28, 3) := by decide +kernel
theorem dL_law_173 : decode cL_law 173 = .ok (.aload_n 2, 1) := by decide +kernel
theorem dL_law_174 : decode cL_law 174 = .ok (.invokevirtual 31, 3) := by decide +kernel
theorem dL_law_177 : decode cL_law 177 = .ok (.if_icmp .eq 282, 3) := by decide +kernel
theorem dL_law_180 : decode cL_law 180 = .ok (.iconst 0, 1) := by decide +kernel
theorem dL_law_181 : decode cL_law 181 = .ok (.ireturn, 1) := by decide +kernel
theorem dL_law_182 : decode cL_law 182 = .ok (.aload_n 1, 1) := by decide +kernel
theorem dL_law_183 : decode cL_law 183 = .ok (.aload_n 0, 1) := by decide +kernel
theorem dL_law_184 : decode cL_law 184 = .ok (.iload_n 3, 1) := by decide +kernel
theorem dL_law_185 : decode cL_law 185 = .ok (.iconst 1, 1) := by decide +kernel
theorem dL_law_186 : decode cL_law 186 = .ok (.iadd, 1) := by decide +kernel
theorem dL_law_187 : decode cL_law 187 = .ok (.iaload, 1) := by decide +kernel
theorem dL_law_188 : decode cL_law 188 = .ok (.aload_n 0, 1) := by decide +kernel
theorem dL_law_189 : decode cL_law 189 = .ok (.iload_n 3, 1) := by decide +kernel
theorem dL_law_190 : decode cL_law 190 = .ok (.iconst 2, 1) := by decide +kernel
theorem dL_law_191 : decode cL_law 191 = .ok (.iadd, 1) := by decide +kernel
theorem dL_law_192 : decode cL_law 192 = .ok (.iaload, 1) := by decide +kernel
theorem dL_law_193 : decode cL_law 193 = .ok (.invokevirtual 32, 3) := by decide +kernel
theorem dL_law_196 : decode cL_law 196 = .ok (.aload_n 2, 1) := by decide +kernel
theorem dL_law_197 : decode cL_law 197 = .ok (.aload_n 0, 1) := by decide +kernel
theorem dL_law_198 : decode cL_law 198 = .ok (.iload_n 3, 1) := by decide +kernel
theorem dL_law_199 : decode cL_law 199 = .ok (.iconst 1, 1) := by decide +kernel
theorem dL_law_200 : decode cL_law 200 = .ok (.iadd, 1) := by decide +kernel
theorem dL_law_201 : decode cL_law 201 = .ok (.iaload, 1) := by decide +kernel
theorem dL_law_202 : decode cL_law 202 = .ok (.aload_n 0, 1) := by decide +kernel
theorem dL_law_203 : decode cL_law 203 = .ok (.iload_n 3, 1) := by decide +kernel
theorem dL_law_204 : decode cL_law 204 = .ok (.iconst 2, 1) := by decide +kernel
theorem dL_law_205 : decode cL_law 205 = .ok (.iadd, 1) := by decide +kernel
theorem dL_law_206 : decode cL_law 206 = .ok (.iaload, 1) := by decide +kernel
theorem dL_law_207 : decode cL_law 207 = .ok (.invokevirtual 35, 3) := by decide +kernel
theorem dL_law_210 : decode cL_law 210 = .ok (.if_icmp .eq 249, 3) := by decide +kernel
theorem dL_law_213 : decode cL_law 213 = .ok (.iconst 0, 1) := by decide +kernel
theorem dL_law_214 : decode cL_law 214 = .ok (.ireturn, 1) := by decide +kernel
theorem dL_law_215 : decode cL_law 215 = .ok (.aload_n 1, 1) := by decide +kernel
theorem dL_law_216 : decode cL_law 216 = .ok (.aload_n 0, 1) := by decide +kernel
theorem dL_law_217 : decode cL_law 217 = .ok (.iload_n 3, 1) := by decide +kernel
theorem dL_law_218 : decode cL_law 218 = .ok (.iconst 1, 1) := by decide +kernel
theorem dL_law_219 : decode cL_law 219 = .ok (.iadd, 1) := by decide +kernel
theorem dL_law_220 : decode cL_law 220 = .ok (.iaload, 1) := by decide +kernel
theorem dL_law_221 : decode cL_law 221 = .ok (.aload_n 0, 1) := by decide +kernel
theorem dL_law_222 : decode cL_law 222 = .ok (.iload_n 3, 1) := by decide +kernel
theorem dL_law_223 : decode cL_law 223 = .ok (.iconst 2, 1) := by decide +kernel
theorem dL_law_224 : decode cL_law 224 = .ok (.iadd, 1) := by decide +kernel
theorem dL_law_225 : decode cL_law 225 = .ok (.iaload, 1) := by decide +kernel
theorem dL_law_226 : decode cL_law 226 = .ok (.invokevirtual 36, 3) := by decide +kernel
theorem dL_law_229 : decode cL_law 229 = .ok (.aload_n 2, 1) := by decide +kernel
theorem dL_law_230 : decode cL_law 230 = .ok (.aload_n 0, 1) := by decide +kernel
theorem dL_law_231 : decode cL_law 231 = .ok (.iload_n 3, 1) := by decide +kernel
theorem dL_law_232 : decode cL_law 232 = .ok (.iconst 1, 1) := by decide +kernel
theorem dL_law_233 : decode cL_law 233 = .ok (.iadd, 1) := by decide +kernel
theorem dL_law_234 : decode cL_law 234 = .ok (.iaload, 1) := by decide +kernel
theorem dL_law_235 : decode cL_law 235 = .ok (.aload_n 0, 1) := by decide +kernel
theorem dL_law_236 : decode cL_law 236 = .ok (.iload_n 3, 1) := by decide +kernel
theorem dL_law_237 : decode cL_law 237 = .ok (.iconst 2, 1) := by decide +kernel
theorem dL_law_238 : decode cL_law 238 = .ok (.iadd, 1) := by decide +kernel
theorem dL_law_239 : decode cL_law 239 = .ok (.iaload, 1) := by decide +kernel
theorem dL_law_240 : decode cL_law 240 = .ok (.invokevirtual 39, 3) := by decide +kernel
theorem dL_law_243 : decode cL_law 243 = .ok (.if_icmp .eq 216, 3) := by decide +kernel
theorem dL_law_246 : decode cL_law 246 = .ok (.iconst 0, 1) := by decide +kernel
theorem dL_law_247 : decode cL_law 247 = .ok (.ireturn, 1) := by decide +kernel
theorem dL_law_248 : decode cL_law 248 = .ok (.aload_n 1, 1) := by decide +kernel
theorem dL_law_249 : decode cL_law 249 = .ok (.aload_n 0, 1) := by decide +kernel
theorem dL_law_250 : decode cL_law 250 = .ok (.iload_n 3, 1) := by decide +kernel
theorem dL_law_251 : decode cL_law 251 = .ok (.iconst 1, 1) := by decide +kernel
theorem dL_law_252 : decode cL_law 252 = .ok (.iadd, 1) := by decide +kernel
theorem dL_law_253 : decode cL_law 253 = .ok (.iaload, 1) := by decide +kernel
theorem dL_law_254 : decode cL_law 254 = .ok (.invokevirtual 40, 3) := by decide +kernel
theorem dL_law_257 : decode cL_law 257 = .ok (.aload_n 2, 1) := by decide +kernel
theorem dL_law_258 : decode cL_law 258 = .ok (.aload_n 0, 1) := by decide +kernel
theorem dL_law_259 : decode cL_law 259 = .ok (.iload_n 3, 1) := by decide +kernel
theorem dL_law_260 : decode cL_law 260 = .ok (.iconst 1, 1) := by decide +kernel
theorem dL_law_261 : decode cL_law 261 = .ok (.iadd, 1) := by decide +kernel
theorem dL_law_262 : decode cL_law 262 = .ok (.iaload, 1) := by decide +kernel
theorem dL_law_263 : decode cL_law 263 = .ok (.invokevirtual 43, 3) := by decide +kernel
theorem dL_law_266 : decode cL_law 266 = .ok (.if_icmp .eq 193, 3) := by decide +kernel
theorem dL_law_269 : decode cL_law 269 = .ok (.iconst 0, 1) := by decide +kernel
theorem dL_law_270 : decode cL_law 270 = .ok (.ireturn, 1) := by decide +kernel
theorem dL_law_271 : decode cL_law 271 = .ok (.aload_n 1, 1) := by decide +kernel
theorem dL_law_272 : decode cL_law 272 = .ok (.aload_n 0, 1) := by decide +kernel
theorem dL_law_273 : decode cL_law 273 = .ok (.iload_n 3, 1) := by decide +kernel
theorem dL_law_274 : decode cL_law 274 = .ok (.iconst 1, 1) := by decide +kernel
theorem dL_law_275 : decode cL_law 275 = .ok (.iadd, 1) := by decide +kernel
theorem dL_law_276 : decode cL_law 276 = .ok (.iaload, 1) := by decide +kernel
theorem dL_law_277 : decode cL_law 277 = .ok (.aload_n 0, 1) := by decide +kernel
theorem dL_law_278 : decode cL_law 278 = .ok (.iload_n 3, 1) := by decide +kernel
theorem dL_law_279 : decode cL_law 279 = .ok (.iconst 2, 1) := by decide +kernel
theorem dL_law_280 : decode cL_law 280 = .ok (.iadd, 1) := by decide +kernel
theorem dL_law_281 : decode cL_law 281 = .ok (.iaload, 1) := by decide +kernel
theorem dL_law_282 : decode cL_law 282 = .ok (.invokevirtual 44, 3) := by decide +kernel
theorem dL_law_285 : decode cL_law 285 = .ok (.aload_n 2, 1) := by decide +kernel
theorem dL_law_286 : decode cL_law 286 = .ok (.aload_n 0, 1) := by decide +kernel
theorem dL_law_287 : decode cL_law 287 = .ok (.iload_n 3, 1) := by decide +kernel
theorem dL_law_288 : decode cL_law 288 = .ok (.iconst 1, 1) := by decide +kernel
theorem dL_law_289 : decode cL_law 289 = .ok (.iadd, 1) := by decide +kernel
theorem dL_law_290 : decode cL_law 290 = .ok (.iaload, 1) := by decide +kernel
theorem dL_law_291 : decode cL_law 291 = .ok (.aload_n 0, 1) := by decide +kernel
theorem dL_law_292 : decode cL_law 292 = .ok (.iload_n 3, 1) := by decide +kernel
theorem dL_law_293 : decode cL_law 293 = .ok (.iconst 2, 1) := by decide +kernel
theorem dL_law_294 : decode cL_law 294 = .ok (.iadd, 1) := by decide +kernel
theorem dL_law_295 : decode cL_law 295 = .ok (.iaload, 1) := by decide +kernel
theorem dL_law_296 : decode cL_law 296 = .ok (.invokevirtual 47, 3) := by decide +kernel
theorem dL_law_299 : decode cL_law 299 = .ok (.if_icmp .eq 160, 3) := by decide +kernel
theorem dL_law_302 : decode cL_law 302 = .ok (.iconst 0, 1) := by decide +kernel
theorem dL_law_303 : decode cL_law 303 = .ok (.ireturn, 1) := by decide +kernel
theorem dL_law_304 : decode cL_law 304 = .ok (.aload_n 1, 1) := by decide +kernel
theorem dL_law_305 : decode cL_law 305 = .ok (.aload_n 0, 1) := by decide +kernel
theorem dL_law_306 : decode cL_law 306 = .ok (.iload_n 3, 1) := by decide +kernel
theorem dL_law_307 : decode cL_law 307 = .ok (.iconst 1, 1) := by decide +kernel
theorem dL_law_308 : decode cL_law 308 = .ok (.iadd, 1) := by decide +kernel
theorem dL_law_309 : decode cL_law 309 = .ok (.iaload, 1) := by decide +kernel
theorem dL_law_310 : decode cL_law 310 = .ok (.invokevirtual 48, 3) := by decide +kernel
theorem dL_law_313 : decode cL_law 313 = .ok (.aload_n 2, 1) := by decide +kernel
theorem dL_law_314 : decode cL_law 314 = .ok (.aload_n 0, 1) := by decide +kernel
theorem dL_law_315 : decode cL_law 315 = .ok (.iload_n 3, 1) := by decide +kernel
theorem dL_law_316 : decode cL_law 316 = .ok (.iconst 1, 1) := by decide +kernel
theorem dL_law_317 : decode cL_law 317 = .ok (.iadd, 1) := by decide +kernel
theorem dL_law_318 : decode cL_law 318 = .ok (.iaload, 1) := by decide +kernel
theorem dL_law_319 : decode cL_law 319 = .ok (.invokevirtual 51, 3) := by decide +kernel
theorem dL_law_322 : decode cL_law 322 = .ok (.if_icmp .eq 137, 3) := by decide +kernel
theorem dL_law_325 : decode cL_law 325 = .ok (.iconst 0, 1) := by decide +kernel
theorem dL_law_326 : decode cL_law 326 = .ok (.ireturn, 1) := by decide +kernel
theorem dL_law_327 : decode cL_law 327 = .ok (.aload_n 1, 1) := by decide +kernel
theorem dL_law_328 : decode cL_law 328 = .ok (.aload_n 0, 1) := by decide +kernel
theorem dL_law_329 : decode cL_law 329 = .ok (.iload_n 3, 1) := by decide +kernel
theorem dL_law_330 : decode cL_law 330 = .ok (.iconst 1, 1) := by decide +kernel
theorem dL_law_331 : decode cL_law 331 = .ok (.iadd, 1) := by decide +kernel
theorem dL_law_332 : decode cL_law 332 = .ok (.iaload, 1) := by decide +kernel
theorem dL_law_333 : decode cL_law 333 = .ok (.invokevirtual 52, 3) := by decide +kernel
theorem dL_law_336 : decode cL_law 336 = .ok (.aload_n 2, 1) := by decide +kernel
theorem dL_law_337 : decode cL_law 337 = .ok (.aload_n 0, 1) := by decide +kernel
theorem dL_law_338 : decode cL_law 338 = .ok (.iload_n 3, 1) := by decide +kernel
theorem dL_law_339 : decode cL_law 339 = .ok (.iconst 1, 1) := by decide +kernel
theorem dL_law_340 : decode cL_law 340 = .ok (.iadd, 1) := by decide +kernel
theorem dL_law_341 : decode cL_law 341 = .ok (.iaload, 1) := by decide +kernel
theorem dL_law_342 : decode cL_law 342 = .ok (.invokevirtual 55, 3) := by decide +kernel
theorem dL_law_345 : decode cL_law 345 = .ok (.if_icmp .eq 114, 3) := by decide +kernel
theorem dL_law_348 : decode cL_law 348 = .ok (.iconst 0, 1) := by decide +kernel
theorem dL_law_349 : decode cL_law 349 = .ok (.ireturn, 1) := by decide +kernel
theorem dL_law_350 : decode cL_law 350 = .ok (.aload_n 1, 1) := by decide +kernel
theorem dL_law_351 : decode cL_law 351 = .ok (.aload_n 0, 1) := by decide +kernel
theorem dL_law_352 : decode cL_law 352 = .ok (.iload_n 3, 1) := by decide +kernel
theorem dL_law_353 : decode cL_law 353 = .ok (.iconst 1, 1) := by decide +kernel
theorem dL_law_354 : decode cL_law 354 = .ok (.iadd, 1) := by decide +kernel
theorem dL_law_355 : decode cL_law 355 = .ok (.iaload, 1) := by decide +kernel
theorem dL_law_356 : decode cL_law 356 = .ok (.aload_n 0, 1) := by decide +kernel
theorem dL_law_357 : decode cL_law 357 = .ok (.iload_n 3, 1) := by decide +kernel
theorem dL_law_358 : decode cL_law 358 = .ok (.iconst 2, 1) := by decide +kernel
theorem dL_law_359 : decode cL_law 359 = .ok (.iadd, 1) := by decide +kernel
theorem dL_law_360 : decode cL_law 360 = .ok (.iaload, 1) := by decide +kernel
theorem dL_law_361 : decode cL_law 361 = .ok (.invokevirtual 56, 3) := by decide +kernel
theorem dL_law_364 : decode cL_law 364 = .ok (.aload_n 2, 1) := by decide +kernel
theorem dL_law_365 : decode cL_law 365 = .ok (.aload_n 0, 1) := by decide +kernel
theorem dL_law_366 : decode cL_law 366 = .ok (.iload_n 3, 1) := by decide +kernel
theorem dL_law_367 : decode cL_law 367 = .ok (.iconst 1, 1) := by decide +kernel
theorem dL_law_368 : decode cL_law 368 = .ok (.iadd, 1) := by decide +kernel
theorem dL_law_369 : decode cL_law 369 = .ok (.iaload, 1) := by decide +kernel
theorem dL_law_370 : decode cL_law 370 = .ok (.aload_n 0, 1) := by decide +kernel
theorem dL_law_371 : decode cL_law 371 = .ok (.iload_n 3, 1) := by decide +kernel
theorem dL_law_372 : decode cL_law 372 = .ok (.iconst 2, 1) := by decide +kernel
theorem dL_law_373 : decode cL_law 373 = .ok (.iadd, 1) := by decide +kernel
theorem dL_law_374 : decode cL_law 374 = .ok (.iaload, 1) := by decide +kernel
theorem dL_law_375 : decode cL_law 375 = .ok (.invokevirtual 59, 3) := by decide +kernel
theorem dL_law_378 : decode cL_law 378 = .ok (.if_icmp .eq 81, 3) := by decide +kernel
theorem dL_law_381 : decode cL_law 381 = .ok (.iconst 0, 1) := by decide +kernel
theorem dL_law_382 : decode cL_law 382 = .ok (.ireturn, 1) := by decide +kernel
theorem dL_law_383 : decode cL_law 383 = .ok (.aload_n 1, 1) := by decide +kernel
theorem dL_law_384 : decode cL_law 384 = .ok (.aload_n 0, 1) := by decide +kernel
theorem dL_law_385 : decode cL_law 385 = .ok (.iload_n 3, 1) := by decide +kernel
theorem dL_law_386 : decode cL_law 386 = .ok (.iconst 1, 1) := by decide +kernel
theorem dL_law_387 : decode cL_law 387 = .ok (.iadd, 1) := by decide +kernel
theorem dL_law_388 : decode cL_law 388 = .ok (.iaload, 1) := by decide +kernel
theorem dL_law_389 : decode cL_law 389 = .ok (.aload_n 0, 1) := by decide +kernel
theorem dL_law_390 : decode cL_law 390 = .ok (.iload_n 3, 1) := by decide +kernel
theorem dL_law_391 : decode cL_law 391 = .ok (.iconst 2, 1) := by decide +kernel
theorem dL_law_392 : decode cL_law 392 = .ok (.iadd, 1) := by decide +kernel
theorem dL_law_393 : decode cL_law 393 = .ok (.iaload, 1) := by decide +kernel
theorem dL_law_394 : decode cL_law 394 = .ok (.aload_n 0, 1) := by decide +kernel
theorem dL_law_395 : decode cL_law 395 = .ok (.iload_n 3, 1) := by decide +kernel
theorem dL_law_396 : decode cL_law 396 = .ok (.iconst 3, 1) := by decide +kernel
theorem dL_law_397 : decode cL_law 397 = .ok (.iadd, 1) := by decide +kernel
theorem dL_law_398 : decode cL_law 398 = .ok (.iaload, 1) := by decide +kernel
theorem dL_law_399 : decode cL_law 399 = .ok (.invokevirtual 60, 3) := by decide +kernel
theorem dL_law_402 : decode cL_law 402 = .ok (.aload_n 2, 1) := by decide +kernel
theorem dL_law_403 : decode cL_law 403 = .ok (.aload_n 0, 1) := by decide +kernel
theorem dL_law_404 : decode cL_law 404 = .ok (.iload_n 3, 1) := by decide +kernel
theorem dL_law_405 : decode cL_law 405 = .ok (.iconst 1, 1) := by decide +kernel
theorem dL_law_406 : decode cL_law 406 = .ok (.iadd, 1) := by decide +kernel
theorem dL_law_407 : decode cL_law 407 = .ok (.iaload, 1) := by decide +kernel
theorem dL_law_408 : decode cL_law 408 = .ok (.aload_n 0, 1) := by decide +kernel
theorem dL_law_409 : decode cL_law 409 = .ok (.iload_n 3, 1) := by decide +kernel
theorem dL_law_410 : decode cL_law 410 = .ok (.iconst 2, 1) := by decide +kernel
theorem dL_law_411 : decode cL_law 411 = .ok (.iadd, 1) := by decide +kernel
theorem dL_law_412 : decode cL_law 412 = .ok (.iaload, 1) := by decide +kernel
theorem dL_law_413 : decode cL_law 413 = .ok (.aload_n 0, 1) := by decide +kernel
theorem dL_law_414 : decode cL_law 414 = .ok (.iload_n 3, 1) := by decide +kernel
theorem dL_law_415 : decode cL_law 415 = .ok (.iconst 3, 1) := by decide +kernel
theorem dL_law_416 : decode cL_law 416 = .ok (.iadd, 1) := by decide +kernel
theorem dL_law_417 : decode cL_law 417 = .ok (.iaload, 1) := by decide +kernel
theorem dL_law_418 : decode cL_law 418 = .ok (.invokevirtual 64, 3) := by decide +kernel
theorem dL_law_421 : decode cL_law 421 = .ok (.if_icmp .eq 38, 3) := by decide +kernel
theorem dL_law_424 : decode cL_law 424 = .ok (.iconst 0, 1) := by decide +kernel
theorem dL_law_425 : decode cL_law 425 = .ok (.ireturn, 1) := by decide +kernel
theorem dL_law_426 : decode cL_law 426 = .ok (.aload_n 1, 1) := by decide +kernel
theorem dL_law_427 : decode cL_law 427 = .ok (.aload_n 0, 1) := by decide +kernel
theorem dL_law_428 : decode cL_law 428 = .ok (.iload_n 3, 1) := by decide +kernel
theorem dL_law_429 : decode cL_law 429 = .ok (.iconst 1, 1) := by decide +kernel
theorem dL_law_430 : decode cL_law 430 = .ok (.iadd, 1) := by decide +kernel
theorem dL_law_431 : decode cL_law 431 = .ok (.iaload, 1) := by decide +kernel
theorem dL_law_432 : decode cL_law 432 = .ok (.aload_n 0, 1) := by decide +kernel
theorem dL_law_433 : decode cL_law 433 = .ok (.iload_n 3, 1) := by decide +kernel
theorem dL_law_434 : decode cL_law 434 = .ok (.iconst 2, 1) := by decide +kernel
theorem dL_law_435 : decode cL_law 435 = .ok (.iadd, 1) := by decide +kernel
theorem dL_law_436 : decode cL_law 436 = .ok (.iaload, 1) := by decide +kernel
theorem dL_law_437 : decode cL_law 437 = .ok (.invokevirtual 65, 3) := by decide +kernel
theorem dL_law_440 : decode cL_law 440 = .ok (.aload_n 2, 1) := by decide +kernel
theorem dL_law_441 : decode cL_law 441 = .ok (.aload_n 0, 1) := by decide +kernel
theorem dL_law_442 : decode cL_law 442 = .ok (.iload_n 3, 1) := by decide +kernel
theorem dL_law_443 : decode cL_law 443 = .ok (.iconst 1, 1) := by decide +kernel
theorem dL_law_444 : decode cL_law 444 = .ok (.iadd, 1) := by decide +kernel
theorem dL_law_445 : decode cL_law 445 = .ok (.iaload, 1) := by decide +kernel
theorem dL_law_446 : decode cL_law 446 = .ok (.aload_n 0, 1) := by decide +kernel
theorem dL_law_447 : decode cL_law 447 = .ok (.iload_n 3, 1) := by decide +kernel
theorem dL_law_448 : decode cL_law 448 = .ok (.iconst 2, 1) := by decide +kernel
theorem dL_law_449 : decode cL_law 449 = .ok (.iadd, 1) := by decide +kernel
theorem dL_law_450 : decode cL_law 450 = .ok (.iaload, 1) := by decide +kernel
theorem dL_law_451 : decode cL_law 451 = .ok (.invokevirtual 68, 3) := by decide +kernel
theorem dL_law_454 : decode cL_law 454 = .ok (.if_icmp .eq 5, 3) := by decide +kernel
theorem dL_law_457 : decode cL_law 457 = .ok (.iconst 0, 1) := by decide +kernel
theorem dL_law_458 : decode cL_law 458 = .ok (.ireturn, 1) := by decide +kernel
theorem dL_law_459 : decode cL_law 459 = .ok (.iinc 3 4, 3) := by decide +kernel
theorem dL_law_462 : decode cL_law 462 = .ok (.goto (-444), 3) := by decide +kernel
theorem dL_law_465 : decode cL_law 465 = .ok (.iconst 1, 1) := by decide +kernel
theorem dL_law_466 : decode cL_law 466 = .ok (.ireturn, 1) := by decide +kernel
end
section
/-! PURE PART 1: bits, agreement, order, the orders of rows by partition; no program in sight -/
def bN (b : Bool) : Nat := cond b 1 0
theorem bN_t : bN true = 1 := rfl
theorem bN_f : bN false = 0 := rfl
theorem bN_le (b : Bool) : bN b ≤ 1 := by cases b <;> decide
theorem bN_dec {P Q : Prop} {i1 : Decidable P} {i2 : Decidable Q} (h : P ↔ Q) : @decide P i1 = @decide Q i2 := by
  by_cases q : Q
  · have p := h.mpr q
    simp [p, q]
  · have p : ¬ P := fun z => q (h.mp z)
    simp [p, q]
def bitN (x k : Nat) : Nat := x / 2 ^ k % 2
theorem bitN_lt (x k : Nat) : bitN x k < 2 := Nat.mod_lt _ (by decide)
theorem bitN_01 (x k : Nat) : bitN x k = 0 ∨ bitN x k = 1 := by have := bitN_lt x k; omega
theorem bitN_test (x k : Nat) : x.testBit k = decide (bitN x k = 1) := Nat.testBit_eq_decide_div_mod_eq
theorem bitN_xor (x y k : Nat) : bitN (x ^^^ y) k = 0 ↔ bitN x k = bitN y k := by
  have h := Nat.testBit_xor x y k
  rw [bitN_test, bitN_test, bitN_test] at h
  rcases bitN_01 x k with h1 | h1 <;> rcases bitN_01 y k with h2 | h2 <;> rcases bitN_01 (x ^^^ y) k with h3 | h3 <;> simp [h1, h2, h3] at h ⊢
/-- the least a such that two values agree over a to c - 1 -/
def AFv (x y : Nat) : Nat → Nat
  | 0 => 0
  | c + 1 => if bitN x c = bitN y c then AFv x y c else c + 1
theorem AFv_eq {x y c : Nat} (h : bitN x c = bitN y c) : AFv x y (c + 1) = AFv x y c := if_pos h
theorem AFv_ne {x y c : Nat} (h : ¬ bitN x c = bitN y c) : AFv x y (c + 1) = c + 1 := if_neg h
theorem AFv_le (x y : Nat) : ∀ c, AFv x y c ≤ c
  | 0 => Nat.le_refl _
  | c + 1 => by
    by_cases h : bitN x c = bitN y c
    · rw [AFv_eq h]; exact Nat.le_trans (AFv_le x y c) (Nat.le_succ c)
    · rw [AFv_ne h]; exact Nat.le_refl _
theorem AFv_comm (x y : Nat) : ∀ c, AFv x y c = AFv y x c
  | 0 => rfl
  | c + 1 => by
    by_cases h : bitN x c = bitN y c
    · rw [AFv_eq h, AFv_eq h.symm]; exact AFv_comm x y c
    · rw [AFv_ne h, AFv_ne (fun z => h z.symm)]
theorem AFv_self (x : Nat) : ∀ c, AFv x x c = 0
  | 0 => rfl
  | c + 1 => by rw [AFv_eq rfl]; exact AFv_self x c
theorem AFv_iff (x y a : Nat) : ∀ c, AFv x y c ≤ a ↔ ∀ k, a ≤ k → k < c → bitN x k = bitN y k
  | 0 => by simp [AFv]
  | c + 1 => by
    by_cases h : bitN x c = bitN y c
    · rw [AFv_eq h, AFv_iff x y a c]
      constructor
      · intro q k h1 h2
        by_cases hk : k = c
        · rw [hk]; exact h
        · exact q k h1 (by omega)
      · intro q k h1 h2
        exact q k h1 (by omega)
    · rw [AFv_ne h]
      constructor
      · intro q k h1 h2
        omega
      · intro q
        rcases Nat.lt_or_ge c a with z | z
        · omega
        · exact absurd (q c z (Nat.lt_succ_self c)) h
theorem AFv_tr {x y z a c : Nat} (h1 : AFv x y c ≤ a) (h2 : AFv y z c ≤ a) : AFv x z c ≤ a := by
  rw [AFv_iff] at h1 h2 ⊢
  intro k a1 a2
  rw [h1 k a1 a2, h2 k a1 a2]
/-- the order of values by columns c - 1 .. 0 -/
def LEv (x y : Nat) : Nat → Prop
  | 0 => True
  | c + 1 => if bitN x c = bitN y c then LEv x y c else bitN x c = 0
def LTv (x y : Nat) : Nat → Bool
  | 0 => false
  | c + 1 => if bitN x c = bitN y c then LTv x y c else decide (bitN x c = 0)
def LTb (b : Nat → Nat) (r s : Nat) : Nat → Bool
  | 0 => decide (r < s)
  | c + 1 => if bitN (b r) c = bitN (b s) c then LTb b r s c else decide (bitN (b r) c = 0)
theorem LEv_tr {x y z : Nat} : ∀ {c}, LEv x y c → LEv y z c → LEv x z c
  | 0, _, _ => trivial
  | c + 1, h1, h2 => by
    simp only [LEv] at h1 h2 ⊢
    have hx := bitN_01 x c
    have hy := bitN_01 y c
    have hz := bitN_01 z c
    by_cases e1 : bitN x c = bitN y c <;> by_cases e2 : bitN y c = bitN z c
    · rw [if_pos e1] at h1; rw [if_pos e2] at h2; rw [if_pos (e1.trans e2)]; exact LEv_tr h1 h2
    · rw [if_neg e2] at h2; rw [if_neg (by omega)]; omega
    · rw [if_neg e1] at h1; rw [if_neg (by omega)]; omega
    · rw [if_neg e1] at h1; rw [if_neg e2] at h2; omega
theorem LEv_ult {x y z : Nat} : ∀ {c}, LEv x y c → LEv y z c → AFv x z c = max (AFv x y c) (AFv y z c)
  | 0, _, _ => rfl
  | c + 1, h1, h2 => by
    simp only [LEv] at h1 h2
    have hx := bitN_01 x c
    have hy := bitN_01 y c
    have hz := bitN_01 z c
    have l1 := AFv_le x y c
    have l2 := AFv_le y z c
    by_cases e1 : bitN x c = bitN y c <;> by_cases e2 : bitN y c = bitN z c
    · rw [if_pos e1] at h1; rw [if_pos e2] at h2; rw [AFv_eq e1, AFv_eq e2, AFv_eq (e1.trans e2)]; exact LEv_ult h1 h2
    · rw [AFv_eq e1, AFv_ne e2, AFv_ne (by omega)]; omega
    · rw [AFv_ne e1, AFv_eq e2, AFv_ne (by omega)]; omega
    · rw [if_neg e1] at h1; rw [if_neg e2] at h2; omega
theorem LTv_le {x y : Nat} : ∀ {c}, LTv x y c = true → LEv x y c
  | 0, h => by cases h
  | c + 1, h => by
    simp only [LTv] at h
    simp only [LEv]
    by_cases e : bitN x c = bitN y c
    · rw [if_pos e] at h ⊢; exact LTv_le h
    · rw [if_neg e] at h ⊢; simpa using h
theorem LTv_nle {x y : Nat} : ∀ {c}, LTv x y c = false → LEv y x c
  | 0, _ => trivial
  | c + 1, h => by
    simp only [LTv] at h
    simp only [LEv]
    by_cases e : bitN x c = bitN y c
    · rw [if_pos e] at h; rw [if_pos e.symm]; exact LTv_nle h
    · rw [if_neg e] at h; rw [if_neg (fun z => e z.symm)]
      have h3 : ¬ bitN x c = 0 := by simpa using h
      have hx := bitN_01 x c
      have hy := bitN_01 y c
      omega
/-- not after, then before: before -/
theorem LTv_lt {x y z : Nat} : ∀ {c}, LEv x y c → LTv y z c = true → LTv x z c = true
  | 0, _, h => by cases h
  | c + 1, h1, h2 => by
    simp only [LEv] at h1
    simp only [LTv] at h2 ⊢
    have hx := bitN_01 x c
    have hy := bitN_01 y c
    have hz := bitN_01 z c
    by_cases e1 : bitN x c = bitN y c <;> by_cases e2 : bitN y c = bitN z c
    · rw [if_pos e1] at h1; rw [if_pos e2] at h2; rw [if_pos (e1.trans e2)]; exact LTv_lt h1 h2
    · rw [if_neg e2] at h2; rw [if_neg (by omega)]; simp at h2 ⊢; omega
    · rw [if_neg e1] at h1; rw [if_neg (by omega)]; simp; omega
    · rw [if_neg e1] at h1; rw [if_neg e2] at h2; simp at h2; omega
theorem LTv_af (x y : Nat) : ∀ c, LTv x y c = (decide (0 < AFv x y c) && decide (bitN x (AFv x y c - 1) = 0))
  | 0 => by simp [LTv, AFv]
  | c + 1 => by
    by_cases e : bitN x c = bitN y c
    · rw [AFv_eq e]; simp only [LTv]; rw [if_pos e]; exact LTv_af x y c
    · rw [AFv_ne e]; simp only [LTv]; rw [if_neg e]; simp
theorem LTb_le {b : Nat → Nat} {r s : Nat} : ∀ {c}, LTb b r s c = true → LEv (b r) (b s) c
  | 0, _ => trivial
  | c + 1, h => by
    simp only [LTb] at h
    simp only [LEv]
    by_cases e : bitN (b r) c = bitN (b s) c
    · rw [if_pos e] at h ⊢; exact LTb_le h
    · rw [if_neg e] at h ⊢; simpa using h
theorem LTb_irr (b : Nat → Nat) (r : Nat) : ∀ c, LTb b r r c = false
  | 0 => by simp [LTb]
  | c + 1 => by simp only [LTb]; simp; exact LTb_irr b r c
theorem LTb_asym {b : Nat → Nat} {r s : Nat} : ∀ {c}, LTb b r s c = true → LTb b s r c = false
  | 0, h => by simp [LTb] at h ⊢; omega
  | c + 1, h => by
    simp only [LTb] at h ⊢
    by_cases e : bitN (b r) c = bitN (b s) c
    · rw [if_pos e] at h; rw [if_pos e.symm]; exact LTb_asym h
    · rw [if_neg e] at h; rw [if_neg (fun z => e z.symm)]; simp at h ⊢; omega
/-- since when rows agree -/
def AF (b : Nat → Nat) (r s c : Nat) : Nat := AFv (b r) (b s) c
theorem AF_comm (b : Nat → Nat) (r s c : Nat) : AF b r s c = AF b s r c := AFv_comm _ _ _
theorem AF_self (b : Nat → Nat) (r c : Nat) : AF b r r c = 0 := AFv_self _ _
theorem AF_le (b : Nat → Nat) (r s c : Nat) : AF b r s c ≤ c := AFv_le _ _ _
theorem AF_ult {b : Nat → Nat} {r s t c : Nat} (h1 : LTb b r s c = true) (h2 : LTb b s t c = true) : AF b r t c = max (AF b r s c) (AF b s t c) := LEv_ult (LTb_le h1) (LTb_le h2)
/-- the rows in the order for column c -/
def hLS (b : Nat → Nat) (n : Nat) : Nat → List Nat
  | 0 => List.range n
  | c + 1 => (hLS b n c).filter (fun r => bitN (b r) c == 0) ++ (hLS b n c).filter (fun r => !(bitN (b r) c == 0))
theorem hLS_perm (b : Nat → Nat) (n : Nat) : ∀ c, (hLS b n c).Perm (List.range n)
  | 0 => List.Perm.refl _
  | c + 1 => (List.filter_append_perm _ _).trans (hLS_perm b n c)
theorem hLS_sorted (b : Nat → Nat) (n : Nat) : ∀ c, (hLS b n c).Pairwise (fun x y => LTb b x y c = true)
  | 0 => by
    have h : (List.range n).Pairwise (· < ·) := List.pairwise_lt_range
    exact h.imp (fun q => by simp [LTb]; exact q)
  | c + 1 => by
    have ih := hLS_sorted b n c
    refine List.pairwise_append.mpr ⟨?_, ?_, ?_⟩
    · refine List.Pairwise.imp_of_mem (R := fun x y => LTb b x y c = true) ?_ (ih.filter _)
      intro x y hx hy h
      have h1 := (List.mem_filter.mp hx).2
      have h2 := (List.mem_filter.mp hy).2
      simp at h1 h2
      simp only [LTb]
      rw [if_pos (h1.trans h2.symm)]
      exact h
    · refine List.Pairwise.imp_of_mem (R := fun x y => LTb b x y c = true) ?_ (ih.filter _)
      intro x y hx hy h
      have h1 := (List.mem_filter.mp hx).2
      have h2 := (List.mem_filter.mp hy).2
      simp at h1 h2
      have e1 := bitN_01 (b x) c
      have e2 := bitN_01 (b y) c
      simp only [LTb]
      rw [if_pos (by omega)]
      exact h
    · intro x hx y hy
      have h1 := (List.mem_filter.mp hx).2
      have h2 := (List.mem_filter.mp hy).2
      simp at h1 h2
      simp only [LTb]
      rw [if_neg (by omega)]
      simp
      exact h1
theorem hLS_len (b : Nat → Nat) (n c : Nat) : (hLS b n c).length = n := by rw [(hLS_perm b n c).length_eq, List.length_range]
/-- the row at place i in the order for column c -/
def ro (b : Nat → Nat) (n c i : Nat) : Nat := (hLS b n c).getD i 0
theorem ro_get (b : Nat → Nat) (n c i : Nat) (h : i < (hLS b n c).length) : (hLS b n c)[i] = ro b n c i := by
  simp [ro, List.getD_eq_getElem?_getD, h]
theorem ro_lt {b : Nat → Nat} {n c i : Nat} (h : i < n) : ro b n c i < n := by
  have hl : i < (hLS b n c).length := by rw [hLS_len]; exact h
  have h1 : (hLS b n c)[i] ∈ hLS b n c := List.getElem_mem hl
  rw [ro_get] at h1
  exact List.mem_range.mp ((hLS_perm b n c).mem_iff.mp h1)
theorem ro_lt8 {b : Nat → Nat} {n c i : Nat} (hn : n ≤ 8) (h : i < n) : ro b n c i < 8 := Nat.lt_of_lt_of_le (ro_lt h) hn
theorem ro_ord {b : Nat → Nat} {n c i j : Nat} (hij : i < j) (hj : j < n) : LTb b (ro b n c i) (ro b n c j) c = true := by
  have hl : j < (hLS b n c).length := by rw [hLS_len]; exact hj
  have hi : i < (hLS b n c).length := by omega
  have := List.pairwise_iff_getElem.mp (hLS_sorted b n c) i j hi hl hij
  rw [ro_get, ro_get] at this
  exact this
theorem ro_inj {b : Nat → Nat} {n c i j : Nat} (hi : i < n) (hj : j < n) (h : ro b n c i = ro b n c j) : i = j := by
  rcases Nat.lt_trichotomy i j with z | z | z
  · have := ro_ord (b := b) (c := c) z hj
    rw [h, LTb_irr] at this
    cases this
  · exact z
  · have := ro_ord (b := b) (c := c) z hi
    rw [h, LTb_irr] at this
    cases this
theorem ro_sur {b : Nat → Nat} {n c r : Nat} (h : r < n) : ∃ i, i < n ∧ ro b n c i = r := by
  have h1 : r ∈ hLS b n c := (hLS_perm b n c).mem_iff.mpr (List.mem_range.mpr h)
  obtain ⟨i, hi, e⟩ := List.getElem_of_mem h1
  refine ⟨i, by rw [hLS_len] at hi; exact hi, ?_⟩
  rw [← ro_get b n c i hi]
  exact e
theorem ro_ult {b : Nat → Nat} {n c i j k : Nat} (hij : i ≤ j) (hjk : j ≤ k) (hk : k < n) : AF b (ro b n c i) (ro b n c k) c = max (AF b (ro b n c i) (ro b n c j) c) (AF b (ro b n c j) (ro b n c k) c) := by
  by_cases e1 : i = j
  · subst e1
    rw [AF_self]; omega
  · by_cases e2 : j = k
    · subst e2
      rw [AF_self]; omega
    · exact AF_ult (ro_ord (by omega) (by omega)) (ro_ord (by omega) hk)
/-- the begins -/
def bg (b : Nat → Nat) (n c i : Nat) : Nat := if i = 0 then c else AF b (ro b n c (i - 1)) (ro b n c i) c
theorem bg_le (b : Nat → Nat) (n c i : Nat) : bg b n c i ≤ c := by
  unfold bg
  split
  · exact Nat.le_refl _
  · exact AF_le _ _ _ _
theorem bg_s (b : Nat → Nat) (n c i : Nat) : bg b n c (i + 1) = AF b (ro b n c i) (ro b n c (i + 1)) c := by
  unfold bg
  rw [if_neg (by omega)]
  rfl
/-- one column of the tables -/
def Bc (n : Nat) (b o g : Nat → Nat) (c : Nat) : Prop := ∀ i, i < n → o (8 * c + i) = ro b n c i ∧ g (8 * c + i) = bg b n c i
def Bt (n : Nat) (b o g : Nat → Nat) : Prop := ∀ c, c ≤ 12 → Bc n b o g c
/-! counting, sums, maxima -/
def cN (p : Nat → Bool) : Nat → Nat
  | 0 => 0
  | k + 1 => cN p k + bN (p k)
def sm (f : Nat → Nat) : Nat → Nat
  | 0 => 0
  | k + 1 => sm f k + f k
def mx (f : Nat → Nat) : Nat → Nat
  | 0 => 0
  | k + 1 => if mx f k < f k then f k else mx f k
theorem cN_sm (p : Nat → Bool) : ∀ k, cN p k = sm (fun i => bN (p i)) k
  | 0 => rfl
  | k + 1 => by simp only [cN, sm]; rw [cN_sm p k]
theorem cN_le (p : Nat → Bool) : ∀ k, cN p k ≤ k
  | 0 => Nat.le_refl _
  | k + 1 => by simp only [cN]; have := cN_le p k; have := bN_le (p k); omega
theorem sm_le {f : Nat → Nat} {B : Nat} (h : ∀ i, f i ≤ B) : ∀ k, sm f k ≤ B * k
  | 0 => Nat.le_refl _
  | k + 1 => by simp only [sm]; have h1 := sm_le h k; have h2 := h k; rw [Nat.mul_succ]; omega
theorem sm_leK {f : Nat → Nat} {B : Nat} : ∀ k, (∀ i, i < k → f i ≤ B) → sm f k ≤ B * k
  | 0, _ => Nat.le_refl _
  | k + 1, h => by simp only [sm]; have h1 := sm_leK k (fun i hi => h i (by omega)); have h2 := h k (by omega); rw [Nat.mul_succ]; omega
theorem sm_congr {f g : Nat → Nat} : ∀ k, (∀ i, i < k → f i = g i) → sm f k = sm g k
  | 0, _ => rfl
  | k + 1, h => by simp only [sm]; rw [sm_congr k (fun i hi => h i (by omega)), h k (by omega)]
theorem cN_congr {f g : Nat → Bool} (k : Nat) (h : ∀ i, i < k → f i = g i) : cN f k = cN g k := by
  rw [cN_sm, cN_sm]
  exact sm_congr k (fun i hi => by rw [h i hi])
theorem sm_add (f g : Nat → Nat) : ∀ k, sm (fun i => f i + g i) k = sm f k + sm g k
  | 0 => rfl
  | k + 1 => by simp only [sm]; rw [sm_add f g k]; omega
theorem sm_zero : ∀ k, sm (fun _ => 0) k = 0
  | 0 => rfl
  | k + 1 => by simp only [sm]; rw [sm_zero k]
theorem sm_comm (f : Nat → Nat → Nat) (m : Nat) : ∀ k, sm (fun i => sm (f i) m) k = sm (fun j => sm (fun i => f i j) k) m
  | 0 => by simp only [sm]; rw [sm_zero]
  | k + 1 => by simp only [sm]; rw [sm_comm f m k, sm_add]
theorem sm_left (f : Nat → Nat) : ∀ k, sm f (k + 1) = f 0 + sm (fun i => f (i + 1)) k
  | 0 => by simp [sm]
  | k + 1 => by
    have := sm_left f k
    simp only [sm] at this ⊢
    omega
theorem sm_app (f : Nat → Nat) (a : Nat) : ∀ k, sm f (a + k) = sm f a + sm (fun i => f (a + i)) k
  | 0 => rfl
  | k + 1 => by
    have := sm_app f a k
    show sm f (a + k) + f (a + k) = _
    rw [this]
    simp only [sm]
    omega
/-- a sum over quotients and remainders -/
theorem sm_dm (q : Nat → Nat → Nat) {k : Nat} (hk : 0 < k) : ∀ m, sm (fun s => q (s / k) (s % k)) (m * k) = sm (fun a => sm (q a) k) m
  | 0 => by rw [Nat.zero_mul]; rfl
  | m + 1 => by
    rw [Nat.succ_mul, sm_app, sm_dm q hk m]
    show _ = sm (fun a => sm (q a) k) m + sm (q m) k
    congr 1
    refine sm_congr k (fun i hi => ?_)
    show q ((m * k + i) / k) ((m * k + i) % k) = q m i
    have h1 : (m * k + i) / k = m := by
      rw [Nat.mul_comm, Nat.mul_add_div hk, Nat.div_eq_of_lt hi, Nat.add_zero]
    have h2 : (m * k + i) % k = i := by
      rw [Nat.mul_comm, Nat.mul_add_mod, Nat.mod_eq_of_lt hi]
    rw [h1, h2]
/-- a sum with one term -/
theorem sm_one (f : Nat → Nat) (a : Nat) : ∀ k, (∀ i, i ≠ a → f i = 0) → sm f k = if a < k then f a else 0
  | 0, _ => rfl
  | k + 1, h => by
    simp only [sm]
    rw [sm_one f a k h]
    by_cases e : k = a
    · subst e
      rw [if_neg (by omega), if_pos (by omega)]; omega
    · rw [h k e]
      by_cases z : a < k
      · rw [if_pos z, if_pos (by omega)]; rfl
      · rw [if_neg z, if_neg (by omega)]
theorem mx_leI (f : Nat → Nat) (v : Nat) : ∀ k, mx f k ≤ v ↔ ∀ i, i < k → f i ≤ v
  | 0 => by simp [mx]
  | k + 1 => by
    simp only [mx]
    have ih := mx_leI f v k
    constructor
    · intro h i hi
      by_cases e : i = k
      · subst e
        split at h <;> omega
      · exact ih.mp (by split at h <;> omega) i (by omega)
    · intro h
      have h1 := ih.mpr (fun i hi => h i (by omega))
      have h2 := h k (by omega)
      split <;> omega
theorem mx_ge {f : Nat → Nat} {k i : Nat} (h : i < k) : f i ≤ mx f k := (mx_leI f (mx f k) k).mp (Nat.le_refl _) i h
theorem mx_bd {f : Nat → Nat} {B : Nat} (k : Nat) (h : ∀ i, f i ≤ B) : mx f k ≤ B := (mx_leI f B k).mpr (fun i _ => h i)
/-- counting over a list -/
theorem cN_range (p : Nat → Bool) : ∀ k, cN p k = (List.range k).countP p
  | 0 => rfl
  | k + 1 => by
    rw [List.range_succ, List.countP_append, ← cN_range p k]
    simp only [cN]
    cases h : p k <;> simp [bN, h]
theorem cN_list (p : Nat → Bool) : ∀ (l : List Nat), cN (fun i => p (l.getD i 0)) l.length = l.countP p
  | [] => rfl
  | x :: l => by
    rw [cN_sm]
    show sm _ (l.length + 1) = _
    rw [sm_left, List.countP_cons]
    have ih := cN_list p l
    rw [cN_sm] at ih
    have e : sm (fun i => bN (p ((x :: l).getD (i + 1) 0))) l.length = sm (fun i => bN (p (l.getD i 0))) l.length := sm_congr _ (fun i _ => rfl)
    rw [e, ih]
    show bN (p x) + _ = _
    cases h : p x <;> simp [bN] <;> omega
/-- a count over the rows in any order -/
theorem cN_ro (p : Nat → Bool) (b : Nat → Nat) (n c : Nat) : cN (fun i => p (ro b n c i)) n = cN p n := by
  have h := cN_list p (hLS b n c)
  rw [hLS_len] at h
  rw [cN_range p n, ← (hLS_perm b n c).countP_eq p]
  exact h
end
section
/-! ROWS AT THE LEVEL OF Nat: every int of the walk is nI of a Nat; loops; joins -/
def nF (F : Nat → Nat) : Nat → Int32 := fun k => nI (F k)
def uN (F : Nat → Nat) (i x : Nat) : Nat → Nat := fun j => if j = i then x else F j
theorem uN_s (F : Nat → Nat) (i x : Nat) : uN F i x i = x := if_pos rfl
theorem uN_n {F : Nat → Nat} {i x j : Nat} (h : j ≠ i) : uN F i x j = F j := if_neg h
theorem nF_upd (F : Nat → Nat) (i x : Nat) : upd (nF F) i (nI x) = nF (uN F i x) := by
  funext j
  unfold upd nF uN
  split <;> rfl
theorem hs_l : ∀ n, n < 32 → ((nI n &&& 31).toBitVec.smod 32).toNat = n := by decide +kernel
theorem hs_1 : ∀ n, n < 31 → (nI 1) <<< (nI n &&& 31) = nI (2 ^ n) := by decide +kernel
theorem hs_xor (a b : Nat) : nI a ^^^ nI b = nI (a ^^^ b) := by
  apply Int32.toBitVec_inj.mp
  show BitVec.ofNat 32 a ^^^ BitVec.ofNat 32 b = BitVec.ofNat 32 (a ^^^ b)
  apply BitVec.eq_of_toNat_eq
  simp [Nat.xor_mod_two_pow]
theorem hz_t {k : Nat} (h : k < 2147483648) : (nI k).toInt = (k : Int) := nI_toInt h
theorem hz_of {x : Int32} (h : 0 ≤ x.toInt) : ∃ k : Nat, k < 2147483648 ∧ x = nI k ∧ (k : Int) = x.toInt := by
  have h0 : ¬ x < 0 := by
    intro q
    have := Int32.lt_iff_toInt_lt.mp q
    have e : (0 : Int32).toInt = 0 := rfl
    omega
  obtain ⟨k, hk, e⟩ := nI_of h0
  exact ⟨k, hk, e, by rw [e, hz_t hk]⟩
section HN
variable {p : Program} {l : Launch} {e : Env} {R : Room} {s : State} {m : MethodId} {args : Array Value} {below : List Frame} {meth : Method} {c : Code} {H : Heap} {locs : List Loc} {cells slots : Nat} {Q : State → Prop}
variable {cc : ByteArray} {pc : Nat} {ls : Array Slot} {rest : List Value}
theorem hn_add (hx : p.tables.exec = Jvm.exec) (hb : c.code = cc) {x y : Nat} (hdg : decode cc pc = .ok (.iadd, 1)) (k : W p l e R s m args below meth c H locs cells slots Q (F0 m (pc + 1) ls (.int (nI (x + y)) :: rest))) : W p l e R s m args below meth c H locs cells slots Q (F0 m pc ls (.int (nI y) :: .int (nI x) :: rest)) := lv_iadd hx hb hdg (by rw [nI_add]; exact k)
theorem hn_sub (hx : p.tables.exec = Jvm.exec) (hb : c.code = cc) {x y : Nat} (hdg : decode cc pc = .ok (.isub, 1)) (h : y ≤ x) (k : W p l e R s m args below meth c H locs cells slots Q (F0 m (pc + 1) ls (.int (nI (x - y)) :: rest))) : W p l e R s m args below meth c H locs cells slots Q (F0 m pc ls (.int (nI y) :: .int (nI x) :: rest)) := lv_isub hx hb hdg (by rw [pk_sub h]; exact k)
theorem hn_mul (hx : p.tables.exec = Jvm.exec) (hb : c.code = cc) {x y : Nat} (hdg : decode cc pc = .ok (.imul, 1)) (k : W p l e R s m args below meth c H locs cells slots Q (F0 m (pc + 1) ls (.int (nI (x * y)) :: rest))) : W p l e R s m args below meth c H locs cells slots Q (F0 m pc ls (.int (nI y) :: .int (nI x) :: rest)) := lv_imul hx hb hdg (by rw [pk_mul]; exact k)
theorem hn_div (hx : p.tables.exec = Jvm.exec) (hb : c.code = cc) {x y : Nat} (hdg : decode cc pc = .ok (.idiv, 1)) (h1 : x < 2147483648) (h2 : 0 < y) (h3 : y < 2147483648) (k : W p l e R s m args below meth c H locs cells slots Q (F0 m (pc + 1) ls (.int (nI (x / y)) :: rest))) : W p l e R s m args below meth c H locs cells slots Q (F0 m pc ls (.int (nI y) :: .int (nI x) :: rest)) := lv_idiv hx hb hdg (nI_ne0 h2 h3) (by rw [pk_div h1 h2 h3]; exact k)
theorem hn_rem (hx : p.tables.exec = Jvm.exec) (hb : c.code = cc) {x y : Nat} (hdg : decode cc pc = .ok (.irem, 1)) (h1 : x < 2147483648) (h2 : 0 < y) (h3 : y < 2147483648) (k : W p l e R s m args below meth c H locs cells slots Q (F0 m (pc + 1) ls (.int (nI (x % y)) :: rest))) : W p l e R s m args below meth c H locs cells slots Q (F0 m pc ls (.int (nI y) :: .int (nI x) :: rest)) := lv_irem hx hb hdg (nI_ne0 h2 h3) (by rw [pk_rem h1 h2 h3]; exact k)
theorem hn_shr (hx : p.tables.exec = Jvm.exec) (hb : c.code = cc) {x y : Nat} (hdg : decode cc pc = .ok (.ishr, 1)) (h1 : x < 2147483648) (h2 : y < 32) (k : W p l e R s m args below meth c H locs cells slots Q (F0 m (pc + 1) ls (.int (nI (x / 2 ^ y)) :: rest))) : W p l e R s m args below meth c H locs cells slots Q (F0 m pc ls (.int (nI y) :: .int (nI x) :: rest)) := lv_ishr hx hb hdg (by rw [pk_shrN h1 _ y (hs_l y h2)]; exact k)
theorem hn_shl (hx : p.tables.exec = Jvm.exec) (hb : c.code = cc) {y : Nat} (hdg : decode cc pc = .ok (.ishl, 1)) (h2 : y < 31) (k : W p l e R s m args below meth c H locs cells slots Q (F0 m (pc + 1) ls (.int (nI (2 ^ y)) :: rest))) : W p l e R s m args below meth c H locs cells slots Q (F0 m pc ls (.int (nI y) :: .int (nI 1) :: rest)) := lv_ishl hx hb hdg (by rw [hs_1 y h2]; exact k)
theorem hn_and (hx : p.tables.exec = Jvm.exec) (hb : c.code = cc) {x k0 : Nat} (hdg : decode cc pc = .ok (.iand, 1)) (h1 : x < 2147483648) (h2 : 2 ^ k0 - 1 < 4294967296) (k : W p l e R s m args below meth c H locs cells slots Q (F0 m (pc + 1) ls (.int (nI (x % 2 ^ k0)) :: rest))) : W p l e R s m args below meth c H locs cells slots Q (F0 m pc ls (.int (nI (2 ^ k0 - 1)) :: .int (nI x) :: rest)) := lv_iand hx hb hdg (by rw [pk_andN (Nat.lt_trans h1 (by decide)) k0 (pk_tn h2)]; exact k)
theorem hn_and1 (hx : p.tables.exec = Jvm.exec) (hb : c.code = cc) {x : Nat} (hdg : decode cc pc = .ok (.iand, 1)) (h1 : x < 2147483648) (k : W p l e R s m args below meth c H locs cells slots Q (F0 m (pc + 1) ls (.int (nI (x % 2)) :: rest))) : W p l e R s m args below meth c H locs cells slots Q (F0 m pc ls (.int (nI 1) :: .int (nI x) :: rest)) := lv_iand hx hb hdg (by rw [pk_andN (Nat.lt_trans h1 (by decide)) 1 (pk_tn (n := 1) (by decide))]; exact k)
theorem hn_xor (hx : p.tables.exec = Jvm.exec) (hb : c.code = cc) {x y : Nat} (hdg : decode cc pc = .ok (.ixor, 1)) (k : W p l e R s m args below meth c H locs cells slots Q (F0 m (pc + 1) ls (.int (nI (x ^^^ y)) :: rest))) : W p l e R s m args below meth c H locs cells slots Q (F0 m pc ls (.int (nI y) :: .int (nI x) :: rest)) := lv_ixor hx hb hdg (by rw [hs_xor]; exact k)
-- branches over two Nats
theorem hn_icmp_eq (hx : p.tables.exec = Jvm.exec) (hb : c.code = cc) {x y : Nat} {off : Int} {tgt : Nat} (hdg : decode cc pc = .ok (.if_icmp .eq off, 3)) (ht : (pc : Int) + off = (tgt : Int)) (h1 : x < 2147483648) (h2 : y < 2147483648)
    (kt : x = y → W p l e R s m args below meth c H locs cells slots Q (F0 m tgt ls rest)) (kf : x ≠ y → W p l e R s m args below meth c H locs cells slots Q (F0 m (pc + 3) ls rest)) : W p l e R s m args below meth c H locs cells slots Q (F0 m pc ls (.int (nI y) :: .int (nI x) :: rest)) := lv_icmp_eq hx hb hdg ht (fun q => kt ((nI_eq h1 h2).mp q)) (fun q => kf (fun z => q ((nI_eq h1 h2).mpr z)))
theorem hn_icmp_ne (hx : p.tables.exec = Jvm.exec) (hb : c.code = cc) {x y : Nat} {off : Int} {tgt : Nat} (hdg : decode cc pc = .ok (.if_icmp .ne off, 3)) (ht : (pc : Int) + off = (tgt : Int)) (h1 : x < 2147483648) (h2 : y < 2147483648)
    (kt : x ≠ y → W p l e R s m args below meth c H locs cells slots Q (F0 m tgt ls rest)) (kf : x = y → W p l e R s m args below meth c H locs cells slots Q (F0 m (pc + 3) ls rest)) : W p l e R s m args below meth c H locs cells slots Q (F0 m pc ls (.int (nI y) :: .int (nI x) :: rest)) := lv_icmp_ne hx hb hdg ht (fun q => kt (fun z => q ((nI_eq h1 h2).mpr z))) (fun q => kf ((nI_eq h1 h2).mp q))
theorem hn_icmp_lt (hx : p.tables.exec = Jvm.exec) (hb : c.code = cc) {x y : Nat} {off : Int} {tgt : Nat} (hdg : decode cc pc = .ok (.if_icmp .lt off, 3)) (ht : (pc : Int) + off = (tgt : Int)) (h1 : x < 2147483648) (h2 : y < 2147483648)
    (kt : x < y → W p l e R s m args below meth c H locs cells slots Q (F0 m tgt ls rest)) (kf : y ≤ x → W p l e R s m args below meth c H locs cells slots Q (F0 m (pc + 3) ls rest)) : W p l e R s m args below meth c H locs cells slots Q (F0 m pc ls (.int (nI y) :: .int (nI x) :: rest)) := lv_icmp_lt hx hb hdg ht (fun q => kt ((nI_ltI h1 h2).mp q)) (fun q => kf (Nat.le_of_not_lt fun z => q ((nI_ltI h1 h2).mpr z)))
theorem hn_icmp_ge (hx : p.tables.exec = Jvm.exec) (hb : c.code = cc) {x y : Nat} {off : Int} {tgt : Nat} (hdg : decode cc pc = .ok (.if_icmp .ge off, 3)) (ht : (pc : Int) + off = (tgt : Int)) (h1 : x < 2147483648) (h2 : y < 2147483648)
    (kt : y ≤ x → W p l e R s m args below meth c H locs cells slots Q (F0 m tgt ls rest)) (kf : x < y → W p l e R s m args below meth c H locs cells slots Q (F0 m (pc + 3) ls rest)) : W p l e R s m args below meth c H locs cells slots Q (F0 m pc ls (.int (nI y) :: .int (nI x) :: rest)) := lv_icmp_ge hx hb hdg ht (fun q => kt ((nI_leI h2 h1).mp q)) (fun q => kf (Nat.lt_of_not_le fun z => q ((nI_leI h2 h1).mpr z)))
theorem hn_icmp_gt (hx : p.tables.exec = Jvm.exec) (hb : c.code = cc) {x y : Nat} {off : Int} {tgt : Nat} (hdg : decode cc pc = .ok (.if_icmp .gt off, 3)) (ht : (pc : Int) + off = (tgt : Int)) (h1 : x < 2147483648) (h2 : y < 2147483648)
    (kt : y < x → W p l e R s m args below meth c H locs cells slots Q (F0 m tgt ls rest)) (kf : x ≤ y → W p l e R s m args below meth c H locs cells slots Q (F0 m (pc + 3) ls rest)) : W p l e R s m args below meth c H locs cells slots Q (F0 m pc ls (.int (nI y) :: .int (nI x) :: rest)) := lv_icmp_gt hx hb hdg ht (fun q => kt ((nI_ltI h2 h1).mp q)) (fun q => kf (Nat.le_of_not_lt fun z => q ((nI_ltI h2 h1).mpr z)))
theorem hn_icmp_le (hx : p.tables.exec = Jvm.exec) (hb : c.code = cc) {x y : Nat} {off : Int} {tgt : Nat} (hdg : decode cc pc = .ok (.if_icmp .le off, 3)) (ht : (pc : Int) + off = (tgt : Int)) (h1 : x < 2147483648) (h2 : y < 2147483648)
    (kt : x ≤ y → W p l e R s m args below meth c H locs cells slots Q (F0 m tgt ls rest)) (kf : y < x → W p l e R s m args below meth c H locs cells slots Q (F0 m (pc + 3) ls rest)) : W p l e R s m args below meth c H locs cells slots Q (F0 m pc ls (.int (nI y) :: .int (nI x) :: rest)) := lv_icmp_le hx hb hdg ht (fun q => kt ((nI_leI h1 h2).mp q)) (fun q => kf (Nat.lt_of_not_le fun z => q ((nI_leI h1 h2).mpr z)))
-- branches over a Nat and nought
theorem hn_if_eq (hx : p.tables.exec = Jvm.exec) (hb : c.code = cc) {x : Nat} {off : Int} {tgt : Nat} (hdg : decode cc pc = .ok (.ifCond .eq off, 3)) (ht : (pc : Int) + off = (tgt : Int)) (h1 : x < 2147483648)
    (kt : x = 0 → W p l e R s m args below meth c H locs cells slots Q (F0 m tgt ls rest)) (kf : x ≠ 0 → W p l e R s m args below meth c H locs cells slots Q (F0 m (pc + 3) ls rest)) : W p l e R s m args below meth c H locs cells slots Q (F0 m pc ls (.int (nI x) :: rest)) := lv_if_eq hx hb hdg ht (fun q => kt ((nI_eq h1 (by decide)).mp (q.trans nI_0.symm))) (fun q => kf (fun z => q (by rw [z]; rfl)))
theorem hn_if_ne (hx : p.tables.exec = Jvm.exec) (hb : c.code = cc) {x : Nat} {off : Int} {tgt : Nat} (hdg : decode cc pc = .ok (.ifCond .ne off, 3)) (ht : (pc : Int) + off = (tgt : Int)) (h1 : x < 2147483648)
    (kt : x ≠ 0 → W p l e R s m args below meth c H locs cells slots Q (F0 m tgt ls rest)) (kf : x = 0 → W p l e R s m args below meth c H locs cells slots Q (F0 m (pc + 3) ls rest)) : W p l e R s m args below meth c H locs cells slots Q (F0 m pc ls (.int (nI x) :: rest)) := lv_if_ne hx hb hdg ht (fun q => kt (fun z => q (by rw [z]; rfl))) (fun q => kf ((nI_eq h1 (by decide)).mp (q.trans nI_0.symm)))
theorem hn_if_le (hx : p.tables.exec = Jvm.exec) (hb : c.code = cc) {x : Nat} {off : Int} {tgt : Nat} (hdg : decode cc pc = .ok (.ifCond .le off, 3)) (ht : (pc : Int) + off = (tgt : Int)) (h1 : x < 2147483648)
    (kt : x = 0 → W p l e R s m args below meth c H locs cells slots Q (F0 m tgt ls rest)) (kf : 0 < x → W p l e R s m args below meth c H locs cells slots Q (F0 m (pc + 3) ls rest)) : W p l e R s m args below meth c H locs cells slots Q (F0 m pc ls (.int (nI x) :: rest)) := lv_if_le hx hb hdg ht (fun q => kt (Nat.le_zero.mp ((nI_leI h1 (by decide)).mp (show nI x ≤ nI 0 from q)))) (fun q => kf (Nat.pos_of_ne_zero fun z => q (by rw [z]; exact Int32.le_refl _)))
theorem hn_if_lt (hx : p.tables.exec = Jvm.exec) (hb : c.code = cc) {x : Nat} {off : Int} {tgt : Nat} (hdg : decode cc pc = .ok (.ifCond .lt off, 3)) (ht : (pc : Int) + off = (tgt : Int)) (h1 : x < 2147483648)
    (kf : W p l e R s m args below meth c H locs cells slots Q (F0 m (pc + 3) ls rest)) : W p l e R s m args below meth c H locs cells slots Q (F0 m pc ls (.int (nI x) :: rest)) := lv_if_lt hx hb hdg ht (fun q => absurd q (nI_pos h1)) (fun _ => kf)
theorem hn_if_ge (hx : p.tables.exec = Jvm.exec) (hb : c.code = cc) {x : Nat} {off : Int} {tgt : Nat} (hdg : decode cc pc = .ok (.ifCond .ge off, 3)) (ht : (pc : Int) + off = (tgt : Int)) (h1 : x < 2147483648)
    (kt : W p l e R s m args below meth c H locs cells slots Q (F0 m tgt ls rest)) : W p l e R s m args below meth c H locs cells slots Q (F0 m pc ls (.int (nI x) :: rest)) := lv_if_ge hx hb hdg ht (fun _ => kt) (fun q => absurd (nI_pos' h1) q)
-- branches over a truth value
theorem hn_ifB_eq (hx : p.tables.exec = Jvm.exec) (hb : c.code = cc) {x : Bool} {off : Int} {tgt : Nat} (hdg : decode cc pc = .ok (.ifCond .eq off, 3)) (ht : (pc : Int) + off = (tgt : Int))
    (kt : x = false → W p l e R s m args below meth c H locs cells slots Q (F0 m tgt ls rest)) (kf : x = true → W p l e R s m args below meth c H locs cells slots Q (F0 m (pc + 3) ls rest)) : W p l e R s m args below meth c H locs cells slots Q (F0 m pc ls (.int (nI (bN x)) :: rest)) := by
  cases x
  · exact lv_if_eq hx hb hdg ht (fun _ => kt rfl) (fun q => absurd rfl q)
  · exact lv_if_eq hx hb hdg ht (fun q => absurd q (by decide)) (fun _ => kf rfl)
theorem hn_ifB_ne (hx : p.tables.exec = Jvm.exec) (hb : c.code = cc) {x : Bool} {off : Int} {tgt : Nat} (hdg : decode cc pc = .ok (.ifCond .ne off, 3)) (ht : (pc : Int) + off = (tgt : Int))
    (kt : x = true → W p l e R s m args below meth c H locs cells slots Q (F0 m tgt ls rest)) (kf : x = false → W p l e R s m args below meth c H locs cells slots Q (F0 m (pc + 3) ls rest)) : W p l e R s m args below meth c H locs cells slots Q (F0 m pc ls (.int (nI (bN x)) :: rest)) := by
  cases x
  · exact lv_if_ne hx hb hdg ht (fun q => absurd rfl q) (fun _ => kf rfl)
  · exact lv_if_ne hx hb hdg ht (fun _ => kt rfl) (fun q => absurd q (by decide))
-- branches over an int of the script: by its toInt
theorem hz_if_lt (hx : p.tables.exec = Jvm.exec) (hb : c.code = cc) {x : Int32} {off : Int} {tgt : Nat} (hdg : decode cc pc = .ok (.ifCond .lt off, 3)) (ht : (pc : Int) + off = (tgt : Int))
    (kt : x.toInt < 0 → W p l e R s m args below meth c H locs cells slots Q (F0 m tgt ls rest)) (kf : 0 ≤ x.toInt → W p l e R s m args below meth c H locs cells slots Q (F0 m (pc + 3) ls rest)) : W p l e R s m args below meth c H locs cells slots Q (F0 m pc ls (.int x :: rest)) := lv_if_lt hx hb hdg ht (fun q => kt (Int32.lt_iff_toInt_lt.mp q)) (fun q => kf (Int.not_lt.mp fun z => q (Int32.lt_iff_toInt_lt.mpr z)))
theorem hz_if_ge (hx : p.tables.exec = Jvm.exec) (hb : c.code = cc) {x : Int32} {off : Int} {tgt : Nat} (hdg : decode cc pc = .ok (.ifCond .ge off, 3)) (ht : (pc : Int) + off = (tgt : Int))
    (kt : 0 ≤ x.toInt → W p l e R s m args below meth c H locs cells slots Q (F0 m tgt ls rest)) (kf : x.toInt < 0 → W p l e R s m args below meth c H locs cells slots Q (F0 m (pc + 3) ls rest)) : W p l e R s m args below meth c H locs cells slots Q (F0 m pc ls (.int x :: rest)) := lv_if_ge hx hb hdg ht (fun q => kt (Int32.le_iff_toInt_le.mp q)) (fun q => kf (Int.not_le.mp fun z => q (Int32.le_iff_toInt_le.mpr z)))
theorem hz_if_ne (hx : p.tables.exec = Jvm.exec) (hb : c.code = cc) {x : Int32} {off : Int} {tgt : Nat} (hdg : decode cc pc = .ok (.ifCond .ne off, 3)) (ht : (pc : Int) + off = (tgt : Int))
    (kt : x.toInt ≠ 0 → W p l e R s m args below meth c H locs cells slots Q (F0 m tgt ls rest)) (kf : x.toInt = 0 → W p l e R s m args below meth c H locs cells slots Q (F0 m (pc + 3) ls rest)) : W p l e R s m args below meth c H locs cells slots Q (F0 m pc ls (.int x :: rest)) := lv_if_ne hx hb hdg ht (fun q => kt (fun z => q (Int32.toInt_inj.mp z))) (fun q => kf (by rw [q]; rfl))
theorem hz_icmp_lt (hx : p.tables.exec = Jvm.exec) (hb : c.code = cc) {x y : Int32} {off : Int} {tgt : Nat} (hdg : decode cc pc = .ok (.if_icmp .lt off, 3)) (ht : (pc : Int) + off = (tgt : Int))
    (kt : x.toInt < y.toInt → W p l e R s m args below meth c H locs cells slots Q (F0 m tgt ls rest)) (kf : y.toInt ≤ x.toInt → W p l e R s m args below meth c H locs cells slots Q (F0 m (pc + 3) ls rest)) : W p l e R s m args below meth c H locs cells slots Q (F0 m pc ls (.int y :: .int x :: rest)) := lv_icmp_lt hx hb hdg ht (fun q => kt (Int32.lt_iff_toInt_lt.mp q)) (fun q => kf (Int.not_lt.mp fun z => q (Int32.lt_iff_toInt_lt.mpr z)))
theorem hz_icmp_ge (hx : p.tables.exec = Jvm.exec) (hb : c.code = cc) {x y : Int32} {off : Int} {tgt : Nat} (hdg : decode cc pc = .ok (.if_icmp .ge off, 3)) (ht : (pc : Int) + off = (tgt : Int))
    (kt : y.toInt ≤ x.toInt → W p l e R s m args below meth c H locs cells slots Q (F0 m tgt ls rest)) (kf : x.toInt < y.toInt → W p l e R s m args below meth c H locs cells slots Q (F0 m (pc + 3) ls rest)) : W p l e R s m args below meth c H locs cells slots Q (F0 m pc ls (.int y :: .int x :: rest)) := lv_icmp_ge hx hb hdg ht (fun q => kt (Int32.le_iff_toInt_le.mp q)) (fun q => kf (Int.not_le.mp fun z => q (Int32.le_iff_toInt_le.mpr z)))
theorem hz_icmp_gt (hx : p.tables.exec = Jvm.exec) (hb : c.code = cc) {x y : Int32} {off : Int} {tgt : Nat} (hdg : decode cc pc = .ok (.if_icmp .gt off, 3)) (ht : (pc : Int) + off = (tgt : Int))
    (kt : y.toInt < x.toInt → W p l e R s m args below meth c H locs cells slots Q (F0 m tgt ls rest)) (kf : x.toInt ≤ y.toInt → W p l e R s m args below meth c H locs cells slots Q (F0 m (pc + 3) ls rest)) : W p l e R s m args below meth c H locs cells slots Q (F0 m pc ls (.int y :: .int x :: rest)) := lv_icmp_gt hx hb hdg ht (fun q => kt (Int32.lt_iff_toInt_lt.mp q)) (fun q => kf (Int.not_lt.mp fun z => q (Int32.lt_iff_toInt_lt.mpr z)))
theorem hz_icmp_le (hx : p.tables.exec = Jvm.exec) (hb : c.code = cc) {x y : Int32} {off : Int} {tgt : Nat} (hdg : decode cc pc = .ok (.if_icmp .le off, 3)) (ht : (pc : Int) + off = (tgt : Int))
    (kt : x.toInt ≤ y.toInt → W p l e R s m args below meth c H locs cells slots Q (F0 m tgt ls rest)) (kf : y.toInt < x.toInt → W p l e R s m args below meth c H locs cells slots Q (F0 m (pc + 3) ls rest)) : W p l e R s m args below meth c H locs cells slots Q (F0 m pc ls (.int y :: .int x :: rest)) := lv_icmp_le hx hb hdg ht (fun q => kt (Int32.le_iff_toInt_le.mp q)) (fun q => kf (Int.not_le.mp fun z => q (Int32.le_iff_toInt_le.mpr z)))
theorem hz_icmp_ne (hx : p.tables.exec = Jvm.exec) (hb : c.code = cc) {x y : Int32} {off : Int} {tgt : Nat} (hdg : decode cc pc = .ok (.if_icmp .ne off, 3)) (ht : (pc : Int) + off = (tgt : Int))
    (kt : x.toInt ≠ y.toInt → W p l e R s m args below meth c H locs cells slots Q (F0 m tgt ls rest)) (kf : x.toInt = y.toInt → W p l e R s m args below meth c H locs cells slots Q (F0 m (pc + 3) ls rest)) : W p l e R s m args below meth c H locs cells slots Q (F0 m pc ls (.int y :: .int x :: rest)) := lv_icmp_ne hx hb hdg ht (fun q => kt (fun z => q (Int32.toInt_inj.mp z))) (fun q => kf (by rw [q]))
-- the top of the stack by another name; a join
theorem hn_top {x y : Int32} (h : x = y) (k : W p l e R s m args below meth c H locs cells slots Q (F0 m pc ls (.int y :: rest))) : W p l e R s m args below meth c H locs cells slots Q (F0 m pc ls (.int x :: rest)) := by rw [h]; exact k
theorem W.jn {g g0 : JFrame} (J : W p l e R s m args below meth c H locs cells slots Q g) (k : W p l e R s m args below meth c H locs cells slots Q g → W p l e R s m args below meth c H locs cells slots Q g0) : W p l e R s m args below meth c H locs cells slots Q g0 := k J
-- loops that only read
theorem W.up (nL pc : Nat) (I : Nat → List (Nat × Value)) (K : Nat → Prop) (N : Nat)
    (hex : K N → ∀ ls : Array Slot, lv_has ls nL (I N) → W p l e R s m args below meth c H locs cells slots Q (F0 m pc ls []))
    (hst : ∀ i, i < N → K i → (K (i + 1) → ∀ ls : Array Slot, lv_has ls nL (I (i + 1)) → W p l e R s m args below meth c H locs cells slots Q (F0 m pc ls [])) → ∀ ls : Array Slot, lv_has ls nL (I i) → W p l e R s m args below meth c H locs cells slots Q (F0 m pc ls []))
    (i0 : Nat) (hi : i0 ≤ N) (h0 : K i0) {ls : Array Slot} (hl : lv_has ls nL (I i0)) : W p l e R s m args below meth c H locs cells slots Q (F0 m pc ls []) := by
  have key : ∀ d i, i + d = N → K i → ∀ ls : Array Slot, lv_has ls nL (I i) → W p l e R s m args below meth c H locs cells slots Q (F0 m pc ls []) := by
    intro d
    induction d with
    | zero =>
      intro i hi hk
      have e : i = N := by omega
      subst e
      exact hex hk
    | succ d ih =>
      intro i hi hk
      exact hst i (by omega) hk (fun hk' => ih (i + 1) (by omega) hk')
  exact key (N - i0) i0 (by omega) h0 ls hl
theorem W.dn (nL pc : Nat) (I : Nat → List (Nat × Value)) (K : Nat → Prop)
    (hex : K 0 → ∀ ls : Array Slot, lv_has ls nL (I 0) → W p l e R s m args below meth c H locs cells slots Q (F0 m pc ls []))
    (hst : ∀ i, K (i + 1) → (K i → ∀ ls : Array Slot, lv_has ls nL (I i) → W p l e R s m args below meth c H locs cells slots Q (F0 m pc ls [])) → ∀ ls : Array Slot, lv_has ls nL (I (i + 1)) → W p l e R s m args below meth c H locs cells slots Q (F0 m pc ls []))
    (i0 : Nat) (h0 : K i0) {ls : Array Slot} (hl : lv_has ls nL (I i0)) : W p l e R s m args below meth c H locs cells slots Q (F0 m pc ls []) := by
  have key : ∀ i, K i → ∀ ls : Array Slot, lv_has ls nL (I i) → W p l e R s m args below meth c H locs cells slots Q (F0 m pc ls []) := by
    intro i
    induction i with
    | zero => exact hex
    | succ i ih =>
      intro hk
      exact hst i hk ih
  exact key i0 h0 ls hl
/-- a loop that writes: σ its state -/
theorem W.upS {σ : Type} {D : va_G} {cl : List vw_C} {A : Nat → Prop} {H0 : Heap} (nL pc : Nat) (I : Nat → σ → List (Nat × Value)) (ws : σ → va_W) (K : Nat → σ → Prop) (N : Nat)
    (hex : ∀ st, K N st → ∀ (H : Heap) (locs : List Loc), va_P D cl (ws st) H → va_D A (ws st) → va_S A H0 H locs → ∀ ls : Array Slot, lv_has ls nL (I N st) → W p l e R s m args below meth c H locs cells slots Q (F0 m pc ls []))
    (hst : ∀ i st, i < N → K i st → (∀ st', K (i + 1) st' → ∀ (H : Heap) (locs : List Loc), va_P D cl (ws st') H → va_D A (ws st') → va_S A H0 H locs → ∀ ls : Array Slot, lv_has ls nL (I (i + 1) st') → W p l e R s m args below meth c H locs cells slots Q (F0 m pc ls [])) →
      ∀ (H : Heap) (locs : List Loc), va_P D cl (ws st) H → va_D A (ws st) → va_S A H0 H locs → ∀ ls : Array Slot, lv_has ls nL (I i st) → W p l e R s m args below meth c H locs cells slots Q (F0 m pc ls []))
    (i0 : Nat) (st0 : σ) (hi : i0 ≤ N) (h0 : K i0 st0) {H : Heap} {locs : List Loc} (hP : va_P D cl (ws st0) H) (hD : va_D A (ws st0)) (hS : va_S A H0 H locs) {ls : Array Slot} (hl : lv_has ls nL (I i0 st0)) : W p l e R s m args below meth c H locs cells slots Q (F0 m pc ls []) := by
  have key : ∀ d i st, i + d = N → K i st → ∀ (H : Heap) (locs : List Loc), va_P D cl (ws st) H → va_D A (ws st) → va_S A H0 H locs → ∀ ls : Array Slot, lv_has ls nL (I i st) → W p l e R s m args below meth c H locs cells slots Q (F0 m pc ls []) := by
    intro d
    induction d with
    | zero =>
      intro i st hi hk
      have e : i = N := by omega
      subst e
      exact hex st hk
    | succ d ih =>
      intro i st hi hk
      exact hst i st (by omega) hk (fun st' hk' => ih (i + 1) st' (by omega) hk')
  exact key (N - i0) i0 st0 (by omega) h0 H locs hP hD hS ls hl
end HN
section HA
variable {p : Program} {l : Launch} {e : Env} {R : Room} {s : State} {m : MethodId} {args : Array Value} {below : List Frame} {meth : Method} {c : Code} {H : Heap} {locs : List Loc} {cells slots : Nat} {Q : State → Prop}
variable {cc : ByteArray} {pc : Nat} {ls : Array Slot} {rest : List Value} {D : va_G} {cl : List vw_C} {tys : List (ClassId × FieldType)} {ws : va_W} {a : Nat} {A : Nat → Prop} {H0 : Heap}
theorem hn_ald (hx : p.tables.exec = Jvm.exec) (hb : c.code = cc) (hK : va_K D cl tys s) (hP : va_P D cl ws H) (q0 t0 : Nat) {cA : ClassId} {n : Nat} {F : Nat → Nat} (ha : ws[q0]? = some (a, .inl (cA, n, .inl (nF F)))) (ht : tys[t0]? = some (cA, .int)) {i : Nat} (hi : i < n) (hn : n < 2147483648) (hdg : decode cc pc = .ok (.iaload, 1))
    (kk : W p l e R s m args below meth c H locs cells slots Q (F0 m (pc + 1) ls (.int (nI (F i)) :: rest))) : W p l e R s m args below meth c H locs cells slots Q (F0 m pc ls (.int (nI i) :: .ref a :: rest)) := by
  refine va_iald hx hb hK hP q0 t0 ha ht (vp_in_nI hi hn) hdg ?_
  rw [nI_clamp (Nat.lt_trans hi hn)]
  exact kk
theorem hn_ast (hx : p.tables.exec = Jvm.exec) (hb : c.code = cc) (hK : va_K D cl tys s) (hP : va_P D cl ws H) (hD : va_D A ws) (hS : va_S A H0 H locs) (q0 t0 : Nat) {cA : ClassId} {n : Nat} {F : Nat → Nat} (ha : ws[q0]? = some (a, .inl (cA, n, .inl (nF F)))) (ht : tys[t0]? = some (cA, .int)) {i x : Nat} (hi : i < n) (hn : n < 2147483648) (hdg : decode cc pc = .ok (.iastore, 1))
    (kk : ∀ (H1 : Heap) (locs1 : List Loc), va_P D cl (ws.set q0 (a, .inl (cA, n, .inl (nF (uN F i x))))) H1 → va_D A (ws.set q0 (a, .inl (cA, n, .inl (nF (uN F i x))))) → va_S A H0 H1 locs1 → W p l e R s m args below meth c H1 locs1 cells slots Q (F0 m (pc + 1) ls rest)) : W p l e R s m args below meth c H locs cells slots Q (F0 m pc ls (.int (nI x) :: .int (nI i) :: .ref a :: rest)) := by
  refine va_iast hx hb hK hP hD hS q0 t0 ha ht (vp_in_nI hi hn) hdg ?_
  rw [nI_clamp (Nat.lt_trans hi hn), nF_upd]
  exact kk
end HA
end
section
/-! PURE PART 2: the values that the methods answer -/
def inRow (n : Nat) (x : Int32) : Bool := decide (0 ≤ x.toInt ∧ x.toInt < (n : Int))
def inCol (x : Int32) : Bool := decide (0 ≤ x.toInt ∧ x.toInt ≤ 12)
def inBits (x : Int32) : Bool := decide (0 ≤ x.toInt ∧ x.toInt ≤ 4095)
theorem inRow_of {n : Nat} {x : Int32} (h : inRow n x = true) : ∃ k : Nat, k < n ∧ k < 2147483648 ∧ x = nI k := by
  have h1 := of_decide_eq_true h
  obtain ⟨k, hk, e, e2⟩ := hz_of h1.1
  exact ⟨k, by omega, hk, e⟩
theorem inCol_of {x : Int32} (h : inCol x = true) : ∃ k : Nat, k ≤ 12 ∧ x = nI k := by
  have h1 := of_decide_eq_true h
  obtain ⟨k, hk, e, e2⟩ := hz_of h1.1
  exact ⟨k, by omega, e⟩
theorem inBits_of {x : Int32} (h : inBits x = true) : ∃ k : Nat, k < 4096 ∧ x = nI k := by
  have h1 := of_decide_eq_true h
  obtain ⟨k, hk, e, e2⟩ := hz_of h1.1
  exact ⟨k, by omega, e⟩
theorem inRow_n {n k : Nat} (h : k < n) (h2 : k < 2147483648) : inRow n (nI k) = true := by
  unfold inRow
  rw [hz_t h2]
  exact decide_eq_true (by omega)
theorem inCol_n {k : Nat} (h : k ≤ 12) : inCol (nI k) = true := by
  unfold inCol
  rw [hz_t (by omega)]
  exact decide_eq_true (by omega)
theorem inBits_n {k : Nat} (h : k < 4096) : inBits (nI k) = true := by
  unfold inBits
  rw [hz_t (by omega)]
  exact decide_eq_true (by omega)
theorem AF_31 {b : Nat → Nat} {r s c : Nat} (h : c ≤ 12) : AF b r s c < 2147483648 := Nat.lt_of_le_of_lt (AF_le b r s c) (by omega)
theorem gB {n : Nat} {b o g : Nat → Nat} {c i k : Nat} (h : Bc n b o g c) (hk : k = i + 1) (hn : k < n) : g (8 * c + k) = AF b (ro b n c i) (ro b n c (i + 1)) c := by
  subst hk
  rw [(h _ hn).2, bg_s]
theorem xr_lt {x y : Nat} (hx : x < 4096) (hy : y < 4096) : x ^^^ y < 4096 := Nat.xor_lt_two_pow (n := 12) hx hy
def pO (f : Nat → Nat) (r : Nat) : Nat → Nat
  | 0 => 0
  | k + 1 => if f k = r then k else pO f r k
theorem pO_eq {f : Nat → Nat} {r i : Nat} (hr : f i = r) : ∀ n, i < n → (∀ j, j < n → f j = r → j = i) → pO f r n = i
  | 0, h, _ => by omega
  | n + 1, h, u => by
    simp only [pO]
    by_cases e : f n = r
    · rw [if_pos e]; exact u n (by omega) e
    · rw [if_neg e]
      have : n ≠ i := fun z => e (by rw [z]; exact hr)
      exact pO_eq hr n (by omega) (fun j hj => u j (by omega))
theorem pO_ro {b : Nat → Nat} {n c i r : Nat} (hi : i < n) (hr : ro b n c i = r) : pO (ro b n c) r n = i := pO_eq hr n hi (fun j hj e => ro_inj hj hi (e.trans hr.symm))
/-- two rows part at column c -/
def ptB (b : Nat → Nat) (r s c : Nat) : Bool := decide (c = 12 ∨ bitN (b r) c ≠ bitN (b s) c)
def dfB (b : Nat → Nat) (r s c : Nat) : Bool := decide (bitN (b r) c ≠ bitN (b s) c)
theorem dfB_t {b : Nat → Nat} {r s c : Nat} (h : dfB b r s c = true) : ¬ bitN (b r) c = bitN (b s) c := of_decide_eq_true h
theorem dfB_f {b : Nat → Nat} {r s c : Nat} (h : dfB b r s c = false) : bitN (b r) c = bitN (b s) c := Classical.not_not.mp (of_decide_eq_false h)
theorem ptB_12 (b : Nat → Nat) (r s : Nat) : ptB b r s 12 = true := decide_eq_true (Or.inl rfl)
theorem ptB_df {b : Nat → Nat} {r s c : Nat} (h : c ≠ 12) : ptB b r s c = dfB b r s c := by
  unfold ptB dfB
  exact bN_dec ⟨fun q => q.resolve_left h, Or.inr⟩
/-- matches that end before column c, of at least k columns -/
def PP (b : Nat → Nat) (c k r s : Nat) : Bool := decide (k ≤ c - AF b r s c) && ptB b r s c
def EAi (b : Nat → Nat) (n c k i t : Nat) : Nat := cN (fun t => PP b c k (ro b n c i) (ro b n c (i + 1 + t))) t
def EA (b : Nat → Nat) (n c k : Nat) : Nat := sm (fun i => EAi b n c k i (n - (i + 1))) n
theorem EA_le {b : Nat → Nat} {n c k : Nat} (hn : n ≤ 8) (i : Nat) : sm (fun i => EAi b n c k i (n - (i + 1))) i ≤ 8 * i := sm_le (fun j => Nat.le_trans (cN_le _ _) (by omega)) i
/-- the least begin of an agreement of row r with another, or c -/
def BSk (b : Nat → Nat) (r c : Nat) : Nat → Nat
  | 0 => c
  | k + 1 => if k ≠ r ∧ AF b r k c < BSk b r c k then AF b r k c else BSk b r c k
def BS (b : Nat → Nat) (n r c : Nat) : Nat := BSk b r c n
theorem BSk_sp (b : Nat → Nat) (r c : Nat) : ∀ k, BSk b r c k ≤ c ∧ (∀ s, s < k → s ≠ r → BSk b r c k ≤ AF b r s c) ∧ (BSk b r c k = c ∨ ∃ s, s < k ∧ s ≠ r ∧ AF b r s c = BSk b r c k)
  | 0 => ⟨Nat.le_refl _, fun s h => by omega, Or.inl rfl⟩
  | k + 1 => by
    obtain ⟨h1, h2, h3⟩ := BSk_sp b r c k
    simp only [BSk]
    by_cases e : k ≠ r ∧ AF b r k c < BSk b r c k
    · rw [if_pos e]
      refine ⟨AF_le _ _ _ _, fun s hs hr => ?_, Or.inr ⟨k, by omega, e.1, rfl⟩⟩
      by_cases z : s = k
      · rw [z]; exact Nat.le_refl _
      · have := h2 s (by omega) hr; omega
    · rw [if_neg e]
      refine ⟨h1, fun s hs hr => ?_, ?_⟩
      · by_cases z : s = k
        · subst z
          exact Nat.le_of_not_lt fun q => e ⟨hr, q⟩
        · exact h2 s (by omega) hr
      · rcases h3 with h3 | ⟨s, a1, a2, a3⟩
        · exact Or.inl h3
        · exact Or.inr ⟨s, by omega, a2, a3⟩
theorem BS_le (b : Nat → Nat) (n r c : Nat) : BS b n r c ≤ c := (BSk_sp b r c n).1
theorem BS_lb {b : Nat → Nat} {n r s c : Nat} (hs : s < n) (h : s ≠ r) : BS b n r c ≤ AF b r s c := (BSk_sp b r c n).2.1 s hs h
theorem BS_at (b : Nat → Nat) (n r c : Nat) : BS b n r c = c ∨ ∃ s, s < n ∧ s ≠ r ∧ AF b r s c = BS b n r c := (BSk_sp b r c n).2.2
theorem BS_un {b : Nat → Nat} {n r c w : Nat} (h1 : w ≤ c) (h2 : ∀ s, s < n → s ≠ r → w ≤ AF b r s c) (h3 : w = c ∨ ∃ s, s < n ∧ s ≠ r ∧ AF b r s c = w) : w = BS b n r c := by
  apply Nat.le_antisymm
  · rcases BS_at b n r c with q | ⟨s, a1, a2, a3⟩
    · rw [q]; exact h1
    · rw [← a3]; exact h2 s a1 a2
  · rcases h3 with q | ⟨s, a1, a2, a3⟩
    · rw [q]; exact BS_le _ _ _ _
    · rw [← a3]; exact BS_lb a1 a2
/-- the neighbours agree longest -/
theorem BS_nb {b : Nat → Nat} {n r c i : Nat} (hi : i < n) (hr : ro b n c i = r) :
    (if bg b n c i < (if i + 1 < n then bg b n c (i + 1) else c) then bg b n c i else (if i + 1 < n then bg b n c (i + 1) else c)) = BS b n r c := by
  have hd : ∀ D, D = (if i + 1 < n then bg b n c (i + 1) else c) → (if bg b n c i < D then bg b n c i else D) = BS b n r c := by
    intro D hD
    have hDc : D ≤ c := by rw [hD]; split; exact bg_le _ _ _ _; exact Nat.le_refl _
    have hU := bg_le b n c i
    have hlow : ∀ s, s < n → s ≠ r → bg b n c i ≤ AF b r s c ∨ D ≤ AF b r s c := by
      intro s hs hsr
      obtain ⟨j, hj, ej⟩ := ro_sur (b := b) (c := c) hs
      rcases Nat.lt_trichotomy j i with z | z | z
      · left
        obtain ⟨i', rfl⟩ : ∃ i', i = i' + 1 := ⟨i - 1, by omega⟩
        have h := ro_ult (b := b) (c := c) (i := j) (j := i') (k := i' + 1) (by omega) (by omega) hi
        rw [bg_s, AF_comm b r s c, ← ej, ← hr, h]
        omega
      · exact absurd (by rw [← ej, ← hr, z]) hsr
      · right
        have h := ro_ult (b := b) (c := c) (i := i) (j := i + 1) (k := j) (by omega) (by omega) hj
        rw [hD, if_pos (by omega), bg_s, ← ej, ← hr, h]
        omega
    have hUat : bg b n c i = c ∨ ∃ s, s < n ∧ s ≠ r ∧ AF b r s c = bg b n c i := by
      by_cases z : i = 0
      · left; unfold bg; rw [if_pos z]
      · right
        obtain ⟨i', rfl⟩ : ∃ i', i = i' + 1 := ⟨i - 1, by omega⟩
        refine ⟨ro b n c i', ro_lt (by omega), fun q => ?_, ?_⟩
        · have := ro_inj (b := b) (c := c) (by omega) hi (q.trans hr.symm)
          omega
        · rw [bg_s, AF_comm, hr]
    have hDat : D = c ∨ ∃ s, s < n ∧ s ≠ r ∧ AF b r s c = D := by
      by_cases z : i + 1 < n
      · right
        refine ⟨ro b n c (i + 1), ro_lt z, fun q => ?_, ?_⟩
        · have := ro_inj (b := b) (c := c) z hi (q.trans hr.symm)
          omega
        · rw [hD, if_pos z, bg_s, hr]
      · left; rw [hD, if_neg z]
    by_cases z : bg b n c i < D
    · rw [if_pos z]
      exact BS_un hU (fun s h1 h2 => by rcases hlow s h1 h2 with q | q <;> omega) hUat
    · rw [if_neg z]
      exact BS_un hDc (fun s h1 h2 => by rcases hlow s h1 h2 with q | q <;> omega) hDat
  exact hd _ rfl
def anyN (p : Nat → Bool) : Nat → Bool
  | 0 => false
  | k + 1 => anyN p k || p k
theorem anyN_iff (p : Nat → Bool) : ∀ k, anyN p k = true ↔ ∃ i, i < k ∧ p i = true
  | 0 => by simp [anyN]
  | k + 1 => by
    simp only [anyN, Bool.or_eq_true, anyN_iff p k]
    constructor
    · rintro (⟨i, h1, h2⟩ | h)
      · exact ⟨i, by omega, h2⟩
      · exact ⟨k, by omega, h⟩
    · rintro ⟨i, h1, h2⟩
      by_cases e : i = k
      · subst e; exact Or.inr h2
      · exact Or.inl ⟨i, by omega, h2⟩
/-- row r wins before column c -/
def wbP (b : Nat → Nat) (n r c s : Nat) : Bool := decide (s ≠ r) && decide (AF b r s c = BS b n r c)
def wbO (b : Nat → Nat) (n r c s : Nat) : Bool := wbP b n r c s && !(ptB b r s c)
def WB (b : Nat → Nat) (n r c : Nat) : Nat := if BS b n r c = c then 0 else cond (anyN (wbO b n r c) n) 0 (cN (wbP b n r c) n)
theorem WB_le {b : Nat → Nat} {n r c : Nat} : WB b n r c ≤ n := by
  unfold WB
  split
  · omega
  · cases anyN (wbO b n r c) n
    · exact cN_le _ _
    · exact Nat.zero_le _
/-- the widest stretch of row r over a column, by ends -/
def cvT (b : Nat → Nat) (n r col t : Nat) : Nat := if BS b n r (col + 1 + t) ≤ col then col + 1 + t - BS b n r (col + 1 + t) else 0
def CV (b : Nat → Nat) (n r col : Nat) : Nat := mx (cvT b n r col) (12 - col)
theorem cvT_le {b : Nat → Nat} {n r col t : Nat} : cvT b n r col t ≤ col + 1 + t := by unfold cvT; split <;> omega
/-- kinds: places where a new one begins -/
def KNp (b : Nat → Nat) (n a e i : Nat) : Bool := decide (i = 0 ∨ a < bg b n (e + 1) i)
/-- a row has these columns -/
def HQ (b : Nat → Nat) (a k y r : Nat) : Bool := decide (b r / 2 ^ a % 2 ^ k = y % 2 ^ k)
/-- the model's -/
def ps (b : Nat → Nat) (n c r : Nat) : Nat := cN (fun q => decide (q ≠ r) && LTb b q r c) n
def AMb (b : Nat → Nat) (r s a e : Nat) : Bool := decide (AF b r s (e + 1) = a) && ptB b r s (e + 1)
def AGb (b : Nat → Nat) (r s a e : Nat) : Bool := decide (AF b r s (e + 1) ≤ a)
def bt1 (b : Nat → Nat) (r a e t : Nat) : Bool := decide (t ≠ r) && ((decide (0 < a) && AGb b r t (a - 1) e) || (decide (e < 11) && AGb b r t a (e + 1)))
def BTb (b : Nat → Nat) (n r a e : Nat) : Bool := anyN (bt1 b r a e) n
def mmP (b : Nat → Nat) (n k p st : Nat) : Bool := decide (p / 8 < p % 8) && decide (p % 8 < n) && decide (st / 12 + k ≤ st % 12 + 1) && AMb b (p / 8) (p % 8) (st / 12) (st % 12)
def MM (b : Nat → Nat) (n k : Nat) : Nat := sm (fun p => cN (mmP b n k p) 144) 64
def mwP (b : Nat → Nat) (n r s st : Nat) : Bool := decide (s ≠ r) && decide (st / 12 ≤ st % 12) && AMb b r s (st / 12) (st % 12) && !(BTb b n r (st / 12) (st % 12))
def MWn (b : Nat → Nat) (n r : Nat) : Nat := sm (fun s => cN (mwP b n r s) 144) n
def mxi (v : Nat) (f : Nat → Nat) : Nat → Nat
  | 0 => v
  | k + 1 => if mxi v f k < f k then f k else mxi v f k
def woT (b : Nat → Nat) (r c s t : Nat) : Nat := if AF b r s (c + t + 1) ≤ c then c + t - AF b r s (c + t + 1) + 1 else 0
def WOk (b : Nat → Nat) (r c : Nat) : Nat → Nat
  | 0 => 0
  | s + 1 => if s = r then WOk b r c s else mxi (WOk b r c s) (woT b r c s) (12 - c)
def WO (b : Nat → Nat) (n r c : Nat) : Nat := WOk b r c n
theorem mxi_le {v B : Nat} {f : Nat → Nat} (hv : v ≤ B) : ∀ k, (∀ i, i < k → f i ≤ B) → mxi v f k ≤ B
  | 0, _ => hv
  | k + 1, h => by
    simp only [mxi]
    have h1 := mxi_le hv k (fun i hi => h i (by omega))
    have h2 := h k (by omega)
    split <;> omega
theorem woT_le {b : Nat → Nat} {r c s t : Nat} : woT b r c s t ≤ c + t + 1 := by unfold woT; split <;> omega
theorem WOk_le {b : Nat → Nat} {r c : Nat} (hc : c ≤ 12) : ∀ s, WOk b r c s ≤ 12
  | 0 => by simp [WOk]
  | s + 1 => by
    simp only [WOk]
    split
    · exact WOk_le hc s
    · exact mxi_le (WOk_le hc s) _ (fun i hi => by have := woT_le (b := b) (r := r) (c := c) (s := s) (t := i); omega)
def kf1 (b : Nat → Nat) (r a e : Nat) (s : Nat) : Bool := AGb b r s a e
def KM (b : Nat → Nat) (a e n : Nat) : Nat := cN (fun r => !(anyN (kf1 b r a e) r)) n
/-! the common values -/
def S_ord (n : Nat) (b : Nat → Nat) (x y : Int32) : Int32 := if inCol x = true ∧ inRow n y = true then nI (ro b n x.toInt.toNat y.toInt.toNat) else -4
def S_sin (n : Nat) (b : Nat → Nat) (x y : Int32) : Int32 := if inCol x = true ∧ inRow n y = true then nI (bg b n x.toInt.toNat y.toInt.toNat) else -4
def S_mat (n : Nat) (b : Nat → Nat) (x : Int32) : Int32 := if 1 ≤ x.toInt ∧ x.toInt ≤ 12 then nI (sm (fun c => EA b n (c + 1) x.toInt.toNat) 12) else -1
def S_lon (n : Nat) (b : Nat → Nat) (x y : Int32) : Int32 := if inRow n x = true ∧ inRow n y = true ∧ x.toInt ≠ y.toInt then nI (mx (fun c => c + 1 - AF b x.toInt.toNat y.toInt.toNat (c + 1)) 12) else -4
def S_win (n : Nat) (b : Nat → Nat) (x : Int32) : Int32 := if inRow n x = true then nI (sm (fun c => WB b n x.toInt.toNat (c + 1)) 12) else -4
def S_cov (n : Nat) (b : Nat → Nat) (x : Int32) : Int32 := if inRow n x = true then nI (sm (fun c => CV b n x.toInt.toNat c) 12) else -4
def S_kin (n : Nat) (b : Nat → Nat) (x y : Int32) : Int32 := if 0 ≤ x.toInt ∧ y.toInt ≤ 11 ∧ x.toInt ≤ y.toInt then nI (cN (KNp b n x.toInt.toNat y.toInt.toNat) n) else -1
def S_hav (n : Nat) (b : Nat → Nat) (x y z : Int32) : Int32 := if 0 ≤ x.toInt ∧ 0 ≤ y.toInt ∧ x.toInt + y.toInt ≤ 12 ∧ inBits z = true then nI (cN (HQ b x.toInt.toNat y.toInt.toNat z.toInt.toNat) n) else -1
def S_fit (n : Nat) (b : Nat → Nat) (x y : Int32) : Int32 := if inCol x = true ∧ inBits y = true then nI (mx (fun r => x.toInt.toNat - AFv (b r) y.toInt.toNat x.toInt.toNat) n) else -1
theorem S_ord_ok {n : Nat} {b : Nat → Nat} {c i : Nat} (hc : c ≤ 12) (hi : i < n) (h8 : n ≤ 8) : S_ord n b (nI c) (nI i) = nI (ro b n c i) := by
  unfold S_ord
  rw [if_pos ⟨inCol_n hc, inRow_n hi (by omega)⟩, hz_t (by omega), hz_t (by omega)]
  rfl
theorem S_sin_ok {n : Nat} {b : Nat → Nat} {c i : Nat} (hc : c ≤ 12) (hi : i < n) (h8 : n ≤ 8) : S_sin n b (nI c) (nI i) = nI (bg b n c i) := by
  unfold S_sin
  rw [if_pos ⟨inCol_n hc, inRow_n hi (by omega)⟩, hz_t (by omega), hz_t (by omega)]
  rfl
theorem S_mat_ok {n : Nat} {b : Nat → Nat} {k : Nat} (h1 : 1 ≤ k) (h2 : k ≤ 12) : S_mat n b (nI k) = nI (sm (fun c => EA b n (c + 1) k) 12) := by
  unfold S_mat
  rw [hz_t (by omega), if_pos (by omega)]
  rfl
theorem S_lon_ok {n : Nat} {b : Nat → Nat} {r s : Nat} (hr : r < n) (hs : s < n) (h8 : n ≤ 8) (h : r ≠ s) : S_lon n b (nI r) (nI s) = nI (mx (fun c => c + 1 - AF b r s (c + 1)) 12) := by
  unfold S_lon
  rw [if_pos ⟨inRow_n hr (by omega), inRow_n hs (by omega), by rw [hz_t (by omega), hz_t (by omega)]; omega⟩, hz_t (by omega), hz_t (by omega)]
  rfl
theorem S_win_ok {n : Nat} {b : Nat → Nat} {r : Nat} (hr : r < n) (h8 : n ≤ 8) : S_win n b (nI r) = nI (sm (fun c => WB b n r (c + 1)) 12) := by
  unfold S_win
  rw [if_pos (inRow_n hr (by omega)), hz_t (by omega)]
  rfl
theorem S_cov_ok {n : Nat} {b : Nat → Nat} {r : Nat} (hr : r < n) (h8 : n ≤ 8) : S_cov n b (nI r) = nI (sm (fun c => CV b n r c) 12) := by
  unfold S_cov
  rw [if_pos (inRow_n hr (by omega)), hz_t (by omega)]
  rfl
theorem S_kin_ok {n : Nat} {b : Nat → Nat} {a e : Nat} (h1 : a ≤ e) (h2 : e ≤ 11) : S_kin n b (nI a) (nI e) = nI (cN (KNp b n a e) n) := by
  unfold S_kin
  rw [hz_t (by omega), hz_t (by omega), if_pos (by omega)]
  rfl
theorem S_hav_ok {n : Nat} {b : Nat → Nat} {a k y : Nat} (h : a + k ≤ 12) (hy : y < 4096) : S_hav n b (nI a) (nI k) (nI y) = nI (cN (HQ b a k y) n) := by
  unfold S_hav
  rw [hz_t (by omega), hz_t (by omega), hz_t (by omega), if_pos ⟨by omega, by omega, by omega, inBits_n hy⟩]
  rfl
theorem S_fit_ok {n : Nat} {b : Nat → Nat} {c y : Nat} (h : c ≤ 12) (hy : y < 4096) : S_fit n b (nI c) (nI y) = nI (mx (fun r => c - AFv (b r) y c) n) := by
  unfold S_fit
  rw [if_pos ⟨inCol_n h, inBits_n hy⟩, hz_t (by omega), hz_t (by omega)]
  rfl
end
section
/-! THE WORLDS: HaplotypeRows (class 0): its object and five arrays; HaplotypeRowsModel (class 1): its object and one array -/
abbrev vwCl : List vw_C := [(RX0, TX0, 7), (RX1, TX1, 2)]
abbrev XW (h0 k1 k2 k3 k4 k5 : Nat) (d0 : ClassId) (cnt bu : Nat) (b o g n1 n2 : Nat → Nat) : va_W := [(h0, .inr (0, [.int (nI cnt), .ref k1, .int (nI bu), .ref k2, .ref k3, .ref k4, .ref k5])), (k1, .inl (d0, 8, .inl (nF b))), (k2, .inl (d0, 104, .inl (nF o))), (k3, .inl (d0, 104, .inl (nF g))), (k4, .inl (d0, 8, .inl (nF n1))), (k5, .inl (d0, 8, .inl (nF n2)))]
abbrev MW (h0 k1 : Nat) (d0 : ClassId) (cnt : Nat) (b : Nat → Nat) : va_W := [(h0, .inr (1, [.ref k1, .int (nI cnt)])), (k1, .inl (d0, 8, .inl (nF b)))]
/-- the room of a method that calls k deep -/
abbrev rmk (k : Nat) : Room := { frames := k, cells := 0, slots := 0, locals := 30 * k }
/-- the start of a method that only reads -/
def rdP (D : va_G) (tys : List (ClassId × FieldType)) (ws : va_W) (av : List Value) : Array Value → State → Prop := va_Pc av (fun U => va_P D vwCl ws U.heap ∧ va_K D vwCl tys U)
theorem rd_blind {D : va_G} {tys : List (ClassId × FieldType)} {ws : va_W} {av : List Value} : FrameBlind (rdP D tys ws av) := by
  intro a U g mk q
  obtain ⟨q0, qP, qK⟩ := q
  exact ⟨q0, qP, va_K.moved (u := U) (U := U.calling g mk a) (Vm.Alike.refl U.vm) qK⟩
theorem rd_preX0 {s : State} {H : Heap} {D : va_G} {tys : List (ClassId × FieldType)} {a : Nat} {fs : List Value} {ws : va_W} {As : List Value} (hK : va_K D vwCl tys s) (hP : va_P D vwCl ((a, .inr (0, fs)) :: ws) H) : PreV s H RX0 a (rdP D tys ((a, .inr (0, fs)) :: ws) (.ref a :: As)) As :=
  ⟨rd_blind, va_recv hK hP (ci := 0) (q0 := 0) (q := (RX0, TX0, 7)) rfl rfl, fun U hU hW => ⟨rfl, by rw [hU]; exact hP, va_K.moved hW.alike hK⟩⟩
theorem rd_preX1 {s : State} {H : Heap} {D : va_G} {tys : List (ClassId × FieldType)} {a : Nat} {fs : List Value} {ws : va_W} {As : List Value} (hK : va_K D vwCl tys s) (hP : va_P D vwCl ((a, .inr (1, fs)) :: ws) H) : PreV s H RX1 a (rdP D tys ((a, .inr (1, fs)) :: ws) (.ref a :: As)) As :=
  ⟨rd_blind, va_recv hK hP (ci := 1) (q0 := 0) (q := (RX1, TX1, 2)) rfl rfl, fun U hU hW => ⟨rfl, by rw [hU]; exact hP, va_K.moved hW.alike hK⟩⟩
theorem nar_b (x : Bool) : narrow .boolean (.int (nI (bN x))) = .int (nI (bN x)) := by cases x <;> rfl
theorem hn_m1 (k : Nat) : nI k + Int32.ofInt (-1) = nI k - nI 1 := by
  rw [Int32.sub_eq_add_neg]
  rfl
theorem hn_p1 (k : Nat) : nI (k + 1) - nI 1 = nI k := nI_pred k
section HJ
variable {p : Program} {l : Launch} {e : Env} {R : Room} {s : State} {m : MethodId} {args : Array Value} {below : List Frame} {meth : Method} {c : Code} {H : Heap} {locs : List Loc} {cells slots : Nat} {Q : State → Prop}
theorem W.jn2 {g g0 : JFrame} (k : W p l e R s m args below meth c H locs cells slots Q g → W p l e R s m args below meth c H locs cells slots Q g0) (J : W p l e R s m args below meth c H locs cells slots Q g) : W p l e R s m args below meth c H locs cells slots Q g0 := k J
end HJ
end
section
set_option maxHeartbeats 4000000 in
set_option maxRecDepth 100000 in
/-- noRow -/
theorem metX0_noRow {l : Launch} {dC : Nat → ClassId} {dI : Nat → Nat → Nat} {h0 k1 k2 k3 k4 k5 : Nat} {d0 : ClassId} {cnt bu : Nat} {b o g n1 n2 : Nat → Nat} (p0 : Int32) (h8 : cnt ≤ 8) : Met l yX0_noRow (ws_ yX0_noRow cX0_noRow 2 (some .boolean)) (rmk 0) (rdP (dC, dI) [(d0, .int)] (XW h0 k1 k2 k3 k4 k5 d0 cnt bu b o g n1 n2) [.ref h0, .int p0]) (vp_Si (fun v => v = nI (bN (!(inRow cnt p0))))) 0 0 (fun _ => False) := by
  refine Met.ofW (cc := cX0_noRow) (maxL := 2) (ret := (some .boolean)) (by decide) rfl ?_
  intro pP eE sS mM args below meth cC s₁ B hml hv
  obtain ⟨rfl, hP, hK⟩ := hv
  have hx := B.exec
  have hb := B.bytes
  have hret := B.returns
  have hts := atoms_spec (ws := ws_ yX0_noRow cX0_noRow 2 (some .boolean)) B.pre
  have hts : ∀ w ∈ lw_all, w.before _ sS = true := fun w h => hts w (List.mem_cons_of_mem _ h)
  have hown : sS.vm.findClass RX0 = some mM.cls := findClass_of_methodNamed B.named
  have hlocks := B.notSynchronized
  have hl := lv_entry ([.ref h0, .int p0]) (n := 2) (Nat.le_of_ble_eq_true rfl)
  rw [lg_entry_eq]
  generalize (lg_sl ([.ref h0, .int p0]) ++ List.replicate (2 - (lg_sl ([.ref h0, .int p0])).length) Slot.unset).toArray = ls at hl ⊢
  have hl : lv_has ls 2 [(0, .ref h0), (1, .int p0)] := hl
  refine lv_iload_n hx hb dX0_noRow_0 rfl (lv_at hl 1 rfl) ?_
  refine hz_if_lt (tgt := 12) hx hb dX0_noRow_1 (by decide) (fun c1 => ?_) (fun c1 => ?_)
  · refine lv_iconst (v := nI 1) hx hb dX0_noRow_12 (by decide) ?_
    refine lv_goto (tgt := 17) hx hb dX0_noRow_13 (by decide) ?_
    have er : 1 = (bN (!(inRow cnt p0))) := by rw [show inRow cnt p0 = false from decide_eq_false (by omega)]; rfl
    exact W.zret (v := nI 1) hx hb hret rfl (fun t ht hW => ⟨nI 1, rfl, congrArg nI er, ht⟩) (fun _ h => by cases h) dX0_noRow_17
  · refine lv_iload_n hx hb dX0_noRow_4 rfl (lv_at hl 1 rfl) ?_
    refine lv_aload_n hx hb dX0_noRow_5 rfl (lv_at hl 0 rfl) ?_
    refine va_get (D := (dC, dI)) (ci := 0) (v := .int (nI cnt)) (C := RX0) (T := TX0) (N := 7) hx hb hts in_X0 hown hK hP 0 rfl rfl 0 (by decide) (hts _ q35) (fun _ h9 => h9) rfl dX0_noRow_6 ?_
    refine hz_icmp_lt (tgt := 16) hx hb dX0_noRow_9 (by decide) (fun c9 => ?_) (fun c9 => ?_)
    · rw [hz_t (k := cnt) (by omega)] at c9
      refine lv_iconst (v := nI 0) hx hb dX0_noRow_16 (by decide) ?_
      have er : 0 = (bN (!(inRow cnt p0))) := by rw [show inRow cnt p0 = true from decide_eq_true (by omega)]; rfl
      exact W.zret (v := nI 0) hx hb hret rfl (fun t ht hW => ⟨nI 0, rfl, congrArg nI er, ht⟩) (fun _ h => by cases h) dX0_noRow_17
    · rw [hz_t (k := cnt) (by omega)] at c9
      refine lv_iconst (v := nI 1) hx hb dX0_noRow_12 (by decide) ?_
      refine lv_goto (tgt := 17) hx hb dX0_noRow_13 (by decide) ?_
      have er : 1 = (bN (!(inRow cnt p0))) := by rw [show inRow cnt p0 = false from decide_eq_false (by omega)]; rfl
      exact W.zret (v := nI 1) hx hb hret rfl (fun t ht hW => ⟨nI 1, rfl, congrArg nI er, ht⟩) (fun _ h => by cases h) dX0_noRow_17

set_option maxHeartbeats 4000000 in
set_option maxRecDepth 100000 in
/-- at -/
theorem metX0_at {l : Launch} {dC : Nat → ClassId} {dI : Nat → Nat → Nat} {h0 k1 k2 k3 k4 k5 : Nat} {d0 : ClassId} {cnt bu : Nat} {b o g n1 n2 : Nat → Nat} (r c : Nat) (h1 : r < 8) (h2 : c < 32) (hbd : ∀ k, b k < 4096) : Met l yX0_at (ws_ yX0_at cX0_at 3 (some .int)) (rmk 0) (rdP (dC, dI) [(d0, .int)] (XW h0 k1 k2 k3 k4 k5 d0 cnt bu b o g n1 n2) [.ref h0, .int (nI r), .int (nI c)]) (vp_Si (fun v => v = nI (bitN (b r) c))) 0 0 (fun _ => False) := by
  refine Met.ofW (cc := cX0_at) (maxL := 3) (ret := (some .int)) (by decide) rfl ?_
  intro pP eE sS mM args below meth cC s₁ B hml hv
  obtain ⟨rfl, hP, hK⟩ := hv
  have hx := B.exec
  have hb := B.bytes
  have hret := B.returns
  have hts := atoms_spec (ws := ws_ yX0_at cX0_at 3 (some .int)) B.pre
  have hts : ∀ w ∈ lw_all, w.before _ sS = true := fun w h => hts w (List.mem_cons_of_mem _ h)
  have hown : sS.vm.findClass RX0 = some mM.cls := findClass_of_methodNamed B.named
  have hlocks := B.notSynchronized
  have hl := lv_entry ([.ref h0, .int (nI r), .int (nI c)]) (n := 3) (Nat.le_of_ble_eq_true rfl)
  rw [lg_entry_eq]
  generalize (lg_sl ([.ref h0, .int (nI r), .int (nI c)]) ++ List.replicate (3 - (lg_sl ([.ref h0, .int (nI r), .int (nI c)])).length) Slot.unset).toArray = ls at hl ⊢
  have hl : lv_has ls 3 [(0, .ref h0), (1, .int (nI r)), (2, .int (nI c))] := hl
  refine lv_aload_n hx hb dX0_at_0 rfl (lv_at hl 0 rfl) ?_
  refine va_get (D := (dC, dI)) (ci := 0) (v := .ref k1) (C := RX0) (T := TX0) (N := 7) hx hb hts in_X0 hown hK hP 0 rfl rfl 1 (by decide) (hts _ q36) (fun _ h9 => h9) rfl dX0_at_1 ?_
  refine lv_iload_n hx hb dX0_at_4 rfl (lv_at hl 1 rfl) ?_
  refine hn_ald hx hb hK hP 1 0 rfl rfl (by omega) (by decide) dX0_at_5 ?_
  refine lv_iload_n hx hb dX0_at_6 rfl (lv_at hl 2 rfl) ?_
  refine hn_shr hx hb dX0_at_7 (Nat.lt_trans (hbd _) (by decide)) (by omega) ?_
  refine lv_iconst (v := nI 1) hx hb dX0_at_8 (by decide) ?_
  refine hn_and1 hx hb dX0_at_9 (Nat.lt_of_le_of_lt (Nat.div_le_self _ _) (Nat.lt_trans (hbd _) (by decide))) ?_
  have er : (((b r) / 2 ^ c) % 2) = (bitN (b r) c) := by rfl
  exact W.iret (v := nI (((b r) / 2 ^ c) % 2)) hx hb hret (fun t ht hW => ⟨nI (((b r) / 2 ^ c) % 2), rfl, congrArg nI er, ht⟩) (fun _ h => by cases h) dX0_at_10

set_option maxHeartbeats 4000000 in
set_option maxRecDepth 100000 in
theorem metX0_noPlace {l : Launch} {dC : Nat → ClassId} {dI : Nat → Nat → Nat} {h0 k1 k2 k3 k4 k5 : Nat} {d0 : ClassId} {cnt bu : Nat} {b o g n1 n2 : Nat → Nat} (p0 p1 : Int32) (h8 : cnt ≤ 8) : Met l yX0_noPlace (ws_ yX0_noPlace cX0_noPlace 3 (some .boolean)) (rmk 0) (rdP (dC, dI) [(d0, .int)] (XW h0 k1 k2 k3 k4 k5 d0 cnt bu b o g n1 n2) [.ref h0, .int p0, .int p1]) (vp_Si (fun v => v = nI (bN (!(inCol p0 && inRow cnt p1))))) 0 0 (fun _ => False) := by
  refine Met.ofW (cc := cX0_noPlace) (maxL := 3) (ret := (some .boolean)) (by decide) rfl ?_
  intro pP eE sS mM args below meth cC s₁ B hml hv
  obtain ⟨rfl, hP, hK⟩ := hv
  have hx := B.exec
  have hb := B.bytes
  have hret := B.returns
  have hts := atoms_spec (ws := ws_ yX0_noPlace cX0_noPlace 3 (some .boolean)) B.pre
  have hts : ∀ w ∈ lw_all, w.before _ sS = true := fun w h => hts w (List.mem_cons_of_mem _ h)
  have hown : sS.vm.findClass RX0 = some mM.cls := findClass_of_methodNamed B.named
  have hlocks := B.notSynchronized
  have hl := lv_entry ([.ref h0, .int p0, .int p1]) (n := 3) (Nat.le_of_ble_eq_true rfl)
  rw [lg_entry_eq]
  generalize (lg_sl ([.ref h0, .int p0, .int p1]) ++ List.replicate (3 - (lg_sl ([.ref h0, .int p0, .int p1])).length) Slot.unset).toArray = ls at hl ⊢
  have hl : lv_has ls 3 [(0, .ref h0), (1, .int p0), (2, .int p1)] := hl
  refine lv_iload_n hx hb dX0_noPlace_0 rfl (lv_at hl 1 rfl) ?_
  refine hz_if_lt (tgt := 22) hx hb dX0_noPlace_1 (by decide) (fun c1 => ?_) (fun c1 => ?_)
  · refine lv_iconst (v := nI 1) hx hb dX0_noPlace_22 (by decide) ?_
    refine lv_goto (tgt := 27) hx hb dX0_noPlace_23 (by decide) ?_
    have er : 1 = (bN (!(inCol p0 && inRow cnt p1))) := by rw [show inCol p0 = false from decide_eq_false (by omega)]; rfl
    exact W.zret (v := nI 1) hx hb hret rfl (fun t ht hW => ⟨nI 1, rfl, congrArg nI er, ht⟩) (fun _ h => by cases h) dX0_noPlace_27
  · refine lv_iload_n hx hb dX0_noPlace_4 rfl (lv_at hl 1 rfl) ?_
    refine lv_bipush (v := nI 12) hx hb dX0_noPlace_5 (by decide) ?_
    refine hz_icmp_gt (tgt := 22) hx hb dX0_noPlace_7 (by decide) (fun c7 => ?_) (fun c7 => ?_)
    · rw [hz_t (k := 12) (by omega)] at c7
      refine lv_iconst (v := nI 1) hx hb dX0_noPlace_22 (by decide) ?_
      refine lv_goto (tgt := 27) hx hb dX0_noPlace_23 (by decide) ?_
      have er : 1 = (bN (!(inCol p0 && inRow cnt p1))) := by rw [show inCol p0 = false from decide_eq_false (by omega)]; rfl
      exact W.zret (v := nI 1) hx hb hret rfl (fun t ht hW => ⟨nI 1, rfl, congrArg nI er, ht⟩) (fun _ h => by cases h) dX0_noPlace_27
    · rw [hz_t (k := 12) (by omega)] at c7
      refine lv_iload_n hx hb dX0_noPlace_10 rfl (lv_at hl 2 rfl) ?_
      refine hz_if_lt (tgt := 22) hx hb dX0_noPlace_11 (by decide) (fun c11 => ?_) (fun c11 => ?_)
      · refine lv_iconst (v := nI 1) hx hb dX0_noPlace_22 (by decide) ?_
        refine lv_goto (tgt := 27) hx hb dX0_noPlace_23 (by decide) ?_
        have er : 1 = (bN (!(inCol p0 && inRow cnt p1))) := by rw [show inRow cnt p1 = false from decide_eq_false (by omega), Bool.and_false]; rfl
        exact W.zret (v := nI 1) hx hb hret rfl (fun t ht hW => ⟨nI 1, rfl, congrArg nI er, ht⟩) (fun _ h => by cases h) dX0_noPlace_27
      · refine lv_iload_n hx hb dX0_noPlace_14 rfl (lv_at hl 2 rfl) ?_
        refine lv_aload_n hx hb dX0_noPlace_15 rfl (lv_at hl 0 rfl) ?_
        refine va_get (D := (dC, dI)) (ci := 0) (v := .int (nI cnt)) (C := RX0) (T := TX0) (N := 7) hx hb hts in_X0 hown hK hP 0 rfl rfl 0 (by decide) (hts _ q35) (fun _ h9 => h9) rfl dX0_noPlace_16 ?_
        refine hz_icmp_lt (tgt := 26) hx hb dX0_noPlace_19 (by decide) (fun c19 => ?_) (fun c19 => ?_)
        · rw [hz_t (k := cnt) (by omega)] at c19
          refine lv_iconst (v := nI 0) hx hb dX0_noPlace_26 (by decide) ?_
          have er : 0 = (bN (!(inCol p0 && inRow cnt p1))) := by rw [show inCol p0 = true from decide_eq_true (by omega), show inRow cnt p1 = true from decide_eq_true (by omega)]; rfl
          exact W.zret (v := nI 0) hx hb hret rfl (fun t ht hW => ⟨nI 0, rfl, congrArg nI er, ht⟩) (fun _ h => by cases h) dX0_noPlace_27
        · rw [hz_t (k := cnt) (by omega)] at c19
          refine lv_iconst (v := nI 1) hx hb dX0_noPlace_22 (by decide) ?_
          refine lv_goto (tgt := 27) hx hb dX0_noPlace_23 (by decide) ?_
          have er : 1 = (bN (!(inCol p0 && inRow cnt p1))) := by rw [show inRow cnt p1 = false from decide_eq_false (by omega), Bool.and_false]; rfl
          exact W.zret (v := nI 1) hx hb hret rfl (fun t ht hW => ⟨nI 1, rfl, congrArg nI er, ht⟩) (fun _ h => by cases h) dX0_noPlace_27

set_option maxHeartbeats 4000000 in
set_option maxRecDepth 100000 in
theorem metX0_parts {l : Launch} {dC : Nat → ClassId} {dI : Nat → Nat → Nat} {h0 k1 k2 k3 k4 k5 : Nat} {d0 : ClassId} {cnt bu : Nat} {b o g n1 n2 : Nat → Nat} (r s c : Nat) (h1 : r < 8) (h2 : s < 8) (h3 : c ≤ 12) (hbd : ∀ k, b k < 4096) : Met l yX0_parts (ws_ yX0_parts cX0_parts 4 (some .boolean)) (rmk 1) (rdP (dC, dI) [(d0, .int)] (XW h0 k1 k2 k3 k4 k5 d0 cnt bu b o g n1 n2) [.ref h0, .int (nI r), .int (nI s), .int (nI c)]) (vp_Si (fun v => v = nI (bN (ptB b r s c)))) 0 0 (fun _ => False) := by
  refine Met.ofW (cc := cX0_parts) (maxL := 4) (ret := (some .boolean)) (by decide) rfl ?_
  intro pP eE sS mM args below meth cC s₁ B hml hv
  obtain ⟨rfl, hP, hK⟩ := hv
  have hx := B.exec
  have hb := B.bytes
  have hret := B.returns
  have hts := atoms_spec (ws := ws_ yX0_parts cX0_parts 4 (some .boolean)) B.pre
  have hts : ∀ w ∈ lw_all, w.before _ sS = true := fun w h => hts w (List.mem_cons_of_mem _ h)
  have hown : sS.vm.findClass RX0 = some mM.cls := findClass_of_methodNamed B.named
  have hlocks := B.notSynchronized
  have hl := lv_entry ([.ref h0, .int (nI r), .int (nI s), .int (nI c)]) (n := 4) (Nat.le_of_ble_eq_true rfl)
  rw [lg_entry_eq]
  generalize (lg_sl ([.ref h0, .int (nI r), .int (nI s), .int (nI c)]) ++ List.replicate (4 - (lg_sl ([.ref h0, .int (nI r), .int (nI s), .int (nI c)])).length) Slot.unset).toArray = ls at hl ⊢
  have hl : lv_has ls 4 [(0, .ref h0), (1, .int (nI r)), (2, .int (nI s)), (3, .int (nI c))] := hl
  refine lv_iload_n hx hb dX0_parts_0 rfl (lv_at hl 3 rfl) ?_
  refine lv_bipush (v := nI 12) hx hb dX0_parts_1 (by decide) ?_
  refine hn_icmp_eq (tgt := 21) hx hb dX0_parts_3 (by decide) (by omega) (by omega) (fun c3 => ?_) (fun c3 => ?_)
  · refine lv_iconst (v := nI 1) hx hb dX0_parts_21 (by decide) ?_
    refine lv_goto (tgt := 26) hx hb dX0_parts_22 (by decide) ?_
    have er : 1 = (bN (ptB b r s c)) := by rw [show ptB b r s c = true from decide_eq_true (by omega)]; rfl
    exact W.zret (v := nI 1) hx hb hret rfl (fun t ht hW => ⟨nI 1, rfl, congrArg nI er, ht⟩) (fun _ h => by cases h) dX0_parts_26
  · refine lv_aload_n hx hb dX0_parts_6 rfl (lv_at hl 0 rfl) ?_
    refine lv_iload_n hx hb dX0_parts_7 rfl (lv_at hl 1 rfl) ?_
    refine lv_iload_n hx hb dX0_parts_8 rfl (lv_at hl 3 rfl) ?_
    refine vp_callSi (W.runV (As := [.int (nI r), .int (nI c)]) (rest := []) ⟨hx, hb, hml, hown, hts⟩ (metX0_at r c (by omega) (by omega) hbd) (cwV 2 hts (lw_V q74 q76 qs1 q25 q77) rfl rfl rfl (by decide +kernel) ⟨Nat.le_of_ble_eq_true rfl, Nat.le_of_ble_eq_true rfl⟩) (rd_preX0 hK hP) rfl rfl hl.1 rfl (lv_room (Nat.le_of_ble_eq_true rfl)) dX0_parts_9 ⟨Nat.le_of_ble_eq_true rfl, Nat.le_of_ble_eq_true rfl⟩) (fun v hv => ?_)
    subst hv
    refine lv_aload_n hx hb dX0_parts_12 rfl (lv_at hl 0 rfl) ?_
    refine lv_iload_n hx hb dX0_parts_13 rfl (lv_at hl 2 rfl) ?_
    refine lv_iload_n hx hb dX0_parts_14 rfl (lv_at hl 3 rfl) ?_
    refine vp_callSi (W.runV (As := [.int (nI s), .int (nI c)]) (rest := [.int (nI (bitN (b r) c))]) ⟨hx, hb, hml, hown, hts⟩ (metX0_at s c (by omega) (by omega) hbd) (cwV 2 hts (lw_V q74 q76 qs1 q25 q77) rfl rfl rfl (by decide +kernel) ⟨Nat.le_of_ble_eq_true rfl, Nat.le_of_ble_eq_true rfl⟩) (rd_preX0 hK hP) rfl rfl hl.1 rfl (lv_room (Nat.le_of_ble_eq_true rfl)) dX0_parts_15 ⟨Nat.le_of_ble_eq_true rfl, Nat.le_of_ble_eq_true rfl⟩) (fun v hv => ?_)
    subst hv
    refine hn_icmp_eq (tgt := 25) hx hb dX0_parts_18 (by decide) (Nat.lt_trans (bitN_lt _ _) (by decide)) (Nat.lt_trans (bitN_lt _ _) (by decide)) (fun c18 => ?_) (fun c18 => ?_)
    · refine lv_iconst (v := nI 0) hx hb dX0_parts_25 (by decide) ?_
      have er : 0 = (bN (ptB b r s c)) := by rw [show ptB b r s c = false from decide_eq_false (by omega)]; rfl
      exact W.zret (v := nI 0) hx hb hret rfl (fun t ht hW => ⟨nI 0, rfl, congrArg nI er, ht⟩) (fun _ h => by cases h) dX0_parts_26
    · refine lv_iconst (v := nI 1) hx hb dX0_parts_21 (by decide) ?_
      refine lv_goto (tgt := 26) hx hb dX0_parts_22 (by decide) ?_
      have er : 1 = (bN (ptB b r s c)) := by rw [show ptB b r s c = true from decide_eq_true (by omega)]; rfl
      exact W.zret (v := nI 1) hx hb hret rfl (fun t ht hW => ⟨nI 1, rfl, congrArg nI er, ht⟩) (fun _ h => by cases h) dX0_parts_26

set_option maxHeartbeats 4000000 in
set_option maxRecDepth 100000 in
theorem metX0_placeOf {l : Launch} {dC : Nat → ClassId} {dI : Nat → Nat → Nat} {h0 k1 k2 k3 k4 k5 : Nat} {d0 : ClassId} {cnt bu : Nat} {b o g n1 n2 : Nat → Nat} (r c i0 : Nat) (h8 : cnt ≤ 8) (hc : c ≤ 12) (hi0 : i0 < cnt) (hri : ro b cnt c i0 = r) (hB : Bc cnt b o g c) : Met l yX0_placeOf (ws_ yX0_placeOf cX0_placeOf 5 (some .int)) (rmk 0) (rdP (dC, dI) [(d0, .int)] (XW h0 k1 k2 k3 k4 k5 d0 cnt bu b o g n1 n2) [.ref h0, .int (nI r), .int (nI c)]) (vp_Si (fun v => v = nI i0)) 0 0 (fun _ => False) := by
  refine Met.ofW (cc := cX0_placeOf) (maxL := 5) (ret := (some .int)) (by decide) rfl ?_
  intro pP eE sS mM args below meth cC s₁ B hml hv
  obtain ⟨rfl, hP, hK⟩ := hv
  have hx := B.exec
  have hb := B.bytes
  have hret := B.returns
  have hts := atoms_spec (ws := ws_ yX0_placeOf cX0_placeOf 5 (some .int)) B.pre
  have hts : ∀ w ∈ lw_all, w.before _ sS = true := fun w h => hts w (List.mem_cons_of_mem _ h)
  have hown : sS.vm.findClass RX0 = some mM.cls := findClass_of_methodNamed B.named
  have hlocks := B.notSynchronized
  have hl := lv_entry ([.ref h0, .int (nI r), .int (nI c)]) (n := 5) (Nat.le_of_ble_eq_true rfl)
  rw [lg_entry_eq]
  generalize (lg_sl ([.ref h0, .int (nI r), .int (nI c)]) ++ List.replicate (5 - (lg_sl ([.ref h0, .int (nI r), .int (nI c)])).length) Slot.unset).toArray = ls at hl ⊢
  have hl : lv_has ls 5 [(0, .ref h0), (1, .int (nI r)), (2, .int (nI c))] := hl
  have hr8 : r < 8 := by rw [← hri]; exact ro_lt8 h8 hi0
  refine lv_iconst (v := nI 0) hx hb dX0_placeOf_0 (by decide) ?_
  refine lv_istore_n (lv' := [(3, .int (nI 0)), (0, .ref h0), (1, .int (nI r)), (2, .int (nI c))]) hx hb dX0_placeOf_1 rfl hl (by decide) rfl (fun ls hl => ?_)
  refine lv_iconst (v := nI 0) hx hb dX0_placeOf_2 (by decide) ?_
  refine lv_istore (lv' := [(4, .int (nI 0)), (3, .int (nI 0)), (0, .ref h0), (1, .int (nI r)), (2, .int (nI c))]) hx hb dX0_placeOf_3 hl (by decide) rfl (fun ls hl => ?_)
  have hl : lv_has ls 5 [(0, .ref h0), (1, .int (nI r)), (2, .int (nI c)), (3, .int (nI (pO (ro b cnt c) r 0))), (4, .int (nI 0))] := lv_sub hl [2, 3, 4, 1, 0] rfl
  refine W.up 5 5 (fun i => [(0, .ref h0), (1, .int (nI r)), (2, .int (nI c)), (3, .int (nI (pO (ro b cnt c) r i))), (4, .int (nI i))]) (fun i => True) cnt ?_ ?_ 0 (by omega) trivial hl
  · intro hk ls hl
    have hl : lv_has ls 5 [(0, .ref h0), (1, .int (nI r)), (2, .int (nI c)), (3, .int (nI (pO (ro b cnt c) r cnt))), (4, .int (nI cnt))] := hl
    refine lv_iload hx hb dX0_placeOf_5 (lv_at hl 4 rfl) ?_
    refine lv_aload_n hx hb dX0_placeOf_7 rfl (lv_at hl 0 rfl) ?_
    refine va_get (D := (dC, dI)) (ci := 0) (v := .int (nI cnt)) (C := RX0) (T := TX0) (N := 7) hx hb hts in_X0 hown hK hP 0 rfl rfl 0 (by decide) (hts _ q35) (fun _ h9 => h9) rfl dX0_placeOf_8 ?_
    refine hn_icmp_ge (tgt := 43) hx hb dX0_placeOf_11 (by decide) (by omega) (by omega) (fun c11 => ?_) (fun c11 => absurd c11 (by omega))
    refine lv_iload_n hx hb dX0_placeOf_43 rfl (lv_at hl 3 rfl) ?_
    have er : (pO (ro b cnt c) r cnt) = i0 := by exact pO_ro hi0 hri
    exact W.iret (v := nI (pO (ro b cnt c) r cnt)) hx hb hret (fun t ht hW => ⟨nI (pO (ro b cnt c) r cnt), rfl, congrArg nI er, ht⟩) (fun _ h => by cases h) dX0_placeOf_44
  · intro i hii hk ih5 ls hl
    have hl : lv_has ls 5 [(0, .ref h0), (1, .int (nI r)), (2, .int (nI c)), (3, .int (nI (pO (ro b cnt c) r i))), (4, .int (nI i))] := hl
    refine lv_iload hx hb dX0_placeOf_5 (lv_at hl 4 rfl) ?_
    refine lv_aload_n hx hb dX0_placeOf_7 rfl (lv_at hl 0 rfl) ?_
    refine va_get (D := (dC, dI)) (ci := 0) (v := .int (nI cnt)) (C := RX0) (T := TX0) (N := 7) hx hb hts in_X0 hown hK hP 0 rfl rfl 0 (by decide) (hts _ q35) (fun _ h9 => h9) rfl dX0_placeOf_8 ?_
    refine hn_icmp_ge (tgt := 43) hx hb dX0_placeOf_11 (by decide) (by omega) (by omega) (fun c11 => absurd c11 (by omega)) (fun c11 => ?_)
    refine lv_aload_n hx hb dX0_placeOf_14 rfl (lv_at hl 0 rfl) ?_
    refine va_get (D := (dC, dI)) (ci := 0) (v := .ref k2) (C := RX0) (T := TX0) (N := 7) hx hb hts in_X0 hown hK hP 0 rfl rfl 3 (by decide) (hts _ q38) (fun _ h9 => h9) rfl dX0_placeOf_15 ?_
    refine lv_bipush (v := nI 8) hx hb dX0_placeOf_18 (by decide) ?_
    refine lv_iload_n hx hb dX0_placeOf_20 rfl (lv_at hl 2 rfl) ?_
    refine hn_mul hx hb dX0_placeOf_21 ?_
    refine lv_iload hx hb dX0_placeOf_22 (lv_at hl 4 rfl) ?_
    refine hn_add hx hb dX0_placeOf_24 ?_
    refine hn_ald hx hb hK hP 2 0 rfl rfl (by omega) (by decide) dX0_placeOf_25 ?_
    refine hn_top (y := nI (ro b cnt c i)) (congrArg nI (hB i hii).1) ?_
    refine lv_iload_n hx hb dX0_placeOf_26 rfl (lv_at hl 1 rfl) ?_
    refine W.jn2 (g := F0 mM 36 ls [.int (nI (if ro b cnt c i = r then i else pO (ro b cnt c) r i))]) (fun J => ?_) ?_
    · refine hn_icmp_ne (tgt := 35) hx hb dX0_placeOf_27 (by decide) (Nat.lt_trans (ro_lt8 h8 hii) (by decide)) (by omega) (fun c27 => ?_) (fun c27 => ?_)
      · refine lv_iload_n hx hb dX0_placeOf_35 rfl (lv_at hl 3 rfl) ?_
        have ej : (if ro b cnt c i = r then i else pO (ro b cnt c) r i) = (pO (ro b cnt c) r i) := by first | exact if_pos c27 | exact if_neg c27
        rw [ej] at J
        exact J
      · refine lv_iload hx hb dX0_placeOf_30 (lv_at hl 4 rfl) ?_
        refine lv_goto (tgt := 36) hx hb dX0_placeOf_32 (by decide) ?_
        have ej : (if ro b cnt c i = r then i else pO (ro b cnt c) r i) = i := by first | exact if_pos c27 | exact if_neg c27
        rw [ej] at J
        exact J
    refine lv_istore_n (lv' := [(3, .int (nI (if ro b cnt c i = r then i else pO (ro b cnt c) r i))), (0, .ref h0), (1, .int (nI r)), (2, .int (nI c)), (4, .int (nI i))]) hx hb dX0_placeOf_36 rfl hl (by decide) rfl (fun ls hl => ?_)
    refine lv_iinc (v := nI (i + 1)) (lv' := [(4, .int (nI (i + 1))), (3, .int (nI (if ro b cnt c i = r then i else pO (ro b cnt c) r i))), (0, .ref h0), (1, .int (nI r)), (2, .int (nI c))]) hx hb dX0_placeOf_37 hl (k := 4) rfl (nI_1 _) (by decide) rfl (fun ls hl => ?_)
    refine lv_goto (tgt := 5) hx hb dX0_placeOf_40 (by decide) ?_
    have ev3 : (pO (ro b cnt c) r ((i + 1))) = (if ro b cnt c i = r then i else pO (ro b cnt c) r i) := by first | rfl | omega
    have ev4 : ((i + 1)) = (i + 1) := by first | rfl | omega
    have hl : lv_has ls 5 [(0, .ref h0), (1, .int (nI r)), (2, .int (nI c)), (3, .int (nI (pO (ro b cnt c) r ((i + 1))))), (4, .int (nI ((i + 1))))] := by rw [ev3, ev4]; exact lv_sub hl [2, 3, 4, 1, 0] rfl
    exact ih5 trivial ls hl

set_option maxHeartbeats 4000000 in
set_option maxRecDepth 100000 in
theorem metX0_agreeSince {l : Launch} {dC : Nat → ClassId} {dI : Nat → Nat → Nat} {h0 k1 k2 k3 k4 k5 : Nat} {d0 : ClassId} {cnt bu : Nat} {b o g n1 n2 : Nat → Nat} (r s c : Nat) (h8 : cnt ≤ 8) (hc : c ≤ 12) (hr0 : r < cnt) (hs0 : s < cnt) (hB : Bc cnt b o g c) : Met l yX0_agreeSince (ws_ yX0_agreeSince cX0_agreeSince 11 (some .int)) (rmk 1) (rdP (dC, dI) [(d0, .int)] (XW h0 k1 k2 k3 k4 k5 d0 cnt bu b o g n1 n2) [.ref h0, .int (nI r), .int (nI s), .int (nI c)]) (vp_Si (fun v => v = nI (AF b r s c))) 0 0 (fun _ => False) := by
  refine Met.ofW (cc := cX0_agreeSince) (maxL := 11) (ret := (some .int)) (by decide) rfl ?_
  intro pP eE sS mM args below meth cC s₁ B hml hv
  obtain ⟨rfl, hP, hK⟩ := hv
  have hx := B.exec
  have hb := B.bytes
  have hret := B.returns
  have hts := atoms_spec (ws := ws_ yX0_agreeSince cX0_agreeSince 11 (some .int)) B.pre
  have hts : ∀ w ∈ lw_all, w.before _ sS = true := fun w h => hts w (List.mem_cons_of_mem _ h)
  have hown : sS.vm.findClass RX0 = some mM.cls := findClass_of_methodNamed B.named
  have hlocks := B.notSynchronized
  have hl := lv_entry ([.ref h0, .int (nI r), .int (nI s), .int (nI c)]) (n := 11) (Nat.le_of_ble_eq_true rfl)
  rw [lg_entry_eq]
  generalize (lg_sl ([.ref h0, .int (nI r), .int (nI s), .int (nI c)]) ++ List.replicate (11 - (lg_sl ([.ref h0, .int (nI r), .int (nI s), .int (nI c)])).length) Slot.unset).toArray = ls at hl ⊢
  have hl : lv_has ls 11 [(0, .ref h0), (1, .int (nI r)), (2, .int (nI s)), (3, .int (nI c))] := hl
  obtain ⟨i0, hi0, hri⟩ := ro_sur (b := b) (c := c) hr0
  obtain ⟨j0, hj0, hsj⟩ := ro_sur (b := b) (c := c) hs0
  refine lv_aload_n hx hb dX0_agreeSince_0 rfl (lv_at hl 0 rfl) ?_
  refine lv_iload_n hx hb dX0_agreeSince_1 rfl (lv_at hl 1 rfl) ?_
  refine lv_iload_n hx hb dX0_agreeSince_2 rfl (lv_at hl 3 rfl) ?_
  refine vp_callSi (W.runV (As := [.int (nI r), .int (nI c)]) (rest := []) ⟨hx, hb, hml, hown, hts⟩ (metX0_placeOf r c i0 h8 hc hi0 hri hB) (cwV 2 hts (lw_V q122 q124 qs8 q25 q125) rfl rfl rfl (by decide +kernel) ⟨Nat.le_of_ble_eq_true rfl, Nat.le_of_ble_eq_true rfl⟩) (rd_preX0 hK hP) rfl rfl hl.1 rfl (lv_room (Nat.le_of_ble_eq_true rfl)) dX0_agreeSince_3 ⟨Nat.le_of_ble_eq_true rfl, Nat.le_of_ble_eq_true rfl⟩) (fun v hv => ?_)
  subst hv
  refine lv_istore (lv' := [(4, .int (nI i0)), (0, .ref h0), (1, .int (nI r)), (2, .int (nI s)), (3, .int (nI c))]) hx hb dX0_agreeSince_6 hl (by decide) rfl (fun ls hl => ?_)
  refine lv_aload_n hx hb dX0_agreeSince_8 rfl (lv_at hl 1 rfl) ?_
  refine lv_iload_n hx hb dX0_agreeSince_9 rfl (lv_at hl 3 rfl) ?_
  refine lv_iload_n hx hb dX0_agreeSince_10 rfl (lv_at hl 4 rfl) ?_
  refine vp_callSi (W.runV (As := [.int (nI s), .int (nI c)]) (rest := []) ⟨hx, hb, hml, hown, hts⟩ (metX0_placeOf s c j0 h8 hc hj0 hsj hB) (cwV 2 hts (lw_V q122 q124 qs8 q25 q125) rfl rfl rfl (by decide +kernel) ⟨Nat.le_of_ble_eq_true rfl, Nat.le_of_ble_eq_true rfl⟩) (rd_preX0 hK hP) rfl rfl hl.1 rfl (lv_room (Nat.le_of_ble_eq_true rfl)) dX0_agreeSince_11 ⟨Nat.le_of_ble_eq_true rfl, Nat.le_of_ble_eq_true rfl⟩) (fun v hv => ?_)
  subst hv
  refine lv_istore (lv' := [(5, .int (nI j0)), (4, .int (nI i0)), (0, .ref h0), (1, .int (nI r)), (2, .int (nI s)), (3, .int (nI c))]) hx hb dX0_agreeSince_14 hl (by decide) rfl (fun ls hl => ?_)
  refine lv_iload hx hb dX0_agreeSince_16 (lv_at hl 1 rfl) ?_
  refine lv_iload hx hb dX0_agreeSince_18 (lv_at hl 0 rfl) ?_
  refine W.jn2 (g := F0 mM 30 ls [.int (nI (if i0 < j0 then i0 else j0))]) (fun J => ?_) ?_
  · refine hn_icmp_ge (tgt := 28) hx hb dX0_agreeSince_20 (by decide) (by omega) (by omega) (fun c20 => ?_) (fun c20 => ?_)
    · refine lv_iload hx hb dX0_agreeSince_28 (lv_at hl 0 rfl) ?_
      have ej : (if i0 < j0 then i0 else j0) = j0 := by first | exact if_pos (by omega) | exact if_neg (by omega)
      rw [ej] at J
      exact J
    · refine lv_iload hx hb dX0_agreeSince_23 (lv_at hl 1 rfl) ?_
      refine lv_goto (tgt := 30) hx hb dX0_agreeSince_25 (by decide) ?_
      have ej : (if i0 < j0 then i0 else j0) = i0 := by first | exact if_pos (by omega) | exact if_neg (by omega)
      rw [ej] at J
      exact J
  refine lv_istore (lv' := [(6, .int (nI (if i0 < j0 then i0 else j0))), (5, .int (nI j0)), (4, .int (nI i0)), (0, .ref h0), (1, .int (nI r)), (2, .int (nI s)), (3, .int (nI c))]) hx hb dX0_agreeSince_30 hl (by decide) rfl (fun ls hl => ?_)
  refine lv_iload hx hb dX0_agreeSince_32 (lv_at hl 2 rfl) ?_
  refine lv_iload hx hb dX0_agreeSince_34 (lv_at hl 1 rfl) ?_
  refine W.jn2 (g := F0 mM 46 ls [.int (nI (if i0 < j0 then j0 else i0))]) (fun J => ?_) ?_
  · refine hn_icmp_ge (tgt := 44) hx hb dX0_agreeSince_36 (by decide) (by omega) (by omega) (fun c36 => ?_) (fun c36 => ?_)
    · refine lv_iload hx hb dX0_agreeSince_44 (lv_at hl 2 rfl) ?_
      have ej : (if i0 < j0 then j0 else i0) = i0 := by first | exact if_pos (by omega) | exact if_neg (by omega)
      rw [ej] at J
      exact J
    · refine lv_iload hx hb dX0_agreeSince_39 (lv_at hl 1 rfl) ?_
      refine lv_goto (tgt := 46) hx hb dX0_agreeSince_41 (by decide) ?_
      have ej : (if i0 < j0 then j0 else i0) = j0 := by first | exact if_pos (by omega) | exact if_neg (by omega)
      rw [ej] at J
      exact J
  refine lv_istore (lv' := [(7, .int (nI (if i0 < j0 then j0 else i0))), (6, .int (nI (if i0 < j0 then i0 else j0))), (5, .int (nI j0)), (4, .int (nI i0)), (0, .ref h0), (1, .int (nI r)), (2, .int (nI s)), (3, .int (nI c))]) hx hb dX0_agreeSince_46 hl (by decide) rfl (fun ls hl => ?_)
  obtain ⟨lo, hlo⟩ : ∃ lo, lo = if i0 < j0 then i0 else j0 := ⟨_, rfl⟩
  obtain ⟨hi, hhi⟩ : ∃ hi, hi = if i0 < j0 then j0 else i0 := ⟨_, rfl⟩
  have hl : lv_has ls 11 [(7, .int (nI hi)), (6, .int (nI lo)), (5, .int (nI j0)), (4, .int (nI i0)), (0, .ref h0), (1, .int (nI r)), (2, .int (nI s)), (3, .int (nI c))] := by rw [hlo, hhi]; exact hl
  have F : lo ≤ hi ∧ hi < cnt ∧ AF b (ro b cnt c lo) (ro b cnt c hi) c = AF b r s c := by
    subst hlo; subst hhi
    by_cases z : i0 < j0
    · rw [if_pos z, if_pos z, hri, hsj]; exact ⟨by omega, hj0, rfl⟩
    · rw [if_neg z, if_neg z, hri, hsj]; exact ⟨by omega, hi0, AF_comm _ _ _ _⟩
  clear hlo hhi
  obtain ⟨F1, F2, F3⟩ := F
  refine lv_iconst (v := nI 0) hx hb dX0_agreeSince_48 (by decide) ?_
  refine lv_istore (lv' := [(8, .int (nI 0)), (7, .int (nI hi)), (6, .int (nI lo)), (5, .int (nI j0)), (4, .int (nI i0)), (0, .ref h0), (1, .int (nI r)), (2, .int (nI s)), (3, .int (nI c))]) hx hb dX0_agreeSince_49 hl (by decide) rfl (fun ls hl => ?_)
  refine lv_iload hx hb dX0_agreeSince_51 (lv_at hl 2 rfl) ?_
  refine lv_iconst (v := nI 1) hx hb dX0_agreeSince_53 (by decide) ?_
  refine hn_add hx hb dX0_agreeSince_54 ?_
  refine lv_istore (lv' := [(9, .int (nI (lo + 1))), (8, .int (nI 0)), (7, .int (nI hi)), (6, .int (nI lo)), (5, .int (nI j0)), (4, .int (nI i0)), (0, .ref h0), (1, .int (nI r)), (2, .int (nI s)), (3, .int (nI c))]) hx hb dX0_agreeSince_55 hl (by decide) rfl (fun ls hl => ?_)
  have hl : lv_has ls 11 [(0, .ref h0), (1, .int (nI r)), (2, .int (nI s)), (3, .int (nI c)), (6, .int (nI lo)), (7, .int (nI hi)), (8, .int (nI (AF b (ro b cnt c (lo)) (ro b cnt c (lo + 0)) c))), (9, .int (nI (lo + 1 + 0)))] := by have e0 : AF b (ro b cnt c (lo)) (ro b cnt c (lo + 0)) c = 0 := AF_self _ _ _; rw [e0]; exact lv_sub hl [6, 7, 8, 9, 3, 2, 1, 0] rfl
  refine W.up 11 57 (fun t => [(0, .ref h0), (1, .int (nI r)), (2, .int (nI s)), (3, .int (nI c)), (6, .int (nI lo)), (7, .int (nI hi)), (8, .int (nI (AF b (ro b cnt c (lo)) (ro b cnt c (lo + t)) c))), (9, .int (nI (lo + 1 + t)))]) (fun t => True) (hi - lo) ?_ ?_ 0 (by omega) trivial hl
  · intro hk ls hl
    have hl : lv_has ls 11 [(0, .ref h0), (1, .int (nI r)), (2, .int (nI s)), (3, .int (nI c)), (6, .int (nI lo)), (7, .int (nI hi)), (8, .int (nI (AF b (ro b cnt c (lo)) (ro b cnt c (lo + (hi - lo))) c))), (9, .int (nI (lo + 1 + (hi - lo))))] := hl
    refine lv_iload hx hb dX0_agreeSince_57 (lv_at hl 7 rfl) ?_
    refine lv_iload hx hb dX0_agreeSince_59 (lv_at hl 5 rfl) ?_
    refine hn_icmp_gt (tgt := 100) hx hb dX0_agreeSince_61 (by decide) (by omega) (by omega) (fun c61 => ?_) (fun c61 => absurd c61 (by omega))
    refine lv_iload hx hb dX0_agreeSince_100 (lv_at hl 6 rfl) ?_
    have er : (AF b (ro b cnt c (lo)) (ro b cnt c (lo + (hi - lo))) c) = (AF b r s c) := by rw [show lo + (hi - lo) = hi by omega]; exact F3
    exact W.iret (v := nI (AF b (ro b cnt c (lo)) (ro b cnt c (lo + (hi - lo))) c)) hx hb hret (fun t ht hW => ⟨nI (AF b (ro b cnt c (lo)) (ro b cnt c (lo + (hi - lo))) c), rfl, congrArg nI er, ht⟩) (fun _ h => by cases h) dX0_agreeSince_102
  · intro t hit hk ih57 ls hl
    have hl : lv_has ls 11 [(0, .ref h0), (1, .int (nI r)), (2, .int (nI s)), (3, .int (nI c)), (6, .int (nI lo)), (7, .int (nI hi)), (8, .int (nI (AF b (ro b cnt c (lo)) (ro b cnt c (lo + t)) c))), (9, .int (nI (lo + 1 + t)))] := hl
    refine lv_iload hx hb dX0_agreeSince_57 (lv_at hl 7 rfl) ?_
    refine lv_iload hx hb dX0_agreeSince_59 (lv_at hl 5 rfl) ?_
    refine hn_icmp_gt (tgt := 100) hx hb dX0_agreeSince_61 (by decide) (by omega) (by omega) (fun c61 => absurd c61 (by omega)) (fun c61 => ?_)
    refine lv_aload_n hx hb dX0_agreeSince_64 rfl (lv_at hl 0 rfl) ?_
    refine va_get (D := (dC, dI)) (ci := 0) (v := .ref k3) (C := RX0) (T := TX0) (N := 7) hx hb hts in_X0 hown hK hP 0 rfl rfl 4 (by decide) (hts _ q39) (fun _ h9 => h9) rfl dX0_agreeSince_65 ?_
    refine lv_bipush (v := nI 8) hx hb dX0_agreeSince_68 (by decide) ?_
    refine lv_iload_n hx hb dX0_agreeSince_70 rfl (lv_at hl 3 rfl) ?_
    refine hn_mul hx hb dX0_agreeSince_71 ?_
    refine lv_iload hx hb dX0_agreeSince_72 (lv_at hl 7 rfl) ?_
    refine hn_add hx hb dX0_agreeSince_74 ?_
    refine hn_ald hx hb hK hP 3 0 rfl rfl (by omega) (by decide) dX0_agreeSince_75 ?_
    refine hn_top (y := nI (AF b (ro b cnt c (lo + t)) (ro b cnt c (lo + t + 1)) c)) (congrArg nI (gB hB (by omega) (by omega))) ?_
    refine lv_istore (lv' := [(10, .int (nI (AF b (ro b cnt c (lo + t)) (ro b cnt c (lo + t + 1)) c))), (0, .ref h0), (1, .int (nI r)), (2, .int (nI s)), (3, .int (nI c)), (6, .int (nI lo)), (7, .int (nI hi)), (8, .int (nI (AF b (ro b cnt c (lo)) (ro b cnt c (lo + t)) c))), (9, .int (nI (lo + 1 + t)))]) hx hb dX0_agreeSince_76 hl (by decide) rfl (fun ls hl => ?_)
    refine lv_iload hx hb dX0_agreeSince_78 (lv_at hl 0 rfl) ?_
    refine lv_iload hx hb dX0_agreeSince_80 (lv_at hl 7 rfl) ?_
    refine W.jn2 (g := F0 mM 92 ls [.int (nI (max (AF b (ro b cnt c (lo)) (ro b cnt c (lo + t)) c) (AF b (ro b cnt c (lo + t)) (ro b cnt c (lo + t + 1)) c)))]) (fun J => ?_) ?_
    · refine hn_icmp_le (tgt := 90) hx hb dX0_agreeSince_82 (by decide) (AF_31 hc) (AF_31 hc) (fun c82 => ?_) (fun c82 => ?_)
      · refine lv_iload hx hb dX0_agreeSince_90 (lv_at hl 7 rfl) ?_
        have ej : (max (AF b (ro b cnt c (lo)) (ro b cnt c (lo + t)) c) (AF b (ro b cnt c (lo + t)) (ro b cnt c (lo + t + 1)) c)) = (AF b (ro b cnt c (lo)) (ro b cnt c (lo + t)) c) := by omega
        rw [ej] at J
        exact J
      · refine lv_iload hx hb dX0_agreeSince_85 (lv_at hl 0 rfl) ?_
        refine lv_goto (tgt := 92) hx hb dX0_agreeSince_87 (by decide) ?_
        have ej : (max (AF b (ro b cnt c (lo)) (ro b cnt c (lo + t)) c) (AF b (ro b cnt c (lo + t)) (ro b cnt c (lo + t + 1)) c)) = (AF b (ro b cnt c (lo + t)) (ro b cnt c (lo + t + 1)) c) := by omega
        rw [ej] at J
        exact J
    refine lv_istore (lv' := [(8, .int (nI (max (AF b (ro b cnt c (lo)) (ro b cnt c (lo + t)) c) (AF b (ro b cnt c (lo + t)) (ro b cnt c (lo + t + 1)) c)))), (10, .int (nI (AF b (ro b cnt c (lo + t)) (ro b cnt c (lo + t + 1)) c))), (0, .ref h0), (1, .int (nI r)), (2, .int (nI s)), (3, .int (nI c)), (6, .int (nI lo)), (7, .int (nI hi)), (9, .int (nI (lo + 1 + t)))]) hx hb dX0_agreeSince_92 hl (by decide) rfl (fun ls hl => ?_)
    refine lv_iinc (v := nI ((lo + 1 + t) + 1)) (lv' := [(9, .int (nI ((lo + 1 + t) + 1))), (8, .int (nI (max (AF b (ro b cnt c (lo)) (ro b cnt c (lo + t)) c) (AF b (ro b cnt c (lo + t)) (ro b cnt c (lo + t + 1)) c)))), (10, .int (nI (AF b (ro b cnt c (lo + t)) (ro b cnt c (lo + t + 1)) c))), (0, .ref h0), (1, .int (nI r)), (2, .int (nI s)), (3, .int (nI c)), (6, .int (nI lo)), (7, .int (nI hi))]) hx hb dX0_agreeSince_94 hl (k := 8) rfl (nI_1 _) (by decide) rfl (fun ls hl => ?_)
    refine lv_goto (tgt := 57) hx hb dX0_agreeSince_97 (by decide) ?_
    have ev8 : (AF b (ro b cnt c (lo)) (ro b cnt c (lo + (t + 1))) c) = (max (AF b (ro b cnt c (lo)) (ro b cnt c (lo + t)) c) (AF b (ro b cnt c (lo + t)) (ro b cnt c (lo + t + 1)) c)) := by exact ro_ult (by omega) (by omega) (by omega)
    have ev9 : (lo + 1 + (t + 1)) = ((lo + 1 + t) + 1) := by omega
    have hl : lv_has ls 11 [(0, .ref h0), (1, .int (nI r)), (2, .int (nI s)), (3, .int (nI c)), (6, .int (nI lo)), (7, .int (nI hi)), (8, .int (nI (AF b (ro b cnt c (lo)) (ro b cnt c (lo + (t + 1))) c))), (9, .int (nI (lo + 1 + (t + 1))))] := by rw [ev8, ev9]; exact lv_sub hl [3, 4, 5, 6, 7, 8, 1, 0] rfl
    exact ih57 trivial ls hl

set_option maxHeartbeats 4000000 in
set_option maxRecDepth 100000 in
theorem metX0_bestSince {l : Launch} {dC : Nat → ClassId} {dI : Nat → Nat → Nat} {h0 k1 k2 k3 k4 k5 : Nat} {d0 : ClassId} {cnt bu : Nat} {b o g n1 n2 : Nat → Nat} (r c : Nat) (h8 : cnt ≤ 8) (hc : c ≤ 12) (hr0 : r < cnt) (hB : Bc cnt b o g c) : Met l yX0_bestSince (ws_ yX0_bestSince cX0_bestSince 6 (some .int)) (rmk 1) (rdP (dC, dI) [(d0, .int)] (XW h0 k1 k2 k3 k4 k5 d0 cnt bu b o g n1 n2) [.ref h0, .int (nI r), .int (nI c)]) (vp_Si (fun v => v = nI (BS b cnt r c))) 0 0 (fun _ => False) := by
  refine Met.ofW (cc := cX0_bestSince) (maxL := 6) (ret := (some .int)) (by decide) rfl ?_
  intro pP eE sS mM args below meth cC s₁ B hml hv
  obtain ⟨rfl, hP, hK⟩ := hv
  have hx := B.exec
  have hb := B.bytes
  have hret := B.returns
  have hts := atoms_spec (ws := ws_ yX0_bestSince cX0_bestSince 6 (some .int)) B.pre
  have hts : ∀ w ∈ lw_all, w.before _ sS = true := fun w h => hts w (List.mem_cons_of_mem _ h)
  have hown : sS.vm.findClass RX0 = some mM.cls := findClass_of_methodNamed B.named
  have hlocks := B.notSynchronized
  have hl := lv_entry ([.ref h0, .int (nI r), .int (nI c)]) (n := 6) (Nat.le_of_ble_eq_true rfl)
  rw [lg_entry_eq]
  generalize (lg_sl ([.ref h0, .int (nI r), .int (nI c)]) ++ List.replicate (6 - (lg_sl ([.ref h0, .int (nI r), .int (nI c)])).length) Slot.unset).toArray = ls at hl ⊢
  have hl : lv_has ls 6 [(0, .ref h0), (1, .int (nI r)), (2, .int (nI c))] := hl
  obtain ⟨i0, hi0, hri⟩ := ro_sur (b := b) (c := c) hr0
  have q1 := bg_le b cnt c i0
  have q2 := bg_le b cnt c (i0 + 1)
  refine lv_aload_n hx hb dX0_bestSince_0 rfl (lv_at hl 0 rfl) ?_
  refine lv_iload_n hx hb dX0_bestSince_1 rfl (lv_at hl 1 rfl) ?_
  refine lv_iload_n hx hb dX0_bestSince_2 rfl (lv_at hl 2 rfl) ?_
  refine vp_callSi (W.runV (As := [.int (nI r), .int (nI c)]) (rest := []) ⟨hx, hb, hml, hown, hts⟩ (metX0_placeOf r c i0 h8 hc hi0 hri hB) (cwV 2 hts (lw_V q122 q124 qs8 q25 q125) rfl rfl rfl (by decide +kernel) ⟨Nat.le_of_ble_eq_true rfl, Nat.le_of_ble_eq_true rfl⟩) (rd_preX0 hK hP) rfl rfl hl.1 rfl (lv_room (Nat.le_of_ble_eq_true rfl)) dX0_bestSince_3 ⟨Nat.le_of_ble_eq_true rfl, Nat.le_of_ble_eq_true rfl⟩) (fun v hv => ?_)
  subst hv
  refine lv_istore_n (lv' := [(3, .int (nI i0)), (0, .ref h0), (1, .int (nI r)), (2, .int (nI c))]) hx hb dX0_bestSince_6 rfl hl (by decide) rfl (fun ls hl => ?_)
  refine lv_iload_n hx hb dX0_bestSince_7 rfl (lv_at hl 0 rfl) ?_
  refine W.jn2 (g := F0 mM 26 ls [.int (nI (bg b cnt c i0))]) (fun J => ?_) ?_
  · refine hn_if_le (tgt := 25) hx hb dX0_bestSince_8 (by decide) (by omega) (fun c8 => ?_) (fun c8 => ?_)
    · refine lv_iload_n hx hb dX0_bestSince_25 rfl (lv_at hl 3 rfl) ?_
      have ej : (bg b cnt c i0) = c := by simp [bg, c8]
      rw [ej] at J
      exact J
    · refine lv_aload_n hx hb dX0_bestSince_11 rfl (lv_at hl 1 rfl) ?_
      refine va_get (D := (dC, dI)) (ci := 0) (v := .ref k3) (C := RX0) (T := TX0) (N := 7) hx hb hts in_X0 hown hK hP 0 rfl rfl 4 (by decide) (hts _ q39) (fun _ h9 => h9) rfl dX0_bestSince_12 ?_
      refine lv_bipush (v := nI 8) hx hb dX0_bestSince_15 (by decide) ?_
      refine lv_iload_n hx hb dX0_bestSince_17 rfl (lv_at hl 3 rfl) ?_
      refine hn_mul hx hb dX0_bestSince_18 ?_
      refine lv_iload_n hx hb dX0_bestSince_19 rfl (lv_at hl 0 rfl) ?_
      refine hn_add hx hb dX0_bestSince_20 ?_
      refine hn_ald hx hb hK hP 3 0 rfl rfl (by omega) (by decide) dX0_bestSince_21 ?_
      refine hn_top (y := nI (bg b cnt c i0)) (congrArg nI (hB i0 hi0).2) ?_
      refine lv_goto (tgt := 26) hx hb dX0_bestSince_22 (by decide) ?_
      exact J
  refine lv_istore (lv' := [(4, .int (nI (bg b cnt c i0))), (3, .int (nI i0)), (0, .ref h0), (1, .int (nI r)), (2, .int (nI c))]) hx hb dX0_bestSince_26 hl (by decide) rfl (fun ls hl => ?_)
  refine lv_iload_n hx hb dX0_bestSince_28 rfl (lv_at hl 1 rfl) ?_
  refine lv_iconst (v := nI 1) hx hb dX0_bestSince_29 (by decide) ?_
  refine hn_add hx hb dX0_bestSince_30 ?_
  refine lv_aload_n hx hb dX0_bestSince_31 rfl (lv_at hl 2 rfl) ?_
  refine va_get (D := (dC, dI)) (ci := 0) (v := .int (nI cnt)) (C := RX0) (T := TX0) (N := 7) hx hb hts in_X0 hown hK hP 0 rfl rfl 0 (by decide) (hts _ q35) (fun _ h9 => h9) rfl dX0_bestSince_32 ?_
  refine W.jn2 (g := F0 mM 55 ls [.int (nI (if i0 + 1 < cnt then bg b cnt c (i0 + 1) else c))]) (fun J => ?_) ?_
  · refine hn_icmp_ge (tgt := 54) hx hb dX0_bestSince_35 (by decide) (by omega) (by omega) (fun c35 => ?_) (fun c35 => ?_)
    · refine lv_iload_n hx hb dX0_bestSince_54 rfl (lv_at hl 4 rfl) ?_
      have ej : (if i0 + 1 < cnt then bg b cnt c (i0 + 1) else c) = c := by first | exact if_pos (by omega) | exact if_neg (by omega)
      rw [ej] at J
      exact J
    · refine lv_aload_n hx hb dX0_bestSince_38 rfl (lv_at hl 2 rfl) ?_
      refine va_get (D := (dC, dI)) (ci := 0) (v := .ref k3) (C := RX0) (T := TX0) (N := 7) hx hb hts in_X0 hown hK hP 0 rfl rfl 4 (by decide) (hts _ q39) (fun _ h9 => h9) rfl dX0_bestSince_39 ?_
      refine lv_bipush (v := nI 8) hx hb dX0_bestSince_42 (by decide) ?_
      refine lv_iload_n hx hb dX0_bestSince_44 rfl (lv_at hl 4 rfl) ?_
      refine hn_mul hx hb dX0_bestSince_45 ?_
      refine lv_iload_n hx hb dX0_bestSince_46 rfl (lv_at hl 1 rfl) ?_
      refine hn_add hx hb dX0_bestSince_47 ?_
      refine lv_iconst (v := nI 1) hx hb dX0_bestSince_48 (by decide) ?_
      refine hn_add hx hb dX0_bestSince_49 ?_
      refine hn_ald hx hb hK hP 3 0 rfl rfl (by omega) (by decide) dX0_bestSince_50 ?_
      refine hn_top (y := nI (bg b cnt c (i0 + 1))) (congrArg nI (hB (i0 + 1) (by omega)).2) ?_
      refine lv_goto (tgt := 55) hx hb dX0_bestSince_51 (by decide) ?_
      have ej : (if i0 + 1 < cnt then bg b cnt c (i0 + 1) else c) = (bg b cnt c (i0 + 1)) := by first | exact if_pos (by omega) | exact if_neg (by omega)
      rw [ej] at J
      exact J
  refine lv_istore (lv' := [(5, .int (nI (if i0 + 1 < cnt then bg b cnt c (i0 + 1) else c))), (4, .int (nI (bg b cnt c i0))), (3, .int (nI i0)), (0, .ref h0), (1, .int (nI r)), (2, .int (nI c))]) hx hb dX0_bestSince_55 hl (by decide) rfl (fun ls hl => ?_)
  refine lv_iload hx hb dX0_bestSince_57 (lv_at hl 1 rfl) ?_
  refine lv_iload hx hb dX0_bestSince_59 (lv_at hl 0 rfl) ?_
  refine hn_icmp_ge (tgt := 69) hx hb dX0_bestSince_61 (by decide) (by omega) (by split <;> omega) (fun c61 => ?_) (fun c61 => ?_)
  · refine lv_iload hx hb dX0_bestSince_69 (lv_at hl 0 rfl) ?_
    have er : (if i0 + 1 < cnt then bg b cnt c (i0 + 1) else c) = (BS b cnt r c) := by rw [← BS_nb hi0 hri, if_neg (Nat.not_lt.mpr c61)]
    exact W.iret (v := nI (if i0 + 1 < cnt then bg b cnt c (i0 + 1) else c)) hx hb hret (fun t ht hW => ⟨nI (if i0 + 1 < cnt then bg b cnt c (i0 + 1) else c), rfl, congrArg nI er, ht⟩) (fun _ h => by cases h) dX0_bestSince_71
  · refine lv_iload hx hb dX0_bestSince_64 (lv_at hl 1 rfl) ?_
    refine lv_goto (tgt := 71) hx hb dX0_bestSince_66 (by decide) ?_
    have er : (bg b cnt c i0) = (BS b cnt r c) := by rw [← BS_nb hi0 hri, if_pos c61]
    exact W.iret (v := nI (bg b cnt c i0)) hx hb hret (fun t ht hW => ⟨nI (bg b cnt c i0), rfl, congrArg nI er, ht⟩) (fun _ h => by cases h) dX0_bestSince_71

set_option maxHeartbeats 4000000 in
set_option maxRecDepth 100000 in
theorem metX0_winsBefore {l : Launch} {dC : Nat → ClassId} {dI : Nat → Nat → Nat} {h0 k1 k2 k3 k4 k5 : Nat} {d0 : ClassId} {cnt bu : Nat} {b o g n1 n2 : Nat → Nat} (r c : Nat) (h8 : cnt ≤ 8) (hc : c ≤ 12) (hr0 : r < cnt) (hB : Bc cnt b o g c) (hbd : ∀ k, b k < 4096) : Met l yX0_winsBefore (ws_ yX0_winsBefore cX0_winsBefore 9 (some .int)) (rmk 2) (rdP (dC, dI) [(d0, .int)] (XW h0 k1 k2 k3 k4 k5 d0 cnt bu b o g n1 n2) [.ref h0, .int (nI r), .int (nI c)]) (vp_Si (fun v => v = nI (WB b cnt r c))) 0 0 (fun _ => False) := by
  refine Met.ofW (cc := cX0_winsBefore) (maxL := 9) (ret := (some .int)) (by decide) rfl ?_
  intro pP eE sS mM args below meth cC s₁ B hml hv
  obtain ⟨rfl, hP, hK⟩ := hv
  have hx := B.exec
  have hb := B.bytes
  have hret := B.returns
  have hts := atoms_spec (ws := ws_ yX0_winsBefore cX0_winsBefore 9 (some .int)) B.pre
  have hts : ∀ w ∈ lw_all, w.before _ sS = true := fun w h => hts w (List.mem_cons_of_mem _ h)
  have hown : sS.vm.findClass RX0 = some mM.cls := findClass_of_methodNamed B.named
  have hlocks := B.notSynchronized
  have hl := lv_entry ([.ref h0, .int (nI r), .int (nI c)]) (n := 9) (Nat.le_of_ble_eq_true rfl)
  rw [lg_entry_eq]
  generalize (lg_sl ([.ref h0, .int (nI r), .int (nI c)]) ++ List.replicate (9 - (lg_sl ([.ref h0, .int (nI r), .int (nI c)])).length) Slot.unset).toArray = ls at hl ⊢
  have hl : lv_has ls 9 [(0, .ref h0), (1, .int (nI r)), (2, .int (nI c))] := hl
  have q1 := BS_le b cnt r c
  refine lv_aload_n hx hb dX0_winsBefore_0 rfl (lv_at hl 0 rfl) ?_
  refine lv_iload_n hx hb dX0_winsBefore_1 rfl (lv_at hl 1 rfl) ?_
  refine lv_iload_n hx hb dX0_winsBefore_2 rfl (lv_at hl 2 rfl) ?_
  refine vp_callSi (W.runV (As := [.int (nI r), .int (nI c)]) (rest := []) ⟨hx, hb, hml, hown, hts⟩ (metX0_bestSince r c h8 hc hr0 hB) (cwV 2 hts (lw_V q134 q136 qs10 q25 q137) rfl rfl rfl (by decide +kernel) ⟨Nat.le_of_ble_eq_true rfl, Nat.le_of_ble_eq_true rfl⟩) (rd_preX0 hK hP) rfl rfl hl.1 rfl (lv_room (Nat.le_of_ble_eq_true rfl)) dX0_winsBefore_3 ⟨Nat.le_of_ble_eq_true rfl, Nat.le_of_ble_eq_true rfl⟩) (fun v hv => ?_)
  subst hv
  refine lv_istore_n (lv' := [(3, .int (nI (BS b cnt r c))), (0, .ref h0), (1, .int (nI r)), (2, .int (nI c))]) hx hb dX0_winsBefore_6 rfl hl (by decide) rfl (fun ls hl => ?_)
  refine lv_iload_n hx hb dX0_winsBefore_7 rfl (lv_at hl 0 rfl) ?_
  refine lv_iload_n hx hb dX0_winsBefore_8 rfl (lv_at hl 3 rfl) ?_
  refine hn_icmp_ne (tgt := 14) hx hb dX0_winsBefore_9 (by decide) (by omega) (by omega) (fun c9 => ?_) (fun c9 => ?_)
  · refine lv_iconst (v := nI 0) hx hb dX0_winsBefore_14 (by decide) ?_
    refine lv_istore (lv' := [(4, .int (nI 0)), (3, .int (nI (BS b cnt r c))), (0, .ref h0), (1, .int (nI r)), (2, .int (nI c))]) hx hb dX0_winsBefore_15 hl (by decide) rfl (fun ls hl => ?_)
    refine lv_iconst (v := nI 0) hx hb dX0_winsBefore_17 (by decide) ?_
    refine lv_istore (lv' := [(5, .int (nI 0)), (4, .int (nI 0)), (3, .int (nI (BS b cnt r c))), (0, .ref h0), (1, .int (nI r)), (2, .int (nI c))]) hx hb dX0_winsBefore_18 hl (by decide) rfl (fun ls hl => ?_)
    refine lv_iconst (v := nI 0) hx hb dX0_winsBefore_20 (by decide) ?_
    refine lv_istore (lv' := [(6, .int (nI 0)), (5, .int (nI 0)), (4, .int (nI 0)), (3, .int (nI (BS b cnt r c))), (0, .ref h0), (1, .int (nI r)), (2, .int (nI c))]) hx hb dX0_winsBefore_21 hl (by decide) rfl (fun ls hl => ?_)
    have hl : lv_has ls 9 [(0, .ref h0), (1, .int (nI r)), (2, .int (nI c)), (3, .int (nI (BS b cnt r c))), (4, .int (nI (cN (wbP b cnt r c) 0))), (5, .int (nI (bN (anyN (wbO b cnt r c) 0)))), (6, .int (nI 0))] := lv_sub hl [4, 5, 6, 3, 2, 1, 0] rfl
    refine W.up 9 23 (fun s => [(0, .ref h0), (1, .int (nI r)), (2, .int (nI c)), (3, .int (nI (BS b cnt r c))), (4, .int (nI (cN (wbP b cnt r c) s))), (5, .int (nI (bN (anyN (wbO b cnt r c) s)))), (6, .int (nI s))]) (fun s => True) cnt ?_ ?_ 0 (by omega) trivial hl
    · intro hk ls hl
      have hl : lv_has ls 9 [(0, .ref h0), (1, .int (nI r)), (2, .int (nI c)), (3, .int (nI (BS b cnt r c))), (4, .int (nI (cN (wbP b cnt r c) cnt))), (5, .int (nI (bN (anyN (wbO b cnt r c) cnt)))), (6, .int (nI cnt))] := hl
      refine lv_iload hx hb dX0_winsBefore_23 (lv_at hl 6 rfl) ?_
      refine lv_aload_n hx hb dX0_winsBefore_25 rfl (lv_at hl 0 rfl) ?_
      refine va_get (D := (dC, dI)) (ci := 0) (v := .int (nI cnt)) (C := RX0) (T := TX0) (N := 7) hx hb hts in_X0 hown hK hP 0 rfl rfl 0 (by decide) (hts _ q35) (fun _ h9 => h9) rfl dX0_winsBefore_26 ?_
      refine hn_icmp_ge (tgt := 90) hx hb dX0_winsBefore_29 (by decide) (by omega) (by omega) (fun c29 => ?_) (fun c29 => absurd c29 (by omega))
      refine lv_iload hx hb dX0_winsBefore_90 (lv_at hl 5 rfl) ?_
      refine hn_ifB_eq (tgt := 99) hx hb dX0_winsBefore_92 (by decide) (fun c92 => ?_) (fun c92 => ?_)
      · refine lv_iload hx hb dX0_winsBefore_99 (lv_at hl 4 rfl) ?_
        have er : (cN (wbP b cnt r c) cnt) = (WB b cnt r c) := by simp [WB, c9, c92]
        exact W.iret (v := nI (cN (wbP b cnt r c) cnt)) hx hb hret (fun t ht hW => ⟨nI (cN (wbP b cnt r c) cnt), rfl, congrArg nI er, ht⟩) (fun _ h => by cases h) dX0_winsBefore_101
      · refine lv_iconst (v := nI 0) hx hb dX0_winsBefore_95 (by decide) ?_
        refine lv_goto (tgt := 101) hx hb dX0_winsBefore_96 (by decide) ?_
        have er : 0 = (WB b cnt r c) := by simp [WB, c9, c92]
        exact W.iret (v := nI 0) hx hb hret (fun t ht hW => ⟨nI 0, rfl, congrArg nI er, ht⟩) (fun _ h => by cases h) dX0_winsBefore_101
    · intro s his hk ih23 ls hl
      have hl : lv_has ls 9 [(0, .ref h0), (1, .int (nI r)), (2, .int (nI c)), (3, .int (nI (BS b cnt r c))), (4, .int (nI (cN (wbP b cnt r c) s))), (5, .int (nI (bN (anyN (wbO b cnt r c) s)))), (6, .int (nI s))] := hl
      refine lv_iload hx hb dX0_winsBefore_23 (lv_at hl 6 rfl) ?_
      refine lv_aload_n hx hb dX0_winsBefore_25 rfl (lv_at hl 0 rfl) ?_
      refine va_get (D := (dC, dI)) (ci := 0) (v := .int (nI cnt)) (C := RX0) (T := TX0) (N := 7) hx hb hts in_X0 hown hK hP 0 rfl rfl 0 (by decide) (hts _ q35) (fun _ h9 => h9) rfl dX0_winsBefore_26 ?_
      refine hn_icmp_ge (tgt := 90) hx hb dX0_winsBefore_29 (by decide) (by omega) (by omega) (fun c29 => absurd c29 (by omega)) (fun c29 => ?_)
      refine lv_iload hx hb dX0_winsBefore_32 (lv_at hl 6 rfl) ?_
      refine lv_iload_n hx hb dX0_winsBefore_34 rfl (lv_at hl 1 rfl) ?_
      refine hn_icmp_eq (tgt := 84) hx hb dX0_winsBefore_35 (by decide) (by omega) (by omega) (fun c35 => ?_) (fun c35 => ?_)
      · refine lv_iinc (v := nI (s + 1)) (lv' := [(6, .int (nI (s + 1))), (0, .ref h0), (1, .int (nI r)), (2, .int (nI c)), (3, .int (nI (BS b cnt r c))), (4, .int (nI (cN (wbP b cnt r c) s))), (5, .int (nI (bN (anyN (wbO b cnt r c) s))))]) hx hb dX0_winsBefore_84 hl (k := 6) rfl (nI_1 _) (by decide) rfl (fun ls hl => ?_)
        refine lv_goto (tgt := 23) hx hb dX0_winsBefore_87 (by decide) ?_
        have ev4 : (cN (wbP b cnt r c) (s + 1)) = (cN (wbP b cnt r c) s) := by simp [cN, wbP, bN, c9, c35]
        have ev5 : (bN (anyN (wbO b cnt r c) (s + 1))) = (bN (anyN (wbO b cnt r c) s)) := by simp [anyN, wbO, wbP, c35]
        have ev6 : ((s + 1)) = (s + 1) := by first | rfl | omega
        have hl : lv_has ls 9 [(0, .ref h0), (1, .int (nI r)), (2, .int (nI c)), (3, .int (nI (BS b cnt r c))), (4, .int (nI (cN (wbP b cnt r c) (s + 1)))), (5, .int (nI (bN (anyN (wbO b cnt r c) (s + 1))))), (6, .int (nI ((s + 1))))] := by rw [ev4, ev5, ev6]; exact lv_sub hl [1, 2, 3, 4, 5, 6, 0] rfl
        exact ih23 trivial ls hl
      · refine lv_aload_n hx hb dX0_winsBefore_38 rfl (lv_at hl 0 rfl) ?_
        refine lv_iload_n hx hb dX0_winsBefore_39 rfl (lv_at hl 1 rfl) ?_
        refine lv_iload hx hb dX0_winsBefore_40 (lv_at hl 6 rfl) ?_
        refine lv_iload_n hx hb dX0_winsBefore_42 rfl (lv_at hl 2 rfl) ?_
        refine vp_callSi (W.runV (As := [.int (nI r), .int (nI s), .int (nI c)]) (rest := []) ⟨hx, hb, hml, hown, hts⟩ (metX0_agreeSince r s c h8 hc hr0 his hB) (cwV 3 hts (lw_V q118 q120 qs7 q25 q121) rfl rfl rfl (by decide +kernel) ⟨Nat.le_of_ble_eq_true rfl, Nat.le_of_ble_eq_true rfl⟩) (rd_preX0 hK hP) rfl rfl hl.1 rfl (lv_room (Nat.le_of_ble_eq_true rfl)) dX0_winsBefore_43 ⟨Nat.le_of_ble_eq_true rfl, Nat.le_of_ble_eq_true rfl⟩) (fun v hv => ?_)
        subst hv
        refine lv_istore (lv' := [(7, .int (nI (AF b r s c))), (0, .ref h0), (1, .int (nI r)), (2, .int (nI c)), (3, .int (nI (BS b cnt r c))), (4, .int (nI (cN (wbP b cnt r c) s))), (5, .int (nI (bN (anyN (wbO b cnt r c) s)))), (6, .int (nI s))]) hx hb dX0_winsBefore_46 hl (by decide) rfl (fun ls hl => ?_)
        refine lv_iload hx hb dX0_winsBefore_48 (lv_at hl 0 rfl) ?_
        refine lv_iload_n hx hb dX0_winsBefore_50 rfl (lv_at hl 4 rfl) ?_
        refine hn_icmp_ne (tgt := 84) hx hb dX0_winsBefore_51 (by decide) (AF_31 hc) (by omega) (fun c51 => ?_) (fun c51 => ?_)
        · refine lv_iinc (v := nI (s + 1)) (lv' := [(6, .int (nI (s + 1))), (7, .int (nI (AF b r s c))), (0, .ref h0), (1, .int (nI r)), (2, .int (nI c)), (3, .int (nI (BS b cnt r c))), (4, .int (nI (cN (wbP b cnt r c) s))), (5, .int (nI (bN (anyN (wbO b cnt r c) s))))]) hx hb dX0_winsBefore_84 hl (k := 7) rfl (nI_1 _) (by decide) rfl (fun ls hl => ?_)
          refine lv_goto (tgt := 23) hx hb dX0_winsBefore_87 (by decide) ?_
          have ev4 : (cN (wbP b cnt r c) (s + 1)) = (cN (wbP b cnt r c) s) := by simp [cN, wbP, bN, c9, c35, c51]
          have ev5 : (bN (anyN (wbO b cnt r c) (s + 1))) = (bN (anyN (wbO b cnt r c) s)) := by simp [anyN, wbO, wbP, c35, c51]
          have ev6 : ((s + 1)) = (s + 1) := by first | rfl | omega
          have hl : lv_has ls 9 [(0, .ref h0), (1, .int (nI r)), (2, .int (nI c)), (3, .int (nI (BS b cnt r c))), (4, .int (nI (cN (wbP b cnt r c) (s + 1)))), (5, .int (nI (bN (anyN (wbO b cnt r c) (s + 1))))), (6, .int (nI ((s + 1))))] := by rw [ev4, ev5, ev6]; exact lv_sub hl [2, 3, 4, 5, 6, 7, 0] rfl
          exact ih23 trivial ls hl
        · refine lv_iinc (v := nI ((cN (wbP b cnt r c) s) + 1)) (lv' := [(4, .int (nI ((cN (wbP b cnt r c) s) + 1))), (7, .int (nI (AF b r s c))), (0, .ref h0), (1, .int (nI r)), (2, .int (nI c)), (3, .int (nI (BS b cnt r c))), (5, .int (nI (bN (anyN (wbO b cnt r c) s)))), (6, .int (nI s))]) hx hb dX0_winsBefore_54 hl (k := 5) rfl (nI_1 _) (by decide) rfl (fun ls hl => ?_)
          refine lv_aload_n hx hb dX0_winsBefore_57 rfl (lv_at hl 2 rfl) ?_
          refine lv_iload_n hx hb dX0_winsBefore_58 rfl (lv_at hl 3 rfl) ?_
          refine lv_iload hx hb dX0_winsBefore_59 (lv_at hl 7 rfl) ?_
          refine lv_iload_n hx hb dX0_winsBefore_61 rfl (lv_at hl 4 rfl) ?_
          refine vp_callSi (W.runV (As := [.int (nI r), .int (nI s), .int (nI c)]) (rest := []) ⟨hx, hb, hml, hown, hts⟩ (metX0_parts r s c (by omega) (by omega) (by omega) hbd) (cwV 3 hts (lw_V q110 q112 qs6 q25 q113) rfl rfl rfl (by decide +kernel) ⟨Nat.le_of_ble_eq_true rfl, Nat.le_of_ble_eq_true rfl⟩) (rd_preX0 hK hP) rfl rfl hl.1 rfl (lv_room (Nat.le_of_ble_eq_true rfl)) dX0_winsBefore_62 ⟨Nat.le_of_ble_eq_true rfl, Nat.le_of_ble_eq_true rfl⟩) (fun v hv => ?_)
          subst hv
          refine lv_istore (lv' := [(8, .int (nI (bN (ptB b r s c)))), (4, .int (nI ((cN (wbP b cnt r c) s) + 1))), (7, .int (nI (AF b r s c))), (0, .ref h0), (1, .int (nI r)), (2, .int (nI c)), (3, .int (nI (BS b cnt r c))), (5, .int (nI (bN (anyN (wbO b cnt r c) s)))), (6, .int (nI s))]) hx hb dX0_winsBefore_65 hl (by decide) rfl (fun ls hl => ?_)
          refine lv_iload hx hb dX0_winsBefore_67 (lv_at hl 7 rfl) ?_
          refine W.jn2 (g := F0 mM 82 ls [.int (nI (bN (anyN (wbO b cnt r c) s || !(ptB b r s c))))]) (fun J => ?_) ?_
          · refine hn_ifB_ne (tgt := 77) hx hb dX0_winsBefore_69 (by decide) (fun c69 => ?_) (fun c69 => ?_)
            · refine lv_iconst (v := nI 1) hx hb dX0_winsBefore_77 (by decide) ?_
              refine lv_goto (tgt := 82) hx hb dX0_winsBefore_78 (by decide) ?_
              have ej : (bN (anyN (wbO b cnt r c) s || !(ptB b r s c))) = 1 := by simp [bN, c69]
              rw [ej] at J
              exact J
            · refine lv_iload hx hb dX0_winsBefore_72 (lv_at hl 0 rfl) ?_
              refine hn_ifB_ne (tgt := 81) hx hb dX0_winsBefore_74 (by decide) (fun c74 => ?_) (fun c74 => ?_)
              · refine lv_iconst (v := nI 0) hx hb dX0_winsBefore_81 (by decide) ?_
                have ej : (bN (anyN (wbO b cnt r c) s || !(ptB b r s c))) = 0 := by simp [bN, c69, c74]
                rw [ej] at J
                exact J
              · refine lv_iconst (v := nI 1) hx hb dX0_winsBefore_77 (by decide) ?_
                refine lv_goto (tgt := 82) hx hb dX0_winsBefore_78 (by decide) ?_
                have ej : (bN (anyN (wbO b cnt r c) s || !(ptB b r s c))) = 1 := by simp [bN, c69, c74]
                rw [ej] at J
                exact J
          refine lv_istore (lv' := [(5, .int (nI (bN (anyN (wbO b cnt r c) s || !(ptB b r s c))))), (8, .int (nI (bN (ptB b r s c)))), (4, .int (nI ((cN (wbP b cnt r c) s) + 1))), (7, .int (nI (AF b r s c))), (0, .ref h0), (1, .int (nI r)), (2, .int (nI c)), (3, .int (nI (BS b cnt r c))), (6, .int (nI s))]) hx hb dX0_winsBefore_82 hl (by decide) rfl (fun ls hl => ?_)
          refine lv_iinc (v := nI (s + 1)) (lv' := [(6, .int (nI (s + 1))), (5, .int (nI (bN (anyN (wbO b cnt r c) s || !(ptB b r s c))))), (8, .int (nI (bN (ptB b r s c)))), (4, .int (nI ((cN (wbP b cnt r c) s) + 1))), (7, .int (nI (AF b r s c))), (0, .ref h0), (1, .int (nI r)), (2, .int (nI c)), (3, .int (nI (BS b cnt r c)))]) hx hb dX0_winsBefore_84 hl (k := 8) rfl (nI_1 _) (by decide) rfl (fun ls hl => ?_)
          refine lv_goto (tgt := 23) hx hb dX0_winsBefore_87 (by decide) ?_
          have ev4 : (cN (wbP b cnt r c) (s + 1)) = ((cN (wbP b cnt r c) s) + 1) := by simp [cN, wbP, bN, c9, c35, c51]
          have ev5 : (bN (anyN (wbO b cnt r c) (s + 1))) = (bN (anyN (wbO b cnt r c) s || !(ptB b r s c))) := by simp [anyN, wbO, wbP, c35, c51]
          have ev6 : ((s + 1)) = (s + 1) := by first | rfl | omega
          have hl : lv_has ls 9 [(0, .ref h0), (1, .int (nI r)), (2, .int (nI c)), (3, .int (nI (BS b cnt r c))), (4, .int (nI (cN (wbP b cnt r c) (s + 1)))), (5, .int (nI (bN (anyN (wbO b cnt r c) (s + 1))))), (6, .int (nI ((s + 1))))] := by rw [ev4, ev5, ev6]; exact lv_sub hl [5, 6, 7, 8, 3, 1, 0] rfl
          exact ih23 trivial ls hl
  · refine lv_iconst (v := nI 0) hx hb dX0_winsBefore_12 (by decide) ?_
    have er : 0 = (WB b cnt r c) := by simp [WB, c9]
    exact W.iret (v := nI 0) hx hb hret (fun t ht hW => ⟨nI 0, rfl, congrArg nI er, ht⟩) (fun _ h => by cases h) dX0_winsBefore_13

set_option maxHeartbeats 4000000 in
set_option maxRecDepth 100000 in
theorem metX0_endingAt {l : Launch} {dC : Nat → ClassId} {dI : Nat → Nat → Nat} {h0 k1 k2 k3 k4 k5 : Nat} {d0 : ClassId} {cnt bu : Nat} {b o g n1 n2 : Nat → Nat} (c k : Nat) (h8 : cnt ≤ 8) (hc : c ≤ 12) (hk12 : k ≤ 12) (hB : Bc cnt b o g c) (hbd : ∀ k, b k < 4096) : Met l yX0_endingAt (ws_ yX0_endingAt cX0_endingAt 10 (some .int)) (rmk 2) (rdP (dC, dI) [(d0, .int)] (XW h0 k1 k2 k3 k4 k5 d0 cnt bu b o g n1 n2) [.ref h0, .int (nI c), .int (nI k)]) (vp_Si (fun v => v = nI (EA b cnt c k))) 0 0 (fun _ => False) := by
  refine Met.ofW (cc := cX0_endingAt) (maxL := 10) (ret := (some .int)) (by decide) rfl ?_
  intro pP eE sS mM args below meth cC s₁ B hml hv
  obtain ⟨rfl, hP, hK⟩ := hv
  have hx := B.exec
  have hb := B.bytes
  have hret := B.returns
  have hts := atoms_spec (ws := ws_ yX0_endingAt cX0_endingAt 10 (some .int)) B.pre
  have hts : ∀ w ∈ lw_all, w.before _ sS = true := fun w h => hts w (List.mem_cons_of_mem _ h)
  have hown : sS.vm.findClass RX0 = some mM.cls := findClass_of_methodNamed B.named
  have hlocks := B.notSynchronized
  have hl := lv_entry ([.ref h0, .int (nI c), .int (nI k)]) (n := 10) (Nat.le_of_ble_eq_true rfl)
  rw [lg_entry_eq]
  generalize (lg_sl ([.ref h0, .int (nI c), .int (nI k)]) ++ List.replicate (10 - (lg_sl ([.ref h0, .int (nI c), .int (nI k)])).length) Slot.unset).toArray = ls at hl ⊢
  have hl : lv_has ls 10 [(0, .ref h0), (1, .int (nI c)), (2, .int (nI k))] := hl
  refine lv_iconst (v := nI 0) hx hb dX0_endingAt_0 (by decide) ?_
  refine lv_istore_n (lv' := [(3, .int (nI 0)), (0, .ref h0), (1, .int (nI c)), (2, .int (nI k))]) hx hb dX0_endingAt_1 rfl hl (by decide) rfl (fun ls hl => ?_)
  refine lv_iconst (v := nI 0) hx hb dX0_endingAt_2 (by decide) ?_
  refine lv_istore (lv' := [(4, .int (nI 0)), (3, .int (nI 0)), (0, .ref h0), (1, .int (nI c)), (2, .int (nI k))]) hx hb dX0_endingAt_3 hl (by decide) rfl (fun ls hl => ?_)
  have hl : lv_has ls 10 [(0, .ref h0), (1, .int (nI c)), (2, .int (nI k)), (3, .int (nI (sm (fun i => EAi b cnt c k i (cnt - (i + 1))) 0))), (4, .int (nI 0))] := lv_sub hl [2, 3, 4, 1, 0] rfl
  refine W.up 10 5 (fun i => [(0, .ref h0), (1, .int (nI c)), (2, .int (nI k)), (3, .int (nI (sm (fun i => EAi b cnt c k i (cnt - (i + 1))) i))), (4, .int (nI i))]) (fun i => True) cnt ?_ ?_ 0 (by omega) trivial hl
  · intro hk ls hl
    have hl : lv_has ls 10 [(0, .ref h0), (1, .int (nI c)), (2, .int (nI k)), (3, .int (nI (sm (fun i => EAi b cnt c k i (cnt - (i + 1))) cnt))), (4, .int (nI cnt))] := hl
    refine lv_iload hx hb dX0_endingAt_5 (lv_at hl 4 rfl) ?_
    refine lv_aload_n hx hb dX0_endingAt_7 rfl (lv_at hl 0 rfl) ?_
    refine va_get (D := (dC, dI)) (ci := 0) (v := .int (nI cnt)) (C := RX0) (T := TX0) (N := 7) hx hb hts in_X0 hown hK hP 0 rfl rfl 0 (by decide) (hts _ q35) (fun _ h9 => h9) rfl dX0_endingAt_8 ?_
    refine hn_icmp_ge (tgt := 125) hx hb dX0_endingAt_11 (by decide) (by omega) (by omega) (fun c11 => ?_) (fun c11 => absurd c11 (by omega))
    refine lv_iload_n hx hb dX0_endingAt_125 rfl (lv_at hl 3 rfl) ?_
    have er : (sm (fun i => EAi b cnt c k i (cnt - (i + 1))) cnt) = (EA b cnt c k) := by rfl
    exact W.iret (v := nI (sm (fun i => EAi b cnt c k i (cnt - (i + 1))) cnt)) hx hb hret (fun t ht hW => ⟨nI (sm (fun i => EAi b cnt c k i (cnt - (i + 1))) cnt), rfl, congrArg nI er, ht⟩) (fun _ h => by cases h) dX0_endingAt_126
  · intro i hii hk ih5 ls hl
    have hl : lv_has ls 10 [(0, .ref h0), (1, .int (nI c)), (2, .int (nI k)), (3, .int (nI (sm (fun i => EAi b cnt c k i (cnt - (i + 1))) i))), (4, .int (nI i))] := hl
    refine lv_iload hx hb dX0_endingAt_5 (lv_at hl 4 rfl) ?_
    refine lv_aload_n hx hb dX0_endingAt_7 rfl (lv_at hl 0 rfl) ?_
    refine va_get (D := (dC, dI)) (ci := 0) (v := .int (nI cnt)) (C := RX0) (T := TX0) (N := 7) hx hb hts in_X0 hown hK hP 0 rfl rfl 0 (by decide) (hts _ q35) (fun _ h9 => h9) rfl dX0_endingAt_8 ?_
    refine hn_icmp_ge (tgt := 125) hx hb dX0_endingAt_11 (by decide) (by omega) (by omega) (fun c11 => absurd c11 (by omega)) (fun c11 => ?_)
    refine lv_iconst (v := nI 0) hx hb dX0_endingAt_14 (by decide) ?_
    refine lv_istore (lv' := [(5, .int (nI 0)), (0, .ref h0), (1, .int (nI c)), (2, .int (nI k)), (3, .int (nI (sm (fun i => EAi b cnt c k i (cnt - (i + 1))) i))), (4, .int (nI i))]) hx hb dX0_endingAt_15 hl (by decide) rfl (fun ls hl => ?_)
    refine lv_iload hx hb dX0_endingAt_17 (lv_at hl 5 rfl) ?_
    refine lv_iconst (v := nI 1) hx hb dX0_endingAt_19 (by decide) ?_
    refine hn_add hx hb dX0_endingAt_20 ?_
    refine lv_istore (lv' := [(6, .int (nI (i + 1))), (5, .int (nI 0)), (0, .ref h0), (1, .int (nI c)), (2, .int (nI k)), (3, .int (nI (sm (fun i => EAi b cnt c k i (cnt - (i + 1))) i))), (4, .int (nI i))]) hx hb dX0_endingAt_21 hl (by decide) rfl (fun ls hl => ?_)
    have hl : lv_has ls 10 [(0, .ref h0), (1, .int (nI c)), (2, .int (nI k)), (3, .int (nI (sm (fun i => EAi b cnt c k i (cnt - (i + 1))) i + EAi b cnt c k i 0))), (4, .int (nI i)), (5, .int (nI (AF b (ro b cnt c i) (ro b cnt c (i + 0)) c))), (6, .int (nI (i + 1 + 0)))] := by have e0 : AF b (ro b cnt c i) (ro b cnt c (i + 0)) c = 0 := AF_self _ _ _; rw [e0]; exact lv_sub hl [2, 3, 4, 5, 6, 1, 0] rfl
    refine W.up 10 23 (fun t => [(0, .ref h0), (1, .int (nI c)), (2, .int (nI k)), (3, .int (nI (sm (fun i => EAi b cnt c k i (cnt - (i + 1))) i + EAi b cnt c k i t))), (4, .int (nI i)), (5, .int (nI (AF b (ro b cnt c i) (ro b cnt c (i + t)) c))), (6, .int (nI (i + 1 + t)))]) (fun t => True) (cnt - (i + 1)) ?_ ?_ 0 (by omega) trivial hl
    · intro hk ls hl
      have hl : lv_has ls 10 [(0, .ref h0), (1, .int (nI c)), (2, .int (nI k)), (3, .int (nI (sm (fun i => EAi b cnt c k i (cnt - (i + 1))) i + EAi b cnt c k i (cnt - (i + 1))))), (4, .int (nI i)), (5, .int (nI (AF b (ro b cnt c i) (ro b cnt c (i + (cnt - (i + 1)))) c))), (6, .int (nI (i + 1 + (cnt - (i + 1)))))] := hl
      refine lv_iload hx hb dX0_endingAt_23 (lv_at hl 6 rfl) ?_
      refine lv_aload_n hx hb dX0_endingAt_25 rfl (lv_at hl 0 rfl) ?_
      refine va_get (D := (dC, dI)) (ci := 0) (v := .int (nI cnt)) (C := RX0) (T := TX0) (N := 7) hx hb hts in_X0 hown hK hP 0 rfl rfl 0 (by decide) (hts _ q35) (fun _ h9 => h9) rfl dX0_endingAt_26 ?_
      refine hn_icmp_ge (tgt := 119) hx hb dX0_endingAt_29 (by decide) (by omega) (by omega) (fun c29 => ?_) (fun c29 => absurd c29 (by omega))
      refine lv_iinc (v := nI (i + 1)) (lv' := [(4, .int (nI (i + 1))), (0, .ref h0), (1, .int (nI c)), (2, .int (nI k)), (3, .int (nI (sm (fun i => EAi b cnt c k i (cnt - (i + 1))) i + EAi b cnt c k i (cnt - (i + 1))))), (5, .int (nI (AF b (ro b cnt c i) (ro b cnt c (i + (cnt - (i + 1)))) c))), (6, .int (nI (i + 1 + (cnt - (i + 1)))))]) hx hb dX0_endingAt_119 hl (k := 4) rfl (nI_1 _) (by decide) rfl (fun ls hl => ?_)
      refine lv_goto (tgt := 5) hx hb dX0_endingAt_122 (by decide) ?_
      have ev3 : (sm (fun i => EAi b cnt c k i (cnt - (i + 1))) (i + 1)) = (sm (fun i => EAi b cnt c k i (cnt - (i + 1))) i + EAi b cnt c k i (cnt - (i + 1))) := by rfl
      have ev4 : ((i + 1)) = (i + 1) := by rfl
      have hl : lv_has ls 10 [(0, .ref h0), (1, .int (nI c)), (2, .int (nI k)), (3, .int (nI (sm (fun i => EAi b cnt c k i (cnt - (i + 1))) (i + 1)))), (4, .int (nI ((i + 1))))] := by rw [ev3, ev4]; exact lv_sub hl [1, 2, 3, 4, 0] rfl
      exact ih5 trivial ls hl
    · intro t hit hk ih23 ls hl
      have hl : lv_has ls 10 [(0, .ref h0), (1, .int (nI c)), (2, .int (nI k)), (3, .int (nI (sm (fun i => EAi b cnt c k i (cnt - (i + 1))) i + EAi b cnt c k i t))), (4, .int (nI i)), (5, .int (nI (AF b (ro b cnt c i) (ro b cnt c (i + t)) c))), (6, .int (nI (i + 1 + t)))] := hl
      refine lv_iload hx hb dX0_endingAt_23 (lv_at hl 6 rfl) ?_
      refine lv_aload_n hx hb dX0_endingAt_25 rfl (lv_at hl 0 rfl) ?_
      refine va_get (D := (dC, dI)) (ci := 0) (v := .int (nI cnt)) (C := RX0) (T := TX0) (N := 7) hx hb hts in_X0 hown hK hP 0 rfl rfl 0 (by decide) (hts _ q35) (fun _ h9 => h9) rfl dX0_endingAt_26 ?_
      refine hn_icmp_ge (tgt := 119) hx hb dX0_endingAt_29 (by decide) (by omega) (by omega) (fun c29 => absurd c29 (by omega)) (fun c29 => ?_)
      refine lv_aload_n hx hb dX0_endingAt_32 rfl (lv_at hl 0 rfl) ?_
      refine va_get (D := (dC, dI)) (ci := 0) (v := .ref k3) (C := RX0) (T := TX0) (N := 7) hx hb hts in_X0 hown hK hP 0 rfl rfl 4 (by decide) (hts _ q39) (fun _ h9 => h9) rfl dX0_endingAt_33 ?_
      refine lv_bipush (v := nI 8) hx hb dX0_endingAt_36 (by decide) ?_
      refine lv_iload_n hx hb dX0_endingAt_38 rfl (lv_at hl 1 rfl) ?_
      refine hn_mul hx hb dX0_endingAt_39 ?_
      refine lv_iload hx hb dX0_endingAt_40 (lv_at hl 6 rfl) ?_
      refine hn_add hx hb dX0_endingAt_42 ?_
      refine hn_ald hx hb hK hP 3 0 rfl rfl (by omega) (by decide) dX0_endingAt_43 ?_
      refine hn_top (y := nI (AF b (ro b cnt c (i + t)) (ro b cnt c (i + 1 + t)) c)) (congrArg nI (by rw [gB (i := i + t) hB (by omega) (by omega), show i + t + 1 = i + 1 + t by omega])) ?_
      refine lv_istore (lv' := [(7, .int (nI (AF b (ro b cnt c (i + t)) (ro b cnt c (i + 1 + t)) c))), (0, .ref h0), (1, .int (nI c)), (2, .int (nI k)), (3, .int (nI (sm (fun i => EAi b cnt c k i (cnt - (i + 1))) i + EAi b cnt c k i t))), (4, .int (nI i)), (5, .int (nI (AF b (ro b cnt c i) (ro b cnt c (i + t)) c))), (6, .int (nI (i + 1 + t)))]) hx hb dX0_endingAt_44 hl (by decide) rfl (fun ls hl => ?_)
      refine lv_iload hx hb dX0_endingAt_46 (lv_at hl 0 rfl) ?_
      refine lv_iload hx hb dX0_endingAt_48 (lv_at hl 6 rfl) ?_
      refine W.jn2 (g := F0 mM 60 ls [.int (nI (AF b (ro b cnt c i) (ro b cnt c (i + 1 + t)) c))]) (fun J => ?_) ?_
      · refine hn_icmp_le (tgt := 58) hx hb dX0_endingAt_50 (by decide) (AF_31 hc) (AF_31 hc) (fun c50 => ?_) (fun c50 => ?_)
        · refine lv_iload hx hb dX0_endingAt_58 (lv_at hl 6 rfl) ?_
          have ej : (AF b (ro b cnt c i) (ro b cnt c (i + 1 + t)) c) = (AF b (ro b cnt c i) (ro b cnt c (i + t)) c) := by have hu := ro_ult (b := b) (n := cnt) (c := c) (i := i) (j := i + t) (k := i + 1 + t) (by omega) (by omega) (by omega); omega
          rw [ej] at J
          exact J
        · refine lv_iload hx hb dX0_endingAt_53 (lv_at hl 0 rfl) ?_
          refine lv_goto (tgt := 60) hx hb dX0_endingAt_55 (by decide) ?_
          have ej : (AF b (ro b cnt c i) (ro b cnt c (i + 1 + t)) c) = (AF b (ro b cnt c (i + t)) (ro b cnt c (i + 1 + t)) c) := by have hu := ro_ult (b := b) (n := cnt) (c := c) (i := i) (j := i + t) (k := i + 1 + t) (by omega) (by omega) (by omega); omega
          rw [ej] at J
          exact J
      refine lv_istore (lv' := [(5, .int (nI (AF b (ro b cnt c i) (ro b cnt c (i + 1 + t)) c))), (7, .int (nI (AF b (ro b cnt c (i + t)) (ro b cnt c (i + 1 + t)) c))), (0, .ref h0), (1, .int (nI c)), (2, .int (nI k)), (3, .int (nI (sm (fun i => EAi b cnt c k i (cnt - (i + 1))) i + EAi b cnt c k i t))), (4, .int (nI i)), (6, .int (nI (i + 1 + t)))]) hx hb dX0_endingAt_60 hl (by decide) rfl (fun ls hl => ?_)
      refine lv_aload_n hx hb dX0_endingAt_62 rfl (lv_at hl 2 rfl) ?_
      refine va_get (D := (dC, dI)) (ci := 0) (v := .ref k2) (C := RX0) (T := TX0) (N := 7) hx hb hts in_X0 hown hK hP 0 rfl rfl 3 (by decide) (hts _ q38) (fun _ h9 => h9) rfl dX0_endingAt_63 ?_
      refine lv_bipush (v := nI 8) hx hb dX0_endingAt_66 (by decide) ?_
      refine lv_iload_n hx hb dX0_endingAt_68 rfl (lv_at hl 3 rfl) ?_
      refine hn_mul hx hb dX0_endingAt_69 ?_
      refine lv_iload hx hb dX0_endingAt_70 (lv_at hl 6 rfl) ?_
      refine hn_add hx hb dX0_endingAt_72 ?_
      refine hn_ald hx hb hK hP 2 0 rfl rfl (by omega) (by decide) dX0_endingAt_73 ?_
      refine hn_top (y := nI (ro b cnt c i)) (congrArg nI (hB i hii).1) ?_
      refine lv_istore (lv' := [(8, .int (nI (ro b cnt c i))), (5, .int (nI (AF b (ro b cnt c i) (ro b cnt c (i + 1 + t)) c))), (7, .int (nI (AF b (ro b cnt c (i + t)) (ro b cnt c (i + 1 + t)) c))), (0, .ref h0), (1, .int (nI c)), (2, .int (nI k)), (3, .int (nI (sm (fun i => EAi b cnt c k i (cnt - (i + 1))) i + EAi b cnt c k i t))), (4, .int (nI i)), (6, .int (nI (i + 1 + t)))]) hx hb dX0_endingAt_74 hl (by decide) rfl (fun ls hl => ?_)
      refine lv_aload_n hx hb dX0_endingAt_76 rfl (lv_at hl 3 rfl) ?_
      refine va_get (D := (dC, dI)) (ci := 0) (v := .ref k2) (C := RX0) (T := TX0) (N := 7) hx hb hts in_X0 hown hK hP 0 rfl rfl 3 (by decide) (hts _ q38) (fun _ h9 => h9) rfl dX0_endingAt_77 ?_
      refine lv_bipush (v := nI 8) hx hb dX0_endingAt_80 (by decide) ?_
      refine lv_iload_n hx hb dX0_endingAt_82 rfl (lv_at hl 4 rfl) ?_
      refine hn_mul hx hb dX0_endingAt_83 ?_
      refine lv_iload hx hb dX0_endingAt_84 (lv_at hl 8 rfl) ?_
      refine hn_add hx hb dX0_endingAt_86 ?_
      refine hn_ald hx hb hK hP 2 0 rfl rfl (by omega) (by decide) dX0_endingAt_87 ?_
      refine hn_top (y := nI (ro b cnt c (i + 1 + t))) (congrArg nI (hB (i + 1 + t) (by omega)).1) ?_
      refine lv_istore (lv' := [(9, .int (nI (ro b cnt c (i + 1 + t)))), (8, .int (nI (ro b cnt c i))), (5, .int (nI (AF b (ro b cnt c i) (ro b cnt c (i + 1 + t)) c))), (7, .int (nI (AF b (ro b cnt c (i + t)) (ro b cnt c (i + 1 + t)) c))), (0, .ref h0), (1, .int (nI c)), (2, .int (nI k)), (3, .int (nI (sm (fun i => EAi b cnt c k i (cnt - (i + 1))) i + EAi b cnt c k i t))), (4, .int (nI i)), (6, .int (nI (i + 1 + t)))]) hx hb dX0_endingAt_88 hl (by decide) rfl (fun ls hl => ?_)
      refine lv_iload_n hx hb dX0_endingAt_90 rfl (lv_at hl 5 rfl) ?_
      refine lv_iload hx hb dX0_endingAt_91 (lv_at hl 2 rfl) ?_
      refine hn_sub hx hb dX0_endingAt_93 (AF_le _ _ _ _) ?_
      refine lv_iload_n hx hb dX0_endingAt_94 rfl (lv_at hl 6 rfl) ?_
      refine hn_icmp_lt (tgt := 113) hx hb dX0_endingAt_95 (by decide) (Nat.lt_of_le_of_lt (Nat.sub_le _ _) (by omega)) (by omega) (fun c95 => ?_) (fun c95 => ?_)
      · refine lv_iinc (v := nI ((i + 1 + t) + 1)) (lv' := [(6, .int (nI ((i + 1 + t) + 1))), (9, .int (nI (ro b cnt c (i + 1 + t)))), (8, .int (nI (ro b cnt c i))), (5, .int (nI (AF b (ro b cnt c i) (ro b cnt c (i + 1 + t)) c))), (7, .int (nI (AF b (ro b cnt c (i + t)) (ro b cnt c (i + 1 + t)) c))), (0, .ref h0), (1, .int (nI c)), (2, .int (nI k)), (3, .int (nI (sm (fun i => EAi b cnt c k i (cnt - (i + 1))) i + EAi b cnt c k i t))), (4, .int (nI i))]) hx hb dX0_endingAt_113 hl (k := 9) rfl (nI_1 _) (by decide) rfl (fun ls hl => ?_)
        refine lv_goto (tgt := 23) hx hb dX0_endingAt_116 (by decide) ?_
        have ev3 : (sm (fun i => EAi b cnt c k i (cnt - (i + 1))) i + EAi b cnt c k i (t + 1)) = (sm (fun i => EAi b cnt c k i (cnt - (i + 1))) i + EAi b cnt c k i t) := by show sm (fun i => EAi b cnt c k i (cnt - (i + 1))) i + (EAi b cnt c k i t + bN (PP b c k (ro b cnt c i) (ro b cnt c (i + 1 + t)))) = _; rw [show PP b c k (ro b cnt c i) (ro b cnt c (i + 1 + t)) = false from by unfold PP; rw [decide_eq_false (by omega), Bool.false_and]]; rfl
        have ev5 : (AF b (ro b cnt c i) (ro b cnt c (i + (t + 1))) c) = (AF b (ro b cnt c i) (ro b cnt c (i + 1 + t)) c) := by rw [show i + (t + 1) = i + 1 + t by omega]
        have ev6 : (i + 1 + (t + 1)) = ((i + 1 + t) + 1) := by omega
        have hl : lv_has ls 10 [(0, .ref h0), (1, .int (nI c)), (2, .int (nI k)), (3, .int (nI (sm (fun i => EAi b cnt c k i (cnt - (i + 1))) i + EAi b cnt c k i (t + 1)))), (4, .int (nI i)), (5, .int (nI (AF b (ro b cnt c i) (ro b cnt c (i + (t + 1))) c))), (6, .int (nI (i + 1 + (t + 1))))] := by rw [ev3, ev5, ev6]; exact lv_sub hl [5, 6, 7, 8, 9, 3, 0] rfl
        exact ih23 trivial ls hl
      · refine lv_aload_n hx hb dX0_endingAt_98 rfl (lv_at hl 4 rfl) ?_
        refine lv_iload hx hb dX0_endingAt_99 (lv_at hl 1 rfl) ?_
        refine lv_iload hx hb dX0_endingAt_101 (lv_at hl 0 rfl) ?_
        refine lv_iload_n hx hb dX0_endingAt_103 rfl (lv_at hl 5 rfl) ?_
        refine vp_callSi (W.runV (As := [.int (nI (ro b cnt c i)), .int (nI (ro b cnt c (i + 1 + t))), .int (nI c)]) (rest := []) ⟨hx, hb, hml, hown, hts⟩ (metX0_parts (ro b cnt c i) (ro b cnt c (i + 1 + t)) c (ro_lt8 h8 (by omega)) (ro_lt8 h8 (by omega)) (by omega) hbd) (cwV 3 hts (lw_V q110 q112 qs6 q25 q113) rfl rfl rfl (by decide +kernel) ⟨Nat.le_of_ble_eq_true rfl, Nat.le_of_ble_eq_true rfl⟩) (rd_preX0 hK hP) rfl rfl hl.1 rfl (lv_room (Nat.le_of_ble_eq_true rfl)) dX0_endingAt_104 ⟨Nat.le_of_ble_eq_true rfl, Nat.le_of_ble_eq_true rfl⟩) (fun v hv => ?_)
        subst hv
        refine hn_ifB_eq (tgt := 113) hx hb dX0_endingAt_107 (by decide) (fun c107 => ?_) (fun c107 => ?_)
        · refine lv_iinc (v := nI ((i + 1 + t) + 1)) (lv' := [(6, .int (nI ((i + 1 + t) + 1))), (9, .int (nI (ro b cnt c (i + 1 + t)))), (8, .int (nI (ro b cnt c i))), (5, .int (nI (AF b (ro b cnt c i) (ro b cnt c (i + 1 + t)) c))), (7, .int (nI (AF b (ro b cnt c (i + t)) (ro b cnt c (i + 1 + t)) c))), (0, .ref h0), (1, .int (nI c)), (2, .int (nI k)), (3, .int (nI (sm (fun i => EAi b cnt c k i (cnt - (i + 1))) i + EAi b cnt c k i t))), (4, .int (nI i))]) hx hb dX0_endingAt_113 hl (k := 9) rfl (nI_1 _) (by decide) rfl (fun ls hl => ?_)
          refine lv_goto (tgt := 23) hx hb dX0_endingAt_116 (by decide) ?_
          have ev3 : (sm (fun i => EAi b cnt c k i (cnt - (i + 1))) i + EAi b cnt c k i (t + 1)) = (sm (fun i => EAi b cnt c k i (cnt - (i + 1))) i + EAi b cnt c k i t) := by show sm (fun i => EAi b cnt c k i (cnt - (i + 1))) i + (EAi b cnt c k i t + bN (PP b c k (ro b cnt c i) (ro b cnt c (i + 1 + t)))) = _; rw [show PP b c k (ro b cnt c i) (ro b cnt c (i + 1 + t)) = false from by unfold PP; rw [c107, decide_eq_true c95]; rfl]; rfl
          have ev5 : (AF b (ro b cnt c i) (ro b cnt c (i + (t + 1))) c) = (AF b (ro b cnt c i) (ro b cnt c (i + 1 + t)) c) := by rw [show i + (t + 1) = i + 1 + t by omega]
          have ev6 : (i + 1 + (t + 1)) = ((i + 1 + t) + 1) := by omega
          have hl : lv_has ls 10 [(0, .ref h0), (1, .int (nI c)), (2, .int (nI k)), (3, .int (nI (sm (fun i => EAi b cnt c k i (cnt - (i + 1))) i + EAi b cnt c k i (t + 1)))), (4, .int (nI i)), (5, .int (nI (AF b (ro b cnt c i) (ro b cnt c (i + (t + 1))) c))), (6, .int (nI (i + 1 + (t + 1))))] := by rw [ev3, ev5, ev6]; exact lv_sub hl [5, 6, 7, 8, 9, 3, 0] rfl
          exact ih23 trivial ls hl
        · refine lv_iinc (v := nI ((sm (fun i => EAi b cnt c k i (cnt - (i + 1))) i + EAi b cnt c k i t) + 1)) (lv' := [(3, .int (nI ((sm (fun i => EAi b cnt c k i (cnt - (i + 1))) i + EAi b cnt c k i t) + 1))), (9, .int (nI (ro b cnt c (i + 1 + t)))), (8, .int (nI (ro b cnt c i))), (5, .int (nI (AF b (ro b cnt c i) (ro b cnt c (i + 1 + t)) c))), (7, .int (nI (AF b (ro b cnt c (i + t)) (ro b cnt c (i + 1 + t)) c))), (0, .ref h0), (1, .int (nI c)), (2, .int (nI k)), (4, .int (nI i)), (6, .int (nI (i + 1 + t)))]) hx hb dX0_endingAt_110 hl (k := 7) rfl (nI_1 _) (by decide) rfl (fun ls hl => ?_)
          refine lv_iinc (v := nI ((i + 1 + t) + 1)) (lv' := [(6, .int (nI ((i + 1 + t) + 1))), (3, .int (nI ((sm (fun i => EAi b cnt c k i (cnt - (i + 1))) i + EAi b cnt c k i t) + 1))), (9, .int (nI (ro b cnt c (i + 1 + t)))), (8, .int (nI (ro b cnt c i))), (5, .int (nI (AF b (ro b cnt c i) (ro b cnt c (i + 1 + t)) c))), (7, .int (nI (AF b (ro b cnt c (i + t)) (ro b cnt c (i + 1 + t)) c))), (0, .ref h0), (1, .int (nI c)), (2, .int (nI k)), (4, .int (nI i))]) hx hb dX0_endingAt_113 hl (k := 9) rfl (nI_1 _) (by decide) rfl (fun ls hl => ?_)
          refine lv_goto (tgt := 23) hx hb dX0_endingAt_116 (by decide) ?_
          have ev3 : (sm (fun i => EAi b cnt c k i (cnt - (i + 1))) i + EAi b cnt c k i (t + 1)) = ((sm (fun i => EAi b cnt c k i (cnt - (i + 1))) i + EAi b cnt c k i t) + 1) := by show sm (fun i => EAi b cnt c k i (cnt - (i + 1))) i + (EAi b cnt c k i t + bN (PP b c k (ro b cnt c i) (ro b cnt c (i + 1 + t)))) = _; rw [show PP b c k (ro b cnt c i) (ro b cnt c (i + 1 + t)) = true from by unfold PP; rw [c107, decide_eq_true c95]; rfl]; rfl
          have ev5 : (AF b (ro b cnt c i) (ro b cnt c (i + (t + 1))) c) = (AF b (ro b cnt c i) (ro b cnt c (i + 1 + t)) c) := by rw [show i + (t + 1) = i + 1 + t by omega]
          have ev6 : (i + 1 + (t + 1)) = ((i + 1 + t) + 1) := by omega
          have hl : lv_has ls 10 [(0, .ref h0), (1, .int (nI c)), (2, .int (nI k)), (3, .int (nI (sm (fun i => EAi b cnt c k i (cnt - (i + 1))) i + EAi b cnt c k i (t + 1)))), (4, .int (nI i)), (5, .int (nI (AF b (ro b cnt c i) (ro b cnt c (i + (t + 1))) c))), (6, .int (nI (i + 1 + (t + 1))))] := by rw [ev3, ev5, ev6]; exact lv_sub hl [6, 7, 8, 1, 9, 4, 0] rfl
          exact ih23 trivial ls hl

set_option maxHeartbeats 4000000 in
set_option maxRecDepth 100000 in
theorem metX0_sameBack {l : Launch} {dC : Nat → ClassId} {dI : Nat → Nat → Nat} {h0 k1 k2 k3 k4 k5 : Nat} {d0 : ClassId} {cnt bu : Nat} {b o g n1 n2 : Nat → Nat} (r y c : Nat) (h1 : r < 8) (hy : y < 4096) (hc : c ≤ 12) (hbd : ∀ k, b k < 4096) : Met l yX0_sameBack (ws_ yX0_sameBack cX0_sameBack 6 (some .int)) (rmk 1) (rdP (dC, dI) [(d0, .int)] (XW h0 k1 k2 k3 k4 k5 d0 cnt bu b o g n1 n2) [.ref h0, .int (nI r), .int (nI y), .int (nI c)]) (vp_Si (fun v => v = nI (c - AFv (b r) y c))) 0 0 (fun _ => False) := by
  refine Met.ofW (cc := cX0_sameBack) (maxL := 6) (ret := (some .int)) (by decide) rfl ?_
  intro pP eE sS mM args below meth cC s₁ B hml hv
  obtain ⟨rfl, hP, hK⟩ := hv
  have hx := B.exec
  have hb := B.bytes
  have hret := B.returns
  have hts := atoms_spec (ws := ws_ yX0_sameBack cX0_sameBack 6 (some .int)) B.pre
  have hts : ∀ w ∈ lw_all, w.before _ sS = true := fun w h => hts w (List.mem_cons_of_mem _ h)
  have hown : sS.vm.findClass RX0 = some mM.cls := findClass_of_methodNamed B.named
  have hlocks := B.notSynchronized
  have hl := lv_entry ([.ref h0, .int (nI r), .int (nI y), .int (nI c)]) (n := 6) (Nat.le_of_ble_eq_true rfl)
  rw [lg_entry_eq]
  generalize (lg_sl ([.ref h0, .int (nI r), .int (nI y), .int (nI c)]) ++ List.replicate (6 - (lg_sl ([.ref h0, .int (nI r), .int (nI y), .int (nI c)])).length) Slot.unset).toArray = ls at hl ⊢
  have hl : lv_has ls 6 [(0, .ref h0), (1, .int (nI r)), (2, .int (nI y)), (3, .int (nI c))] := hl
  refine lv_iconst (v := nI 0) hx hb dX0_sameBack_0 (by decide) ?_
  refine lv_istore (lv' := [(4, .int (nI 0)), (0, .ref h0), (1, .int (nI r)), (2, .int (nI y)), (3, .int (nI c))]) hx hb dX0_sameBack_1 hl (by decide) rfl (fun ls hl => ?_)
  refine lv_iload_n hx hb dX0_sameBack_3 rfl (lv_at hl 4 rfl) ?_
  refine lv_iconst (v := nI 1) hx hb dX0_sameBack_4 (by decide) ?_
  refine lv_isub hx hb dX0_sameBack_5 ?_
  refine lv_istore (lv' := [(5, .int ((nI c - nI 1))), (4, .int (nI 0)), (0, .ref h0), (1, .int (nI r)), (2, .int (nI y)), (3, .int (nI c))]) hx hb dX0_sameBack_6 hl (by decide) rfl (fun ls hl => ?_)
  have hl : lv_has ls 6 [(0, .ref h0), (1, .int (nI r)), (2, .int (nI y)), (3, .int (nI c)), (4, .int (nI (c - c))), (5, .int ((nI c - nI 1)))] := by rw [Nat.sub_self]; exact lv_sub hl [2, 3, 4, 5, 1, 0] rfl
  refine W.dn 6 8 (fun kk => [(0, .ref h0), (1, .int (nI r)), (2, .int (nI y)), (3, .int (nI c)), (4, .int (nI (c - kk))), (5, .int ((nI kk - nI 1)))]) (fun kk => kk ≤ c ∧ AFv (b r) y c = AFv (b r) y kk) ?_ ?_ c ⟨Nat.le_refl _, rfl⟩ hl
  · intro hk ls hl
    have hl : lv_has ls 6 [(0, .ref h0), (1, .int (nI r)), (2, .int (nI y)), (3, .int (nI c)), (4, .int (nI (c - 0))), (5, .int ((nI 0 - nI 1)))] := hl
    have hk : 0 ≤ c ∧ AFv (b r) y c = AFv (b r) y 0 := hk
    obtain ⟨hk1, hk2⟩ := hk
    refine lv_iload hx hb dX0_sameBack_8 (lv_at hl 5 rfl) ?_
    refine hz_if_lt (tgt := 38) hx hb dX0_sameBack_10 (by decide) (fun c10 => ?_) (fun c10 => absurd c10 (by decide))
    refine lv_iload hx hb dX0_sameBack_38 (lv_at hl 4 rfl) ?_
    have er : (c - 0) = (c - AFv (b r) y c) := by rw [hk2]; rfl
    exact W.iret (v := nI (c - 0)) hx hb hret (fun t ht hW => ⟨nI (c - 0), rfl, congrArg nI er, ht⟩) (fun _ h => by cases h) dX0_sameBack_40
  · intro kk hk ih8 ls hl
    have hl : lv_has ls 6 [(0, .ref h0), (1, .int (nI r)), (2, .int (nI y)), (3, .int (nI c)), (4, .int (nI (c - (kk + 1)))), (5, .int ((nI (kk + 1) - nI 1)))] := hl
    have hk : (kk + 1) ≤ c ∧ AFv (b r) y c = AFv (b r) y (kk + 1) := hk
    have hl : lv_has ls 6 [(0, .ref h0), (1, .int (nI r)), (2, .int (nI y)), (3, .int (nI c)), (4, .int (nI (c - (kk + 1)))), (5, .int (nI kk))] := by rw [← hn_p1 kk]; exact hl
    obtain ⟨hk1, hk2⟩ := hk
    refine lv_iload hx hb dX0_sameBack_8 (lv_at hl 5 rfl) ?_
    refine hn_if_lt (tgt := 38) hx hb dX0_sameBack_10 (by decide) (by omega) ?_
    refine lv_aload_n hx hb dX0_sameBack_13 rfl (lv_at hl 0 rfl) ?_
    refine lv_iload_n hx hb dX0_sameBack_14 rfl (lv_at hl 1 rfl) ?_
    refine lv_iload hx hb dX0_sameBack_15 (lv_at hl 5 rfl) ?_
    refine vp_callSi (W.runV (As := [.int (nI r), .int (nI kk)]) (rest := []) ⟨hx, hb, hml, hown, hts⟩ (metX0_at r kk (by omega) (by omega) hbd) (cwV 2 hts (lw_V q74 q76 qs1 q25 q77) rfl rfl rfl (by decide +kernel) ⟨Nat.le_of_ble_eq_true rfl, Nat.le_of_ble_eq_true rfl⟩) (rd_preX0 hK hP) rfl rfl hl.1 rfl (lv_room (Nat.le_of_ble_eq_true rfl)) dX0_sameBack_17 ⟨Nat.le_of_ble_eq_true rfl, Nat.le_of_ble_eq_true rfl⟩) (fun v hv => ?_)
    subst hv
    refine lv_iload_n hx hb dX0_sameBack_20 rfl (lv_at hl 2 rfl) ?_
    refine lv_iload hx hb dX0_sameBack_21 (lv_at hl 5 rfl) ?_
    refine hn_shr hx hb dX0_sameBack_23 (by omega) (by omega) ?_
    refine lv_iconst (v := nI 1) hx hb dX0_sameBack_24 (by decide) ?_
    refine hn_and1 hx hb dX0_sameBack_25 (Nat.lt_of_le_of_lt (Nat.div_le_self _ _) (by omega)) ?_
    refine hn_top (y := nI (bitN y kk)) rfl ?_
    refine hn_icmp_ne (tgt := 38) hx hb dX0_sameBack_26 (by decide) (Nat.lt_trans (bitN_lt _ _) (by decide)) (Nat.lt_trans (bitN_lt _ _) (by decide)) (fun c26 => ?_) (fun c26 => ?_)
    · refine lv_iload hx hb dX0_sameBack_38 (lv_at hl 4 rfl) ?_
      have er : (c - (kk + 1)) = (c - AFv (b r) y c) := by rw [hk2, AFv_ne c26]
      exact W.iret (v := nI (c - (kk + 1))) hx hb hret (fun t ht hW => ⟨nI (c - (kk + 1)), rfl, congrArg nI er, ht⟩) (fun _ h => by cases h) dX0_sameBack_40
    · refine lv_iinc (v := nI ((c - (kk + 1)) + 1)) (lv' := [(4, .int (nI ((c - (kk + 1)) + 1))), (0, .ref h0), (1, .int (nI r)), (2, .int (nI y)), (3, .int (nI c)), (5, .int (nI kk))]) hx hb dX0_sameBack_29 hl (k := 4) rfl (nI_1 _) (by decide) rfl (fun ls hl => ?_)
      refine lv_iinc (v := (nI kk - 1)) (lv' := [(5, .int ((nI kk - 1))), (4, .int (nI ((c - (kk + 1)) + 1))), (0, .ref h0), (1, .int (nI r)), (2, .int (nI y)), (3, .int (nI c))]) hx hb dX0_sameBack_32 hl (k := 5) rfl (hn_m1 _) (by decide) rfl (fun ls hl => ?_)
      refine lv_goto (tgt := 8) hx hb dX0_sameBack_35 (by decide) ?_
      have ev4 : (c - kk) = ((c - (kk + 1)) + 1) := by omega
      have ev5 : (nI kk - nI 1) = (nI kk - 1) := by first | rfl | omega
      have hl : lv_has ls 6 [(0, .ref h0), (1, .int (nI r)), (2, .int (nI y)), (3, .int (nI c)), (4, .int (nI (c - kk))), (5, .int ((nI kk - nI 1)))] := by rw [ev4, ev5]; exact lv_sub hl [2, 3, 4, 5, 1, 0] rfl
      exact ih8 ⟨by omega, by rw [hk2, AFv_eq c26]⟩ ls hl

set_option maxHeartbeats 4000000 in
set_option maxRecDepth 100000 in
theorem metX0_isBefore {l : Launch} {dC : Nat → ClassId} {dI : Nat → Nat → Nat} {h0 k1 k2 k3 k4 k5 : Nat} {d0 : ClassId} {cnt bu : Nat} {b o g n1 n2 : Nat → Nat} (r y c : Nat) (h1 : r < 8) (hy : y < 4096) (hc : c ≤ 12) (hbd : ∀ k, b k < 4096) : Met l yX0_isBefore (ws_ yX0_isBefore cX0_isBefore 5 (some .boolean)) (rmk 2) (rdP (dC, dI) [(d0, .int)] (XW h0 k1 k2 k3 k4 k5 d0 cnt bu b o g n1 n2) [.ref h0, .int (nI r), .int (nI y), .int (nI c)]) (vp_Si (fun v => v = nI (bN (LTv (b r) y c)))) 0 0 (fun _ => False) := by
  refine Met.ofW (cc := cX0_isBefore) (maxL := 5) (ret := (some .boolean)) (by decide) rfl ?_
  intro pP eE sS mM args below meth cC s₁ B hml hv
  obtain ⟨rfl, hP, hK⟩ := hv
  have hx := B.exec
  have hb := B.bytes
  have hret := B.returns
  have hts := atoms_spec (ws := ws_ yX0_isBefore cX0_isBefore 5 (some .boolean)) B.pre
  have hts : ∀ w ∈ lw_all, w.before _ sS = true := fun w h => hts w (List.mem_cons_of_mem _ h)
  have hown : sS.vm.findClass RX0 = some mM.cls := findClass_of_methodNamed B.named
  have hlocks := B.notSynchronized
  have hl := lv_entry ([.ref h0, .int (nI r), .int (nI y), .int (nI c)]) (n := 5) (Nat.le_of_ble_eq_true rfl)
  rw [lg_entry_eq]
  generalize (lg_sl ([.ref h0, .int (nI r), .int (nI y), .int (nI c)]) ++ List.replicate (5 - (lg_sl ([.ref h0, .int (nI r), .int (nI y), .int (nI c)])).length) Slot.unset).toArray = ls at hl ⊢
  have hl : lv_has ls 5 [(0, .ref h0), (1, .int (nI r)), (2, .int (nI y)), (3, .int (nI c))] := hl
  have q1 := AFv_le (b r) y c
  refine lv_aload_n hx hb dX0_isBefore_0 rfl (lv_at hl 0 rfl) ?_
  refine lv_iload_n hx hb dX0_isBefore_1 rfl (lv_at hl 1 rfl) ?_
  refine lv_iload_n hx hb dX0_isBefore_2 rfl (lv_at hl 2 rfl) ?_
  refine lv_iload_n hx hb dX0_isBefore_3 rfl (lv_at hl 3 rfl) ?_
  refine vp_callSi (W.runV (As := [.int (nI r), .int (nI y), .int (nI c)]) (rest := []) ⟨hx, hb, hml, hown, hts⟩ (metX0_sameBack r y c (by omega) (by omega) (by omega) hbd) (cwV 3 hts (lw_V q158 q160 qs12 q25 q161) rfl rfl rfl (by decide +kernel) ⟨Nat.le_of_ble_eq_true rfl, Nat.le_of_ble_eq_true rfl⟩) (rd_preX0 hK hP) rfl rfl hl.1 rfl (lv_room (Nat.le_of_ble_eq_true rfl)) dX0_isBefore_4 ⟨Nat.le_of_ble_eq_true rfl, Nat.le_of_ble_eq_true rfl⟩) (fun v hv => ?_)
  subst hv
  refine lv_istore (lv' := [(4, .int (nI (c - AFv (b r) y c))), (0, .ref h0), (1, .int (nI r)), (2, .int (nI y)), (3, .int (nI c))]) hx hb dX0_isBefore_7 hl (by decide) rfl (fun ls hl => ?_)
  refine lv_iload hx hb dX0_isBefore_9 (lv_at hl 0 rfl) ?_
  refine lv_iload_n hx hb dX0_isBefore_11 rfl (lv_at hl 4 rfl) ?_
  refine hn_icmp_ge (tgt := 33) hx hb dX0_isBefore_12 (by decide) (by omega) (by omega) (fun c12 => ?_) (fun c12 => ?_)
  · refine lv_iconst (v := nI 0) hx hb dX0_isBefore_33 (by decide) ?_
    have er : 0 = (bN (LTv (b r) y c)) := by have q9 : AFv (b r) y c = 0 := (by omega); rw [LTv_af]; simp [bN, q9]
    exact W.zret (v := nI 0) hx hb hret rfl (fun t ht hW => ⟨nI 0, rfl, congrArg nI er, ht⟩) (fun _ h => by cases h) dX0_isBefore_34
  · refine lv_aload_n hx hb dX0_isBefore_15 rfl (lv_at hl 1 rfl) ?_
    refine lv_iload_n hx hb dX0_isBefore_16 rfl (lv_at hl 2 rfl) ?_
    refine lv_iload_n hx hb dX0_isBefore_17 rfl (lv_at hl 4 rfl) ?_
    refine lv_iconst (v := nI 1) hx hb dX0_isBefore_18 (by decide) ?_
    refine hn_sub hx hb dX0_isBefore_19 (by omega) ?_
    refine lv_iload hx hb dX0_isBefore_20 (lv_at hl 0 rfl) ?_
    refine hn_sub hx hb dX0_isBefore_22 (by omega) ?_
    refine hn_top (y := nI (AFv (b r) y c - 1)) (congrArg nI (by omega)) ?_
    refine vp_callSi (W.runV (As := [.int (nI r), .int (nI (AFv (b r) y c - 1))]) (rest := []) ⟨hx, hb, hml, hown, hts⟩ (metX0_at r (AFv (b r) y c - 1) (by omega) (by omega) hbd) (cwV 2 hts (lw_V q74 q76 qs1 q25 q77) rfl rfl rfl (by decide +kernel) ⟨Nat.le_of_ble_eq_true rfl, Nat.le_of_ble_eq_true rfl⟩) (rd_preX0 hK hP) rfl rfl hl.1 rfl (lv_room (Nat.le_of_ble_eq_true rfl)) dX0_isBefore_23 ⟨Nat.le_of_ble_eq_true rfl, Nat.le_of_ble_eq_true rfl⟩) (fun v hv => ?_)
    subst hv
    refine hn_if_ne (tgt := 33) hx hb dX0_isBefore_26 (by decide) (Nat.lt_trans (bitN_lt _ _) (by decide)) (fun c26 => ?_) (fun c26 => ?_)
    · refine lv_iconst (v := nI 0) hx hb dX0_isBefore_33 (by decide) ?_
      have er : 0 = (bN (LTv (b r) y c)) := by have q9 : 0 < AFv (b r) y c := (by omega); rw [LTv_af]; simp [bN, c26, q9]
      exact W.zret (v := nI 0) hx hb hret rfl (fun t ht hW => ⟨nI 0, rfl, congrArg nI er, ht⟩) (fun _ h => by cases h) dX0_isBefore_34
    · refine lv_iconst (v := nI 1) hx hb dX0_isBefore_29 (by decide) ?_
      refine lv_goto (tgt := 34) hx hb dX0_isBefore_30 (by decide) ?_
      have er : 1 = (bN (LTv (b r) y c)) := by have q9 : 0 < AFv (b r) y c := (by omega); rw [LTv_af]; simp [bN, c26, q9]
      exact W.zret (v := nI 1) hx hb hret rfl (fun t ht hW => ⟨nI 1, rfl, congrArg nI er, ht⟩) (fun _ h => by cases h) dX0_isBefore_34
end
section
/-! PURE: what the model's methods answer -/
theorem ps_ro {b : Nat → Nat} {n c i : Nat} (hi : i < n) : ps b n c (ro b n c i) = i := by
  unfold ps
  rw [cN_range, ← (hLS_perm b n c).countP_eq]
  have key : ∀ (l : List Nat) (j : Nat) (h : j < l.length), l.Pairwise (fun x y => LTb b x y c = true) → l.countP (fun q => decide (q ≠ l[j]) && LTb b q l[j] c) = j := by
    intro l
    induction l with
    | nil => intro j h; simp at h
    | cons x t ih =>
      intro j h hp
      obtain ⟨h1, h2⟩ := List.pairwise_cons.mp hp
      cases j with
      | zero =>
        rw [List.countP_eq_zero]
        intro q hq
        simp only [List.getElem_cons_zero]
        rcases List.mem_cons.mp hq with z | z
        · rw [z]; simp
        · rw [LTb_asym (h1 q z), Bool.and_false]; simp
      | succ j =>
        have hj : j < t.length := by simpa using h
        simp only [List.getElem_cons_succ]
        rw [List.countP_cons, ih j hj h2]
        have hx := h1 t[j] (List.getElem_mem hj)
        have hne : x ≠ t[j] := fun z => by rw [← z, LTb_irr] at hx; cases hx
        simp [hx, hne]
  have hl : i < (hLS b n c).length := by rw [hLS_len]; exact hi
  have := key (hLS b n c) i hl (hLS_sorted b n c)
  rw [ro_get] at this
  exact this
def rA (b : Nat → Nat) (n c : Nat) (y : Int32) : Int32 := if inRow n y = true then nI (ro b n c y.toInt.toNat) else -4
theorem rA_ok {b : Nat → Nat} {n c i : Nat} (hi : i < n) (h8 : n ≤ 8) : rA b n c (nI i) = nI (ro b n c i) := by
  unfold rA
  rw [if_pos (inRow_n hi (by omega)), hz_t (by omega)]
  rfl
theorem rA_hit {b : Nat → Nat} {n c r : Nat} {y : Int32} (hr : r < n) (h : ((cN (fun q => decide (q ≠ r) && LTb b q r c) n : Nat) : Int) = y.toInt) : nI r = rA b n c y := by
  have h : ((ps b n c r : Nat) : Int) = y.toInt := h
  obtain ⟨i, hi, e⟩ := ro_sur (b := b) (c := c) hr
  rw [← e, ps_ro hi] at h
  unfold rA
  rw [if_pos (show inRow n y = true from decide_eq_true (by omega)), ← h]
  show _ = nI (ro b n c i)
  rw [e]
theorem rA_none {b : Nat → Nat} {n c : Nat} {y : Int32} (h : ∀ q, q < n → ((ps b n c q : Nat) : Int) ≠ y.toInt) : (-4 : Int32) = rA b n c y := by
  unfold rA
  rw [if_neg]
  intro z
  have z1 := of_decide_eq_true z
  have hi : y.toInt.toNat < n := by omega
  refine h (ro b n c y.toInt.toNat) (ro_lt hi) ?_
  rw [ps_ro hi]
  omega
theorem rA_ord {b : Nat → Nat} {n c : Nat} {y : Int32} (hc : c ≤ 12) : rA b n c y = S_ord n b (nI c) y := by
  unfold rA S_ord
  rw [inCol_n hc, hz_t (by omega)]
  simp
theorem m4_neg : (-4 : Int32).toInt < 0 := by decide
theorem S_ord_nn {b : Nat → Nat} {n : Nat} {x y : Int32} (h : 0 ≤ (S_ord n b x y).toInt) : inCol x = true ∧ inRow n y = true := by
  apply Classical.byContradiction
  intro z
  unfold S_ord at h
  rw [if_neg z] at h
  exact absurd h (by decide)
theorem S_sin_bad {b : Nat → Nat} {n : Nat} {x y : Int32} (h8 : n ≤ 8) (h : (S_ord n b x y).toInt < 0) : S_sin n b x y = -4 := by
  unfold S_sin
  rw [if_neg]
  intro z
  obtain ⟨c, hc, rfl⟩ := inCol_of z.1
  obtain ⟨i, hi, hi2, rfl⟩ := inRow_of z.2
  rw [S_ord_ok hc hi h8, hz_t (Nat.lt_trans (ro_lt8 h8 hi) (by decide))] at h
  omega
theorem hz_e : ∀ a, a < 12 → ∀ e, e < 12 → ((nI e - nI a) + nI 1).toInt = (e : Int) - a + 1 := by decide +kernel
theorem hz_bT {a e k : Nat} (h1 : a < 12) (h2 : e < 12) (h : ((nI e - nI a) + nI 1).toInt < (k : Int)) : ¬ a + k ≤ e + 1 := by
  rw [hz_e a h1 e h2] at h
  omega
theorem hz_bF {a e k : Nat} (h1 : a < 12) (h2 : e < 12) (h : (k : Int) ≤ ((nI e - nI a) + nI 1).toInt) : a + k ≤ e + 1 := by
  rw [hz_e a h1 e h2] at h
  omega
theorem mx_K {f : Nat → Nat} {B k : Nat} (h : ∀ i, i < k → f i ≤ B) : mx f k ≤ B := (mx_leI f B k).mpr h
theorem lon_le {b : Nat → Nat} {r s t : Nat} (h : t < 12) : mx (fun c => c + 1 - AF b r s (c + 1)) t < 2147483648 := Nat.lt_of_le_of_lt (mx_K (B := 12) (fun i hi => by omega)) (by decide)
def bt2 (b : Nat → Nat) (r a e t : Nat) : Bool := (decide (0 < a) && AGb b r t (a - 1) e) || (decide (e < 11) && AGb b r t a (e + 1))
theorem HQ_x {b : Nat → Nat} {a k y r : Nat} : ((b r / 2 ^ a) ^^^ y) % 2 ^ k = 0 ↔ b r / 2 ^ a % 2 ^ k = y % 2 ^ k := by
  rw [Nat.xor_mod_two_pow]
  constructor
  · intro h
    apply Nat.eq_of_testBit_eq
    intro i
    have h1 := congrArg (fun z => z.testBit i) h
    simp only [Nat.testBit_xor, Nat.zero_testBit] at h1
    revert h1
    cases (b r / 2 ^ a % 2 ^ k).testBit i <;> cases (y % 2 ^ k).testBit i <;> simp
  · intro h
    rw [h, Nat.xor_self]
theorem hn_2k : ∀ {k : Nat}, k ≤ 12 → 2 ^ k - 1 < 4294967296 := by
  intro k h
  have := Nat.pow_le_pow_right (n := 2) (by decide) h
  omega
theorem hn_2p (k : Nat) : 1 ≤ 2 ^ k := Nat.one_le_two_pow
def S_matM (n : Nat) (b : Nat → Nat) (x : Int32) : Int32 := if 1 ≤ x.toInt ∧ x.toInt ≤ 12 then nI (MM b n x.toInt.toNat) else -1
def S_winM (n : Nat) (b : Nat → Nat) (x : Int32) : Int32 := if inRow n x = true then nI (MWn b n x.toInt.toNat) else -4
def S_covM (n : Nat) (b : Nat → Nat) (x : Int32) : Int32 := if inRow n x = true then nI (sm (fun c => WO b n x.toInt.toNat c) 12) else -4
def S_kinM (n : Nat) (b : Nat → Nat) (x y : Int32) : Int32 := if 0 ≤ x.toInt ∧ y.toInt ≤ 11 ∧ x.toInt ≤ y.toInt then nI (KM b x.toInt.toNat y.toInt.toNat n) else -1
theorem S_matM_ok {n : Nat} {b : Nat → Nat} {k : Nat} (h1 : 1 ≤ k) (h2 : k ≤ 12) : S_matM n b (nI k) = nI (MM b n k) := by
  unfold S_matM
  rw [hz_t (by omega), if_pos (by omega)]
  rfl
theorem S_winM_ok {n : Nat} {b : Nat → Nat} {r : Nat} (hr : r < n) (h8 : n ≤ 8) : S_winM n b (nI r) = nI (MWn b n r) := by
  unfold S_winM
  rw [if_pos (inRow_n hr (by omega)), hz_t (by omega)]
  rfl
theorem S_covM_ok {n : Nat} {b : Nat → Nat} {r : Nat} (hr : r < n) (h8 : n ≤ 8) : S_covM n b (nI r) = nI (sm (fun c => WO b n r c) 12) := by
  unfold S_covM
  rw [if_pos (inRow_n hr (by omega)), hz_t (by omega)]
  rfl
theorem S_kinM_ok {n : Nat} {b : Nat → Nat} {a e : Nat} (h1 : a ≤ e) (h2 : e ≤ 11) : S_kinM n b (nI a) (nI e) = nI (KM b a e n) := by
  unfold S_kinM
  rw [hz_t (by omega), hz_t (by omega), if_pos (by omega)]
  rfl
theorem if_rowF {α : Type} {n : Nat} {x : Int32} (h : inRow n x = false) (u v : α) : (if inRow n x = true then u else v) = v := if_neg (by rw [h]; decide)
theorem S_hav_bad {n : Nat} {b : Nat → Nat} {x y z : Int32} (h1 : 0 ≤ y.toInt) (h2 : y.toInt ≤ ((12 : Nat) : Int)) (h3 : inCol x = true) (h4 : ((12 : Nat) : Int) < (x + y).toInt) : (-1 : Int32) = S_hav n b x y z := by
  obtain ⟨a, ha, rfl⟩ := inCol_of h3
  obtain ⟨k, hk, rfl, ek⟩ := hz_of h1
  rw [hz_t hk] at h2
  rw [nI_add, hz_t (by omega)] at h4
  unfold S_hav
  rw [hz_t (by omega), hz_t hk, if_neg (by omega)]
end
section
set_option maxHeartbeats 4000000 in
set_option maxRecDepth 100000 in
theorem metX1_isRow {l : Launch} {dC : Nat → ClassId} {dI : Nat → Nat → Nat} {h0 k1 : Nat} {d0 : ClassId} {cnt : Nat} {b : Nat → Nat} (p0 : Int32) (h8 : cnt ≤ 8) : Met l yX1_isRow (ws_ yX1_isRow cX1_isRow 2 (some .boolean)) (rmk 0) (rdP (dC, dI) [(d0, .int)] (MW h0 k1 d0 cnt b) [.ref h0, .int p0]) (vp_Si (fun v => v = nI (bN (inRow cnt p0)))) 0 0 (fun _ => False) := by
  refine Met.ofW (cc := cX1_isRow) (maxL := 2) (ret := (some .boolean)) (by decide) rfl ?_
  intro pP eE sS mM args below meth cC s₁ B hml hv
  obtain ⟨rfl, hP, hK⟩ := hv
  have hx := B.exec
  have hb := B.bytes
  have hret := B.returns
  have hts := atoms_spec (ws := ws_ yX1_isRow cX1_isRow 2 (some .boolean)) B.pre
  have hts : ∀ w ∈ lw_all, w.before _ sS = true := fun w h => hts w (List.mem_cons_of_mem _ h)
  have hown : sS.vm.findClass RX1 = some mM.cls := findClass_of_methodNamed B.named
  have hlocks := B.notSynchronized
  have hl := lv_entry ([.ref h0, .int p0]) (n := 2) (Nat.le_of_ble_eq_true rfl)
  rw [lg_entry_eq]
  generalize (lg_sl ([.ref h0, .int p0]) ++ List.replicate (2 - (lg_sl ([.ref h0, .int p0])).length) Slot.unset).toArray = ls at hl ⊢
  have hl : lv_has ls 2 [(0, .ref h0), (1, .int p0)] := hl
  refine lv_iload_n hx hb dX1_isRow_0 rfl (lv_at hl 1 rfl) ?_
  refine hz_if_lt (tgt := 16) hx hb dX1_isRow_1 (by decide) (fun c1 => ?_) (fun c1 => ?_)
  · refine lv_iconst (v := nI 0) hx hb dX1_isRow_16 (by decide) ?_
    have er : 0 = (bN (inRow cnt p0)) := by rw [show inRow cnt p0 = false from decide_eq_false (by omega)]; rfl
    exact W.zret (v := nI 0) hx hb hret rfl (fun t ht hW => ⟨nI 0, rfl, congrArg nI er, ht⟩) (fun _ h => by cases h) dX1_isRow_17
  · refine lv_iload_n hx hb dX1_isRow_4 rfl (lv_at hl 1 rfl) ?_
    refine lv_aload_n hx hb dX1_isRow_5 rfl (lv_at hl 0 rfl) ?_
    refine va_get (D := (dC, dI)) (ci := 1) (v := .int (nI cnt)) (C := RX1) (T := TX1) (N := 2) hx hb hts in_X1 hown hK hP 0 rfl rfl 1 (by decide) (hts _ q169) (fun _ h9 => h9) rfl dX1_isRow_6 ?_
    refine hz_icmp_ge (tgt := 16) hx hb dX1_isRow_9 (by decide) (fun c9 => ?_) (fun c9 => ?_)
    · rw [hz_t (k := cnt) (by omega)] at c9
      refine lv_iconst (v := nI 0) hx hb dX1_isRow_16 (by decide) ?_
      have er : 0 = (bN (inRow cnt p0)) := by rw [show inRow cnt p0 = false from decide_eq_false (by omega)]; rfl
      exact W.zret (v := nI 0) hx hb hret rfl (fun t ht hW => ⟨nI 0, rfl, congrArg nI er, ht⟩) (fun _ h => by cases h) dX1_isRow_17
    · rw [hz_t (k := cnt) (by omega)] at c9
      refine lv_iconst (v := nI 1) hx hb dX1_isRow_12 (by decide) ?_
      refine lv_goto (tgt := 17) hx hb dX1_isRow_13 (by decide) ?_
      have er : 1 = (bN (inRow cnt p0)) := by rw [show inRow cnt p0 = true from decide_eq_true (by omega)]; rfl
      exact W.zret (v := nI 1) hx hb hret rfl (fun t ht hW => ⟨nI 1, rfl, congrArg nI er, ht⟩) (fun _ h => by cases h) dX1_isRow_17

set_option maxHeartbeats 4000000 in
set_option maxRecDepth 100000 in
theorem metX1_isBits {l : Launch} {dC : Nat → ClassId} {dI : Nat → Nat → Nat} {h0 k1 : Nat} {d0 : ClassId} {cnt : Nat} {b : Nat → Nat} (p0 : Int32)  : Met l yX1_isBits (ws_ yX1_isBits cX1_isBits 2 (some .boolean)) (rmk 0) (rdP (dC, dI) [(d0, .int)] (MW h0 k1 d0 cnt b) [.ref h0, .int p0]) (vp_Si (fun v => v = nI (bN (inBits p0)))) 0 0 (fun _ => False) := by
  refine Met.ofW (cc := cX1_isBits) (maxL := 2) (ret := (some .boolean)) (by decide) rfl ?_
  intro pP eE sS mM args below meth cC s₁ B hml hv
  obtain ⟨rfl, hP, hK⟩ := hv
  have hx := B.exec
  have hb := B.bytes
  have hret := B.returns
  have hts := atoms_spec (ws := ws_ yX1_isBits cX1_isBits 2 (some .boolean)) B.pre
  have hts : ∀ w ∈ lw_all, w.before _ sS = true := fun w h => hts w (List.mem_cons_of_mem _ h)
  have hown : sS.vm.findClass RX1 = some mM.cls := findClass_of_methodNamed B.named
  have hlocks := B.notSynchronized
  have hl := lv_entry ([.ref h0, .int p0]) (n := 2) (Nat.le_of_ble_eq_true rfl)
  rw [lg_entry_eq]
  generalize (lg_sl ([.ref h0, .int p0]) ++ List.replicate (2 - (lg_sl ([.ref h0, .int p0])).length) Slot.unset).toArray = ls at hl ⊢
  have hl : lv_has ls 2 [(0, .ref h0), (1, .int p0)] := hl
  refine lv_iload_n hx hb dX1_isBits_0 rfl (lv_at hl 1 rfl) ?_
  refine hz_if_lt (tgt := 15) hx hb dX1_isBits_1 (by decide) (fun c1 => ?_) (fun c1 => ?_)
  · refine lv_iconst (v := nI 0) hx hb dX1_isBits_15 (by decide) ?_
    have er : 0 = (bN (inBits p0)) := by rw [show inBits p0 = false from decide_eq_false (by omega)]; rfl
    exact W.zret (v := nI 0) hx hb hret rfl (fun t ht hW => ⟨nI 0, rfl, congrArg nI er, ht⟩) (fun _ h => by cases h) dX1_isBits_16
  · refine lv_iload_n hx hb dX1_isBits_4 rfl (lv_at hl 1 rfl) ?_
    refine lv_sipush (v := nI 4095) hx hb dX1_isBits_5 (by decide) ?_
    refine hz_icmp_gt (tgt := 15) hx hb dX1_isBits_8 (by decide) (fun c8 => ?_) (fun c8 => ?_)
    · rw [hz_t (k := 4095) (by omega)] at c8
      refine lv_iconst (v := nI 0) hx hb dX1_isBits_15 (by decide) ?_
      have er : 0 = (bN (inBits p0)) := by rw [show inBits p0 = false from decide_eq_false (by omega)]; rfl
      exact W.zret (v := nI 0) hx hb hret rfl (fun t ht hW => ⟨nI 0, rfl, congrArg nI er, ht⟩) (fun _ h => by cases h) dX1_isBits_16
    · rw [hz_t (k := 4095) (by omega)] at c8
      refine lv_iconst (v := nI 1) hx hb dX1_isBits_11 (by decide) ?_
      refine lv_goto (tgt := 16) hx hb dX1_isBits_12 (by decide) ?_
      have er : 1 = (bN (inBits p0)) := by rw [show inBits p0 = true from decide_eq_true (by omega)]; rfl
      exact W.zret (v := nI 1) hx hb hret rfl (fun t ht hW => ⟨nI 1, rfl, congrArg nI er, ht⟩) (fun _ h => by cases h) dX1_isBits_16

set_option maxHeartbeats 4000000 in
set_option maxRecDepth 100000 in
theorem metX1_isColumn {l : Launch} {dC : Nat → ClassId} {dI : Nat → Nat → Nat} {h0 k1 : Nat} {d0 : ClassId} {cnt : Nat} {b : Nat → Nat} (p0 : Int32)  : Met l yX1_isColumn (ws_ yX1_isColumn cX1_isColumn 2 (some .boolean)) (rmk 0) (rdP (dC, dI) [(d0, .int)] (MW h0 k1 d0 cnt b) [.ref h0, .int p0]) (vp_Si (fun v => v = nI (bN (inCol p0)))) 0 0 (fun _ => False) := by
  refine Met.ofW (cc := cX1_isColumn) (maxL := 2) (ret := (some .boolean)) (by decide) rfl ?_
  intro pP eE sS mM args below meth cC s₁ B hml hv
  obtain ⟨rfl, hP, hK⟩ := hv
  have hx := B.exec
  have hb := B.bytes
  have hret := B.returns
  have hts := atoms_spec (ws := ws_ yX1_isColumn cX1_isColumn 2 (some .boolean)) B.pre
  have hts : ∀ w ∈ lw_all, w.before _ sS = true := fun w h => hts w (List.mem_cons_of_mem _ h)
  have hown : sS.vm.findClass RX1 = some mM.cls := findClass_of_methodNamed B.named
  have hlocks := B.notSynchronized
  have hl := lv_entry ([.ref h0, .int p0]) (n := 2) (Nat.le_of_ble_eq_true rfl)
  rw [lg_entry_eq]
  generalize (lg_sl ([.ref h0, .int p0]) ++ List.replicate (2 - (lg_sl ([.ref h0, .int p0])).length) Slot.unset).toArray = ls at hl ⊢
  have hl : lv_has ls 2 [(0, .ref h0), (1, .int p0)] := hl
  refine lv_iload_n hx hb dX1_isColumn_0 rfl (lv_at hl 1 rfl) ?_
  refine hz_if_lt (tgt := 14) hx hb dX1_isColumn_1 (by decide) (fun c1 => ?_) (fun c1 => ?_)
  · refine lv_iconst (v := nI 0) hx hb dX1_isColumn_14 (by decide) ?_
    have er : 0 = (bN (inCol p0)) := by rw [show inCol p0 = false from decide_eq_false (by omega)]; rfl
    exact W.zret (v := nI 0) hx hb hret rfl (fun t ht hW => ⟨nI 0, rfl, congrArg nI er, ht⟩) (fun _ h => by cases h) dX1_isColumn_15
  · refine lv_iload_n hx hb dX1_isColumn_4 rfl (lv_at hl 1 rfl) ?_
    refine lv_bipush (v := nI 12) hx hb dX1_isColumn_5 (by decide) ?_
    refine hz_icmp_gt (tgt := 14) hx hb dX1_isColumn_7 (by decide) (fun c7 => ?_) (fun c7 => ?_)
    · rw [hz_t (k := 12) (by omega)] at c7
      refine lv_iconst (v := nI 0) hx hb dX1_isColumn_14 (by decide) ?_
      have er : 0 = (bN (inCol p0)) := by rw [show inCol p0 = false from decide_eq_false (by omega)]; rfl
      exact W.zret (v := nI 0) hx hb hret rfl (fun t ht hW => ⟨nI 0, rfl, congrArg nI er, ht⟩) (fun _ h => by cases h) dX1_isColumn_15
    · rw [hz_t (k := 12) (by omega)] at c7
      refine lv_iconst (v := nI 1) hx hb dX1_isColumn_10 (by decide) ?_
      refine lv_goto (tgt := 15) hx hb dX1_isColumn_11 (by decide) ?_
      have er : 1 = (bN (inCol p0)) := by rw [show inCol p0 = true from decide_eq_true (by omega)]; rfl
      exact W.zret (v := nI 1) hx hb hret rfl (fun t ht hW => ⟨nI 1, rfl, congrArg nI er, ht⟩) (fun _ h => by cases h) dX1_isColumn_15

set_option maxHeartbeats 4000000 in
set_option maxRecDepth 100000 in
theorem metX1_rows {l : Launch} {dC : Nat → ClassId} {dI : Nat → Nat → Nat} {h0 k1 : Nat} {d0 : ClassId} {cnt : Nat} {b : Nat → Nat}   : Met l yX1_rows (ws_ yX1_rows cX1_rows 1 (some .int)) (rmk 0) (rdP (dC, dI) [(d0, .int)] (MW h0 k1 d0 cnt b) [.ref h0]) (vp_Si (fun v => v = nI cnt)) 0 0 (fun _ => False) := by
  refine Met.ofW (cc := cX1_rows) (maxL := 1) (ret := (some .int)) (by decide) rfl ?_
  intro pP eE sS mM args below meth cC s₁ B hml hv
  obtain ⟨rfl, hP, hK⟩ := hv
  have hx := B.exec
  have hb := B.bytes
  have hret := B.returns
  have hts := atoms_spec (ws := ws_ yX1_rows cX1_rows 1 (some .int)) B.pre
  have hts : ∀ w ∈ lw_all, w.before _ sS = true := fun w h => hts w (List.mem_cons_of_mem _ h)
  have hown : sS.vm.findClass RX1 = some mM.cls := findClass_of_methodNamed B.named
  have hlocks := B.notSynchronized
  have hl := lv_entry ([.ref h0]) (n := 1) (Nat.le_of_ble_eq_true rfl)
  rw [lg_entry_eq]
  generalize (lg_sl ([.ref h0]) ++ List.replicate (1 - (lg_sl ([.ref h0])).length) Slot.unset).toArray = ls at hl ⊢
  have hl : lv_has ls 1 [(0, .ref h0)] := hl
  refine lv_aload_n hx hb dX1_rows_0 rfl (lv_at hl 0 rfl) ?_
  refine va_get (D := (dC, dI)) (ci := 1) (v := .int (nI cnt)) (C := RX1) (T := TX1) (N := 2) hx hb hts in_X1 hown hK hP 0 rfl rfl 1 (by decide) (hts _ q169) (fun _ h9 => h9) rfl dX1_rows_1 ?_
  exact W.iret (v := nI cnt) hx hb hret (fun t ht hW => ⟨nI cnt, rfl, rfl, ht⟩) (fun _ h => by cases h) dX1_rows_4

set_option maxHeartbeats 4000000 in
set_option maxRecDepth 100000 in
theorem metX1_differ {l : Launch} {dC : Nat → ClassId} {dI : Nat → Nat → Nat} {h0 k1 : Nat} {d0 : ClassId} {cnt : Nat} {b : Nat → Nat} (r s c : Nat) (h1 : r < 8) (h2 : s < 8) (h3 : c < 32) (hbd : ∀ k, b k < 4096) : Met l yX1_differ (ws_ yX1_differ cX1_differ 4 (some .boolean)) (rmk 0) (rdP (dC, dI) [(d0, .int)] (MW h0 k1 d0 cnt b) [.ref h0, .int (nI r), .int (nI s), .int (nI c)]) (vp_Si (fun v => v = nI (bN (dfB b r s c)))) 0 0 (fun _ => False) := by
  refine Met.ofW (cc := cX1_differ) (maxL := 4) (ret := (some .boolean)) (by decide) rfl ?_
  intro pP eE sS mM args below meth cC s₁ B hml hv
  obtain ⟨rfl, hP, hK⟩ := hv
  have hx := B.exec
  have hb := B.bytes
  have hret := B.returns
  have hts := atoms_spec (ws := ws_ yX1_differ cX1_differ 4 (some .boolean)) B.pre
  have hts : ∀ w ∈ lw_all, w.before _ sS = true := fun w h => hts w (List.mem_cons_of_mem _ h)
  have hown : sS.vm.findClass RX1 = some mM.cls := findClass_of_methodNamed B.named
  have hlocks := B.notSynchronized
  have hl := lv_entry ([.ref h0, .int (nI r), .int (nI s), .int (nI c)]) (n := 4) (Nat.le_of_ble_eq_true rfl)
  rw [lg_entry_eq]
  generalize (lg_sl ([.ref h0, .int (nI r), .int (nI s), .int (nI c)]) ++ List.replicate (4 - (lg_sl ([.ref h0, .int (nI r), .int (nI s), .int (nI c)])).length) Slot.unset).toArray = ls at hl ⊢
  have hl : lv_has ls 4 [(0, .ref h0), (1, .int (nI r)), (2, .int (nI s)), (3, .int (nI c))] := hl
  refine lv_aload_n hx hb dX1_differ_0 rfl (lv_at hl 0 rfl) ?_
  refine va_get (D := (dC, dI)) (ci := 1) (v := .ref k1) (C := RX1) (T := TX1) (N := 2) hx hb hts in_X1 hown hK hP 0 rfl rfl 0 (by decide) (hts _ q168) (fun _ h9 => h9) rfl dX1_differ_1 ?_
  refine lv_iload_n hx hb dX1_differ_4 rfl (lv_at hl 1 rfl) ?_
  refine hn_ald hx hb hK hP 1 0 rfl rfl (by omega) (by decide) dX1_differ_5 ?_
  refine lv_aload_n hx hb dX1_differ_6 rfl (lv_at hl 0 rfl) ?_
  refine va_get (D := (dC, dI)) (ci := 1) (v := .ref k1) (C := RX1) (T := TX1) (N := 2) hx hb hts in_X1 hown hK hP 0 rfl rfl 0 (by decide) (hts _ q168) (fun _ h9 => h9) rfl dX1_differ_7 ?_
  refine lv_iload_n hx hb dX1_differ_10 rfl (lv_at hl 2 rfl) ?_
  refine hn_ald hx hb hK hP 1 0 rfl rfl (by omega) (by decide) dX1_differ_11 ?_
  refine hn_xor hx hb dX1_differ_12 ?_
  refine lv_iload_n hx hb dX1_differ_13 rfl (lv_at hl 3 rfl) ?_
  refine hn_shr hx hb dX1_differ_14 (Nat.lt_trans (xr_lt (hbd _) (hbd _)) (by decide)) (by omega) ?_
  refine lv_iconst (v := nI 1) hx hb dX1_differ_15 (by decide) ?_
  refine hn_and1 hx hb dX1_differ_16 (Nat.lt_of_le_of_lt (Nat.div_le_self _ _) (Nat.lt_trans (xr_lt (hbd _) (hbd _)) (by decide))) ?_
  refine hn_top (y := nI (bitN (b r ^^^ b s) c)) rfl ?_
  refine lv_iconst (v := nI 1) hx hb dX1_differ_17 (by decide) ?_
  refine hn_icmp_ne (tgt := 25) hx hb dX1_differ_18 (by decide) (Nat.lt_trans (bitN_lt _ _) (by decide)) (by decide) (fun c18 => ?_) (fun c18 => ?_)
  · refine lv_iconst (v := nI 0) hx hb dX1_differ_25 (by decide) ?_
    have er : 0 = (bN (dfB b r s c)) := by rw [show dfB b r s c = false from decide_eq_false (fun z => z ((bitN_xor (b r) (b s) c).mp (by have := bitN_01 (b r ^^^ b s) c; omega)))]; rfl
    exact W.zret (v := nI 0) hx hb hret rfl (fun t ht hW => ⟨nI 0, rfl, congrArg nI er, ht⟩) (fun _ h => by cases h) dX1_differ_26
  · refine lv_iconst (v := nI 1) hx hb dX1_differ_21 (by decide) ?_
    refine lv_goto (tgt := 26) hx hb dX1_differ_22 (by decide) ?_
    have er : 1 = (bN (dfB b r s c)) := by rw [show dfB b r s c = true from decide_eq_true (fun z => by have := (bitN_xor (b r) (b s) c).mpr z; omega)]; rfl
    exact W.zret (v := nI 1) hx hb hret rfl (fun t ht hW => ⟨nI 1, rfl, congrArg nI er, ht⟩) (fun _ h => by cases h) dX1_differ_26

set_option maxHeartbeats 4000000 in
set_option maxRecDepth 100000 in
theorem metX1_comesBefore {l : Launch} {dC : Nat → ClassId} {dI : Nat → Nat → Nat} {h0 k1 : Nat} {d0 : ClassId} {cnt : Nat} {b : Nat → Nat} (r s c : Nat) (h1 : r < 8) (h2 : s < 8) (hc : c ≤ 12) (hbd : ∀ k, b k < 4096) : Met l yX1_comesBefore (ws_ yX1_comesBefore cX1_comesBefore 5 (some .boolean)) (rmk 1) (rdP (dC, dI) [(d0, .int)] (MW h0 k1 d0 cnt b) [.ref h0, .int (nI r), .int (nI s), .int (nI c)]) (vp_Si (fun v => v = nI (bN (LTb b r s c)))) 0 0 (fun _ => False) := by
  refine Met.ofW (cc := cX1_comesBefore) (maxL := 5) (ret := (some .boolean)) (by decide) rfl ?_
  intro pP eE sS mM args below meth cC s₁ B hml hv
  obtain ⟨rfl, hP, hK⟩ := hv
  have hx := B.exec
  have hb := B.bytes
  have hret := B.returns
  have hts := atoms_spec (ws := ws_ yX1_comesBefore cX1_comesBefore 5 (some .boolean)) B.pre
  have hts : ∀ w ∈ lw_all, w.before _ sS = true := fun w h => hts w (List.mem_cons_of_mem _ h)
  have hown : sS.vm.findClass RX1 = some mM.cls := findClass_of_methodNamed B.named
  have hlocks := B.notSynchronized
  have hl := lv_entry ([.ref h0, .int (nI r), .int (nI s), .int (nI c)]) (n := 5) (Nat.le_of_ble_eq_true rfl)
  rw [lg_entry_eq]
  generalize (lg_sl ([.ref h0, .int (nI r), .int (nI s), .int (nI c)]) ++ List.replicate (5 - (lg_sl ([.ref h0, .int (nI r), .int (nI s), .int (nI c)])).length) Slot.unset).toArray = ls at hl ⊢
  have hl : lv_has ls 5 [(0, .ref h0), (1, .int (nI r)), (2, .int (nI s)), (3, .int (nI c))] := hl
  refine lv_iload_n hx hb dX1_comesBefore_0 rfl (lv_at hl 3 rfl) ?_
  refine lv_iconst (v := nI 1) hx hb dX1_comesBefore_1 (by decide) ?_
  refine lv_isub hx hb dX1_comesBefore_2 ?_
  refine lv_istore (lv' := [(4, .int ((nI c - nI 1))), (0, .ref h0), (1, .int (nI r)), (2, .int (nI s)), (3, .int (nI c))]) hx hb dX1_comesBefore_3 hl (by decide) rfl (fun ls hl => ?_)
  have hl : lv_has ls 5 [(0, .ref h0), (1, .int (nI r)), (2, .int (nI s)), (3, .int (nI c)), (4, .int ((nI c - nI 1)))] := lv_sub hl [1, 2, 3, 4, 0] rfl
  refine W.dn 5 5 (fun kk => [(0, .ref h0), (1, .int (nI r)), (2, .int (nI s)), (3, .int (nI c)), (4, .int ((nI kk - nI 1)))]) (fun kk => kk ≤ c ∧ LTb b r s c = LTb b r s kk) ?_ ?_ c ⟨Nat.le_refl _, rfl⟩ hl
  · intro hk ls hl
    have hl : lv_has ls 5 [(0, .ref h0), (1, .int (nI r)), (2, .int (nI s)), (3, .int (nI c)), (4, .int ((nI 0 - nI 1)))] := hl
    have hk : 0 ≤ c ∧ LTb b r s c = LTb b r s 0 := hk
    obtain ⟨hk1, hk2⟩ := hk
    refine lv_iload hx hb dX1_comesBefore_5 (lv_at hl 4 rfl) ?_
    refine hz_if_lt (tgt := 47) hx hb dX1_comesBefore_7 (by decide) (fun c7 => ?_) (fun c7 => absurd c7 (by decide))
    refine lv_iload_n hx hb dX1_comesBefore_47 rfl (lv_at hl 1 rfl) ?_
    refine lv_iload_n hx hb dX1_comesBefore_48 rfl (lv_at hl 2 rfl) ?_
    refine hn_icmp_ge (tgt := 56) hx hb dX1_comesBefore_49 (by decide) (by omega) (by omega) (fun c49 => ?_) (fun c49 => ?_)
    · refine lv_iconst (v := nI 0) hx hb dX1_comesBefore_56 (by decide) ?_
      have er : 0 = (bN (LTb b r s c)) := by rw [hk2, show LTb b r s 0 = false from decide_eq_false (by omega)]; rfl
      exact W.zret (v := nI 0) hx hb hret rfl (fun t ht hW => ⟨nI 0, rfl, congrArg nI er, ht⟩) (fun _ h => by cases h) dX1_comesBefore_57
    · refine lv_iconst (v := nI 1) hx hb dX1_comesBefore_52 (by decide) ?_
      refine lv_goto (tgt := 57) hx hb dX1_comesBefore_53 (by decide) ?_
      have er : 1 = (bN (LTb b r s c)) := by rw [hk2, show LTb b r s 0 = true from decide_eq_true c49]; rfl
      exact W.zret (v := nI 1) hx hb hret rfl (fun t ht hW => ⟨nI 1, rfl, congrArg nI er, ht⟩) (fun _ h => by cases h) dX1_comesBefore_57
  · intro kk hk ih5 ls hl
    have hl : lv_has ls 5 [(0, .ref h0), (1, .int (nI r)), (2, .int (nI s)), (3, .int (nI c)), (4, .int ((nI (kk + 1) - nI 1)))] := hl
    have hk : (kk + 1) ≤ c ∧ LTb b r s c = LTb b r s (kk + 1) := hk
    have hl : lv_has ls 5 [(0, .ref h0), (1, .int (nI r)), (2, .int (nI s)), (3, .int (nI c)), (4, .int (nI kk))] := by rw [← hn_p1 kk]; exact hl
    obtain ⟨hk1, hk2⟩ := hk
    refine lv_iload hx hb dX1_comesBefore_5 (lv_at hl 4 rfl) ?_
    refine hn_if_lt (tgt := 47) hx hb dX1_comesBefore_7 (by decide) (by omega) ?_
    refine lv_aload_n hx hb dX1_comesBefore_10 rfl (lv_at hl 0 rfl) ?_
    refine lv_iload_n hx hb dX1_comesBefore_11 rfl (lv_at hl 1 rfl) ?_
    refine lv_iload_n hx hb dX1_comesBefore_12 rfl (lv_at hl 2 rfl) ?_
    refine lv_iload hx hb dX1_comesBefore_13 (lv_at hl 4 rfl) ?_
    refine vp_callSi (W.runV (As := [.int (nI r), .int (nI s), .int (nI kk)]) (rest := []) ⟨hx, hb, hml, hown, hts⟩ (metX1_differ r s kk (by omega) (by omega) (by omega) hbd) (cwV 3 hts (lw_V q215 q217 qs18 q26 q218) rfl rfl rfl (by decide +kernel) ⟨Nat.le_of_ble_eq_true rfl, Nat.le_of_ble_eq_true rfl⟩) (rd_preX1 hK hP) rfl rfl hl.1 rfl (lv_room (Nat.le_of_ble_eq_true rfl)) dX1_comesBefore_15 ⟨Nat.le_of_ble_eq_true rfl, Nat.le_of_ble_eq_true rfl⟩) (fun v hv => ?_)
    subst hv
    refine hn_ifB_eq (tgt := 41) hx hb dX1_comesBefore_18 (by decide) (fun c18 => ?_) (fun c18 => ?_)
    · refine lv_iinc (v := (nI kk - 1)) (lv' := [(4, .int ((nI kk - 1))), (0, .ref h0), (1, .int (nI r)), (2, .int (nI s)), (3, .int (nI c))]) hx hb dX1_comesBefore_41 hl (k := 4) rfl (hn_m1 _) (by decide) rfl (fun ls hl => ?_)
      refine lv_goto (tgt := 5) hx hb dX1_comesBefore_44 (by decide) ?_
      have ev4 : (nI kk - nI 1) = (nI kk - 1) := by first | rfl | omega
      have hl : lv_has ls 5 [(0, .ref h0), (1, .int (nI r)), (2, .int (nI s)), (3, .int (nI c)), (4, .int ((nI kk - nI 1)))] := by rw [ev4]; exact lv_sub hl [1, 2, 3, 4, 0] rfl
      exact ih5 ⟨by omega, by rw [hk2]; simp only [LTb]; rw [if_pos (dfB_f c18)]⟩ ls hl
    · refine lv_aload_n hx hb dX1_comesBefore_21 rfl (lv_at hl 0 rfl) ?_
      refine va_get (D := (dC, dI)) (ci := 1) (v := .ref k1) (C := RX1) (T := TX1) (N := 2) hx hb hts in_X1 hown hK hP 0 rfl rfl 0 (by decide) (hts _ q168) (fun _ h9 => h9) rfl dX1_comesBefore_22 ?_
      refine lv_iload_n hx hb dX1_comesBefore_25 rfl (lv_at hl 1 rfl) ?_
      refine hn_ald hx hb hK hP 1 0 rfl rfl (by omega) (by decide) dX1_comesBefore_26 ?_
      refine lv_iload hx hb dX1_comesBefore_27 (lv_at hl 4 rfl) ?_
      refine hn_shr hx hb dX1_comesBefore_29 (Nat.lt_trans (hbd _) (by decide)) (by omega) ?_
      refine lv_iconst (v := nI 1) hx hb dX1_comesBefore_30 (by decide) ?_
      refine hn_and1 hx hb dX1_comesBefore_31 (Nat.lt_of_le_of_lt (Nat.div_le_self _ _) (Nat.lt_trans (hbd _) (by decide))) ?_
      refine hn_top (y := nI (bitN (b r) kk)) rfl ?_
      refine hn_if_ne (tgt := 39) hx hb dX1_comesBefore_32 (by decide) (Nat.lt_trans (bitN_lt _ _) (by decide)) (fun c32 => ?_) (fun c32 => ?_)
      · refine lv_iconst (v := nI 0) hx hb dX1_comesBefore_39 (by decide) ?_
        have er : 0 = (bN (LTb b r s c)) := by rw [hk2, show LTb b r s (kk + 1) = false from by simp only [LTb]; rw [if_neg (dfB_t c18)]; exact decide_eq_false c32]; rfl
        exact W.zret (v := nI 0) hx hb hret rfl (fun t ht hW => ⟨nI 0, rfl, congrArg nI er, ht⟩) (fun _ h => by cases h) dX1_comesBefore_40
      · refine lv_iconst (v := nI 1) hx hb dX1_comesBefore_35 (by decide) ?_
        refine lv_goto (tgt := 40) hx hb dX1_comesBefore_36 (by decide) ?_
        have er : 1 = (bN (LTb b r s c)) := by rw [hk2, show LTb b r s (kk + 1) = true from by simp only [LTb]; rw [if_neg (dfB_t c18)]; exact decide_eq_true c32]; rfl
        exact W.zret (v := nI 1) hx hb hret rfl (fun t ht hW => ⟨nI 1, rfl, congrArg nI er, ht⟩) (fun _ h => by cases h) dX1_comesBefore_40

set_option maxHeartbeats 4000000 in
set_option maxRecDepth 100000 in
theorem metX1_rowAt {l : Launch} {dC : Nat → ClassId} {dI : Nat → Nat → Nat} {h0 k1 : Nat} {d0 : ClassId} {cnt : Nat} {b : Nat → Nat} (c : Nat) (p1 : Int32) (h8 : cnt ≤ 8) (hc : c ≤ 12) (hbd : ∀ k, b k < 4096) : Met l yX1_rowAt (ws_ yX1_rowAt cX1_rowAt 6 (some .int)) (rmk 2) (rdP (dC, dI) [(d0, .int)] (MW h0 k1 d0 cnt b) [.ref h0, .int (nI c), .int p1]) (vp_Si (fun v => v = rA b cnt c p1)) 0 0 (fun _ => False) := by
  refine Met.ofW (cc := cX1_rowAt) (maxL := 6) (ret := (some .int)) (by decide) rfl ?_
  intro pP eE sS mM args below meth cC s₁ B hml hv
  obtain ⟨rfl, hP, hK⟩ := hv
  have hx := B.exec
  have hb := B.bytes
  have hret := B.returns
  have hts := atoms_spec (ws := ws_ yX1_rowAt cX1_rowAt 6 (some .int)) B.pre
  have hts : ∀ w ∈ lw_all, w.before _ sS = true := fun w h => hts w (List.mem_cons_of_mem _ h)
  have hown : sS.vm.findClass RX1 = some mM.cls := findClass_of_methodNamed B.named
  have hlocks := B.notSynchronized
  have hl := lv_entry ([.ref h0, .int (nI c), .int p1]) (n := 6) (Nat.le_of_ble_eq_true rfl)
  rw [lg_entry_eq]
  generalize (lg_sl ([.ref h0, .int (nI c), .int p1]) ++ List.replicate (6 - (lg_sl ([.ref h0, .int (nI c), .int p1])).length) Slot.unset).toArray = ls at hl ⊢
  have hl : lv_has ls 6 [(0, .ref h0), (1, .int (nI c)), (2, .int p1)] := hl
  refine lv_iconst (v := nI 0) hx hb dX1_rowAt_0 (by decide) ?_
  refine lv_istore_n (lv' := [(3, .int (nI 0)), (0, .ref h0), (1, .int (nI c)), (2, .int p1)]) hx hb dX1_rowAt_1 rfl hl (by decide) rfl (fun ls hl => ?_)
  have hl : lv_has ls 6 [(0, .ref h0), (1, .int (nI c)), (2, .int p1), (3, .int (nI 0))] := lv_sub hl [1, 2, 3, 0] rfl
  refine W.up 6 2 (fun r => [(0, .ref h0), (1, .int (nI c)), (2, .int p1), (3, .int (nI r))]) (fun r => ∀ q, q < r → ((ps b cnt c q : Nat) : Int) ≠ p1.toInt) cnt ?_ ?_ 0 (by omega) (fun q hq => absurd hq (Nat.not_lt_zero q)) hl
  · intro hk ls hl
    have hl : lv_has ls 6 [(0, .ref h0), (1, .int (nI c)), (2, .int p1), (3, .int (nI cnt))] := hl
    have hk : ∀ q, q < cnt → ((ps b cnt c q : Nat) : Int) ≠ p1.toInt := hk
    refine lv_iload_n hx hb dX1_rowAt_2 rfl (lv_at hl 3 rfl) ?_
    refine lv_aload_n hx hb dX1_rowAt_3 rfl (lv_at hl 0 rfl) ?_
    refine va_get (D := (dC, dI)) (ci := 1) (v := .int (nI cnt)) (C := RX1) (T := TX1) (N := 2) hx hb hts in_X1 hown hK hP 0 rfl rfl 1 (by decide) (hts _ q169) (fun _ h9 => h9) rfl dX1_rowAt_4 ?_
    refine hn_icmp_ge (tgt := 73) hx hb dX1_rowAt_7 (by decide) (by omega) (by omega) (fun c7 => ?_) (fun c7 => absurd c7 (by omega))
    refine lv_bipush (v := -4) hx hb dX1_rowAt_73 (by decide) ?_
    have er : (-4) = rA b cnt c p1 := by exact rA_none hk
    exact W.iret (v := (-4)) hx hb hret (fun t ht hW => ⟨(-4), rfl, er, ht⟩) (fun _ h => by cases h) dX1_rowAt_75
  · intro r hir hk ih2 ls hl
    have hl : lv_has ls 6 [(0, .ref h0), (1, .int (nI c)), (2, .int p1), (3, .int (nI r))] := hl
    have hk : ∀ q, q < r → ((ps b cnt c q : Nat) : Int) ≠ p1.toInt := hk
    have hk0 := hk
    refine lv_iload_n hx hb dX1_rowAt_2 rfl (lv_at hl 3 rfl) ?_
    refine lv_aload_n hx hb dX1_rowAt_3 rfl (lv_at hl 0 rfl) ?_
    refine va_get (D := (dC, dI)) (ci := 1) (v := .int (nI cnt)) (C := RX1) (T := TX1) (N := 2) hx hb hts in_X1 hown hK hP 0 rfl rfl 1 (by decide) (hts _ q169) (fun _ h9 => h9) rfl dX1_rowAt_4 ?_
    refine hn_icmp_ge (tgt := 73) hx hb dX1_rowAt_7 (by decide) (by omega) (by omega) (fun c7 => absurd c7 (by omega)) (fun c7 => ?_)
    refine lv_iconst (v := nI 0) hx hb dX1_rowAt_10 (by decide) ?_
    refine lv_istore (lv' := [(4, .int (nI 0)), (0, .ref h0), (1, .int (nI c)), (2, .int p1), (3, .int (nI r))]) hx hb dX1_rowAt_11 hl (by decide) rfl (fun ls hl => ?_)
    refine lv_iconst (v := nI 0) hx hb dX1_rowAt_13 (by decide) ?_
    refine lv_istore (lv' := [(5, .int (nI 0)), (4, .int (nI 0)), (0, .ref h0), (1, .int (nI c)), (2, .int p1), (3, .int (nI r))]) hx hb dX1_rowAt_14 hl (by decide) rfl (fun ls hl => ?_)
    have hl : lv_has ls 6 [(0, .ref h0), (1, .int (nI c)), (2, .int p1), (3, .int (nI r)), (4, .int (nI (cN (fun q => decide (q ≠ r) && LTb b q r c) 0))), (5, .int (nI 0))] := lv_sub hl [2, 3, 4, 5, 1, 0] rfl
    refine W.up 6 16 (fun s => [(0, .ref h0), (1, .int (nI c)), (2, .int p1), (3, .int (nI r)), (4, .int (nI (cN (fun q => decide (q ≠ r) && LTb b q r c) s))), (5, .int (nI s))]) (fun s => True) cnt ?_ ?_ 0 (by omega) trivial hl
    · intro hk ls hl
      have hl : lv_has ls 6 [(0, .ref h0), (1, .int (nI c)), (2, .int p1), (3, .int (nI r)), (4, .int (nI (cN (fun q => decide (q ≠ r) && LTb b q r c) cnt))), (5, .int (nI cnt))] := hl
      refine lv_iload hx hb dX1_rowAt_16 (lv_at hl 5 rfl) ?_
      refine lv_aload_n hx hb dX1_rowAt_18 rfl (lv_at hl 0 rfl) ?_
      refine va_get (D := (dC, dI)) (ci := 1) (v := .int (nI cnt)) (C := RX1) (T := TX1) (N := 2) hx hb hts in_X1 hown hK hP 0 rfl rfl 1 (by decide) (hts _ q169) (fun _ h9 => h9) rfl dX1_rowAt_19 ?_
      refine hn_icmp_ge (tgt := 59) hx hb dX1_rowAt_22 (by decide) (by omega) (by omega) (fun c22 => ?_) (fun c22 => absurd c22 (by omega))
      refine lv_iload hx hb dX1_rowAt_59 (lv_at hl 4 rfl) ?_
      refine lv_iload_n hx hb dX1_rowAt_61 rfl (lv_at hl 2 rfl) ?_
      refine hz_icmp_ne (tgt := 67) hx hb dX1_rowAt_62 (by decide) (fun c62 => ?_) (fun c62 => ?_)
      · rw [hz_t (k := cN (fun q => decide (q ≠ r) && LTb b q r c) cnt) (Nat.lt_of_le_of_lt (cN_le _ _) (by omega))] at c62
        refine lv_iinc (v := nI (r + 1)) (lv' := [(3, .int (nI (r + 1))), (0, .ref h0), (1, .int (nI c)), (2, .int p1), (4, .int (nI (cN (fun q => decide (q ≠ r) && LTb b q r c) cnt))), (5, .int (nI cnt))]) hx hb dX1_rowAt_67 hl (k := 3) rfl (nI_1 _) (by decide) rfl (fun ls hl => ?_)
        refine lv_goto (tgt := 2) hx hb dX1_rowAt_70 (by decide) ?_
        have ev3 : ((r + 1)) = (r + 1) := by first | rfl | omega
        have hl : lv_has ls 6 [(0, .ref h0), (1, .int (nI c)), (2, .int p1), (3, .int (nI ((r + 1))))] := by rw [ev3]; exact lv_sub hl [1, 2, 3, 0] rfl
        exact ih2 (fun q hq => by by_cases z : q = r; (rw [z]; exact c62); exact hk0 q (by omega)) ls hl
      · rw [hz_t (k := cN (fun q => decide (q ≠ r) && LTb b q r c) cnt) (Nat.lt_of_le_of_lt (cN_le _ _) (by omega))] at c62
        refine lv_iload_n hx hb dX1_rowAt_65 rfl (lv_at hl 3 rfl) ?_
        have er : nI r = rA b cnt c p1 := by exact rA_hit hir c62
        exact W.iret (v := nI r) hx hb hret (fun t ht hW => ⟨nI r, rfl, er, ht⟩) (fun _ h => by cases h) dX1_rowAt_66
    · intro s his hk ih16 ls hl
      have hl : lv_has ls 6 [(0, .ref h0), (1, .int (nI c)), (2, .int p1), (3, .int (nI r)), (4, .int (nI (cN (fun q => decide (q ≠ r) && LTb b q r c) s))), (5, .int (nI s))] := hl
      refine lv_iload hx hb dX1_rowAt_16 (lv_at hl 5 rfl) ?_
      refine lv_aload_n hx hb dX1_rowAt_18 rfl (lv_at hl 0 rfl) ?_
      refine va_get (D := (dC, dI)) (ci := 1) (v := .int (nI cnt)) (C := RX1) (T := TX1) (N := 2) hx hb hts in_X1 hown hK hP 0 rfl rfl 1 (by decide) (hts _ q169) (fun _ h9 => h9) rfl dX1_rowAt_19 ?_
      refine hn_icmp_ge (tgt := 59) hx hb dX1_rowAt_22 (by decide) (by omega) (by omega) (fun c22 => absurd c22 (by omega)) (fun c22 => ?_)
      refine lv_iload hx hb dX1_rowAt_25 (lv_at hl 5 rfl) ?_
      refine lv_iload_n hx hb dX1_rowAt_27 rfl (lv_at hl 3 rfl) ?_
      refine W.jn2 (g := F0 mM 51 ls [.int (nI (cN (fun q => decide (q ≠ r) && LTb b q r c) s + bN (decide (s ≠ r) && LTb b s r c)))]) (fun J => ?_) ?_
      · refine hn_icmp_eq (tgt := 49) hx hb dX1_rowAt_28 (by decide) (by omega) (by omega) (fun c28 => ?_) (fun c28 => ?_)
        · refine lv_iload hx hb dX1_rowAt_49 (lv_at hl 4 rfl) ?_
          have ej : (cN (fun q => decide (q ≠ r) && LTb b q r c) s + bN (decide (s ≠ r) && LTb b s r c)) = (cN (fun q => decide (q ≠ r) && LTb b q r c) s) := by simp [bN, c28]
          rw [ej] at J
          exact J
        · refine lv_aload_n hx hb dX1_rowAt_31 rfl (lv_at hl 0 rfl) ?_
          refine lv_iload hx hb dX1_rowAt_32 (lv_at hl 5 rfl) ?_
          refine lv_iload_n hx hb dX1_rowAt_34 rfl (lv_at hl 3 rfl) ?_
          refine lv_iload_n hx hb dX1_rowAt_35 rfl (lv_at hl 1 rfl) ?_
          refine vp_callSi (W.runV (As := [.int (nI s), .int (nI r), .int (nI c)]) (rest := []) ⟨hx, hb, hml, hown, hts⟩ (metX1_comesBefore s r c (by omega) (by omega) (by omega) hbd) (cwV 3 hts (lw_V q211 q213 qs17 q26 q214) rfl rfl rfl (by decide +kernel) ⟨Nat.le_of_ble_eq_true rfl, Nat.le_of_ble_eq_true rfl⟩) (rd_preX1 hK hP) rfl rfl hl.1 rfl (lv_room (Nat.le_of_ble_eq_true rfl)) dX1_rowAt_36 ⟨Nat.le_of_ble_eq_true rfl, Nat.le_of_ble_eq_true rfl⟩) (fun v hv => ?_)
          subst hv
          refine hn_ifB_eq (tgt := 49) hx hb dX1_rowAt_39 (by decide) (fun c39 => ?_) (fun c39 => ?_)
          · refine lv_iload hx hb dX1_rowAt_49 (lv_at hl 4 rfl) ?_
            have ej : (cN (fun q => decide (q ≠ r) && LTb b q r c) s + bN (decide (s ≠ r) && LTb b s r c)) = (cN (fun q => decide (q ≠ r) && LTb b q r c) s) := by simp [bN, c28, c39]
            rw [ej] at J
            exact J
          · refine lv_iload hx hb dX1_rowAt_42 (lv_at hl 4 rfl) ?_
            refine lv_iconst (v := nI 1) hx hb dX1_rowAt_44 (by decide) ?_
            refine hn_add hx hb dX1_rowAt_45 ?_
            refine lv_goto (tgt := 51) hx hb dX1_rowAt_46 (by decide) ?_
            have ej : (cN (fun q => decide (q ≠ r) && LTb b q r c) s + bN (decide (s ≠ r) && LTb b s r c)) = ((cN (fun q => decide (q ≠ r) && LTb b q r c) s) + 1) := by simp [bN, c28, c39]
            rw [ej] at J
            exact J
      refine lv_istore (lv' := [(4, .int (nI (cN (fun q => decide (q ≠ r) && LTb b q r c) s + bN (decide (s ≠ r) && LTb b s r c)))), (0, .ref h0), (1, .int (nI c)), (2, .int p1), (3, .int (nI r)), (5, .int (nI s))]) hx hb dX1_rowAt_51 hl (by decide) rfl (fun ls hl => ?_)
      refine lv_iinc (v := nI (s + 1)) (lv' := [(5, .int (nI (s + 1))), (4, .int (nI (cN (fun q => decide (q ≠ r) && LTb b q r c) s + bN (decide (s ≠ r) && LTb b s r c)))), (0, .ref h0), (1, .int (nI c)), (2, .int p1), (3, .int (nI r))]) hx hb dX1_rowAt_53 hl (k := 5) rfl (nI_1 _) (by decide) rfl (fun ls hl => ?_)
      refine lv_goto (tgt := 16) hx hb dX1_rowAt_56 (by decide) ?_
      have ev4 : (cN (fun q => decide (q ≠ r) && LTb b q r c) (s + 1)) = (cN (fun q => decide (q ≠ r) && LTb b q r c) s + bN (decide (s ≠ r) && LTb b s r c)) := by rfl
      have ev5 : ((s + 1)) = (s + 1) := by rfl
      have hl : lv_has ls 6 [(0, .ref h0), (1, .int (nI c)), (2, .int p1), (3, .int (nI r)), (4, .int (nI (cN (fun q => decide (q ≠ r) && LTb b q r c) (s + 1)))), (5, .int (nI ((s + 1))))] := by rw [ev4, ev5]; exact lv_sub hl [2, 3, 4, 5, 1, 0] rfl
      exact ih16 trivial ls hl

set_option maxHeartbeats 4000000 in
set_option maxRecDepth 100000 in
theorem metX1_ordered {l : Launch} {dC : Nat → ClassId} {dI : Nat → Nat → Nat} {h0 k1 : Nat} {d0 : ClassId} {cnt : Nat} {b : Nat → Nat} (p0 p1 : Int32) (h8 : cnt ≤ 8) (hbd : ∀ k, b k < 4096) : Met l yX1_ordered (ws_ yX1_ordered cX1_ordered 3 (some .int)) (rmk 3) (rdP (dC, dI) [(d0, .int)] (MW h0 k1 d0 cnt b) [.ref h0, .int p0, .int p1]) (vp_Si (fun v => v = S_ord cnt b p0 p1)) 0 0 (fun _ => False) := by
  refine Met.ofW (cc := cX1_ordered) (maxL := 3) (ret := (some .int)) (by decide) rfl ?_
  intro pP eE sS mM args below meth cC s₁ B hml hv
  obtain ⟨rfl, hP, hK⟩ := hv
  have hx := B.exec
  have hb := B.bytes
  have hret := B.returns
  have hts := atoms_spec (ws := ws_ yX1_ordered cX1_ordered 3 (some .int)) B.pre
  have hts : ∀ w ∈ lw_all, w.before _ sS = true := fun w h => hts w (List.mem_cons_of_mem _ h)
  have hown : sS.vm.findClass RX1 = some mM.cls := findClass_of_methodNamed B.named
  have hlocks := B.notSynchronized
  have hl := lv_entry ([.ref h0, .int p0, .int p1]) (n := 3) (Nat.le_of_ble_eq_true rfl)
  rw [lg_entry_eq]
  generalize (lg_sl ([.ref h0, .int p0, .int p1]) ++ List.replicate (3 - (lg_sl ([.ref h0, .int p0, .int p1])).length) Slot.unset).toArray = ls at hl ⊢
  have hl : lv_has ls 3 [(0, .ref h0), (1, .int p0), (2, .int p1)] := hl
  refine lv_aload_n hx hb dX1_ordered_0 rfl (lv_at hl 0 rfl) ?_
  refine lv_iload_n hx hb dX1_ordered_1 rfl (lv_at hl 1 rfl) ?_
  refine vp_callSi (W.runV (As := [.int p0]) (rest := []) ⟨hx, hb, hml, hown, hts⟩ (metX1_isColumn p0) (cwV 1 hts (lw_V q203 q205 qs15 q26 q206) rfl rfl rfl (by decide +kernel) ⟨Nat.le_of_ble_eq_true rfl, Nat.le_of_ble_eq_true rfl⟩) (rd_preX1 hK hP) rfl rfl hl.1 rfl (lv_room (Nat.le_of_ble_eq_true rfl)) dX1_ordered_2 ⟨Nat.le_of_ble_eq_true rfl, Nat.le_of_ble_eq_true rfl⟩) (fun v hv => ?_)
  subst hv
  refine hn_ifB_eq (tgt := 17) hx hb dX1_ordered_5 (by decide) (fun c5 => ?_) (fun c5 => ?_)
  · refine lv_bipush (v := -4) hx hb dX1_ordered_17 (by decide) ?_
    have er : (-4) = S_ord cnt b p0 p1 := by unfold S_ord; rw [if_neg (fun z => by rw [c5] at z; exact absurd z.1 (by decide))]
    exact W.iret (v := (-4)) hx hb hret (fun t ht hW => ⟨(-4), rfl, er, ht⟩) (fun _ h => by cases h) dX1_ordered_19
  · obtain ⟨c, hc, rfl⟩ := inCol_of c5
    refine lv_aload_n hx hb dX1_ordered_8 rfl (lv_at hl 0 rfl) ?_
    refine lv_iload_n hx hb dX1_ordered_9 rfl (lv_at hl 1 rfl) ?_
    refine lv_iload_n hx hb dX1_ordered_10 rfl (lv_at hl 2 rfl) ?_
    refine vp_callSi (W.runV (As := [.int (nI c), .int p1]) (rest := []) ⟨hx, hb, hml, hown, hts⟩ (metX1_rowAt c p1 h8 (by omega) hbd) (cwV 2 hts (lw_V q207 q209 qs16 q26 q210) rfl rfl rfl (by decide +kernel) ⟨Nat.le_of_ble_eq_true rfl, Nat.le_of_ble_eq_true rfl⟩) (rd_preX1 hK hP) rfl rfl hl.1 rfl (lv_room (Nat.le_of_ble_eq_true rfl)) dX1_ordered_11 ⟨Nat.le_of_ble_eq_true rfl, Nat.le_of_ble_eq_true rfl⟩) (fun v hv => ?_)
    subst hv
    refine lv_goto (tgt := 19) hx hb dX1_ordered_14 (by decide) ?_
    have er : (rA b cnt c p1) = S_ord cnt b (nI c) p1 := by exact rA_ord hc
    exact W.iret (v := (rA b cnt c p1)) hx hb hret (fun t ht hW => ⟨(rA b cnt c p1), rfl, er, ht⟩) (fun _ h => by cases h) dX1_ordered_19

set_option maxHeartbeats 4000000 in
set_option maxRecDepth 100000 in
theorem metX1_agreeFrom {l : Launch} {dC : Nat → ClassId} {dI : Nat → Nat → Nat} {h0 k1 : Nat} {d0 : ClassId} {cnt : Nat} {b : Nat → Nat} (r s c : Nat) (h1 : r < 8) (h2 : s < 8) (hc : c ≤ 12) (hbd : ∀ k, b k < 4096) : Met l yX1_agreeFrom (ws_ yX1_agreeFrom cX1_agreeFrom 5 (some .int)) (rmk 1) (rdP (dC, dI) [(d0, .int)] (MW h0 k1 d0 cnt b) [.ref h0, .int (nI r), .int (nI s), .int (nI c)]) (vp_Si (fun v => v = nI (AF b r s c))) 0 0 (fun _ => False) := by
  refine Met.ofW (cc := cX1_agreeFrom) (maxL := 5) (ret := (some .int)) (by decide) rfl ?_
  intro pP eE sS mM args below meth cC s₁ B hml hv
  obtain ⟨rfl, hP, hK⟩ := hv
  have hx := B.exec
  have hb := B.bytes
  have hret := B.returns
  have hts := atoms_spec (ws := ws_ yX1_agreeFrom cX1_agreeFrom 5 (some .int)) B.pre
  have hts : ∀ w ∈ lw_all, w.before _ sS = true := fun w h => hts w (List.mem_cons_of_mem _ h)
  have hown : sS.vm.findClass RX1 = some mM.cls := findClass_of_methodNamed B.named
  have hlocks := B.notSynchronized
  have hl := lv_entry ([.ref h0, .int (nI r), .int (nI s), .int (nI c)]) (n := 5) (Nat.le_of_ble_eq_true rfl)
  rw [lg_entry_eq]
  generalize (lg_sl ([.ref h0, .int (nI r), .int (nI s), .int (nI c)]) ++ List.replicate (5 - (lg_sl ([.ref h0, .int (nI r), .int (nI s), .int (nI c)])).length) Slot.unset).toArray = ls at hl ⊢
  have hl : lv_has ls 5 [(0, .ref h0), (1, .int (nI r)), (2, .int (nI s)), (3, .int (nI c))] := hl
  refine lv_iload_n hx hb dX1_agreeFrom_0 rfl (lv_at hl 3 rfl) ?_
  refine lv_istore (lv' := [(4, .int (nI c)), (0, .ref h0), (1, .int (nI r)), (2, .int (nI s)), (3, .int (nI c))]) hx hb dX1_agreeFrom_1 hl (by decide) rfl (fun ls hl => ?_)
  have hl : lv_has ls 5 [(0, .ref h0), (1, .int (nI r)), (2, .int (nI s)), (3, .int (nI c)), (4, .int (nI c))] := lv_sub hl [1, 2, 3, 4, 0] rfl
  refine W.dn 5 3 (fun a => [(0, .ref h0), (1, .int (nI r)), (2, .int (nI s)), (3, .int (nI c)), (4, .int (nI a))]) (fun a => a ≤ c ∧ AF b r s c = AF b r s a) ?_ ?_ c ⟨Nat.le_refl _, rfl⟩ hl
  · intro hk ls hl
    have hl : lv_has ls 5 [(0, .ref h0), (1, .int (nI r)), (2, .int (nI s)), (3, .int (nI c)), (4, .int (nI 0))] := hl
    have hk : 0 ≤ c ∧ AF b r s c = AF b r s 0 := hk
    obtain ⟨hk1, hk2⟩ := hk
    refine lv_iload hx hb dX1_agreeFrom_3 (lv_at hl 4 rfl) ?_
    refine hn_if_le (tgt := 27) hx hb dX1_agreeFrom_5 (by decide) (by omega) (fun c5 => ?_) (fun c5 => absurd c5 (by omega))
    refine lv_iload hx hb dX1_agreeFrom_27 (lv_at hl 4 rfl) ?_
    have er : 0 = (AF b r s c) := by rw [hk2]; rfl
    exact W.iret (v := nI 0) hx hb hret (fun t ht hW => ⟨nI 0, rfl, congrArg nI er, ht⟩) (fun _ h => by cases h) dX1_agreeFrom_29
  · intro a hk ih3 ls hl
    have hl : lv_has ls 5 [(0, .ref h0), (1, .int (nI r)), (2, .int (nI s)), (3, .int (nI c)), (4, .int (nI ((a + 1))))] := hl
    have hk : (a + 1) ≤ c ∧ AF b r s c = AF b r s (a + 1) := hk
    obtain ⟨hk1, hk2⟩ := hk
    refine lv_iload hx hb dX1_agreeFrom_3 (lv_at hl 4 rfl) ?_
    refine hn_if_le (tgt := 27) hx hb dX1_agreeFrom_5 (by decide) (by omega) (fun c5 => absurd c5 (by omega)) (fun c5 => ?_)
    refine lv_aload_n hx hb dX1_agreeFrom_8 rfl (lv_at hl 0 rfl) ?_
    refine lv_iload_n hx hb dX1_agreeFrom_9 rfl (lv_at hl 1 rfl) ?_
    refine lv_iload_n hx hb dX1_agreeFrom_10 rfl (lv_at hl 2 rfl) ?_
    refine lv_iload hx hb dX1_agreeFrom_11 (lv_at hl 4 rfl) ?_
    refine lv_iconst (v := nI 1) hx hb dX1_agreeFrom_13 (by decide) ?_
    refine hn_sub hx hb dX1_agreeFrom_14 (by omega) ?_
    refine hn_top (y := nI a) rfl ?_
    refine vp_callSi (W.runV (As := [.int (nI r), .int (nI s), .int (nI a)]) (rest := []) ⟨hx, hb, hml, hown, hts⟩ (metX1_differ r s a (by omega) (by omega) (by omega) hbd) (cwV 3 hts (lw_V q215 q217 qs18 q26 q218) rfl rfl rfl (by decide +kernel) ⟨Nat.le_of_ble_eq_true rfl, Nat.le_of_ble_eq_true rfl⟩) (rd_preX1 hK hP) rfl rfl hl.1 rfl (lv_room (Nat.le_of_ble_eq_true rfl)) dX1_agreeFrom_15 ⟨Nat.le_of_ble_eq_true rfl, Nat.le_of_ble_eq_true rfl⟩) (fun v hv => ?_)
    subst hv
    refine hn_ifB_ne (tgt := 27) hx hb dX1_agreeFrom_18 (by decide) (fun c18 => ?_) (fun c18 => ?_)
    · refine lv_iload hx hb dX1_agreeFrom_27 (lv_at hl 4 rfl) ?_
      have er : ((a + 1)) = (AF b r s c) := by rw [hk2]; exact (AFv_ne (dfB_t c18)).symm
      exact W.iret (v := nI ((a + 1))) hx hb hret (fun t ht hW => ⟨nI ((a + 1)), rfl, congrArg nI er, ht⟩) (fun _ h => by cases h) dX1_agreeFrom_29
    · refine lv_iinc (v := nI a) (lv' := [(4, .int (nI a)), (0, .ref h0), (1, .int (nI r)), (2, .int (nI s)), (3, .int (nI c))]) hx hb dX1_agreeFrom_21 hl (k := 4) rfl (pk_m1 _) (by decide) rfl (fun ls hl => ?_)
      refine lv_goto (tgt := 3) hx hb dX1_agreeFrom_24 (by decide) ?_
      have hl : lv_has ls 5 [(0, .ref h0), (1, .int (nI r)), (2, .int (nI s)), (3, .int (nI c)), (4, .int (nI a))] := lv_sub hl [1, 2, 3, 4, 0] rfl
      exact ih3 ⟨by omega, by rw [hk2]; exact AFv_eq (dfB_f c18)⟩ ls hl

set_option maxHeartbeats 4000000 in
set_option maxRecDepth 100000 in
theorem metX1_since {l : Launch} {dC : Nat → ClassId} {dI : Nat → Nat → Nat} {h0 k1 : Nat} {d0 : ClassId} {cnt : Nat} {b : Nat → Nat} (p0 p1 : Int32) (h8 : cnt ≤ 8) (hbd : ∀ k, b k < 4096) : Met l yX1_since (ws_ yX1_since cX1_since 4 (some .int)) (rmk 4) (rdP (dC, dI) [(d0, .int)] (MW h0 k1 d0 cnt b) [.ref h0, .int p0, .int p1]) (vp_Si (fun v => v = S_sin cnt b p0 p1)) 0 0 (fun _ => False) := by
  refine Met.ofW (cc := cX1_since) (maxL := 4) (ret := (some .int)) (by decide) rfl ?_
  intro pP eE sS mM args below meth cC s₁ B hml hv
  obtain ⟨rfl, hP, hK⟩ := hv
  have hx := B.exec
  have hb := B.bytes
  have hret := B.returns
  have hts := atoms_spec (ws := ws_ yX1_since cX1_since 4 (some .int)) B.pre
  have hts : ∀ w ∈ lw_all, w.before _ sS = true := fun w h => hts w (List.mem_cons_of_mem _ h)
  have hown : sS.vm.findClass RX1 = some mM.cls := findClass_of_methodNamed B.named
  have hlocks := B.notSynchronized
  have hl := lv_entry ([.ref h0, .int p0, .int p1]) (n := 4) (Nat.le_of_ble_eq_true rfl)
  rw [lg_entry_eq]
  generalize (lg_sl ([.ref h0, .int p0, .int p1]) ++ List.replicate (4 - (lg_sl ([.ref h0, .int p0, .int p1])).length) Slot.unset).toArray = ls at hl ⊢
  have hl : lv_has ls 4 [(0, .ref h0), (1, .int p0), (2, .int p1)] := hl
  refine lv_aload_n hx hb dX1_since_0 rfl (lv_at hl 0 rfl) ?_
  refine lv_iload_n hx hb dX1_since_1 rfl (lv_at hl 1 rfl) ?_
  refine lv_iload_n hx hb dX1_since_2 rfl (lv_at hl 2 rfl) ?_
  refine vp_callSi (W.runV (As := [.int p0, .int p1]) (rest := []) ⟨hx, hb, hml, hown, hts⟩ (metX1_ordered p0 p1 h8 hbd) (cwV 2 hts (lw_V q223 q200 q201 q26 q202) rfl rfl rfl (by decide +kernel) ⟨Nat.le_of_ble_eq_true rfl, Nat.le_of_ble_eq_true rfl⟩) (rd_preX1 hK hP) rfl rfl hl.1 rfl (lv_room (Nat.le_of_ble_eq_true rfl)) dX1_since_3 ⟨Nat.le_of_ble_eq_true rfl, Nat.le_of_ble_eq_true rfl⟩) (fun v hv => ?_)
  subst hv
  refine lv_istore_n (lv' := [(3, .int (S_ord cnt b p0 p1)), (0, .ref h0), (1, .int p0), (2, .int p1)]) hx hb dX1_since_6 rfl hl (by decide) rfl (fun ls hl => ?_)
  refine lv_iload_n hx hb dX1_since_7 rfl (lv_at hl 0 rfl) ?_
  refine hz_if_ge (tgt := 14) hx hb dX1_since_8 (by decide) (fun c8 => ?_) (fun c8 => ?_)
  · obtain ⟨z1, z2⟩ := S_ord_nn c8
    obtain ⟨c, hc, rfl⟩ := inCol_of z1
    obtain ⟨i, hi, hi31, rfl⟩ := inRow_of z2
    have hl : lv_has ls 4 [(3, .int (nI (ro b cnt c i))), (0, .ref h0), (1, .int (nI c)), (2, .int (nI i))] := by rw [← S_ord_ok hc hi h8]; exact hl
    have q1 := ro_lt8 (b := b) (c := c) h8 hi
    refine lv_iload_n hx hb dX1_since_14 rfl (lv_at hl 3 rfl) ?_
    refine hn_if_ne (tgt := 22) hx hb dX1_since_15 (by decide) (by omega) (fun c15 => ?_) (fun c15 => ?_)
    · refine lv_aload_n hx hb dX1_since_22 rfl (lv_at hl 1 rfl) ?_
      refine lv_iload_n hx hb dX1_since_23 rfl (lv_at hl 0 rfl) ?_
      refine lv_aload_n hx hb dX1_since_24 rfl (lv_at hl 1 rfl) ?_
      refine lv_iload_n hx hb dX1_since_25 rfl (lv_at hl 2 rfl) ?_
      refine lv_iload_n hx hb dX1_since_26 rfl (lv_at hl 3 rfl) ?_
      refine lv_iconst (v := nI 1) hx hb dX1_since_27 (by decide) ?_
      refine hn_sub hx hb dX1_since_28 (by omega) ?_
      refine vp_callSi (W.runV (As := [.int (nI c), .int (nI (i - 1))]) (rest := [.int (nI (ro b cnt c i)), .ref h0]) ⟨hx, hb, hml, hown, hts⟩ (metX1_rowAt c (nI (i - 1)) h8 (by omega) hbd) (cwV 2 hts (lw_V q207 q209 qs16 q26 q210) rfl rfl rfl (by decide +kernel) ⟨Nat.le_of_ble_eq_true rfl, Nat.le_of_ble_eq_true rfl⟩) (rd_preX1 hK hP) rfl rfl hl.1 rfl (lv_room (Nat.le_of_ble_eq_true rfl)) dX1_since_29 ⟨Nat.le_of_ble_eq_true rfl, Nat.le_of_ble_eq_true rfl⟩) (fun v hv => ?_)
      subst hv
      refine hn_top (y := nI (ro b cnt c (i - 1))) (rA_ok (by omega) h8) ?_
      have q2 := ro_lt8 (b := b) (c := c) (i := i - 1) h8 (by omega)
      refine lv_iload_n hx hb dX1_since_32 rfl (lv_at hl 2 rfl) ?_
      refine vp_callSi (W.runV (As := [.int (nI (ro b cnt c i)), .int (nI (ro b cnt c (i - 1))), .int (nI c)]) (rest := []) ⟨hx, hb, hml, hown, hts⟩ (metX1_agreeFrom ((ro b cnt c i)) ((ro b cnt c (i - 1))) c (by omega) (by omega) (by omega) hbd) (cwV 3 hts (lw_V q224 q226 qs19 q26 q227) rfl rfl rfl (by decide +kernel) ⟨Nat.le_of_ble_eq_true rfl, Nat.le_of_ble_eq_true rfl⟩) (rd_preX1 hK hP) rfl rfl hl.1 rfl (lv_room (Nat.le_of_ble_eq_true rfl)) dX1_since_33 ⟨Nat.le_of_ble_eq_true rfl, Nat.le_of_ble_eq_true rfl⟩) (fun v hv => ?_)
      subst hv
      have er : nI (AF b ((ro b cnt c i)) ((ro b cnt c (i - 1))) c) = S_sin cnt b (nI c) (nI i) := by rw [S_sin_ok hc hi h8, AF_comm]; unfold bg; rw [if_neg c15]
      exact W.iret (v := nI (AF b ((ro b cnt c i)) ((ro b cnt c (i - 1))) c)) hx hb hret (fun t ht hW => ⟨nI (AF b ((ro b cnt c i)) ((ro b cnt c (i - 1))) c), rfl, er, ht⟩) (fun _ h => by cases h) dX1_since_36
    · refine lv_iload_n hx hb dX1_since_18 rfl (lv_at hl 2 rfl) ?_
      refine lv_goto (tgt := 36) hx hb dX1_since_19 (by decide) ?_
      have er : nI c = S_sin cnt b (nI c) (nI i) := by rw [S_sin_ok hc hi h8, c15]; rfl
      exact W.iret (v := nI c) hx hb hret (fun t ht hW => ⟨nI c, rfl, er, ht⟩) (fun _ h => by cases h) dX1_since_36
  · refine lv_bipush (v := -4) hx hb dX1_since_11 (by decide) ?_
    have er : (-4) = S_sin cnt b p0 p1 := by exact (S_sin_bad h8 c8).symm
    exact W.iret (v := (-4)) hx hb hret (fun t ht hW => ⟨(-4), rfl, er, ht⟩) (fun _ h => by cases h) dX1_since_13

set_option maxHeartbeats 4000000 in
set_option maxRecDepth 100000 in
theorem metX1_agreeMost {l : Launch} {dC : Nat → ClassId} {dI : Nat → Nat → Nat} {h0 k1 : Nat} {d0 : ClassId} {cnt : Nat} {b : Nat → Nat} (r s a e : Nat) (h1 : r < 8) (h2 : s < 8) (ha : a ≤ 12) (he : e ≤ 11) (hbd : ∀ k, b k < 4096) : Met l yX1_agreeMost (ws_ yX1_agreeMost cX1_agreeMost 5 (some .boolean)) (rmk 2) (rdP (dC, dI) [(d0, .int)] (MW h0 k1 d0 cnt b) [.ref h0, .int (nI r), .int (nI s), .int (nI a), .int (nI e)]) (vp_Si (fun v => v = nI (bN (AMb b r s a e)))) 0 0 (fun _ => False) := by
  refine Met.ofW (cc := cX1_agreeMost) (maxL := 5) (ret := (some .boolean)) (by decide) rfl ?_
  intro pP eE sS mM args below meth cC s₁ B hml hv
  obtain ⟨rfl, hP, hK⟩ := hv
  have hx := B.exec
  have hb := B.bytes
  have hret := B.returns
  have hts := atoms_spec (ws := ws_ yX1_agreeMost cX1_agreeMost 5 (some .boolean)) B.pre
  have hts : ∀ w ∈ lw_all, w.before _ sS = true := fun w h => hts w (List.mem_cons_of_mem _ h)
  have hown : sS.vm.findClass RX1 = some mM.cls := findClass_of_methodNamed B.named
  have hlocks := B.notSynchronized
  have hl := lv_entry ([.ref h0, .int (nI r), .int (nI s), .int (nI a), .int (nI e)]) (n := 5) (Nat.le_of_ble_eq_true rfl)
  rw [lg_entry_eq]
  generalize (lg_sl ([.ref h0, .int (nI r), .int (nI s), .int (nI a), .int (nI e)]) ++ List.replicate (5 - (lg_sl ([.ref h0, .int (nI r), .int (nI s), .int (nI a), .int (nI e)])).length) Slot.unset).toArray = ls at hl ⊢
  have hl : lv_has ls 5 [(0, .ref h0), (1, .int (nI r)), (2, .int (nI s)), (3, .int (nI a)), (4, .int (nI e))] := hl
  refine lv_aload_n hx hb dX1_agreeMost_0 rfl (lv_at hl 0 rfl) ?_
  refine lv_iload_n hx hb dX1_agreeMost_1 rfl (lv_at hl 1 rfl) ?_
  refine lv_iload_n hx hb dX1_agreeMost_2 rfl (lv_at hl 2 rfl) ?_
  refine lv_iload hx hb dX1_agreeMost_3 (lv_at hl 4 rfl) ?_
  refine lv_iconst (v := nI 1) hx hb dX1_agreeMost_5 (by decide) ?_
  refine hn_add hx hb dX1_agreeMost_6 ?_
  refine vp_callSi (W.runV (As := [.int (nI r), .int (nI s), .int (nI (e + 1))]) (rest := []) ⟨hx, hb, hml, hown, hts⟩ (metX1_agreeFrom r s ((e + 1)) (by omega) (by omega) (by omega) hbd) (cwV 3 hts (lw_V q224 q226 qs19 q26 q227) rfl rfl rfl (by decide +kernel) ⟨Nat.le_of_ble_eq_true rfl, Nat.le_of_ble_eq_true rfl⟩) (rd_preX1 hK hP) rfl rfl hl.1 rfl (lv_room (Nat.le_of_ble_eq_true rfl)) dX1_agreeMost_7 ⟨Nat.le_of_ble_eq_true rfl, Nat.le_of_ble_eq_true rfl⟩) (fun v hv => ?_)
  subst hv
  refine lv_iload_n hx hb dX1_agreeMost_10 rfl (lv_at hl 3 rfl) ?_
  refine hn_icmp_ne (tgt := 38) hx hb dX1_agreeMost_11 (by decide) (AF_31 (by omega)) (by omega) (fun c11 => ?_) (fun c11 => ?_)
  · refine lv_iconst (v := nI 0) hx hb dX1_agreeMost_38 (by decide) ?_
    have er : 0 = (bN (AMb b r s a e)) := by unfold AMb; rw [decide_eq_false c11, Bool.false_and]; rfl
    exact W.zret (v := nI 0) hx hb hret rfl (fun t ht hW => ⟨nI 0, rfl, congrArg nI er, ht⟩) (fun _ h => by cases h) dX1_agreeMost_39
  · refine lv_iload hx hb dX1_agreeMost_14 (lv_at hl 4 rfl) ?_
    refine lv_bipush (v := nI 11) hx hb dX1_agreeMost_16 (by decide) ?_
    refine hn_icmp_eq (tgt := 34) hx hb dX1_agreeMost_18 (by decide) (by omega) (by omega) (fun c18 => ?_) (fun c18 => ?_)
    · refine lv_iconst (v := nI 1) hx hb dX1_agreeMost_34 (by decide) ?_
      refine lv_goto (tgt := 39) hx hb dX1_agreeMost_35 (by decide) ?_
      have er : 1 = (bN (AMb b r s a e)) := by unfold AMb; rw [decide_eq_true c11, c18, ptB_12]; rfl
      exact W.zret (v := nI 1) hx hb hret rfl (fun t ht hW => ⟨nI 1, rfl, congrArg nI er, ht⟩) (fun _ h => by cases h) dX1_agreeMost_39
    · refine lv_aload_n hx hb dX1_agreeMost_21 rfl (lv_at hl 0 rfl) ?_
      refine lv_iload_n hx hb dX1_agreeMost_22 rfl (lv_at hl 1 rfl) ?_
      refine lv_iload_n hx hb dX1_agreeMost_23 rfl (lv_at hl 2 rfl) ?_
      refine lv_iload hx hb dX1_agreeMost_24 (lv_at hl 4 rfl) ?_
      refine lv_iconst (v := nI 1) hx hb dX1_agreeMost_26 (by decide) ?_
      refine hn_add hx hb dX1_agreeMost_27 ?_
      refine vp_callSi (W.runV (As := [.int (nI r), .int (nI s), .int (nI (e + 1))]) (rest := []) ⟨hx, hb, hml, hown, hts⟩ (metX1_differ r s (e + 1) (by omega) (by omega) (by omega) hbd) (cwV 3 hts (lw_V q215 q217 qs18 q26 q218) rfl rfl rfl (by decide +kernel) ⟨Nat.le_of_ble_eq_true rfl, Nat.le_of_ble_eq_true rfl⟩) (rd_preX1 hK hP) rfl rfl hl.1 rfl (lv_room (Nat.le_of_ble_eq_true rfl)) dX1_agreeMost_28 ⟨Nat.le_of_ble_eq_true rfl, Nat.le_of_ble_eq_true rfl⟩) (fun v hv => ?_)
      subst hv
      refine hn_ifB_eq (tgt := 38) hx hb dX1_agreeMost_31 (by decide) (fun c31 => ?_) (fun c31 => ?_)
      · refine lv_iconst (v := nI 0) hx hb dX1_agreeMost_38 (by decide) ?_
        have er : 0 = (bN (AMb b r s a e)) := by unfold AMb; rw [ptB_df (by omega), c31, Bool.and_false]; rfl
        exact W.zret (v := nI 0) hx hb hret rfl (fun t ht hW => ⟨nI 0, rfl, congrArg nI er, ht⟩) (fun _ h => by cases h) dX1_agreeMost_39
      · refine lv_iconst (v := nI 1) hx hb dX1_agreeMost_34 (by decide) ?_
        refine lv_goto (tgt := 39) hx hb dX1_agreeMost_35 (by decide) ?_
        have er : 1 = (bN (AMb b r s a e)) := by unfold AMb; rw [decide_eq_true c11, ptB_df (by omega), c31]; rfl
        exact W.zret (v := nI 1) hx hb hret rfl (fun t ht hW => ⟨nI 1, rfl, congrArg nI er, ht⟩) (fun _ h => by cases h) dX1_agreeMost_39

set_option maxHeartbeats 4000000 in
set_option maxRecDepth 100000 in
theorem metX1_agree {l : Launch} {dC : Nat → ClassId} {dI : Nat → Nat → Nat} {h0 k1 : Nat} {d0 : ClassId} {cnt : Nat} {b : Nat → Nat} (r s a e : Nat) (h1 : r < 8) (h2 : s < 8) (ha : a ≤ 12) (he : e ≤ 11) (hbd : ∀ k, b k < 4096) : Met l yX1_agree (ws_ yX1_agree cX1_agree 5 (some .boolean)) (rmk 2) (rdP (dC, dI) [(d0, .int)] (MW h0 k1 d0 cnt b) [.ref h0, .int (nI r), .int (nI s), .int (nI a), .int (nI e)]) (vp_Si (fun v => v = nI (bN (AGb b r s a e)))) 0 0 (fun _ => False) := by
  refine Met.ofW (cc := cX1_agree) (maxL := 5) (ret := (some .boolean)) (by decide) rfl ?_
  intro pP eE sS mM args below meth cC s₁ B hml hv
  obtain ⟨rfl, hP, hK⟩ := hv
  have hx := B.exec
  have hb := B.bytes
  have hret := B.returns
  have hts := atoms_spec (ws := ws_ yX1_agree cX1_agree 5 (some .boolean)) B.pre
  have hts : ∀ w ∈ lw_all, w.before _ sS = true := fun w h => hts w (List.mem_cons_of_mem _ h)
  have hown : sS.vm.findClass RX1 = some mM.cls := findClass_of_methodNamed B.named
  have hlocks := B.notSynchronized
  have hl := lv_entry ([.ref h0, .int (nI r), .int (nI s), .int (nI a), .int (nI e)]) (n := 5) (Nat.le_of_ble_eq_true rfl)
  rw [lg_entry_eq]
  generalize (lg_sl ([.ref h0, .int (nI r), .int (nI s), .int (nI a), .int (nI e)]) ++ List.replicate (5 - (lg_sl ([.ref h0, .int (nI r), .int (nI s), .int (nI a), .int (nI e)])).length) Slot.unset).toArray = ls at hl ⊢
  have hl : lv_has ls 5 [(0, .ref h0), (1, .int (nI r)), (2, .int (nI s)), (3, .int (nI a)), (4, .int (nI e))] := hl
  refine lv_aload_n hx hb dX1_agree_0 rfl (lv_at hl 0 rfl) ?_
  refine lv_iload_n hx hb dX1_agree_1 rfl (lv_at hl 1 rfl) ?_
  refine lv_iload_n hx hb dX1_agree_2 rfl (lv_at hl 2 rfl) ?_
  refine lv_iload hx hb dX1_agree_3 (lv_at hl 4 rfl) ?_
  refine lv_iconst (v := nI 1) hx hb dX1_agree_5 (by decide) ?_
  refine hn_add hx hb dX1_agree_6 ?_
  refine vp_callSi (W.runV (As := [.int (nI r), .int (nI s), .int (nI (e + 1))]) (rest := []) ⟨hx, hb, hml, hown, hts⟩ (metX1_agreeFrom r s ((e + 1)) (by omega) (by omega) (by omega) hbd) (cwV 3 hts (lw_V q224 q226 qs19 q26 q227) rfl rfl rfl (by decide +kernel) ⟨Nat.le_of_ble_eq_true rfl, Nat.le_of_ble_eq_true rfl⟩) (rd_preX1 hK hP) rfl rfl hl.1 rfl (lv_room (Nat.le_of_ble_eq_true rfl)) dX1_agree_7 ⟨Nat.le_of_ble_eq_true rfl, Nat.le_of_ble_eq_true rfl⟩) (fun v hv => ?_)
  subst hv
  refine lv_iload_n hx hb dX1_agree_10 rfl (lv_at hl 3 rfl) ?_
  refine hn_icmp_gt (tgt := 18) hx hb dX1_agree_11 (by decide) (AF_31 (by omega)) (by omega) (fun c11 => ?_) (fun c11 => ?_)
  · refine lv_iconst (v := nI 0) hx hb dX1_agree_18 (by decide) ?_
    have er : 0 = (bN (AGb b r s a e)) := by rw [show AGb b r s a e = false from decide_eq_false (Nat.not_le.mpr c11)]; rfl
    exact W.zret (v := nI 0) hx hb hret rfl (fun t ht hW => ⟨nI 0, rfl, congrArg nI er, ht⟩) (fun _ h => by cases h) dX1_agree_19
  · refine lv_iconst (v := nI 1) hx hb dX1_agree_14 (by decide) ?_
    refine lv_goto (tgt := 19) hx hb dX1_agree_15 (by decide) ?_
    have er : 1 = (bN (AGb b r s a e)) := by rw [show AGb b r s a e = true from decide_eq_true c11]; rfl
    exact W.zret (v := nI 1) hx hb hret rfl (fun t ht hW => ⟨nI 1, rfl, congrArg nI er, ht⟩) (fun _ h => by cases h) dX1_agree_19

set_option maxHeartbeats 4000000 in
set_option maxRecDepth 100000 in
theorem metX1_matches {l : Launch} {dC : Nat → ClassId} {dI : Nat → Nat → Nat} {h0 k1 : Nat} {d0 : ClassId} {cnt : Nat} {b : Nat → Nat} (p0 : Int32) (h8 : cnt ≤ 8) (hbd : ∀ k, b k < 4096) : Met l yX1_matches (ws_ yX1_matches cX1_matches 10 (some .int)) (rmk 3) (rdP (dC, dI) [(d0, .int)] (MW h0 k1 d0 cnt b) [.ref h0, .int p0]) (vp_Si (fun v => v = S_matM cnt b p0)) 0 0 (fun _ => False) := by
  refine Met.ofW (cc := cX1_matches) (maxL := 10) (ret := (some .int)) (by decide) rfl ?_
  intro pP eE sS mM args below meth cC s₁ B hml hv
  obtain ⟨rfl, hP, hK⟩ := hv
  have hx := B.exec
  have hb := B.bytes
  have hret := B.returns
  have hts := atoms_spec (ws := ws_ yX1_matches cX1_matches 10 (some .int)) B.pre
  have hts : ∀ w ∈ lw_all, w.before _ sS = true := fun w h => hts w (List.mem_cons_of_mem _ h)
  have hown : sS.vm.findClass RX1 = some mM.cls := findClass_of_methodNamed B.named
  have hlocks := B.notSynchronized
  have hl := lv_entry ([.ref h0, .int p0]) (n := 10) (Nat.le_of_ble_eq_true rfl)
  rw [lg_entry_eq]
  generalize (lg_sl ([.ref h0, .int p0]) ++ List.replicate (10 - (lg_sl ([.ref h0, .int p0])).length) Slot.unset).toArray = ls at hl ⊢
  have hl : lv_has ls 10 [(0, .ref h0), (1, .int p0)] := hl
  refine lv_iload_n hx hb dX1_matches_0 rfl (lv_at hl 1 rfl) ?_
  refine lv_iconst (v := nI 1) hx hb dX1_matches_1 (by decide) ?_
  refine hz_icmp_lt (tgt := 11) hx hb dX1_matches_2 (by decide) (fun c2 => ?_) (fun c2 => ?_)
  · rw [hz_t (k := 1) (by omega)] at c2
    refine lv_iconst (v := -1) hx hb dX1_matches_11 (by decide) ?_
    have er : (-1) = S_matM cnt b p0 := by exact (if_neg (by omega)).symm
    exact W.iret (v := (-1)) hx hb hret (fun t ht hW => ⟨(-1), rfl, er, ht⟩) (fun _ h => by cases h) dX1_matches_12
  · rw [hz_t (k := 1) (by omega)] at c2
    refine lv_iload_n hx hb dX1_matches_5 rfl (lv_at hl 1 rfl) ?_
    refine lv_bipush (v := nI 12) hx hb dX1_matches_6 (by decide) ?_
    refine hz_icmp_le (tgt := 13) hx hb dX1_matches_8 (by decide) (fun c8 => ?_) (fun c8 => ?_)
    · rw [hz_t (k := 12) (by omega)] at c8
      obtain ⟨k, hk31, rfl, ek⟩ := hz_of (x := p0) (by omega)
      rw [hz_t hk31] at c2 c8
      clear ek
      refine lv_iconst (v := nI 0) hx hb dX1_matches_13 (by decide) ?_
      refine lv_istore_n (lv' := [(2, .int (nI 0)), (0, .ref h0), (1, .int (nI k))]) hx hb dX1_matches_14 rfl hl (by decide) rfl (fun ls hl => ?_)
      refine lv_iconst (v := nI 0) hx hb dX1_matches_15 (by decide) ?_
      refine lv_istore_n (lv' := [(3, .int (nI 0)), (2, .int (nI 0)), (0, .ref h0), (1, .int (nI k))]) hx hb dX1_matches_16 rfl hl (by decide) rfl (fun ls hl => ?_)
      have hl : lv_has ls 10 [(0, .ref h0), (1, .int (nI k)), (2, .int (nI (sm (fun p => cN (mmP b cnt k p) 144) 0))), (3, .int (nI 0))] := lv_sub hl [2, 3, 1, 0] rfl
      refine W.up 10 17 (fun p => [(0, .ref h0), (1, .int (nI k)), (2, .int (nI (sm (fun p => cN (mmP b cnt k p) 144) p))), (3, .int (nI p))]) (fun p => True) 64 ?_ ?_ 0 (by omega) trivial hl
      · intro hk ls hl
        have hl : lv_has ls 10 [(0, .ref h0), (1, .int (nI k)), (2, .int (nI (sm (fun p => cN (mmP b cnt k p) 144) 64))), (3, .int (nI 64))] := hl
        refine lv_iload_n hx hb dX1_matches_17 rfl (lv_at hl 3 rfl) ?_
        refine lv_bipush (v := nI 64) hx hb dX1_matches_18 (by decide) ?_
        refine hn_icmp_ge (tgt := 134) hx hb dX1_matches_20 (by decide) (by omega) (by omega) (fun c20 => ?_) (fun c20 => absurd c20 (by omega))
        refine lv_iload_n hx hb dX1_matches_134 rfl (lv_at hl 2 rfl) ?_
        have er : nI (sm (fun p => cN (mmP b cnt k p) 144) 64) = S_matM cnt b (nI k) := by exact (S_matM_ok (by omega) (by omega)).symm
        exact W.iret (v := nI (sm (fun p => cN (mmP b cnt k p) 144) 64)) hx hb hret (fun t ht hW => ⟨nI (sm (fun p => cN (mmP b cnt k p) 144) 64), rfl, er, ht⟩) (fun _ h => by cases h) dX1_matches_135
      · intro p hip hk ih17 ls hl
        have hl : lv_has ls 10 [(0, .ref h0), (1, .int (nI k)), (2, .int (nI (sm (fun p => cN (mmP b cnt k p) 144) p))), (3, .int (nI p))] := hl
        refine lv_iload_n hx hb dX1_matches_17 rfl (lv_at hl 3 rfl) ?_
        refine lv_bipush (v := nI 64) hx hb dX1_matches_18 (by decide) ?_
        refine hn_icmp_ge (tgt := 134) hx hb dX1_matches_20 (by decide) (by omega) (by omega) (fun c20 => absurd c20 (by omega)) (fun c20 => ?_)
        refine lv_iconst (v := nI 0) hx hb dX1_matches_23 (by decide) ?_
        refine lv_istore (lv' := [(4, .int (nI 0)), (0, .ref h0), (1, .int (nI k)), (2, .int (nI (sm (fun p => cN (mmP b cnt k p) 144) p))), (3, .int (nI p))]) hx hb dX1_matches_24 hl (by decide) rfl (fun ls hl => ?_)
        have hl : lv_has ls 10 [(0, .ref h0), (1, .int (nI k)), (2, .int (nI (sm (fun p => cN (mmP b cnt k p) 144) p + cN (mmP b cnt k p) 0))), (3, .int (nI p)), (4, .int (nI 0))] := lv_sub hl [1, 2, 3, 4, 0] rfl
        refine W.up 10 26 (fun st => [(0, .ref h0), (1, .int (nI k)), (2, .int (nI (sm (fun p => cN (mmP b cnt k p) 144) p + cN (mmP b cnt k p) st))), (3, .int (nI p)), (4, .int (nI st))]) (fun st => True) 144 ?_ ?_ 0 (by omega) trivial hl
        · intro hk ls hl
          have hl : lv_has ls 10 [(0, .ref h0), (1, .int (nI k)), (2, .int (nI (sm (fun p => cN (mmP b cnt k p) 144) p + cN (mmP b cnt k p) 144))), (3, .int (nI p)), (4, .int (nI 144))] := hl
          refine lv_iload hx hb dX1_matches_26 (lv_at hl 4 rfl) ?_
          refine lv_sipush (v := nI 144) hx hb dX1_matches_28 (by decide) ?_
          refine hn_icmp_ge (tgt := 128) hx hb dX1_matches_31 (by decide) (by omega) (by omega) (fun c31 => ?_) (fun c31 => absurd c31 (by omega))
          refine lv_iinc (v := nI (p + 1)) (lv' := [(3, .int (nI (p + 1))), (0, .ref h0), (1, .int (nI k)), (2, .int (nI (sm (fun p => cN (mmP b cnt k p) 144) p + cN (mmP b cnt k p) 144))), (4, .int (nI 144))]) hx hb dX1_matches_128 hl (k := 3) rfl (nI_1 _) (by decide) rfl (fun ls hl => ?_)
          refine lv_goto (tgt := 17) hx hb dX1_matches_131 (by decide) ?_
          have ev2 : (sm (fun p => cN (mmP b cnt k p) 144) (p + 1)) = (sm (fun p => cN (mmP b cnt k p) 144) p + cN (mmP b cnt k p) 144) := by rfl
          have ev3 : ((p + 1)) = (p + 1) := by rfl
          have hl : lv_has ls 10 [(0, .ref h0), (1, .int (nI k)), (2, .int (nI (sm (fun p => cN (mmP b cnt k p) 144) (p + 1)))), (3, .int (nI ((p + 1))))] := by rw [ev2, ev3]; exact lv_sub hl [1, 2, 3, 0] rfl
          exact ih17 trivial ls hl
        · intro st hist hk ih26 ls hl
          have hl : lv_has ls 10 [(0, .ref h0), (1, .int (nI k)), (2, .int (nI (sm (fun p => cN (mmP b cnt k p) 144) p + cN (mmP b cnt k p) st))), (3, .int (nI p)), (4, .int (nI st))] := hl
          refine lv_iload hx hb dX1_matches_26 (lv_at hl 4 rfl) ?_
          refine lv_sipush (v := nI 144) hx hb dX1_matches_28 (by decide) ?_
          refine hn_icmp_ge (tgt := 128) hx hb dX1_matches_31 (by decide) (by omega) (by omega) (fun c31 => absurd c31 (by omega)) (fun c31 => ?_)
          refine lv_iload_n hx hb dX1_matches_34 rfl (lv_at hl 3 rfl) ?_
          refine lv_bipush (v := nI 8) hx hb dX1_matches_35 (by decide) ?_
          refine hn_div hx hb dX1_matches_37 (by omega) (by decide) (by decide) ?_
          refine lv_istore (lv' := [(5, .int (nI (p / 8))), (0, .ref h0), (1, .int (nI k)), (2, .int (nI (sm (fun p => cN (mmP b cnt k p) 144) p + cN (mmP b cnt k p) st))), (3, .int (nI p)), (4, .int (nI st))]) hx hb dX1_matches_38 hl (by decide) rfl (fun ls hl => ?_)
          refine lv_iload_n hx hb dX1_matches_40 rfl (lv_at hl 4 rfl) ?_
          refine lv_bipush (v := nI 8) hx hb dX1_matches_41 (by decide) ?_
          refine hn_rem hx hb dX1_matches_43 (by omega) (by decide) (by decide) ?_
          refine lv_istore (lv' := [(6, .int (nI (p % 8))), (5, .int (nI (p / 8))), (0, .ref h0), (1, .int (nI k)), (2, .int (nI (sm (fun p => cN (mmP b cnt k p) 144) p + cN (mmP b cnt k p) st))), (3, .int (nI p)), (4, .int (nI st))]) hx hb dX1_matches_44 hl (by decide) rfl (fun ls hl => ?_)
          refine lv_iload hx hb dX1_matches_46 (lv_at hl 6 rfl) ?_
          refine lv_bipush (v := nI 12) hx hb dX1_matches_48 (by decide) ?_
          refine hn_div hx hb dX1_matches_50 (by omega) (by decide) (by decide) ?_
          refine lv_istore (lv' := [(7, .int (nI (st / 12))), (6, .int (nI (p % 8))), (5, .int (nI (p / 8))), (0, .ref h0), (1, .int (nI k)), (2, .int (nI (sm (fun p => cN (mmP b cnt k p) 144) p + cN (mmP b cnt k p) st))), (3, .int (nI p)), (4, .int (nI st))]) hx hb dX1_matches_51 hl (by decide) rfl (fun ls hl => ?_)
          refine lv_iload hx hb dX1_matches_53 (lv_at hl 7 rfl) ?_
          refine lv_bipush (v := nI 12) hx hb dX1_matches_55 (by decide) ?_
          refine hn_rem hx hb dX1_matches_57 (by omega) (by decide) (by decide) ?_
          refine lv_istore (lv' := [(8, .int (nI (st % 12))), (7, .int (nI (st / 12))), (6, .int (nI (p % 8))), (5, .int (nI (p / 8))), (0, .ref h0), (1, .int (nI k)), (2, .int (nI (sm (fun p => cN (mmP b cnt k p) 144) p + cN (mmP b cnt k p) st))), (3, .int (nI p)), (4, .int (nI st))]) hx hb dX1_matches_58 hl (by decide) rfl (fun ls hl => ?_)
          refine lv_iload hx hb dX1_matches_60 (lv_at hl 3 rfl) ?_
          refine lv_iload hx hb dX1_matches_62 (lv_at hl 2 rfl) ?_
          refine W.jn2 (g := F0 mM 107 ls [.int (nI (bN (mmP b cnt k p st)))]) (fun J => ?_) ?_
          · refine hn_icmp_ge (tgt := 106) hx hb dX1_matches_64 (by decide) (by omega) (by omega) (fun c64 => ?_) (fun c64 => ?_)
            · refine lv_iconst (v := nI 0) hx hb dX1_matches_106 (by decide) ?_
              have ej : (bN (mmP b cnt k p st)) = 0 := by unfold mmP; rw [decide_eq_false (p := p / 8 < p % 8) (by omega)]; rfl
              rw [ej] at J
              exact J
            · refine lv_iload hx hb dX1_matches_67 (lv_at hl 2 rfl) ?_
              refine lv_aload_n hx hb dX1_matches_69 rfl (lv_at hl 4 rfl) ?_
              refine va_get (D := (dC, dI)) (ci := 1) (v := .int (nI cnt)) (C := RX1) (T := TX1) (N := 2) hx hb hts in_X1 hown hK hP 0 rfl rfl 1 (by decide) (hts _ q169) (fun _ h9 => h9) rfl dX1_matches_70 ?_
              refine hn_icmp_ge (tgt := 106) hx hb dX1_matches_73 (by decide) (by omega) (by omega) (fun c73 => ?_) (fun c73 => ?_)
              · refine lv_iconst (v := nI 0) hx hb dX1_matches_106 (by decide) ?_
                have ej : (bN (mmP b cnt k p st)) = 0 := by unfold mmP; rw [decide_eq_false (p := p % 8 < cnt) (by omega), Bool.and_false]; rfl
                rw [ej] at J
                exact J
              · refine lv_iload hx hb dX1_matches_76 (lv_at hl 0 rfl) ?_
                refine lv_iload hx hb dX1_matches_78 (lv_at hl 1 rfl) ?_
                refine lv_isub hx hb dX1_matches_80 ?_
                refine lv_iconst (v := nI 1) hx hb dX1_matches_81 (by decide) ?_
                refine lv_iadd hx hb dX1_matches_82 ?_
                refine lv_iload_n hx hb dX1_matches_83 rfl (lv_at hl 5 rfl) ?_
                refine hz_icmp_lt (tgt := 106) hx hb dX1_matches_84 (by decide) (fun c84 => ?_) (fun c84 => ?_)
                · rw [hz_t (k := k) (by omega)] at c84
                  have c84 : ¬ st / 12 + k ≤ st % 12 + 1 := hz_bT (by omega) (by omega) c84
                  refine lv_iconst (v := nI 0) hx hb dX1_matches_106 (by decide) ?_
                  have ej : (bN (mmP b cnt k p st)) = 0 := by unfold mmP; rw [decide_eq_false (p := st / 12 + k ≤ st % 12 + 1) (by omega), Bool.and_false]; rfl
                  rw [ej] at J
                  exact J
                · rw [hz_t (k := k) (by omega)] at c84
                  have c84 : st / 12 + k ≤ st % 12 + 1 := hz_bF (by omega) (by omega) c84
                  refine lv_aload_n hx hb dX1_matches_87 rfl (lv_at hl 4 rfl) ?_
                  refine lv_iload hx hb dX1_matches_88 (lv_at hl 3 rfl) ?_
                  refine lv_iload hx hb dX1_matches_90 (lv_at hl 2 rfl) ?_
                  refine lv_iload hx hb dX1_matches_92 (lv_at hl 1 rfl) ?_
                  refine lv_iload hx hb dX1_matches_94 (lv_at hl 0 rfl) ?_
                  refine vp_callSi (W.runV (As := [.int (nI (p / 8)), .int (nI (p % 8)), .int (nI (st / 12)), .int (nI (st % 12))]) (rest := []) ⟨hx, hb, hml, hown, hts⟩ (metX1_agreeMost ((p / 8)) ((p % 8)) ((st / 12)) ((st % 12)) (by omega) (by omega) (by omega) (by omega) hbd) (cwV 4 hts (lw_V q232 q234 qs20 q26 q235) rfl rfl rfl (by decide +kernel) ⟨Nat.le_of_ble_eq_true rfl, Nat.le_of_ble_eq_true rfl⟩) (rd_preX1 hK hP) rfl rfl hl.1 rfl (lv_room (Nat.le_of_ble_eq_true rfl)) dX1_matches_96 ⟨Nat.le_of_ble_eq_true rfl, Nat.le_of_ble_eq_true rfl⟩) (fun v hv => ?_)
                  subst hv
                  refine hn_ifB_eq (tgt := 106) hx hb dX1_matches_99 (by decide) (fun c99 => ?_) (fun c99 => ?_)
                  · refine lv_iconst (v := nI 0) hx hb dX1_matches_106 (by decide) ?_
                    have ej : (bN (mmP b cnt k p st)) = 0 := by unfold mmP; rw [c99, Bool.and_false]; rfl
                    rw [ej] at J
                    exact J
                  · refine lv_iconst (v := nI 1) hx hb dX1_matches_102 (by decide) ?_
                    refine lv_goto (tgt := 107) hx hb dX1_matches_103 (by decide) ?_
                    have ej : (bN (mmP b cnt k p st)) = 1 := by unfold mmP; rw [decide_eq_true c64, decide_eq_true c73, decide_eq_true c84, c99]; rfl
                    rw [ej] at J
                    exact J
          refine lv_istore (lv' := [(9, .int (nI (bN (mmP b cnt k p st)))), (8, .int (nI (st % 12))), (7, .int (nI (st / 12))), (6, .int (nI (p % 8))), (5, .int (nI (p / 8))), (0, .ref h0), (1, .int (nI k)), (2, .int (nI (sm (fun p => cN (mmP b cnt k p) 144) p + cN (mmP b cnt k p) st))), (3, .int (nI p)), (4, .int (nI st))]) hx hb dX1_matches_107 hl (by decide) rfl (fun ls hl => ?_)
          refine lv_iload hx hb dX1_matches_109 (lv_at hl 0 rfl) ?_
          refine hn_ifB_eq (tgt := 120) hx hb dX1_matches_111 (by decide) (fun c111 => ?_) (fun c111 => ?_)
          · refine lv_iload_n hx hb dX1_matches_120 rfl (lv_at hl 7 rfl) ?_
            refine lv_istore_n (lv' := [(2, .int (nI (sm (fun p => cN (mmP b cnt k p) 144) p + cN (mmP b cnt k p) st))), (9, .int (nI (bN (mmP b cnt k p st)))), (8, .int (nI (st % 12))), (7, .int (nI (st / 12))), (6, .int (nI (p % 8))), (5, .int (nI (p / 8))), (0, .ref h0), (1, .int (nI k)), (3, .int (nI p)), (4, .int (nI st))]) hx hb dX1_matches_121 rfl hl (by decide) rfl (fun ls hl => ?_)
            refine lv_iinc (v := nI (st + 1)) (lv' := [(4, .int (nI (st + 1))), (2, .int (nI (sm (fun p => cN (mmP b cnt k p) 144) p + cN (mmP b cnt k p) st))), (9, .int (nI (bN (mmP b cnt k p st)))), (8, .int (nI (st % 12))), (7, .int (nI (st / 12))), (6, .int (nI (p % 8))), (5, .int (nI (p / 8))), (0, .ref h0), (1, .int (nI k)), (3, .int (nI p))]) hx hb dX1_matches_122 hl (k := 9) rfl (nI_1 _) (by decide) rfl (fun ls hl => ?_)
            refine lv_goto (tgt := 26) hx hb dX1_matches_125 (by decide) ?_
            have ev2 : (sm (fun p => cN (mmP b cnt k p) 144) p + cN (mmP b cnt k p) (st + 1)) = (sm (fun p => cN (mmP b cnt k p) 144) p + cN (mmP b cnt k p) st) := by show _ + (_ + bN (mmP b cnt k p st)) = _; rw [c111]; rfl
            have ev4 : ((st + 1)) = (st + 1) := by rfl
            have hl : lv_has ls 10 [(0, .ref h0), (1, .int (nI k)), (2, .int (nI (sm (fun p => cN (mmP b cnt k p) 144) p + cN (mmP b cnt k p) (st + 1)))), (3, .int (nI p)), (4, .int (nI ((st + 1))))] := by rw [ev2, ev4]; exact lv_sub hl [7, 8, 1, 9, 0] rfl
            exact ih26 trivial ls hl
          · refine lv_iload_n hx hb dX1_matches_114 rfl (lv_at hl 7 rfl) ?_
            refine lv_iconst (v := nI 1) hx hb dX1_matches_115 (by decide) ?_
            refine hn_add hx hb dX1_matches_116 ?_
            refine lv_goto (tgt := 121) hx hb dX1_matches_117 (by decide) ?_
            refine lv_istore_n (lv' := [(2, .int (nI ((sm (fun p => cN (mmP b cnt k p) 144) p + cN (mmP b cnt k p) st) + 1))), (9, .int (nI (bN (mmP b cnt k p st)))), (8, .int (nI (st % 12))), (7, .int (nI (st / 12))), (6, .int (nI (p % 8))), (5, .int (nI (p / 8))), (0, .ref h0), (1, .int (nI k)), (3, .int (nI p)), (4, .int (nI st))]) hx hb dX1_matches_121 rfl hl (by decide) rfl (fun ls hl => ?_)
            refine lv_iinc (v := nI (st + 1)) (lv' := [(4, .int (nI (st + 1))), (2, .int (nI ((sm (fun p => cN (mmP b cnt k p) 144) p + cN (mmP b cnt k p) st) + 1))), (9, .int (nI (bN (mmP b cnt k p st)))), (8, .int (nI (st % 12))), (7, .int (nI (st / 12))), (6, .int (nI (p % 8))), (5, .int (nI (p / 8))), (0, .ref h0), (1, .int (nI k)), (3, .int (nI p))]) hx hb dX1_matches_122 hl (k := 9) rfl (nI_1 _) (by decide) rfl (fun ls hl => ?_)
            refine lv_goto (tgt := 26) hx hb dX1_matches_125 (by decide) ?_
            have ev2 : (sm (fun p => cN (mmP b cnt k p) 144) p + cN (mmP b cnt k p) (st + 1)) = ((sm (fun p => cN (mmP b cnt k p) 144) p + cN (mmP b cnt k p) st) + 1) := by show _ + (_ + bN (mmP b cnt k p st)) = _; rw [c111]; rfl
            have ev4 : ((st + 1)) = (st + 1) := by rfl
            have hl : lv_has ls 10 [(0, .ref h0), (1, .int (nI k)), (2, .int (nI (sm (fun p => cN (mmP b cnt k p) 144) p + cN (mmP b cnt k p) (st + 1)))), (3, .int (nI p)), (4, .int (nI ((st + 1))))] := by rw [ev2, ev4]; exact lv_sub hl [7, 8, 1, 9, 0] rfl
            exact ih26 trivial ls hl
    · rw [hz_t (k := 12) (by omega)] at c8
      refine lv_iconst (v := -1) hx hb dX1_matches_11 (by decide) ?_
      have er : (-1) = S_matM cnt b p0 := by exact (if_neg (by omega)).symm
      exact W.iret (v := (-1)) hx hb hret (fun t ht hW => ⟨(-1), rfl, er, ht⟩) (fun _ h => by cases h) dX1_matches_12

set_option maxHeartbeats 4000000 in
set_option maxRecDepth 100000 in
theorem metX1_longest {l : Launch} {dC : Nat → ClassId} {dI : Nat → Nat → Nat} {h0 k1 : Nat} {d0 : ClassId} {cnt : Nat} {b : Nat → Nat} (p0 p1 : Int32) (h8 : cnt ≤ 8) (hbd : ∀ k, b k < 4096) : Met l yX1_longest (ws_ yX1_longest cX1_longest 6 (some .int)) (rmk 2) (rdP (dC, dI) [(d0, .int)] (MW h0 k1 d0 cnt b) [.ref h0, .int p0, .int p1]) (vp_Si (fun v => v = S_lon cnt b p0 p1)) 0 0 (fun _ => False) := by
  refine Met.ofW (cc := cX1_longest) (maxL := 6) (ret := (some .int)) (by decide) rfl ?_
  intro pP eE sS mM args below meth cC s₁ B hml hv
  obtain ⟨rfl, hP, hK⟩ := hv
  have hx := B.exec
  have hb := B.bytes
  have hret := B.returns
  have hts := atoms_spec (ws := ws_ yX1_longest cX1_longest 6 (some .int)) B.pre
  have hts : ∀ w ∈ lw_all, w.before _ sS = true := fun w h => hts w (List.mem_cons_of_mem _ h)
  have hown : sS.vm.findClass RX1 = some mM.cls := findClass_of_methodNamed B.named
  have hlocks := B.notSynchronized
  have hl := lv_entry ([.ref h0, .int p0, .int p1]) (n := 6) (Nat.le_of_ble_eq_true rfl)
  rw [lg_entry_eq]
  generalize (lg_sl ([.ref h0, .int p0, .int p1]) ++ List.replicate (6 - (lg_sl ([.ref h0, .int p0, .int p1])).length) Slot.unset).toArray = ls at hl ⊢
  have hl : lv_has ls 6 [(0, .ref h0), (1, .int p0), (2, .int p1)] := hl
  refine lv_aload_n hx hb dX1_longest_0 rfl (lv_at hl 0 rfl) ?_
  refine lv_iload_n hx hb dX1_longest_1 rfl (lv_at hl 1 rfl) ?_
  refine vp_callSi (W.runV (As := [.int p0]) (rest := []) ⟨hx, hb, hml, hown, hts⟩ (metX1_isRow p0 h8) (cwV 1 hts (lw_V q191 q193 qs14 q26 q194) rfl rfl rfl (by decide +kernel) ⟨Nat.le_of_ble_eq_true rfl, Nat.le_of_ble_eq_true rfl⟩) (rd_preX1 hK hP) rfl rfl hl.1 rfl (lv_room (Nat.le_of_ble_eq_true rfl)) dX1_longest_2 ⟨Nat.le_of_ble_eq_true rfl, Nat.le_of_ble_eq_true rfl⟩) (fun v hv => ?_)
  subst hv
  refine hn_ifB_eq (tgt := 21) hx hb dX1_longest_5 (by decide) (fun c5 => ?_) (fun c5 => ?_)
  · refine lv_bipush (v := -4) hx hb dX1_longest_21 (by decide) ?_
    have er : (-4) = S_lon cnt b p0 p1 := by unfold S_lon; rw [if_neg (fun z => by rw [c5] at z; exact absurd z.1 (by decide))]
    exact W.iret (v := (-4)) hx hb hret (fun t ht hW => ⟨(-4), rfl, er, ht⟩) (fun _ h => by cases h) dX1_longest_23
  · refine lv_aload_n hx hb dX1_longest_8 rfl (lv_at hl 0 rfl) ?_
    refine lv_iload_n hx hb dX1_longest_9 rfl (lv_at hl 2 rfl) ?_
    refine vp_callSi (W.runV (As := [.int p1]) (rest := []) ⟨hx, hb, hml, hown, hts⟩ (metX1_isRow p1 h8) (cwV 1 hts (lw_V q191 q193 qs14 q26 q194) rfl rfl rfl (by decide +kernel) ⟨Nat.le_of_ble_eq_true rfl, Nat.le_of_ble_eq_true rfl⟩) (rd_preX1 hK hP) rfl rfl hl.1 rfl (lv_room (Nat.le_of_ble_eq_true rfl)) dX1_longest_10 ⟨Nat.le_of_ble_eq_true rfl, Nat.le_of_ble_eq_true rfl⟩) (fun v hv => ?_)
    subst hv
    refine hn_ifB_eq (tgt := 21) hx hb dX1_longest_13 (by decide) (fun c13 => ?_) (fun c13 => ?_)
    · refine lv_bipush (v := -4) hx hb dX1_longest_21 (by decide) ?_
      have er : (-4) = S_lon cnt b p0 p1 := by unfold S_lon; rw [if_neg (fun z => by rw [c13] at z; exact absurd z.2.1 (by decide))]
      exact W.iret (v := (-4)) hx hb hret (fun t ht hW => ⟨(-4), rfl, er, ht⟩) (fun _ h => by cases h) dX1_longest_23
    · refine lv_iload_n hx hb dX1_longest_16 rfl (lv_at hl 1 rfl) ?_
      refine lv_iload_n hx hb dX1_longest_17 rfl (lv_at hl 2 rfl) ?_
      refine hz_icmp_ne (tgt := 24) hx hb dX1_longest_18 (by decide) (fun c18 => ?_) (fun c18 => ?_)
      · obtain ⟨r, hr, hr31, rfl⟩ := inRow_of c5
        obtain ⟨s, hs, hs31, rfl⟩ := inRow_of c13
        have c18 : r ≠ s := fun z => by rw [z] at c18; exact c18 rfl
        refine lv_iconst (v := nI 0) hx hb dX1_longest_24 (by decide) ?_
        refine lv_istore_n (lv' := [(3, .int (nI 0)), (0, .ref h0), (1, .int (nI r)), (2, .int (nI s))]) hx hb dX1_longest_25 rfl hl (by decide) rfl (fun ls hl => ?_)
        refine lv_iconst (v := nI 1) hx hb dX1_longest_26 (by decide) ?_
        refine lv_istore (lv' := [(4, .int (nI 1)), (3, .int (nI 0)), (0, .ref h0), (1, .int (nI r)), (2, .int (nI s))]) hx hb dX1_longest_27 hl (by decide) rfl (fun ls hl => ?_)
        have hl : lv_has ls 6 [(0, .ref h0), (1, .int (nI r)), (2, .int (nI s)), (3, .int (nI (mx (fun c => c + 1 - AF b r s (c + 1)) 0))), (4, .int (nI (0 + 1)))] := lv_sub hl [2, 3, 4, 1, 0] rfl
        refine W.up 6 29 (fun t => [(0, .ref h0), (1, .int (nI r)), (2, .int (nI s)), (3, .int (nI (mx (fun c => c + 1 - AF b r s (c + 1)) t))), (4, .int (nI (t + 1)))]) (fun t => True) 12 ?_ ?_ 0 (by omega) trivial hl
        · intro hk ls hl
          have hl : lv_has ls 6 [(0, .ref h0), (1, .int (nI r)), (2, .int (nI s)), (3, .int (nI (mx (fun c => c + 1 - AF b r s (c + 1)) 12))), (4, .int (nI (12 + 1)))] := hl
          refine lv_iload hx hb dX1_longest_29 (lv_at hl 4 rfl) ?_
          refine lv_bipush (v := nI 12) hx hb dX1_longest_31 (by decide) ?_
          refine hn_icmp_gt (tgt := 68) hx hb dX1_longest_33 (by decide) (by omega) (by omega) (fun c33 => ?_) (fun c33 => absurd c33 (by omega))
          refine lv_iload_n hx hb dX1_longest_68 rfl (lv_at hl 3 rfl) ?_
          have er : nI (mx (fun c => c + 1 - AF b r s (c + 1)) 12) = S_lon cnt b (nI r) (nI s) := by exact (S_lon_ok hr hs h8 c18).symm
          exact W.iret (v := nI (mx (fun c => c + 1 - AF b r s (c + 1)) 12)) hx hb hret (fun t ht hW => ⟨nI (mx (fun c => c + 1 - AF b r s (c + 1)) 12), rfl, er, ht⟩) (fun _ h => by cases h) dX1_longest_69
        · intro t hit hk ih29 ls hl
          have hl : lv_has ls 6 [(0, .ref h0), (1, .int (nI r)), (2, .int (nI s)), (3, .int (nI (mx (fun c => c + 1 - AF b r s (c + 1)) t))), (4, .int (nI (t + 1)))] := hl
          refine lv_iload hx hb dX1_longest_29 (lv_at hl 4 rfl) ?_
          refine lv_bipush (v := nI 12) hx hb dX1_longest_31 (by decide) ?_
          refine hn_icmp_gt (tgt := 68) hx hb dX1_longest_33 (by decide) (by omega) (by omega) (fun c33 => absurd c33 (by omega)) (fun c33 => ?_)
          refine lv_iload hx hb dX1_longest_36 (lv_at hl 4 rfl) ?_
          refine lv_aload_n hx hb dX1_longest_38 rfl (lv_at hl 0 rfl) ?_
          refine lv_iload_n hx hb dX1_longest_39 rfl (lv_at hl 1 rfl) ?_
          refine lv_iload_n hx hb dX1_longest_40 rfl (lv_at hl 2 rfl) ?_
          refine lv_iload hx hb dX1_longest_41 (lv_at hl 4 rfl) ?_
          refine vp_callSi (W.runV (As := [.int (nI r), .int (nI s), .int (nI (t + 1))]) (rest := [.int (nI (t + 1))]) ⟨hx, hb, hml, hown, hts⟩ (metX1_agreeFrom r s ((t + 1)) (by omega) (by omega) (by omega) hbd) (cwV 3 hts (lw_V q224 q226 qs19 q26 q227) rfl rfl rfl (by decide +kernel) ⟨Nat.le_of_ble_eq_true rfl, Nat.le_of_ble_eq_true rfl⟩) (rd_preX1 hK hP) rfl rfl hl.1 rfl (lv_room (Nat.le_of_ble_eq_true rfl)) dX1_longest_43 ⟨Nat.le_of_ble_eq_true rfl, Nat.le_of_ble_eq_true rfl⟩) (fun v hv => ?_)
          subst hv
          refine hn_sub hx hb dX1_longest_46 (AF_le _ _ _ _) ?_
          refine lv_istore (lv' := [(5, .int (nI ((t + 1) - (AF b r s ((t + 1)))))), (0, .ref h0), (1, .int (nI r)), (2, .int (nI s)), (3, .int (nI (mx (fun c => c + 1 - AF b r s (c + 1)) t))), (4, .int (nI (t + 1)))]) hx hb dX1_longest_47 hl (by decide) rfl (fun ls hl => ?_)
          refine lv_iload hx hb dX1_longest_49 (lv_at hl 0 rfl) ?_
          refine lv_iload_n hx hb dX1_longest_51 rfl (lv_at hl 4 rfl) ?_
          refine W.jn2 (g := F0 mM 61 ls [.int (nI (if mx (fun c => c + 1 - AF b r s (c + 1)) t < t + 1 - AF b r s (t + 1) then t + 1 - AF b r s (t + 1) else mx (fun c => c + 1 - AF b r s (c + 1)) t))]) (fun J => ?_) ?_
          · refine hn_icmp_le (tgt := 60) hx hb dX1_longest_52 (by decide) (Nat.lt_of_le_of_lt (Nat.sub_le _ _) (by omega)) (lon_le hit) (fun c52 => ?_) (fun c52 => ?_)
            · refine lv_iload_n hx hb dX1_longest_60 rfl (lv_at hl 4 rfl) ?_
              have ej : (if mx (fun c => c + 1 - AF b r s (c + 1)) t < t + 1 - AF b r s (t + 1) then t + 1 - AF b r s (t + 1) else mx (fun c => c + 1 - AF b r s (c + 1)) t) = (mx (fun c => c + 1 - AF b r s (c + 1)) t) := by first | exact if_pos c52 | exact if_neg (Nat.not_lt.mpr c52)
              rw [ej] at J
              exact J
            · refine lv_iload hx hb dX1_longest_55 (lv_at hl 0 rfl) ?_
              refine lv_goto (tgt := 61) hx hb dX1_longest_57 (by decide) ?_
              have ej : (if mx (fun c => c + 1 - AF b r s (c + 1)) t < t + 1 - AF b r s (t + 1) then t + 1 - AF b r s (t + 1) else mx (fun c => c + 1 - AF b r s (c + 1)) t) = ((t + 1) - (AF b r s ((t + 1)))) := by first | exact if_pos c52 | exact if_neg (Nat.not_lt.mpr c52)
              rw [ej] at J
              exact J
          refine lv_istore_n (lv' := [(3, .int (nI (if mx (fun c => c + 1 - AF b r s (c + 1)) t < t + 1 - AF b r s (t + 1) then t + 1 - AF b r s (t + 1) else mx (fun c => c + 1 - AF b r s (c + 1)) t))), (5, .int (nI ((t + 1) - (AF b r s ((t + 1)))))), (0, .ref h0), (1, .int (nI r)), (2, .int (nI s)), (4, .int (nI (t + 1)))]) hx hb dX1_longest_61 rfl hl (by decide) rfl (fun ls hl => ?_)
          refine lv_iinc (v := nI ((t + 1) + 1)) (lv' := [(4, .int (nI ((t + 1) + 1))), (3, .int (nI (if mx (fun c => c + 1 - AF b r s (c + 1)) t < t + 1 - AF b r s (t + 1) then t + 1 - AF b r s (t + 1) else mx (fun c => c + 1 - AF b r s (c + 1)) t))), (5, .int (nI ((t + 1) - (AF b r s ((t + 1)))))), (0, .ref h0), (1, .int (nI r)), (2, .int (nI s))]) hx hb dX1_longest_62 hl (k := 5) rfl (nI_1 _) (by decide) rfl (fun ls hl => ?_)
          refine lv_goto (tgt := 29) hx hb dX1_longest_65 (by decide) ?_
          have ev3 : (mx (fun c => c + 1 - AF b r s (c + 1)) (t + 1)) = (if mx (fun c => c + 1 - AF b r s (c + 1)) t < t + 1 - AF b r s (t + 1) then t + 1 - AF b r s (t + 1) else mx (fun c => c + 1 - AF b r s (c + 1)) t) := by rfl
          have hl : lv_has ls 6 [(0, .ref h0), (1, .int (nI r)), (2, .int (nI s)), (3, .int (nI (mx (fun c => c + 1 - AF b r s (c + 1)) (t + 1)))), (4, .int (nI ((t + 1) + 1)))] := by rw [ev3]; exact lv_sub hl [3, 4, 5, 1, 0] rfl
          exact ih29 trivial ls hl
      · refine lv_bipush (v := -4) hx hb dX1_longest_21 (by decide) ?_
        have er : (-4) = S_lon cnt b p0 p1 := by unfold S_lon; rw [if_neg (fun z => z.2.2 c18)]
        exact W.iret (v := (-4)) hx hb hret (fun t ht hW => ⟨(-4), rfl, er, ht⟩) (fun _ h => by cases h) dX1_longest_23

set_option maxHeartbeats 4000000 in
set_option maxRecDepth 100000 in
theorem metX1_isBeaten {l : Launch} {dC : Nat → ClassId} {dI : Nat → Nat → Nat} {h0 k1 : Nat} {d0 : ClassId} {cnt : Nat} {b : Nat → Nat} (r a e : Nat) (h8 : cnt ≤ 8) (h1 : r < 8) (ha : a ≤ 12) (he : e ≤ 11) (hbd : ∀ k, b k < 4096) : Met l yX1_isBeaten (ws_ yX1_isBeaten cX1_isBeaten 6 (some .boolean)) (rmk 3) (rdP (dC, dI) [(d0, .int)] (MW h0 k1 d0 cnt b) [.ref h0, .int (nI r), .int (nI a), .int (nI e)]) (vp_Si (fun v => v = nI (bN (BTb b cnt r a e)))) 0 0 (fun _ => False) := by
  refine Met.ofW (cc := cX1_isBeaten) (maxL := 6) (ret := (some .boolean)) (by decide) rfl ?_
  intro pP eE sS mM args below meth cC s₁ B hml hv
  obtain ⟨rfl, hP, hK⟩ := hv
  have hx := B.exec
  have hb := B.bytes
  have hret := B.returns
  have hts := atoms_spec (ws := ws_ yX1_isBeaten cX1_isBeaten 6 (some .boolean)) B.pre
  have hts : ∀ w ∈ lw_all, w.before _ sS = true := fun w h => hts w (List.mem_cons_of_mem _ h)
  have hown : sS.vm.findClass RX1 = some mM.cls := findClass_of_methodNamed B.named
  have hlocks := B.notSynchronized
  have hl := lv_entry ([.ref h0, .int (nI r), .int (nI a), .int (nI e)]) (n := 6) (Nat.le_of_ble_eq_true rfl)
  rw [lg_entry_eq]
  generalize (lg_sl ([.ref h0, .int (nI r), .int (nI a), .int (nI e)]) ++ List.replicate (6 - (lg_sl ([.ref h0, .int (nI r), .int (nI a), .int (nI e)])).length) Slot.unset).toArray = ls at hl ⊢
  have hl : lv_has ls 6 [(0, .ref h0), (1, .int (nI r)), (2, .int (nI a)), (3, .int (nI e))] := hl
  refine lv_iconst (v := nI 0) hx hb dX1_isBeaten_0 (by decide) ?_
  refine lv_istore (lv' := [(4, .int (nI 0)), (0, .ref h0), (1, .int (nI r)), (2, .int (nI a)), (3, .int (nI e))]) hx hb dX1_isBeaten_1 hl (by decide) rfl (fun ls hl => ?_)
  have hl : lv_has ls 6 [(0, .ref h0), (1, .int (nI r)), (2, .int (nI a)), (3, .int (nI e)), (4, .int (nI 0))] := lv_sub hl [1, 2, 3, 4, 0] rfl
  refine W.up 6 3 (fun t => [(0, .ref h0), (1, .int (nI r)), (2, .int (nI a)), (3, .int (nI e)), (4, .int (nI t))]) (fun t => anyN (bt1 b r a e) t = false) cnt ?_ ?_ 0 (by omega) rfl hl
  · intro hk ls hl
    have hl : lv_has ls 6 [(0, .ref h0), (1, .int (nI r)), (2, .int (nI a)), (3, .int (nI e)), (4, .int (nI cnt))] := hl
    have hk : anyN (bt1 b r a e) cnt = false := hk
    refine lv_iload hx hb dX1_isBeaten_3 (lv_at hl 4 rfl) ?_
    refine lv_aload_n hx hb dX1_isBeaten_5 rfl (lv_at hl 0 rfl) ?_
    refine va_get (D := (dC, dI)) (ci := 1) (v := .int (nI cnt)) (C := RX1) (T := TX1) (N := 2) hx hb hts in_X1 hown hK hP 0 rfl rfl 1 (by decide) (hts _ q169) (fun _ h9 => h9) rfl dX1_isBeaten_6 ?_
    refine hn_icmp_ge (tgt := 76) hx hb dX1_isBeaten_9 (by decide) (by omega) (by omega) (fun c9 => ?_) (fun c9 => absurd c9 (by omega))
    refine lv_iconst (v := nI 0) hx hb dX1_isBeaten_76 (by decide) ?_
    have er : 0 = (bN (BTb b cnt r a e)) := by unfold BTb; rw [hk]; rfl
    exact W.zret (v := nI 0) hx hb hret rfl (fun t ht hW => ⟨nI 0, rfl, congrArg nI er, ht⟩) (fun _ h => by cases h) dX1_isBeaten_77
  · intro t hit hk ih3 ls hl
    have hl : lv_has ls 6 [(0, .ref h0), (1, .int (nI r)), (2, .int (nI a)), (3, .int (nI e)), (4, .int (nI t))] := hl
    have hk : anyN (bt1 b r a e) t = false := hk
    have hk0 := hk
    refine lv_iload hx hb dX1_isBeaten_3 (lv_at hl 4 rfl) ?_
    refine lv_aload_n hx hb dX1_isBeaten_5 rfl (lv_at hl 0 rfl) ?_
    refine va_get (D := (dC, dI)) (ci := 1) (v := .int (nI cnt)) (C := RX1) (T := TX1) (N := 2) hx hb hts in_X1 hown hK hP 0 rfl rfl 1 (by decide) (hts _ q169) (fun _ h9 => h9) rfl dX1_isBeaten_6 ?_
    refine hn_icmp_ge (tgt := 76) hx hb dX1_isBeaten_9 (by decide) (by omega) (by omega) (fun c9 => absurd c9 (by omega)) (fun c9 => ?_)
    refine lv_iload_n hx hb dX1_isBeaten_12 rfl (lv_at hl 2 rfl) ?_
    refine W.jn2 (g := F0 mM 55 ls [.int (nI (bN (bt2 b r a e t)))]) (fun J => ?_) ?_
    · refine hn_if_le (tgt := 30) hx hb dX1_isBeaten_13 (by decide) (by omega) (fun c13 => ?_) (fun c13 => ?_)
      · refine lv_iload_n hx hb dX1_isBeaten_30 rfl (lv_at hl 3 rfl) ?_
        refine lv_bipush (v := nI 11) hx hb dX1_isBeaten_31 (by decide) ?_
        refine hn_icmp_ge (tgt := 54) hx hb dX1_isBeaten_33 (by decide) (by omega) (by omega) (fun c33 => ?_) (fun c33 => ?_)
        · refine lv_iconst (v := nI 0) hx hb dX1_isBeaten_54 (by decide) ?_
          have ej : (bN (bt2 b r a e t)) = 0 := by unfold bt2; rw [decide_eq_false (p := 0 < a) (by omega), Bool.false_and, decide_eq_false (p := e < 11) (by omega), Bool.false_and]; rfl
          rw [ej] at J
          exact J
        · refine lv_aload_n hx hb dX1_isBeaten_36 rfl (lv_at hl 0 rfl) ?_
          refine lv_iload_n hx hb dX1_isBeaten_37 rfl (lv_at hl 1 rfl) ?_
          refine lv_iload hx hb dX1_isBeaten_38 (lv_at hl 4 rfl) ?_
          refine lv_iload_n hx hb dX1_isBeaten_40 rfl (lv_at hl 2 rfl) ?_
          refine lv_iload_n hx hb dX1_isBeaten_41 rfl (lv_at hl 3 rfl) ?_
          refine lv_iconst (v := nI 1) hx hb dX1_isBeaten_42 (by decide) ?_
          refine hn_add hx hb dX1_isBeaten_43 ?_
          refine vp_callSi (W.runV (As := [.int (nI r), .int (nI t), .int (nI a), .int (nI (e + 1))]) (rest := []) ⟨hx, hb, hml, hown, hts⟩ (metX1_agree r t a ((e + 1)) (by omega) (by omega) (by omega) (by omega) hbd) (cwV 4 hts (lw_V q248 q250 qs22 q26 q251) rfl rfl rfl (by decide +kernel) ⟨Nat.le_of_ble_eq_true rfl, Nat.le_of_ble_eq_true rfl⟩) (rd_preX1 hK hP) rfl rfl hl.1 rfl (lv_room (Nat.le_of_ble_eq_true rfl)) dX1_isBeaten_44 ⟨Nat.le_of_ble_eq_true rfl, Nat.le_of_ble_eq_true rfl⟩) (fun v hv => ?_)
          subst hv
          refine hn_ifB_eq (tgt := 54) hx hb dX1_isBeaten_47 (by decide) (fun c47 => ?_) (fun c47 => ?_)
          · refine lv_iconst (v := nI 0) hx hb dX1_isBeaten_54 (by decide) ?_
            have ej : (bN (bt2 b r a e t)) = 0 := by unfold bt2; rw [decide_eq_false (p := 0 < a) (by omega), Bool.false_and, c47, Bool.and_false]; rfl
            rw [ej] at J
            exact J
          · refine lv_iconst (v := nI 1) hx hb dX1_isBeaten_50 (by decide) ?_
            refine lv_goto (tgt := 55) hx hb dX1_isBeaten_51 (by decide) ?_
            have ej : (bN (bt2 b r a e t)) = 1 := by unfold bt2; rw [decide_eq_true c33, c47, Bool.and_self, Bool.or_true]; rfl
            rw [ej] at J
            exact J
      · refine lv_aload_n hx hb dX1_isBeaten_16 rfl (lv_at hl 0 rfl) ?_
        refine lv_iload_n hx hb dX1_isBeaten_17 rfl (lv_at hl 1 rfl) ?_
        refine lv_iload hx hb dX1_isBeaten_18 (lv_at hl 4 rfl) ?_
        refine lv_iload_n hx hb dX1_isBeaten_20 rfl (lv_at hl 2 rfl) ?_
        refine lv_iconst (v := nI 1) hx hb dX1_isBeaten_21 (by decide) ?_
        refine hn_sub hx hb dX1_isBeaten_22 (by omega) ?_
        refine lv_iload_n hx hb dX1_isBeaten_23 rfl (lv_at hl 3 rfl) ?_
        refine vp_callSi (W.runV (As := [.int (nI r), .int (nI t), .int (nI (a - 1)), .int (nI e)]) (rest := []) ⟨hx, hb, hml, hown, hts⟩ (metX1_agree r t ((a - 1)) e (by omega) (by omega) (by omega) (by omega) hbd) (cwV 4 hts (lw_V q248 q250 qs22 q26 q251) rfl rfl rfl (by decide +kernel) ⟨Nat.le_of_ble_eq_true rfl, Nat.le_of_ble_eq_true rfl⟩) (rd_preX1 hK hP) rfl rfl hl.1 rfl (lv_room (Nat.le_of_ble_eq_true rfl)) dX1_isBeaten_24 ⟨Nat.le_of_ble_eq_true rfl, Nat.le_of_ble_eq_true rfl⟩) (fun v hv => ?_)
        subst hv
        refine hn_ifB_ne (tgt := 50) hx hb dX1_isBeaten_27 (by decide) (fun c27 => ?_) (fun c27 => ?_)
        · refine lv_iconst (v := nI 1) hx hb dX1_isBeaten_50 (by decide) ?_
          refine lv_goto (tgt := 55) hx hb dX1_isBeaten_51 (by decide) ?_
          have ej : (bN (bt2 b r a e t)) = 1 := by unfold bt2; rw [decide_eq_true c13, c27]; rfl
          rw [ej] at J
          exact J
        · refine lv_iload_n hx hb dX1_isBeaten_30 rfl (lv_at hl 3 rfl) ?_
          refine lv_bipush (v := nI 11) hx hb dX1_isBeaten_31 (by decide) ?_
          refine hn_icmp_ge (tgt := 54) hx hb dX1_isBeaten_33 (by decide) (by omega) (by omega) (fun c33 => ?_) (fun c33 => ?_)
          · refine lv_iconst (v := nI 0) hx hb dX1_isBeaten_54 (by decide) ?_
            have ej : (bN (bt2 b r a e t)) = 0 := by unfold bt2; rw [c27, Bool.and_false, decide_eq_false (p := e < 11) (by omega), Bool.false_and]; rfl
            rw [ej] at J
            exact J
          · refine lv_aload_n hx hb dX1_isBeaten_36 rfl (lv_at hl 0 rfl) ?_
            refine lv_iload_n hx hb dX1_isBeaten_37 rfl (lv_at hl 1 rfl) ?_
            refine lv_iload hx hb dX1_isBeaten_38 (lv_at hl 4 rfl) ?_
            refine lv_iload_n hx hb dX1_isBeaten_40 rfl (lv_at hl 2 rfl) ?_
            refine lv_iload_n hx hb dX1_isBeaten_41 rfl (lv_at hl 3 rfl) ?_
            refine lv_iconst (v := nI 1) hx hb dX1_isBeaten_42 (by decide) ?_
            refine hn_add hx hb dX1_isBeaten_43 ?_
            refine vp_callSi (W.runV (As := [.int (nI r), .int (nI t), .int (nI a), .int (nI (e + 1))]) (rest := []) ⟨hx, hb, hml, hown, hts⟩ (metX1_agree r t a ((e + 1)) (by omega) (by omega) (by omega) (by omega) hbd) (cwV 4 hts (lw_V q248 q250 qs22 q26 q251) rfl rfl rfl (by decide +kernel) ⟨Nat.le_of_ble_eq_true rfl, Nat.le_of_ble_eq_true rfl⟩) (rd_preX1 hK hP) rfl rfl hl.1 rfl (lv_room (Nat.le_of_ble_eq_true rfl)) dX1_isBeaten_44 ⟨Nat.le_of_ble_eq_true rfl, Nat.le_of_ble_eq_true rfl⟩) (fun v hv => ?_)
            subst hv
            refine hn_ifB_eq (tgt := 54) hx hb dX1_isBeaten_47 (by decide) (fun c47 => ?_) (fun c47 => ?_)
            · refine lv_iconst (v := nI 0) hx hb dX1_isBeaten_54 (by decide) ?_
              have ej : (bN (bt2 b r a e t)) = 0 := by unfold bt2; rw [c27, Bool.and_false, c47, Bool.and_false]; rfl
              rw [ej] at J
              exact J
            · refine lv_iconst (v := nI 1) hx hb dX1_isBeaten_50 (by decide) ?_
              refine lv_goto (tgt := 55) hx hb dX1_isBeaten_51 (by decide) ?_
              have ej : (bN (bt2 b r a e t)) = 1 := by unfold bt2; rw [decide_eq_true c33, c47, Bool.and_self, Bool.or_true]; rfl
              rw [ej] at J
              exact J
    refine lv_istore (lv' := [(5, .int (nI (bN (bt2 b r a e t)))), (0, .ref h0), (1, .int (nI r)), (2, .int (nI a)), (3, .int (nI e)), (4, .int (nI t))]) hx hb dX1_isBeaten_55 hl (by decide) rfl (fun ls hl => ?_)
    refine lv_iload hx hb dX1_isBeaten_57 (lv_at hl 5 rfl) ?_
    refine lv_iload_n hx hb dX1_isBeaten_59 rfl (lv_at hl 2 rfl) ?_
    refine hn_icmp_eq (tgt := 70) hx hb dX1_isBeaten_60 (by decide) (by omega) (by omega) (fun c60 => ?_) (fun c60 => ?_)
    · refine lv_iinc (v := nI (t + 1)) (lv' := [(4, .int (nI (t + 1))), (5, .int (nI (bN (bt2 b r a e t)))), (0, .ref h0), (1, .int (nI r)), (2, .int (nI a)), (3, .int (nI e))]) hx hb dX1_isBeaten_70 hl (k := 5) rfl (nI_1 _) (by decide) rfl (fun ls hl => ?_)
      refine lv_goto (tgt := 3) hx hb dX1_isBeaten_73 (by decide) ?_
      have ev4 : ((t + 1)) = (t + 1) := by first | rfl | omega
      have hl : lv_has ls 6 [(0, .ref h0), (1, .int (nI r)), (2, .int (nI a)), (3, .int (nI e)), (4, .int (nI ((t + 1))))] := by rw [ev4]; exact lv_sub hl [2, 3, 4, 5, 0] rfl
      exact ih3 (by show (anyN (bt1 b r a e) t || bt1 b r a e t) = false; rw [hk0]; unfold bt1; rw [decide_eq_false (p := t ≠ r) (fun z => z c60)]; rfl) ls hl
    · refine lv_iload hx hb dX1_isBeaten_63 (lv_at hl 0 rfl) ?_
      refine hn_ifB_eq (tgt := 70) hx hb dX1_isBeaten_65 (by decide) (fun c65 => ?_) (fun c65 => ?_)
      · refine lv_iinc (v := nI (t + 1)) (lv' := [(4, .int (nI (t + 1))), (5, .int (nI (bN (bt2 b r a e t)))), (0, .ref h0), (1, .int (nI r)), (2, .int (nI a)), (3, .int (nI e))]) hx hb dX1_isBeaten_70 hl (k := 5) rfl (nI_1 _) (by decide) rfl (fun ls hl => ?_)
        refine lv_goto (tgt := 3) hx hb dX1_isBeaten_73 (by decide) ?_
        have ev4 : ((t + 1)) = (t + 1) := by first | rfl | omega
        have hl : lv_has ls 6 [(0, .ref h0), (1, .int (nI r)), (2, .int (nI a)), (3, .int (nI e)), (4, .int (nI ((t + 1))))] := by rw [ev4]; exact lv_sub hl [2, 3, 4, 5, 0] rfl
        exact ih3 (by show (anyN (bt1 b r a e) t || bt1 b r a e t) = false; rw [hk0]; unfold bt1; show (_ && bt2 b r a e t) = false; rw [c65, Bool.and_false]) ls hl
      · refine lv_iconst (v := nI 1) hx hb dX1_isBeaten_68 (by decide) ?_
        have er : 1 = (bN (BTb b cnt r a e)) := by rw [show BTb b cnt r a e = true from (anyN_iff _ _).mpr ⟨t, hit, by unfold bt1; rw [decide_eq_true c60]; exact c65⟩]; rfl
        exact W.zret (v := nI 1) hx hb hret rfl (fun t ht hW => ⟨nI 1, rfl, congrArg nI er, ht⟩) (fun _ h => by cases h) dX1_isBeaten_69

set_option maxHeartbeats 4000000 in
set_option maxRecDepth 100000 in
theorem metX1_winning {l : Launch} {dC : Nat → ClassId} {dI : Nat → Nat → Nat} {h0 k1 : Nat} {d0 : ClassId} {cnt : Nat} {b : Nat → Nat} (p0 : Int32) (h8 : cnt ≤ 8) (hbd : ∀ k, b k < 4096) : Met l yX1_winning (ws_ yX1_winning cX1_winning 7 (some .int)) (rmk 4) (rdP (dC, dI) [(d0, .int)] (MW h0 k1 d0 cnt b) [.ref h0, .int p0]) (vp_Si (fun v => v = S_winM cnt b p0)) 0 0 (fun _ => False) := by
  refine Met.ofW (cc := cX1_winning) (maxL := 7) (ret := (some .int)) (by decide) rfl ?_
  intro pP eE sS mM args below meth cC s₁ B hml hv
  obtain ⟨rfl, hP, hK⟩ := hv
  have hx := B.exec
  have hb := B.bytes
  have hret := B.returns
  have hts := atoms_spec (ws := ws_ yX1_winning cX1_winning 7 (some .int)) B.pre
  have hts : ∀ w ∈ lw_all, w.before _ sS = true := fun w h => hts w (List.mem_cons_of_mem _ h)
  have hown : sS.vm.findClass RX1 = some mM.cls := findClass_of_methodNamed B.named
  have hlocks := B.notSynchronized
  have hl := lv_entry ([.ref h0, .int p0]) (n := 7) (Nat.le_of_ble_eq_true rfl)
  rw [lg_entry_eq]
  generalize (lg_sl ([.ref h0, .int p0]) ++ List.replicate (7 - (lg_sl ([.ref h0, .int p0])).length) Slot.unset).toArray = ls at hl ⊢
  have hl : lv_has ls 7 [(0, .ref h0), (1, .int p0)] := hl
  refine lv_aload_n hx hb dX1_winning_0 rfl (lv_at hl 0 rfl) ?_
  refine lv_iload_n hx hb dX1_winning_1 rfl (lv_at hl 1 rfl) ?_
  refine vp_callSi (W.runV (As := [.int p0]) (rest := []) ⟨hx, hb, hml, hown, hts⟩ (metX1_isRow p0 h8) (cwV 1 hts (lw_V q191 q193 qs14 q26 q194) rfl rfl rfl (by decide +kernel) ⟨Nat.le_of_ble_eq_true rfl, Nat.le_of_ble_eq_true rfl⟩) (rd_preX1 hK hP) rfl rfl hl.1 rfl (lv_room (Nat.le_of_ble_eq_true rfl)) dX1_winning_2 ⟨Nat.le_of_ble_eq_true rfl, Nat.le_of_ble_eq_true rfl⟩) (fun v hv => ?_)
  subst hv
  refine hn_ifB_ne (tgt := 11) hx hb dX1_winning_5 (by decide) (fun c5 => ?_) (fun c5 => ?_)
  · obtain ⟨r, hr, hr31, rfl⟩ := inRow_of c5
    refine lv_iconst (v := nI 0) hx hb dX1_winning_11 (by decide) ?_
    refine lv_istore_n (lv' := [(2, .int (nI 0)), (0, .ref h0), (1, .int (nI r))]) hx hb dX1_winning_12 rfl hl (by decide) rfl (fun ls hl => ?_)
    refine lv_iconst (v := nI 0) hx hb dX1_winning_13 (by decide) ?_
    refine lv_istore_n (lv' := [(3, .int (nI 0)), (2, .int (nI 0)), (0, .ref h0), (1, .int (nI r))]) hx hb dX1_winning_14 rfl hl (by decide) rfl (fun ls hl => ?_)
    have hl : lv_has ls 7 [(0, .ref h0), (1, .int (nI r)), (2, .int (nI (sm (fun s => cN (mwP b cnt r s) 144) 0))), (3, .int (nI 0))] := lv_sub hl [2, 3, 1, 0] rfl
    refine W.up 7 15 (fun s => [(0, .ref h0), (1, .int (nI r)), (2, .int (nI (sm (fun s => cN (mwP b cnt r s) 144) s))), (3, .int (nI s))]) (fun s => True) cnt ?_ ?_ 0 (by omega) trivial hl
    · intro hk ls hl
      have hl : lv_has ls 7 [(0, .ref h0), (1, .int (nI r)), (2, .int (nI (sm (fun s => cN (mwP b cnt r s) 144) cnt))), (3, .int (nI cnt))] := hl
      refine lv_iload_n hx hb dX1_winning_15 rfl (lv_at hl 3 rfl) ?_
      refine lv_aload_n hx hb dX1_winning_16 rfl (lv_at hl 0 rfl) ?_
      refine va_get (D := (dC, dI)) (ci := 1) (v := .int (nI cnt)) (C := RX1) (T := TX1) (N := 2) hx hb hts in_X1 hown hK hP 0 rfl rfl 1 (by decide) (hts _ q169) (fun _ h9 => h9) rfl dX1_winning_17 ?_
      refine hn_icmp_ge (tgt := 100) hx hb dX1_winning_20 (by decide) (by omega) (by omega) (fun c20 => ?_) (fun c20 => absurd c20 (by omega))
      refine lv_iload_n hx hb dX1_winning_100 rfl (lv_at hl 2 rfl) ?_
      have er : nI (sm (fun s => cN (mwP b cnt r s) 144) cnt) = S_winM cnt b (nI r) := by exact (S_winM_ok hr h8).symm
      exact W.iret (v := nI (sm (fun s => cN (mwP b cnt r s) 144) cnt)) hx hb hret (fun t ht hW => ⟨nI (sm (fun s => cN (mwP b cnt r s) 144) cnt), rfl, er, ht⟩) (fun _ h => by cases h) dX1_winning_101
    · intro s his hk ih15 ls hl
      have hl : lv_has ls 7 [(0, .ref h0), (1, .int (nI r)), (2, .int (nI (sm (fun s => cN (mwP b cnt r s) 144) s))), (3, .int (nI s))] := hl
      refine lv_iload_n hx hb dX1_winning_15 rfl (lv_at hl 3 rfl) ?_
      refine lv_aload_n hx hb dX1_winning_16 rfl (lv_at hl 0 rfl) ?_
      refine va_get (D := (dC, dI)) (ci := 1) (v := .int (nI cnt)) (C := RX1) (T := TX1) (N := 2) hx hb hts in_X1 hown hK hP 0 rfl rfl 1 (by decide) (hts _ q169) (fun _ h9 => h9) rfl dX1_winning_17 ?_
      refine hn_icmp_ge (tgt := 100) hx hb dX1_winning_20 (by decide) (by omega) (by omega) (fun c20 => absurd c20 (by omega)) (fun c20 => ?_)
      refine lv_iconst (v := nI 0) hx hb dX1_winning_23 (by decide) ?_
      refine lv_istore (lv' := [(4, .int (nI 0)), (0, .ref h0), (1, .int (nI r)), (2, .int (nI (sm (fun s => cN (mwP b cnt r s) 144) s))), (3, .int (nI s))]) hx hb dX1_winning_24 hl (by decide) rfl (fun ls hl => ?_)
      have hl : lv_has ls 7 [(0, .ref h0), (1, .int (nI r)), (2, .int (nI (sm (fun s => cN (mwP b cnt r s) 144) s + cN (mwP b cnt r s) 0))), (3, .int (nI s)), (4, .int (nI 0))] := lv_sub hl [1, 2, 3, 4, 0] rfl
      refine W.up 7 26 (fun st => [(0, .ref h0), (1, .int (nI r)), (2, .int (nI (sm (fun s => cN (mwP b cnt r s) 144) s + cN (mwP b cnt r s) st))), (3, .int (nI s)), (4, .int (nI st))]) (fun st => True) 144 ?_ ?_ 0 (by omega) trivial hl
      · intro hk ls hl
        have hl : lv_has ls 7 [(0, .ref h0), (1, .int (nI r)), (2, .int (nI (sm (fun s => cN (mwP b cnt r s) 144) s + cN (mwP b cnt r s) 144))), (3, .int (nI s)), (4, .int (nI 144))] := hl
        refine lv_iload hx hb dX1_winning_26 (lv_at hl 4 rfl) ?_
        refine lv_sipush (v := nI 144) hx hb dX1_winning_28 (by decide) ?_
        refine hn_icmp_ge (tgt := 94) hx hb dX1_winning_31 (by decide) (by omega) (by omega) (fun c31 => ?_) (fun c31 => absurd c31 (by omega))
        refine lv_iinc (v := nI (s + 1)) (lv' := [(3, .int (nI (s + 1))), (0, .ref h0), (1, .int (nI r)), (2, .int (nI (sm (fun s => cN (mwP b cnt r s) 144) s + cN (mwP b cnt r s) 144))), (4, .int (nI 144))]) hx hb dX1_winning_94 hl (k := 3) rfl (nI_1 _) (by decide) rfl (fun ls hl => ?_)
        refine lv_goto (tgt := 15) hx hb dX1_winning_97 (by decide) ?_
        have ev2 : (sm (fun s => cN (mwP b cnt r s) 144) (s + 1)) = (sm (fun s => cN (mwP b cnt r s) 144) s + cN (mwP b cnt r s) 144) := by rfl
        have ev3 : ((s + 1)) = (s + 1) := by rfl
        have hl : lv_has ls 7 [(0, .ref h0), (1, .int (nI r)), (2, .int (nI (sm (fun s => cN (mwP b cnt r s) 144) (s + 1)))), (3, .int (nI ((s + 1))))] := by rw [ev2, ev3]; exact lv_sub hl [1, 2, 3, 0] rfl
        exact ih15 trivial ls hl
      · intro st hist hk ih26 ls hl
        have hl : lv_has ls 7 [(0, .ref h0), (1, .int (nI r)), (2, .int (nI (sm (fun s => cN (mwP b cnt r s) 144) s + cN (mwP b cnt r s) st))), (3, .int (nI s)), (4, .int (nI st))] := hl
        refine lv_iload hx hb dX1_winning_26 (lv_at hl 4 rfl) ?_
        refine lv_sipush (v := nI 144) hx hb dX1_winning_28 (by decide) ?_
        refine hn_icmp_ge (tgt := 94) hx hb dX1_winning_31 (by decide) (by omega) (by omega) (fun c31 => absurd c31 (by omega)) (fun c31 => ?_)
        refine lv_iload hx hb dX1_winning_34 (lv_at hl 4 rfl) ?_
        refine lv_bipush (v := nI 12) hx hb dX1_winning_36 (by decide) ?_
        refine hn_div hx hb dX1_winning_38 (by omega) (by decide) (by decide) ?_
        refine lv_istore (lv' := [(5, .int (nI (st / 12))), (0, .ref h0), (1, .int (nI r)), (2, .int (nI (sm (fun s => cN (mwP b cnt r s) 144) s + cN (mwP b cnt r s) st))), (3, .int (nI s)), (4, .int (nI st))]) hx hb dX1_winning_39 hl (by decide) rfl (fun ls hl => ?_)
        refine lv_iload hx hb dX1_winning_41 (lv_at hl 5 rfl) ?_
        refine lv_bipush (v := nI 12) hx hb dX1_winning_43 (by decide) ?_
        refine hn_rem hx hb dX1_winning_45 (by omega) (by decide) (by decide) ?_
        refine lv_istore (lv' := [(6, .int (nI (st % 12))), (5, .int (nI (st / 12))), (0, .ref h0), (1, .int (nI r)), (2, .int (nI (sm (fun s => cN (mwP b cnt r s) 144) s + cN (mwP b cnt r s) st))), (3, .int (nI s)), (4, .int (nI st))]) hx hb dX1_winning_46 hl (by decide) rfl (fun ls hl => ?_)
        refine lv_iload_n hx hb dX1_winning_48 rfl (lv_at hl 5 rfl) ?_
        refine lv_iload_n hx hb dX1_winning_49 rfl (lv_at hl 3 rfl) ?_
        refine hn_icmp_eq (tgt := 88) hx hb dX1_winning_50 (by decide) (by omega) (by omega) (fun c50 => ?_) (fun c50 => ?_)
        · refine lv_iinc (v := nI (st + 1)) (lv' := [(4, .int (nI (st + 1))), (6, .int (nI (st % 12))), (5, .int (nI (st / 12))), (0, .ref h0), (1, .int (nI r)), (2, .int (nI (sm (fun s => cN (mwP b cnt r s) 144) s + cN (mwP b cnt r s) st))), (3, .int (nI s))]) hx hb dX1_winning_88 hl (k := 6) rfl (nI_1 _) (by decide) rfl (fun ls hl => ?_)
          refine lv_goto (tgt := 26) hx hb dX1_winning_91 (by decide) ?_
          have ev2 : (sm (fun s => cN (mwP b cnt r s) 144) s + cN (mwP b cnt r s) (st + 1)) = (sm (fun s => cN (mwP b cnt r s) 144) s + cN (mwP b cnt r s) st) := by show _ + (_ + bN (mwP b cnt r s st)) = _; rw [show mwP b cnt r s st = false from by unfold mwP; rw [decide_eq_false (p := s ≠ r) (fun z => z c50)]; rfl]; rfl
          have ev4 : ((st + 1)) = (st + 1) := by rfl
          have hl : lv_has ls 7 [(0, .ref h0), (1, .int (nI r)), (2, .int (nI (sm (fun s => cN (mwP b cnt r s) 144) s + cN (mwP b cnt r s) (st + 1)))), (3, .int (nI s)), (4, .int (nI ((st + 1))))] := by rw [ev2, ev4]; exact lv_sub hl [3, 4, 5, 6, 0] rfl
          exact ih26 trivial ls hl
        · refine lv_iload hx hb dX1_winning_53 (lv_at hl 1 rfl) ?_
          refine lv_iload hx hb dX1_winning_55 (lv_at hl 0 rfl) ?_
          refine hn_icmp_gt (tgt := 88) hx hb dX1_winning_57 (by decide) (by omega) (by omega) (fun c57 => ?_) (fun c57 => ?_)
          · refine lv_iinc (v := nI (st + 1)) (lv' := [(4, .int (nI (st + 1))), (6, .int (nI (st % 12))), (5, .int (nI (st / 12))), (0, .ref h0), (1, .int (nI r)), (2, .int (nI (sm (fun s => cN (mwP b cnt r s) 144) s + cN (mwP b cnt r s) st))), (3, .int (nI s))]) hx hb dX1_winning_88 hl (k := 6) rfl (nI_1 _) (by decide) rfl (fun ls hl => ?_)
            refine lv_goto (tgt := 26) hx hb dX1_winning_91 (by decide) ?_
            have ev2 : (sm (fun s => cN (mwP b cnt r s) 144) s + cN (mwP b cnt r s) (st + 1)) = (sm (fun s => cN (mwP b cnt r s) 144) s + cN (mwP b cnt r s) st) := by show _ + (_ + bN (mwP b cnt r s st)) = _; rw [show mwP b cnt r s st = false from by unfold mwP; rw [decide_eq_false (p := st / 12 ≤ st % 12) (by omega), Bool.and_false]; rfl]; rfl
            have ev4 : ((st + 1)) = (st + 1) := by rfl
            have hl : lv_has ls 7 [(0, .ref h0), (1, .int (nI r)), (2, .int (nI (sm (fun s => cN (mwP b cnt r s) 144) s + cN (mwP b cnt r s) (st + 1)))), (3, .int (nI s)), (4, .int (nI ((st + 1))))] := by rw [ev2, ev4]; exact lv_sub hl [3, 4, 5, 6, 0] rfl
            exact ih26 trivial ls hl
          · refine lv_aload_n hx hb dX1_winning_60 rfl (lv_at hl 2 rfl) ?_
            refine lv_iload_n hx hb dX1_winning_61 rfl (lv_at hl 3 rfl) ?_
            refine lv_iload_n hx hb dX1_winning_62 rfl (lv_at hl 5 rfl) ?_
            refine lv_iload hx hb dX1_winning_63 (lv_at hl 1 rfl) ?_
            refine lv_iload hx hb dX1_winning_65 (lv_at hl 0 rfl) ?_
            refine vp_callSi (W.runV (As := [.int (nI r), .int (nI s), .int (nI (st / 12)), .int (nI (st % 12))]) (rest := []) ⟨hx, hb, hml, hown, hts⟩ (metX1_agreeMost r s ((st / 12)) ((st % 12)) (by omega) (by omega) (by omega) (by omega) hbd) (cwV 4 hts (lw_V q232 q234 qs20 q26 q235) rfl rfl rfl (by decide +kernel) ⟨Nat.le_of_ble_eq_true rfl, Nat.le_of_ble_eq_true rfl⟩) (rd_preX1 hK hP) rfl rfl hl.1 rfl (lv_room (Nat.le_of_ble_eq_true rfl)) dX1_winning_67 ⟨Nat.le_of_ble_eq_true rfl, Nat.le_of_ble_eq_true rfl⟩) (fun v hv => ?_)
            subst hv
            refine hn_ifB_eq (tgt := 88) hx hb dX1_winning_70 (by decide) (fun c70 => ?_) (fun c70 => ?_)
            · refine lv_iinc (v := nI (st + 1)) (lv' := [(4, .int (nI (st + 1))), (6, .int (nI (st % 12))), (5, .int (nI (st / 12))), (0, .ref h0), (1, .int (nI r)), (2, .int (nI (sm (fun s => cN (mwP b cnt r s) 144) s + cN (mwP b cnt r s) st))), (3, .int (nI s))]) hx hb dX1_winning_88 hl (k := 6) rfl (nI_1 _) (by decide) rfl (fun ls hl => ?_)
              refine lv_goto (tgt := 26) hx hb dX1_winning_91 (by decide) ?_
              have ev2 : (sm (fun s => cN (mwP b cnt r s) 144) s + cN (mwP b cnt r s) (st + 1)) = (sm (fun s => cN (mwP b cnt r s) 144) s + cN (mwP b cnt r s) st) := by show _ + (_ + bN (mwP b cnt r s st)) = _; rw [show mwP b cnt r s st = false from by unfold mwP; rw [c70, Bool.and_false]; rfl]; rfl
              have ev4 : ((st + 1)) = (st + 1) := by rfl
              have hl : lv_has ls 7 [(0, .ref h0), (1, .int (nI r)), (2, .int (nI (sm (fun s => cN (mwP b cnt r s) 144) s + cN (mwP b cnt r s) (st + 1)))), (3, .int (nI s)), (4, .int (nI ((st + 1))))] := by rw [ev2, ev4]; exact lv_sub hl [3, 4, 5, 6, 0] rfl
              exact ih26 trivial ls hl
            · refine lv_aload_n hx hb dX1_winning_73 rfl (lv_at hl 2 rfl) ?_
              refine lv_iload_n hx hb dX1_winning_74 rfl (lv_at hl 3 rfl) ?_
              refine lv_iload hx hb dX1_winning_75 (lv_at hl 1 rfl) ?_
              refine lv_iload hx hb dX1_winning_77 (lv_at hl 0 rfl) ?_
              refine vp_callSi (W.runV (As := [.int (nI r), .int (nI (st / 12)), .int (nI (st % 12))]) (rest := []) ⟨hx, hb, hml, hown, hts⟩ (metX1_isBeaten r ((st / 12)) ((st % 12)) h8 (by omega) (by omega) (by omega) hbd) (cwV 3 hts (lw_V q244 q246 qs21 q26 q247) rfl rfl rfl (by decide +kernel) ⟨Nat.le_of_ble_eq_true rfl, Nat.le_of_ble_eq_true rfl⟩) (rd_preX1 hK hP) rfl rfl hl.1 rfl (lv_room (Nat.le_of_ble_eq_true rfl)) dX1_winning_79 ⟨Nat.le_of_ble_eq_true rfl, Nat.le_of_ble_eq_true rfl⟩) (fun v hv => ?_)
              subst hv
              refine hn_ifB_ne (tgt := 88) hx hb dX1_winning_82 (by decide) (fun c82 => ?_) (fun c82 => ?_)
              · refine lv_iinc (v := nI (st + 1)) (lv' := [(4, .int (nI (st + 1))), (6, .int (nI (st % 12))), (5, .int (nI (st / 12))), (0, .ref h0), (1, .int (nI r)), (2, .int (nI (sm (fun s => cN (mwP b cnt r s) 144) s + cN (mwP b cnt r s) st))), (3, .int (nI s))]) hx hb dX1_winning_88 hl (k := 6) rfl (nI_1 _) (by decide) rfl (fun ls hl => ?_)
                refine lv_goto (tgt := 26) hx hb dX1_winning_91 (by decide) ?_
                have ev2 : (sm (fun s => cN (mwP b cnt r s) 144) s + cN (mwP b cnt r s) (st + 1)) = (sm (fun s => cN (mwP b cnt r s) 144) s + cN (mwP b cnt r s) st) := by show _ + (_ + bN (mwP b cnt r s st)) = _; rw [show mwP b cnt r s st = false from by unfold mwP; rw [c82, Bool.not_true, Bool.and_false]]; rfl
                have ev4 : ((st + 1)) = (st + 1) := by rfl
                have hl : lv_has ls 7 [(0, .ref h0), (1, .int (nI r)), (2, .int (nI (sm (fun s => cN (mwP b cnt r s) 144) s + cN (mwP b cnt r s) (st + 1)))), (3, .int (nI s)), (4, .int (nI ((st + 1))))] := by rw [ev2, ev4]; exact lv_sub hl [3, 4, 5, 6, 0] rfl
                exact ih26 trivial ls hl
              · refine lv_iinc (v := nI ((sm (fun s => cN (mwP b cnt r s) 144) s + cN (mwP b cnt r s) st) + 1)) (lv' := [(2, .int (nI ((sm (fun s => cN (mwP b cnt r s) 144) s + cN (mwP b cnt r s) st) + 1))), (6, .int (nI (st % 12))), (5, .int (nI (st / 12))), (0, .ref h0), (1, .int (nI r)), (3, .int (nI s)), (4, .int (nI st))]) hx hb dX1_winning_85 hl (k := 4) rfl (nI_1 _) (by decide) rfl (fun ls hl => ?_)
                refine lv_iinc (v := nI (st + 1)) (lv' := [(4, .int (nI (st + 1))), (2, .int (nI ((sm (fun s => cN (mwP b cnt r s) 144) s + cN (mwP b cnt r s) st) + 1))), (6, .int (nI (st % 12))), (5, .int (nI (st / 12))), (0, .ref h0), (1, .int (nI r)), (3, .int (nI s))]) hx hb dX1_winning_88 hl (k := 6) rfl (nI_1 _) (by decide) rfl (fun ls hl => ?_)
                refine lv_goto (tgt := 26) hx hb dX1_winning_91 (by decide) ?_
                have ev2 : (sm (fun s => cN (mwP b cnt r s) 144) s + cN (mwP b cnt r s) (st + 1)) = ((sm (fun s => cN (mwP b cnt r s) 144) s + cN (mwP b cnt r s) st) + 1) := by show _ + (_ + bN (mwP b cnt r s st)) = _; rw [show mwP b cnt r s st = true from by unfold mwP; rw [decide_eq_true c50, decide_eq_true c57, c70, c82]; rfl]; rfl
                have ev4 : ((st + 1)) = (st + 1) := by rfl
                have hl : lv_has ls 7 [(0, .ref h0), (1, .int (nI r)), (2, .int (nI (sm (fun s => cN (mwP b cnt r s) 144) s + cN (mwP b cnt r s) (st + 1)))), (3, .int (nI s)), (4, .int (nI ((st + 1))))] := by rw [ev2, ev4]; exact lv_sub hl [4, 5, 1, 6, 0] rfl
                exact ih26 trivial ls hl
  · refine lv_bipush (v := -4) hx hb dX1_winning_8 (by decide) ?_
    have er : (-4) = S_winM cnt b p0 := by exact (if_rowF c5 _ _).symm
    exact W.iret (v := (-4)) hx hb hret (fun t ht hW => ⟨(-4), rfl, er, ht⟩) (fun _ h => by cases h) dX1_winning_10

set_option maxHeartbeats 4000000 in
set_option maxRecDepth 100000 in
theorem metX1_widestOver {l : Launch} {dC : Nat → ClassId} {dI : Nat → Nat → Nat} {h0 k1 : Nat} {d0 : ClassId} {cnt : Nat} {b : Nat → Nat} (r c : Nat) (h8 : cnt ≤ 8) (h1 : r < 8) (hc : c ≤ 11) (hbd : ∀ k, b k < 4096) : Met l yX1_widestOver (ws_ yX1_widestOver cX1_widestOver 7 (some .int)) (rmk 2) (rdP (dC, dI) [(d0, .int)] (MW h0 k1 d0 cnt b) [.ref h0, .int (nI r), .int (nI c)]) (vp_Si (fun v => v = nI (WO b cnt r c))) 0 0 (fun _ => False) := by
  refine Met.ofW (cc := cX1_widestOver) (maxL := 7) (ret := (some .int)) (by decide) rfl ?_
  intro pP eE sS mM args below meth cC s₁ B hml hv
  obtain ⟨rfl, hP, hK⟩ := hv
  have hx := B.exec
  have hb := B.bytes
  have hret := B.returns
  have hts := atoms_spec (ws := ws_ yX1_widestOver cX1_widestOver 7 (some .int)) B.pre
  have hts : ∀ w ∈ lw_all, w.before _ sS = true := fun w h => hts w (List.mem_cons_of_mem _ h)
  have hown : sS.vm.findClass RX1 = some mM.cls := findClass_of_methodNamed B.named
  have hlocks := B.notSynchronized
  have hl := lv_entry ([.ref h0, .int (nI r), .int (nI c)]) (n := 7) (Nat.le_of_ble_eq_true rfl)
  rw [lg_entry_eq]
  generalize (lg_sl ([.ref h0, .int (nI r), .int (nI c)]) ++ List.replicate (7 - (lg_sl ([.ref h0, .int (nI r), .int (nI c)])).length) Slot.unset).toArray = ls at hl ⊢
  have hl : lv_has ls 7 [(0, .ref h0), (1, .int (nI r)), (2, .int (nI c))] := hl
  refine lv_iconst (v := nI 0) hx hb dX1_widestOver_0 (by decide) ?_
  refine lv_istore_n (lv' := [(3, .int (nI 0)), (0, .ref h0), (1, .int (nI r)), (2, .int (nI c))]) hx hb dX1_widestOver_1 rfl hl (by decide) rfl (fun ls hl => ?_)
  refine lv_iconst (v := nI 0) hx hb dX1_widestOver_2 (by decide) ?_
  refine lv_istore (lv' := [(4, .int (nI 0)), (3, .int (nI 0)), (0, .ref h0), (1, .int (nI r)), (2, .int (nI c))]) hx hb dX1_widestOver_3 hl (by decide) rfl (fun ls hl => ?_)
  have hl : lv_has ls 7 [(0, .ref h0), (1, .int (nI r)), (2, .int (nI c)), (3, .int (nI (WOk b r c 0))), (4, .int (nI 0))] := lv_sub hl [2, 3, 4, 1, 0] rfl
  refine W.up 7 5 (fun s => [(0, .ref h0), (1, .int (nI r)), (2, .int (nI c)), (3, .int (nI (WOk b r c s))), (4, .int (nI s))]) (fun s => True) cnt ?_ ?_ 0 (by omega) trivial hl
  · intro hk ls hl
    have hl : lv_has ls 7 [(0, .ref h0), (1, .int (nI r)), (2, .int (nI c)), (3, .int (nI (WOk b r c cnt))), (4, .int (nI cnt))] := hl
    refine lv_iload hx hb dX1_widestOver_5 (lv_at hl 4 rfl) ?_
    refine lv_aload_n hx hb dX1_widestOver_7 rfl (lv_at hl 0 rfl) ?_
    refine va_get (D := (dC, dI)) (ci := 1) (v := .int (nI cnt)) (C := RX1) (T := TX1) (N := 2) hx hb hts in_X1 hown hK hP 0 rfl rfl 1 (by decide) (hts _ q169) (fun _ h9 => h9) rfl dX1_widestOver_8 ?_
    refine hn_icmp_ge (tgt := 84) hx hb dX1_widestOver_11 (by decide) (by omega) (by omega) (fun c11 => ?_) (fun c11 => absurd c11 (by omega))
    refine lv_iload_n hx hb dX1_widestOver_84 rfl (lv_at hl 3 rfl) ?_
    have er : (WOk b r c cnt) = (WO b cnt r c) := by rfl
    exact W.iret (v := nI (WOk b r c cnt)) hx hb hret (fun t ht hW => ⟨nI (WOk b r c cnt), rfl, congrArg nI er, ht⟩) (fun _ h => by cases h) dX1_widestOver_85
  · intro s his hk ih5 ls hl
    have hl : lv_has ls 7 [(0, .ref h0), (1, .int (nI r)), (2, .int (nI c)), (3, .int (nI (WOk b r c s))), (4, .int (nI s))] := hl
    refine lv_iload hx hb dX1_widestOver_5 (lv_at hl 4 rfl) ?_
    refine lv_aload_n hx hb dX1_widestOver_7 rfl (lv_at hl 0 rfl) ?_
    refine va_get (D := (dC, dI)) (ci := 1) (v := .int (nI cnt)) (C := RX1) (T := TX1) (N := 2) hx hb hts in_X1 hown hK hP 0 rfl rfl 1 (by decide) (hts _ q169) (fun _ h9 => h9) rfl dX1_widestOver_8 ?_
    refine hn_icmp_ge (tgt := 84) hx hb dX1_widestOver_11 (by decide) (by omega) (by omega) (fun c11 => absurd c11 (by omega)) (fun c11 => ?_)
    by_cases hsr : s = r
    · refine lv_iload_n hx hb dX1_widestOver_14 rfl (lv_at hl 2 rfl) ?_
      refine lv_istore (lv' := [(5, .int (nI c)), (0, .ref h0), (1, .int (nI r)), (2, .int (nI c)), (3, .int (nI (WOk b r c s))), (4, .int (nI s))]) hx hb dX1_widestOver_15 hl (by decide) rfl (fun ls hl => ?_)
      refine lv_iload hx hb dX1_widestOver_17 (lv_at hl 0 rfl) ?_
      refine lv_bipush (v := nI 12) hx hb dX1_widestOver_19 (by decide) ?_
      refine hn_icmp_ge (tgt := 78) hx hb dX1_widestOver_21 (by decide) (by omega) (by omega) (fun c21 => absurd c21 (by omega)) (fun c21 => ?_)
      refine lv_iload hx hb dX1_widestOver_24 (lv_at hl 5 rfl) ?_
      refine lv_iload_n hx hb dX1_widestOver_26 rfl (lv_at hl 2 rfl) ?_
      refine hn_icmp_eq (tgt := 78) hx hb dX1_widestOver_27 (by decide) (by omega) (by omega) (fun c27 => ?_) (fun c27 => absurd c27 (by omega))
      refine lv_iinc (v := nI (s + 1)) (lv' := [(4, .int (nI (s + 1))), (5, .int (nI c)), (0, .ref h0), (1, .int (nI r)), (2, .int (nI c)), (3, .int (nI (WOk b r c s)))]) hx hb dX1_widestOver_78 hl (k := 5) rfl (nI_1 _) (by decide) rfl (fun ls hl => ?_)
      refine lv_goto (tgt := 5) hx hb dX1_widestOver_81 (by decide) ?_
      have ev3 : (WOk b r c (s + 1)) = (WOk b r c s) := by show (if s = r then _ else _) = _; rw [if_pos hsr]
      have ev4 : ((s + 1)) = (s + 1) := by rfl
      have hl : lv_has ls 7 [(0, .ref h0), (1, .int (nI r)), (2, .int (nI c)), (3, .int (nI (WOk b r c (s + 1)))), (4, .int (nI ((s + 1))))] := by rw [ev3, ev4]; exact lv_sub hl [2, 3, 4, 5, 0] rfl
      exact ih5 trivial ls hl
    · refine lv_iload_n hx hb dX1_widestOver_14 rfl (lv_at hl 2 rfl) ?_
      refine lv_istore (lv' := [(5, .int (nI c)), (0, .ref h0), (1, .int (nI r)), (2, .int (nI c)), (3, .int (nI (WOk b r c s))), (4, .int (nI s))]) hx hb dX1_widestOver_15 hl (by decide) rfl (fun ls hl => ?_)
      have hl : lv_has ls 7 [(0, .ref h0), (1, .int (nI r)), (2, .int (nI c)), (3, .int (nI (mxi (WOk b r c s) (woT b r c s) 0))), (4, .int (nI s)), (5, .int (nI (c + 0)))] := lv_sub hl [1, 2, 3, 4, 5, 0] rfl
      refine W.up 7 17 (fun t => [(0, .ref h0), (1, .int (nI r)), (2, .int (nI c)), (3, .int (nI (mxi (WOk b r c s) (woT b r c s) t))), (4, .int (nI s)), (5, .int (nI (c + t)))]) (fun t => True) (12 - c) ?_ ?_ 0 (by omega) trivial hl
      · intro hk ls hl
        have hl : lv_has ls 7 [(0, .ref h0), (1, .int (nI r)), (2, .int (nI c)), (3, .int (nI (mxi (WOk b r c s) (woT b r c s) (12 - c)))), (4, .int (nI s)), (5, .int (nI (c + (12 - c))))] := hl
        refine lv_iload hx hb dX1_widestOver_17 (lv_at hl 5 rfl) ?_
        refine lv_bipush (v := nI 12) hx hb dX1_widestOver_19 (by decide) ?_
        refine hn_icmp_ge (tgt := 78) hx hb dX1_widestOver_21 (by decide) (by omega) (by omega) (fun c21 => ?_) (fun c21 => absurd c21 (by omega))
        refine lv_iinc (v := nI (s + 1)) (lv' := [(4, .int (nI (s + 1))), (0, .ref h0), (1, .int (nI r)), (2, .int (nI c)), (3, .int (nI (mxi (WOk b r c s) (woT b r c s) (12 - c)))), (5, .int (nI (c + (12 - c))))]) hx hb dX1_widestOver_78 hl (k := 4) rfl (nI_1 _) (by decide) rfl (fun ls hl => ?_)
        refine lv_goto (tgt := 5) hx hb dX1_widestOver_81 (by decide) ?_
        have ev3 : (WOk b r c (s + 1)) = (mxi (WOk b r c s) (woT b r c s) (12 - c)) := by show (if s = r then _ else _) = _; rw [if_neg hsr]
        have ev4 : ((s + 1)) = (s + 1) := by rfl
        have hl : lv_has ls 7 [(0, .ref h0), (1, .int (nI r)), (2, .int (nI c)), (3, .int (nI (WOk b r c (s + 1)))), (4, .int (nI ((s + 1))))] := by rw [ev3, ev4]; exact lv_sub hl [1, 2, 3, 4, 0] rfl
        exact ih5 trivial ls hl
      · intro t hit hk ih17 ls hl
        have hl : lv_has ls 7 [(0, .ref h0), (1, .int (nI r)), (2, .int (nI c)), (3, .int (nI (mxi (WOk b r c s) (woT b r c s) t))), (4, .int (nI s)), (5, .int (nI (c + t)))] := hl
        refine lv_iload hx hb dX1_widestOver_17 (lv_at hl 5 rfl) ?_
        refine lv_bipush (v := nI 12) hx hb dX1_widestOver_19 (by decide) ?_
        refine hn_icmp_ge (tgt := 78) hx hb dX1_widestOver_21 (by decide) (by omega) (by omega) (fun c21 => absurd c21 (by omega)) (fun c21 => ?_)
        refine lv_iload hx hb dX1_widestOver_24 (lv_at hl 4 rfl) ?_
        refine lv_iload_n hx hb dX1_widestOver_26 rfl (lv_at hl 1 rfl) ?_
        refine hn_icmp_eq (tgt := 78) hx hb dX1_widestOver_27 (by decide) (by omega) (by omega) (fun c27 => absurd c27 (by omega)) (fun c27 => ?_)
        refine lv_aload_n hx hb dX1_widestOver_30 rfl (lv_at hl 0 rfl) ?_
        refine lv_iload_n hx hb dX1_widestOver_31 rfl (lv_at hl 1 rfl) ?_
        refine lv_iload hx hb dX1_widestOver_32 (lv_at hl 4 rfl) ?_
        refine lv_iload hx hb dX1_widestOver_34 (lv_at hl 5 rfl) ?_
        refine lv_iconst (v := nI 1) hx hb dX1_widestOver_36 (by decide) ?_
        refine hn_add hx hb dX1_widestOver_37 ?_
        refine vp_callSi (W.runV (As := [.int (nI r), .int (nI s), .int (nI ((c + t) + 1))]) (rest := []) ⟨hx, hb, hml, hown, hts⟩ (metX1_agreeFrom r s (((c + t) + 1)) (by omega) (by omega) (by omega) hbd) (cwV 3 hts (lw_V q224 q226 qs19 q26 q227) rfl rfl rfl (by decide +kernel) ⟨Nat.le_of_ble_eq_true rfl, Nat.le_of_ble_eq_true rfl⟩) (rd_preX1 hK hP) rfl rfl hl.1 rfl (lv_room (Nat.le_of_ble_eq_true rfl)) dX1_widestOver_38 ⟨Nat.le_of_ble_eq_true rfl, Nat.le_of_ble_eq_true rfl⟩) (fun v hv => ?_)
        subst hv
        refine lv_istore (lv' := [(6, .int (nI (AF b r s (((c + t) + 1))))), (0, .ref h0), (1, .int (nI r)), (2, .int (nI c)), (3, .int (nI (mxi (WOk b r c s) (woT b r c s) t))), (4, .int (nI s)), (5, .int (nI (c + t)))]) hx hb dX1_widestOver_41 hl (by decide) rfl (fun ls hl => ?_)
        refine lv_iload hx hb dX1_widestOver_43 (lv_at hl 0 rfl) ?_
        refine lv_iload_n hx hb dX1_widestOver_45 rfl (lv_at hl 3 rfl) ?_
        refine W.jn2 (g := F0 mM 71 ls [.int (nI (if mxi (WOk b r c s) (woT b r c s) t < woT b r c s t then woT b r c s t else mxi (WOk b r c s) (woT b r c s) t))]) (fun J => ?_) ?_
        · refine hn_icmp_gt (tgt := 70) hx hb dX1_widestOver_46 (by decide) (AF_31 (by omega)) (by omega) (fun c46 => ?_) (fun c46 => ?_)
          · refine lv_iload_n hx hb dX1_widestOver_70 rfl (lv_at hl 4 rfl) ?_
            have ej : (if mxi (WOk b r c s) (woT b r c s) t < woT b r c s t then woT b r c s t else mxi (WOk b r c s) (woT b r c s) t) = (mxi (WOk b r c s) (woT b r c s) t) := by rw [show woT b r c s t = 0 from if_neg (Nat.not_le.mpr c46)]; exact if_neg (Nat.not_lt_zero _)
            rw [ej] at J
            exact J
          · refine lv_iload hx hb dX1_widestOver_49 (lv_at hl 6 rfl) ?_
            refine lv_iload hx hb dX1_widestOver_51 (lv_at hl 0 rfl) ?_
            refine hn_sub hx hb dX1_widestOver_53 (by have := AF_le b r s (c + t + 1); omega) ?_
            refine lv_iconst (v := nI 1) hx hb dX1_widestOver_54 (by decide) ?_
            refine hn_add hx hb dX1_widestOver_55 ?_
            refine lv_iload_n hx hb dX1_widestOver_56 rfl (lv_at hl 4 rfl) ?_
            refine hn_icmp_le (tgt := 70) hx hb dX1_widestOver_57 (by decide) (by omega) (Nat.lt_of_le_of_lt (mxi_le (WOk_le (by omega) s) _ (fun i hi => by have := woT_le (b := b) (r := r) (c := c) (s := s) (t := i); omega)) (by decide : 12 < 2147483648)) (fun c57 => ?_) (fun c57 => ?_)
            · refine lv_iload_n hx hb dX1_widestOver_70 rfl (lv_at hl 4 rfl) ?_
              have ej : (if mxi (WOk b r c s) (woT b r c s) t < woT b r c s t then woT b r c s t else mxi (WOk b r c s) (woT b r c s) t) = (mxi (WOk b r c s) (woT b r c s) t) := by rw [show woT b r c s t = c + t - AF b r s (c + t + 1) + 1 from if_pos c46]; exact if_neg (Nat.not_lt.mpr c57)
              rw [ej] at J
              exact J
            · refine lv_iload hx hb dX1_widestOver_60 (lv_at hl 6 rfl) ?_
              refine lv_iload hx hb dX1_widestOver_62 (lv_at hl 0 rfl) ?_
              refine hn_sub hx hb dX1_widestOver_64 (by have := AF_le b r s (c + t + 1); omega) ?_
              refine lv_iconst (v := nI 1) hx hb dX1_widestOver_65 (by decide) ?_
              refine hn_add hx hb dX1_widestOver_66 ?_
              refine lv_goto (tgt := 71) hx hb dX1_widestOver_67 (by decide) ?_
              have ej : (if mxi (WOk b r c s) (woT b r c s) t < woT b r c s t then woT b r c s t else mxi (WOk b r c s) (woT b r c s) t) = (((c + t) - (AF b r s (((c + t) + 1)))) + 1) := by rw [show woT b r c s t = c + t - AF b r s (c + t + 1) + 1 from if_pos c46]; exact if_pos c57
              rw [ej] at J
              exact J
        refine lv_istore_n (lv' := [(3, .int (nI (if mxi (WOk b r c s) (woT b r c s) t < woT b r c s t then woT b r c s t else mxi (WOk b r c s) (woT b r c s) t))), (6, .int (nI (AF b r s (((c + t) + 1))))), (0, .ref h0), (1, .int (nI r)), (2, .int (nI c)), (4, .int (nI s)), (5, .int (nI (c + t)))]) hx hb dX1_widestOver_71 rfl hl (by decide) rfl (fun ls hl => ?_)
        refine lv_iinc (v := nI ((c + t) + 1)) (lv' := [(5, .int (nI ((c + t) + 1))), (3, .int (nI (if mxi (WOk b r c s) (woT b r c s) t < woT b r c s t then woT b r c s t else mxi (WOk b r c s) (woT b r c s) t))), (6, .int (nI (AF b r s (((c + t) + 1))))), (0, .ref h0), (1, .int (nI r)), (2, .int (nI c)), (4, .int (nI s))]) hx hb dX1_widestOver_72 hl (k := 6) rfl (nI_1 _) (by decide) rfl (fun ls hl => ?_)
        refine lv_goto (tgt := 17) hx hb dX1_widestOver_75 (by decide) ?_
        have ev3 : (mxi (WOk b r c s) (woT b r c s) (t + 1)) = (if mxi (WOk b r c s) (woT b r c s) t < woT b r c s t then woT b r c s t else mxi (WOk b r c s) (woT b r c s) t) := by rfl
        have ev5 : (c + (t + 1)) = ((c + t) + 1) := by rfl
        have hl : lv_has ls 7 [(0, .ref h0), (1, .int (nI r)), (2, .int (nI c)), (3, .int (nI (mxi (WOk b r c s) (woT b r c s) (t + 1)))), (4, .int (nI s)), (5, .int (nI (c + (t + 1))))] := by rw [ev3, ev5]; exact lv_sub hl [3, 4, 5, 1, 6, 0] rfl
        exact ih17 trivial ls hl

set_option maxHeartbeats 4000000 in
set_option maxRecDepth 100000 in
theorem metX1_cover {l : Launch} {dC : Nat → ClassId} {dI : Nat → Nat → Nat} {h0 k1 : Nat} {d0 : ClassId} {cnt : Nat} {b : Nat → Nat} (p0 : Int32) (h8 : cnt ≤ 8) (hbd : ∀ k, b k < 4096) : Met l yX1_cover (ws_ yX1_cover cX1_cover 4 (some .int)) (rmk 3) (rdP (dC, dI) [(d0, .int)] (MW h0 k1 d0 cnt b) [.ref h0, .int p0]) (vp_Si (fun v => v = S_covM cnt b p0)) 0 0 (fun _ => False) := by
  refine Met.ofW (cc := cX1_cover) (maxL := 4) (ret := (some .int)) (by decide) rfl ?_
  intro pP eE sS mM args below meth cC s₁ B hml hv
  obtain ⟨rfl, hP, hK⟩ := hv
  have hx := B.exec
  have hb := B.bytes
  have hret := B.returns
  have hts := atoms_spec (ws := ws_ yX1_cover cX1_cover 4 (some .int)) B.pre
  have hts : ∀ w ∈ lw_all, w.before _ sS = true := fun w h => hts w (List.mem_cons_of_mem _ h)
  have hown : sS.vm.findClass RX1 = some mM.cls := findClass_of_methodNamed B.named
  have hlocks := B.notSynchronized
  have hl := lv_entry ([.ref h0, .int p0]) (n := 4) (Nat.le_of_ble_eq_true rfl)
  rw [lg_entry_eq]
  generalize (lg_sl ([.ref h0, .int p0]) ++ List.replicate (4 - (lg_sl ([.ref h0, .int p0])).length) Slot.unset).toArray = ls at hl ⊢
  have hl : lv_has ls 4 [(0, .ref h0), (1, .int p0)] := hl
  refine lv_aload_n hx hb dX1_cover_0 rfl (lv_at hl 0 rfl) ?_
  refine lv_iload_n hx hb dX1_cover_1 rfl (lv_at hl 1 rfl) ?_
  refine vp_callSi (W.runV (As := [.int p0]) (rest := []) ⟨hx, hb, hml, hown, hts⟩ (metX1_isRow p0 h8) (cwV 1 hts (lw_V q191 q193 qs14 q26 q194) rfl rfl rfl (by decide +kernel) ⟨Nat.le_of_ble_eq_true rfl, Nat.le_of_ble_eq_true rfl⟩) (rd_preX1 hK hP) rfl rfl hl.1 rfl (lv_room (Nat.le_of_ble_eq_true rfl)) dX1_cover_2 ⟨Nat.le_of_ble_eq_true rfl, Nat.le_of_ble_eq_true rfl⟩) (fun v hv => ?_)
  subst hv
  refine hn_ifB_ne (tgt := 11) hx hb dX1_cover_5 (by decide) (fun c5 => ?_) (fun c5 => ?_)
  · obtain ⟨r, hr, hr31, rfl⟩ := inRow_of c5
    refine lv_iconst (v := nI 0) hx hb dX1_cover_11 (by decide) ?_
    refine lv_istore_n (lv' := [(2, .int (nI 0)), (0, .ref h0), (1, .int (nI r))]) hx hb dX1_cover_12 rfl hl (by decide) rfl (fun ls hl => ?_)
    refine lv_iconst (v := nI 0) hx hb dX1_cover_13 (by decide) ?_
    refine lv_istore_n (lv' := [(3, .int (nI 0)), (2, .int (nI 0)), (0, .ref h0), (1, .int (nI r))]) hx hb dX1_cover_14 rfl hl (by decide) rfl (fun ls hl => ?_)
    have hl : lv_has ls 4 [(0, .ref h0), (1, .int (nI r)), (2, .int (nI (sm (fun c => WO b cnt r c) 0))), (3, .int (nI 0))] := lv_sub hl [2, 3, 1, 0] rfl
    refine W.up 4 15 (fun c => [(0, .ref h0), (1, .int (nI r)), (2, .int (nI (sm (fun c => WO b cnt r c) c))), (3, .int (nI c))]) (fun c => True) 12 ?_ ?_ 0 (by omega) trivial hl
    · intro hk ls hl
      have hl : lv_has ls 4 [(0, .ref h0), (1, .int (nI r)), (2, .int (nI (sm (fun c => WO b cnt r c) 12))), (3, .int (nI 12))] := hl
      refine lv_iload_n hx hb dX1_cover_15 rfl (lv_at hl 3 rfl) ?_
      refine lv_bipush (v := nI 12) hx hb dX1_cover_16 (by decide) ?_
      refine hn_icmp_ge (tgt := 36) hx hb dX1_cover_18 (by decide) (by omega) (by omega) (fun c18 => ?_) (fun c18 => absurd c18 (by omega))
      refine lv_iload_n hx hb dX1_cover_36 rfl (lv_at hl 2 rfl) ?_
      have er : nI (sm (fun c => WO b cnt r c) 12) = S_covM cnt b (nI r) := by exact (S_covM_ok hr h8).symm
      exact W.iret (v := nI (sm (fun c => WO b cnt r c) 12)) hx hb hret (fun t ht hW => ⟨nI (sm (fun c => WO b cnt r c) 12), rfl, er, ht⟩) (fun _ h => by cases h) dX1_cover_37
    · intro c hic hk ih15 ls hl
      have hl : lv_has ls 4 [(0, .ref h0), (1, .int (nI r)), (2, .int (nI (sm (fun c => WO b cnt r c) c))), (3, .int (nI c))] := hl
      refine lv_iload_n hx hb dX1_cover_15 rfl (lv_at hl 3 rfl) ?_
      refine lv_bipush (v := nI 12) hx hb dX1_cover_16 (by decide) ?_
      refine hn_icmp_ge (tgt := 36) hx hb dX1_cover_18 (by decide) (by omega) (by omega) (fun c18 => absurd c18 (by omega)) (fun c18 => ?_)
      refine lv_iload_n hx hb dX1_cover_21 rfl (lv_at hl 2 rfl) ?_
      refine lv_aload_n hx hb dX1_cover_22 rfl (lv_at hl 0 rfl) ?_
      refine lv_iload_n hx hb dX1_cover_23 rfl (lv_at hl 1 rfl) ?_
      refine lv_iload_n hx hb dX1_cover_24 rfl (lv_at hl 3 rfl) ?_
      refine vp_callSi (W.runV (As := [.int (nI r), .int (nI c)]) (rest := [.int (nI (sm (fun c => WO b cnt r c) c))]) ⟨hx, hb, hml, hown, hts⟩ (metX1_widestOver r c h8 (by omega) (by omega) hbd) (cwV 2 hts (lw_V q256 q258 qs23 q26 q259) rfl rfl rfl (by decide +kernel) ⟨Nat.le_of_ble_eq_true rfl, Nat.le_of_ble_eq_true rfl⟩) (rd_preX1 hK hP) rfl rfl hl.1 rfl (lv_room (Nat.le_of_ble_eq_true rfl)) dX1_cover_25 ⟨Nat.le_of_ble_eq_true rfl, Nat.le_of_ble_eq_true rfl⟩) (fun v hv => ?_)
      subst hv
      refine hn_add hx hb dX1_cover_28 ?_
      refine lv_istore_n (lv' := [(2, .int (nI ((sm (fun c => WO b cnt r c) c) + (WO b cnt r c)))), (0, .ref h0), (1, .int (nI r)), (3, .int (nI c))]) hx hb dX1_cover_29 rfl hl (by decide) rfl (fun ls hl => ?_)
      refine lv_iinc (v := nI (c + 1)) (lv' := [(3, .int (nI (c + 1))), (2, .int (nI ((sm (fun c => WO b cnt r c) c) + (WO b cnt r c)))), (0, .ref h0), (1, .int (nI r))]) hx hb dX1_cover_30 hl (k := 3) rfl (nI_1 _) (by decide) rfl (fun ls hl => ?_)
      refine lv_goto (tgt := 15) hx hb dX1_cover_33 (by decide) ?_
      have ev2 : (sm (fun c => WO b cnt r c) (c + 1)) = ((sm (fun c => WO b cnt r c) c) + (WO b cnt r c)) := by rfl
      have ev3 : ((c + 1)) = (c + 1) := by rfl
      have hl : lv_has ls 4 [(0, .ref h0), (1, .int (nI r)), (2, .int (nI (sm (fun c => WO b cnt r c) (c + 1)))), (3, .int (nI ((c + 1))))] := by rw [ev2, ev3]; exact lv_sub hl [2, 3, 1, 0] rfl
      exact ih15 trivial ls hl
  · refine lv_bipush (v := -4) hx hb dX1_cover_8 (by decide) ?_
    have er : (-4) = S_covM cnt b p0 := by exact (if_rowF c5 _ _).symm
    exact W.iret (v := (-4)) hx hb hret (fun t ht hW => ⟨(-4), rfl, er, ht⟩) (fun _ h => by cases h) dX1_cover_10

set_option maxHeartbeats 4000000 in
set_option maxRecDepth 100000 in
theorem metX1_kinds {l : Launch} {dC : Nat → ClassId} {dI : Nat → Nat → Nat} {h0 k1 : Nat} {d0 : ClassId} {cnt : Nat} {b : Nat → Nat} (p0 p1 : Int32) (h8 : cnt ≤ 8) (hbd : ∀ k, b k < 4096) : Met l yX1_kinds (ws_ yX1_kinds cX1_kinds 7 (some .int)) (rmk 3) (rdP (dC, dI) [(d0, .int)] (MW h0 k1 d0 cnt b) [.ref h0, .int p0, .int p1]) (vp_Si (fun v => v = S_kinM cnt b p0 p1)) 0 0 (fun _ => False) := by
  refine Met.ofW (cc := cX1_kinds) (maxL := 7) (ret := (some .int)) (by decide) rfl ?_
  intro pP eE sS mM args below meth cC s₁ B hml hv
  obtain ⟨rfl, hP, hK⟩ := hv
  have hx := B.exec
  have hb := B.bytes
  have hret := B.returns
  have hts := atoms_spec (ws := ws_ yX1_kinds cX1_kinds 7 (some .int)) B.pre
  have hts : ∀ w ∈ lw_all, w.before _ sS = true := fun w h => hts w (List.mem_cons_of_mem _ h)
  have hown : sS.vm.findClass RX1 = some mM.cls := findClass_of_methodNamed B.named
  have hlocks := B.notSynchronized
  have hl := lv_entry ([.ref h0, .int p0, .int p1]) (n := 7) (Nat.le_of_ble_eq_true rfl)
  rw [lg_entry_eq]
  generalize (lg_sl ([.ref h0, .int p0, .int p1]) ++ List.replicate (7 - (lg_sl ([.ref h0, .int p0, .int p1])).length) Slot.unset).toArray = ls at hl ⊢
  have hl : lv_has ls 7 [(0, .ref h0), (1, .int p0), (2, .int p1)] := hl
  refine lv_iload_n hx hb dX1_kinds_0 rfl (lv_at hl 1 rfl) ?_
  refine hz_if_lt (tgt := 15) hx hb dX1_kinds_1 (by decide) (fun c1 => ?_) (fun c1 => ?_)
  · refine lv_iconst (v := -1) hx hb dX1_kinds_15 (by decide) ?_
    have er : (-1) = S_kinM cnt b p0 p1 := by exact (if_neg (by omega)).symm
    exact W.iret (v := (-1)) hx hb hret (fun t ht hW => ⟨(-1), rfl, er, ht⟩) (fun _ h => by cases h) dX1_kinds_16
  · refine lv_iload_n hx hb dX1_kinds_4 rfl (lv_at hl 2 rfl) ?_
    refine lv_bipush (v := nI 11) hx hb dX1_kinds_5 (by decide) ?_
    refine hz_icmp_gt (tgt := 15) hx hb dX1_kinds_7 (by decide) (fun c7 => ?_) (fun c7 => ?_)
    · rw [hz_t (k := 11) (by omega)] at c7
      refine lv_iconst (v := -1) hx hb dX1_kinds_15 (by decide) ?_
      have er : (-1) = S_kinM cnt b p0 p1 := by exact (if_neg (by omega)).symm
      exact W.iret (v := (-1)) hx hb hret (fun t ht hW => ⟨(-1), rfl, er, ht⟩) (fun _ h => by cases h) dX1_kinds_16
    · rw [hz_t (k := 11) (by omega)] at c7
      refine lv_iload_n hx hb dX1_kinds_10 rfl (lv_at hl 1 rfl) ?_
      refine lv_iload_n hx hb dX1_kinds_11 rfl (lv_at hl 2 rfl) ?_
      refine hz_icmp_le (tgt := 17) hx hb dX1_kinds_12 (by decide) (fun c12 => ?_) (fun c12 => ?_)
      · obtain ⟨a, ha31, rfl, ea⟩ := hz_of (x := p0) (by omega)
        obtain ⟨e, he31, rfl, ee⟩ := hz_of (x := p1) (by omega)
        have ha : a ≤ e := (by omega)
        have he : e ≤ 11 := (by omega)
        clear c1 c7 c12 ea ee
        refine lv_iconst (v := nI 0) hx hb dX1_kinds_17 (by decide) ?_
        refine lv_istore_n (lv' := [(3, .int (nI 0)), (0, .ref h0), (1, .int (nI a)), (2, .int (nI e))]) hx hb dX1_kinds_18 rfl hl (by decide) rfl (fun ls hl => ?_)
        refine lv_iconst (v := nI 0) hx hb dX1_kinds_19 (by decide) ?_
        refine lv_istore (lv' := [(4, .int (nI 0)), (3, .int (nI 0)), (0, .ref h0), (1, .int (nI a)), (2, .int (nI e))]) hx hb dX1_kinds_20 hl (by decide) rfl (fun ls hl => ?_)
        have hl : lv_has ls 7 [(0, .ref h0), (1, .int (nI a)), (2, .int (nI e)), (3, .int (nI (cN (fun r => !(anyN (kf1 b r a e) r)) 0))), (4, .int (nI 0))] := lv_sub hl [2, 3, 4, 1, 0] rfl
        refine W.up 7 22 (fun r => [(0, .ref h0), (1, .int (nI a)), (2, .int (nI e)), (3, .int (nI (cN (fun r => !(anyN (kf1 b r a e) r)) r))), (4, .int (nI r))]) (fun r => True) cnt ?_ ?_ 0 (by omega) trivial hl
        · intro hk ls hl
          have hl : lv_has ls 7 [(0, .ref h0), (1, .int (nI a)), (2, .int (nI e)), (3, .int (nI (cN (fun r => !(anyN (kf1 b r a e) r)) cnt))), (4, .int (nI cnt))] := hl
          refine lv_iload hx hb dX1_kinds_22 (lv_at hl 4 rfl) ?_
          refine lv_aload_n hx hb dX1_kinds_24 rfl (lv_at hl 0 rfl) ?_
          refine va_get (D := (dC, dI)) (ci := 1) (v := .int (nI cnt)) (C := RX1) (T := TX1) (N := 2) hx hb hts in_X1 hown hK hP 0 rfl rfl 1 (by decide) (hts _ q169) (fun _ h9 => h9) rfl dX1_kinds_25 ?_
          refine hn_icmp_ge (tgt := 94) hx hb dX1_kinds_28 (by decide) (by omega) (by omega) (fun c28 => ?_) (fun c28 => absurd c28 (by omega))
          refine lv_iload_n hx hb dX1_kinds_94 rfl (lv_at hl 3 rfl) ?_
          have er : nI (cN (fun r => !(anyN (kf1 b r a e) r)) cnt) = S_kinM cnt b (nI a) (nI e) := by exact (S_kinM_ok ha he).symm
          exact W.iret (v := nI (cN (fun r => !(anyN (kf1 b r a e) r)) cnt)) hx hb hret (fun t ht hW => ⟨nI (cN (fun r => !(anyN (kf1 b r a e) r)) cnt), rfl, er, ht⟩) (fun _ h => by cases h) dX1_kinds_95
        · intro r hir hk ih22 ls hl
          have hl : lv_has ls 7 [(0, .ref h0), (1, .int (nI a)), (2, .int (nI e)), (3, .int (nI (cN (fun r => !(anyN (kf1 b r a e) r)) r))), (4, .int (nI r))] := hl
          refine lv_iload hx hb dX1_kinds_22 (lv_at hl 4 rfl) ?_
          refine lv_aload_n hx hb dX1_kinds_24 rfl (lv_at hl 0 rfl) ?_
          refine va_get (D := (dC, dI)) (ci := 1) (v := .int (nI cnt)) (C := RX1) (T := TX1) (N := 2) hx hb hts in_X1 hown hK hP 0 rfl rfl 1 (by decide) (hts _ q169) (fun _ h9 => h9) rfl dX1_kinds_25 ?_
          refine hn_icmp_ge (tgt := 94) hx hb dX1_kinds_28 (by decide) (by omega) (by omega) (fun c28 => absurd c28 (by omega)) (fun c28 => ?_)
          refine lv_iconst (v := nI 1) hx hb dX1_kinds_31 (by decide) ?_
          refine lv_istore (lv' := [(5, .int (nI 1)), (0, .ref h0), (1, .int (nI a)), (2, .int (nI e)), (3, .int (nI (cN (fun r => !(anyN (kf1 b r a e) r)) r))), (4, .int (nI r))]) hx hb dX1_kinds_32 hl (by decide) rfl (fun ls hl => ?_)
          refine lv_iconst (v := nI 0) hx hb dX1_kinds_34 (by decide) ?_
          refine lv_istore (lv' := [(6, .int (nI 0)), (5, .int (nI 1)), (0, .ref h0), (1, .int (nI a)), (2, .int (nI e)), (3, .int (nI (cN (fun r => !(anyN (kf1 b r a e) r)) r))), (4, .int (nI r))]) hx hb dX1_kinds_35 hl (by decide) rfl (fun ls hl => ?_)
          have hl : lv_has ls 7 [(0, .ref h0), (1, .int (nI a)), (2, .int (nI e)), (3, .int (nI (cN (fun r => !(anyN (kf1 b r a e) r)) r))), (4, .int (nI r)), (5, .int (nI (bN (!(anyN (kf1 b r a e) 0))))), (6, .int (nI 0))] := lv_sub hl [2, 3, 4, 5, 6, 1, 0] rfl
          refine W.up 7 37 (fun s => [(0, .ref h0), (1, .int (nI a)), (2, .int (nI e)), (3, .int (nI (cN (fun r => !(anyN (kf1 b r a e) r)) r))), (4, .int (nI r)), (5, .int (nI (bN (!(anyN (kf1 b r a e) s))))), (6, .int (nI s))]) (fun s => True) r ?_ ?_ 0 (by omega) trivial hl
          · intro hk ls hl
            have hl : lv_has ls 7 [(0, .ref h0), (1, .int (nI a)), (2, .int (nI e)), (3, .int (nI (cN (fun r => !(anyN (kf1 b r a e) r)) r))), (4, .int (nI r)), (5, .int (nI (bN (!(anyN (kf1 b r a e) r))))), (6, .int (nI r))] := hl
            refine lv_iload hx hb dX1_kinds_37 (lv_at hl 6 rfl) ?_
            refine lv_iload hx hb dX1_kinds_39 (lv_at hl 4 rfl) ?_
            refine hn_icmp_ge (tgt := 75) hx hb dX1_kinds_41 (by decide) (by omega) (by omega) (fun c41 => ?_) (fun c41 => absurd c41 (by omega))
            refine lv_iload hx hb dX1_kinds_75 (lv_at hl 5 rfl) ?_
            refine W.jn2 (g := F0 mM 87 ls [.int (nI (cN (fun r => !(anyN (kf1 b r a e) r)) r + bN (!(anyN (kf1 b r a e) r))))]) (fun J => ?_) ?_
            · refine hn_ifB_eq (tgt := 86) hx hb dX1_kinds_77 (by decide) (fun c77 => ?_) (fun c77 => ?_)
              · refine lv_iload_n hx hb dX1_kinds_86 rfl (lv_at hl 3 rfl) ?_
                have ej : (cN (fun r => !(anyN (kf1 b r a e) r)) r + bN (!(anyN (kf1 b r a e) r))) = (cN (fun r => !(anyN (kf1 b r a e) r)) r) := by rw [c77]; rfl
                rw [ej] at J
                exact J
              · refine lv_iload_n hx hb dX1_kinds_80 rfl (lv_at hl 3 rfl) ?_
                refine lv_iconst (v := nI 1) hx hb dX1_kinds_81 (by decide) ?_
                refine hn_add hx hb dX1_kinds_82 ?_
                refine lv_goto (tgt := 87) hx hb dX1_kinds_83 (by decide) ?_
                have ej : (cN (fun r => !(anyN (kf1 b r a e) r)) r + bN (!(anyN (kf1 b r a e) r))) = ((cN (fun r => !(anyN (kf1 b r a e) r)) r) + 1) := by rw [c77]; rfl
                rw [ej] at J
                exact J
            refine lv_istore_n (lv' := [(3, .int (nI (cN (fun r => !(anyN (kf1 b r a e) r)) r + bN (!(anyN (kf1 b r a e) r))))), (0, .ref h0), (1, .int (nI a)), (2, .int (nI e)), (4, .int (nI r)), (5, .int (nI (bN (!(anyN (kf1 b r a e) r))))), (6, .int (nI r))]) hx hb dX1_kinds_87 rfl hl (by decide) rfl (fun ls hl => ?_)
            refine lv_iinc (v := nI (r + 1)) (lv' := [(4, .int (nI (r + 1))), (3, .int (nI (cN (fun r => !(anyN (kf1 b r a e) r)) r + bN (!(anyN (kf1 b r a e) r))))), (0, .ref h0), (1, .int (nI a)), (2, .int (nI e)), (5, .int (nI (bN (!(anyN (kf1 b r a e) r))))), (6, .int (nI r))]) hx hb dX1_kinds_88 hl (k := 4) rfl (nI_1 _) (by decide) rfl (fun ls hl => ?_)
            refine lv_goto (tgt := 22) hx hb dX1_kinds_91 (by decide) ?_
            have ev3 : (cN (fun r => !(anyN (kf1 b r a e) r)) (r + 1)) = (cN (fun r => !(anyN (kf1 b r a e) r)) r + bN (!(anyN (kf1 b r a e) r))) := by rfl
            have ev4 : ((r + 1)) = (r + 1) := by rfl
            have hl : lv_has ls 7 [(0, .ref h0), (1, .int (nI a)), (2, .int (nI e)), (3, .int (nI (cN (fun r => !(anyN (kf1 b r a e) r)) (r + 1)))), (4, .int (nI ((r + 1))))] := by rw [ev3, ev4]; exact lv_sub hl [2, 3, 4, 1, 0] rfl
            exact ih22 trivial ls hl
          · intro s his hk ih37 ls hl
            have hl : lv_has ls 7 [(0, .ref h0), (1, .int (nI a)), (2, .int (nI e)), (3, .int (nI (cN (fun r => !(anyN (kf1 b r a e) r)) r))), (4, .int (nI r)), (5, .int (nI (bN (!(anyN (kf1 b r a e) s))))), (6, .int (nI s))] := hl
            refine lv_iload hx hb dX1_kinds_37 (lv_at hl 6 rfl) ?_
            refine lv_iload hx hb dX1_kinds_39 (lv_at hl 4 rfl) ?_
            refine hn_icmp_ge (tgt := 75) hx hb dX1_kinds_41 (by decide) (by omega) (by omega) (fun c41 => absurd c41 (by omega)) (fun c41 => ?_)
            refine lv_iload hx hb dX1_kinds_44 (lv_at hl 5 rfl) ?_
            refine W.jn2 (g := F0 mM 67 ls [.int (nI (bN (!(anyN (kf1 b r a e) s) && !(AGb b r s a e))))]) (fun J => ?_) ?_
            · refine hn_ifB_eq (tgt := 66) hx hb dX1_kinds_46 (by decide) (fun c46 => ?_) (fun c46 => ?_)
              · refine lv_iconst (v := nI 0) hx hb dX1_kinds_66 (by decide) ?_
                have ej : (bN (!(anyN (kf1 b r a e) s) && !(AGb b r s a e))) = 0 := by rw [c46]; rfl
                rw [ej] at J
                exact J
              · refine lv_aload_n hx hb dX1_kinds_49 rfl (lv_at hl 0 rfl) ?_
                refine lv_iload hx hb dX1_kinds_50 (lv_at hl 4 rfl) ?_
                refine lv_iload hx hb dX1_kinds_52 (lv_at hl 6 rfl) ?_
                refine lv_iload_n hx hb dX1_kinds_54 rfl (lv_at hl 1 rfl) ?_
                refine lv_iload_n hx hb dX1_kinds_55 rfl (lv_at hl 2 rfl) ?_
                refine vp_callSi (W.runV (As := [.int (nI r), .int (nI s), .int (nI a), .int (nI e)]) (rest := []) ⟨hx, hb, hml, hown, hts⟩ (metX1_agree r s a e (by omega) (by omega) (by omega) (by omega) hbd) (cwV 4 hts (lw_V q248 q250 qs22 q26 q251) rfl rfl rfl (by decide +kernel) ⟨Nat.le_of_ble_eq_true rfl, Nat.le_of_ble_eq_true rfl⟩) (rd_preX1 hK hP) rfl rfl hl.1 rfl (lv_room (Nat.le_of_ble_eq_true rfl)) dX1_kinds_56 ⟨Nat.le_of_ble_eq_true rfl, Nat.le_of_ble_eq_true rfl⟩) (fun v hv => ?_)
                subst hv
                refine hn_ifB_ne (tgt := 66) hx hb dX1_kinds_59 (by decide) (fun c59 => ?_) (fun c59 => ?_)
                · refine lv_iconst (v := nI 0) hx hb dX1_kinds_66 (by decide) ?_
                  have ej : (bN (!(anyN (kf1 b r a e) s) && !(AGb b r s a e))) = 0 := by rw [c46, c59]; rfl
                  rw [ej] at J
                  exact J
                · refine lv_iconst (v := nI 1) hx hb dX1_kinds_62 (by decide) ?_
                  refine lv_goto (tgt := 67) hx hb dX1_kinds_63 (by decide) ?_
                  have ej : (bN (!(anyN (kf1 b r a e) s) && !(AGb b r s a e))) = 1 := by rw [c46, c59]; rfl
                  rw [ej] at J
                  exact J
            refine lv_istore (lv' := [(5, .int (nI (bN (!(anyN (kf1 b r a e) s) && !(AGb b r s a e))))), (0, .ref h0), (1, .int (nI a)), (2, .int (nI e)), (3, .int (nI (cN (fun r => !(anyN (kf1 b r a e) r)) r))), (4, .int (nI r)), (6, .int (nI s))]) hx hb dX1_kinds_67 hl (by decide) rfl (fun ls hl => ?_)
            refine lv_iinc (v := nI (s + 1)) (lv' := [(6, .int (nI (s + 1))), (5, .int (nI (bN (!(anyN (kf1 b r a e) s) && !(AGb b r s a e))))), (0, .ref h0), (1, .int (nI a)), (2, .int (nI e)), (3, .int (nI (cN (fun r => !(anyN (kf1 b r a e) r)) r))), (4, .int (nI r))]) hx hb dX1_kinds_69 hl (k := 6) rfl (nI_1 _) (by decide) rfl (fun ls hl => ?_)
            refine lv_goto (tgt := 37) hx hb dX1_kinds_72 (by decide) ?_
            have ev5 : (bN (!(anyN (kf1 b r a e) (s + 1)))) = (bN (!(anyN (kf1 b r a e) s) && !(AGb b r s a e))) := by exact congrArg bN (Bool.not_or _ _)
            have ev6 : ((s + 1)) = (s + 1) := by rfl
            have hl : lv_has ls 7 [(0, .ref h0), (1, .int (nI a)), (2, .int (nI e)), (3, .int (nI (cN (fun r => !(anyN (kf1 b r a e) r)) r))), (4, .int (nI r)), (5, .int (nI (bN (!(anyN (kf1 b r a e) (s + 1)))))), (6, .int (nI ((s + 1))))] := by rw [ev5, ev6]; exact lv_sub hl [2, 3, 4, 5, 6, 1, 0] rfl
            exact ih37 trivial ls hl
      · refine lv_iconst (v := -1) hx hb dX1_kinds_15 (by decide) ?_
        have er : (-1) = S_kinM cnt b p0 p1 := by exact (if_neg (by omega)).symm
        exact W.iret (v := (-1)) hx hb hret (fun t ht hW => ⟨(-1), rfl, er, ht⟩) (fun _ h => by cases h) dX1_kinds_16

set_option maxHeartbeats 4000000 in
set_option maxRecDepth 100000 in
theorem metX1_having {l : Launch} {dC : Nat → ClassId} {dI : Nat → Nat → Nat} {h0 k1 : Nat} {d0 : ClassId} {cnt : Nat} {b : Nat → Nat} (p0 p1 p2 : Int32) (h8 : cnt ≤ 8) (hbd : ∀ k, b k < 4096) : Met l yX1_having (ws_ yX1_having cX1_having 7 (some .int)) (rmk 1) (rdP (dC, dI) [(d0, .int)] (MW h0 k1 d0 cnt b) [.ref h0, .int p0, .int p1, .int p2]) (vp_Si (fun v => v = S_hav cnt b p0 p1 p2)) 0 0 (fun _ => False) := by
  refine Met.ofW (cc := cX1_having) (maxL := 7) (ret := (some .int)) (by decide) rfl ?_
  intro pP eE sS mM args below meth cC s₁ B hml hv
  obtain ⟨rfl, hP, hK⟩ := hv
  have hx := B.exec
  have hb := B.bytes
  have hret := B.returns
  have hts := atoms_spec (ws := ws_ yX1_having cX1_having 7 (some .int)) B.pre
  have hts : ∀ w ∈ lw_all, w.before _ sS = true := fun w h => hts w (List.mem_cons_of_mem _ h)
  have hown : sS.vm.findClass RX1 = some mM.cls := findClass_of_methodNamed B.named
  have hlocks := B.notSynchronized
  have hl := lv_entry ([.ref h0, .int p0, .int p1, .int p2]) (n := 7) (Nat.le_of_ble_eq_true rfl)
  rw [lg_entry_eq]
  generalize (lg_sl ([.ref h0, .int p0, .int p1, .int p2]) ++ List.replicate (7 - (lg_sl ([.ref h0, .int p0, .int p1, .int p2])).length) Slot.unset).toArray = ls at hl ⊢
  have hl : lv_has ls 7 [(0, .ref h0), (1, .int p0), (2, .int p1), (3, .int p2)] := hl
  refine lv_iload_n hx hb dX1_having_0 rfl (lv_at hl 2 rfl) ?_
  refine hz_if_lt (tgt := 34) hx hb dX1_having_1 (by decide) (fun c1 => ?_) (fun c1 => ?_)
  · refine lv_iconst (v := -1) hx hb dX1_having_34 (by decide) ?_
    have er : (-1) = S_hav cnt b p0 p1 p2 := by exact (if_neg (by omega)).symm
    exact W.iret (v := (-1)) hx hb hret (fun t ht hW => ⟨(-1), rfl, er, ht⟩) (fun _ h => by cases h) dX1_having_35
  · refine lv_iload_n hx hb dX1_having_4 rfl (lv_at hl 2 rfl) ?_
    refine lv_bipush (v := nI 12) hx hb dX1_having_5 (by decide) ?_
    refine hz_icmp_gt (tgt := 34) hx hb dX1_having_7 (by decide) (fun c7 => ?_) (fun c7 => ?_)
    · rw [hz_t (k := 12) (by omega)] at c7
      refine lv_iconst (v := -1) hx hb dX1_having_34 (by decide) ?_
      have er : (-1) = S_hav cnt b p0 p1 p2 := by exact (if_neg (by omega)).symm
      exact W.iret (v := (-1)) hx hb hret (fun t ht hW => ⟨(-1), rfl, er, ht⟩) (fun _ h => by cases h) dX1_having_35
    · rw [hz_t (k := 12) (by omega)] at c7
      refine lv_aload_n hx hb dX1_having_10 rfl (lv_at hl 0 rfl) ?_
      refine lv_iload_n hx hb dX1_having_11 rfl (lv_at hl 1 rfl) ?_
      refine vp_callSi (W.runV (As := [.int p0]) (rest := []) ⟨hx, hb, hml, hown, hts⟩ (metX1_isColumn p0) (cwV 1 hts (lw_V q203 q205 qs15 q26 q206) rfl rfl rfl (by decide +kernel) ⟨Nat.le_of_ble_eq_true rfl, Nat.le_of_ble_eq_true rfl⟩) (rd_preX1 hK hP) rfl rfl hl.1 rfl (lv_room (Nat.le_of_ble_eq_true rfl)) dX1_having_12 ⟨Nat.le_of_ble_eq_true rfl, Nat.le_of_ble_eq_true rfl⟩) (fun v hv => ?_)
      subst hv
      refine hn_ifB_eq (tgt := 34) hx hb dX1_having_15 (by decide) (fun c15 => ?_) (fun c15 => ?_)
      · refine lv_iconst (v := -1) hx hb dX1_having_34 (by decide) ?_
        have er : (-1) = S_hav cnt b p0 p1 p2 := by exact (if_neg (fun z => by have z1 := of_decide_eq_false c15; omega)).symm
        exact W.iret (v := (-1)) hx hb hret (fun t ht hW => ⟨(-1), rfl, er, ht⟩) (fun _ h => by cases h) dX1_having_35
      · refine lv_iload_n hx hb dX1_having_18 rfl (lv_at hl 1 rfl) ?_
        refine lv_iload_n hx hb dX1_having_19 rfl (lv_at hl 2 rfl) ?_
        refine lv_iadd hx hb dX1_having_20 ?_
        refine lv_bipush (v := nI 12) hx hb dX1_having_21 (by decide) ?_
        refine hz_icmp_gt (tgt := 34) hx hb dX1_having_23 (by decide) (fun c23 => ?_) (fun c23 => ?_)
        · rw [hz_t (k := 12) (by omega)] at c23
          refine lv_iconst (v := -1) hx hb dX1_having_34 (by decide) ?_
          have er : (-1) = S_hav cnt b p0 p1 p2 := by exact S_hav_bad c1 c7 c15 c23
          exact W.iret (v := (-1)) hx hb hret (fun t ht hW => ⟨(-1), rfl, er, ht⟩) (fun _ h => by cases h) dX1_having_35
        · rw [hz_t (k := 12) (by omega)] at c23
          refine lv_aload_n hx hb dX1_having_26 rfl (lv_at hl 0 rfl) ?_
          refine lv_iload_n hx hb dX1_having_27 rfl (lv_at hl 3 rfl) ?_
          refine vp_callSi (W.runV (As := [.int p2]) (rest := []) ⟨hx, hb, hml, hown, hts⟩ (metX1_isBits p2) (cwV 1 hts (lw_V q179 q181 qs13 q26 q182) rfl rfl rfl (by decide +kernel) ⟨Nat.le_of_ble_eq_true rfl, Nat.le_of_ble_eq_true rfl⟩) (rd_preX1 hK hP) rfl rfl hl.1 rfl (lv_room (Nat.le_of_ble_eq_true rfl)) dX1_having_28 ⟨Nat.le_of_ble_eq_true rfl, Nat.le_of_ble_eq_true rfl⟩) (fun v hv => ?_)
          subst hv
          refine hn_ifB_ne (tgt := 36) hx hb dX1_having_31 (by decide) (fun c31 => ?_) (fun c31 => ?_)
          · obtain ⟨a, ha, rfl⟩ := inCol_of c15
            obtain ⟨k, hk31, rfl, ek⟩ := hz_of (x := p1) (by omega)
            obtain ⟨y, hy, rfl⟩ := inBits_of c31
            rw [hz_t hk31] at c1 c7
            have hk12 : k ≤ 12 := (by omega)
            rw [nI_add, hz_t (by omega)] at c23
            have hak : a + k ≤ 12 := (by omega)
            refine lv_iconst (v := nI 0) hx hb dX1_having_36 (by decide) ?_
            refine lv_istore (lv' := [(4, .int (nI 0)), (0, .ref h0), (1, .int (nI a)), (2, .int (nI k)), (3, .int (nI y))]) hx hb dX1_having_37 hl (by decide) rfl (fun ls hl => ?_)
            refine lv_iconst (v := nI 0) hx hb dX1_having_39 (by decide) ?_
            refine lv_istore (lv' := [(5, .int (nI 0)), (4, .int (nI 0)), (0, .ref h0), (1, .int (nI a)), (2, .int (nI k)), (3, .int (nI y))]) hx hb dX1_having_40 hl (by decide) rfl (fun ls hl => ?_)
            have hl : lv_has ls 7 [(0, .ref h0), (1, .int (nI a)), (2, .int (nI k)), (3, .int (nI y)), (4, .int (nI (cN (HQ b a k y) 0))), (5, .int (nI 0))] := lv_sub hl [2, 3, 4, 5, 1, 0] rfl
            refine W.up 7 42 (fun r => [(0, .ref h0), (1, .int (nI a)), (2, .int (nI k)), (3, .int (nI y)), (4, .int (nI (cN (HQ b a k y) r))), (5, .int (nI r))]) (fun r => True) cnt ?_ ?_ 0 (by omega) trivial hl
            · intro hk ls hl
              have hl : lv_has ls 7 [(0, .ref h0), (1, .int (nI a)), (2, .int (nI k)), (3, .int (nI y)), (4, .int (nI (cN (HQ b a k y) cnt))), (5, .int (nI cnt))] := hl
              refine lv_iload hx hb dX1_having_42 (lv_at hl 5 rfl) ?_
              refine lv_aload_n hx hb dX1_having_44 rfl (lv_at hl 0 rfl) ?_
              refine va_get (D := (dC, dI)) (ci := 1) (v := .int (nI cnt)) (C := RX1) (T := TX1) (N := 2) hx hb hts in_X1 hown hK hP 0 rfl rfl 1 (by decide) (hts _ q169) (fun _ h9 => h9) rfl dX1_having_45 ?_
              refine hn_icmp_ge (tgt := 92) hx hb dX1_having_48 (by decide) (by omega) (by omega) (fun c48 => ?_) (fun c48 => absurd c48 (by omega))
              refine lv_iload hx hb dX1_having_92 (lv_at hl 4 rfl) ?_
              have er : nI (cN (HQ b a k y) cnt) = S_hav cnt b (nI a) (nI k) (nI y) := by exact (S_hav_ok hak hy).symm
              exact W.iret (v := nI (cN (HQ b a k y) cnt)) hx hb hret (fun t ht hW => ⟨nI (cN (HQ b a k y) cnt), rfl, er, ht⟩) (fun _ h => by cases h) dX1_having_94
            · intro r hir hk ih42 ls hl
              have hl : lv_has ls 7 [(0, .ref h0), (1, .int (nI a)), (2, .int (nI k)), (3, .int (nI y)), (4, .int (nI (cN (HQ b a k y) r))), (5, .int (nI r))] := hl
              refine lv_iload hx hb dX1_having_42 (lv_at hl 5 rfl) ?_
              refine lv_aload_n hx hb dX1_having_44 rfl (lv_at hl 0 rfl) ?_
              refine va_get (D := (dC, dI)) (ci := 1) (v := .int (nI cnt)) (C := RX1) (T := TX1) (N := 2) hx hb hts in_X1 hown hK hP 0 rfl rfl 1 (by decide) (hts _ q169) (fun _ h9 => h9) rfl dX1_having_45 ?_
              refine hn_icmp_ge (tgt := 92) hx hb dX1_having_48 (by decide) (by omega) (by omega) (fun c48 => absurd c48 (by omega)) (fun c48 => ?_)
              refine lv_aload_n hx hb dX1_having_51 rfl (lv_at hl 0 rfl) ?_
              refine va_get (D := (dC, dI)) (ci := 1) (v := .ref k1) (C := RX1) (T := TX1) (N := 2) hx hb hts in_X1 hown hK hP 0 rfl rfl 0 (by decide) (hts _ q168) (fun _ h9 => h9) rfl dX1_having_52 ?_
              refine lv_iload hx hb dX1_having_55 (lv_at hl 5 rfl) ?_
              refine hn_ald hx hb hK hP 1 0 rfl rfl (by omega) (by decide) dX1_having_57 ?_
              refine lv_iload_n hx hb dX1_having_58 rfl (lv_at hl 1 rfl) ?_
              refine hn_shr hx hb dX1_having_59 (Nat.lt_trans (hbd _) (by decide)) (by omega) ?_
              refine lv_iload_n hx hb dX1_having_60 rfl (lv_at hl 3 rfl) ?_
              refine hn_xor hx hb dX1_having_61 ?_
              refine lv_iconst (v := nI 1) hx hb dX1_having_62 (by decide) ?_
              refine lv_iload_n hx hb dX1_having_63 rfl (lv_at hl 2 rfl) ?_
              refine hn_shl hx hb dX1_having_64 (by omega) ?_
              refine lv_iconst (v := nI 1) hx hb dX1_having_65 (by decide) ?_
              refine hn_sub hx hb dX1_having_66 (hn_2p _) ?_
              refine hn_and (k0 := k) hx hb dX1_having_67 (Nat.lt_trans (xr_lt (Nat.lt_of_le_of_lt (Nat.div_le_self _ _) (hbd _)) hy) (by decide)) (hn_2k hk12) ?_
              refine lv_istore (lv' := [(6, .int (nI ((((b r) / 2 ^ a) ^^^ y) % 2 ^ k))), (0, .ref h0), (1, .int (nI a)), (2, .int (nI k)), (3, .int (nI y)), (4, .int (nI (cN (HQ b a k y) r))), (5, .int (nI r))]) hx hb dX1_having_68 hl (by decide) rfl (fun ls hl => ?_)
              refine lv_iload hx hb dX1_having_70 (lv_at hl 0 rfl) ?_
              refine W.jn2 (g := F0 mM 84 ls [.int (nI (cN (HQ b a k y) r + bN (HQ b a k y r)))]) (fun J => ?_) ?_
              · refine hn_if_ne (tgt := 82) hx hb dX1_having_72 (by decide) (Nat.lt_of_le_of_lt (Nat.mod_le _ _) (Nat.lt_trans (xr_lt (Nat.lt_of_le_of_lt (Nat.div_le_self _ _) (hbd _)) hy) (by decide))) (fun c72 => ?_) (fun c72 => ?_)
                · refine lv_iload hx hb dX1_having_82 (lv_at hl 5 rfl) ?_
                  have ej : (cN (HQ b a k y) r + bN (HQ b a k y r)) = (cN (HQ b a k y) r) := by rw [show HQ b a k y r = false from decide_eq_false (fun z => c72 (HQ_x.mpr z))]; rfl
                  rw [ej] at J
                  exact J
                · refine lv_iload hx hb dX1_having_75 (lv_at hl 5 rfl) ?_
                  refine lv_iconst (v := nI 1) hx hb dX1_having_77 (by decide) ?_
                  refine hn_add hx hb dX1_having_78 ?_
                  refine lv_goto (tgt := 84) hx hb dX1_having_79 (by decide) ?_
                  have ej : (cN (HQ b a k y) r + bN (HQ b a k y r)) = ((cN (HQ b a k y) r) + 1) := by rw [show HQ b a k y r = true from decide_eq_true (HQ_x.mp c72)]; rfl
                  rw [ej] at J
                  exact J
              refine lv_istore (lv' := [(4, .int (nI (cN (HQ b a k y) r + bN (HQ b a k y r)))), (6, .int (nI ((((b r) / 2 ^ a) ^^^ y) % 2 ^ k))), (0, .ref h0), (1, .int (nI a)), (2, .int (nI k)), (3, .int (nI y)), (5, .int (nI r))]) hx hb dX1_having_84 hl (by decide) rfl (fun ls hl => ?_)
              refine lv_iinc (v := nI (r + 1)) (lv' := [(5, .int (nI (r + 1))), (4, .int (nI (cN (HQ b a k y) r + bN (HQ b a k y r)))), (6, .int (nI ((((b r) / 2 ^ a) ^^^ y) % 2 ^ k))), (0, .ref h0), (1, .int (nI a)), (2, .int (nI k)), (3, .int (nI y))]) hx hb dX1_having_86 hl (k := 6) rfl (nI_1 _) (by decide) rfl (fun ls hl => ?_)
              refine lv_goto (tgt := 42) hx hb dX1_having_89 (by decide) ?_
              have ev4 : (cN (HQ b a k y) (r + 1)) = (cN (HQ b a k y) r + bN (HQ b a k y r)) := by rfl
              have ev5 : ((r + 1)) = (r + 1) := by rfl
              have hl : lv_has ls 7 [(0, .ref h0), (1, .int (nI a)), (2, .int (nI k)), (3, .int (nI y)), (4, .int (nI (cN (HQ b a k y) (r + 1)))), (5, .int (nI ((r + 1))))] := by rw [ev4, ev5]; exact lv_sub hl [3, 4, 5, 6, 1, 0] rfl
              exact ih42 trivial ls hl
          · refine lv_iconst (v := -1) hx hb dX1_having_34 (by decide) ?_
            have er : (-1) = S_hav cnt b p0 p1 p2 := by exact (if_neg (fun z => by rw [c31] at z; exact absurd z.2.2.2 (by decide))).symm
            exact W.iret (v := (-1)) hx hb hret (fun t ht hW => ⟨(-1), rfl, er, ht⟩) (fun _ h => by cases h) dX1_having_35

set_option maxHeartbeats 4000000 in
set_option maxRecDepth 100000 in
theorem metX1_fit {l : Launch} {dC : Nat → ClassId} {dI : Nat → Nat → Nat} {h0 k1 : Nat} {d0 : ClassId} {cnt : Nat} {b : Nat → Nat} (p0 p1 : Int32) (h8 : cnt ≤ 8) (hbd : ∀ k, b k < 4096) : Met l yX1_fit (ws_ yX1_fit cX1_fit 6 (some .int)) (rmk 1) (rdP (dC, dI) [(d0, .int)] (MW h0 k1 d0 cnt b) [.ref h0, .int p0, .int p1]) (vp_Si (fun v => v = S_fit cnt b p0 p1)) 0 0 (fun _ => False) := by
  refine Met.ofW (cc := cX1_fit) (maxL := 6) (ret := (some .int)) (by decide) rfl ?_
  intro pP eE sS mM args below meth cC s₁ B hml hv
  obtain ⟨rfl, hP, hK⟩ := hv
  have hx := B.exec
  have hb := B.bytes
  have hret := B.returns
  have hts := atoms_spec (ws := ws_ yX1_fit cX1_fit 6 (some .int)) B.pre
  have hts : ∀ w ∈ lw_all, w.before _ sS = true := fun w h => hts w (List.mem_cons_of_mem _ h)
  have hown : sS.vm.findClass RX1 = some mM.cls := findClass_of_methodNamed B.named
  have hlocks := B.notSynchronized
  have hl := lv_entry ([.ref h0, .int p0, .int p1]) (n := 6) (Nat.le_of_ble_eq_true rfl)
  rw [lg_entry_eq]
  generalize (lg_sl ([.ref h0, .int p0, .int p1]) ++ List.replicate (6 - (lg_sl ([.ref h0, .int p0, .int p1])).length) Slot.unset).toArray = ls at hl ⊢
  have hl : lv_has ls 6 [(0, .ref h0), (1, .int p0), (2, .int p1)] := hl
  refine lv_aload_n hx hb dX1_fit_0 rfl (lv_at hl 0 rfl) ?_
  refine lv_iload_n hx hb dX1_fit_1 rfl (lv_at hl 1 rfl) ?_
  refine vp_callSi (W.runV (As := [.int p0]) (rest := []) ⟨hx, hb, hml, hown, hts⟩ (metX1_isColumn p0) (cwV 1 hts (lw_V q203 q205 qs15 q26 q206) rfl rfl rfl (by decide +kernel) ⟨Nat.le_of_ble_eq_true rfl, Nat.le_of_ble_eq_true rfl⟩) (rd_preX1 hK hP) rfl rfl hl.1 rfl (lv_room (Nat.le_of_ble_eq_true rfl)) dX1_fit_2 ⟨Nat.le_of_ble_eq_true rfl, Nat.le_of_ble_eq_true rfl⟩) (fun v hv => ?_)
  subst hv
  refine hn_ifB_eq (tgt := 16) hx hb dX1_fit_5 (by decide) (fun c5 => ?_) (fun c5 => ?_)
  · refine lv_iconst (v := -1) hx hb dX1_fit_16 (by decide) ?_
    have er : (-1) = S_fit cnt b p0 p1 := by exact (if_neg (fun z => by rw [c5] at z; exact absurd z.1 (by decide))).symm
    exact W.iret (v := (-1)) hx hb hret (fun t ht hW => ⟨(-1), rfl, er, ht⟩) (fun _ h => by cases h) dX1_fit_17
  · refine lv_aload_n hx hb dX1_fit_8 rfl (lv_at hl 0 rfl) ?_
    refine lv_iload_n hx hb dX1_fit_9 rfl (lv_at hl 2 rfl) ?_
    refine vp_callSi (W.runV (As := [.int p1]) (rest := []) ⟨hx, hb, hml, hown, hts⟩ (metX1_isBits p1) (cwV 1 hts (lw_V q179 q181 qs13 q26 q182) rfl rfl rfl (by decide +kernel) ⟨Nat.le_of_ble_eq_true rfl, Nat.le_of_ble_eq_true rfl⟩) (rd_preX1 hK hP) rfl rfl hl.1 rfl (lv_room (Nat.le_of_ble_eq_true rfl)) dX1_fit_10 ⟨Nat.le_of_ble_eq_true rfl, Nat.le_of_ble_eq_true rfl⟩) (fun v hv => ?_)
    subst hv
    refine hn_ifB_ne (tgt := 18) hx hb dX1_fit_13 (by decide) (fun c13 => ?_) (fun c13 => ?_)
    · obtain ⟨c, hc, rfl⟩ := inCol_of c5
      obtain ⟨y, hy, rfl⟩ := inBits_of c13
      refine lv_iconst (v := nI 0) hx hb dX1_fit_18 (by decide) ?_
      refine lv_istore_n (lv' := [(3, .int (nI 0)), (0, .ref h0), (1, .int (nI c)), (2, .int (nI y))]) hx hb dX1_fit_19 rfl hl (by decide) rfl (fun ls hl => ?_)
      refine lv_iconst (v := nI 0) hx hb dX1_fit_20 (by decide) ?_
      refine lv_istore (lv' := [(4, .int (nI 0)), (3, .int (nI 0)), (0, .ref h0), (1, .int (nI c)), (2, .int (nI y))]) hx hb dX1_fit_21 hl (by decide) rfl (fun ls hl => ?_)
      have hl : lv_has ls 6 [(0, .ref h0), (1, .int (nI c)), (2, .int (nI y)), (3, .int (nI (mx (fun r => c - AFv (b r) y c) 0))), (4, .int (nI 0))] := lv_sub hl [2, 3, 4, 1, 0] rfl
      refine W.up 6 23 (fun r => [(0, .ref h0), (1, .int (nI c)), (2, .int (nI y)), (3, .int (nI (mx (fun r => c - AFv (b r) y c) r))), (4, .int (nI r))]) (fun r => True) cnt ?_ ?_ 0 (by omega) trivial hl
      · intro hk ls hl
        have hl : lv_has ls 6 [(0, .ref h0), (1, .int (nI c)), (2, .int (nI y)), (3, .int (nI (mx (fun r => c - AFv (b r) y c) cnt))), (4, .int (nI cnt))] := hl
        refine lv_iload hx hb dX1_fit_23 (lv_at hl 4 rfl) ?_
        refine lv_aload_n hx hb dX1_fit_25 rfl (lv_at hl 0 rfl) ?_
        refine va_get (D := (dC, dI)) (ci := 1) (v := .int (nI cnt)) (C := RX1) (T := TX1) (N := 2) hx hb hts in_X1 hown hK hP 0 rfl rfl 1 (by decide) (hts _ q169) (fun _ h9 => h9) rfl dX1_fit_26 ?_
        refine hn_icmp_ge (tgt := 87) hx hb dX1_fit_29 (by decide) (by omega) (by omega) (fun c29 => ?_) (fun c29 => absurd c29 (by omega))
        refine lv_iload_n hx hb dX1_fit_87 rfl (lv_at hl 3 rfl) ?_
        have er : nI (mx (fun r => c - AFv (b r) y c) cnt) = S_fit cnt b (nI c) (nI y) := by exact (S_fit_ok hc hy).symm
        exact W.iret (v := nI (mx (fun r => c - AFv (b r) y c) cnt)) hx hb hret (fun t ht hW => ⟨nI (mx (fun r => c - AFv (b r) y c) cnt), rfl, er, ht⟩) (fun _ h => by cases h) dX1_fit_88
      · intro r hir hk ih23 ls hl
        have hl : lv_has ls 6 [(0, .ref h0), (1, .int (nI c)), (2, .int (nI y)), (3, .int (nI (mx (fun r => c - AFv (b r) y c) r))), (4, .int (nI r))] := hl
        refine lv_iload hx hb dX1_fit_23 (lv_at hl 4 rfl) ?_
        refine lv_aload_n hx hb dX1_fit_25 rfl (lv_at hl 0 rfl) ?_
        refine va_get (D := (dC, dI)) (ci := 1) (v := .int (nI cnt)) (C := RX1) (T := TX1) (N := 2) hx hb hts in_X1 hown hK hP 0 rfl rfl 1 (by decide) (hts _ q169) (fun _ h9 => h9) rfl dX1_fit_26 ?_
        refine hn_icmp_ge (tgt := 87) hx hb dX1_fit_29 (by decide) (by omega) (by omega) (fun c29 => absurd c29 (by omega)) (fun c29 => ?_)
        refine lv_iconst (v := nI 0) hx hb dX1_fit_32 (by decide) ?_
        refine lv_istore (lv' := [(5, .int (nI 0)), (0, .ref h0), (1, .int (nI c)), (2, .int (nI y)), (3, .int (nI (mx (fun r => c - AFv (b r) y c) r))), (4, .int (nI r))]) hx hb dX1_fit_33 hl (by decide) rfl (fun ls hl => ?_)
        have hl : lv_has ls 6 [(0, .ref h0), (1, .int (nI c)), (2, .int (nI y)), (3, .int (nI (mx (fun r => c - AFv (b r) y c) r))), (4, .int (nI r)), (5, .int (nI 0))] := lv_sub hl [1, 2, 3, 4, 5, 0] rfl
        refine W.up 6 35 (fun t => [(0, .ref h0), (1, .int (nI c)), (2, .int (nI y)), (3, .int (nI (mx (fun r => c - AFv (b r) y c) r))), (4, .int (nI r)), (5, .int (nI t))]) (fun t => AFv (b r) y c = AFv (b r) y (c - t)) c ?_ ?_ 0 (by omega) rfl hl
        · intro hk ls hl
          have hl : lv_has ls 6 [(0, .ref h0), (1, .int (nI c)), (2, .int (nI y)), (3, .int (nI (mx (fun r => c - AFv (b r) y c) r))), (4, .int (nI r)), (5, .int (nI c))] := hl
          have hk : AFv (b r) y c = AFv (b r) y (c - c) := hk
          refine lv_iload hx hb dX1_fit_35 (lv_at hl 5 rfl) ?_
          refine lv_iload_n hx hb dX1_fit_37 rfl (lv_at hl 1 rfl) ?_
          refine hn_icmp_ge (tgt := 68) hx hb dX1_fit_38 (by decide) (by omega) (by omega) (fun c38 => ?_) (fun c38 => absurd c38 (by omega))
          have e5 : c = c - AFv (b r) y c := by rw [hk, Nat.sub_self]; rfl
          have hl : lv_has ls 6 [(0, .ref h0), (1, .int (nI c)), (2, .int (nI y)), (3, .int (nI (mx (fun r => c - AFv (b r) y c) r))), (4, .int (nI r)), (5, .int (nI (c - AFv (b r) y c)))] := by rw [← e5]; exact hl
          refine lv_iload hx hb dX1_fit_68 (lv_at hl 5 rfl) ?_
          refine lv_iload_n hx hb dX1_fit_70 rfl (lv_at hl 3 rfl) ?_
          refine W.jn2 (g := F0 mM 80 ls [.int (nI (if mx (fun r => c - AFv (b r) y c) r < c - AFv (b r) y c then c - AFv (b r) y c else mx (fun r => c - AFv (b r) y c) r))]) (fun J => ?_) ?_
          · refine hn_icmp_le (tgt := 79) hx hb dX1_fit_71 (by decide) (by omega) (Nat.lt_of_le_of_lt (mx_K (B := 12) (fun i hi => by omega)) (by decide)) (fun c71 => ?_) (fun c71 => ?_)
            · refine lv_iload_n hx hb dX1_fit_79 rfl (lv_at hl 3 rfl) ?_
              have ej : (if mx (fun r => c - AFv (b r) y c) r < c - AFv (b r) y c then c - AFv (b r) y c else mx (fun r => c - AFv (b r) y c) r) = (mx (fun r => c - AFv (b r) y c) r) := by first | exact if_pos c71 | exact if_neg (Nat.not_lt.mpr c71)
              rw [ej] at J
              exact J
            · refine lv_iload hx hb dX1_fit_74 (lv_at hl 5 rfl) ?_
              refine lv_goto (tgt := 80) hx hb dX1_fit_76 (by decide) ?_
              have ej : (if mx (fun r => c - AFv (b r) y c) r < c - AFv (b r) y c then c - AFv (b r) y c else mx (fun r => c - AFv (b r) y c) r) = (c - AFv (b r) y c) := by first | exact if_pos c71 | exact if_neg (Nat.not_lt.mpr c71)
              rw [ej] at J
              exact J
          refine lv_istore_n (lv' := [(3, .int (nI (if mx (fun r => c - AFv (b r) y c) r < c - AFv (b r) y c then c - AFv (b r) y c else mx (fun r => c - AFv (b r) y c) r))), (0, .ref h0), (1, .int (nI c)), (2, .int (nI y)), (4, .int (nI r)), (5, .int (nI (c - AFv (b r) y c)))]) hx hb dX1_fit_80 rfl hl (by decide) rfl (fun ls hl => ?_)
          refine lv_iinc (v := nI (r + 1)) (lv' := [(4, .int (nI (r + 1))), (3, .int (nI (if mx (fun r => c - AFv (b r) y c) r < c - AFv (b r) y c then c - AFv (b r) y c else mx (fun r => c - AFv (b r) y c) r))), (0, .ref h0), (1, .int (nI c)), (2, .int (nI y)), (5, .int (nI (c - AFv (b r) y c)))]) hx hb dX1_fit_81 hl (k := 4) rfl (nI_1 _) (by decide) rfl (fun ls hl => ?_)
          refine lv_goto (tgt := 23) hx hb dX1_fit_84 (by decide) ?_
          have ev3 : (mx (fun r => c - AFv (b r) y c) (r + 1)) = (if mx (fun r => c - AFv (b r) y c) r < c - AFv (b r) y c then c - AFv (b r) y c else mx (fun r => c - AFv (b r) y c) r) := by rfl
          have ev4 : ((r + 1)) = (r + 1) := by rfl
          have hl : lv_has ls 6 [(0, .ref h0), (1, .int (nI c)), (2, .int (nI y)), (3, .int (nI (mx (fun r => c - AFv (b r) y c) (r + 1)))), (4, .int (nI ((r + 1))))] := by rw [ev3, ev4]; exact lv_sub hl [2, 3, 4, 1, 0] rfl
          exact ih23 trivial ls hl
        · intro t hit hk ih35 ls hl
          have hl : lv_has ls 6 [(0, .ref h0), (1, .int (nI c)), (2, .int (nI y)), (3, .int (nI (mx (fun r => c - AFv (b r) y c) r))), (4, .int (nI r)), (5, .int (nI t))] := hl
          have hk : AFv (b r) y c = AFv (b r) y (c - t) := hk
          have hk0 := hk
          refine lv_iload hx hb dX1_fit_35 (lv_at hl 5 rfl) ?_
          refine lv_iload_n hx hb dX1_fit_37 rfl (lv_at hl 1 rfl) ?_
          refine hn_icmp_ge (tgt := 68) hx hb dX1_fit_38 (by decide) (by omega) (by omega) (fun c38 => absurd c38 (by omega)) (fun c38 => ?_)
          refine lv_aload_n hx hb dX1_fit_41 rfl (lv_at hl 0 rfl) ?_
          refine va_get (D := (dC, dI)) (ci := 1) (v := .ref k1) (C := RX1) (T := TX1) (N := 2) hx hb hts in_X1 hown hK hP 0 rfl rfl 0 (by decide) (hts _ q168) (fun _ h9 => h9) rfl dX1_fit_42 ?_
          refine lv_iload hx hb dX1_fit_45 (lv_at hl 4 rfl) ?_
          refine hn_ald hx hb hK hP 1 0 rfl rfl (by omega) (by decide) dX1_fit_47 ?_
          refine lv_iload_n hx hb dX1_fit_48 rfl (lv_at hl 2 rfl) ?_
          refine hn_xor hx hb dX1_fit_49 ?_
          refine lv_iload_n hx hb dX1_fit_50 rfl (lv_at hl 1 rfl) ?_
          refine lv_iconst (v := nI 1) hx hb dX1_fit_51 (by decide) ?_
          refine hn_sub hx hb dX1_fit_52 (by omega) ?_
          refine lv_iload hx hb dX1_fit_53 (lv_at hl 5 rfl) ?_
          refine hn_sub hx hb dX1_fit_55 (by omega) ?_
          refine hn_shr hx hb dX1_fit_56 (Nat.lt_trans (xr_lt (hbd _) hy) (by decide)) (by omega) ?_
          refine lv_iconst (v := nI 1) hx hb dX1_fit_57 (by decide) ?_
          refine hn_and1 hx hb dX1_fit_58 (Nat.lt_of_le_of_lt (Nat.div_le_self _ _) (Nat.lt_trans (xr_lt (hbd _) hy) (by decide))) ?_
          refine hn_top (y := nI (bitN (b r ^^^ y) (c - 1 - t))) rfl ?_
          refine hn_if_ne (tgt := 68) hx hb dX1_fit_59 (by decide) (Nat.lt_trans (bitN_lt _ _) (by decide)) (fun c59 => ?_) (fun c59 => ?_)
          · have e5 : t = c - AFv (b r) y c := by rw [hk0, show c - t = (c - 1 - t) + 1 by omega, AFv_ne (fun z => c59 ((bitN_xor _ _ _).mpr z))]; omega
            have hl : lv_has ls 6 [(0, .ref h0), (1, .int (nI c)), (2, .int (nI y)), (3, .int (nI (mx (fun r => c - AFv (b r) y c) r))), (4, .int (nI r)), (5, .int (nI (c - AFv (b r) y c)))] := by rw [← e5]; exact hl
            refine lv_iload hx hb dX1_fit_68 (lv_at hl 5 rfl) ?_
            refine lv_iload_n hx hb dX1_fit_70 rfl (lv_at hl 3 rfl) ?_
            refine W.jn2 (g := F0 mM 80 ls [.int (nI (if mx (fun r => c - AFv (b r) y c) r < c - AFv (b r) y c then c - AFv (b r) y c else mx (fun r => c - AFv (b r) y c) r))]) (fun J => ?_) ?_
            · refine hn_icmp_le (tgt := 79) hx hb dX1_fit_71 (by decide) (by omega) (Nat.lt_of_le_of_lt (mx_K (B := 12) (fun i hi => by omega)) (by decide)) (fun c71 => ?_) (fun c71 => ?_)
              · refine lv_iload_n hx hb dX1_fit_79 rfl (lv_at hl 3 rfl) ?_
                have ej : (if mx (fun r => c - AFv (b r) y c) r < c - AFv (b r) y c then c - AFv (b r) y c else mx (fun r => c - AFv (b r) y c) r) = (mx (fun r => c - AFv (b r) y c) r) := by first | exact if_pos c71 | exact if_neg (Nat.not_lt.mpr c71)
                rw [ej] at J
                exact J
              · refine lv_iload hx hb dX1_fit_74 (lv_at hl 5 rfl) ?_
                refine lv_goto (tgt := 80) hx hb dX1_fit_76 (by decide) ?_
                have ej : (if mx (fun r => c - AFv (b r) y c) r < c - AFv (b r) y c then c - AFv (b r) y c else mx (fun r => c - AFv (b r) y c) r) = (c - AFv (b r) y c) := by first | exact if_pos c71 | exact if_neg (Nat.not_lt.mpr c71)
                rw [ej] at J
                exact J
            refine lv_istore_n (lv' := [(3, .int (nI (if mx (fun r => c - AFv (b r) y c) r < c - AFv (b r) y c then c - AFv (b r) y c else mx (fun r => c - AFv (b r) y c) r))), (0, .ref h0), (1, .int (nI c)), (2, .int (nI y)), (4, .int (nI r)), (5, .int (nI (c - AFv (b r) y c)))]) hx hb dX1_fit_80 rfl hl (by decide) rfl (fun ls hl => ?_)
            refine lv_iinc (v := nI (r + 1)) (lv' := [(4, .int (nI (r + 1))), (3, .int (nI (if mx (fun r => c - AFv (b r) y c) r < c - AFv (b r) y c then c - AFv (b r) y c else mx (fun r => c - AFv (b r) y c) r))), (0, .ref h0), (1, .int (nI c)), (2, .int (nI y)), (5, .int (nI (c - AFv (b r) y c)))]) hx hb dX1_fit_81 hl (k := 4) rfl (nI_1 _) (by decide) rfl (fun ls hl => ?_)
            refine lv_goto (tgt := 23) hx hb dX1_fit_84 (by decide) ?_
            have ev3 : (mx (fun r => c - AFv (b r) y c) (r + 1)) = (if mx (fun r => c - AFv (b r) y c) r < c - AFv (b r) y c then c - AFv (b r) y c else mx (fun r => c - AFv (b r) y c) r) := by rfl
            have ev4 : ((r + 1)) = (r + 1) := by rfl
            have hl : lv_has ls 6 [(0, .ref h0), (1, .int (nI c)), (2, .int (nI y)), (3, .int (nI (mx (fun r => c - AFv (b r) y c) (r + 1)))), (4, .int (nI ((r + 1))))] := by rw [ev3, ev4]; exact lv_sub hl [2, 3, 4, 1, 0] rfl
            exact ih23 trivial ls hl
          · refine lv_iinc (v := nI (t + 1)) (lv' := [(5, .int (nI (t + 1))), (0, .ref h0), (1, .int (nI c)), (2, .int (nI y)), (3, .int (nI (mx (fun r => c - AFv (b r) y c) r))), (4, .int (nI r))]) hx hb dX1_fit_62 hl (k := 5) rfl (nI_1 _) (by decide) rfl (fun ls hl => ?_)
            refine lv_goto (tgt := 35) hx hb dX1_fit_65 (by decide) ?_
            have ev5 : ((t + 1)) = (t + 1) := by first | rfl | omega
            have hl : lv_has ls 6 [(0, .ref h0), (1, .int (nI c)), (2, .int (nI y)), (3, .int (nI (mx (fun r => c - AFv (b r) y c) r))), (4, .int (nI r)), (5, .int (nI ((t + 1))))] := by rw [ev5]; exact lv_sub hl [1, 2, 3, 4, 5, 0] rfl
            exact ih35 (by rw [hk0, show c - t = (c - 1 - t) + 1 by omega, AFv_eq ((bitN_xor _ _ _).mp c59), show c - 1 - t = c - (t + 1) by omega]) ls hl
    · refine lv_iconst (v := -1) hx hb dX1_fit_16 (by decide) ?_
      have er : (-1) = S_fit cnt b p0 p1 := by exact (if_neg (fun z => by rw [c13] at z; exact absurd z.2 (by decide))).symm
      exact W.iret (v := (-1)) hx hb hret (fun t ht hW => ⟨(-1), rfl, er, ht⟩) (fun _ h => by cases h) dX1_fit_17
end
section
/-! METHODS THAT WRITE: their start, the worlds behind them, what the three changing calls do -/
def wrP (D : va_G) (tys : List (ClassId × FieldType)) (ws : va_W) (sz : Nat) (av : List Value) : Array Value → State → Prop := va_Pc av (fun U => U.heap.size = sz ∧ va_P D vwCl ws U.heap ∧ va_K D vwCl tys U ∧ va_D (fun _ => True) ws)
theorem wr_blind {D : va_G} {tys : List (ClassId × FieldType)} {ws : va_W} {sz : Nat} {av : List Value} : FrameBlind (wrP D tys ws sz av) := by
  intro a U g mk q
  obtain ⟨q0, q1, qP, qK, qD⟩ := q
  exact ⟨q0, q1, qP, va_K.moved (u := U) (U := U.calling g mk a) (Vm.Alike.refl U.vm) qK, qD⟩
theorem wr_preX0 {s : State} {H : Heap} {D : va_G} {tys : List (ClassId × FieldType)} {a : Nat} {fs : List Value} {ws : va_W} {As : List Value} {A : Nat → Prop} (hK : va_K D vwCl tys s) (hP : va_P D vwCl ((a, .inr (0, fs)) :: ws) H) (hD : va_D A ((a, .inr (0, fs)) :: ws)) : PreV s H RX0 a (wrP D tys ((a, .inr (0, fs)) :: ws) H.size (.ref a :: As)) As :=
  ⟨wr_blind, va_recv hK hP (ci := 0) (q0 := 0) (q := (RX0, TX0, 7)) rfl rfl, fun U hU hW => ⟨rfl, by rw [hU], by rw [hU]; exact hP, va_K.moved hW.alike hK, hD.weaken (fun _ _ _ _ => trivial)⟩⟩
theorem wr_preX1 {s : State} {H : Heap} {D : va_G} {tys : List (ClassId × FieldType)} {a : Nat} {fs : List Value} {ws : va_W} {As : List Value} {A : Nat → Prop} (hK : va_K D vwCl tys s) (hP : va_P D vwCl ((a, .inr (1, fs)) :: ws) H) (hD : va_D A ((a, .inr (1, fs)) :: ws)) : PreV s H RX1 a (wrP D tys ((a, .inr (1, fs)) :: ws) H.size (.ref a :: As)) As :=
  ⟨wr_blind, va_recv hK hP (ci := 1) (q0 := 0) (q := (RX1, TX1, 2)) rfl rfl, fun U hU hW => ⟨rfl, by rw [hU], by rw [hU]; exact hP, va_K.moved hW.alike hK, hD.weaken (fun _ _ _ _ => trivial)⟩⟩
theorem wr_preS {s : State} {H : Heap} {D : va_G} {tys : List (ClassId × FieldType)} {ws : va_W} {As : List Value} {A : Nat → Prop} (hK : va_K D vwCl tys s) (hP : va_P D vwCl ws H) (hD : va_D A ws) : PreS s H (wrP D tys ws H.size As) As :=
  ⟨wr_blind, fun U hU hW => ⟨rfl, by rw [hU], by rw [hU]; exact hP, va_K.moved hW.alike hK, hD.weaken (fun _ _ _ _ => trivial)⟩⟩
/-- the tables are built, or not -/
def okB (cnt bu : Nat) (b o g : Nat → Nat) : Prop := bu = 0 ∨ (bu = 1 ∧ Bt cnt b o g)
def XB (D : va_G) (h0 k1 k2 k3 k4 k5 : Nat) (d0 : ClassId) (A : Nat → Prop) (cnt : Nat) (b : Nat → Nat) (t : State) : Prop :=
  ∃ (bu : Nat) (o g n1 n2 : Nat → Nat), okB cnt bu b o g ∧ va_P D vwCl (XW h0 k1 k2 k3 k4 k5 d0 cnt bu b o g n1 n2) t.heap ∧ va_K D vwCl [(d0, .int)] t ∧ va_D A (XW h0 k1 k2 k3 k4 k5 d0 cnt bu b o g n1 n2)
def MB (D : va_G) (h0 k1 : Nat) (d0 : ClassId) (A : Nat → Prop) (cnt : Nat) (b : Nat → Nat) (t : State) : Prop :=
  va_P D vwCl (MW h0 k1 d0 cnt b) t.heap ∧ va_K D vwCl [(d0, .int)] t ∧ va_D A (MW h0 k1 d0 cnt b)
theorem uN_bd {b : Nat → Nat} {i x : Nat} (h : ∀ k, b k < 4096) (hx : x < 4096) : ∀ k, uN b i x k < 4096 := by
  intro k
  unfold uN
  split
  · exact hx
  · exact h k
theorem tp_lt {c : Nat} (h : c ≤ 11) : 2 ^ c < 4096 := Nat.lt_of_le_of_lt (Nat.pow_le_pow_right (by decide) h) (by decide)
def T_add (n : Nat) (b : Nat → Nat) (x : Int32) : Int32 × Nat × (Nat → Nat) := if inBits x = true then (if n = 8 then (-2, n, b) else (nI n, n + 1, uN b n x.toInt.toNat)) else (-1, n, b)
def T_rem (n : Nat) (b : Nat → Nat) : Int32 × Nat × (Nat → Nat) := if n = 0 then (-4, n, b) else (nI (b (n - 1)), n - 1, b)
def T_turn (n : Nat) (b : Nat → Nat) (x y : Int32) : Int32 × Nat × (Nat → Nat) := if inRow n x = true ∧ 0 ≤ y.toInt ∧ y.toInt ≤ 11 then (nI (bitN (b x.toInt.toNat ^^^ 2 ^ y.toInt.toNat) y.toInt.toNat), n, uN b x.toInt.toNat (b x.toInt.toNat ^^^ 2 ^ y.toInt.toNat)) else (-4, n, b)
theorem T_add_bad {n : Nat} {b : Nat → Nat} {x : Int32} (h : inBits x = false) : T_add n b x = (-1, n, b) := if_neg (by rw [h]; decide)
theorem T_add_full {n : Nat} {b : Nat → Nat} {y : Nat} (hy : y < 4096) (h : n = 8) : T_add n b (nI y) = (-2, n, b) := by
  unfold T_add
  rw [if_pos (inBits_n hy), if_pos h]
theorem T_add_ok {n : Nat} {b : Nat → Nat} {y : Nat} (hy : y < 4096) (h : n ≠ 8) : T_add n b (nI y) = (nI n, n + 1, uN b n y) := by
  unfold T_add
  rw [if_pos (inBits_n hy), if_neg h, hz_t (by omega)]
  rfl
theorem T_rem_0 {n : Nat} {b : Nat → Nat} (h : n = 0) : T_rem n b = (-4, n, b) := if_pos h
theorem T_rem_ok {n : Nat} {b : Nat → Nat} (h : n ≠ 0) : T_rem n b = (nI (b (n - 1)), n - 1, b) := if_neg h
theorem T_turn_bad {n : Nat} {b : Nat → Nat} {x y : Int32} (h : ¬ (inRow n x = true ∧ 0 ≤ y.toInt ∧ y.toInt ≤ 11)) : T_turn n b x y = (-4, n, b) := if_neg h
theorem T_turn_ok {n : Nat} {b : Nat → Nat} {r c : Nat} (h8 : n ≤ 8) (hr : r < n) (hc : c ≤ 11) : T_turn n b (nI r) (nI c) = (nI (bitN (b r ^^^ 2 ^ c) c), n, uN b r (b r ^^^ 2 ^ c)) := by
  unfold T_turn
  rw [if_pos ⟨inRow_n hr (by omega), by rw [hz_t (by omega)]; omega, by rw [hz_t (by omega)]; omega⟩, hz_t (by omega), hz_t (by omega)]
  rfl
theorem T_add_k {n : Nat} {b : Nat → Nat} {x : Int32} (h8 : n ≤ 8) (hb : ∀ k, b k < 4096) : (T_add n b x).2.1 ≤ 8 ∧ ∀ k, (T_add n b x).2.2 k < 4096 := by
  cases h : inBits x
  · rw [T_add_bad h]; exact ⟨h8, hb⟩
  · obtain ⟨y, hy, rfl⟩ := inBits_of h
    by_cases e : n = 8
    · rw [T_add_full hy e]; exact ⟨h8, hb⟩
    · rw [T_add_ok hy e]; exact ⟨by show n + 1 ≤ 8; omega, uN_bd hb hy⟩
theorem T_rem_k {n : Nat} {b : Nat → Nat} (h8 : n ≤ 8) (hb : ∀ k, b k < 4096) : (T_rem n b).2.1 ≤ 8 ∧ ∀ k, (T_rem n b).2.2 k < 4096 := by
  by_cases e : n = 0
  · rw [T_rem_0 e]; exact ⟨h8, hb⟩
  · rw [T_rem_ok e]; exact ⟨by show n - 1 ≤ 8; omega, hb⟩
theorem T_turn_k {n : Nat} {b : Nat → Nat} {x y : Int32} (h8 : n ≤ 8) (hb : ∀ k, b k < 4096) : (T_turn n b x y).2.1 ≤ 8 ∧ ∀ k, (T_turn n b x y).2.2 k < 4096 := by
  by_cases e : inRow n x = true ∧ 0 ≤ y.toInt ∧ y.toInt ≤ 11
  · obtain ⟨r, hr, hr2, rfl⟩ := inRow_of e.1
    obtain ⟨c, hc, rfl, ec⟩ := hz_of e.2.1
    have hc11 : c ≤ 11 := by omega
    rw [T_turn_ok h8 hr hc11]
    exact ⟨h8, uN_bd hb (xr_lt (hb _) (tp_lt hc11))⟩
  · rw [T_turn_bad e]; exact ⟨h8, hb⟩
end
section
set_option maxHeartbeats 4000000 in
set_option maxRecDepth 100000 in
theorem metX0_rows {l : Launch} {dC : Nat → ClassId} {dI : Nat → Nat → Nat} {h0 k1 k2 k3 k4 k5 : Nat} {d0 : ClassId} {cnt bu : Nat} {b o g n1 n2 : Nat → Nat}   : Met l yX0_rows (ws_ yX0_rows cX0_rows 1 (some .int)) (rmk 0) (rdP (dC, dI) [(d0, .int)] (XW h0 k1 k2 k3 k4 k5 d0 cnt bu b o g n1 n2) [.ref h0]) (vp_Si (fun v => v = nI cnt)) 0 0 (fun _ => False) := by
  refine Met.ofW (cc := cX0_rows) (maxL := 1) (ret := (some .int)) (by decide) rfl ?_
  intro pP eE sS mM args below meth cC s₁ B hml hv
  obtain ⟨rfl, hP, hK⟩ := hv
  have hx := B.exec
  have hb := B.bytes
  have hret := B.returns
  have hts := atoms_spec (ws := ws_ yX0_rows cX0_rows 1 (some .int)) B.pre
  have hts : ∀ w ∈ lw_all, w.before _ sS = true := fun w h => hts w (List.mem_cons_of_mem _ h)
  have hown : sS.vm.findClass RX0 = some mM.cls := findClass_of_methodNamed B.named
  have hlocks := B.notSynchronized
  have hl := lv_entry ([.ref h0]) (n := 1) (Nat.le_of_ble_eq_true rfl)
  rw [lg_entry_eq]
  generalize (lg_sl ([.ref h0]) ++ List.replicate (1 - (lg_sl ([.ref h0])).length) Slot.unset).toArray = ls at hl ⊢
  have hl : lv_has ls 1 [(0, .ref h0)] := hl
  refine lv_aload_n hx hb dX0_rows_0 rfl (lv_at hl 0 rfl) ?_
  refine va_get (D := (dC, dI)) (ci := 0) (v := .int (nI cnt)) (C := RX0) (T := TX0) (N := 7) hx hb hts in_X0 hown hK hP 0 rfl rfl 0 (by decide) (hts _ q35) (fun _ h9 => h9) rfl dX0_rows_1 ?_
  exact W.iret (v := nI cnt) hx hb hret (fun t ht hW => ⟨nI cnt, rfl, rfl, ht⟩) (fun _ h => by cases h) dX0_rows_4

set_option maxHeartbeats 4000000 in
set_option maxRecDepth 100000 in
theorem metX0_add {l : Launch} {dC : Nat → ClassId} {dI : Nat → Nat → Nat} {h0 k1 k2 k3 k4 k5 : Nat} {d0 : ClassId} {cnt bu : Nat} {b o g n1 n2 : Nat → Nat} {sz : Nat} (p0 : Int32) (h8 : cnt ≤ 8) (hbd : ∀ k, b k < 4096) (hbt : okB cnt bu b o g) : Met l yX0_add (ws_ yX0_add cX0_add 2 (some .int)) (rmk 0) (wrP (dC, dI) [(d0, .int)] (XW h0 k1 k2 k3 k4 k5 d0 cnt bu b o g n1 n2) sz [.ref h0, .int p0]) (va_Qi (fun r (_ : Unit) => r = (T_add cnt b p0).1) (fun _ t => XB (dC, dI) h0 k1 k2 k3 k4 k5 d0 (va_A (XW h0 k1 k2 k3 k4 k5 d0 cnt bu b o g n1 n2) sz) ((T_add cnt b p0).2.1) ((T_add cnt b p0).2.2) t) (va_A (XW h0 k1 k2 k3 k4 k5 d0 cnt bu b o g n1 n2) sz)) 0 0 (va_A (XW h0 k1 k2 k3 k4 k5 d0 cnt bu b o g n1 n2) sz) := by
  refine Met.ofW (cc := cX0_add) (maxL := 2) (ret := (some .int)) (by decide) rfl ?_
  intro pP eE sS mM args below meth cC s₁ B hml hv
  obtain ⟨rfl, hsz, hP, hK, hD0⟩ := hv
  have hx := B.exec
  have hb := B.bytes
  have hret := B.returns
  have hts := atoms_spec (ws := ws_ yX0_add cX0_add 2 (some .int)) B.pre
  have hts : ∀ w ∈ lw_all, w.before _ sS = true := fun w h => hts w (List.mem_cons_of_mem _ h)
  have hown : sS.vm.findClass RX0 = some mM.cls := findClass_of_methodNamed B.named
  have hlocks := B.notSynchronized
  subst hsz
  have hD := hD0.self (sz := sS.heap.size)
  generalize hAe : va_A (XW h0 k1 k2 k3 k4 k5 d0 cnt bu b o g n1 n2) sS.heap.size = A at hD ⊢
  have hA : ∀ q : Nat, sS.heap.size ≤ q → A q := fun q h => by rw [← hAe]; exact Or.inr h
  clear hAe
  have hS : va_S A sS.heap sS.heap [] := va_S.rf
  have hl := lv_entry ([.ref h0, .int p0]) (n := 2) (Nat.le_of_ble_eq_true rfl)
  rw [lg_entry_eq]
  generalize (lg_sl ([.ref h0, .int p0]) ++ List.replicate (2 - (lg_sl ([.ref h0, .int p0])).length) Slot.unset).toArray = ls at hl ⊢
  have hl : lv_has ls 2 [(0, .ref h0), (1, .int p0)] := hl
  refine lv_iload_n hx hb dX0_add_0 rfl (lv_at hl 1 rfl) ?_
  refine hz_if_lt (tgt := 11) hx hb dX0_add_1 (by decide) (fun c1 => ?_) (fun c1 => ?_)
  · refine lv_iconst (v := -1) hx hb dX0_add_11 (by decide) ?_
    have eT : (T_add cnt b p0) = ((-1), cnt, b) := by exact T_add_bad (decide_eq_false (by omega))
    exact W.iret (v := (-1)) hx hb hret (fun t ht hW => ⟨⟨(-1), (), rfl, by rw [eT], by rw [eT]; exact ⟨bu, o, g, n1, n2, hbt, by rw [ht]; exact hP, va_K.moved hW.alike hK, hD⟩⟩, hS.F ht⟩) hS.2.2 dX0_add_12
  · refine lv_iload_n hx hb dX0_add_4 rfl (lv_at hl 1 rfl) ?_
    refine lv_sipush (v := nI 4095) hx hb dX0_add_5 (by decide) ?_
    refine hz_icmp_le (tgt := 13) hx hb dX0_add_8 (by decide) (fun c8 => ?_) (fun c8 => ?_)
    · rw [hz_t (k := 4095) (by omega)] at c8
      obtain ⟨y, hy31, rfl, ey⟩ := hz_of (x := p0) (by omega)
      have hy : y < 4096 := (by omega)
      clear c1 c8 ey
      refine lv_aload_n hx hb dX0_add_13 rfl (lv_at hl 0 rfl) ?_
      refine va_get (D := (dC, dI)) (ci := 0) (v := .int (nI cnt)) (C := RX0) (T := TX0) (N := 7) hx hb hts in_X0 hown hK hP 0 rfl rfl 0 (by decide) (hts _ q35) (fun _ h9 => h9) rfl dX0_add_14 ?_
      refine lv_bipush (v := nI 8) hx hb dX0_add_17 (by decide) ?_
      refine hn_icmp_ne (tgt := 25) hx hb dX0_add_19 (by decide) (by omega) (by omega) (fun c19 => ?_) (fun c19 => ?_)
      · refine lv_aload_n hx hb dX0_add_25 rfl (lv_at hl 0 rfl) ?_
        refine va_get (D := (dC, dI)) (ci := 0) (v := .ref k1) (C := RX0) (T := TX0) (N := 7) hx hb hts in_X0 hown hK hP 0 rfl rfl 1 (by decide) (hts _ q36) (fun _ h9 => h9) rfl dX0_add_26 ?_
        refine lv_aload_n hx hb dX0_add_29 rfl (lv_at hl 0 rfl) ?_
        refine va_get (D := (dC, dI)) (ci := 0) (v := .int (nI cnt)) (C := RX0) (T := TX0) (N := 7) hx hb hts in_X0 hown hK hP 0 rfl rfl 0 (by decide) (hts _ q35) (fun _ h9 => h9) rfl dX0_add_30 ?_
        refine lv_iload_n hx hb dX0_add_33 rfl (lv_at hl 1 rfl) ?_
        refine hn_ast hx hb hK hP hD hS 1 0 rfl rfl (by omega) (by decide) dX0_add_34 (fun H locs hP hD hS => ?_)
        have hP : va_P (dC, dI) vwCl (XW h0 k1 k2 k3 k4 k5 d0 cnt bu (uN b cnt y) o g n1 n2) H := hP
        have hD : va_D A (XW h0 k1 k2 k3 k4 k5 d0 cnt bu (uN b cnt y) o g n1 n2) := hD
        refine lv_aload_n hx hb dX0_add_35 rfl (lv_at hl 0 rfl) ?_
        refine lv_dup hx hb dX0_add_36 rfl ?_
        refine va_get (D := (dC, dI)) (ci := 0) (v := .int (nI cnt)) (C := RX0) (T := TX0) (N := 7) hx hb hts in_X0 hown hK hP 0 rfl rfl 0 (by decide) (hts _ q35) (fun _ h9 => h9) rfl dX0_add_37 ?_
        refine lv_iconst (v := nI 1) hx hb dX0_add_40 (by decide) ?_
        refine hn_add hx hb dX0_add_41 ?_
        refine va_put (D := (dC, dI)) (ci := 0) (v := .int (nI (cnt + 1))) (ty := .int) (C := RX0) (T := TX0) (N := 7) hx hb hts in_X0 tyX0 tyX0_ok nmX0 hown hK hP hD hS 0 rfl rfl 0 (by decide) (hts _ q35) (fun _ h9 => h9) rfl (by decide +kernel) rfl rfl (Nat.le_of_ble_eq_true rfl) dX0_add_42 (fun H locs hP hD hS => ?_)
        have hP : va_P (dC, dI) vwCl (XW h0 k1 k2 k3 k4 k5 d0 (cnt + 1) bu (uN b cnt y) o g n1 n2) H := hP
        have hD : va_D A (XW h0 k1 k2 k3 k4 k5 d0 (cnt + 1) bu (uN b cnt y) o g n1 n2) := hD
        refine lv_aload_n hx hb dX0_add_45 rfl (lv_at hl 0 rfl) ?_
        refine lv_iconst (v := nI 0) hx hb dX0_add_46 (by decide) ?_
        refine va_put (D := (dC, dI)) (ci := 0) (v := .int (nI 0)) (ty := .boolean) (C := RX0) (T := TX0) (N := 7) hx hb hts in_X0 tyX0 tyX0_ok nmX0 hown hK hP hD hS 0 rfl rfl 2 (by decide) (hts _ q37) (fun _ h9 => h9) rfl (by decide +kernel) rfl rfl (Nat.le_of_ble_eq_true rfl) dX0_add_47 (fun H locs hP hD hS => ?_)
        have hP : va_P (dC, dI) vwCl (XW h0 k1 k2 k3 k4 k5 d0 (cnt + 1) 0 (uN b cnt y) o g n1 n2) H := hP
        have hD : va_D A (XW h0 k1 k2 k3 k4 k5 d0 (cnt + 1) 0 (uN b cnt y) o g n1 n2) := hD
        refine lv_aload_n hx hb dX0_add_50 rfl (lv_at hl 0 rfl) ?_
        refine va_get (D := (dC, dI)) (ci := 0) (v := .int (nI (cnt + 1))) (C := RX0) (T := TX0) (N := 7) hx hb hts in_X0 hown hK hP 0 rfl rfl 0 (by decide) (hts _ q35) (fun _ h9 => h9) rfl dX0_add_51 ?_
        refine lv_iconst (v := nI 1) hx hb dX0_add_54 (by decide) ?_
        refine hn_sub hx hb dX0_add_55 (by omega) ?_
        refine hn_top (y := nI cnt) (congrArg nI (by omega)) ?_
        have eT : (T_add cnt b (nI y)) = (nI cnt, cnt + 1, uN b cnt y) := by exact T_add_ok hy c19
        exact W.iret (v := nI cnt) hx hb hret (fun t ht hW => ⟨⟨nI cnt, (), rfl, by rw [eT], by rw [eT]; exact ⟨0, o, g, n1, n2, Or.inl rfl, by rw [ht]; exact hP, va_K.moved hW.alike hK, hD⟩⟩, hS.F ht⟩) hS.2.2 dX0_add_56
      · refine lv_bipush (v := -2) hx hb dX0_add_22 (by decide) ?_
        have eT : (T_add cnt b (nI y)) = ((-2), cnt, b) := by exact T_add_full hy c19
        exact W.iret (v := (-2)) hx hb hret (fun t ht hW => ⟨⟨(-2), (), rfl, by rw [eT], by rw [eT]; exact ⟨bu, o, g, n1, n2, hbt, by rw [ht]; exact hP, va_K.moved hW.alike hK, hD⟩⟩, hS.F ht⟩) hS.2.2 dX0_add_24
    · rw [hz_t (k := 4095) (by omega)] at c8
      refine lv_iconst (v := -1) hx hb dX0_add_11 (by decide) ?_
      have eT : (T_add cnt b p0) = ((-1), cnt, b) := by exact T_add_bad (decide_eq_false (by omega))
      exact W.iret (v := (-1)) hx hb hret (fun t ht hW => ⟨⟨(-1), (), rfl, by rw [eT], by rw [eT]; exact ⟨bu, o, g, n1, n2, hbt, by rw [ht]; exact hP, va_K.moved hW.alike hK, hD⟩⟩, hS.F ht⟩) hS.2.2 dX0_add_12

set_option maxHeartbeats 4000000 in
set_option maxRecDepth 100000 in
theorem metX0_remove {l : Launch} {dC : Nat → ClassId} {dI : Nat → Nat → Nat} {h0 k1 k2 k3 k4 k5 : Nat} {d0 : ClassId} {cnt bu : Nat} {b o g n1 n2 : Nat → Nat} {sz : Nat}  (h8 : cnt ≤ 8) (hbd : ∀ k, b k < 4096) (hbt : okB cnt bu b o g) : Met l yX0_remove (ws_ yX0_remove cX0_remove 1 (some .int)) (rmk 0) (wrP (dC, dI) [(d0, .int)] (XW h0 k1 k2 k3 k4 k5 d0 cnt bu b o g n1 n2) sz [.ref h0]) (va_Qi (fun r (_ : Unit) => r = (T_rem cnt b).1) (fun _ t => XB (dC, dI) h0 k1 k2 k3 k4 k5 d0 (va_A (XW h0 k1 k2 k3 k4 k5 d0 cnt bu b o g n1 n2) sz) ((T_rem cnt b).2.1) ((T_rem cnt b).2.2) t) (va_A (XW h0 k1 k2 k3 k4 k5 d0 cnt bu b o g n1 n2) sz)) 0 0 (va_A (XW h0 k1 k2 k3 k4 k5 d0 cnt bu b o g n1 n2) sz) := by
  refine Met.ofW (cc := cX0_remove) (maxL := 1) (ret := (some .int)) (by decide) rfl ?_
  intro pP eE sS mM args below meth cC s₁ B hml hv
  obtain ⟨rfl, hsz, hP, hK, hD0⟩ := hv
  have hx := B.exec
  have hb := B.bytes
  have hret := B.returns
  have hts := atoms_spec (ws := ws_ yX0_remove cX0_remove 1 (some .int)) B.pre
  have hts : ∀ w ∈ lw_all, w.before _ sS = true := fun w h => hts w (List.mem_cons_of_mem _ h)
  have hown : sS.vm.findClass RX0 = some mM.cls := findClass_of_methodNamed B.named
  have hlocks := B.notSynchronized
  subst hsz
  have hD := hD0.self (sz := sS.heap.size)
  generalize hAe : va_A (XW h0 k1 k2 k3 k4 k5 d0 cnt bu b o g n1 n2) sS.heap.size = A at hD ⊢
  have hA : ∀ q : Nat, sS.heap.size ≤ q → A q := fun q h => by rw [← hAe]; exact Or.inr h
  clear hAe
  have hS : va_S A sS.heap sS.heap [] := va_S.rf
  have hl := lv_entry ([.ref h0]) (n := 1) (Nat.le_of_ble_eq_true rfl)
  rw [lg_entry_eq]
  generalize (lg_sl ([.ref h0]) ++ List.replicate (1 - (lg_sl ([.ref h0])).length) Slot.unset).toArray = ls at hl ⊢
  have hl : lv_has ls 1 [(0, .ref h0)] := hl
  refine lv_aload_n hx hb dX0_remove_0 rfl (lv_at hl 0 rfl) ?_
  refine va_get (D := (dC, dI)) (ci := 0) (v := .int (nI cnt)) (C := RX0) (T := TX0) (N := 7) hx hb hts in_X0 hown hK hP 0 rfl rfl 0 (by decide) (hts _ q35) (fun _ h9 => h9) rfl dX0_remove_1 ?_
  refine hn_if_ne (tgt := 10) hx hb dX0_remove_4 (by decide) (by omega) (fun c4 => ?_) (fun c4 => ?_)
  · refine lv_aload_n hx hb dX0_remove_10 rfl (lv_at hl 0 rfl) ?_
    refine lv_dup hx hb dX0_remove_11 rfl ?_
    refine va_get (D := (dC, dI)) (ci := 0) (v := .int (nI cnt)) (C := RX0) (T := TX0) (N := 7) hx hb hts in_X0 hown hK hP 0 rfl rfl 0 (by decide) (hts _ q35) (fun _ h9 => h9) rfl dX0_remove_12 ?_
    refine lv_iconst (v := nI 1) hx hb dX0_remove_15 (by decide) ?_
    refine hn_sub hx hb dX0_remove_16 (by omega) ?_
    refine va_put (D := (dC, dI)) (ci := 0) (v := .int (nI (cnt - 1))) (ty := .int) (C := RX0) (T := TX0) (N := 7) hx hb hts in_X0 tyX0 tyX0_ok nmX0 hown hK hP hD hS 0 rfl rfl 0 (by decide) (hts _ q35) (fun _ h9 => h9) rfl (by decide +kernel) rfl rfl (Nat.le_of_ble_eq_true rfl) dX0_remove_17 (fun H locs hP hD hS => ?_)
    have hP : va_P (dC, dI) vwCl (XW h0 k1 k2 k3 k4 k5 d0 (cnt - 1) bu b o g n1 n2) H := hP
    have hD : va_D A (XW h0 k1 k2 k3 k4 k5 d0 (cnt - 1) bu b o g n1 n2) := hD
    refine lv_aload_n hx hb dX0_remove_20 rfl (lv_at hl 0 rfl) ?_
    refine lv_iconst (v := nI 0) hx hb dX0_remove_21 (by decide) ?_
    refine va_put (D := (dC, dI)) (ci := 0) (v := .int (nI 0)) (ty := .boolean) (C := RX0) (T := TX0) (N := 7) hx hb hts in_X0 tyX0 tyX0_ok nmX0 hown hK hP hD hS 0 rfl rfl 2 (by decide) (hts _ q37) (fun _ h9 => h9) rfl (by decide +kernel) rfl rfl (Nat.le_of_ble_eq_true rfl) dX0_remove_22 (fun H locs hP hD hS => ?_)
    have hP : va_P (dC, dI) vwCl (XW h0 k1 k2 k3 k4 k5 d0 (cnt - 1) 0 b o g n1 n2) H := hP
    have hD : va_D A (XW h0 k1 k2 k3 k4 k5 d0 (cnt - 1) 0 b o g n1 n2) := hD
    refine lv_aload_n hx hb dX0_remove_25 rfl (lv_at hl 0 rfl) ?_
    refine va_get (D := (dC, dI)) (ci := 0) (v := .ref k1) (C := RX0) (T := TX0) (N := 7) hx hb hts in_X0 hown hK hP 0 rfl rfl 1 (by decide) (hts _ q36) (fun _ h9 => h9) rfl dX0_remove_26 ?_
    refine lv_aload_n hx hb dX0_remove_29 rfl (lv_at hl 0 rfl) ?_
    refine va_get (D := (dC, dI)) (ci := 0) (v := .int (nI (cnt - 1))) (C := RX0) (T := TX0) (N := 7) hx hb hts in_X0 hown hK hP 0 rfl rfl 0 (by decide) (hts _ q35) (fun _ h9 => h9) rfl dX0_remove_30 ?_
    refine hn_ald hx hb hK hP 1 0 rfl rfl (by omega) (by decide) dX0_remove_33 ?_
    have eT : (T_rem cnt b) = (nI (b (cnt - 1)), cnt - 1, b) := by exact T_rem_ok c4
    exact W.iret (v := nI (b (cnt - 1))) hx hb hret (fun t ht hW => ⟨⟨nI (b (cnt - 1)), (), rfl, by rw [eT], by rw [eT]; exact ⟨0, o, g, n1, n2, Or.inl rfl, by rw [ht]; exact hP, va_K.moved hW.alike hK, hD⟩⟩, hS.F ht⟩) hS.2.2 dX0_remove_34
  · refine lv_bipush (v := -4) hx hb dX0_remove_7 (by decide) ?_
    have eT : (T_rem cnt b) = ((-4), cnt, b) := by exact T_rem_0 c4
    exact W.iret (v := (-4)) hx hb hret (fun t ht hW => ⟨⟨(-4), (), rfl, by rw [eT], by rw [eT]; exact ⟨bu, o, g, n1, n2, hbt, by rw [ht]; exact hP, va_K.moved hW.alike hK, hD⟩⟩, hS.F ht⟩) hS.2.2 dX0_remove_9

set_option maxHeartbeats 4000000 in
set_option maxRecDepth 100000 in
theorem metX0_turn {l : Launch} {dC : Nat → ClassId} {dI : Nat → Nat → Nat} {h0 k1 k2 k3 k4 k5 : Nat} {d0 : ClassId} {cnt bu : Nat} {b o g n1 n2 : Nat → Nat} {sz : Nat} (p0 p1 : Int32) (h8 : cnt ≤ 8) (hbd : ∀ k, b k < 4096) (hbt : okB cnt bu b o g) : Met l yX0_turn (ws_ yX0_turn cX0_turn 3 (some .int)) (rmk 1) (wrP (dC, dI) [(d0, .int)] (XW h0 k1 k2 k3 k4 k5 d0 cnt bu b o g n1 n2) sz [.ref h0, .int p0, .int p1]) (va_Qi (fun r (_ : Unit) => r = (T_turn cnt b p0 p1).1) (fun _ t => XB (dC, dI) h0 k1 k2 k3 k4 k5 d0 (va_A (XW h0 k1 k2 k3 k4 k5 d0 cnt bu b o g n1 n2) sz) ((T_turn cnt b p0 p1).2.1) ((T_turn cnt b p0 p1).2.2) t) (va_A (XW h0 k1 k2 k3 k4 k5 d0 cnt bu b o g n1 n2) sz)) 0 0 (va_A (XW h0 k1 k2 k3 k4 k5 d0 cnt bu b o g n1 n2) sz) := by
  refine Met.ofW (cc := cX0_turn) (maxL := 3) (ret := (some .int)) (by decide) rfl ?_
  intro pP eE sS mM args below meth cC s₁ B hml hv
  obtain ⟨rfl, hsz, hP, hK, hD0⟩ := hv
  have hx := B.exec
  have hb := B.bytes
  have hret := B.returns
  have hts := atoms_spec (ws := ws_ yX0_turn cX0_turn 3 (some .int)) B.pre
  have hts : ∀ w ∈ lw_all, w.before _ sS = true := fun w h => hts w (List.mem_cons_of_mem _ h)
  have hown : sS.vm.findClass RX0 = some mM.cls := findClass_of_methodNamed B.named
  have hlocks := B.notSynchronized
  subst hsz
  have hD := hD0.self (sz := sS.heap.size)
  generalize hAe : va_A (XW h0 k1 k2 k3 k4 k5 d0 cnt bu b o g n1 n2) sS.heap.size = A at hD ⊢
  have hA : ∀ q : Nat, sS.heap.size ≤ q → A q := fun q h => by rw [← hAe]; exact Or.inr h
  clear hAe
  have hS : va_S A sS.heap sS.heap [] := va_S.rf
  have hl := lv_entry ([.ref h0, .int p0, .int p1]) (n := 3) (Nat.le_of_ble_eq_true rfl)
  rw [lg_entry_eq]
  generalize (lg_sl ([.ref h0, .int p0, .int p1]) ++ List.replicate (3 - (lg_sl ([.ref h0, .int p0, .int p1])).length) Slot.unset).toArray = ls at hl ⊢
  have hl : lv_has ls 3 [(0, .ref h0), (1, .int p0), (2, .int p1)] := hl
  refine lv_aload_n hx hb dX0_turn_0 rfl (lv_at hl 0 rfl) ?_
  refine lv_iload_n hx hb dX0_turn_1 rfl (lv_at hl 1 rfl) ?_
  refine vp_callSi (W.runV (As := [.int p0]) (rest := []) ⟨hx, hb, hml, hown, hts⟩ (metX0_noRow p0 h8) (cwV 1 hts (lw_V q70 q72 qs0 q25 q73) rfl rfl rfl (by decide +kernel) ⟨Nat.le_of_ble_eq_true rfl, Nat.le_of_ble_eq_true rfl⟩) (rd_preX0 hK hP) rfl rfl hl.1 rfl (lv_room (Nat.le_of_ble_eq_true rfl)) dX0_turn_2 ⟨Nat.le_of_ble_eq_true rfl, Nat.le_of_ble_eq_true rfl⟩) (fun v hv => ?_)
  subst hv
  refine hn_ifB_ne (tgt := 18) hx hb dX0_turn_5 (by decide) (fun c5 => ?_) (fun c5 => ?_)
  · refine lv_bipush (v := -4) hx hb dX0_turn_18 (by decide) ?_
    have eT : (T_turn cnt b p0 p1) = ((-4), cnt, b) := by exact T_turn_bad (fun z => by rw [z.1] at c5; exact absurd c5 (by decide))
    exact W.iret (v := (-4)) hx hb hret (fun t ht hW => ⟨⟨(-4), (), rfl, by rw [eT], by rw [eT]; exact ⟨bu, o, g, n1, n2, hbt, by rw [ht]; exact hP, va_K.moved hW.alike hK, hD⟩⟩, hS.F ht⟩) hS.2.2 dX0_turn_20
  · refine lv_iload_n hx hb dX0_turn_8 rfl (lv_at hl 2 rfl) ?_
    refine hz_if_lt (tgt := 18) hx hb dX0_turn_9 (by decide) (fun c9 => ?_) (fun c9 => ?_)
    · refine lv_bipush (v := -4) hx hb dX0_turn_18 (by decide) ?_
      have eT : (T_turn cnt b p0 p1) = ((-4), cnt, b) := by exact T_turn_bad (fun z => by omega)
      exact W.iret (v := (-4)) hx hb hret (fun t ht hW => ⟨⟨(-4), (), rfl, by rw [eT], by rw [eT]; exact ⟨bu, o, g, n1, n2, hbt, by rw [ht]; exact hP, va_K.moved hW.alike hK, hD⟩⟩, hS.F ht⟩) hS.2.2 dX0_turn_20
    · refine lv_iload_n hx hb dX0_turn_12 rfl (lv_at hl 2 rfl) ?_
      refine lv_bipush (v := nI 12) hx hb dX0_turn_13 (by decide) ?_
      refine hz_icmp_lt (tgt := 21) hx hb dX0_turn_15 (by decide) (fun c15 => ?_) (fun c15 => ?_)
      · rw [hz_t (k := 12) (by omega)] at c15
        obtain ⟨r, hr, hr31, rfl⟩ := inRow_of (by simpa using c5)
        obtain ⟨c, hc31, rfl, ec⟩ := hz_of (x := p1) (by omega)
        have hc : c ≤ 11 := (by omega)
        clear c9 c15 ec
        refine lv_aload_n hx hb dX0_turn_21 rfl (lv_at hl 0 rfl) ?_
        refine va_get (D := (dC, dI)) (ci := 0) (v := .ref k1) (C := RX0) (T := TX0) (N := 7) hx hb hts in_X0 hown hK hP 0 rfl rfl 1 (by decide) (hts _ q36) (fun _ h9 => h9) rfl dX0_turn_22 ?_
        refine lv_iload_n hx hb dX0_turn_25 rfl (lv_at hl 1 rfl) ?_
        refine lv_aload_n hx hb dX0_turn_26 rfl (lv_at hl 0 rfl) ?_
        refine va_get (D := (dC, dI)) (ci := 0) (v := .ref k1) (C := RX0) (T := TX0) (N := 7) hx hb hts in_X0 hown hK hP 0 rfl rfl 1 (by decide) (hts _ q36) (fun _ h9 => h9) rfl dX0_turn_27 ?_
        refine lv_iload_n hx hb dX0_turn_30 rfl (lv_at hl 1 rfl) ?_
        refine hn_ald hx hb hK hP 1 0 rfl rfl (by omega) (by decide) dX0_turn_31 ?_
        refine lv_iconst (v := nI 1) hx hb dX0_turn_32 (by decide) ?_
        refine lv_iload_n hx hb dX0_turn_33 rfl (lv_at hl 2 rfl) ?_
        refine hn_shl hx hb dX0_turn_34 (by omega) ?_
        refine hn_xor hx hb dX0_turn_35 ?_
        refine hn_ast hx hb hK hP hD hS 1 0 rfl rfl (by omega) (by decide) dX0_turn_36 (fun H locs hP hD hS => ?_)
        have hP : va_P (dC, dI) vwCl (XW h0 k1 k2 k3 k4 k5 d0 cnt bu (uN b r ((b r) ^^^ (2 ^ c))) o g n1 n2) H := hP
        have hD : va_D A (XW h0 k1 k2 k3 k4 k5 d0 cnt bu (uN b r ((b r) ^^^ (2 ^ c))) o g n1 n2) := hD
        refine lv_aload_n hx hb dX0_turn_37 rfl (lv_at hl 0 rfl) ?_
        refine lv_iconst (v := nI 0) hx hb dX0_turn_38 (by decide) ?_
        refine va_put (D := (dC, dI)) (ci := 0) (v := .int (nI 0)) (ty := .boolean) (C := RX0) (T := TX0) (N := 7) hx hb hts in_X0 tyX0 tyX0_ok nmX0 hown hK hP hD hS 0 rfl rfl 2 (by decide) (hts _ q37) (fun _ h9 => h9) rfl (by decide +kernel) rfl rfl (Nat.le_of_ble_eq_true rfl) dX0_turn_39 (fun H locs hP hD hS => ?_)
        have hP : va_P (dC, dI) vwCl (XW h0 k1 k2 k3 k4 k5 d0 cnt 0 (uN b r ((b r) ^^^ (2 ^ c))) o g n1 n2) H := hP
        have hD : va_D A (XW h0 k1 k2 k3 k4 k5 d0 cnt 0 (uN b r ((b r) ^^^ (2 ^ c))) o g n1 n2) := hD
        refine lv_aload_n hx hb dX0_turn_42 rfl (lv_at hl 0 rfl) ?_
        refine lv_iload_n hx hb dX0_turn_43 rfl (lv_at hl 1 rfl) ?_
        refine lv_iload_n hx hb dX0_turn_44 rfl (lv_at hl 2 rfl) ?_
        refine vp_callSi (W.runV (As := [.int (nI r), .int (nI c)]) (rest := []) ⟨hx, hb, hml, hown, hts⟩ (metX0_at r c (by omega) (by omega) (uN_bd hbd (xr_lt (hbd _) (tp_lt hc)))) (cwV 2 hts (lw_V q74 q76 qs1 q25 q77) rfl rfl rfl (by decide +kernel) ⟨Nat.le_of_ble_eq_true rfl, Nat.le_of_ble_eq_true rfl⟩) (rd_preX0 hK hP) rfl rfl hl.1 rfl (lv_room (Nat.le_of_ble_eq_true rfl)) dX0_turn_45 ⟨Nat.le_of_ble_eq_true rfl, Nat.le_of_ble_eq_true rfl⟩) (fun v hv => ?_)
        subst hv
        have eT : (T_turn cnt b (nI r) (nI c)) = (nI (bitN ((uN b r (b r ^^^ (2 ^ c))) r) c), cnt, uN b r ((b r) ^^^ (2 ^ c))) := by rw [uN_s]; exact T_turn_ok h8 hr hc
        exact W.iret (v := nI (bitN ((uN b r (b r ^^^ (2 ^ c))) r) c)) hx hb hret (fun t ht hW => ⟨⟨nI (bitN ((uN b r (b r ^^^ (2 ^ c))) r) c), (), rfl, by rw [eT], by rw [eT]; exact ⟨0, o, g, n1, n2, Or.inl rfl, by rw [ht]; exact hP, va_K.moved hW.alike hK, hD⟩⟩, hS.F ht⟩) hS.2.2 dX0_turn_48
      · rw [hz_t (k := 12) (by omega)] at c15
        refine lv_bipush (v := -4) hx hb dX0_turn_18 (by decide) ?_
        have eT : (T_turn cnt b p0 p1) = ((-4), cnt, b) := by exact T_turn_bad (fun z => by omega)
        exact W.iret (v := (-4)) hx hb hret (fun t ht hW => ⟨⟨(-4), (), rfl, by rw [eT], by rw [eT]; exact ⟨bu, o, g, n1, n2, hbt, by rw [ht]; exact hP, va_K.moved hW.alike hK, hD⟩⟩, hS.F ht⟩) hS.2.2 dX0_turn_20

set_option maxHeartbeats 4000000 in
set_option maxRecDepth 100000 in
theorem metX1_add {l : Launch} {dC : Nat → ClassId} {dI : Nat → Nat → Nat} {h0 k1 : Nat} {d0 : ClassId} {cnt : Nat} {b : Nat → Nat} {sz : Nat} (p0 : Int32) (h8 : cnt ≤ 8) (hbd : ∀ k, b k < 4096) : Met l yX1_add (ws_ yX1_add cX1_add 2 (some .int)) (rmk 1) (wrP (dC, dI) [(d0, .int)] (MW h0 k1 d0 cnt b) sz [.ref h0, .int p0]) (va_Qi (fun r (_ : Unit) => r = (T_add cnt b p0).1) (fun _ t => MB (dC, dI) h0 k1 d0 (va_A (MW h0 k1 d0 cnt b) sz) ((T_add cnt b p0).2.1) ((T_add cnt b p0).2.2) t) (va_A (MW h0 k1 d0 cnt b) sz)) 0 0 (va_A (MW h0 k1 d0 cnt b) sz) := by
  refine Met.ofW (cc := cX1_add) (maxL := 2) (ret := (some .int)) (by decide) rfl ?_
  intro pP eE sS mM args below meth cC s₁ B hml hv
  obtain ⟨rfl, hsz, hP, hK, hD0⟩ := hv
  have hx := B.exec
  have hb := B.bytes
  have hret := B.returns
  have hts := atoms_spec (ws := ws_ yX1_add cX1_add 2 (some .int)) B.pre
  have hts : ∀ w ∈ lw_all, w.before _ sS = true := fun w h => hts w (List.mem_cons_of_mem _ h)
  have hown : sS.vm.findClass RX1 = some mM.cls := findClass_of_methodNamed B.named
  have hlocks := B.notSynchronized
  subst hsz
  have hD := hD0.self (sz := sS.heap.size)
  generalize hAe : va_A (MW h0 k1 d0 cnt b) sS.heap.size = A at hD ⊢
  have hA : ∀ q : Nat, sS.heap.size ≤ q → A q := fun q h => by rw [← hAe]; exact Or.inr h
  clear hAe
  have hS : va_S A sS.heap sS.heap [] := va_S.rf
  have hl := lv_entry ([.ref h0, .int p0]) (n := 2) (Nat.le_of_ble_eq_true rfl)
  rw [lg_entry_eq]
  generalize (lg_sl ([.ref h0, .int p0]) ++ List.replicate (2 - (lg_sl ([.ref h0, .int p0])).length) Slot.unset).toArray = ls at hl ⊢
  have hl : lv_has ls 2 [(0, .ref h0), (1, .int p0)] := hl
  refine lv_aload_n hx hb dX1_add_0 rfl (lv_at hl 0 rfl) ?_
  refine lv_iload_n hx hb dX1_add_1 rfl (lv_at hl 1 rfl) ?_
  refine vp_callSi (W.runV (As := [.int p0]) (rest := []) ⟨hx, hb, hml, hown, hts⟩ (metX1_isBits p0) (cwV 1 hts (lw_V q179 q181 qs13 q26 q182) rfl rfl rfl (by decide +kernel) ⟨Nat.le_of_ble_eq_true rfl, Nat.le_of_ble_eq_true rfl⟩) (rd_preX1 hK hP) rfl rfl hl.1 rfl (lv_room (Nat.le_of_ble_eq_true rfl)) dX1_add_2 ⟨Nat.le_of_ble_eq_true rfl, Nat.le_of_ble_eq_true rfl⟩) (fun v hv => ?_)
  subst hv
  refine hn_ifB_ne (tgt := 10) hx hb dX1_add_5 (by decide) (fun c5 => ?_) (fun c5 => ?_)
  · obtain ⟨y, hy, rfl⟩ := inBits_of c5
    refine lv_aload_n hx hb dX1_add_10 rfl (lv_at hl 0 rfl) ?_
    refine va_get (D := (dC, dI)) (ci := 1) (v := .int (nI cnt)) (C := RX1) (T := TX1) (N := 2) hx hb hts in_X1 hown hK hP 0 rfl rfl 1 (by decide) (hts _ q169) (fun _ h9 => h9) rfl dX1_add_11 ?_
    refine lv_bipush (v := nI 8) hx hb dX1_add_14 (by decide) ?_
    refine hn_icmp_ne (tgt := 22) hx hb dX1_add_16 (by decide) (by omega) (by omega) (fun c16 => ?_) (fun c16 => ?_)
    · refine lv_aload_n hx hb dX1_add_22 rfl (lv_at hl 0 rfl) ?_
      refine va_get (D := (dC, dI)) (ci := 1) (v := .ref k1) (C := RX1) (T := TX1) (N := 2) hx hb hts in_X1 hown hK hP 0 rfl rfl 0 (by decide) (hts _ q168) (fun _ h9 => h9) rfl dX1_add_23 ?_
      refine lv_aload_n hx hb dX1_add_26 rfl (lv_at hl 0 rfl) ?_
      refine va_get (D := (dC, dI)) (ci := 1) (v := .int (nI cnt)) (C := RX1) (T := TX1) (N := 2) hx hb hts in_X1 hown hK hP 0 rfl rfl 1 (by decide) (hts _ q169) (fun _ h9 => h9) rfl dX1_add_27 ?_
      refine lv_iload_n hx hb dX1_add_30 rfl (lv_at hl 1 rfl) ?_
      refine hn_ast hx hb hK hP hD hS 1 0 rfl rfl (by omega) (by decide) dX1_add_31 (fun H locs hP hD hS => ?_)
      have hP : va_P (dC, dI) vwCl (MW h0 k1 d0 cnt (uN b cnt y)) H := hP
      have hD : va_D A (MW h0 k1 d0 cnt (uN b cnt y)) := hD
      refine lv_aload_n hx hb dX1_add_32 rfl (lv_at hl 0 rfl) ?_
      refine lv_dup hx hb dX1_add_33 rfl ?_
      refine va_get (D := (dC, dI)) (ci := 1) (v := .int (nI cnt)) (C := RX1) (T := TX1) (N := 2) hx hb hts in_X1 hown hK hP 0 rfl rfl 1 (by decide) (hts _ q169) (fun _ h9 => h9) rfl dX1_add_34 ?_
      refine lv_iconst (v := nI 1) hx hb dX1_add_37 (by decide) ?_
      refine hn_add hx hb dX1_add_38 ?_
      refine va_put (D := (dC, dI)) (ci := 1) (v := .int (nI (cnt + 1))) (ty := .int) (C := RX1) (T := TX1) (N := 2) hx hb hts in_X1 tyX1 tyX1_ok nmX1 hown hK hP hD hS 0 rfl rfl 1 (by decide) (hts _ q169) (fun _ h9 => h9) rfl (by decide +kernel) rfl rfl (Nat.le_of_ble_eq_true rfl) dX1_add_39 (fun H locs hP hD hS => ?_)
      have hP : va_P (dC, dI) vwCl (MW h0 k1 d0 (cnt + 1) (uN b cnt y)) H := hP
      have hD : va_D A (MW h0 k1 d0 (cnt + 1) (uN b cnt y)) := hD
      refine lv_aload_n hx hb dX1_add_42 rfl (lv_at hl 0 rfl) ?_
      refine va_get (D := (dC, dI)) (ci := 1) (v := .int (nI (cnt + 1))) (C := RX1) (T := TX1) (N := 2) hx hb hts in_X1 hown hK hP 0 rfl rfl 1 (by decide) (hts _ q169) (fun _ h9 => h9) rfl dX1_add_43 ?_
      refine lv_iconst (v := nI 1) hx hb dX1_add_46 (by decide) ?_
      refine hn_sub hx hb dX1_add_47 (by omega) ?_
      refine hn_top (y := nI cnt) (congrArg nI (by omega)) ?_
      have eT : (T_add cnt b (nI y)) = (nI cnt, cnt + 1, uN b cnt y) := by exact T_add_ok hy c16
      exact W.iret (v := nI cnt) hx hb hret (fun t ht hW => ⟨⟨nI cnt, (), rfl, by rw [eT], by rw [eT]; exact ⟨by rw [ht]; exact hP, va_K.moved hW.alike hK, hD⟩⟩, hS.F ht⟩) hS.2.2 dX1_add_48
    · refine lv_bipush (v := -2) hx hb dX1_add_19 (by decide) ?_
      have eT : (T_add cnt b (nI y)) = ((-2), cnt, b) := by exact T_add_full hy c16
      exact W.iret (v := (-2)) hx hb hret (fun t ht hW => ⟨⟨(-2), (), rfl, by rw [eT], by rw [eT]; exact ⟨by rw [ht]; exact hP, va_K.moved hW.alike hK, hD⟩⟩, hS.F ht⟩) hS.2.2 dX1_add_21
  · refine lv_iconst (v := -1) hx hb dX1_add_8 (by decide) ?_
    have eT : (T_add cnt b p0) = ((-1), cnt, b) := by exact T_add_bad c5
    exact W.iret (v := (-1)) hx hb hret (fun t ht hW => ⟨⟨(-1), (), rfl, by rw [eT], by rw [eT]; exact ⟨by rw [ht]; exact hP, va_K.moved hW.alike hK, hD⟩⟩, hS.F ht⟩) hS.2.2 dX1_add_9

set_option maxHeartbeats 4000000 in
set_option maxRecDepth 100000 in
theorem metX1_remove {l : Launch} {dC : Nat → ClassId} {dI : Nat → Nat → Nat} {h0 k1 : Nat} {d0 : ClassId} {cnt : Nat} {b : Nat → Nat} {sz : Nat}  (h8 : cnt ≤ 8) (hbd : ∀ k, b k < 4096) : Met l yX1_remove (ws_ yX1_remove cX1_remove 1 (some .int)) (rmk 0) (wrP (dC, dI) [(d0, .int)] (MW h0 k1 d0 cnt b) sz [.ref h0]) (va_Qi (fun r (_ : Unit) => r = (T_rem cnt b).1) (fun _ t => MB (dC, dI) h0 k1 d0 (va_A (MW h0 k1 d0 cnt b) sz) ((T_rem cnt b).2.1) ((T_rem cnt b).2.2) t) (va_A (MW h0 k1 d0 cnt b) sz)) 0 0 (va_A (MW h0 k1 d0 cnt b) sz) := by
  refine Met.ofW (cc := cX1_remove) (maxL := 1) (ret := (some .int)) (by decide) rfl ?_
  intro pP eE sS mM args below meth cC s₁ B hml hv
  obtain ⟨rfl, hsz, hP, hK, hD0⟩ := hv
  have hx := B.exec
  have hb := B.bytes
  have hret := B.returns
  have hts := atoms_spec (ws := ws_ yX1_remove cX1_remove 1 (some .int)) B.pre
  have hts : ∀ w ∈ lw_all, w.before _ sS = true := fun w h => hts w (List.mem_cons_of_mem _ h)
  have hown : sS.vm.findClass RX1 = some mM.cls := findClass_of_methodNamed B.named
  have hlocks := B.notSynchronized
  subst hsz
  have hD := hD0.self (sz := sS.heap.size)
  generalize hAe : va_A (MW h0 k1 d0 cnt b) sS.heap.size = A at hD ⊢
  have hA : ∀ q : Nat, sS.heap.size ≤ q → A q := fun q h => by rw [← hAe]; exact Or.inr h
  clear hAe
  have hS : va_S A sS.heap sS.heap [] := va_S.rf
  have hl := lv_entry ([.ref h0]) (n := 1) (Nat.le_of_ble_eq_true rfl)
  rw [lg_entry_eq]
  generalize (lg_sl ([.ref h0]) ++ List.replicate (1 - (lg_sl ([.ref h0])).length) Slot.unset).toArray = ls at hl ⊢
  have hl : lv_has ls 1 [(0, .ref h0)] := hl
  refine lv_aload_n hx hb dX1_remove_0 rfl (lv_at hl 0 rfl) ?_
  refine va_get (D := (dC, dI)) (ci := 1) (v := .int (nI cnt)) (C := RX1) (T := TX1) (N := 2) hx hb hts in_X1 hown hK hP 0 rfl rfl 1 (by decide) (hts _ q169) (fun _ h9 => h9) rfl dX1_remove_1 ?_
  refine hn_if_ne (tgt := 10) hx hb dX1_remove_4 (by decide) (by omega) (fun c4 => ?_) (fun c4 => ?_)
  · refine lv_aload_n hx hb dX1_remove_10 rfl (lv_at hl 0 rfl) ?_
    refine lv_dup hx hb dX1_remove_11 rfl ?_
    refine va_get (D := (dC, dI)) (ci := 1) (v := .int (nI cnt)) (C := RX1) (T := TX1) (N := 2) hx hb hts in_X1 hown hK hP 0 rfl rfl 1 (by decide) (hts _ q169) (fun _ h9 => h9) rfl dX1_remove_12 ?_
    refine lv_iconst (v := nI 1) hx hb dX1_remove_15 (by decide) ?_
    refine hn_sub hx hb dX1_remove_16 (by omega) ?_
    refine va_put (D := (dC, dI)) (ci := 1) (v := .int (nI (cnt - 1))) (ty := .int) (C := RX1) (T := TX1) (N := 2) hx hb hts in_X1 tyX1 tyX1_ok nmX1 hown hK hP hD hS 0 rfl rfl 1 (by decide) (hts _ q169) (fun _ h9 => h9) rfl (by decide +kernel) rfl rfl (Nat.le_of_ble_eq_true rfl) dX1_remove_17 (fun H locs hP hD hS => ?_)
    have hP : va_P (dC, dI) vwCl (MW h0 k1 d0 (cnt - 1) b) H := hP
    have hD : va_D A (MW h0 k1 d0 (cnt - 1) b) := hD
    refine lv_aload_n hx hb dX1_remove_20 rfl (lv_at hl 0 rfl) ?_
    refine va_get (D := (dC, dI)) (ci := 1) (v := .ref k1) (C := RX1) (T := TX1) (N := 2) hx hb hts in_X1 hown hK hP 0 rfl rfl 0 (by decide) (hts _ q168) (fun _ h9 => h9) rfl dX1_remove_21 ?_
    refine lv_aload_n hx hb dX1_remove_24 rfl (lv_at hl 0 rfl) ?_
    refine va_get (D := (dC, dI)) (ci := 1) (v := .int (nI (cnt - 1))) (C := RX1) (T := TX1) (N := 2) hx hb hts in_X1 hown hK hP 0 rfl rfl 1 (by decide) (hts _ q169) (fun _ h9 => h9) rfl dX1_remove_25 ?_
    refine hn_ald hx hb hK hP 1 0 rfl rfl (by omega) (by decide) dX1_remove_28 ?_
    have eT : (T_rem cnt b) = (nI (b (cnt - 1)), cnt - 1, b) := by exact T_rem_ok c4
    exact W.iret (v := nI (b (cnt - 1))) hx hb hret (fun t ht hW => ⟨⟨nI (b (cnt - 1)), (), rfl, by rw [eT], by rw [eT]; exact ⟨by rw [ht]; exact hP, va_K.moved hW.alike hK, hD⟩⟩, hS.F ht⟩) hS.2.2 dX1_remove_29
  · refine lv_bipush (v := -4) hx hb dX1_remove_7 (by decide) ?_
    have eT : (T_rem cnt b) = ((-4), cnt, b) := by exact T_rem_0 c4
    exact W.iret (v := (-4)) hx hb hret (fun t ht hW => ⟨⟨(-4), (), rfl, by rw [eT], by rw [eT]; exact ⟨by rw [ht]; exact hP, va_K.moved hW.alike hK, hD⟩⟩, hS.F ht⟩) hS.2.2 dX1_remove_9

set_option maxHeartbeats 4000000 in
set_option maxRecDepth 100000 in
theorem metX1_turn {l : Launch} {dC : Nat → ClassId} {dI : Nat → Nat → Nat} {h0 k1 : Nat} {d0 : ClassId} {cnt : Nat} {b : Nat → Nat} {sz : Nat} (p0 p1 : Int32) (h8 : cnt ≤ 8) (hbd : ∀ k, b k < 4096) : Met l yX1_turn (ws_ yX1_turn cX1_turn 3 (some .int)) (rmk 1) (wrP (dC, dI) [(d0, .int)] (MW h0 k1 d0 cnt b) sz [.ref h0, .int p0, .int p1]) (va_Qi (fun r (_ : Unit) => r = (T_turn cnt b p0 p1).1) (fun _ t => MB (dC, dI) h0 k1 d0 (va_A (MW h0 k1 d0 cnt b) sz) ((T_turn cnt b p0 p1).2.1) ((T_turn cnt b p0 p1).2.2) t) (va_A (MW h0 k1 d0 cnt b) sz)) 0 0 (va_A (MW h0 k1 d0 cnt b) sz) := by
  refine Met.ofW (cc := cX1_turn) (maxL := 3) (ret := (some .int)) (by decide) rfl ?_
  intro pP eE sS mM args below meth cC s₁ B hml hv
  obtain ⟨rfl, hsz, hP, hK, hD0⟩ := hv
  have hx := B.exec
  have hb := B.bytes
  have hret := B.returns
  have hts := atoms_spec (ws := ws_ yX1_turn cX1_turn 3 (some .int)) B.pre
  have hts : ∀ w ∈ lw_all, w.before _ sS = true := fun w h => hts w (List.mem_cons_of_mem _ h)
  have hown : sS.vm.findClass RX1 = some mM.cls := findClass_of_methodNamed B.named
  have hlocks := B.notSynchronized
  subst hsz
  have hD := hD0.self (sz := sS.heap.size)
  generalize hAe : va_A (MW h0 k1 d0 cnt b) sS.heap.size = A at hD ⊢
  have hA : ∀ q : Nat, sS.heap.size ≤ q → A q := fun q h => by rw [← hAe]; exact Or.inr h
  clear hAe
  have hS : va_S A sS.heap sS.heap [] := va_S.rf
  have hl := lv_entry ([.ref h0, .int p0, .int p1]) (n := 3) (Nat.le_of_ble_eq_true rfl)
  rw [lg_entry_eq]
  generalize (lg_sl ([.ref h0, .int p0, .int p1]) ++ List.replicate (3 - (lg_sl ([.ref h0, .int p0, .int p1])).length) Slot.unset).toArray = ls at hl ⊢
  have hl : lv_has ls 3 [(0, .ref h0), (1, .int p0), (2, .int p1)] := hl
  refine lv_aload_n hx hb dX1_turn_0 rfl (lv_at hl 0 rfl) ?_
  refine lv_iload_n hx hb dX1_turn_1 rfl (lv_at hl 1 rfl) ?_
  refine vp_callSi (W.runV (As := [.int p0]) (rest := []) ⟨hx, hb, hml, hown, hts⟩ (metX1_isRow p0 h8) (cwV 1 hts (lw_V q191 q193 qs14 q26 q194) rfl rfl rfl (by decide +kernel) ⟨Nat.le_of_ble_eq_true rfl, Nat.le_of_ble_eq_true rfl⟩) (rd_preX1 hK hP) rfl rfl hl.1 rfl (lv_room (Nat.le_of_ble_eq_true rfl)) dX1_turn_2 ⟨Nat.le_of_ble_eq_true rfl, Nat.le_of_ble_eq_true rfl⟩) (fun v hv => ?_)
  subst hv
  refine hn_ifB_eq (tgt := 18) hx hb dX1_turn_5 (by decide) (fun c5 => ?_) (fun c5 => ?_)
  · refine lv_bipush (v := -4) hx hb dX1_turn_18 (by decide) ?_
    have eT : (T_turn cnt b p0 p1) = ((-4), cnt, b) := by exact T_turn_bad (fun z => by rw [c5] at z; exact absurd z.1 (by decide))
    exact W.iret (v := (-4)) hx hb hret (fun t ht hW => ⟨⟨(-4), (), rfl, by rw [eT], by rw [eT]; exact ⟨by rw [ht]; exact hP, va_K.moved hW.alike hK, hD⟩⟩, hS.F ht⟩) hS.2.2 dX1_turn_20
  · refine lv_iload_n hx hb dX1_turn_8 rfl (lv_at hl 2 rfl) ?_
    refine hz_if_lt (tgt := 18) hx hb dX1_turn_9 (by decide) (fun c9 => ?_) (fun c9 => ?_)
    · refine lv_bipush (v := -4) hx hb dX1_turn_18 (by decide) ?_
      have eT : (T_turn cnt b p0 p1) = ((-4), cnt, b) := by exact T_turn_bad (fun z => by omega)
      exact W.iret (v := (-4)) hx hb hret (fun t ht hW => ⟨⟨(-4), (), rfl, by rw [eT], by rw [eT]; exact ⟨by rw [ht]; exact hP, va_K.moved hW.alike hK, hD⟩⟩, hS.F ht⟩) hS.2.2 dX1_turn_20
    · refine lv_iload_n hx hb dX1_turn_12 rfl (lv_at hl 2 rfl) ?_
      refine lv_bipush (v := nI 11) hx hb dX1_turn_13 (by decide) ?_
      refine hz_icmp_le (tgt := 21) hx hb dX1_turn_15 (by decide) (fun c15 => ?_) (fun c15 => ?_)
      · rw [hz_t (k := 11) (by omega)] at c15
        obtain ⟨r, hr, hr31, rfl⟩ := inRow_of c5
        obtain ⟨c, hc31, rfl, ec⟩ := hz_of (x := p1) (by omega)
        have hc : c ≤ 11 := (by omega)
        clear c9 c15 ec
        refine lv_aload_n hx hb dX1_turn_21 rfl (lv_at hl 0 rfl) ?_
        refine va_get (D := (dC, dI)) (ci := 1) (v := .ref k1) (C := RX1) (T := TX1) (N := 2) hx hb hts in_X1 hown hK hP 0 rfl rfl 0 (by decide) (hts _ q168) (fun _ h9 => h9) rfl dX1_turn_22 ?_
        refine lv_iload_n hx hb dX1_turn_25 rfl (lv_at hl 1 rfl) ?_
        refine lv_aload_n hx hb dX1_turn_26 rfl (lv_at hl 0 rfl) ?_
        refine va_get (D := (dC, dI)) (ci := 1) (v := .ref k1) (C := RX1) (T := TX1) (N := 2) hx hb hts in_X1 hown hK hP 0 rfl rfl 0 (by decide) (hts _ q168) (fun _ h9 => h9) rfl dX1_turn_27 ?_
        refine lv_iload_n hx hb dX1_turn_30 rfl (lv_at hl 1 rfl) ?_
        refine hn_ald hx hb hK hP 1 0 rfl rfl (by omega) (by decide) dX1_turn_31 ?_
        refine lv_iconst (v := nI 1) hx hb dX1_turn_32 (by decide) ?_
        refine lv_iload_n hx hb dX1_turn_33 rfl (lv_at hl 2 rfl) ?_
        refine hn_shl hx hb dX1_turn_34 (by omega) ?_
        refine hn_xor hx hb dX1_turn_35 ?_
        refine hn_ast hx hb hK hP hD hS 1 0 rfl rfl (by omega) (by decide) dX1_turn_36 (fun H locs hP hD hS => ?_)
        have hP : va_P (dC, dI) vwCl (MW h0 k1 d0 cnt (uN b r ((b r) ^^^ (2 ^ c)))) H := hP
        have hD : va_D A (MW h0 k1 d0 cnt (uN b r ((b r) ^^^ (2 ^ c)))) := hD
        refine lv_aload_n hx hb dX1_turn_37 rfl (lv_at hl 0 rfl) ?_
        refine va_get (D := (dC, dI)) (ci := 1) (v := .ref k1) (C := RX1) (T := TX1) (N := 2) hx hb hts in_X1 hown hK hP 0 rfl rfl 0 (by decide) (hts _ q168) (fun _ h9 => h9) rfl dX1_turn_38 ?_
        refine lv_iload_n hx hb dX1_turn_41 rfl (lv_at hl 1 rfl) ?_
        refine hn_ald hx hb hK hP 1 0 rfl rfl (by omega) (by decide) dX1_turn_42 ?_
        refine hn_top (y := nI (b r ^^^ (2 ^ c))) (congrArg nI (uN_s _ _ _)) ?_
        refine lv_iload_n hx hb dX1_turn_43 rfl (lv_at hl 2 rfl) ?_
        refine hn_shr hx hb dX1_turn_44 (Nat.lt_trans (xr_lt (hbd _) (tp_lt hc)) (by decide)) (by omega) ?_
        refine lv_iconst (v := nI 1) hx hb dX1_turn_45 (by decide) ?_
        refine hn_and1 hx hb dX1_turn_46 (Nat.lt_of_le_of_lt (Nat.div_le_self _ _) (Nat.lt_trans (xr_lt (hbd _) (tp_lt hc)) (by decide))) ?_
        refine hn_top (y := nI (bitN (b r ^^^ 2 ^ c) c)) rfl ?_
        have eT : (T_turn cnt b (nI r) (nI c)) = (nI (bitN (b r ^^^ 2 ^ c) c), cnt, uN b r ((b r) ^^^ (2 ^ c))) := by exact T_turn_ok h8 hr hc
        exact W.iret (v := nI (bitN (b r ^^^ 2 ^ c) c)) hx hb hret (fun t ht hW => ⟨⟨nI (bitN (b r ^^^ 2 ^ c) c), (), rfl, by rw [eT], by rw [eT]; exact ⟨by rw [ht]; exact hP, va_K.moved hW.alike hK, hD⟩⟩, hS.F ht⟩) hS.2.2 dX1_turn_47
      · rw [hz_t (k := 11) (by omega)] at c15
        refine lv_bipush (v := -4) hx hb dX1_turn_18 (by decide) ?_
        have eT : (T_turn cnt b p0 p1) = ((-4), cnt, b) := by exact T_turn_bad (fun z => by omega)
        exact W.iret (v := (-4)) hx hb hret (fun t ht hW => ⟨⟨(-4), (), rfl, by rw [eT], by rw [eT]; exact ⟨by rw [ht]; exact hP, va_K.moved hW.alike hK, hD⟩⟩, hS.F ht⟩) hS.2.2 dX1_turn_20
end
section
/-! PURE: part(c), from the order for column c that for c + 1 -/
def zr (b : Nat → Nat) (c r : Nat) : Bool := bitN (b r) c == 0
def nz (b : Nat → Nat) (c r : Nat) : Bool := !(bitN (b r) c == 0)
def fL (b : Nat → Nat) (n c : Nat) (p : Nat → Bool) (i : Nat) : List Nat := ((hLS b n c).take i).filter p
theorem fL_t {b : Nat → Nat} {n c : Nat} {p : Nat → Bool} {i : Nat} (hi : i < n) (h : p (ro b n c i) = true) : fL b n c p (i + 1) = fL b n c p i ++ [ro b n c i] := by
  have hl : i < (hLS b n c).length := by rw [hLS_len]; exact hi
  unfold fL
  rw [List.take_succ, List.filter_append, List.getElem?_eq_getElem hl, ro_get]
  simp [h]
theorem fL_f {b : Nat → Nat} {n c : Nat} {p : Nat → Bool} {i : Nat} (hi : i < n) (h : p (ro b n c i) = false) : fL b n c p (i + 1) = fL b n c p i := by
  have hl : i < (hLS b n c).length := by rw [hLS_len]; exact hi
  unfold fL
  rw [List.take_succ, List.filter_append, List.getElem?_eq_getElem hl, ro_get]
  simp [h]
theorem fL_n (b : Nat → Nat) (n c : Nat) (p : Nat → Bool) : fL b n c p n = (hLS b n c).filter p := by
  unfold fL
  rw [List.take_of_length_le (by rw [hLS_len]; exact Nat.le_refl _)]
theorem fL_mem {b : Nat → Nat} {n c : Nat} {p : Nat → Bool} {i x : Nat} (h : x ∈ fL b n c p i) : (∃ j, j < i ∧ j < n ∧ x = ro b n c j) ∧ p x = true := by
  obtain ⟨h1, h2⟩ := List.mem_filter.mp h
  obtain ⟨j, hj, e⟩ := List.getElem_of_mem h1
  rw [List.length_take, hLS_len] at hj
  rw [List.getElem_take, ro_get] at e
  exact ⟨⟨j, by omega, by omega, e.symm⟩, h2⟩
def lbg (b : Nat → Nat) (c : Nat) (L : List Nat) (t : Nat) : Nat := if t = 0 then c + 1 else AF b (L.getD (t - 1) 0) (L.getD t 0) c
def lsi (b : Nat → Nat) (n c : Nat) (L : List Nat) (i : Nat) : Nat := if L = [] then c + 1 else AF b (L.getLastD 0) (ro b n c (i - 1)) c
theorem lsi_le (b : Nat → Nat) (n c : Nat) (L : List Nat) (i : Nat) : lsi b n c L i ≤ c + 1 := by
  unfold lsi
  split
  · exact Nat.le_refl _
  · exact Nat.le_trans (AF_le _ _ _ _) (Nat.le_succ c)
theorem gD_last {L : List Nat} (h : L ≠ []) : L.getD (L.length - 1) 0 = L.getLastD 0 := by
  rw [List.getD_eq_getElem?_getD, List.getLastD_eq_getLast?, List.getLast?_eq_getElem?]
theorem gD_mem {L : List Nat} {t : Nat} (h : t < L.length) : L.getD t 0 ∈ L := by
  rw [List.getD_eq_getElem?_getD, List.getElem?_eq_getElem h]
  exact List.getElem_mem h
theorem last_mem {L : List Nat} (h : L ≠ []) : L.getLastD 0 ∈ L := by
  rw [← gD_last h]
  exact gD_mem (by have : L.length ≠ 0 := fun z => h (List.eq_nil_of_length_eq_zero z); omega)
theorem msi_max {b : Nat → Nat} {n c : Nat} {p : Nat → Bool} {i : Nat} (hi : i < n) : (if lsi b n c (fL b n c p i) i < bg b n c i then bg b n c i else lsi b n c (fL b n c p i) i) = lsi b n c (fL b n c p i) (i + 1) := by
  have hb := bg_le b n c i
  by_cases e : fL b n c p i = []
  · unfold lsi
    rw [if_pos e, if_neg (by omega), if_pos e]
  · obtain ⟨⟨j, h1, h2, h3⟩, -⟩ := fL_mem (last_mem e)
    unfold lsi
    rw [if_neg e, if_neg e, h3]
    obtain ⟨i', rfl⟩ : ∃ i', i = i' + 1 := ⟨i - 1, by omega⟩
    rw [bg_s]
    show (if AF b (ro b n c j) (ro b n c i') c < AF b (ro b n c i') (ro b n c (i' + 1)) c then AF b (ro b n c i') (ro b n c (i' + 1)) c else AF b (ro b n c j) (ro b n c i') c) = AF b (ro b n c j) (ro b n c (i' + 1)) c
    rw [ro_ult (b := b) (c := c) (i := j) (j := i') (k := i' + 1) (by omega) (by omega) hi]
    split <;> omega
theorem gD_app1 {L : List Nat} {r t : Nat} (h : t < L.length) : (L ++ [r]).getD t 0 = L.getD t 0 := by
  simp [List.getD_eq_getElem?_getD, List.getElem?_append_left h]
theorem gD_app2 {L : List Nat} {r : Nat} : (L ++ [r]).getD L.length 0 = r := by
  simp [List.getD_eq_getElem?_getD]
theorem lbg_app1 {b : Nat → Nat} {c : Nat} {L : List Nat} {r t : Nat} (h : t < L.length) : lbg b c (L ++ [r]) t = lbg b c L t := by
  unfold lbg
  rw [gD_app1 h, gD_app1 (by omega)]
theorem lbg_app2 {b : Nat → Nat} {n c : Nat} {L : List Nat} {i : Nat} : lbg b c (L ++ [ro b n c i]) L.length = lsi b n c L (i + 1) := by
  unfold lbg lsi
  by_cases e : L = []
  · subst e; simp
  · have hl : L.length ≠ 0 := fun z => e (List.eq_nil_of_length_eq_zero z)
    rw [if_neg hl, if_neg e, gD_app2, gD_app1 (by omega), gD_last e]
    rfl
theorem lsi_app {b : Nat → Nat} {n c : Nat} {L : List Nat} {i : Nat} : lsi b n c (L ++ [ro b n c i]) (i + 1) = 0 := by
  unfold lsi
  rw [if_neg (by simp)]
  simp
  exact AF_self _ _ _
/-- what holds at the head of part's first loop -/
def PK (n : Nat) (b o g : Nat → Nat) (c i : Nat) (o1 g1 m1 m2 : Nat → Nat) (z y sz so : Nat) : Prop :=
  z = (fL b n c (zr b c) i).length ∧ y = (fL b n c (nz b c) i).length ∧ z + y = i ∧ (∀ k, k < 8 * c + 8 → o1 k = o k ∧ g1 k = g k) ∧
  (∀ t, t < z → o1 (8 * c + 8 + t) = (fL b n c (zr b c) i).getD t 0 ∧ g1 (8 * c + 8 + t) = lbg b c (fL b n c (zr b c) i) t) ∧
  (∀ t, t < y → m1 t = (fL b n c (nz b c) i).getD t 0 ∧ m2 t = lbg b c (fL b n c (nz b c) i) t) ∧
  sz = lsi b n c (fL b n c (zr b c) i) i ∧ so = lsi b n c (fL b n c (nz b c) i) i
theorem PK_0 (n : Nat) (b o g : Nat → Nat) (c : Nat) (n1 n2 : Nat → Nat) : PK n b o g c 0 o g n1 n2 0 0 (c + 1) (c + 1) := by
  refine ⟨?_, ?_, rfl, fun k _ => ⟨rfl, rfl⟩, fun t h => absurd h (Nat.not_lt_zero t), fun t h => absurd h (Nat.not_lt_zero t), ?_, ?_⟩ <;> simp [fL, lsi]
theorem PK_z {n : Nat} {b o g : Nat → Nat} {c i : Nat} {o1 g1 m1 m2 : Nat → Nat} {z y sz so : Nat} (h : PK n b o g c i o1 g1 m1 m2 z y sz so) (hi : i < n) (h0 : bitN (b (ro b n c i)) c = 0) :
    PK n b o g c (i + 1) (uN o1 (8 * c + 8 + z) (ro b n c i)) (uN g1 (8 * c + 8 + z) (if sz < bg b n c i then bg b n c i else sz)) m1 m2 (z + 1) y 0 (if so < bg b n c i then bg b n c i else so) := by
  obtain ⟨e1, e2, e3, e4, e5, e6, e7, e8⟩ := h
  have hz : zr b c (ro b n c i) = true := by simp [zr, h0]
  have hn : nz b c (ro b n c i) = false := by simp [nz, h0]
  have fz := fL_t (c := c) hi hz
  have fo := fL_f (c := c) hi hn
  rw [e7, e8, msi_max hi, msi_max hi]
  refine ⟨?_, ?_, by omega, ?_, ?_, ?_, ?_, ?_⟩
  · rw [fz, List.length_append, ← e1]; rfl
  · rw [fo]; exact e2
  · intro k hk
    rw [uN_n (by omega), uN_n (by omega)]
    exact e4 k hk
  · intro t ht
    rw [fz]
    by_cases q : t = z
    · subst q
      rw [uN_s, uN_s, e1, gD_app2, lbg_app2]
      exact ⟨rfl, rfl⟩
    · rw [uN_n (by omega), uN_n (by omega), gD_app1 (by omega), lbg_app1 (by omega)]
      exact e5 t (by omega)
  · intro t ht
    rw [fo]
    exact e6 t ht
  · rw [fz, lsi_app]
  · rw [fo]
theorem PK_o {n : Nat} {b o g : Nat → Nat} {c i : Nat} {o1 g1 m1 m2 : Nat → Nat} {z y sz so : Nat} (h : PK n b o g c i o1 g1 m1 m2 z y sz so) (hi : i < n) (h0 : bitN (b (ro b n c i)) c ≠ 0) :
    PK n b o g c (i + 1) o1 g1 (uN m1 y (ro b n c i)) (uN m2 y (if so < bg b n c i then bg b n c i else so)) z (y + 1) (if sz < bg b n c i then bg b n c i else sz) 0 := by
  obtain ⟨e1, e2, e3, e4, e5, e6, e7, e8⟩ := h
  have hz : zr b c (ro b n c i) = false := by simp [zr, h0]
  have hn : nz b c (ro b n c i) = true := by simp [nz, h0]
  have fz := fL_f (c := c) hi hz
  have fo := fL_t (c := c) hi hn
  rw [e7, e8, msi_max hi, msi_max hi]
  refine ⟨?_, ?_, by omega, e4, ?_, ?_, ?_, ?_⟩
  · rw [fz]; exact e1
  · rw [fo, List.length_append, ← e2]; rfl
  · intro t ht
    rw [fz]
    exact e5 t ht
  · intro t ht
    rw [fo]
    by_cases q : t = y
    · subst q
      rw [uN_s, uN_s, e2, gD_app2, lbg_app2]
      exact ⟨rfl, rfl⟩
    · rw [uN_n (by omega), uN_n (by omega), gD_app1 (by omega), lbg_app1 (by omega)]
      exact e6 t (by omega)
  · rw [fz]
  · rw [fo, lsi_app]
/-- what holds at the head of its second loop -/
def P2 (n : Nat) (b o g : Nat → Nat) (c z j : Nat) (o1 g1 : Nat → Nat) : Prop :=
  (∀ k, k < 8 * c + 8 → o1 k = o k ∧ g1 k = g k) ∧ ∀ t, t < z + j → o1 (8 * c + 8 + t) = ro b n (c + 1) t ∧ g1 (8 * c + 8 + t) = bg b n (c + 1) t
theorem hLS_s (b : Nat → Nat) (n c : Nat) : hLS b n (c + 1) = fL b n c (zr b c) n ++ fL b n c (nz b c) n := by
  rw [fL_n, fL_n]
  rfl
theorem ro_s1 {b : Nat → Nat} {n c t : Nat} (h : t < (fL b n c (zr b c) n).length) : ro b n (c + 1) t = (fL b n c (zr b c) n).getD t 0 := by
  unfold ro
  rw [hLS_s, List.getD_eq_getElem?_getD, List.getElem?_append_left h, List.getD_eq_getElem?_getD]
theorem ro_s2 {b : Nat → Nat} {n c t : Nat} : ro b n (c + 1) ((fL b n c (zr b c) n).length + t) = (fL b n c (nz b c) n).getD t 0 := by
  unfold ro
  rw [hLS_s, List.getD_eq_getElem?_getD, List.getElem?_append_right (by omega), List.getD_eq_getElem?_getD]
  simp
theorem AF_s {b : Nat → Nat} {r s c : Nat} (h : bitN (b r) c = bitN (b s) c) : AF b r s (c + 1) = AF b r s c := AFv_eq h
theorem AF_sn {b : Nat → Nat} {r s c : Nat} (h : ¬ bitN (b r) c = bitN (b s) c) : AF b r s (c + 1) = c + 1 := AFv_ne h
theorem zr_0 {b : Nat → Nat} {c r : Nat} (h : zr b c r = true) : bitN (b r) c = 0 := by simpa [zr] using h
theorem nz_1 {b : Nat → Nat} {c r : Nat} (h : nz b c r = true) : bitN (b r) c = 1 := by
  have h1 : ¬ bitN (b r) c = 0 := by simpa [nz] using h
  have := bitN_01 (b r) c
  omega
theorem bg_z {b : Nat → Nat} {n c t : Nat} (h : t < (fL b n c (zr b c) n).length) : bg b n (c + 1) t = lbg b c (fL b n c (zr b c) n) t := by
  unfold bg lbg
  by_cases e : t = 0
  · rw [if_pos e, if_pos e]
  · rw [if_neg e, if_neg e, ro_s1 h, ro_s1 (by omega)]
    refine AF_s ?_
    rw [zr_0 (fL_mem (gD_mem h)).2, zr_0 (fL_mem (gD_mem (L := fL b n c (zr b c) n) (t := t - 1) (by omega))).2]
theorem bg_o {b : Nat → Nat} {n c t : Nat} (h : t < (fL b n c (nz b c) n).length) : bg b n (c + 1) ((fL b n c (zr b c) n).length + t) = lbg b c (fL b n c (nz b c) n) t := by
  unfold bg lbg
  by_cases e : t = 0
  · subst e
    rw [if_pos rfl]
    by_cases q : (fL b n c (zr b c) n).length + 0 = 0
    · rw [if_pos q]
    · rw [if_neg q, ro_s2, ro_s1 (by omega)]
      refine AF_sn ?_
      rw [nz_1 (fL_mem (gD_mem h)).2, zr_0 (fL_mem (gD_mem (L := fL b n c (zr b c) n) (by omega))).2]
      decide
  · rw [if_neg (by omega), if_neg e, ro_s2, show (fL b n c (zr b c) n).length + t - 1 = (fL b n c (zr b c) n).length + (t - 1) by omega, ro_s2]
    refine AF_s ?_
    rw [nz_1 (fL_mem (gD_mem h)).2, nz_1 (fL_mem (gD_mem (L := fL b n c (nz b c) n) (t := t - 1) (by omega))).2]
theorem P2_0 {n : Nat} {b o g : Nat → Nat} {c : Nat} {o1 g1 m1 m2 : Nat → Nat} {z y sz so : Nat} (h : PK n b o g c n o1 g1 m1 m2 z y sz so) : P2 n b o g c z 0 o1 g1 := by
  obtain ⟨e1, e2, e3, e4, e5, e6, e7, e8⟩ := h
  refine ⟨e4, fun t ht => ?_⟩
  rw [ro_s1 (by omega), bg_z (by omega)]
  exact e5 t (by omega)
theorem P2_s {n : Nat} {b o g : Nat → Nat} {c : Nat} {o0 g0 o1 g1 m1 m2 : Nat → Nat} {z y sz so j : Nat} (h : PK n b o g c n o0 g0 m1 m2 z y sz so) (h2 : P2 n b o g c z j o1 g1) (hj : j < y) : P2 n b o g c z (j + 1) (uN o1 (8 * c + 8 + z + j) (m1 j)) (uN g1 (8 * c + 8 + z + j) (m2 j)) := by
  obtain ⟨e1, e2, e3, e4, e5, e6, e7, e8⟩ := h
  refine ⟨fun k hk => ?_, fun t ht => ?_⟩
  · rw [uN_n (by omega), uN_n (by omega)]
    exact h2.1 k hk
  · by_cases q : t = z + j
    · subst q
      rw [← Nat.add_assoc, uN_s, uN_s, (e6 j hj).1, (e6 j hj).2, e1, ro_s2, bg_o (by omega)]
      exact ⟨rfl, rfl⟩
    · rw [uN_n (by omega), uN_n (by omega)]
      exact h2.2 t (by omega)
/-- what part(c) does -/
def PT (n : Nat) (b o g : Nat → Nat) (c : Nat) (o1 g1 : Nat → Nat) : Prop := (∀ k, k < 8 * (c + 1) → o1 k = o k ∧ g1 k = g k) ∧ Bc n b o1 g1 (c + 1)
theorem PT_of {n : Nat} {b o g : Nat → Nat} {c : Nat} {o0 g0 o1 g1 m1 m2 : Nat → Nat} {z y sz so : Nat} (h : PK n b o g c n o0 g0 m1 m2 z y sz so) (h2 : P2 n b o g c z y o1 g1) : PT n b o g c o1 g1 := by
  obtain ⟨e1, e2, e3, e4, e5, e6, e7, e8⟩ := h
  refine ⟨fun k hk => h2.1 k (by omega), fun i hi => ?_⟩
  rw [show 8 * (c + 1) + i = 8 * c + 8 + i by omega]
  exact h2.2 i (by omega)
/-- one column more -/
theorem Bc_more {n : Nat} {b o g o1 g1 : Nat → Nat} {c : Nat} (h8 : n ≤ 8) (h : ∀ c', c' ≤ c → Bc n b o g c') (hp : PT n b o g c o1 g1) : ∀ c', c' ≤ c + 1 → Bc n b o1 g1 c' := by
  intro c' hc i hi
  by_cases e : c' = c + 1
  · subst e; exact hp.2 i hi
  · have := hp.1 (8 * c' + i) (by omega)
    rw [this.1, this.2]
    exact h c' (by omega) i hi
theorem Bc_0 {n : Nat} {b o g : Nat → Nat} (h : ∀ j, j < n → o j = j ∧ g j = 0) : ∀ c', c' ≤ 0 → Bc n b o g c' := by
  intro c' hc i hi
  have e : c' = 0 := by omega
  subst e
  rw [show 8 * 0 + i = i by omega, (h i hi).1, (h i hi).2]
  constructor
  · unfold ro
    show i = (List.range n).getD i 0
    simp [List.getD_eq_getElem?_getD, hi]
  · unfold bg
    split
    · rfl
    · rfl
end
section
set_option maxHeartbeats 4000000 in
set_option maxRecDepth 100000 in
theorem metX0_part {l : Launch} {dC : Nat → ClassId} {dI : Nat → Nat → Nat} {h0 k1 k2 k3 k4 k5 : Nat} {d0 : ClassId} {cnt bu : Nat} {b o g n1 n2 : Nat → Nat} {sz : Nat} (c : Nat) (h8 : cnt ≤ 8) (hc : c < 12) (hbd : ∀ k, b k < 4096) (hB : Bc cnt b o g c) : Met l yX0_part (ws_ yX0_part cX0_part 11 none) (rmk 1) (wrP (dC, dI) [(d0, .int)] (XW h0 k1 k2 k3 k4 k5 d0 cnt bu b o g n1 n2) sz [.ref h0, .int (nI c)]) (va_Qv (fun (u : (Nat → Nat) × (Nat → Nat) × (Nat → Nat) × (Nat → Nat)) => PT cnt b o g c u.1 u.2.1) (fun u t => va_P (dC, dI) vwCl (XW h0 k1 k2 k3 k4 k5 d0 cnt bu b u.1 u.2.1 u.2.2.1 u.2.2.2) t.heap ∧ va_K (dC, dI) vwCl [(d0, .int)] t ∧ va_D (va_A (XW h0 k1 k2 k3 k4 k5 d0 cnt bu b o g n1 n2) sz) (XW h0 k1 k2 k3 k4 k5 d0 cnt bu b u.1 u.2.1 u.2.2.1 u.2.2.2)) (va_A (XW h0 k1 k2 k3 k4 k5 d0 cnt bu b o g n1 n2) sz)) 0 0 (va_A (XW h0 k1 k2 k3 k4 k5 d0 cnt bu b o g n1 n2) sz) := by
  refine Met.ofW (cc := cX0_part) (maxL := 11) (ret := none) (by decide) rfl ?_
  intro pP eE sS mM args below meth cC s₁ B hml hv
  obtain ⟨rfl, hsz, hP, hK, hD0⟩ := hv
  have hx := B.exec
  have hb := B.bytes
  have hret := B.returns
  have hts := atoms_spec (ws := ws_ yX0_part cX0_part 11 none) B.pre
  have hts : ∀ w ∈ lw_all, w.before _ sS = true := fun w h => hts w (List.mem_cons_of_mem _ h)
  have hown : sS.vm.findClass RX0 = some mM.cls := findClass_of_methodNamed B.named
  have hlocks := B.notSynchronized
  subst hsz
  have hD := hD0.self (sz := sS.heap.size)
  generalize hAe : va_A (XW h0 k1 k2 k3 k4 k5 d0 cnt bu b o g n1 n2) sS.heap.size = A at hD ⊢
  have hA : ∀ q : Nat, sS.heap.size ≤ q → A q := fun q h => by rw [← hAe]; exact Or.inr h
  clear hAe
  have hS : va_S A sS.heap sS.heap [] := va_S.rf
  have hl := lv_entry ([.ref h0, .int (nI c)]) (n := 11) (Nat.le_of_ble_eq_true rfl)
  rw [lg_entry_eq]
  generalize (lg_sl ([.ref h0, .int (nI c)]) ++ List.replicate (11 - (lg_sl ([.ref h0, .int (nI c)])).length) Slot.unset).toArray = ls at hl ⊢
  have hl : lv_has ls 11 [(0, .ref h0), (1, .int (nI c))] := hl
  refine lv_bipush (v := nI 8) hx hb dX0_part_0 (by decide) ?_
  refine lv_iload_n hx hb dX0_part_2 rfl (lv_at hl 1 rfl) ?_
  refine hn_mul hx hb dX0_part_3 ?_
  refine lv_istore_n (lv' := [(2, .int (nI (8 * c))), (0, .ref h0), (1, .int (nI c))]) hx hb dX0_part_4 rfl hl (by decide) rfl (fun ls hl => ?_)
  refine lv_iload_n hx hb dX0_part_5 rfl (lv_at hl 0 rfl) ?_
  refine lv_bipush (v := nI 8) hx hb dX0_part_6 (by decide) ?_
  refine hn_add hx hb dX0_part_8 ?_
  refine lv_istore_n (lv' := [(3, .int (nI ((8 * c) + 8))), (2, .int (nI (8 * c))), (0, .ref h0), (1, .int (nI c))]) hx hb dX0_part_9 rfl hl (by decide) rfl (fun ls hl => ?_)
  refine lv_iconst (v := nI 0) hx hb dX0_part_10 (by decide) ?_
  refine lv_istore (lv' := [(4, .int (nI 0)), (3, .int (nI ((8 * c) + 8))), (2, .int (nI (8 * c))), (0, .ref h0), (1, .int (nI c))]) hx hb dX0_part_11 hl (by decide) rfl (fun ls hl => ?_)
  refine lv_iconst (v := nI 0) hx hb dX0_part_13 (by decide) ?_
  refine lv_istore (lv' := [(5, .int (nI 0)), (4, .int (nI 0)), (3, .int (nI ((8 * c) + 8))), (2, .int (nI (8 * c))), (0, .ref h0), (1, .int (nI c))]) hx hb dX0_part_14 hl (by decide) rfl (fun ls hl => ?_)
  refine lv_iload_n hx hb dX0_part_16 rfl (lv_at hl 5 rfl) ?_
  refine lv_iconst (v := nI 1) hx hb dX0_part_17 (by decide) ?_
  refine hn_add hx hb dX0_part_18 ?_
  refine lv_istore (lv' := [(6, .int (nI (c + 1))), (5, .int (nI 0)), (4, .int (nI 0)), (3, .int (nI ((8 * c) + 8))), (2, .int (nI (8 * c))), (0, .ref h0), (1, .int (nI c))]) hx hb dX0_part_19 hl (by decide) rfl (fun ls hl => ?_)
  refine lv_iload_n hx hb dX0_part_21 rfl (lv_at hl 6 rfl) ?_
  refine lv_iconst (v := nI 1) hx hb dX0_part_22 (by decide) ?_
  refine hn_add hx hb dX0_part_23 ?_
  refine lv_istore (lv' := [(7, .int (nI (c + 1))), (6, .int (nI (c + 1))), (5, .int (nI 0)), (4, .int (nI 0)), (3, .int (nI ((8 * c) + 8))), (2, .int (nI (8 * c))), (0, .ref h0), (1, .int (nI c))]) hx hb dX0_part_24 hl (by decide) rfl (fun ls hl => ?_)
  refine lv_iconst (v := nI 0) hx hb dX0_part_26 (by decide) ?_
  refine lv_istore (lv' := [(8, .int (nI 0)), (7, .int (nI (c + 1))), (6, .int (nI (c + 1))), (5, .int (nI 0)), (4, .int (nI 0)), (3, .int (nI ((8 * c) + 8))), (2, .int (nI (8 * c))), (0, .ref h0), (1, .int (nI c))]) hx hb dX0_part_27 hl (by decide) rfl (fun ls hl => ?_)
  have hl : lv_has ls 11 [(0, .ref h0), (1, .int (nI c)), (2, .int (nI (8 * c))), (3, .int (nI (8 * c + 8))), (4, .int (nI 0)), (5, .int (nI 0)), (6, .int (nI (c + 1))), (7, .int (nI (c + 1))), (8, .int (nI 0))] := lv_sub hl [7, 8, 6, 5, 4, 3, 2, 1, 0] rfl
  refine W.upS (σ := (Nat → Nat) × (Nat → Nat) × (Nat → Nat) × (Nat → Nat) × Nat × Nat × Nat × Nat) (D := (dC, dI)) (cl := vwCl) (A := A) (H0 := sS.heap) 11 29 (fun i st => match st with | (o1, g1, m1, m2, z, y, sz, so) => [(0, .ref h0), (1, .int (nI c)), (2, .int (nI (8 * c))), (3, .int (nI (8 * c + 8))), (4, .int (nI z)), (5, .int (nI y)), (6, .int (nI sz)), (7, .int (nI so)), (8, .int (nI i))]) (fun st => match st with | (o1, g1, m1, m2, z, y, sz, so) => (XW h0 k1 k2 k3 k4 k5 d0 cnt bu b o1 g1 m1 m2)) (fun i st => match st with | (o1, g1, m1, m2, z, y, sz, so) => PK cnt b o g c i o1 g1 m1 m2 z y sz so) cnt ?_ ?_ 0 (o, g, n1, n2, 0, 0, c + 1, c + 1) (by omega) (PK_0 cnt b o g c n1 n2) hP hD hS hl
  · intro st hk H locs hP hD hS ls hl
    obtain ⟨o1, g1, m1, m2, z, y, sz, so⟩ := st
    have hl : lv_has ls 11 [(0, .ref h0), (1, .int (nI c)), (2, .int (nI (8 * c))), (3, .int (nI (8 * c + 8))), (4, .int (nI z)), (5, .int (nI y)), (6, .int (nI sz)), (7, .int (nI so)), (8, .int (nI cnt))] := hl
    have hk29 : PK cnt b o g c cnt o1 g1 m1 m2 z y sz so := hk
    have hP : va_P (dC, dI) vwCl (XW h0 k1 k2 k3 k4 k5 d0 cnt bu b o1 g1 m1 m2) H := hP
    have hD : va_D A (XW h0 k1 k2 k3 k4 k5 d0 cnt bu b o1 g1 m1 m2) := hD
    refine lv_iload hx hb dX0_part_29 (lv_at hl 8 rfl) ?_
    refine lv_aload_n hx hb dX0_part_31 rfl (lv_at hl 0 rfl) ?_
    refine va_get (D := (dC, dI)) (ci := 0) (v := .int (nI cnt)) (C := RX0) (T := TX0) (N := 7) hx hb hts in_X0 hown hK hP 0 rfl rfl 0 (by decide) (hts _ q35) (fun _ h9 => h9) rfl dX0_part_32 ?_
    refine hn_icmp_ge (tgt := 163) hx hb dX0_part_35 (by decide) (by omega) (by omega) (fun c35 => ?_) (fun c35 => absurd c35 (by omega))
    have hkk := hk29
    obtain ⟨e1, e2, e3, -, -, -, -, -⟩ := hkk
    refine lv_iconst (v := nI 0) hx hb dX0_part_163 (by decide) ?_
    refine lv_istore (lv' := [(8, .int (nI 0)), (0, .ref h0), (1, .int (nI c)), (2, .int (nI (8 * c))), (3, .int (nI (8 * c + 8))), (4, .int (nI z)), (5, .int (nI y)), (6, .int (nI sz)), (7, .int (nI so))]) hx hb dX0_part_164 hl (by decide) rfl (fun ls hl => ?_)
    have hl : lv_has ls 11 [(0, .ref h0), (1, .int (nI c)), (3, .int (nI (8 * c + 8))), (4, .int (nI z)), (5, .int (nI y)), (8, .int (nI 0))] := lv_sub hl [1, 2, 4, 5, 6, 0] rfl
    refine W.upS (σ := (Nat → Nat) × (Nat → Nat)) (D := (dC, dI)) (cl := vwCl) (A := A) (H0 := sS.heap) 11 166 (fun j st => match st with | (o2, g2) => [(0, .ref h0), (1, .int (nI c)), (3, .int (nI (8 * c + 8))), (4, .int (nI z)), (5, .int (nI y)), (8, .int (nI j))]) (fun st => match st with | (o2, g2) => (XW h0 k1 k2 k3 k4 k5 d0 cnt bu b o2 g2 m1 m2)) (fun j st => match st with | (o2, g2) => P2 cnt b o g c z j o2 g2) y ?_ ?_ 0 (o1, g1) (by omega) (P2_0 hk29) hP hD hS hl
    · intro st hk H locs hP hD hS ls hl
      obtain ⟨o2, g2⟩ := st
      have hl : lv_has ls 11 [(0, .ref h0), (1, .int (nI c)), (3, .int (nI (8 * c + 8))), (4, .int (nI z)), (5, .int (nI y)), (8, .int (nI y))] := hl
      have hk166 : P2 cnt b o g c z y o2 g2 := hk
      have hP : va_P (dC, dI) vwCl (XW h0 k1 k2 k3 k4 k5 d0 cnt bu b o2 g2 m1 m2) H := hP
      have hD : va_D A (XW h0 k1 k2 k3 k4 k5 d0 cnt bu b o2 g2 m1 m2) := hD
      refine lv_iload hx hb dX0_part_166 (lv_at hl 5 rfl) ?_
      refine lv_iload hx hb dX0_part_168 (lv_at hl 4 rfl) ?_
      refine hn_icmp_ge (tgt := 217) hx hb dX0_part_170 (by decide) (by omega) (by omega) (fun c170 => ?_) (fun c170 => absurd c170 (by omega))
      exact W.vret hx hb hret (fun t ht hW => ⟨⟨(o2, g2, m1, m2), rfl, PT_of hk29 hk166, by rw [ht]; exact hP, va_K.moved hW.alike hK, hD⟩, hS.F ht⟩) hS.2.2 dX0_part_217
    · intro j st hij hk ih166 H locs hP hD hS ls hl
      obtain ⟨o2, g2⟩ := st
      have hl : lv_has ls 11 [(0, .ref h0), (1, .int (nI c)), (3, .int (nI (8 * c + 8))), (4, .int (nI z)), (5, .int (nI y)), (8, .int (nI j))] := hl
      have hk166 : P2 cnt b o g c z j o2 g2 := hk
      have hP : va_P (dC, dI) vwCl (XW h0 k1 k2 k3 k4 k5 d0 cnt bu b o2 g2 m1 m2) H := hP
      have hD : va_D A (XW h0 k1 k2 k3 k4 k5 d0 cnt bu b o2 g2 m1 m2) := hD
      refine lv_iload hx hb dX0_part_166 (lv_at hl 5 rfl) ?_
      refine lv_iload hx hb dX0_part_168 (lv_at hl 4 rfl) ?_
      refine hn_icmp_ge (tgt := 217) hx hb dX0_part_170 (by decide) (by omega) (by omega) (fun c170 => absurd c170 (by omega)) (fun c170 => ?_)
      refine lv_aload_n hx hb dX0_part_173 rfl (lv_at hl 0 rfl) ?_
      refine va_get (D := (dC, dI)) (ci := 0) (v := .ref k2) (C := RX0) (T := TX0) (N := 7) hx hb hts in_X0 hown hK hP 0 rfl rfl 3 (by decide) (hts _ q38) (fun _ h9 => h9) rfl dX0_part_174 ?_
      refine lv_iload_n hx hb dX0_part_177 rfl (lv_at hl 2 rfl) ?_
      refine lv_iload hx hb dX0_part_178 (lv_at hl 3 rfl) ?_
      refine hn_add hx hb dX0_part_180 ?_
      refine lv_iload hx hb dX0_part_181 (lv_at hl 5 rfl) ?_
      refine hn_add hx hb dX0_part_183 ?_
      refine lv_aload_n hx hb dX0_part_184 rfl (lv_at hl 0 rfl) ?_
      refine va_get (D := (dC, dI)) (ci := 0) (v := .ref k4) (C := RX0) (T := TX0) (N := 7) hx hb hts in_X0 hown hK hP 0 rfl rfl 5 (by decide) (hts _ q40) (fun _ h9 => h9) rfl dX0_part_185 ?_
      refine lv_iload hx hb dX0_part_188 (lv_at hl 5 rfl) ?_
      refine hn_ald hx hb hK hP 4 0 rfl rfl (by omega) (by decide) dX0_part_190 ?_
      refine hn_ast hx hb hK hP hD hS 2 0 rfl rfl (by omega) (by decide) dX0_part_191 (fun H locs hP hD hS => ?_)
      have hP : va_P (dC, dI) vwCl (XW h0 k1 k2 k3 k4 k5 d0 cnt bu b (uN o2 (((8 * c + 8) + z) + j) (m1 j)) g2 m1 m2) H := hP
      have hD : va_D A (XW h0 k1 k2 k3 k4 k5 d0 cnt bu b (uN o2 (((8 * c + 8) + z) + j) (m1 j)) g2 m1 m2) := hD
      refine lv_aload_n hx hb dX0_part_192 rfl (lv_at hl 0 rfl) ?_
      refine va_get (D := (dC, dI)) (ci := 0) (v := .ref k3) (C := RX0) (T := TX0) (N := 7) hx hb hts in_X0 hown hK hP 0 rfl rfl 4 (by decide) (hts _ q39) (fun _ h9 => h9) rfl dX0_part_193 ?_
      refine lv_iload_n hx hb dX0_part_196 rfl (lv_at hl 2 rfl) ?_
      refine lv_iload hx hb dX0_part_197 (lv_at hl 3 rfl) ?_
      refine hn_add hx hb dX0_part_199 ?_
      refine lv_iload hx hb dX0_part_200 (lv_at hl 5 rfl) ?_
      refine hn_add hx hb dX0_part_202 ?_
      refine lv_aload_n hx hb dX0_part_203 rfl (lv_at hl 0 rfl) ?_
      refine va_get (D := (dC, dI)) (ci := 0) (v := .ref k5) (C := RX0) (T := TX0) (N := 7) hx hb hts in_X0 hown hK hP 0 rfl rfl 6 (by decide) (hts _ q41) (fun _ h9 => h9) rfl dX0_part_204 ?_
      refine lv_iload hx hb dX0_part_207 (lv_at hl 5 rfl) ?_
      refine hn_ald hx hb hK hP 5 0 rfl rfl (by omega) (by decide) dX0_part_209 ?_
      refine hn_ast hx hb hK hP hD hS 3 0 rfl rfl (by omega) (by decide) dX0_part_210 (fun H locs hP hD hS => ?_)
      have hP : va_P (dC, dI) vwCl (XW h0 k1 k2 k3 k4 k5 d0 cnt bu b (uN o2 (((8 * c + 8) + z) + j) (m1 j)) (uN g2 (((8 * c + 8) + z) + j) (m2 j)) m1 m2) H := hP
      have hD : va_D A (XW h0 k1 k2 k3 k4 k5 d0 cnt bu b (uN o2 (((8 * c + 8) + z) + j) (m1 j)) (uN g2 (((8 * c + 8) + z) + j) (m2 j)) m1 m2) := hD
      refine lv_iinc (v := nI (j + 1)) (lv' := [(8, .int (nI (j + 1))), (0, .ref h0), (1, .int (nI c)), (3, .int (nI (8 * c + 8))), (4, .int (nI z)), (5, .int (nI y))]) hx hb dX0_part_211 hl (k := 5) rfl (nI_1 _) (by decide) rfl (fun ls hl => ?_)
      refine lv_goto (tgt := 166) hx hb dX0_part_214 (by decide) ?_
      have hl : lv_has ls 11 [(0, .ref h0), (1, .int (nI c)), (3, .int (nI (8 * c + 8))), (4, .int (nI z)), (5, .int (nI y)), (8, .int (nI ((j + 1))))] := lv_sub hl [1, 2, 3, 4, 5, 0] rfl
      exact ih166 (uN o2 (((8 * c + 8) + z) + j) (m1 j), uN g2 (((8 * c + 8) + z) + j) (m2 j)) (P2_s hk29 hk166 hij) _ _ hP hD hS ls hl
  · intro i st hii hk ih29 H locs hP hD hS ls hl
    obtain ⟨o1, g1, m1, m2, z, y, sz, so⟩ := st
    have hl : lv_has ls 11 [(0, .ref h0), (1, .int (nI c)), (2, .int (nI (8 * c))), (3, .int (nI (8 * c + 8))), (4, .int (nI z)), (5, .int (nI y)), (6, .int (nI sz)), (7, .int (nI so)), (8, .int (nI i))] := hl
    have hk29 : PK cnt b o g c i o1 g1 m1 m2 z y sz so := hk
    have hP : va_P (dC, dI) vwCl (XW h0 k1 k2 k3 k4 k5 d0 cnt bu b o1 g1 m1 m2) H := hP
    have hD : va_D A (XW h0 k1 k2 k3 k4 k5 d0 cnt bu b o1 g1 m1 m2) := hD
    have hkk := hk29
    obtain ⟨e1, e2, e3, e4, -, -, e7, e8⟩ := hkk
    have q1 := bg_le b cnt c i
    have q2 : sz ≤ c + 1 := by rw [e7]; exact lsi_le _ _ _ _ _
    have q3 : so ≤ c + 1 := by rw [e8]; exact lsi_le _ _ _ _ _
    have q4 : o1 (8 * c + i) = ro b cnt c i := by rw [(e4 _ (by omega)).1]; exact (hB i hii).1
    have q5 : g1 (8 * c + i) = bg b cnt c i := by rw [(e4 _ (by omega)).2]; exact (hB i hii).2
    have q6 := ro_lt8 (b := b) (c := c) h8 hii
    refine lv_iload hx hb dX0_part_29 (lv_at hl 8 rfl) ?_
    refine lv_aload_n hx hb dX0_part_31 rfl (lv_at hl 0 rfl) ?_
    refine va_get (D := (dC, dI)) (ci := 0) (v := .int (nI cnt)) (C := RX0) (T := TX0) (N := 7) hx hb hts in_X0 hown hK hP 0 rfl rfl 0 (by decide) (hts _ q35) (fun _ h9 => h9) rfl dX0_part_32 ?_
    refine hn_icmp_ge (tgt := 163) hx hb dX0_part_35 (by decide) (by omega) (by omega) (fun c35 => absurd c35 (by omega)) (fun c35 => ?_)
    refine lv_aload_n hx hb dX0_part_38 rfl (lv_at hl 0 rfl) ?_
    refine va_get (D := (dC, dI)) (ci := 0) (v := .ref k2) (C := RX0) (T := TX0) (N := 7) hx hb hts in_X0 hown hK hP 0 rfl rfl 3 (by decide) (hts _ q38) (fun _ h9 => h9) rfl dX0_part_39 ?_
    refine lv_iload_n hx hb dX0_part_42 rfl (lv_at hl 2 rfl) ?_
    refine lv_iload hx hb dX0_part_43 (lv_at hl 8 rfl) ?_
    refine hn_add hx hb dX0_part_45 ?_
    refine hn_ald hx hb hK hP 2 0 rfl rfl (by omega) (by decide) dX0_part_46 ?_
    refine hn_top (y := nI (ro b cnt c i)) (congrArg nI q4) ?_
    refine lv_istore (lv' := [(9, .int (nI (ro b cnt c i))), (0, .ref h0), (1, .int (nI c)), (2, .int (nI (8 * c))), (3, .int (nI (8 * c + 8))), (4, .int (nI z)), (5, .int (nI y)), (6, .int (nI sz)), (7, .int (nI so)), (8, .int (nI i))]) hx hb dX0_part_47 hl (by decide) rfl (fun ls hl => ?_)
    refine lv_aload_n hx hb dX0_part_49 rfl (lv_at hl 1 rfl) ?_
    refine va_get (D := (dC, dI)) (ci := 0) (v := .ref k3) (C := RX0) (T := TX0) (N := 7) hx hb hts in_X0 hown hK hP 0 rfl rfl 4 (by decide) (hts _ q39) (fun _ h9 => h9) rfl dX0_part_50 ?_
    refine lv_iload_n hx hb dX0_part_53 rfl (lv_at hl 3 rfl) ?_
    refine lv_iload hx hb dX0_part_54 (lv_at hl 9 rfl) ?_
    refine hn_add hx hb dX0_part_56 ?_
    refine hn_ald hx hb hK hP 3 0 rfl rfl (by omega) (by decide) dX0_part_57 ?_
    refine hn_top (y := nI (bg b cnt c i)) (congrArg nI q5) ?_
    refine lv_istore (lv' := [(10, .int (nI (bg b cnt c i))), (9, .int (nI (ro b cnt c i))), (0, .ref h0), (1, .int (nI c)), (2, .int (nI (8 * c))), (3, .int (nI (8 * c + 8))), (4, .int (nI z)), (5, .int (nI y)), (6, .int (nI sz)), (7, .int (nI so)), (8, .int (nI i))]) hx hb dX0_part_58 hl (by decide) rfl (fun ls hl => ?_)
    refine lv_iload hx hb dX0_part_60 (lv_at hl 0 rfl) ?_
    refine lv_iload hx hb dX0_part_62 (lv_at hl 8 rfl) ?_
    refine W.jn2 (g := F0 mM 74 ls [.int (nI (if sz < bg b cnt c i then bg b cnt c i else sz))]) (fun J => ?_) ?_
    · refine hn_icmp_le (tgt := 72) hx hb dX0_part_64 (by decide) (by omega) (by omega) (fun c64 => ?_) (fun c64 => ?_)
      · refine lv_iload hx hb dX0_part_72 (lv_at hl 8 rfl) ?_
        have ej : (if sz < bg b cnt c i then bg b cnt c i else sz) = sz := by first | exact if_pos c64 | exact if_neg (Nat.not_lt.mpr c64)
        rw [ej] at J
        exact J
      · refine lv_iload hx hb dX0_part_67 (lv_at hl 0 rfl) ?_
        refine lv_goto (tgt := 74) hx hb dX0_part_69 (by decide) ?_
        have ej : (if sz < bg b cnt c i then bg b cnt c i else sz) = (bg b cnt c i) := by first | exact if_pos c64 | exact if_neg (Nat.not_lt.mpr c64)
        rw [ej] at J
        exact J
    refine lv_istore (lv' := [(6, .int (nI (if sz < bg b cnt c i then bg b cnt c i else sz))), (10, .int (nI (bg b cnt c i))), (9, .int (nI (ro b cnt c i))), (0, .ref h0), (1, .int (nI c)), (2, .int (nI (8 * c))), (3, .int (nI (8 * c + 8))), (4, .int (nI z)), (5, .int (nI y)), (7, .int (nI so)), (8, .int (nI i))]) hx hb dX0_part_74 hl (by decide) rfl (fun ls hl => ?_)
    refine lv_iload hx hb dX0_part_76 (lv_at hl 1 rfl) ?_
    refine lv_iload hx hb dX0_part_78 (lv_at hl 9 rfl) ?_
    refine W.jn2 (g := F0 mM 90 ls [.int (nI (if so < bg b cnt c i then bg b cnt c i else so))]) (fun J => ?_) ?_
    · refine hn_icmp_le (tgt := 88) hx hb dX0_part_80 (by decide) (by omega) (by omega) (fun c80 => ?_) (fun c80 => ?_)
      · refine lv_iload hx hb dX0_part_88 (lv_at hl 9 rfl) ?_
        have ej : (if so < bg b cnt c i then bg b cnt c i else so) = so := by first | exact if_pos c80 | exact if_neg (Nat.not_lt.mpr c80)
        rw [ej] at J
        exact J
      · refine lv_iload hx hb dX0_part_83 (lv_at hl 1 rfl) ?_
        refine lv_goto (tgt := 90) hx hb dX0_part_85 (by decide) ?_
        have ej : (if so < bg b cnt c i then bg b cnt c i else so) = (bg b cnt c i) := by first | exact if_pos c80 | exact if_neg (Nat.not_lt.mpr c80)
        rw [ej] at J
        exact J
    refine lv_istore (lv' := [(7, .int (nI (if so < bg b cnt c i then bg b cnt c i else so))), (6, .int (nI (if sz < bg b cnt c i then bg b cnt c i else sz))), (10, .int (nI (bg b cnt c i))), (9, .int (nI (ro b cnt c i))), (0, .ref h0), (1, .int (nI c)), (2, .int (nI (8 * c))), (3, .int (nI (8 * c + 8))), (4, .int (nI z)), (5, .int (nI y)), (8, .int (nI i))]) hx hb dX0_part_90 hl (by decide) rfl (fun ls hl => ?_)
    refine lv_aload_n hx hb dX0_part_92 rfl (lv_at hl 4 rfl) ?_
    refine lv_iload hx hb dX0_part_93 (lv_at hl 3 rfl) ?_
    refine lv_iload_n hx hb dX0_part_95 rfl (lv_at hl 5 rfl) ?_
    refine vp_callSi (W.runV (As := [.int (nI (ro b cnt c i)), .int (nI c)]) (rest := []) ⟨hx, hb, hml, hown, hts⟩ (metX0_at (ro b cnt c i) c q6 (by omega) hbd) (cwV 2 hts (lw_V q74 q76 qs1 q25 q77) rfl rfl rfl (by decide +kernel) ⟨Nat.le_of_ble_eq_true rfl, Nat.le_of_ble_eq_true rfl⟩) (rd_preX0 hK hP) rfl rfl hl.1 rfl (lv_room (Nat.le_of_ble_eq_true rfl)) dX0_part_96 ⟨Nat.le_of_ble_eq_true rfl, Nat.le_of_ble_eq_true rfl⟩) (fun v hv => ?_)
    subst hv
    refine hn_if_ne (tgt := 133) hx hb dX0_part_99 (by decide) (Nat.lt_trans (bitN_lt _ _) (by decide)) (fun c99 => ?_) (fun c99 => ?_)
    · refine lv_aload_n hx hb dX0_part_133 rfl (lv_at hl 4 rfl) ?_
      refine va_get (D := (dC, dI)) (ci := 0) (v := .ref k4) (C := RX0) (T := TX0) (N := 7) hx hb hts in_X0 hown hK hP 0 rfl rfl 5 (by decide) (hts _ q40) (fun _ h9 => h9) rfl dX0_part_134 ?_
      refine lv_iload hx hb dX0_part_137 (lv_at hl 9 rfl) ?_
      refine lv_iload hx hb dX0_part_139 (lv_at hl 3 rfl) ?_
      refine hn_ast hx hb hK hP hD hS 4 0 rfl rfl (by omega) (by decide) dX0_part_141 (fun H locs hP hD hS => ?_)
      have hP : va_P (dC, dI) vwCl (XW h0 k1 k2 k3 k4 k5 d0 cnt bu b o1 g1 (uN m1 y (ro b cnt c i)) m2) H := hP
      have hD : va_D A (XW h0 k1 k2 k3 k4 k5 d0 cnt bu b o1 g1 (uN m1 y (ro b cnt c i)) m2) := hD
      refine lv_aload_n hx hb dX0_part_142 rfl (lv_at hl 4 rfl) ?_
      refine va_get (D := (dC, dI)) (ci := 0) (v := .ref k5) (C := RX0) (T := TX0) (N := 7) hx hb hts in_X0 hown hK hP 0 rfl rfl 6 (by decide) (hts _ q41) (fun _ h9 => h9) rfl dX0_part_143 ?_
      refine lv_iload hx hb dX0_part_146 (lv_at hl 9 rfl) ?_
      refine lv_iload hx hb dX0_part_148 (lv_at hl 0 rfl) ?_
      refine hn_ast hx hb hK hP hD hS 5 0 rfl rfl (by omega) (by decide) dX0_part_150 (fun H locs hP hD hS => ?_)
      have hP : va_P (dC, dI) vwCl (XW h0 k1 k2 k3 k4 k5 d0 cnt bu b o1 g1 (uN m1 y (ro b cnt c i)) (uN m2 y (if so < bg b cnt c i then bg b cnt c i else so))) H := hP
      have hD : va_D A (XW h0 k1 k2 k3 k4 k5 d0 cnt bu b o1 g1 (uN m1 y (ro b cnt c i)) (uN m2 y (if so < bg b cnt c i then bg b cnt c i else so))) := hD
      refine lv_iinc (v := nI (y + 1)) (lv' := [(5, .int (nI (y + 1))), (7, .int (nI (if so < bg b cnt c i then bg b cnt c i else so))), (6, .int (nI (if sz < bg b cnt c i then bg b cnt c i else sz))), (10, .int (nI (bg b cnt c i))), (9, .int (nI (ro b cnt c i))), (0, .ref h0), (1, .int (nI c)), (2, .int (nI (8 * c))), (3, .int (nI (8 * c + 8))), (4, .int (nI z)), (8, .int (nI i))]) hx hb dX0_part_151 hl (k := 9) rfl (nI_1 _) (by decide) rfl (fun ls hl => ?_)
      refine lv_iconst (v := nI 0) hx hb dX0_part_154 (by decide) ?_
      refine lv_istore (lv' := [(7, .int (nI 0)), (5, .int (nI (y + 1))), (6, .int (nI (if sz < bg b cnt c i then bg b cnt c i else sz))), (10, .int (nI (bg b cnt c i))), (9, .int (nI (ro b cnt c i))), (0, .ref h0), (1, .int (nI c)), (2, .int (nI (8 * c))), (3, .int (nI (8 * c + 8))), (4, .int (nI z)), (8, .int (nI i))]) hx hb dX0_part_155 hl (by decide) rfl (fun ls hl => ?_)
      refine lv_iinc (v := nI (i + 1)) (lv' := [(8, .int (nI (i + 1))), (7, .int (nI 0)), (5, .int (nI (y + 1))), (6, .int (nI (if sz < bg b cnt c i then bg b cnt c i else sz))), (10, .int (nI (bg b cnt c i))), (9, .int (nI (ro b cnt c i))), (0, .ref h0), (1, .int (nI c)), (2, .int (nI (8 * c))), (3, .int (nI (8 * c + 8))), (4, .int (nI z))]) hx hb dX0_part_157 hl (k := 10) rfl (nI_1 _) (by decide) rfl (fun ls hl => ?_)
      refine lv_goto (tgt := 29) hx hb dX0_part_160 (by decide) ?_
      have hl : lv_has ls 11 [(0, .ref h0), (1, .int (nI c)), (2, .int (nI (8 * c))), (3, .int (nI (8 * c + 8))), (4, .int (nI z)), (5, .int (nI (y + 1))), (6, .int (nI (if sz < bg b cnt c i then bg b cnt c i else sz))), (7, .int (nI 0)), (8, .int (nI ((i + 1))))] := lv_sub hl [6, 7, 8, 9, 10, 2, 3, 1, 0] rfl
      exact ih29 (o1, g1, uN m1 y (ro b cnt c i), uN m2 y (if so < bg b cnt c i then bg b cnt c i else so), z, y + 1, if sz < bg b cnt c i then bg b cnt c i else sz, 0) (PK_o hk29 hii c99) _ _ hP hD hS ls hl
    · refine lv_aload_n hx hb dX0_part_102 rfl (lv_at hl 4 rfl) ?_
      refine va_get (D := (dC, dI)) (ci := 0) (v := .ref k2) (C := RX0) (T := TX0) (N := 7) hx hb hts in_X0 hown hK hP 0 rfl rfl 3 (by decide) (hts _ q38) (fun _ h9 => h9) rfl dX0_part_103 ?_
      refine lv_iload_n hx hb dX0_part_106 rfl (lv_at hl 7 rfl) ?_
      refine lv_iload hx hb dX0_part_107 (lv_at hl 8 rfl) ?_
      refine hn_add hx hb dX0_part_109 ?_
      refine lv_iload hx hb dX0_part_110 (lv_at hl 3 rfl) ?_
      refine hn_ast hx hb hK hP hD hS 2 0 rfl rfl (by omega) (by decide) dX0_part_112 (fun H locs hP hD hS => ?_)
      have hP : va_P (dC, dI) vwCl (XW h0 k1 k2 k3 k4 k5 d0 cnt bu b (uN o1 ((8 * c + 8) + z) (ro b cnt c i)) g1 m1 m2) H := hP
      have hD : va_D A (XW h0 k1 k2 k3 k4 k5 d0 cnt bu b (uN o1 ((8 * c + 8) + z) (ro b cnt c i)) g1 m1 m2) := hD
      refine lv_aload_n hx hb dX0_part_113 rfl (lv_at hl 4 rfl) ?_
      refine va_get (D := (dC, dI)) (ci := 0) (v := .ref k3) (C := RX0) (T := TX0) (N := 7) hx hb hts in_X0 hown hK hP 0 rfl rfl 4 (by decide) (hts _ q39) (fun _ h9 => h9) rfl dX0_part_114 ?_
      refine lv_iload_n hx hb dX0_part_117 rfl (lv_at hl 7 rfl) ?_
      refine lv_iload hx hb dX0_part_118 (lv_at hl 8 rfl) ?_
      refine hn_add hx hb dX0_part_120 ?_
      refine lv_iload hx hb dX0_part_121 (lv_at hl 1 rfl) ?_
      refine hn_ast hx hb hK hP hD hS 3 0 rfl rfl (by omega) (by decide) dX0_part_123 (fun H locs hP hD hS => ?_)
      have hP : va_P (dC, dI) vwCl (XW h0 k1 k2 k3 k4 k5 d0 cnt bu b (uN o1 ((8 * c + 8) + z) (ro b cnt c i)) (uN g1 ((8 * c + 8) + z) (if sz < bg b cnt c i then bg b cnt c i else sz)) m1 m2) H := hP
      have hD : va_D A (XW h0 k1 k2 k3 k4 k5 d0 cnt bu b (uN o1 ((8 * c + 8) + z) (ro b cnt c i)) (uN g1 ((8 * c + 8) + z) (if sz < bg b cnt c i then bg b cnt c i else sz)) m1 m2) := hD
      refine lv_iinc (v := nI (z + 1)) (lv' := [(4, .int (nI (z + 1))), (7, .int (nI (if so < bg b cnt c i then bg b cnt c i else so))), (6, .int (nI (if sz < bg b cnt c i then bg b cnt c i else sz))), (10, .int (nI (bg b cnt c i))), (9, .int (nI (ro b cnt c i))), (0, .ref h0), (1, .int (nI c)), (2, .int (nI (8 * c))), (3, .int (nI (8 * c + 8))), (5, .int (nI y)), (8, .int (nI i))]) hx hb dX0_part_124 hl (k := 8) rfl (nI_1 _) (by decide) rfl (fun ls hl => ?_)
      refine lv_iconst (v := nI 0) hx hb dX0_part_127 (by decide) ?_
      refine lv_istore (lv' := [(6, .int (nI 0)), (4, .int (nI (z + 1))), (7, .int (nI (if so < bg b cnt c i then bg b cnt c i else so))), (10, .int (nI (bg b cnt c i))), (9, .int (nI (ro b cnt c i))), (0, .ref h0), (1, .int (nI c)), (2, .int (nI (8 * c))), (3, .int (nI (8 * c + 8))), (5, .int (nI y)), (8, .int (nI i))]) hx hb dX0_part_128 hl (by decide) rfl (fun ls hl => ?_)
      refine lv_goto (tgt := 157) hx hb dX0_part_130 (by decide) ?_
      refine lv_iinc (v := nI (i + 1)) (lv' := [(8, .int (nI (i + 1))), (6, .int (nI 0)), (4, .int (nI (z + 1))), (7, .int (nI (if so < bg b cnt c i then bg b cnt c i else so))), (10, .int (nI (bg b cnt c i))), (9, .int (nI (ro b cnt c i))), (0, .ref h0), (1, .int (nI c)), (2, .int (nI (8 * c))), (3, .int (nI (8 * c + 8))), (5, .int (nI y))]) hx hb dX0_part_157 hl (k := 10) rfl (nI_1 _) (by decide) rfl (fun ls hl => ?_)
      refine lv_goto (tgt := 29) hx hb dX0_part_160 (by decide) ?_
      have hl : lv_has ls 11 [(0, .ref h0), (1, .int (nI c)), (2, .int (nI (8 * c))), (3, .int (nI (8 * c + 8))), (4, .int (nI (z + 1))), (5, .int (nI y)), (6, .int (nI 0)), (7, .int (nI (if so < bg b cnt c i then bg b cnt c i else so))), (8, .int (nI ((i + 1))))] := lv_sub hl [6, 7, 8, 9, 2, 10, 1, 3, 0] rfl
      exact ih29 (uN o1 ((8 * c + 8) + z) (ro b cnt c i), uN g1 ((8 * c + 8) + z) (if sz < bg b cnt c i then bg b cnt c i else sz), m1, m2, z + 1, y, 0, if so < bg b cnt c i then bg b cnt c i else so) (PK_z hk29 hii c99) _ _ hP hD hS ls hl

set_option maxHeartbeats 4000000 in
set_option maxRecDepth 100000 in
theorem metX0_build {l : Launch} {dC : Nat → ClassId} {dI : Nat → Nat → Nat} {h0 k1 k2 k3 k4 k5 : Nat} {d0 : ClassId} {cnt bu : Nat} {b o g n1 n2 : Nat → Nat} {sz : Nat}  (h8 : cnt ≤ 8) (hbd : ∀ k, b k < 4096) (hbt : okB cnt bu b o g) : Met l yX0_build (ws_ yX0_build cX0_build 2 none) (rmk 2) (wrP (dC, dI) [(d0, .int)] (XW h0 k1 k2 k3 k4 k5 d0 cnt bu b o g n1 n2) sz [.ref h0]) (va_Qv (fun (u : (Nat → Nat) × (Nat → Nat) × (Nat → Nat) × (Nat → Nat)) => Bt cnt b u.1 u.2.1) (fun u t => va_P (dC, dI) vwCl (XW h0 k1 k2 k3 k4 k5 d0 cnt 1 b u.1 u.2.1 u.2.2.1 u.2.2.2) t.heap ∧ va_K (dC, dI) vwCl [(d0, .int)] t ∧ va_D (va_A (XW h0 k1 k2 k3 k4 k5 d0 cnt bu b o g n1 n2) sz) (XW h0 k1 k2 k3 k4 k5 d0 cnt 1 b u.1 u.2.1 u.2.2.1 u.2.2.2)) (va_A (XW h0 k1 k2 k3 k4 k5 d0 cnt bu b o g n1 n2) sz)) 0 0 (va_A (XW h0 k1 k2 k3 k4 k5 d0 cnt bu b o g n1 n2) sz) := by
  refine Met.ofW (cc := cX0_build) (maxL := 2) (ret := none) (by decide) rfl ?_
  intro pP eE sS mM args below meth cC s₁ B hml hv
  obtain ⟨rfl, hsz, hP, hK, hD0⟩ := hv
  have hx := B.exec
  have hb := B.bytes
  have hret := B.returns
  have hts := atoms_spec (ws := ws_ yX0_build cX0_build 2 none) B.pre
  have hts : ∀ w ∈ lw_all, w.before _ sS = true := fun w h => hts w (List.mem_cons_of_mem _ h)
  have hown : sS.vm.findClass RX0 = some mM.cls := findClass_of_methodNamed B.named
  have hlocks := B.notSynchronized
  subst hsz
  have hD := hD0.self (sz := sS.heap.size)
  generalize hAe : va_A (XW h0 k1 k2 k3 k4 k5 d0 cnt bu b o g n1 n2) sS.heap.size = A at hD ⊢
  have hA : ∀ q : Nat, sS.heap.size ≤ q → A q := fun q h => by rw [← hAe]; exact Or.inr h
  clear hAe
  have hS : va_S A sS.heap sS.heap [] := va_S.rf
  have hl := lv_entry ([.ref h0]) (n := 2) (Nat.le_of_ble_eq_true rfl)
  rw [lg_entry_eq]
  generalize (lg_sl ([.ref h0]) ++ List.replicate (2 - (lg_sl ([.ref h0])).length) Slot.unset).toArray = ls at hl ⊢
  have hl : lv_has ls 2 [(0, .ref h0)] := hl
  refine lv_aload_n hx hb dX0_build_0 rfl (lv_at hl 0 rfl) ?_
  refine va_get (D := (dC, dI)) (ci := 0) (v := .int (nI bu)) (C := RX0) (T := TX0) (N := 7) hx hb hts in_X0 hown hK hP 0 rfl rfl 2 (by decide) (hts _ q37) (fun _ h9 => h9) rfl dX0_build_1 ?_
  refine hn_if_eq (tgt := 8) hx hb dX0_build_4 (by decide) (by rcases hbt with z | z <;> omega) (fun c4 => ?_) (fun c4 => ?_)
  · refine lv_iconst (v := nI 0) hx hb dX0_build_8 (by decide) ?_
    refine lv_istore_n (lv' := [(1, .int (nI 0)), (0, .ref h0)]) hx hb dX0_build_9 rfl hl (by decide) rfl (fun ls hl => ?_)
    have hl : lv_has ls 2 [(0, .ref h0), (1, .int (nI 0))] := lv_sub hl [1, 0] rfl
    refine W.upS (σ := (Nat → Nat) × (Nat → Nat)) (D := (dC, dI)) (cl := vwCl) (A := A) (H0 := sS.heap) 2 10 (fun i st => match st with | (o1, g1) => [(0, .ref h0), (1, .int (nI i))]) (fun st => match st with | (o1, g1) => (XW h0 k1 k2 k3 k4 k5 d0 cnt bu b o1 g1 n1 n2)) (fun i st => match st with | (o1, g1) => ∀ j, j < i → o1 j = j ∧ g1 j = 0) cnt ?_ ?_ 0 (o, g) (by omega) (fun j h => absurd h (Nat.not_lt_zero j)) hP hD hS hl
    · intro st hk H locs hP hD hS ls hl
      obtain ⟨o1, g1⟩ := st
      have hl : lv_has ls 2 [(0, .ref h0), (1, .int (nI cnt))] := hl
      have hk10 : ∀ j, j < cnt → o1 j = j ∧ g1 j = 0 := hk
      have hP : va_P (dC, dI) vwCl (XW h0 k1 k2 k3 k4 k5 d0 cnt bu b o1 g1 n1 n2) H := hP
      have hD : va_D A (XW h0 k1 k2 k3 k4 k5 d0 cnt bu b o1 g1 n1 n2) := hD
      refine lv_iload_n hx hb dX0_build_10 rfl (lv_at hl 1 rfl) ?_
      refine lv_aload_n hx hb dX0_build_11 rfl (lv_at hl 0 rfl) ?_
      refine va_get (D := (dC, dI)) (ci := 0) (v := .int (nI cnt)) (C := RX0) (T := TX0) (N := 7) hx hb hts in_X0 hown hK hP 0 rfl rfl 0 (by decide) (hts _ q35) (fun _ h9 => h9) rfl dX0_build_12 ?_
      refine hn_icmp_ge (tgt := 38) hx hb dX0_build_15 (by decide) (by omega) (by omega) (fun c15 => ?_) (fun c15 => absurd c15 (by omega))
      refine lv_iconst (v := nI 0) hx hb dX0_build_38 (by decide) ?_
      refine lv_istore_n (lv' := [(1, .int (nI 0)), (0, .ref h0)]) hx hb dX0_build_39 rfl hl (by decide) rfl (fun ls hl => ?_)
      have hl : lv_has ls 2 [(0, .ref h0), (1, .int (nI 0))] := lv_sub hl [1, 0] rfl
      refine W.upS (σ := (Nat → Nat) × (Nat → Nat) × (Nat → Nat) × (Nat → Nat)) (D := (dC, dI)) (cl := vwCl) (A := A) (H0 := sS.heap) 2 40 (fun c st => match st with | (o2, g2, m1, m2) => [(0, .ref h0), (1, .int (nI c))]) (fun st => match st with | (o2, g2, m1, m2) => (XW h0 k1 k2 k3 k4 k5 d0 cnt bu b o2 g2 m1 m2)) (fun c st => match st with | (o2, g2, m1, m2) => ∀ c', c' ≤ c → Bc cnt b o2 g2 c') 12 ?_ ?_ 0 (o1, g1, n1, n2) (by omega) (Bc_0 hk10) hP hD hS hl
      · intro st hk H locs hP hD hS ls hl
        obtain ⟨o2, g2, m1, m2⟩ := st
        have hl : lv_has ls 2 [(0, .ref h0), (1, .int (nI 12))] := hl
        have hk40 : ∀ c', c' ≤ 12 → Bc cnt b o2 g2 c' := hk
        have hP : va_P (dC, dI) vwCl (XW h0 k1 k2 k3 k4 k5 d0 cnt bu b o2 g2 m1 m2) H := hP
        have hD : va_D A (XW h0 k1 k2 k3 k4 k5 d0 cnt bu b o2 g2 m1 m2) := hD
        refine lv_iload_n hx hb dX0_build_40 rfl (lv_at hl 1 rfl) ?_
        refine lv_bipush (v := nI 12) hx hb dX0_build_41 (by decide) ?_
        refine hn_icmp_ge (tgt := 57) hx hb dX0_build_43 (by decide) (by omega) (by omega) (fun c43 => ?_) (fun c43 => absurd c43 (by omega))
        refine lv_aload_n hx hb dX0_build_57 rfl (lv_at hl 0 rfl) ?_
        refine lv_iconst (v := nI 1) hx hb dX0_build_58 (by decide) ?_
        refine va_put (D := (dC, dI)) (ci := 0) (v := .int (nI 1)) (ty := .boolean) (C := RX0) (T := TX0) (N := 7) hx hb hts in_X0 tyX0 tyX0_ok nmX0 hown hK hP hD hS 0 rfl rfl 2 (by decide) (hts _ q37) (fun _ h9 => h9) rfl (by decide +kernel) rfl rfl (Nat.le_of_ble_eq_true rfl) dX0_build_59 (fun H locs hP hD hS => ?_)
        have hP : va_P (dC, dI) vwCl (XW h0 k1 k2 k3 k4 k5 d0 cnt 1 b o2 g2 m1 m2) H := hP
        have hD : va_D A (XW h0 k1 k2 k3 k4 k5 d0 cnt 1 b o2 g2 m1 m2) := hD
        exact W.vret hx hb hret (fun t ht hW => ⟨⟨(o2, g2, m1, m2), rfl, hk40, by rw [ht]; exact hP, va_K.moved hW.alike hK, hD⟩, hS.F ht⟩) hS.2.2 dX0_build_62
      · intro c st hic hk ih40 H locs hP hD hS ls hl
        obtain ⟨o2, g2, m1, m2⟩ := st
        have hl : lv_has ls 2 [(0, .ref h0), (1, .int (nI c))] := hl
        have hk40 : ∀ c', c' ≤ c → Bc cnt b o2 g2 c' := hk
        have hP : va_P (dC, dI) vwCl (XW h0 k1 k2 k3 k4 k5 d0 cnt bu b o2 g2 m1 m2) H := hP
        have hD : va_D A (XW h0 k1 k2 k3 k4 k5 d0 cnt bu b o2 g2 m1 m2) := hD
        refine lv_iload_n hx hb dX0_build_40 rfl (lv_at hl 1 rfl) ?_
        refine lv_bipush (v := nI 12) hx hb dX0_build_41 (by decide) ?_
        refine hn_icmp_ge (tgt := 57) hx hb dX0_build_43 (by decide) (by omega) (by omega) (fun c43 => absurd c43 (by omega)) (fun c43 => ?_)
        refine lv_aload_n hx hb dX0_build_46 rfl (lv_at hl 0 rfl) ?_
        refine lv_iload_n hx hb dX0_build_47 rfl (lv_at hl 1 rfl) ?_
        have hFc := va_free (wc := (XW h0 k1 k2 k3 k4 k5 d0 cnt bu b o2 g2 m1 m2)) hD hS hA [0, 1, 2, 3, 4, 5] rfl
        refine va_callv (va_runV (As := [.int (nI c)]) (rest := []) ⟨hx, hb, hml, hown, hts⟩ (metX0_part c h8 hic hbd (hk40 c (Nat.le_refl _))) (cwV 1 hts (lw_V q94 q96 qs4 q25 q97) rfl rfl rfl (by decide +kernel) ⟨Nat.le_of_ble_eq_true rfl, Nat.le_of_ble_eq_true rfl⟩) (wr_preX0 hK hP hD) rfl rfl hl.1 rfl (lv_room (Nat.le_of_ble_eq_true rfl)) dX0_build_48 ⟨Nat.le_of_ble_eq_true rfl, Nat.le_of_ble_eq_true rfl⟩) hS (fun q _ h => hFc q h) hFc (fun u t H locs ht hvm hw hB9 hz1 hk1 hS => ?_)
        obtain ⟨hP, hK9, hD9⟩ := hB9
        rw [ht] at hP
        have hD := hD9.weaken (fun k q _ h => hFc q.1 h)
        obtain ⟨o3, g3, m3, m4⟩ := u
        have hP : va_P (dC, dI) vwCl (XW h0 k1 k2 k3 k4 k5 d0 cnt bu b o3 g3 m3 m4) H := hP
        have hD : va_D A (XW h0 k1 k2 k3 k4 k5 d0 cnt bu b o3 g3 m3 m4) := hD
        have hw : PT cnt b o2 g2 c o3 g3 := hw
        refine lv_iinc (v := nI (c + 1)) (lv' := [(1, .int (nI (c + 1))), (0, .ref h0)]) hx hb dX0_build_51 hl (k := 1) rfl (nI_1 _) (by decide) rfl (fun ls hl => ?_)
        refine lv_goto (tgt := 40) hx hb dX0_build_54 (by decide) ?_
        have hl : lv_has ls 2 [(0, .ref h0), (1, .int (nI ((c + 1))))] := lv_sub hl [1, 0] rfl
        exact ih40 (o3, g3, m3, m4) (Bc_more h8 hk40 hw) _ _ hP hD hS ls hl
    · intro i st hii hk ih10 H locs hP hD hS ls hl
      obtain ⟨o1, g1⟩ := st
      have hl : lv_has ls 2 [(0, .ref h0), (1, .int (nI i))] := hl
      have hk10 : ∀ j, j < i → o1 j = j ∧ g1 j = 0 := hk
      have hP : va_P (dC, dI) vwCl (XW h0 k1 k2 k3 k4 k5 d0 cnt bu b o1 g1 n1 n2) H := hP
      have hD : va_D A (XW h0 k1 k2 k3 k4 k5 d0 cnt bu b o1 g1 n1 n2) := hD
      refine lv_iload_n hx hb dX0_build_10 rfl (lv_at hl 1 rfl) ?_
      refine lv_aload_n hx hb dX0_build_11 rfl (lv_at hl 0 rfl) ?_
      refine va_get (D := (dC, dI)) (ci := 0) (v := .int (nI cnt)) (C := RX0) (T := TX0) (N := 7) hx hb hts in_X0 hown hK hP 0 rfl rfl 0 (by decide) (hts _ q35) (fun _ h9 => h9) rfl dX0_build_12 ?_
      refine hn_icmp_ge (tgt := 38) hx hb dX0_build_15 (by decide) (by omega) (by omega) (fun c15 => absurd c15 (by omega)) (fun c15 => ?_)
      refine lv_aload_n hx hb dX0_build_18 rfl (lv_at hl 0 rfl) ?_
      refine va_get (D := (dC, dI)) (ci := 0) (v := .ref k2) (C := RX0) (T := TX0) (N := 7) hx hb hts in_X0 hown hK hP 0 rfl rfl 3 (by decide) (hts _ q38) (fun _ h9 => h9) rfl dX0_build_19 ?_
      refine lv_iload_n hx hb dX0_build_22 rfl (lv_at hl 1 rfl) ?_
      refine lv_iload_n hx hb dX0_build_23 rfl (lv_at hl 1 rfl) ?_
      refine hn_ast hx hb hK hP hD hS 2 0 rfl rfl (by omega) (by decide) dX0_build_24 (fun H locs hP hD hS => ?_)
      have hP : va_P (dC, dI) vwCl (XW h0 k1 k2 k3 k4 k5 d0 cnt bu b (uN o1 i i) g1 n1 n2) H := hP
      have hD : va_D A (XW h0 k1 k2 k3 k4 k5 d0 cnt bu b (uN o1 i i) g1 n1 n2) := hD
      refine lv_aload_n hx hb dX0_build_25 rfl (lv_at hl 0 rfl) ?_
      refine va_get (D := (dC, dI)) (ci := 0) (v := .ref k3) (C := RX0) (T := TX0) (N := 7) hx hb hts in_X0 hown hK hP 0 rfl rfl 4 (by decide) (hts _ q39) (fun _ h9 => h9) rfl dX0_build_26 ?_
      refine lv_iload_n hx hb dX0_build_29 rfl (lv_at hl 1 rfl) ?_
      refine lv_iconst (v := nI 0) hx hb dX0_build_30 (by decide) ?_
      refine hn_ast hx hb hK hP hD hS 3 0 rfl rfl (by omega) (by decide) dX0_build_31 (fun H locs hP hD hS => ?_)
      have hP : va_P (dC, dI) vwCl (XW h0 k1 k2 k3 k4 k5 d0 cnt bu b (uN o1 i i) (uN g1 i 0) n1 n2) H := hP
      have hD : va_D A (XW h0 k1 k2 k3 k4 k5 d0 cnt bu b (uN o1 i i) (uN g1 i 0) n1 n2) := hD
      refine lv_iinc (v := nI (i + 1)) (lv' := [(1, .int (nI (i + 1))), (0, .ref h0)]) hx hb dX0_build_32 hl (k := 1) rfl (nI_1 _) (by decide) rfl (fun ls hl => ?_)
      refine lv_goto (tgt := 10) hx hb dX0_build_35 (by decide) ?_
      have hl : lv_has ls 2 [(0, .ref h0), (1, .int (nI ((i + 1))))] := lv_sub hl [1, 0] rfl
      exact ih10 (uN o1 i i, uN g1 i 0) (fun j hj => by by_cases z : j = i; (subst z; rw [uN_s, uN_s]; exact ⟨rfl, rfl⟩); (rw [uN_n z, uN_n z]; exact hk10 j (by omega))) _ _ hP hD hS ls hl
  · obtain ⟨rfl, hB⟩ := hbt.resolve_left c4
    exact W.vret hx hb hret (fun t ht hW => ⟨⟨(o, g, n1, n2), rfl, hB, by rw [ht]; exact hP, va_K.moved hW.alike hK, hD⟩, hS.F ht⟩) hS.2.2 dX0_build_7
end
section
/-! PURE: having and fit over the order -/
theorem div_bit (x a k i : Nat) : (x / 2 ^ a % 2 ^ k).testBit i = (decide (i < k) && decide (bitN x (a + i) = 1)) := by
  rw [Nat.testBit_mod_two_pow, Nat.testBit_div_two_pow, bitN_test, Nat.add_comm i a]
theorem HQ_AF {b : Nat → Nat} {r s a k : Nat} : AF b r s (a + k) ≤ a ↔ b r / 2 ^ a % 2 ^ k = b s / 2 ^ a % 2 ^ k := by
  unfold AF
  rw [AFv_iff]
  constructor
  · intro h
    apply Nat.eq_of_testBit_eq
    intro i
    rw [div_bit, div_bit]
    by_cases hi : i < k
    · rw [h (a + i) (by omega) (by omega)]
    · simp [hi]
  · intro h j h1 h2
    have := congrArg (fun z => z.testBit (j - a)) h
    simp only [div_bit] at this
    rw [show a + (j - a) = j by omega, decide_eq_true (show j - a < k by omega)] at this
    have e1 := bitN_01 (b r) j
    have e2 := bitN_01 (b s) j
    rcases e1 with e1 | e1 <;> rcases e2 with e2 | e2 <;> simp [e1, e2] at this ⊢
def hq (b : Nat → Nat) (n a k y i : Nat) : Bool := HQ b a k y (ro b n (a + k) i)
def hin (b : Nat → Nat) (n a k y i : Nat) : Bool := decide (0 < i) && hq b n a k y (i - 1)
theorem hin_s (b : Nat → Nat) (n a k y i : Nat) : hin b n a k y (i + 1) = hq b n a k y i := by
  unfold hin
  simp
theorem hv_in {b : Nat → Nat} {n a k y i : Nat} (h : hin b n a k y i = true) : hq b n a k y i = decide (bg b n (a + k) i ≤ a) := by
  unfold hin at h
  simp only [Bool.and_eq_true, decide_eq_true_eq] at h
  obtain ⟨h0, h1⟩ := h
  have h1 : b (ro b n (a + k) (i - 1)) / 2 ^ a % 2 ^ k = y % 2 ^ k := of_decide_eq_true h1
  unfold bg
  rw [if_neg (by omega)]
  unfold hq HQ
  apply bN_dec
  rw [HQ_AF, h1]
  exact eq_comm
theorem hv_out {b : Nat → Nat} {n a k y i : Nat} (hi : i < n) (h : hin b n a k y i = false) (h2 : cN (hq b n a k y) i ≠ 0) : hq b n a k y i = false := by
  -- an earlier row has them, the one just before doesn't: then this one doesn't
  have hex : ∃ j, j < i ∧ hq b n a k y j = true := by
    have key : ∀ m, cN (hq b n a k y) m ≠ 0 → ∃ j, j < m ∧ hq b n a k y j = true := by
      intro m
      induction m with
      | zero => intro z; exact absurd rfl z
      | succ m ih =>
        intro z
        simp only [cN] at z
        cases e : hq b n a k y m
        · rw [e] at z
          obtain ⟨j, h1, h2⟩ := ih (by simpa [bN] using z)
          exact ⟨j, by omega, h2⟩
        · exact ⟨m, by omega, e⟩
    exact key i h2
  obtain ⟨j, hj, ej⟩ := hex
  cases e : hq b n a k y i
  · rfl
  · exfalso
    have e1 : b (ro b n (a + k) j) / 2 ^ a % 2 ^ k = y % 2 ^ k := of_decide_eq_true ej
    have e2 : b (ro b n (a + k) i) / 2 ^ a % 2 ^ k = y % 2 ^ k := of_decide_eq_true e
    have hle : AF b (ro b n (a + k) j) (ro b n (a + k) i) (a + k) ≤ a := HQ_AF.mpr (e1.trans e2.symm)
    have hu := ro_ult (b := b) (n := n) (c := a + k) (i := j) (j := i - 1) (k := i) (by omega) (by omega) hi
    have hle2 : AF b (ro b n (a + k) j) (ro b n (a + k) (i - 1)) (a + k) ≤ a := by omega
    have e3 := HQ_AF.mp hle2
    have : hin b n a k y i = true := by
      unfold hin hq HQ
      rw [decide_eq_true (show 0 < i by omega), decide_eq_true (e3.symm.trans e1)]
      rfl
    rw [this] at h
    cases h
theorem hq_cN (b : Nat → Nat) (n a k y : Nat) : cN (hq b n a k y) n = cN (HQ b a k y) n := cN_ro (HQ b a k y) b n (a + k)
/-- fit: how many rows come before -/
def fpl (b : Nat → Nat) (n c y : Nat) : Nat → Nat
  | 0 => 0
  | i + 1 => cond (LTv (b (ro b n c i)) y c) (i + 1) (fpl b n c y i)
theorem fpl_le (b : Nat → Nat) (n c y : Nat) : ∀ i, fpl b n c y i ≤ i
  | 0 => Nat.le_refl _
  | i + 1 => by
    simp only [fpl]
    have := fpl_le b n c y i
    cases LTv (b (ro b n c i)) y c <;> simp <;> omega
theorem fpl_sp (b : Nat → Nat) (n c y : Nat) : ∀ i, (0 < fpl b n c y i → LTv (b (ro b n c (fpl b n c y i - 1))) y c = true) ∧ ∀ j, fpl b n c y i ≤ j → j < i → LTv (b (ro b n c j)) y c = false
  | 0 => ⟨fun h => absurd h (Nat.lt_irrefl 0), fun j _ h => absurd h (Nat.not_lt_zero j)⟩
  | i + 1 => by
    obtain ⟨h1, h2⟩ := fpl_sp b n c y i
    simp only [fpl]
    cases e : LTv (b (ro b n c i)) y c
    · refine ⟨h1, fun j a1 a2 => ?_⟩
      by_cases z : j = i
      · rw [z]; exact e
      · exact h2 j a1 (by omega)
    · refine ⟨fun _ => ?_, fun j a1 a2 => ?_⟩
      · show LTv (b (ro b n c (i + 1 - 1))) y c = true
        exact e
      · have a1 : i + 1 ≤ j := a1
        omega
theorem fit_eq {b : Nat → Nat} {n c y p : Nat} (hp : p = fpl b n c y n) :
    (if (if p < n then c - AFv (b (ro b n c p)) y c else 0) < (if 0 < p then c - AFv (b (ro b n c (p - 1))) y c else 0) then (if 0 < p then c - AFv (b (ro b n c (p - 1))) y c else 0) else (if p < n then c - AFv (b (ro b n c p)) y c else 0)) = mx (fun r => c - AFv (b r) y c) n := by
  have hle : p ≤ n := by rw [hp]; exact fpl_le b n c y n
  obtain ⟨s1, s2⟩ := fpl_sp b n c y n
  rw [← hp] at s1 s2
  apply Nat.le_antisymm
  · have hU : (if 0 < p then c - AFv (b (ro b n c (p - 1))) y c else 0) ≤ mx (fun r => c - AFv (b r) y c) n := by
      split
      · exact mx_ge (f := fun r => c - AFv (b r) y c) (ro_lt (by omega))
      · exact Nat.zero_le _
    have hDn : (if p < n then c - AFv (b (ro b n c p)) y c else 0) ≤ mx (fun r => c - AFv (b r) y c) n := by
      split
      · exact mx_ge (f := fun r => c - AFv (b r) y c) (ro_lt (by omega))
      · exact Nat.zero_le _
    generalize (if 0 < p then c - AFv (b (ro b n c (p - 1))) y c else 0) = U at hU ⊢
    generalize (if p < n then c - AFv (b (ro b n c p)) y c else 0) = Dn at hDn ⊢
    split <;> omega
  · refine mx_K (fun r hr => ?_)
    obtain ⟨j, hj, rfl⟩ := ro_sur (b := b) (c := c) hr
    have hor : c - AFv (b (ro b n c j)) y c ≤ (if 0 < p then c - AFv (b (ro b n c (p - 1))) y c else 0) ∨ c - AFv (b (ro b n c j)) y c ≤ (if p < n then c - AFv (b (ro b n c p)) y c else 0) := by
      by_cases z : j < p
      · left
        rw [if_pos (by omega)]
        have hl := LTv_le (s1 (by omega))
        by_cases e : j = p - 1
        · rw [e]; exact Nat.le_refl _
        · have hu := LEv_ult (LTb_le (ro_ord (b := b) (n := n) (c := c) (i := j) (j := p - 1) (by omega) (by omega))) hl
          rw [hu]
          omega
      · right
        rw [if_pos (by omega)]
        have hl := LTv_nle (s2 p (Nat.le_refl _) (by omega))
        by_cases e : j = p
        · rw [e]; exact Nat.le_refl _
        · have hu := LEv_ult hl (LTb_le (ro_ord (b := b) (n := n) (c := c) (i := p) (j := j) (by omega) (by omega)))
          rw [AFv_comm (b (ro b n c j)) y c, hu, AFv_comm y (b (ro b n c p)) c]
          omega
    generalize (if 0 < p then c - AFv (b (ro b n c (p - 1))) y c else 0) = U at hor ⊢
    generalize (if p < n then c - AFv (b (ro b n c p)) y c else 0) = Dn at hor ⊢
    split <;> omega
theorem cv_bd {b : Nat → Nat} {n r col t : Nat} (h : col + t ≤ 12) : mx (cvT b n r col) t < 2147483648 := Nat.lt_of_le_of_lt (mx_K (B := 24) (fun i hi => by have := cvT_le (b := b) (n := n) (r := r) (col := col) (t := i); omega)) (by decide)
end
section
set_option maxHeartbeats 4000000 in
set_option maxRecDepth 100000 in
theorem metX0_ordered {l : Launch} {dC : Nat → ClassId} {dI : Nat → Nat → Nat} {h0 k1 k2 k3 k4 k5 : Nat} {d0 : ClassId} {cnt bu : Nat} {b o g n1 n2 : Nat → Nat} {sz : Nat} (p0 p1 : Int32) (h8 : cnt ≤ 8) (hbd : ∀ k, b k < 4096) (hbt : okB cnt bu b o g) : Met l yX0_ordered (ws_ yX0_ordered cX0_ordered 3 (some .int)) (rmk 3) (wrP (dC, dI) [(d0, .int)] (XW h0 k1 k2 k3 k4 k5 d0 cnt bu b o g n1 n2) sz [.ref h0, .int p0, .int p1]) (va_Qi (fun r (_ : Unit) => r = S_ord cnt b p0 p1) (fun _ t => XB (dC, dI) h0 k1 k2 k3 k4 k5 d0 (va_A (XW h0 k1 k2 k3 k4 k5 d0 cnt bu b o g n1 n2) sz) cnt b t) (va_A (XW h0 k1 k2 k3 k4 k5 d0 cnt bu b o g n1 n2) sz)) 0 0 (va_A (XW h0 k1 k2 k3 k4 k5 d0 cnt bu b o g n1 n2) sz) := by
  refine Met.ofW (cc := cX0_ordered) (maxL := 3) (ret := (some .int)) (by decide) rfl ?_
  intro pP eE sS mM args below meth cC s₁ B hml hv
  obtain ⟨rfl, hsz, hP, hK, hD0⟩ := hv
  have hx := B.exec
  have hb := B.bytes
  have hret := B.returns
  have hts := atoms_spec (ws := ws_ yX0_ordered cX0_ordered 3 (some .int)) B.pre
  have hts : ∀ w ∈ lw_all, w.before _ sS = true := fun w h => hts w (List.mem_cons_of_mem _ h)
  have hown : sS.vm.findClass RX0 = some mM.cls := findClass_of_methodNamed B.named
  have hlocks := B.notSynchronized
  subst hsz
  have hD := hD0.self (sz := sS.heap.size)
  generalize hAe : va_A (XW h0 k1 k2 k3 k4 k5 d0 cnt bu b o g n1 n2) sS.heap.size = A at hD ⊢
  have hA : ∀ q : Nat, sS.heap.size ≤ q → A q := fun q h => by rw [← hAe]; exact Or.inr h
  clear hAe
  have hS : va_S A sS.heap sS.heap [] := va_S.rf
  have hl := lv_entry ([.ref h0, .int p0, .int p1]) (n := 3) (Nat.le_of_ble_eq_true rfl)
  rw [lg_entry_eq]
  generalize (lg_sl ([.ref h0, .int p0, .int p1]) ++ List.replicate (3 - (lg_sl ([.ref h0, .int p0, .int p1])).length) Slot.unset).toArray = ls at hl ⊢
  have hl : lv_has ls 3 [(0, .ref h0), (1, .int p0), (2, .int p1)] := hl
  refine lv_aload_n hx hb dX0_ordered_0 rfl (lv_at hl 0 rfl) ?_
  refine lv_iload_n hx hb dX0_ordered_1 rfl (lv_at hl 1 rfl) ?_
  refine lv_iload_n hx hb dX0_ordered_2 rfl (lv_at hl 2 rfl) ?_
  refine vp_callSi (W.runV (As := [.int p0, .int p1]) (rest := []) ⟨hx, hb, hml, hown, hts⟩ (metX0_noPlace p0 p1 h8) (cwV 2 hts (lw_V q86 q88 qs2 q25 q89) rfl rfl rfl (by decide +kernel) ⟨Nat.le_of_ble_eq_true rfl, Nat.le_of_ble_eq_true rfl⟩) (rd_preX0 hK hP) rfl rfl hl.1 rfl (lv_room (Nat.le_of_ble_eq_true rfl)) dX0_ordered_3 ⟨Nat.le_of_ble_eq_true rfl, Nat.le_of_ble_eq_true rfl⟩) (fun v hv => ?_)
  subst hv
  refine hn_ifB_eq (tgt := 12) hx hb dX0_ordered_6 (by decide) (fun c6 => ?_) (fun c6 => ?_)
  · have c6 : inCol p0 = true ∧ inRow cnt p1 = true := by simpa using c6
    obtain ⟨c, hc, rfl⟩ := inCol_of c6.1
    obtain ⟨i, hi, hi31, rfl⟩ := inRow_of c6.2
    refine lv_aload_n hx hb dX0_ordered_12 rfl (lv_at hl 0 rfl) ?_
    have hFc := va_free (wc := (XW h0 k1 k2 k3 k4 k5 d0 cnt bu b o g n1 n2)) hD hS hA [0, 1, 2, 3, 4, 5] rfl
    refine va_callv (va_runV (As := []) (rest := []) ⟨hx, hb, hml, hown, hts⟩ (metX0_build h8 hbd hbt) (cwV 0 hts (lw_V q90 q92 qs3 q25 q93) rfl rfl rfl (by decide +kernel) ⟨Nat.le_of_ble_eq_true rfl, Nat.le_of_ble_eq_true rfl⟩) (wr_preX0 hK hP hD) rfl rfl hl.1 rfl (lv_room (Nat.le_of_ble_eq_true rfl)) dX0_ordered_13 ⟨Nat.le_of_ble_eq_true rfl, Nat.le_of_ble_eq_true rfl⟩) hS (fun q _ h => hFc q h) hFc (fun u t H locs ht hvm hw hB9 hz1 hk1 hS => ?_)
    obtain ⟨hP, hK9, hD9⟩ := hB9
    rw [ht] at hP
    have hD := hD9.weaken (fun k q _ h => hFc q.1 h)
    obtain ⟨o3, g3, m3, m4⟩ := u
    have hP : va_P (dC, dI) vwCl (XW h0 k1 k2 k3 k4 k5 d0 cnt 1 b o3 g3 m3 m4) H := hP
    have hD : va_D A (XW h0 k1 k2 k3 k4 k5 d0 cnt 1 b o3 g3 m3 m4) := hD
    have hBt : Bt cnt b o3 g3 := hw
    refine lv_aload_n hx hb dX0_ordered_16 rfl (lv_at hl 0 rfl) ?_
    refine va_get (D := (dC, dI)) (ci := 0) (v := .ref k2) (C := RX0) (T := TX0) (N := 7) hx hb hts in_X0 hown hK hP 0 rfl rfl 3 (by decide) (hts _ q38) (fun _ h9 => h9) rfl dX0_ordered_17 ?_
    refine lv_bipush (v := nI 8) hx hb dX0_ordered_20 (by decide) ?_
    refine lv_iload_n hx hb dX0_ordered_22 rfl (lv_at hl 1 rfl) ?_
    refine hn_mul hx hb dX0_ordered_23 ?_
    refine lv_iload_n hx hb dX0_ordered_24 rfl (lv_at hl 2 rfl) ?_
    refine hn_add hx hb dX0_ordered_25 ?_
    refine hn_ald hx hb hK hP 2 0 rfl rfl (by omega) (by decide) dX0_ordered_26 ?_
    refine hn_top (y := nI (ro b cnt c i)) (congrArg nI (hBt c hc i hi).1) ?_
    have er : nI (ro b cnt c i) = S_ord cnt b (nI c) (nI i) := by exact (S_ord_ok hc hi h8).symm
    exact W.iret (v := nI (ro b cnt c i)) hx hb hret (fun t ht hW => ⟨⟨nI (ro b cnt c i), (), rfl, er, ⟨1, o3, g3, m3, m4, Or.inr ⟨rfl, hBt⟩, by rw [ht]; exact hP, va_K.moved hW.alike hK, hD⟩⟩, hS.F ht⟩) hS.2.2 dX0_ordered_27
  · refine lv_bipush (v := -4) hx hb dX0_ordered_9 (by decide) ?_
    have er : (-4) = S_ord cnt b p0 p1 := by exact (if_neg (fun z => by rw [z.1, z.2] at c6; exact absurd c6 (by decide))).symm
    exact W.iret (v := (-4)) hx hb hret (fun t ht hW => ⟨⟨(-4), (), rfl, er, ⟨bu, o, g, n1, n2, hbt, by rw [ht]; exact hP, va_K.moved hW.alike hK, hD⟩⟩, hS.F ht⟩) hS.2.2 dX0_ordered_11

set_option maxHeartbeats 4000000 in
set_option maxRecDepth 100000 in
theorem metX0_since {l : Launch} {dC : Nat → ClassId} {dI : Nat → Nat → Nat} {h0 k1 k2 k3 k4 k5 : Nat} {d0 : ClassId} {cnt bu : Nat} {b o g n1 n2 : Nat → Nat} {sz : Nat} (p0 p1 : Int32) (h8 : cnt ≤ 8) (hbd : ∀ k, b k < 4096) (hbt : okB cnt bu b o g) : Met l yX0_since (ws_ yX0_since cX0_since 3 (some .int)) (rmk 3) (wrP (dC, dI) [(d0, .int)] (XW h0 k1 k2 k3 k4 k5 d0 cnt bu b o g n1 n2) sz [.ref h0, .int p0, .int p1]) (va_Qi (fun r (_ : Unit) => r = S_sin cnt b p0 p1) (fun _ t => XB (dC, dI) h0 k1 k2 k3 k4 k5 d0 (va_A (XW h0 k1 k2 k3 k4 k5 d0 cnt bu b o g n1 n2) sz) cnt b t) (va_A (XW h0 k1 k2 k3 k4 k5 d0 cnt bu b o g n1 n2) sz)) 0 0 (va_A (XW h0 k1 k2 k3 k4 k5 d0 cnt bu b o g n1 n2) sz) := by
  refine Met.ofW (cc := cX0_since) (maxL := 3) (ret := (some .int)) (by decide) rfl ?_
  intro pP eE sS mM args below meth cC s₁ B hml hv
  obtain ⟨rfl, hsz, hP, hK, hD0⟩ := hv
  have hx := B.exec
  have hb := B.bytes
  have hret := B.returns
  have hts := atoms_spec (ws := ws_ yX0_since cX0_since 3 (some .int)) B.pre
  have hts : ∀ w ∈ lw_all, w.before _ sS = true := fun w h => hts w (List.mem_cons_of_mem _ h)
  have hown : sS.vm.findClass RX0 = some mM.cls := findClass_of_methodNamed B.named
  have hlocks := B.notSynchronized
  subst hsz
  have hD := hD0.self (sz := sS.heap.size)
  generalize hAe : va_A (XW h0 k1 k2 k3 k4 k5 d0 cnt bu b o g n1 n2) sS.heap.size = A at hD ⊢
  have hA : ∀ q : Nat, sS.heap.size ≤ q → A q := fun q h => by rw [← hAe]; exact Or.inr h
  clear hAe
  have hS : va_S A sS.heap sS.heap [] := va_S.rf
  have hl := lv_entry ([.ref h0, .int p0, .int p1]) (n := 3) (Nat.le_of_ble_eq_true rfl)
  rw [lg_entry_eq]
  generalize (lg_sl ([.ref h0, .int p0, .int p1]) ++ List.replicate (3 - (lg_sl ([.ref h0, .int p0, .int p1])).length) Slot.unset).toArray = ls at hl ⊢
  have hl : lv_has ls 3 [(0, .ref h0), (1, .int p0), (2, .int p1)] := hl
  refine lv_aload_n hx hb dX0_since_0 rfl (lv_at hl 0 rfl) ?_
  refine lv_iload_n hx hb dX0_since_1 rfl (lv_at hl 1 rfl) ?_
  refine lv_iload_n hx hb dX0_since_2 rfl (lv_at hl 2 rfl) ?_
  refine vp_callSi (W.runV (As := [.int p0, .int p1]) (rest := []) ⟨hx, hb, hml, hown, hts⟩ (metX0_noPlace p0 p1 h8) (cwV 2 hts (lw_V q86 q88 qs2 q25 q89) rfl rfl rfl (by decide +kernel) ⟨Nat.le_of_ble_eq_true rfl, Nat.le_of_ble_eq_true rfl⟩) (rd_preX0 hK hP) rfl rfl hl.1 rfl (lv_room (Nat.le_of_ble_eq_true rfl)) dX0_since_3 ⟨Nat.le_of_ble_eq_true rfl, Nat.le_of_ble_eq_true rfl⟩) (fun v hv => ?_)
  subst hv
  refine hn_ifB_eq (tgt := 12) hx hb dX0_since_6 (by decide) (fun c6 => ?_) (fun c6 => ?_)
  · have c6 : inCol p0 = true ∧ inRow cnt p1 = true := by simpa using c6
    obtain ⟨c, hc, rfl⟩ := inCol_of c6.1
    obtain ⟨i, hi, hi31, rfl⟩ := inRow_of c6.2
    refine lv_aload_n hx hb dX0_since_12 rfl (lv_at hl 0 rfl) ?_
    have hFc := va_free (wc := (XW h0 k1 k2 k3 k4 k5 d0 cnt bu b o g n1 n2)) hD hS hA [0, 1, 2, 3, 4, 5] rfl
    refine va_callv (va_runV (As := []) (rest := []) ⟨hx, hb, hml, hown, hts⟩ (metX0_build h8 hbd hbt) (cwV 0 hts (lw_V q90 q92 qs3 q25 q93) rfl rfl rfl (by decide +kernel) ⟨Nat.le_of_ble_eq_true rfl, Nat.le_of_ble_eq_true rfl⟩) (wr_preX0 hK hP hD) rfl rfl hl.1 rfl (lv_room (Nat.le_of_ble_eq_true rfl)) dX0_since_13 ⟨Nat.le_of_ble_eq_true rfl, Nat.le_of_ble_eq_true rfl⟩) hS (fun q _ h => hFc q h) hFc (fun u t H locs ht hvm hw hB9 hz1 hk1 hS => ?_)
    obtain ⟨hP, hK9, hD9⟩ := hB9
    rw [ht] at hP
    have hD := hD9.weaken (fun k q _ h => hFc q.1 h)
    obtain ⟨o3, g3, m3, m4⟩ := u
    have hP : va_P (dC, dI) vwCl (XW h0 k1 k2 k3 k4 k5 d0 cnt 1 b o3 g3 m3 m4) H := hP
    have hD : va_D A (XW h0 k1 k2 k3 k4 k5 d0 cnt 1 b o3 g3 m3 m4) := hD
    have hBt : Bt cnt b o3 g3 := hw
    refine lv_iload_n hx hb dX0_since_16 rfl (lv_at hl 2 rfl) ?_
    refine hn_if_ne (tgt := 24) hx hb dX0_since_17 (by decide) (by omega) (fun c17 => ?_) (fun c17 => ?_)
    · refine lv_aload_n hx hb dX0_since_24 rfl (lv_at hl 0 rfl) ?_
      refine va_get (D := (dC, dI)) (ci := 0) (v := .ref k3) (C := RX0) (T := TX0) (N := 7) hx hb hts in_X0 hown hK hP 0 rfl rfl 4 (by decide) (hts _ q39) (fun _ h9 => h9) rfl dX0_since_25 ?_
      refine lv_bipush (v := nI 8) hx hb dX0_since_28 (by decide) ?_
      refine lv_iload_n hx hb dX0_since_30 rfl (lv_at hl 1 rfl) ?_
      refine hn_mul hx hb dX0_since_31 ?_
      refine lv_iload_n hx hb dX0_since_32 rfl (lv_at hl 2 rfl) ?_
      refine hn_add hx hb dX0_since_33 ?_
      refine hn_ald hx hb hK hP 3 0 rfl rfl (by omega) (by decide) dX0_since_34 ?_
      refine hn_top (y := nI (bg b cnt c i)) (congrArg nI (hBt c hc i hi).2) ?_
      have er : nI (bg b cnt c i) = S_sin cnt b (nI c) (nI i) := by exact (S_sin_ok hc hi h8).symm
      exact W.iret (v := nI (bg b cnt c i)) hx hb hret (fun t ht hW => ⟨⟨nI (bg b cnt c i), (), rfl, er, ⟨1, o3, g3, m3, m4, Or.inr ⟨rfl, hBt⟩, by rw [ht]; exact hP, va_K.moved hW.alike hK, hD⟩⟩, hS.F ht⟩) hS.2.2 dX0_since_35
    · refine lv_iload_n hx hb dX0_since_20 rfl (lv_at hl 1 rfl) ?_
      refine lv_goto (tgt := 35) hx hb dX0_since_21 (by decide) ?_
      have er : nI c = S_sin cnt b (nI c) (nI i) := by rw [S_sin_ok hc hi h8, c17]; rfl
      exact W.iret (v := nI c) hx hb hret (fun t ht hW => ⟨⟨nI c, (), rfl, er, ⟨1, o3, g3, m3, m4, Or.inr ⟨rfl, hBt⟩, by rw [ht]; exact hP, va_K.moved hW.alike hK, hD⟩⟩, hS.F ht⟩) hS.2.2 dX0_since_35
  · refine lv_bipush (v := -4) hx hb dX0_since_9 (by decide) ?_
    have er : (-4) = S_sin cnt b p0 p1 := by exact (if_neg (fun z => by rw [z.1, z.2] at c6; exact absurd c6 (by decide))).symm
    exact W.iret (v := (-4)) hx hb hret (fun t ht hW => ⟨⟨(-4), (), rfl, er, ⟨bu, o, g, n1, n2, hbt, by rw [ht]; exact hP, va_K.moved hW.alike hK, hD⟩⟩, hS.F ht⟩) hS.2.2 dX0_since_11

set_option maxHeartbeats 4000000 in
set_option maxRecDepth 100000 in
theorem metX0_matches {l : Launch} {dC : Nat → ClassId} {dI : Nat → Nat → Nat} {h0 k1 k2 k3 k4 k5 : Nat} {d0 : ClassId} {cnt bu : Nat} {b o g n1 n2 : Nat → Nat} {sz : Nat} (p0 : Int32) (h8 : cnt ≤ 8) (hbd : ∀ k, b k < 4096) (hbt : okB cnt bu b o g) : Met l yX0_matches (ws_ yX0_matches cX0_matches 5 (some .int)) (rmk 3) (wrP (dC, dI) [(d0, .int)] (XW h0 k1 k2 k3 k4 k5 d0 cnt bu b o g n1 n2) sz [.ref h0, .int p0]) (va_Qi (fun r (_ : Unit) => r = S_mat cnt b p0) (fun _ t => XB (dC, dI) h0 k1 k2 k3 k4 k5 d0 (va_A (XW h0 k1 k2 k3 k4 k5 d0 cnt bu b o g n1 n2) sz) cnt b t) (va_A (XW h0 k1 k2 k3 k4 k5 d0 cnt bu b o g n1 n2) sz)) 0 0 (va_A (XW h0 k1 k2 k3 k4 k5 d0 cnt bu b o g n1 n2) sz) := by
  refine Met.ofW (cc := cX0_matches) (maxL := 5) (ret := (some .int)) (by decide) rfl ?_
  intro pP eE sS mM args below meth cC s₁ B hml hv
  obtain ⟨rfl, hsz, hP, hK, hD0⟩ := hv
  have hx := B.exec
  have hb := B.bytes
  have hret := B.returns
  have hts := atoms_spec (ws := ws_ yX0_matches cX0_matches 5 (some .int)) B.pre
  have hts : ∀ w ∈ lw_all, w.before _ sS = true := fun w h => hts w (List.mem_cons_of_mem _ h)
  have hown : sS.vm.findClass RX0 = some mM.cls := findClass_of_methodNamed B.named
  have hlocks := B.notSynchronized
  subst hsz
  have hD := hD0.self (sz := sS.heap.size)
  generalize hAe : va_A (XW h0 k1 k2 k3 k4 k5 d0 cnt bu b o g n1 n2) sS.heap.size = A at hD ⊢
  have hA : ∀ q : Nat, sS.heap.size ≤ q → A q := fun q h => by rw [← hAe]; exact Or.inr h
  clear hAe
  have hS : va_S A sS.heap sS.heap [] := va_S.rf
  have hl := lv_entry ([.ref h0, .int p0]) (n := 5) (Nat.le_of_ble_eq_true rfl)
  rw [lg_entry_eq]
  generalize (lg_sl ([.ref h0, .int p0]) ++ List.replicate (5 - (lg_sl ([.ref h0, .int p0])).length) Slot.unset).toArray = ls at hl ⊢
  have hl : lv_has ls 5 [(0, .ref h0), (1, .int p0)] := hl
  refine lv_iload_n hx hb dX0_matches_0 rfl (lv_at hl 1 rfl) ?_
  refine lv_iconst (v := nI 1) hx hb dX0_matches_1 (by decide) ?_
  refine hz_icmp_lt (tgt := 11) hx hb dX0_matches_2 (by decide) (fun c2 => ?_) (fun c2 => ?_)
  · rw [hz_t (k := 1) (by omega)] at c2
    refine lv_iconst (v := -1) hx hb dX0_matches_11 (by decide) ?_
    have er : (-1) = S_mat cnt b p0 := by exact (if_neg (by omega)).symm
    exact W.iret (v := (-1)) hx hb hret (fun t ht hW => ⟨⟨(-1), (), rfl, er, ⟨bu, o, g, n1, n2, hbt, by rw [ht]; exact hP, va_K.moved hW.alike hK, hD⟩⟩, hS.F ht⟩) hS.2.2 dX0_matches_12
  · rw [hz_t (k := 1) (by omega)] at c2
    refine lv_iload_n hx hb dX0_matches_5 rfl (lv_at hl 1 rfl) ?_
    refine lv_bipush (v := nI 12) hx hb dX0_matches_6 (by decide) ?_
    refine hz_icmp_le (tgt := 13) hx hb dX0_matches_8 (by decide) (fun c8 => ?_) (fun c8 => ?_)
    · rw [hz_t (k := 12) (by omega)] at c8
      obtain ⟨k, hk31, rfl, ek⟩ := hz_of (x := p0) (by omega)
      rw [hz_t hk31] at c2 c8
      clear ek
      refine lv_aload_n hx hb dX0_matches_13 rfl (lv_at hl 0 rfl) ?_
      have hFc := va_free (wc := (XW h0 k1 k2 k3 k4 k5 d0 cnt bu b o g n1 n2)) hD hS hA [0, 1, 2, 3, 4, 5] rfl
      refine va_callv (va_runV (As := []) (rest := []) ⟨hx, hb, hml, hown, hts⟩ (metX0_build h8 hbd hbt) (cwV 0 hts (lw_V q90 q92 qs3 q25 q93) rfl rfl rfl (by decide +kernel) ⟨Nat.le_of_ble_eq_true rfl, Nat.le_of_ble_eq_true rfl⟩) (wr_preX0 hK hP hD) rfl rfl hl.1 rfl (lv_room (Nat.le_of_ble_eq_true rfl)) dX0_matches_14 ⟨Nat.le_of_ble_eq_true rfl, Nat.le_of_ble_eq_true rfl⟩) hS (fun q _ h => hFc q h) hFc (fun u t H locs ht hvm hw hB9 hz1 hk1 hS => ?_)
      obtain ⟨hP, hK9, hD9⟩ := hB9
      rw [ht] at hP
      have hD := hD9.weaken (fun k q _ h => hFc q.1 h)
      obtain ⟨o3, g3, m3, m4⟩ := u
      have hP : va_P (dC, dI) vwCl (XW h0 k1 k2 k3 k4 k5 d0 cnt 1 b o3 g3 m3 m4) H := hP
      have hD : va_D A (XW h0 k1 k2 k3 k4 k5 d0 cnt 1 b o3 g3 m3 m4) := hD
      have hBt : Bt cnt b o3 g3 := hw
      refine lv_iconst (v := nI 0) hx hb dX0_matches_17 (by decide) ?_
      refine lv_istore_n (lv' := [(2, .int (nI 0)), (0, .ref h0), (1, .int (nI k))]) hx hb dX0_matches_18 rfl hl (by decide) rfl (fun ls hl => ?_)
      refine lv_iconst (v := nI 1) hx hb dX0_matches_19 (by decide) ?_
      refine lv_istore_n (lv' := [(3, .int (nI 1)), (2, .int (nI 0)), (0, .ref h0), (1, .int (nI k))]) hx hb dX0_matches_20 rfl hl (by decide) rfl (fun ls hl => ?_)
      have hl : lv_has ls 5 [(0, .ref h0), (1, .int (nI k)), (2, .int (nI (sm (fun c => EA b cnt (c + 1) k) 0))), (3, .int (nI (0 + 1)))] := lv_sub hl [2, 3, 1, 0] rfl
      refine W.up 5 21 (fun t => [(0, .ref h0), (1, .int (nI k)), (2, .int (nI (sm (fun c => EA b cnt (c + 1) k) t))), (3, .int (nI (t + 1)))]) (fun t => True) 12 ?_ ?_ 0 (by omega) trivial hl
      · intro hk ls hl
        have hl : lv_has ls 5 [(0, .ref h0), (1, .int (nI k)), (2, .int (nI (sm (fun c => EA b cnt (c + 1) k) 12))), (3, .int (nI (12 + 1)))] := hl
        refine lv_iload_n hx hb dX0_matches_21 rfl (lv_at hl 3 rfl) ?_
        refine lv_bipush (v := nI 12) hx hb dX0_matches_22 (by decide) ?_
        refine hn_icmp_gt (tgt := 46) hx hb dX0_matches_24 (by decide) (by omega) (by omega) (fun c24 => ?_) (fun c24 => absurd c24 (by omega))
        refine lv_iload_n hx hb dX0_matches_46 rfl (lv_at hl 2 rfl) ?_
        have er : nI (sm (fun c => EA b cnt (c + 1) k) 12) = S_mat cnt b (nI k) := by exact (S_mat_ok (by omega) (by omega)).symm
        exact W.iret (v := nI (sm (fun c => EA b cnt (c + 1) k) 12)) hx hb hret (fun t ht hW => ⟨⟨nI (sm (fun c => EA b cnt (c + 1) k) 12), (), rfl, er, ⟨1, o3, g3, m3, m4, Or.inr ⟨rfl, hBt⟩, by rw [ht]; exact hP, va_K.moved hW.alike hK, hD⟩⟩, hS.F ht⟩) hS.2.2 dX0_matches_47
      · intro t hit hk ih21 ls hl
        have hl : lv_has ls 5 [(0, .ref h0), (1, .int (nI k)), (2, .int (nI (sm (fun c => EA b cnt (c + 1) k) t))), (3, .int (nI (t + 1)))] := hl
        refine lv_iload_n hx hb dX0_matches_21 rfl (lv_at hl 3 rfl) ?_
        refine lv_bipush (v := nI 12) hx hb dX0_matches_22 (by decide) ?_
        refine hn_icmp_gt (tgt := 46) hx hb dX0_matches_24 (by decide) (by omega) (by omega) (fun c24 => absurd c24 (by omega)) (fun c24 => ?_)
        refine lv_aload_n hx hb dX0_matches_27 rfl (lv_at hl 0 rfl) ?_
        refine lv_iload_n hx hb dX0_matches_28 rfl (lv_at hl 3 rfl) ?_
        refine lv_iload_n hx hb dX0_matches_29 rfl (lv_at hl 1 rfl) ?_
        refine vp_callSi (W.runV (As := [.int (nI (t + 1)), .int (nI k)]) (rest := []) ⟨hx, hb, hml, hown, hts⟩ (metX0_endingAt (t + 1) k h8 (by omega) (by omega) (hBt (t + 1) (by omega)) hbd) (cwV 2 hts (lw_V q106 q108 qs5 q25 q109) rfl rfl rfl (by decide +kernel) ⟨Nat.le_of_ble_eq_true rfl, Nat.le_of_ble_eq_true rfl⟩) (rd_preX0 hK hP) rfl rfl hl.1 rfl (lv_room (Nat.le_of_ble_eq_true rfl)) dX0_matches_30 ⟨Nat.le_of_ble_eq_true rfl, Nat.le_of_ble_eq_true rfl⟩) (fun v hv => ?_)
        subst hv
        refine lv_istore (lv' := [(4, .int (nI (EA b cnt (t + 1) k))), (0, .ref h0), (1, .int (nI k)), (2, .int (nI (sm (fun c => EA b cnt (c + 1) k) t))), (3, .int (nI (t + 1)))]) hx hb dX0_matches_33 hl (by decide) rfl (fun ls hl => ?_)
        refine lv_iload_n hx hb dX0_matches_35 rfl (lv_at hl 3 rfl) ?_
        refine lv_iload hx hb dX0_matches_36 (lv_at hl 0 rfl) ?_
        refine hn_add hx hb dX0_matches_38 ?_
        refine lv_istore_n (lv' := [(2, .int (nI ((sm (fun c => EA b cnt (c + 1) k) t) + (EA b cnt (t + 1) k)))), (4, .int (nI (EA b cnt (t + 1) k))), (0, .ref h0), (1, .int (nI k)), (3, .int (nI (t + 1)))]) hx hb dX0_matches_39 rfl hl (by decide) rfl (fun ls hl => ?_)
        refine lv_iinc (v := nI ((t + 1) + 1)) (lv' := [(3, .int (nI ((t + 1) + 1))), (2, .int (nI ((sm (fun c => EA b cnt (c + 1) k) t) + (EA b cnt (t + 1) k)))), (4, .int (nI (EA b cnt (t + 1) k))), (0, .ref h0), (1, .int (nI k))]) hx hb dX0_matches_40 hl (k := 4) rfl (nI_1 _) (by decide) rfl (fun ls hl => ?_)
        refine lv_goto (tgt := 21) hx hb dX0_matches_43 (by decide) ?_
        have ev2 : (sm (fun c => EA b cnt (c + 1) k) (t + 1)) = ((sm (fun c => EA b cnt (c + 1) k) t) + (EA b cnt (t + 1) k)) := by rfl
        have hl : lv_has ls 5 [(0, .ref h0), (1, .int (nI k)), (2, .int (nI (sm (fun c => EA b cnt (c + 1) k) (t + 1)))), (3, .int (nI ((t + 1) + 1)))] := by rw [ev2]; exact lv_sub hl [3, 4, 1, 0] rfl
        exact ih21 trivial ls hl
    · rw [hz_t (k := 12) (by omega)] at c8
      refine lv_iconst (v := -1) hx hb dX0_matches_11 (by decide) ?_
      have er : (-1) = S_mat cnt b p0 := by exact (if_neg (by omega)).symm
      exact W.iret (v := (-1)) hx hb hret (fun t ht hW => ⟨⟨(-1), (), rfl, er, ⟨bu, o, g, n1, n2, hbt, by rw [ht]; exact hP, va_K.moved hW.alike hK, hD⟩⟩, hS.F ht⟩) hS.2.2 dX0_matches_12

set_option maxHeartbeats 4000000 in
set_option maxRecDepth 100000 in
theorem metX0_longest {l : Launch} {dC : Nat → ClassId} {dI : Nat → Nat → Nat} {h0 k1 k2 k3 k4 k5 : Nat} {d0 : ClassId} {cnt bu : Nat} {b o g n1 n2 : Nat → Nat} {sz : Nat} (p0 p1 : Int32) (h8 : cnt ≤ 8) (hbd : ∀ k, b k < 4096) (hbt : okB cnt bu b o g) : Met l yX0_longest (ws_ yX0_longest cX0_longest 6 (some .int)) (rmk 3) (wrP (dC, dI) [(d0, .int)] (XW h0 k1 k2 k3 k4 k5 d0 cnt bu b o g n1 n2) sz [.ref h0, .int p0, .int p1]) (va_Qi (fun r (_ : Unit) => r = S_lon cnt b p0 p1) (fun _ t => XB (dC, dI) h0 k1 k2 k3 k4 k5 d0 (va_A (XW h0 k1 k2 k3 k4 k5 d0 cnt bu b o g n1 n2) sz) cnt b t) (va_A (XW h0 k1 k2 k3 k4 k5 d0 cnt bu b o g n1 n2) sz)) 0 0 (va_A (XW h0 k1 k2 k3 k4 k5 d0 cnt bu b o g n1 n2) sz) := by
  refine Met.ofW (cc := cX0_longest) (maxL := 6) (ret := (some .int)) (by decide) rfl ?_
  intro pP eE sS mM args below meth cC s₁ B hml hv
  obtain ⟨rfl, hsz, hP, hK, hD0⟩ := hv
  have hx := B.exec
  have hb := B.bytes
  have hret := B.returns
  have hts := atoms_spec (ws := ws_ yX0_longest cX0_longest 6 (some .int)) B.pre
  have hts : ∀ w ∈ lw_all, w.before _ sS = true := fun w h => hts w (List.mem_cons_of_mem _ h)
  have hown : sS.vm.findClass RX0 = some mM.cls := findClass_of_methodNamed B.named
  have hlocks := B.notSynchronized
  subst hsz
  have hD := hD0.self (sz := sS.heap.size)
  generalize hAe : va_A (XW h0 k1 k2 k3 k4 k5 d0 cnt bu b o g n1 n2) sS.heap.size = A at hD ⊢
  have hA : ∀ q : Nat, sS.heap.size ≤ q → A q := fun q h => by rw [← hAe]; exact Or.inr h
  clear hAe
  have hS : va_S A sS.heap sS.heap [] := va_S.rf
  have hl := lv_entry ([.ref h0, .int p0, .int p1]) (n := 6) (Nat.le_of_ble_eq_true rfl)
  rw [lg_entry_eq]
  generalize (lg_sl ([.ref h0, .int p0, .int p1]) ++ List.replicate (6 - (lg_sl ([.ref h0, .int p0, .int p1])).length) Slot.unset).toArray = ls at hl ⊢
  have hl : lv_has ls 6 [(0, .ref h0), (1, .int p0), (2, .int p1)] := hl
  refine lv_aload_n hx hb dX0_longest_0 rfl (lv_at hl 0 rfl) ?_
  refine lv_iload_n hx hb dX0_longest_1 rfl (lv_at hl 1 rfl) ?_
  refine vp_callSi (W.runV (As := [.int p0]) (rest := []) ⟨hx, hb, hml, hown, hts⟩ (metX0_noRow p0 h8) (cwV 1 hts (lw_V q70 q72 qs0 q25 q73) rfl rfl rfl (by decide +kernel) ⟨Nat.le_of_ble_eq_true rfl, Nat.le_of_ble_eq_true rfl⟩) (rd_preX0 hK hP) rfl rfl hl.1 rfl (lv_room (Nat.le_of_ble_eq_true rfl)) dX0_longest_2 ⟨Nat.le_of_ble_eq_true rfl, Nat.le_of_ble_eq_true rfl⟩) (fun v hv => ?_)
  subst hv
  refine hn_ifB_ne (tgt := 21) hx hb dX0_longest_5 (by decide) (fun c5 => ?_) (fun c5 => ?_)
  · refine lv_bipush (v := -4) hx hb dX0_longest_21 (by decide) ?_
    have er : (-4) = S_lon cnt b p0 p1 := by exact (if_neg (fun z => by rw [z.1] at c5; exact absurd c5 (by decide))).symm
    exact W.iret (v := (-4)) hx hb hret (fun t ht hW => ⟨⟨(-4), (), rfl, er, ⟨bu, o, g, n1, n2, hbt, by rw [ht]; exact hP, va_K.moved hW.alike hK, hD⟩⟩, hS.F ht⟩) hS.2.2 dX0_longest_23
  · refine lv_aload_n hx hb dX0_longest_8 rfl (lv_at hl 0 rfl) ?_
    refine lv_iload_n hx hb dX0_longest_9 rfl (lv_at hl 2 rfl) ?_
    refine vp_callSi (W.runV (As := [.int p1]) (rest := []) ⟨hx, hb, hml, hown, hts⟩ (metX0_noRow p1 h8) (cwV 1 hts (lw_V q70 q72 qs0 q25 q73) rfl rfl rfl (by decide +kernel) ⟨Nat.le_of_ble_eq_true rfl, Nat.le_of_ble_eq_true rfl⟩) (rd_preX0 hK hP) rfl rfl hl.1 rfl (lv_room (Nat.le_of_ble_eq_true rfl)) dX0_longest_10 ⟨Nat.le_of_ble_eq_true rfl, Nat.le_of_ble_eq_true rfl⟩) (fun v hv => ?_)
    subst hv
    refine hn_ifB_ne (tgt := 21) hx hb dX0_longest_13 (by decide) (fun c13 => ?_) (fun c13 => ?_)
    · refine lv_bipush (v := -4) hx hb dX0_longest_21 (by decide) ?_
      have er : (-4) = S_lon cnt b p0 p1 := by exact (if_neg (fun z => by rw [z.2.1] at c13; exact absurd c13 (by decide))).symm
      exact W.iret (v := (-4)) hx hb hret (fun t ht hW => ⟨⟨(-4), (), rfl, er, ⟨bu, o, g, n1, n2, hbt, by rw [ht]; exact hP, va_K.moved hW.alike hK, hD⟩⟩, hS.F ht⟩) hS.2.2 dX0_longest_23
    · refine lv_iload_n hx hb dX0_longest_16 rfl (lv_at hl 1 rfl) ?_
      refine lv_iload_n hx hb dX0_longest_17 rfl (lv_at hl 2 rfl) ?_
      refine hz_icmp_ne (tgt := 24) hx hb dX0_longest_18 (by decide) (fun c18 => ?_) (fun c18 => ?_)
      · obtain ⟨r, hr, hr31, rfl⟩ := inRow_of (n := cnt) (x := p0) (by simpa using c5)
        obtain ⟨s, hs, hs31, rfl⟩ := inRow_of (n := cnt) (x := p1) (by simpa using c13)
        have c18 : r ≠ s := fun z => by rw [z] at c18; exact c18 rfl
        refine lv_aload_n hx hb dX0_longest_24 rfl (lv_at hl 0 rfl) ?_
        have hFc := va_free (wc := (XW h0 k1 k2 k3 k4 k5 d0 cnt bu b o g n1 n2)) hD hS hA [0, 1, 2, 3, 4, 5] rfl
        refine va_callv (va_runV (As := []) (rest := []) ⟨hx, hb, hml, hown, hts⟩ (metX0_build h8 hbd hbt) (cwV 0 hts (lw_V q90 q92 qs3 q25 q93) rfl rfl rfl (by decide +kernel) ⟨Nat.le_of_ble_eq_true rfl, Nat.le_of_ble_eq_true rfl⟩) (wr_preX0 hK hP hD) rfl rfl hl.1 rfl (lv_room (Nat.le_of_ble_eq_true rfl)) dX0_longest_25 ⟨Nat.le_of_ble_eq_true rfl, Nat.le_of_ble_eq_true rfl⟩) hS (fun q _ h => hFc q h) hFc (fun u t H locs ht hvm hw hB9 hz1 hk1 hS => ?_)
        obtain ⟨hP, hK9, hD9⟩ := hB9
        rw [ht] at hP
        have hD := hD9.weaken (fun k q _ h => hFc q.1 h)
        obtain ⟨o3, g3, m3, m4⟩ := u
        have hP : va_P (dC, dI) vwCl (XW h0 k1 k2 k3 k4 k5 d0 cnt 1 b o3 g3 m3 m4) H := hP
        have hD : va_D A (XW h0 k1 k2 k3 k4 k5 d0 cnt 1 b o3 g3 m3 m4) := hD
        have hBt : Bt cnt b o3 g3 := hw
        refine lv_iconst (v := nI 0) hx hb dX0_longest_28 (by decide) ?_
        refine lv_istore_n (lv' := [(3, .int (nI 0)), (0, .ref h0), (1, .int (nI r)), (2, .int (nI s))]) hx hb dX0_longest_29 rfl hl (by decide) rfl (fun ls hl => ?_)
        refine lv_iconst (v := nI 1) hx hb dX0_longest_30 (by decide) ?_
        refine lv_istore (lv' := [(4, .int (nI 1)), (3, .int (nI 0)), (0, .ref h0), (1, .int (nI r)), (2, .int (nI s))]) hx hb dX0_longest_31 hl (by decide) rfl (fun ls hl => ?_)
        have hl : lv_has ls 6 [(0, .ref h0), (1, .int (nI r)), (2, .int (nI s)), (3, .int (nI (mx (fun c => c + 1 - AF b r s (c + 1)) 0))), (4, .int (nI (0 + 1)))] := lv_sub hl [2, 3, 4, 1, 0] rfl
        refine W.up 6 33 (fun t => [(0, .ref h0), (1, .int (nI r)), (2, .int (nI s)), (3, .int (nI (mx (fun c => c + 1 - AF b r s (c + 1)) t))), (4, .int (nI (t + 1)))]) (fun t => True) 12 ?_ ?_ 0 (by omega) trivial hl
        · intro hk ls hl
          have hl : lv_has ls 6 [(0, .ref h0), (1, .int (nI r)), (2, .int (nI s)), (3, .int (nI (mx (fun c => c + 1 - AF b r s (c + 1)) 12))), (4, .int (nI (12 + 1)))] := hl
          refine lv_iload hx hb dX0_longest_33 (lv_at hl 4 rfl) ?_
          refine lv_bipush (v := nI 12) hx hb dX0_longest_35 (by decide) ?_
          refine hn_icmp_gt (tgt := 75) hx hb dX0_longest_37 (by decide) (by omega) (by omega) (fun c37 => ?_) (fun c37 => absurd c37 (by omega))
          refine lv_iload_n hx hb dX0_longest_75 rfl (lv_at hl 3 rfl) ?_
          have er : nI (mx (fun c => c + 1 - AF b r s (c + 1)) 12) = S_lon cnt b (nI r) (nI s) := by exact (S_lon_ok hr hs h8 c18).symm
          exact W.iret (v := nI (mx (fun c => c + 1 - AF b r s (c + 1)) 12)) hx hb hret (fun t ht hW => ⟨⟨nI (mx (fun c => c + 1 - AF b r s (c + 1)) 12), (), rfl, er, ⟨1, o3, g3, m3, m4, Or.inr ⟨rfl, hBt⟩, by rw [ht]; exact hP, va_K.moved hW.alike hK, hD⟩⟩, hS.F ht⟩) hS.2.2 dX0_longest_76
        · intro t hit hk ih33 ls hl
          have hl : lv_has ls 6 [(0, .ref h0), (1, .int (nI r)), (2, .int (nI s)), (3, .int (nI (mx (fun c => c + 1 - AF b r s (c + 1)) t))), (4, .int (nI (t + 1)))] := hl
          refine lv_iload hx hb dX0_longest_33 (lv_at hl 4 rfl) ?_
          refine lv_bipush (v := nI 12) hx hb dX0_longest_35 (by decide) ?_
          refine hn_icmp_gt (tgt := 75) hx hb dX0_longest_37 (by decide) (by omega) (by omega) (fun c37 => absurd c37 (by omega)) (fun c37 => ?_)
          refine lv_aload_n hx hb dX0_longest_40 rfl (lv_at hl 0 rfl) ?_
          refine lv_iload_n hx hb dX0_longest_41 rfl (lv_at hl 1 rfl) ?_
          refine lv_iload_n hx hb dX0_longest_42 rfl (lv_at hl 2 rfl) ?_
          refine lv_iload hx hb dX0_longest_43 (lv_at hl 4 rfl) ?_
          refine vp_callSi (W.runV (As := [.int (nI r), .int (nI s), .int (nI (t + 1))]) (rest := []) ⟨hx, hb, hml, hown, hts⟩ (metX0_agreeSince r s (t + 1) h8 (by omega) hr hs (hBt (t + 1) (by omega))) (cwV 3 hts (lw_V q118 q120 qs7 q25 q121) rfl rfl rfl (by decide +kernel) ⟨Nat.le_of_ble_eq_true rfl, Nat.le_of_ble_eq_true rfl⟩) (rd_preX0 hK hP) rfl rfl hl.1 rfl (lv_room (Nat.le_of_ble_eq_true rfl)) dX0_longest_45 ⟨Nat.le_of_ble_eq_true rfl, Nat.le_of_ble_eq_true rfl⟩) (fun v hv => ?_)
          subst hv
          refine lv_istore (lv' := [(5, .int (nI (AF b r s (t + 1)))), (0, .ref h0), (1, .int (nI r)), (2, .int (nI s)), (3, .int (nI (mx (fun c => c + 1 - AF b r s (c + 1)) t))), (4, .int (nI (t + 1)))]) hx hb dX0_longest_48 hl (by decide) rfl (fun ls hl => ?_)
          refine lv_iload hx hb dX0_longest_50 (lv_at hl 5 rfl) ?_
          refine lv_iload hx hb dX0_longest_52 (lv_at hl 0 rfl) ?_
          refine hn_sub hx hb dX0_longest_54 (AF_le _ _ _ _) ?_
          refine lv_iload_n hx hb dX0_longest_55 rfl (lv_at hl 4 rfl) ?_
          refine W.jn2 (g := F0 mM 68 ls [.int (nI (if mx (fun c => c + 1 - AF b r s (c + 1)) t < t + 1 - AF b r s (t + 1) then t + 1 - AF b r s (t + 1) else mx (fun c => c + 1 - AF b r s (c + 1)) t))]) (fun J => ?_) ?_
          · refine hn_icmp_le (tgt := 67) hx hb dX0_longest_56 (by decide) (Nat.lt_of_le_of_lt (Nat.sub_le _ _) (by omega)) (lon_le hit) (fun c56 => ?_) (fun c56 => ?_)
            · refine lv_iload_n hx hb dX0_longest_67 rfl (lv_at hl 4 rfl) ?_
              have ej : (if mx (fun c => c + 1 - AF b r s (c + 1)) t < t + 1 - AF b r s (t + 1) then t + 1 - AF b r s (t + 1) else mx (fun c => c + 1 - AF b r s (c + 1)) t) = (mx (fun c => c + 1 - AF b r s (c + 1)) t) := by first | exact if_pos c56 | exact if_neg (Nat.not_lt.mpr c56)
              rw [ej] at J
              exact J
            · refine lv_iload hx hb dX0_longest_59 (lv_at hl 5 rfl) ?_
              refine lv_iload hx hb dX0_longest_61 (lv_at hl 0 rfl) ?_
              refine hn_sub hx hb dX0_longest_63 (AF_le _ _ _ _) ?_
              refine lv_goto (tgt := 68) hx hb dX0_longest_64 (by decide) ?_
              have ej : (if mx (fun c => c + 1 - AF b r s (c + 1)) t < t + 1 - AF b r s (t + 1) then t + 1 - AF b r s (t + 1) else mx (fun c => c + 1 - AF b r s (c + 1)) t) = ((t + 1) - (AF b r s (t + 1))) := by first | exact if_pos c56 | exact if_neg (Nat.not_lt.mpr c56)
              rw [ej] at J
              exact J
          refine lv_istore_n (lv' := [(3, .int (nI (if mx (fun c => c + 1 - AF b r s (c + 1)) t < t + 1 - AF b r s (t + 1) then t + 1 - AF b r s (t + 1) else mx (fun c => c + 1 - AF b r s (c + 1)) t))), (5, .int (nI (AF b r s (t + 1)))), (0, .ref h0), (1, .int (nI r)), (2, .int (nI s)), (4, .int (nI (t + 1)))]) hx hb dX0_longest_68 rfl hl (by decide) rfl (fun ls hl => ?_)
          refine lv_iinc (v := nI ((t + 1) + 1)) (lv' := [(4, .int (nI ((t + 1) + 1))), (3, .int (nI (if mx (fun c => c + 1 - AF b r s (c + 1)) t < t + 1 - AF b r s (t + 1) then t + 1 - AF b r s (t + 1) else mx (fun c => c + 1 - AF b r s (c + 1)) t))), (5, .int (nI (AF b r s (t + 1)))), (0, .ref h0), (1, .int (nI r)), (2, .int (nI s))]) hx hb dX0_longest_69 hl (k := 5) rfl (nI_1 _) (by decide) rfl (fun ls hl => ?_)
          refine lv_goto (tgt := 33) hx hb dX0_longest_72 (by decide) ?_
          have ev3 : (mx (fun c => c + 1 - AF b r s (c + 1)) (t + 1)) = (if mx (fun c => c + 1 - AF b r s (c + 1)) t < t + 1 - AF b r s (t + 1) then t + 1 - AF b r s (t + 1) else mx (fun c => c + 1 - AF b r s (c + 1)) t) := by rfl
          have hl : lv_has ls 6 [(0, .ref h0), (1, .int (nI r)), (2, .int (nI s)), (3, .int (nI (mx (fun c => c + 1 - AF b r s (c + 1)) (t + 1)))), (4, .int (nI ((t + 1) + 1)))] := by rw [ev3]; exact lv_sub hl [3, 4, 5, 1, 0] rfl
          exact ih33 trivial ls hl
      · refine lv_bipush (v := -4) hx hb dX0_longest_21 (by decide) ?_
        have er : (-4) = S_lon cnt b p0 p1 := by exact (if_neg (fun z => z.2.2 c18)).symm
        exact W.iret (v := (-4)) hx hb hret (fun t ht hW => ⟨⟨(-4), (), rfl, er, ⟨bu, o, g, n1, n2, hbt, by rw [ht]; exact hP, va_K.moved hW.alike hK, hD⟩⟩, hS.F ht⟩) hS.2.2 dX0_longest_23

set_option maxHeartbeats 4000000 in
set_option maxRecDepth 100000 in
theorem metX0_winning {l : Launch} {dC : Nat → ClassId} {dI : Nat → Nat → Nat} {h0 k1 k2 k3 k4 k5 : Nat} {d0 : ClassId} {cnt bu : Nat} {b o g n1 n2 : Nat → Nat} {sz : Nat} (p0 : Int32) (h8 : cnt ≤ 8) (hbd : ∀ k, b k < 4096) (hbt : okB cnt bu b o g) : Met l yX0_winning (ws_ yX0_winning cX0_winning 5 (some .int)) (rmk 3) (wrP (dC, dI) [(d0, .int)] (XW h0 k1 k2 k3 k4 k5 d0 cnt bu b o g n1 n2) sz [.ref h0, .int p0]) (va_Qi (fun r (_ : Unit) => r = S_win cnt b p0) (fun _ t => XB (dC, dI) h0 k1 k2 k3 k4 k5 d0 (va_A (XW h0 k1 k2 k3 k4 k5 d0 cnt bu b o g n1 n2) sz) cnt b t) (va_A (XW h0 k1 k2 k3 k4 k5 d0 cnt bu b o g n1 n2) sz)) 0 0 (va_A (XW h0 k1 k2 k3 k4 k5 d0 cnt bu b o g n1 n2) sz) := by
  refine Met.ofW (cc := cX0_winning) (maxL := 5) (ret := (some .int)) (by decide) rfl ?_
  intro pP eE sS mM args below meth cC s₁ B hml hv
  obtain ⟨rfl, hsz, hP, hK, hD0⟩ := hv
  have hx := B.exec
  have hb := B.bytes
  have hret := B.returns
  have hts := atoms_spec (ws := ws_ yX0_winning cX0_winning 5 (some .int)) B.pre
  have hts : ∀ w ∈ lw_all, w.before _ sS = true := fun w h => hts w (List.mem_cons_of_mem _ h)
  have hown : sS.vm.findClass RX0 = some mM.cls := findClass_of_methodNamed B.named
  have hlocks := B.notSynchronized
  subst hsz
  have hD := hD0.self (sz := sS.heap.size)
  generalize hAe : va_A (XW h0 k1 k2 k3 k4 k5 d0 cnt bu b o g n1 n2) sS.heap.size = A at hD ⊢
  have hA : ∀ q : Nat, sS.heap.size ≤ q → A q := fun q h => by rw [← hAe]; exact Or.inr h
  clear hAe
  have hS : va_S A sS.heap sS.heap [] := va_S.rf
  have hl := lv_entry ([.ref h0, .int p0]) (n := 5) (Nat.le_of_ble_eq_true rfl)
  rw [lg_entry_eq]
  generalize (lg_sl ([.ref h0, .int p0]) ++ List.replicate (5 - (lg_sl ([.ref h0, .int p0])).length) Slot.unset).toArray = ls at hl ⊢
  have hl : lv_has ls 5 [(0, .ref h0), (1, .int p0)] := hl
  refine lv_aload_n hx hb dX0_winning_0 rfl (lv_at hl 0 rfl) ?_
  refine lv_iload_n hx hb dX0_winning_1 rfl (lv_at hl 1 rfl) ?_
  refine vp_callSi (W.runV (As := [.int p0]) (rest := []) ⟨hx, hb, hml, hown, hts⟩ (metX0_noRow p0 h8) (cwV 1 hts (lw_V q70 q72 qs0 q25 q73) rfl rfl rfl (by decide +kernel) ⟨Nat.le_of_ble_eq_true rfl, Nat.le_of_ble_eq_true rfl⟩) (rd_preX0 hK hP) rfl rfl hl.1 rfl (lv_room (Nat.le_of_ble_eq_true rfl)) dX0_winning_2 ⟨Nat.le_of_ble_eq_true rfl, Nat.le_of_ble_eq_true rfl⟩) (fun v hv => ?_)
  subst hv
  refine hn_ifB_eq (tgt := 11) hx hb dX0_winning_5 (by decide) (fun c5 => ?_) (fun c5 => ?_)
  · obtain ⟨r, hr, hr31, rfl⟩ := inRow_of (n := cnt) (x := p0) (by simpa using c5)
    refine lv_aload_n hx hb dX0_winning_11 rfl (lv_at hl 0 rfl) ?_
    have hFc := va_free (wc := (XW h0 k1 k2 k3 k4 k5 d0 cnt bu b o g n1 n2)) hD hS hA [0, 1, 2, 3, 4, 5] rfl
    refine va_callv (va_runV (As := []) (rest := []) ⟨hx, hb, hml, hown, hts⟩ (metX0_build h8 hbd hbt) (cwV 0 hts (lw_V q90 q92 qs3 q25 q93) rfl rfl rfl (by decide +kernel) ⟨Nat.le_of_ble_eq_true rfl, Nat.le_of_ble_eq_true rfl⟩) (wr_preX0 hK hP hD) rfl rfl hl.1 rfl (lv_room (Nat.le_of_ble_eq_true rfl)) dX0_winning_12 ⟨Nat.le_of_ble_eq_true rfl, Nat.le_of_ble_eq_true rfl⟩) hS (fun q _ h => hFc q h) hFc (fun u t H locs ht hvm hw hB9 hz1 hk1 hS => ?_)
    obtain ⟨hP, hK9, hD9⟩ := hB9
    rw [ht] at hP
    have hD := hD9.weaken (fun k q _ h => hFc q.1 h)
    obtain ⟨o3, g3, m3, m4⟩ := u
    have hP : va_P (dC, dI) vwCl (XW h0 k1 k2 k3 k4 k5 d0 cnt 1 b o3 g3 m3 m4) H := hP
    have hD : va_D A (XW h0 k1 k2 k3 k4 k5 d0 cnt 1 b o3 g3 m3 m4) := hD
    have hBt : Bt cnt b o3 g3 := hw
    refine lv_iconst (v := nI 0) hx hb dX0_winning_15 (by decide) ?_
    refine lv_istore_n (lv' := [(2, .int (nI 0)), (0, .ref h0), (1, .int (nI r))]) hx hb dX0_winning_16 rfl hl (by decide) rfl (fun ls hl => ?_)
    refine lv_iconst (v := nI 1) hx hb dX0_winning_17 (by decide) ?_
    refine lv_istore_n (lv' := [(3, .int (nI 1)), (2, .int (nI 0)), (0, .ref h0), (1, .int (nI r))]) hx hb dX0_winning_18 rfl hl (by decide) rfl (fun ls hl => ?_)
    have hl : lv_has ls 5 [(0, .ref h0), (1, .int (nI r)), (2, .int (nI (sm (fun c => WB b cnt r (c + 1)) 0))), (3, .int (nI (0 + 1)))] := lv_sub hl [2, 3, 1, 0] rfl
    refine W.up 5 19 (fun t => [(0, .ref h0), (1, .int (nI r)), (2, .int (nI (sm (fun c => WB b cnt r (c + 1)) t))), (3, .int (nI (t + 1)))]) (fun t => True) 12 ?_ ?_ 0 (by omega) trivial hl
    · intro hk ls hl
      have hl : lv_has ls 5 [(0, .ref h0), (1, .int (nI r)), (2, .int (nI (sm (fun c => WB b cnt r (c + 1)) 12))), (3, .int (nI (12 + 1)))] := hl
      refine lv_iload_n hx hb dX0_winning_19 rfl (lv_at hl 3 rfl) ?_
      refine lv_bipush (v := nI 12) hx hb dX0_winning_20 (by decide) ?_
      refine hn_icmp_gt (tgt := 44) hx hb dX0_winning_22 (by decide) (by omega) (by omega) (fun c22 => ?_) (fun c22 => absurd c22 (by omega))
      refine lv_iload_n hx hb dX0_winning_44 rfl (lv_at hl 2 rfl) ?_
      have er : nI (sm (fun c => WB b cnt r (c + 1)) 12) = S_win cnt b (nI r) := by exact (S_win_ok hr h8).symm
      exact W.iret (v := nI (sm (fun c => WB b cnt r (c + 1)) 12)) hx hb hret (fun t ht hW => ⟨⟨nI (sm (fun c => WB b cnt r (c + 1)) 12), (), rfl, er, ⟨1, o3, g3, m3, m4, Or.inr ⟨rfl, hBt⟩, by rw [ht]; exact hP, va_K.moved hW.alike hK, hD⟩⟩, hS.F ht⟩) hS.2.2 dX0_winning_45
    · intro t hit hk ih19 ls hl
      have hl : lv_has ls 5 [(0, .ref h0), (1, .int (nI r)), (2, .int (nI (sm (fun c => WB b cnt r (c + 1)) t))), (3, .int (nI (t + 1)))] := hl
      refine lv_iload_n hx hb dX0_winning_19 rfl (lv_at hl 3 rfl) ?_
      refine lv_bipush (v := nI 12) hx hb dX0_winning_20 (by decide) ?_
      refine hn_icmp_gt (tgt := 44) hx hb dX0_winning_22 (by decide) (by omega) (by omega) (fun c22 => absurd c22 (by omega)) (fun c22 => ?_)
      refine lv_aload_n hx hb dX0_winning_25 rfl (lv_at hl 0 rfl) ?_
      refine lv_iload_n hx hb dX0_winning_26 rfl (lv_at hl 1 rfl) ?_
      refine lv_iload_n hx hb dX0_winning_27 rfl (lv_at hl 3 rfl) ?_
      refine vp_callSi (W.runV (As := [.int (nI r), .int (nI (t + 1))]) (rest := []) ⟨hx, hb, hml, hown, hts⟩ (metX0_winsBefore r (t + 1) h8 (by omega) hr (hBt (t + 1) (by omega)) hbd) (cwV 2 hts (lw_V q130 q132 qs9 q25 q133) rfl rfl rfl (by decide +kernel) ⟨Nat.le_of_ble_eq_true rfl, Nat.le_of_ble_eq_true rfl⟩) (rd_preX0 hK hP) rfl rfl hl.1 rfl (lv_room (Nat.le_of_ble_eq_true rfl)) dX0_winning_28 ⟨Nat.le_of_ble_eq_true rfl, Nat.le_of_ble_eq_true rfl⟩) (fun v hv => ?_)
      subst hv
      refine lv_istore (lv' := [(4, .int (nI (WB b cnt r (t + 1)))), (0, .ref h0), (1, .int (nI r)), (2, .int (nI (sm (fun c => WB b cnt r (c + 1)) t))), (3, .int (nI (t + 1)))]) hx hb dX0_winning_31 hl (by decide) rfl (fun ls hl => ?_)
      refine lv_iload_n hx hb dX0_winning_33 rfl (lv_at hl 3 rfl) ?_
      refine lv_iload hx hb dX0_winning_34 (lv_at hl 0 rfl) ?_
      refine hn_add hx hb dX0_winning_36 ?_
      refine lv_istore_n (lv' := [(2, .int (nI ((sm (fun c => WB b cnt r (c + 1)) t) + (WB b cnt r (t + 1))))), (4, .int (nI (WB b cnt r (t + 1)))), (0, .ref h0), (1, .int (nI r)), (3, .int (nI (t + 1)))]) hx hb dX0_winning_37 rfl hl (by decide) rfl (fun ls hl => ?_)
      refine lv_iinc (v := nI ((t + 1) + 1)) (lv' := [(3, .int (nI ((t + 1) + 1))), (2, .int (nI ((sm (fun c => WB b cnt r (c + 1)) t) + (WB b cnt r (t + 1))))), (4, .int (nI (WB b cnt r (t + 1)))), (0, .ref h0), (1, .int (nI r))]) hx hb dX0_winning_38 hl (k := 4) rfl (nI_1 _) (by decide) rfl (fun ls hl => ?_)
      refine lv_goto (tgt := 19) hx hb dX0_winning_41 (by decide) ?_
      have ev2 : (sm (fun c => WB b cnt r (c + 1)) (t + 1)) = ((sm (fun c => WB b cnt r (c + 1)) t) + (WB b cnt r (t + 1))) := by rfl
      have hl : lv_has ls 5 [(0, .ref h0), (1, .int (nI r)), (2, .int (nI (sm (fun c => WB b cnt r (c + 1)) (t + 1)))), (3, .int (nI ((t + 1) + 1)))] := by rw [ev2]; exact lv_sub hl [3, 4, 1, 0] rfl
      exact ih19 trivial ls hl
  · refine lv_bipush (v := -4) hx hb dX0_winning_8 (by decide) ?_
    have er : (-4) = S_win cnt b p0 := by exact (if_rowF (by simpa using c5) _ _).symm
    exact W.iret (v := (-4)) hx hb hret (fun t ht hW => ⟨⟨(-4), (), rfl, er, ⟨bu, o, g, n1, n2, hbt, by rw [ht]; exact hP, va_K.moved hW.alike hK, hD⟩⟩, hS.F ht⟩) hS.2.2 dX0_winning_10

set_option maxHeartbeats 4000000 in
set_option maxRecDepth 100000 in
theorem metX0_cover {l : Launch} {dC : Nat → ClassId} {dI : Nat → Nat → Nat} {h0 k1 k2 k3 k4 k5 : Nat} {d0 : ClassId} {cnt bu : Nat} {b o g n1 n2 : Nat → Nat} {sz : Nat} (p0 : Int32) (h8 : cnt ≤ 8) (hbd : ∀ k, b k < 4096) (hbt : okB cnt bu b o g) : Met l yX0_cover (ws_ yX0_cover cX0_cover 8 (some .int)) (rmk 3) (wrP (dC, dI) [(d0, .int)] (XW h0 k1 k2 k3 k4 k5 d0 cnt bu b o g n1 n2) sz [.ref h0, .int p0]) (va_Qi (fun r (_ : Unit) => r = S_cov cnt b p0) (fun _ t => XB (dC, dI) h0 k1 k2 k3 k4 k5 d0 (va_A (XW h0 k1 k2 k3 k4 k5 d0 cnt bu b o g n1 n2) sz) cnt b t) (va_A (XW h0 k1 k2 k3 k4 k5 d0 cnt bu b o g n1 n2) sz)) 0 0 (va_A (XW h0 k1 k2 k3 k4 k5 d0 cnt bu b o g n1 n2) sz) := by
  refine Met.ofW (cc := cX0_cover) (maxL := 8) (ret := (some .int)) (by decide) rfl ?_
  intro pP eE sS mM args below meth cC s₁ B hml hv
  obtain ⟨rfl, hsz, hP, hK, hD0⟩ := hv
  have hx := B.exec
  have hb := B.bytes
  have hret := B.returns
  have hts := atoms_spec (ws := ws_ yX0_cover cX0_cover 8 (some .int)) B.pre
  have hts : ∀ w ∈ lw_all, w.before _ sS = true := fun w h => hts w (List.mem_cons_of_mem _ h)
  have hown : sS.vm.findClass RX0 = some mM.cls := findClass_of_methodNamed B.named
  have hlocks := B.notSynchronized
  subst hsz
  have hD := hD0.self (sz := sS.heap.size)
  generalize hAe : va_A (XW h0 k1 k2 k3 k4 k5 d0 cnt bu b o g n1 n2) sS.heap.size = A at hD ⊢
  have hA : ∀ q : Nat, sS.heap.size ≤ q → A q := fun q h => by rw [← hAe]; exact Or.inr h
  clear hAe
  have hS : va_S A sS.heap sS.heap [] := va_S.rf
  have hl := lv_entry ([.ref h0, .int p0]) (n := 8) (Nat.le_of_ble_eq_true rfl)
  rw [lg_entry_eq]
  generalize (lg_sl ([.ref h0, .int p0]) ++ List.replicate (8 - (lg_sl ([.ref h0, .int p0])).length) Slot.unset).toArray = ls at hl ⊢
  have hl : lv_has ls 8 [(0, .ref h0), (1, .int p0)] := hl
  refine lv_aload_n hx hb dX0_cover_0 rfl (lv_at hl 0 rfl) ?_
  refine lv_iload_n hx hb dX0_cover_1 rfl (lv_at hl 1 rfl) ?_
  refine vp_callSi (W.runV (As := [.int p0]) (rest := []) ⟨hx, hb, hml, hown, hts⟩ (metX0_noRow p0 h8) (cwV 1 hts (lw_V q70 q72 qs0 q25 q73) rfl rfl rfl (by decide +kernel) ⟨Nat.le_of_ble_eq_true rfl, Nat.le_of_ble_eq_true rfl⟩) (rd_preX0 hK hP) rfl rfl hl.1 rfl (lv_room (Nat.le_of_ble_eq_true rfl)) dX0_cover_2 ⟨Nat.le_of_ble_eq_true rfl, Nat.le_of_ble_eq_true rfl⟩) (fun v hv => ?_)
  subst hv
  refine hn_ifB_eq (tgt := 11) hx hb dX0_cover_5 (by decide) (fun c5 => ?_) (fun c5 => ?_)
  · obtain ⟨r, hr, hr31, rfl⟩ := inRow_of (n := cnt) (x := p0) (by simpa using c5)
    refine lv_aload_n hx hb dX0_cover_11 rfl (lv_at hl 0 rfl) ?_
    have hFc := va_free (wc := (XW h0 k1 k2 k3 k4 k5 d0 cnt bu b o g n1 n2)) hD hS hA [0, 1, 2, 3, 4, 5] rfl
    refine va_callv (va_runV (As := []) (rest := []) ⟨hx, hb, hml, hown, hts⟩ (metX0_build h8 hbd hbt) (cwV 0 hts (lw_V q90 q92 qs3 q25 q93) rfl rfl rfl (by decide +kernel) ⟨Nat.le_of_ble_eq_true rfl, Nat.le_of_ble_eq_true rfl⟩) (wr_preX0 hK hP hD) rfl rfl hl.1 rfl (lv_room (Nat.le_of_ble_eq_true rfl)) dX0_cover_12 ⟨Nat.le_of_ble_eq_true rfl, Nat.le_of_ble_eq_true rfl⟩) hS (fun q _ h => hFc q h) hFc (fun u t H locs ht hvm hw hB9 hz1 hk1 hS => ?_)
    obtain ⟨hP, hK9, hD9⟩ := hB9
    rw [ht] at hP
    have hD := hD9.weaken (fun k q _ h => hFc q.1 h)
    obtain ⟨o3, g3, m3, m4⟩ := u
    have hP : va_P (dC, dI) vwCl (XW h0 k1 k2 k3 k4 k5 d0 cnt 1 b o3 g3 m3 m4) H := hP
    have hD : va_D A (XW h0 k1 k2 k3 k4 k5 d0 cnt 1 b o3 g3 m3 m4) := hD
    have hBt : Bt cnt b o3 g3 := hw
    refine lv_iconst (v := nI 0) hx hb dX0_cover_15 (by decide) ?_
    refine lv_istore_n (lv' := [(2, .int (nI 0)), (0, .ref h0), (1, .int (nI r))]) hx hb dX0_cover_16 rfl hl (by decide) rfl (fun ls hl => ?_)
    refine lv_iconst (v := nI 0) hx hb dX0_cover_17 (by decide) ?_
    refine lv_istore_n (lv' := [(3, .int (nI 0)), (2, .int (nI 0)), (0, .ref h0), (1, .int (nI r))]) hx hb dX0_cover_18 rfl hl (by decide) rfl (fun ls hl => ?_)
    have hl : lv_has ls 8 [(0, .ref h0), (1, .int (nI r)), (2, .int (nI (sm (fun c => CV b cnt r c) 0))), (3, .int (nI 0))] := lv_sub hl [2, 3, 1, 0] rfl
    refine W.up 8 19 (fun col => [(0, .ref h0), (1, .int (nI r)), (2, .int (nI (sm (fun c => CV b cnt r c) col))), (3, .int (nI col))]) (fun col => True) 12 ?_ ?_ 0 (by omega) trivial hl
    · intro hk ls hl
      have hl : lv_has ls 8 [(0, .ref h0), (1, .int (nI r)), (2, .int (nI (sm (fun c => CV b cnt r c) 12))), (3, .int (nI 12))] := hl
      refine lv_iload_n hx hb dX0_cover_19 rfl (lv_at hl 3 rfl) ?_
      refine lv_bipush (v := nI 12) hx hb dX0_cover_20 (by decide) ?_
      refine hn_icmp_ge (tgt := 99) hx hb dX0_cover_22 (by decide) (by omega) (by omega) (fun c22 => ?_) (fun c22 => absurd c22 (by omega))
      refine lv_iload_n hx hb dX0_cover_99 rfl (lv_at hl 2 rfl) ?_
      have er : nI (sm (fun c => CV b cnt r c) 12) = S_cov cnt b (nI r) := by exact (S_cov_ok hr h8).symm
      exact W.iret (v := nI (sm (fun c => CV b cnt r c) 12)) hx hb hret (fun t ht hW => ⟨⟨nI (sm (fun c => CV b cnt r c) 12), (), rfl, er, ⟨1, o3, g3, m3, m4, Or.inr ⟨rfl, hBt⟩, by rw [ht]; exact hP, va_K.moved hW.alike hK, hD⟩⟩, hS.F ht⟩) hS.2.2 dX0_cover_100
    · intro col hicol hk ih19 ls hl
      have hl : lv_has ls 8 [(0, .ref h0), (1, .int (nI r)), (2, .int (nI (sm (fun c => CV b cnt r c) col))), (3, .int (nI col))] := hl
      refine lv_iload_n hx hb dX0_cover_19 rfl (lv_at hl 3 rfl) ?_
      refine lv_bipush (v := nI 12) hx hb dX0_cover_20 (by decide) ?_
      refine hn_icmp_ge (tgt := 99) hx hb dX0_cover_22 (by decide) (by omega) (by omega) (fun c22 => absurd c22 (by omega)) (fun c22 => ?_)
      refine lv_iconst (v := nI 0) hx hb dX0_cover_25 (by decide) ?_
      refine lv_istore (lv' := [(4, .int (nI 0)), (0, .ref h0), (1, .int (nI r)), (2, .int (nI (sm (fun c => CV b cnt r c) col))), (3, .int (nI col))]) hx hb dX0_cover_26 hl (by decide) rfl (fun ls hl => ?_)
      refine lv_iload_n hx hb dX0_cover_28 rfl (lv_at hl 4 rfl) ?_
      refine lv_iconst (v := nI 1) hx hb dX0_cover_29 (by decide) ?_
      refine hn_add hx hb dX0_cover_30 ?_
      refine lv_istore (lv' := [(5, .int (nI (col + 1))), (4, .int (nI 0)), (0, .ref h0), (1, .int (nI r)), (2, .int (nI (sm (fun c => CV b cnt r c) col))), (3, .int (nI col))]) hx hb dX0_cover_31 hl (by decide) rfl (fun ls hl => ?_)
      have hl : lv_has ls 8 [(0, .ref h0), (1, .int (nI r)), (2, .int (nI (sm (fun c => CV b cnt r c) col))), (3, .int (nI col)), (4, .int (nI (mx (cvT b cnt r col) 0))), (5, .int (nI (col + 1 + 0)))] := lv_sub hl [2, 3, 4, 5, 1, 0] rfl
      refine W.up 8 33 (fun t => [(0, .ref h0), (1, .int (nI r)), (2, .int (nI (sm (fun c => CV b cnt r c) col))), (3, .int (nI col)), (4, .int (nI (mx (cvT b cnt r col) t))), (5, .int (nI (col + 1 + t)))]) (fun t => True) (12 - col) ?_ ?_ 0 (by omega) trivial hl
      · intro hk ls hl
        have hl : lv_has ls 8 [(0, .ref h0), (1, .int (nI r)), (2, .int (nI (sm (fun c => CV b cnt r c) col))), (3, .int (nI col)), (4, .int (nI (mx (cvT b cnt r col) (12 - col)))), (5, .int (nI (col + 1 + (12 - col))))] := hl
        refine lv_iload hx hb dX0_cover_33 (lv_at hl 5 rfl) ?_
        refine lv_bipush (v := nI 12) hx hb dX0_cover_35 (by decide) ?_
        refine hn_icmp_gt (tgt := 88) hx hb dX0_cover_37 (by decide) (by omega) (by omega) (fun c37 => ?_) (fun c37 => absurd c37 (by omega))
        refine lv_iload_n hx hb dX0_cover_88 rfl (lv_at hl 2 rfl) ?_
        refine lv_iload hx hb dX0_cover_89 (lv_at hl 4 rfl) ?_
        refine hn_add hx hb dX0_cover_91 ?_
        refine lv_istore_n (lv' := [(2, .int (nI ((sm (fun c => CV b cnt r c) col) + (mx (cvT b cnt r col) (12 - col))))), (0, .ref h0), (1, .int (nI r)), (3, .int (nI col)), (4, .int (nI (mx (cvT b cnt r col) (12 - col)))), (5, .int (nI (col + 1 + (12 - col))))]) hx hb dX0_cover_92 rfl hl (by decide) rfl (fun ls hl => ?_)
        refine lv_iinc (v := nI (col + 1)) (lv' := [(3, .int (nI (col + 1))), (2, .int (nI ((sm (fun c => CV b cnt r c) col) + (mx (cvT b cnt r col) (12 - col))))), (0, .ref h0), (1, .int (nI r)), (4, .int (nI (mx (cvT b cnt r col) (12 - col)))), (5, .int (nI (col + 1 + (12 - col))))]) hx hb dX0_cover_93 hl (k := 3) rfl (nI_1 _) (by decide) rfl (fun ls hl => ?_)
        refine lv_goto (tgt := 19) hx hb dX0_cover_96 (by decide) ?_
        have ev2 : (sm (fun c => CV b cnt r c) (col + 1)) = ((sm (fun c => CV b cnt r c) col) + (mx (cvT b cnt r col) (12 - col))) := by rfl
        have ev3 : ((col + 1)) = (col + 1) := by rfl
        have hl : lv_has ls 8 [(0, .ref h0), (1, .int (nI r)), (2, .int (nI (sm (fun c => CV b cnt r c) (col + 1)))), (3, .int (nI ((col + 1))))] := by rw [ev2, ev3]; exact lv_sub hl [2, 3, 1, 0] rfl
        exact ih19 trivial ls hl
      · intro t hit hk ih33 ls hl
        have hl : lv_has ls 8 [(0, .ref h0), (1, .int (nI r)), (2, .int (nI (sm (fun c => CV b cnt r c) col))), (3, .int (nI col)), (4, .int (nI (mx (cvT b cnt r col) t))), (5, .int (nI (col + 1 + t)))] := hl
        refine lv_iload hx hb dX0_cover_33 (lv_at hl 5 rfl) ?_
        refine lv_bipush (v := nI 12) hx hb dX0_cover_35 (by decide) ?_
        refine hn_icmp_gt (tgt := 88) hx hb dX0_cover_37 (by decide) (by omega) (by omega) (fun c37 => absurd c37 (by omega)) (fun c37 => ?_)
        refine lv_aload_n hx hb dX0_cover_40 rfl (lv_at hl 0 rfl) ?_
        refine lv_iload_n hx hb dX0_cover_41 rfl (lv_at hl 1 rfl) ?_
        refine lv_iload hx hb dX0_cover_42 (lv_at hl 5 rfl) ?_
        refine vp_callSi (W.runV (As := [.int (nI r), .int (nI (col + 1 + t))]) (rest := []) ⟨hx, hb, hml, hown, hts⟩ (metX0_bestSince r (col + 1 + t) h8 (by omega) hr (hBt (col + 1 + t) (by omega))) (cwV 2 hts (lw_V q134 q136 qs10 q25 q137) rfl rfl rfl (by decide +kernel) ⟨Nat.le_of_ble_eq_true rfl, Nat.le_of_ble_eq_true rfl⟩) (rd_preX0 hK hP) rfl rfl hl.1 rfl (lv_room (Nat.le_of_ble_eq_true rfl)) dX0_cover_44 ⟨Nat.le_of_ble_eq_true rfl, Nat.le_of_ble_eq_true rfl⟩) (fun v hv => ?_)
        subst hv
        refine lv_istore (lv' := [(6, .int (nI (BS b cnt r (col + 1 + t)))), (0, .ref h0), (1, .int (nI r)), (2, .int (nI (sm (fun c => CV b cnt r c) col))), (3, .int (nI col)), (4, .int (nI (mx (cvT b cnt r col) t))), (5, .int (nI (col + 1 + t)))]) hx hb dX0_cover_47 hl (by decide) rfl (fun ls hl => ?_)
        refine lv_iload hx hb dX0_cover_49 (lv_at hl 0 rfl) ?_
        refine lv_iload_n hx hb dX0_cover_51 rfl (lv_at hl 4 rfl) ?_
        refine W.jn2 (g := F0 mM 64 ls [.int (nI (if BS b cnt r (col + 1 + t) ≤ col then col + 1 + t - BS b cnt r (col + 1 + t) else 0))]) (fun J => ?_) ?_
        · refine hn_icmp_gt (tgt := 63) hx hb dX0_cover_52 (by decide) (Nat.lt_of_le_of_lt (BS_le _ _ _ _) (by omega)) (by omega) (fun c52 => ?_) (fun c52 => ?_)
          · refine lv_iconst (v := nI 0) hx hb dX0_cover_63 (by decide) ?_
            have ej : (if BS b cnt r (col + 1 + t) ≤ col then col + 1 + t - BS b cnt r (col + 1 + t) else 0) = 0 := by first | exact if_pos c52 | exact if_neg (Nat.not_le.mpr c52)
            rw [ej] at J
            exact J
          · refine lv_iload hx hb dX0_cover_55 (lv_at hl 6 rfl) ?_
            refine lv_iload hx hb dX0_cover_57 (lv_at hl 0 rfl) ?_
            refine hn_sub hx hb dX0_cover_59 (by omega) ?_
            refine lv_goto (tgt := 64) hx hb dX0_cover_60 (by decide) ?_
            have ej : (if BS b cnt r (col + 1 + t) ≤ col then col + 1 + t - BS b cnt r (col + 1 + t) else 0) = ((col + 1 + t) - (BS b cnt r (col + 1 + t))) := by first | exact if_pos c52 | exact if_neg (Nat.not_le.mpr c52)
            rw [ej] at J
            exact J
        refine lv_istore (lv' := [(7, .int (nI (if BS b cnt r (col + 1 + t) ≤ col then col + 1 + t - BS b cnt r (col + 1 + t) else 0))), (6, .int (nI (BS b cnt r (col + 1 + t)))), (0, .ref h0), (1, .int (nI r)), (2, .int (nI (sm (fun c => CV b cnt r c) col))), (3, .int (nI col)), (4, .int (nI (mx (cvT b cnt r col) t))), (5, .int (nI (col + 1 + t)))]) hx hb dX0_cover_64 hl (by decide) rfl (fun ls hl => ?_)
        refine lv_iload hx hb dX0_cover_66 (lv_at hl 0 rfl) ?_
        refine lv_iload hx hb dX0_cover_68 (lv_at hl 6 rfl) ?_
        refine W.jn2 (g := F0 mM 80 ls [.int (nI (if mx (cvT b cnt r col) t < if BS b cnt r (col + 1 + t) ≤ col then col + 1 + t - BS b cnt r (col + 1 + t) else 0 then if BS b cnt r (col + 1 + t) ≤ col then col + 1 + t - BS b cnt r (col + 1 + t) else 0 else mx (cvT b cnt r col) t))]) (fun J => ?_) ?_
        · refine hn_icmp_le (tgt := 78) hx hb dX0_cover_70 (by decide) (Nat.lt_of_le_of_lt (cvT_le (b := b) (n := cnt) (r := r) (col := col) (t := t)) (by omega)) (cv_bd (by omega)) (fun c70 => ?_) (fun c70 => ?_)
          · refine lv_iload hx hb dX0_cover_78 (lv_at hl 6 rfl) ?_
            have ej : (if mx (cvT b cnt r col) t < if BS b cnt r (col + 1 + t) ≤ col then col + 1 + t - BS b cnt r (col + 1 + t) else 0 then if BS b cnt r (col + 1 + t) ≤ col then col + 1 + t - BS b cnt r (col + 1 + t) else 0 else mx (cvT b cnt r col) t) = (mx (cvT b cnt r col) t) := by first | exact if_pos c70 | exact if_neg (Nat.not_lt.mpr c70)
            rw [ej] at J
            exact J
          · refine lv_iload hx hb dX0_cover_73 (lv_at hl 0 rfl) ?_
            refine lv_goto (tgt := 80) hx hb dX0_cover_75 (by decide) ?_
            have ej : (if mx (cvT b cnt r col) t < if BS b cnt r (col + 1 + t) ≤ col then col + 1 + t - BS b cnt r (col + 1 + t) else 0 then if BS b cnt r (col + 1 + t) ≤ col then col + 1 + t - BS b cnt r (col + 1 + t) else 0 else mx (cvT b cnt r col) t) = (if BS b cnt r (col + 1 + t) ≤ col then col + 1 + t - BS b cnt r (col + 1 + t) else 0) := by first | exact if_pos c70 | exact if_neg (Nat.not_lt.mpr c70)
            rw [ej] at J
            exact J
        refine lv_istore (lv' := [(4, .int (nI (if mx (cvT b cnt r col) t < if BS b cnt r (col + 1 + t) ≤ col then col + 1 + t - BS b cnt r (col + 1 + t) else 0 then if BS b cnt r (col + 1 + t) ≤ col then col + 1 + t - BS b cnt r (col + 1 + t) else 0 else mx (cvT b cnt r col) t))), (7, .int (nI (if BS b cnt r (col + 1 + t) ≤ col then col + 1 + t - BS b cnt r (col + 1 + t) else 0))), (6, .int (nI (BS b cnt r (col + 1 + t)))), (0, .ref h0), (1, .int (nI r)), (2, .int (nI (sm (fun c => CV b cnt r c) col))), (3, .int (nI col)), (5, .int (nI (col + 1 + t)))]) hx hb dX0_cover_80 hl (by decide) rfl (fun ls hl => ?_)
        refine lv_iinc (v := nI ((col + 1 + t) + 1)) (lv' := [(5, .int (nI ((col + 1 + t) + 1))), (4, .int (nI (if mx (cvT b cnt r col) t < if BS b cnt r (col + 1 + t) ≤ col then col + 1 + t - BS b cnt r (col + 1 + t) else 0 then if BS b cnt r (col + 1 + t) ≤ col then col + 1 + t - BS b cnt r (col + 1 + t) else 0 else mx (cvT b cnt r col) t))), (7, .int (nI (if BS b cnt r (col + 1 + t) ≤ col then col + 1 + t - BS b cnt r (col + 1 + t) else 0))), (6, .int (nI (BS b cnt r (col + 1 + t)))), (0, .ref h0), (1, .int (nI r)), (2, .int (nI (sm (fun c => CV b cnt r c) col))), (3, .int (nI col))]) hx hb dX0_cover_82 hl (k := 7) rfl (nI_1 _) (by decide) rfl (fun ls hl => ?_)
        refine lv_goto (tgt := 33) hx hb dX0_cover_85 (by decide) ?_
        have ev4 : (mx (cvT b cnt r col) (t + 1)) = (if mx (cvT b cnt r col) t < if BS b cnt r (col + 1 + t) ≤ col then col + 1 + t - BS b cnt r (col + 1 + t) else 0 then if BS b cnt r (col + 1 + t) ≤ col then col + 1 + t - BS b cnt r (col + 1 + t) else 0 else mx (cvT b cnt r col) t) := by rfl
        have ev5 : (col + 1 + (t + 1)) = ((col + 1 + t) + 1) := by rfl
        have hl : lv_has ls 8 [(0, .ref h0), (1, .int (nI r)), (2, .int (nI (sm (fun c => CV b cnt r c) col))), (3, .int (nI col)), (4, .int (nI (mx (cvT b cnt r col) (t + 1)))), (5, .int (nI (col + 1 + (t + 1))))] := by rw [ev4, ev5]; exact lv_sub hl [4, 5, 6, 7, 1, 0] rfl
        exact ih33 trivial ls hl
  · refine lv_bipush (v := -4) hx hb dX0_cover_8 (by decide) ?_
    have er : (-4) = S_cov cnt b p0 := by exact (if_rowF (by simpa using c5) _ _).symm
    exact W.iret (v := (-4)) hx hb hret (fun t ht hW => ⟨⟨(-4), (), rfl, er, ⟨bu, o, g, n1, n2, hbt, by rw [ht]; exact hP, va_K.moved hW.alike hK, hD⟩⟩, hS.F ht⟩) hS.2.2 dX0_cover_10

set_option maxHeartbeats 4000000 in
set_option maxRecDepth 100000 in
theorem metX0_kinds {l : Launch} {dC : Nat → ClassId} {dI : Nat → Nat → Nat} {h0 k1 k2 k3 k4 k5 : Nat} {d0 : ClassId} {cnt bu : Nat} {b o g n1 n2 : Nat → Nat} {sz : Nat} (p0 p1 : Int32) (h8 : cnt ≤ 8) (hbd : ∀ k, b k < 4096) (hbt : okB cnt bu b o g) : Met l yX0_kinds (ws_ yX0_kinds cX0_kinds 5 (some .int)) (rmk 3) (wrP (dC, dI) [(d0, .int)] (XW h0 k1 k2 k3 k4 k5 d0 cnt bu b o g n1 n2) sz [.ref h0, .int p0, .int p1]) (va_Qi (fun r (_ : Unit) => r = S_kin cnt b p0 p1) (fun _ t => XB (dC, dI) h0 k1 k2 k3 k4 k5 d0 (va_A (XW h0 k1 k2 k3 k4 k5 d0 cnt bu b o g n1 n2) sz) cnt b t) (va_A (XW h0 k1 k2 k3 k4 k5 d0 cnt bu b o g n1 n2) sz)) 0 0 (va_A (XW h0 k1 k2 k3 k4 k5 d0 cnt bu b o g n1 n2) sz) := by
  refine Met.ofW (cc := cX0_kinds) (maxL := 5) (ret := (some .int)) (by decide) rfl ?_
  intro pP eE sS mM args below meth cC s₁ B hml hv
  obtain ⟨rfl, hsz, hP, hK, hD0⟩ := hv
  have hx := B.exec
  have hb := B.bytes
  have hret := B.returns
  have hts := atoms_spec (ws := ws_ yX0_kinds cX0_kinds 5 (some .int)) B.pre
  have hts : ∀ w ∈ lw_all, w.before _ sS = true := fun w h => hts w (List.mem_cons_of_mem _ h)
  have hown : sS.vm.findClass RX0 = some mM.cls := findClass_of_methodNamed B.named
  have hlocks := B.notSynchronized
  subst hsz
  have hD := hD0.self (sz := sS.heap.size)
  generalize hAe : va_A (XW h0 k1 k2 k3 k4 k5 d0 cnt bu b o g n1 n2) sS.heap.size = A at hD ⊢
  have hA : ∀ q : Nat, sS.heap.size ≤ q → A q := fun q h => by rw [← hAe]; exact Or.inr h
  clear hAe
  have hS : va_S A sS.heap sS.heap [] := va_S.rf
  have hl := lv_entry ([.ref h0, .int p0, .int p1]) (n := 5) (Nat.le_of_ble_eq_true rfl)
  rw [lg_entry_eq]
  generalize (lg_sl ([.ref h0, .int p0, .int p1]) ++ List.replicate (5 - (lg_sl ([.ref h0, .int p0, .int p1])).length) Slot.unset).toArray = ls at hl ⊢
  have hl : lv_has ls 5 [(0, .ref h0), (1, .int p0), (2, .int p1)] := hl
  refine lv_iload_n hx hb dX0_kinds_0 rfl (lv_at hl 1 rfl) ?_
  refine hz_if_lt (tgt := 15) hx hb dX0_kinds_1 (by decide) (fun c1 => ?_) (fun c1 => ?_)
  · refine lv_iconst (v := -1) hx hb dX0_kinds_15 (by decide) ?_
    have er : (-1) = S_kin cnt b p0 p1 := by exact (if_neg (by omega)).symm
    exact W.iret (v := (-1)) hx hb hret (fun t ht hW => ⟨⟨(-1), (), rfl, er, ⟨bu, o, g, n1, n2, hbt, by rw [ht]; exact hP, va_K.moved hW.alike hK, hD⟩⟩, hS.F ht⟩) hS.2.2 dX0_kinds_16
  · refine lv_iload_n hx hb dX0_kinds_4 rfl (lv_at hl 2 rfl) ?_
    refine lv_bipush (v := nI 12) hx hb dX0_kinds_5 (by decide) ?_
    refine hz_icmp_ge (tgt := 15) hx hb dX0_kinds_7 (by decide) (fun c7 => ?_) (fun c7 => ?_)
    · rw [hz_t (k := 12) (by omega)] at c7
      refine lv_iconst (v := -1) hx hb dX0_kinds_15 (by decide) ?_
      have er : (-1) = S_kin cnt b p0 p1 := by exact (if_neg (by omega)).symm
      exact W.iret (v := (-1)) hx hb hret (fun t ht hW => ⟨⟨(-1), (), rfl, er, ⟨bu, o, g, n1, n2, hbt, by rw [ht]; exact hP, va_K.moved hW.alike hK, hD⟩⟩, hS.F ht⟩) hS.2.2 dX0_kinds_16
    · rw [hz_t (k := 12) (by omega)] at c7
      refine lv_iload_n hx hb dX0_kinds_10 rfl (lv_at hl 1 rfl) ?_
      refine lv_iload_n hx hb dX0_kinds_11 rfl (lv_at hl 2 rfl) ?_
      refine hz_icmp_le (tgt := 17) hx hb dX0_kinds_12 (by decide) (fun c12 => ?_) (fun c12 => ?_)
      · obtain ⟨a, ha31, rfl, ea⟩ := hz_of (x := p0) (by omega)
        obtain ⟨e, he31, rfl, ee⟩ := hz_of (x := p1) (by omega)
        have ha : a ≤ e := (by omega)
        have he : e ≤ 11 := (by omega)
        clear c1 c7 c12 ea ee
        refine lv_aload_n hx hb dX0_kinds_17 rfl (lv_at hl 0 rfl) ?_
        have hFc := va_free (wc := (XW h0 k1 k2 k3 k4 k5 d0 cnt bu b o g n1 n2)) hD hS hA [0, 1, 2, 3, 4, 5] rfl
        refine va_callv (va_runV (As := []) (rest := []) ⟨hx, hb, hml, hown, hts⟩ (metX0_build h8 hbd hbt) (cwV 0 hts (lw_V q90 q92 qs3 q25 q93) rfl rfl rfl (by decide +kernel) ⟨Nat.le_of_ble_eq_true rfl, Nat.le_of_ble_eq_true rfl⟩) (wr_preX0 hK hP hD) rfl rfl hl.1 rfl (lv_room (Nat.le_of_ble_eq_true rfl)) dX0_kinds_18 ⟨Nat.le_of_ble_eq_true rfl, Nat.le_of_ble_eq_true rfl⟩) hS (fun q _ h => hFc q h) hFc (fun u t H locs ht hvm hw hB9 hz1 hk1 hS => ?_)
        obtain ⟨hP, hK9, hD9⟩ := hB9
        rw [ht] at hP
        have hD := hD9.weaken (fun k q _ h => hFc q.1 h)
        obtain ⟨o3, g3, m3, m4⟩ := u
        have hP : va_P (dC, dI) vwCl (XW h0 k1 k2 k3 k4 k5 d0 cnt 1 b o3 g3 m3 m4) H := hP
        have hD : va_D A (XW h0 k1 k2 k3 k4 k5 d0 cnt 1 b o3 g3 m3 m4) := hD
        have hBt : Bt cnt b o3 g3 := hw
        refine lv_iconst (v := nI 0) hx hb dX0_kinds_21 (by decide) ?_
        refine lv_istore_n (lv' := [(3, .int (nI 0)), (0, .ref h0), (1, .int (nI a)), (2, .int (nI e))]) hx hb dX0_kinds_22 rfl hl (by decide) rfl (fun ls hl => ?_)
        refine lv_iconst (v := nI 0) hx hb dX0_kinds_23 (by decide) ?_
        refine lv_istore (lv' := [(4, .int (nI 0)), (3, .int (nI 0)), (0, .ref h0), (1, .int (nI a)), (2, .int (nI e))]) hx hb dX0_kinds_24 hl (by decide) rfl (fun ls hl => ?_)
        have hl : lv_has ls 5 [(0, .ref h0), (1, .int (nI a)), (2, .int (nI e)), (3, .int (nI (cN (KNp b cnt a e) 0))), (4, .int (nI 0))] := lv_sub hl [2, 3, 4, 1, 0] rfl
        refine W.up 5 26 (fun i => [(0, .ref h0), (1, .int (nI a)), (2, .int (nI e)), (3, .int (nI (cN (KNp b cnt a e) i))), (4, .int (nI i))]) (fun i => True) cnt ?_ ?_ 0 (by omega) trivial hl
        · intro hk ls hl
          have hl : lv_has ls 5 [(0, .ref h0), (1, .int (nI a)), (2, .int (nI e)), (3, .int (nI (cN (KNp b cnt a e) cnt))), (4, .int (nI cnt))] := hl
          refine lv_iload hx hb dX0_kinds_26 (lv_at hl 4 rfl) ?_
          refine lv_aload_n hx hb dX0_kinds_28 rfl (lv_at hl 0 rfl) ?_
          refine va_get (D := (dC, dI)) (ci := 0) (v := .int (nI cnt)) (C := RX0) (T := TX0) (N := 7) hx hb hts in_X0 hown hK hP 0 rfl rfl 0 (by decide) (hts _ q35) (fun _ h9 => h9) rfl dX0_kinds_29 ?_
          refine hn_icmp_ge (tgt := 72) hx hb dX0_kinds_32 (by decide) (by omega) (by omega) (fun c32 => ?_) (fun c32 => absurd c32 (by omega))
          refine lv_iload_n hx hb dX0_kinds_72 rfl (lv_at hl 3 rfl) ?_
          have er : nI (cN (KNp b cnt a e) cnt) = S_kin cnt b (nI a) (nI e) := by exact (S_kin_ok ha he).symm
          exact W.iret (v := nI (cN (KNp b cnt a e) cnt)) hx hb hret (fun t ht hW => ⟨⟨nI (cN (KNp b cnt a e) cnt), (), rfl, er, ⟨1, o3, g3, m3, m4, Or.inr ⟨rfl, hBt⟩, by rw [ht]; exact hP, va_K.moved hW.alike hK, hD⟩⟩, hS.F ht⟩) hS.2.2 dX0_kinds_73
        · intro i hii hk ih26 ls hl
          have hl : lv_has ls 5 [(0, .ref h0), (1, .int (nI a)), (2, .int (nI e)), (3, .int (nI (cN (KNp b cnt a e) i))), (4, .int (nI i))] := hl
          refine lv_iload hx hb dX0_kinds_26 (lv_at hl 4 rfl) ?_
          refine lv_aload_n hx hb dX0_kinds_28 rfl (lv_at hl 0 rfl) ?_
          refine va_get (D := (dC, dI)) (ci := 0) (v := .int (nI cnt)) (C := RX0) (T := TX0) (N := 7) hx hb hts in_X0 hown hK hP 0 rfl rfl 0 (by decide) (hts _ q35) (fun _ h9 => h9) rfl dX0_kinds_29 ?_
          refine hn_icmp_ge (tgt := 72) hx hb dX0_kinds_32 (by decide) (by omega) (by omega) (fun c32 => absurd c32 (by omega)) (fun c32 => ?_)
          refine lv_iload hx hb dX0_kinds_35 (lv_at hl 4 rfl) ?_
          refine W.jn2 (g := F0 mM 65 ls [.int (nI (cN (KNp b cnt a e) i + bN (KNp b cnt a e i)))]) (fun J => ?_) ?_
          · refine hn_if_eq (tgt := 58) hx hb dX0_kinds_37 (by decide) (by omega) (fun c37 => ?_) (fun c37 => ?_)
            · refine lv_iload_n hx hb dX0_kinds_58 rfl (lv_at hl 3 rfl) ?_
              refine lv_iconst (v := nI 1) hx hb dX0_kinds_59 (by decide) ?_
              refine hn_add hx hb dX0_kinds_60 ?_
              refine lv_goto (tgt := 65) hx hb dX0_kinds_61 (by decide) ?_
              have ej : (cN (KNp b cnt a e) i + bN (KNp b cnt a e i)) = ((cN (KNp b cnt a e) i) + 1) := by rw [show KNp b cnt a e i = true from decide_eq_true (by omega)]; rfl
              rw [ej] at J
              exact J
            · refine lv_aload_n hx hb dX0_kinds_40 rfl (lv_at hl 0 rfl) ?_
              refine va_get (D := (dC, dI)) (ci := 0) (v := .ref k3) (C := RX0) (T := TX0) (N := 7) hx hb hts in_X0 hown hK hP 0 rfl rfl 4 (by decide) (hts _ q39) (fun _ h9 => h9) rfl dX0_kinds_41 ?_
              refine lv_bipush (v := nI 8) hx hb dX0_kinds_44 (by decide) ?_
              refine lv_iload_n hx hb dX0_kinds_46 rfl (lv_at hl 2 rfl) ?_
              refine lv_iconst (v := nI 1) hx hb dX0_kinds_47 (by decide) ?_
              refine hn_add hx hb dX0_kinds_48 ?_
              refine hn_mul hx hb dX0_kinds_49 ?_
              refine lv_iload hx hb dX0_kinds_50 (lv_at hl 4 rfl) ?_
              refine hn_add hx hb dX0_kinds_52 ?_
              refine hn_ald hx hb hK hP 3 0 rfl rfl (by omega) (by decide) dX0_kinds_53 ?_
              refine hn_top (y := nI (bg b cnt (e + 1) i)) (congrArg nI (hBt (e + 1) (by omega) i hii).2) ?_
              refine lv_iload_n hx hb dX0_kinds_54 rfl (lv_at hl 1 rfl) ?_
              refine hn_icmp_le (tgt := 64) hx hb dX0_kinds_55 (by decide) (Nat.lt_of_le_of_lt (bg_le _ _ _ _) (by omega)) (by omega) (fun c55 => ?_) (fun c55 => ?_)
              · refine lv_iload_n hx hb dX0_kinds_64 rfl (lv_at hl 3 rfl) ?_
                have ej : (cN (KNp b cnt a e) i + bN (KNp b cnt a e i)) = (cN (KNp b cnt a e) i) := by rw [show KNp b cnt a e i = false from decide_eq_false (by omega)]; rfl
                rw [ej] at J
                exact J
              · refine lv_iload_n hx hb dX0_kinds_58 rfl (lv_at hl 3 rfl) ?_
                refine lv_iconst (v := nI 1) hx hb dX0_kinds_59 (by decide) ?_
                refine hn_add hx hb dX0_kinds_60 ?_
                refine lv_goto (tgt := 65) hx hb dX0_kinds_61 (by decide) ?_
                have ej : (cN (KNp b cnt a e) i + bN (KNp b cnt a e i)) = ((cN (KNp b cnt a e) i) + 1) := by rw [show KNp b cnt a e i = true from decide_eq_true (by omega)]; rfl
                rw [ej] at J
                exact J
          refine lv_istore_n (lv' := [(3, .int (nI (cN (KNp b cnt a e) i + bN (KNp b cnt a e i)))), (0, .ref h0), (1, .int (nI a)), (2, .int (nI e)), (4, .int (nI i))]) hx hb dX0_kinds_65 rfl hl (by decide) rfl (fun ls hl => ?_)
          refine lv_iinc (v := nI (i + 1)) (lv' := [(4, .int (nI (i + 1))), (3, .int (nI (cN (KNp b cnt a e) i + bN (KNp b cnt a e i)))), (0, .ref h0), (1, .int (nI a)), (2, .int (nI e))]) hx hb dX0_kinds_66 hl (k := 4) rfl (nI_1 _) (by decide) rfl (fun ls hl => ?_)
          refine lv_goto (tgt := 26) hx hb dX0_kinds_69 (by decide) ?_
          have ev3 : (cN (KNp b cnt a e) (i + 1)) = (cN (KNp b cnt a e) i + bN (KNp b cnt a e i)) := by rfl
          have ev4 : ((i + 1)) = (i + 1) := by rfl
          have hl : lv_has ls 5 [(0, .ref h0), (1, .int (nI a)), (2, .int (nI e)), (3, .int (nI (cN (KNp b cnt a e) (i + 1)))), (4, .int (nI ((i + 1))))] := by rw [ev3, ev4]; exact lv_sub hl [2, 3, 4, 1, 0] rfl
          exact ih26 trivial ls hl
      · refine lv_iconst (v := -1) hx hb dX0_kinds_15 (by decide) ?_
        have er : (-1) = S_kin cnt b p0 p1 := by exact (if_neg (by omega)).symm
        exact W.iret (v := (-1)) hx hb hret (fun t ht hW => ⟨⟨(-1), (), rfl, er, ⟨bu, o, g, n1, n2, hbt, by rw [ht]; exact hP, va_K.moved hW.alike hK, hD⟩⟩, hS.F ht⟩) hS.2.2 dX0_kinds_16

set_option maxHeartbeats 4000000 in
set_option maxRecDepth 100000 in
theorem metX0_having {l : Launch} {dC : Nat → ClassId} {dI : Nat → Nat → Nat} {h0 k1 k2 k3 k4 k5 : Nat} {d0 : ClassId} {cnt bu : Nat} {b o g n1 n2 : Nat → Nat} {sz : Nat} (p0 p1 p2 : Int32) (h8 : cnt ≤ 8) (hbd : ∀ k, b k < 4096) (hbt : okB cnt bu b o g) : Met l yX0_having (ws_ yX0_having cX0_having 9 (some .int)) (rmk 3) (wrP (dC, dI) [(d0, .int)] (XW h0 k1 k2 k3 k4 k5 d0 cnt bu b o g n1 n2) sz [.ref h0, .int p0, .int p1, .int p2]) (va_Qi (fun r (_ : Unit) => r = S_hav cnt b p0 p1 p2) (fun _ t => XB (dC, dI) h0 k1 k2 k3 k4 k5 d0 (va_A (XW h0 k1 k2 k3 k4 k5 d0 cnt bu b o g n1 n2) sz) cnt b t) (va_A (XW h0 k1 k2 k3 k4 k5 d0 cnt bu b o g n1 n2) sz)) 0 0 (va_A (XW h0 k1 k2 k3 k4 k5 d0 cnt bu b o g n1 n2) sz) := by
  refine Met.ofW (cc := cX0_having) (maxL := 9) (ret := (some .int)) (by decide) rfl ?_
  intro pP eE sS mM args below meth cC s₁ B hml hv
  obtain ⟨rfl, hsz, hP, hK, hD0⟩ := hv
  have hx := B.exec
  have hb := B.bytes
  have hret := B.returns
  have hts := atoms_spec (ws := ws_ yX0_having cX0_having 9 (some .int)) B.pre
  have hts : ∀ w ∈ lw_all, w.before _ sS = true := fun w h => hts w (List.mem_cons_of_mem _ h)
  have hown : sS.vm.findClass RX0 = some mM.cls := findClass_of_methodNamed B.named
  have hlocks := B.notSynchronized
  subst hsz
  have hD := hD0.self (sz := sS.heap.size)
  generalize hAe : va_A (XW h0 k1 k2 k3 k4 k5 d0 cnt bu b o g n1 n2) sS.heap.size = A at hD ⊢
  have hA : ∀ q : Nat, sS.heap.size ≤ q → A q := fun q h => by rw [← hAe]; exact Or.inr h
  clear hAe
  have hS : va_S A sS.heap sS.heap [] := va_S.rf
  have hl := lv_entry ([.ref h0, .int p0, .int p1, .int p2]) (n := 9) (Nat.le_of_ble_eq_true rfl)
  rw [lg_entry_eq]
  generalize (lg_sl ([.ref h0, .int p0, .int p1, .int p2]) ++ List.replicate (9 - (lg_sl ([.ref h0, .int p0, .int p1, .int p2])).length) Slot.unset).toArray = ls at hl ⊢
  have hl : lv_has ls 9 [(0, .ref h0), (1, .int p0), (2, .int p1), (3, .int p2)] := hl
  refine lv_iload_n hx hb dX0_having_0 rfl (lv_at hl 1 rfl) ?_
  refine hz_if_lt (tgt := 39) hx hb dX0_having_1 (by decide) (fun c1 => ?_) (fun c1 => ?_)
  · refine lv_iconst (v := -1) hx hb dX0_having_39 (by decide) ?_
    have er : (-1) = S_hav cnt b p0 p1 p2 := by exact (if_neg (by omega)).symm
    exact W.iret (v := (-1)) hx hb hret (fun t ht hW => ⟨⟨(-1), (), rfl, er, ⟨bu, o, g, n1, n2, hbt, by rw [ht]; exact hP, va_K.moved hW.alike hK, hD⟩⟩, hS.F ht⟩) hS.2.2 dX0_having_40
  · refine lv_iload_n hx hb dX0_having_4 rfl (lv_at hl 1 rfl) ?_
    refine lv_bipush (v := nI 12) hx hb dX0_having_5 (by decide) ?_
    refine hz_icmp_gt (tgt := 39) hx hb dX0_having_7 (by decide) (fun c7 => ?_) (fun c7 => ?_)
    · rw [hz_t (k := 12) (by omega)] at c7
      refine lv_iconst (v := -1) hx hb dX0_having_39 (by decide) ?_
      have er : (-1) = S_hav cnt b p0 p1 p2 := by exact (if_neg (by omega)).symm
      exact W.iret (v := (-1)) hx hb hret (fun t ht hW => ⟨⟨(-1), (), rfl, er, ⟨bu, o, g, n1, n2, hbt, by rw [ht]; exact hP, va_K.moved hW.alike hK, hD⟩⟩, hS.F ht⟩) hS.2.2 dX0_having_40
    · rw [hz_t (k := 12) (by omega)] at c7
      refine lv_iload_n hx hb dX0_having_10 rfl (lv_at hl 2 rfl) ?_
      refine hz_if_lt (tgt := 39) hx hb dX0_having_11 (by decide) (fun c11 => ?_) (fun c11 => ?_)
      · refine lv_iconst (v := -1) hx hb dX0_having_39 (by decide) ?_
        have er : (-1) = S_hav cnt b p0 p1 p2 := by exact (if_neg (by omega)).symm
        exact W.iret (v := (-1)) hx hb hret (fun t ht hW => ⟨⟨(-1), (), rfl, er, ⟨bu, o, g, n1, n2, hbt, by rw [ht]; exact hP, va_K.moved hW.alike hK, hD⟩⟩, hS.F ht⟩) hS.2.2 dX0_having_40
      · refine lv_iload_n hx hb dX0_having_14 rfl (lv_at hl 2 rfl) ?_
        refine lv_bipush (v := nI 12) hx hb dX0_having_15 (by decide) ?_
        refine hz_icmp_gt (tgt := 39) hx hb dX0_having_17 (by decide) (fun c17 => ?_) (fun c17 => ?_)
        · rw [hz_t (k := 12) (by omega)] at c17
          refine lv_iconst (v := -1) hx hb dX0_having_39 (by decide) ?_
          have er : (-1) = S_hav cnt b p0 p1 p2 := by exact (if_neg (by omega)).symm
          exact W.iret (v := (-1)) hx hb hret (fun t ht hW => ⟨⟨(-1), (), rfl, er, ⟨bu, o, g, n1, n2, hbt, by rw [ht]; exact hP, va_K.moved hW.alike hK, hD⟩⟩, hS.F ht⟩) hS.2.2 dX0_having_40
        · rw [hz_t (k := 12) (by omega)] at c17
          refine lv_iload_n hx hb dX0_having_20 rfl (lv_at hl 1 rfl) ?_
          refine lv_iload_n hx hb dX0_having_21 rfl (lv_at hl 2 rfl) ?_
          refine lv_iadd hx hb dX0_having_22 ?_
          refine lv_bipush (v := nI 12) hx hb dX0_having_23 (by decide) ?_
          refine hz_icmp_gt (tgt := 39) hx hb dX0_having_25 (by decide) (fun c25 => ?_) (fun c25 => ?_)
          · rw [hz_t (k := 12) (by omega)] at c25
            refine lv_iconst (v := -1) hx hb dX0_having_39 (by decide) ?_
            have er : (-1) = S_hav cnt b p0 p1 p2 := by exact S_hav_bad c11 c17 (decide_eq_true (by omega)) c25
            exact W.iret (v := (-1)) hx hb hret (fun t ht hW => ⟨⟨(-1), (), rfl, er, ⟨bu, o, g, n1, n2, hbt, by rw [ht]; exact hP, va_K.moved hW.alike hK, hD⟩⟩, hS.F ht⟩) hS.2.2 dX0_having_40
          · rw [hz_t (k := 12) (by omega)] at c25
            refine lv_iload_n hx hb dX0_having_28 rfl (lv_at hl 3 rfl) ?_
            refine hz_if_lt (tgt := 39) hx hb dX0_having_29 (by decide) (fun c29 => ?_) (fun c29 => ?_)
            · refine lv_iconst (v := -1) hx hb dX0_having_39 (by decide) ?_
              have er : (-1) = S_hav cnt b p0 p1 p2 := by exact (if_neg (fun z => by have z1 := of_decide_eq_true z.2.2.2; omega)).symm
              exact W.iret (v := (-1)) hx hb hret (fun t ht hW => ⟨⟨(-1), (), rfl, er, ⟨bu, o, g, n1, n2, hbt, by rw [ht]; exact hP, va_K.moved hW.alike hK, hD⟩⟩, hS.F ht⟩) hS.2.2 dX0_having_40
            · refine lv_iload_n hx hb dX0_having_32 rfl (lv_at hl 3 rfl) ?_
              refine lv_sipush (v := nI 4095) hx hb dX0_having_33 (by decide) ?_
              refine hz_icmp_le (tgt := 41) hx hb dX0_having_36 (by decide) (fun c36 => ?_) (fun c36 => ?_)
              · rw [hz_t (k := 4095) (by omega)] at c36
                obtain ⟨a, ha31, rfl, ea⟩ := hz_of (x := p0) (by omega)
                obtain ⟨k, hk31, rfl, ek⟩ := hz_of (x := p1) (by omega)
                obtain ⟨y, hy31, rfl, ey⟩ := hz_of (x := p2) (by omega)
                have hy : y < 4096 := (by omega)
                rw [hz_t ha31] at c1 c7
                rw [hz_t hk31] at c11 c17
                rw [nI_add, hz_t (by omega)] at c25
                have hak : a + k ≤ 12 := (by omega)
                clear ea ek ey
                refine lv_aload_n hx hb dX0_having_41 rfl (lv_at hl 0 rfl) ?_
                have hFc := va_free (wc := (XW h0 k1 k2 k3 k4 k5 d0 cnt bu b o g n1 n2)) hD hS hA [0, 1, 2, 3, 4, 5] rfl
                refine va_callv (va_runV (As := []) (rest := []) ⟨hx, hb, hml, hown, hts⟩ (metX0_build h8 hbd hbt) (cwV 0 hts (lw_V q90 q92 qs3 q25 q93) rfl rfl rfl (by decide +kernel) ⟨Nat.le_of_ble_eq_true rfl, Nat.le_of_ble_eq_true rfl⟩) (wr_preX0 hK hP hD) rfl rfl hl.1 rfl (lv_room (Nat.le_of_ble_eq_true rfl)) dX0_having_42 ⟨Nat.le_of_ble_eq_true rfl, Nat.le_of_ble_eq_true rfl⟩) hS (fun q _ h => hFc q h) hFc (fun u t H locs ht hvm hw hB9 hz1 hk1 hS => ?_)
                obtain ⟨hP, hK9, hD9⟩ := hB9
                rw [ht] at hP
                have hD := hD9.weaken (fun k q _ h => hFc q.1 h)
                obtain ⟨o3, g3, m3, m4⟩ := u
                have hP : va_P (dC, dI) vwCl (XW h0 k1 k2 k3 k4 k5 d0 cnt 1 b o3 g3 m3 m4) H := hP
                have hD : va_D A (XW h0 k1 k2 k3 k4 k5 d0 cnt 1 b o3 g3 m3 m4) := hD
                have hBt : Bt cnt b o3 g3 := hw
                refine lv_iconst (v := nI 1) hx hb dX0_having_45 (by decide) ?_
                refine lv_iload_n hx hb dX0_having_46 rfl (lv_at hl 2 rfl) ?_
                refine hn_shl hx hb dX0_having_47 (by omega) ?_
                refine lv_iconst (v := nI 1) hx hb dX0_having_48 (by decide) ?_
                refine hn_sub hx hb dX0_having_49 (hn_2p _) ?_
                refine lv_istore (lv' := [(4, .int (nI ((2 ^ k) - 1))), (0, .ref h0), (1, .int (nI a)), (2, .int (nI k)), (3, .int (nI y))]) hx hb dX0_having_50 hl (by decide) rfl (fun ls hl => ?_)
                refine lv_iload_n hx hb dX0_having_52 rfl (lv_at hl 2 rfl) ?_
                refine lv_iload_n hx hb dX0_having_53 rfl (lv_at hl 3 rfl) ?_
                refine hn_add hx hb dX0_having_54 ?_
                refine lv_istore (lv' := [(5, .int (nI (a + k))), (4, .int (nI ((2 ^ k) - 1))), (0, .ref h0), (1, .int (nI a)), (2, .int (nI k)), (3, .int (nI y))]) hx hb dX0_having_55 hl (by decide) rfl (fun ls hl => ?_)
                refine lv_iconst (v := nI 0) hx hb dX0_having_57 (by decide) ?_
                refine lv_istore (lv' := [(6, .int (nI 0)), (5, .int (nI (a + k))), (4, .int (nI ((2 ^ k) - 1))), (0, .ref h0), (1, .int (nI a)), (2, .int (nI k)), (3, .int (nI y))]) hx hb dX0_having_58 hl (by decide) rfl (fun ls hl => ?_)
                refine lv_iconst (v := nI 0) hx hb dX0_having_60 (by decide) ?_
                refine lv_istore (lv' := [(7, .int (nI 0)), (6, .int (nI 0)), (5, .int (nI (a + k))), (4, .int (nI ((2 ^ k) - 1))), (0, .ref h0), (1, .int (nI a)), (2, .int (nI k)), (3, .int (nI y))]) hx hb dX0_having_61 hl (by decide) rfl (fun ls hl => ?_)
                refine lv_iconst (v := nI 0) hx hb dX0_having_63 (by decide) ?_
                refine lv_istore (lv' := [(8, .int (nI 0)), (7, .int (nI 0)), (6, .int (nI 0)), (5, .int (nI (a + k))), (4, .int (nI ((2 ^ k) - 1))), (0, .ref h0), (1, .int (nI a)), (2, .int (nI k)), (3, .int (nI y))]) hx hb dX0_having_64 hl (by decide) rfl (fun ls hl => ?_)
                have hl : lv_has ls 9 [(0, .ref h0), (1, .int (nI a)), (2, .int (nI k)), (3, .int (nI y)), (4, .int (nI ((2 ^ k) - 1))), (5, .int (nI (a + k))), (6, .int (nI (cN (hq b cnt a k y) 0))), (7, .int (nI (bN (hin b cnt a k y 0)))), (8, .int (nI 0))] := lv_sub hl [5, 6, 7, 8, 4, 3, 2, 1, 0] rfl
                refine W.up 9 66 (fun i => [(0, .ref h0), (1, .int (nI a)), (2, .int (nI k)), (3, .int (nI y)), (4, .int (nI ((2 ^ k) - 1))), (5, .int (nI (a + k))), (6, .int (nI (cN (hq b cnt a k y) i))), (7, .int (nI (bN (hin b cnt a k y i)))), (8, .int (nI i))]) (fun i => True) cnt ?_ ?_ 0 (by omega) trivial hl
                · intro hk ls hl
                  have hl : lv_has ls 9 [(0, .ref h0), (1, .int (nI a)), (2, .int (nI k)), (3, .int (nI y)), (4, .int (nI ((2 ^ k) - 1))), (5, .int (nI (a + k))), (6, .int (nI (cN (hq b cnt a k y) cnt))), (7, .int (nI (bN (hin b cnt a k y cnt)))), (8, .int (nI cnt))] := hl
                  refine lv_iload hx hb dX0_having_66 (lv_at hl 8 rfl) ?_
                  refine lv_aload_n hx hb dX0_having_68 rfl (lv_at hl 0 rfl) ?_
                  refine va_get (D := (dC, dI)) (ci := 0) (v := .int (nI cnt)) (C := RX0) (T := TX0) (N := 7) hx hb hts in_X0 hown hK hP 0 rfl rfl 0 (by decide) (hts _ q35) (fun _ h9 => h9) rfl dX0_having_69 ?_
                  refine hn_icmp_ge (tgt := 171) hx hb dX0_having_72 (by decide) (by omega) (by omega) (fun c72 => ?_) (fun c72 => absurd c72 (by omega))
                  refine lv_iload hx hb dX0_having_171 (lv_at hl 6 rfl) ?_
                  have er : nI (cN (hq b cnt a k y) cnt) = S_hav cnt b (nI a) (nI k) (nI y) := by rw [hq_cN]; exact (S_hav_ok hak hy).symm
                  exact W.iret (v := nI (cN (hq b cnt a k y) cnt)) hx hb hret (fun t ht hW => ⟨⟨nI (cN (hq b cnt a k y) cnt), (), rfl, er, ⟨1, o3, g3, m3, m4, Or.inr ⟨rfl, hBt⟩, by rw [ht]; exact hP, va_K.moved hW.alike hK, hD⟩⟩, hS.F ht⟩) hS.2.2 dX0_having_173
                · intro i hii hk ih66 ls hl
                  have hl : lv_has ls 9 [(0, .ref h0), (1, .int (nI a)), (2, .int (nI k)), (3, .int (nI y)), (4, .int (nI ((2 ^ k) - 1))), (5, .int (nI (a + k))), (6, .int (nI (cN (hq b cnt a k y) i))), (7, .int (nI (bN (hin b cnt a k y i)))), (8, .int (nI i))] := hl
                  refine lv_iload hx hb dX0_having_66 (lv_at hl 8 rfl) ?_
                  refine lv_aload_n hx hb dX0_having_68 rfl (lv_at hl 0 rfl) ?_
                  refine va_get (D := (dC, dI)) (ci := 0) (v := .int (nI cnt)) (C := RX0) (T := TX0) (N := 7) hx hb hts in_X0 hown hK hP 0 rfl rfl 0 (by decide) (hts _ q35) (fun _ h9 => h9) rfl dX0_having_69 ?_
                  refine hn_icmp_ge (tgt := 171) hx hb dX0_having_72 (by decide) (by omega) (by omega) (fun c72 => absurd c72 (by omega)) (fun c72 => ?_)
                  refine lv_iload hx hb dX0_having_75 (lv_at hl 7 rfl) ?_
                  refine hn_ifB_eq (tgt := 107) hx hb dX0_having_77 (by decide) (fun c77 => ?_) (fun c77 => ?_)
                  · refine lv_iload hx hb dX0_having_107 (lv_at hl 6 rfl) ?_
                    refine hn_if_ne (tgt := 149) hx hb dX0_having_109 (by decide) (Nat.lt_of_le_of_lt (cN_le _ _) (by omega)) (fun c109 => ?_) (fun c109 => ?_)
                    · have e7 : bN (hq b cnt a k y i) = (bN (hin b cnt a k y i)) := by rw [hv_out hii c77 c109, c77]
                      have hl : lv_has ls 9 [(0, .ref h0), (1, .int (nI a)), (2, .int (nI k)), (3, .int (nI y)), (4, .int (nI ((2 ^ k) - 1))), (5, .int (nI (a + k))), (6, .int (nI (cN (hq b cnt a k y) i))), (7, .int (nI (bN (hq b cnt a k y i)))), (8, .int (nI i))] := by rw [e7]; exact hl
                      refine lv_iload hx hb dX0_having_149 (lv_at hl 7 rfl) ?_
                      refine W.jn2 (g := F0 mM 163 ls [.int (nI (cN (hq b cnt a k y) i + bN (hq b cnt a k y i)))]) (fun J => ?_) ?_
                      · refine hn_ifB_eq (tgt := 161) hx hb dX0_having_151 (by decide) (fun c151 => ?_) (fun c151 => ?_)
                        · refine lv_iload hx hb dX0_having_161 (lv_at hl 6 rfl) ?_
                          have ej : (cN (hq b cnt a k y) i + bN (hq b cnt a k y i)) = (cN (hq b cnt a k y) i) := by rw [c151]; rfl
                          rw [ej] at J
                          exact J
                        · refine lv_iload hx hb dX0_having_154 (lv_at hl 6 rfl) ?_
                          refine lv_iconst (v := nI 1) hx hb dX0_having_156 (by decide) ?_
                          refine hn_add hx hb dX0_having_157 ?_
                          refine lv_goto (tgt := 163) hx hb dX0_having_158 (by decide) ?_
                          have ej : (cN (hq b cnt a k y) i + bN (hq b cnt a k y i)) = ((cN (hq b cnt a k y) i) + 1) := by rw [c151]; rfl
                          rw [ej] at J
                          exact J
                      refine lv_istore (lv' := [(6, .int (nI (cN (hq b cnt a k y) i + bN (hq b cnt a k y i)))), (0, .ref h0), (1, .int (nI a)), (2, .int (nI k)), (3, .int (nI y)), (4, .int (nI ((2 ^ k) - 1))), (5, .int (nI (a + k))), (7, .int (nI (bN (hq b cnt a k y i)))), (8, .int (nI i))]) hx hb dX0_having_163 hl (by decide) rfl (fun ls hl => ?_)
                      refine lv_iinc (v := nI (i + 1)) (lv' := [(8, .int (nI (i + 1))), (6, .int (nI (cN (hq b cnt a k y) i + bN (hq b cnt a k y i)))), (0, .ref h0), (1, .int (nI a)), (2, .int (nI k)), (3, .int (nI y)), (4, .int (nI ((2 ^ k) - 1))), (5, .int (nI (a + k))), (7, .int (nI (bN (hq b cnt a k y i))))]) hx hb dX0_having_165 hl (k := 8) rfl (nI_1 _) (by decide) rfl (fun ls hl => ?_)
                      refine lv_goto (tgt := 66) hx hb dX0_having_168 (by decide) ?_
                      have ev6 : (cN (hq b cnt a k y) (i + 1)) = (cN (hq b cnt a k y) i + bN (hq b cnt a k y i)) := by rfl
                      have ev7 : (bN (hin b cnt a k y (i + 1))) = (bN (hq b cnt a k y i)) := by rw [hin_s]
                      have ev8 : ((i + 1)) = (i + 1) := by rfl
                      have hl : lv_has ls 9 [(0, .ref h0), (1, .int (nI a)), (2, .int (nI k)), (3, .int (nI y)), (4, .int (nI ((2 ^ k) - 1))), (5, .int (nI (a + k))), (6, .int (nI (cN (hq b cnt a k y) (i + 1)))), (7, .int (nI (bN (hin b cnt a k y (i + 1))))), (8, .int (nI ((i + 1))))] := by rw [ev6, ev7, ev8]; exact lv_sub hl [2, 3, 4, 5, 6, 7, 1, 8, 0] rfl
                      exact ih66 trivial ls hl
                    · refine lv_aload_n hx hb dX0_having_112 rfl (lv_at hl 0 rfl) ?_
                      refine va_get (D := (dC, dI)) (ci := 0) (v := .ref k1) (C := RX0) (T := TX0) (N := 7) hx hb hts in_X0 hown hK hP 0 rfl rfl 1 (by decide) (hts _ q36) (fun _ h9 => h9) rfl dX0_having_113 ?_
                      refine lv_aload_n hx hb dX0_having_116 rfl (lv_at hl 0 rfl) ?_
                      refine va_get (D := (dC, dI)) (ci := 0) (v := .ref k2) (C := RX0) (T := TX0) (N := 7) hx hb hts in_X0 hown hK hP 0 rfl rfl 3 (by decide) (hts _ q38) (fun _ h9 => h9) rfl dX0_having_117 ?_
                      refine lv_bipush (v := nI 8) hx hb dX0_having_120 (by decide) ?_
                      refine lv_iload hx hb dX0_having_122 (lv_at hl 5 rfl) ?_
                      refine hn_mul hx hb dX0_having_124 ?_
                      refine lv_iload hx hb dX0_having_125 (lv_at hl 8 rfl) ?_
                      refine hn_add hx hb dX0_having_127 ?_
                      refine hn_ald hx hb hK hP 2 0 rfl rfl (by omega) (by decide) dX0_having_128 ?_
                      refine hn_top (y := nI (ro b cnt (a + k) i)) (congrArg nI (hBt (a + k) hak i hii).1) ?_
                      refine hn_ald hx hb hK hP 1 0 rfl rfl (ro_lt8 h8 hii) (by decide) dX0_having_129 ?_
                      refine lv_iload_n hx hb dX0_having_130 rfl (lv_at hl 1 rfl) ?_
                      refine hn_shr hx hb dX0_having_131 (Nat.lt_trans (hbd _) (by decide)) (by omega) ?_
                      refine lv_iload hx hb dX0_having_132 (lv_at hl 4 rfl) ?_
                      refine hn_and (k0 := k) hx hb dX0_having_134 (Nat.lt_of_le_of_lt (Nat.div_le_self _ _) (Nat.lt_trans (hbd _) (by decide))) (hn_2k (by omega)) ?_
                      refine lv_iload_n hx hb dX0_having_135 rfl (lv_at hl 3 rfl) ?_
                      refine lv_iload hx hb dX0_having_136 (lv_at hl 4 rfl) ?_
                      refine hn_and (k0 := k) hx hb dX0_having_138 (by omega) (hn_2k (by omega)) ?_
                      refine hn_icmp_ne (tgt := 146) hx hb dX0_having_139 (by decide) (Nat.lt_of_le_of_lt (Nat.mod_le _ _) (Nat.lt_of_le_of_lt (Nat.div_le_self _ _) (Nat.lt_trans (hbd _) (by decide)))) (Nat.lt_of_le_of_lt (Nat.mod_le _ _) (by omega)) (fun c139 => ?_) (fun c139 => ?_)
                      · refine lv_iconst (v := nI 0) hx hb dX0_having_146 (by decide) ?_
                        refine lv_istore (lv' := [(7, .int (nI 0)), (0, .ref h0), (1, .int (nI a)), (2, .int (nI k)), (3, .int (nI y)), (4, .int (nI ((2 ^ k) - 1))), (5, .int (nI (a + k))), (6, .int (nI (cN (hq b cnt a k y) i))), (8, .int (nI i))]) hx hb dX0_having_147 hl (by decide) rfl (fun ls hl => ?_)
                        have e7 : bN (hq b cnt a k y i) = 0 := by rw [show hq b cnt a k y i = false from decide_eq_false c139]; rfl
                        have hl : lv_has ls 9 [(7, .int (nI (bN (hq b cnt a k y i)))), (0, .ref h0), (1, .int (nI a)), (2, .int (nI k)), (3, .int (nI y)), (4, .int (nI ((2 ^ k) - 1))), (5, .int (nI (a + k))), (6, .int (nI (cN (hq b cnt a k y) i))), (8, .int (nI i))] := by rw [e7]; exact hl
                        refine lv_iload hx hb dX0_having_149 (lv_at hl 0 rfl) ?_
                        refine W.jn2 (g := F0 mM 163 ls [.int (nI (cN (hq b cnt a k y) i + bN (hq b cnt a k y i)))]) (fun J => ?_) ?_
                        · refine hn_ifB_eq (tgt := 161) hx hb dX0_having_151 (by decide) (fun c151 => ?_) (fun c151 => ?_)
                          · refine lv_iload hx hb dX0_having_161 (lv_at hl 7 rfl) ?_
                            have ej : (cN (hq b cnt a k y) i + bN (hq b cnt a k y i)) = (cN (hq b cnt a k y) i) := by rw [c151]; rfl
                            rw [ej] at J
                            exact J
                          · refine lv_iload hx hb dX0_having_154 (lv_at hl 7 rfl) ?_
                            refine lv_iconst (v := nI 1) hx hb dX0_having_156 (by decide) ?_
                            refine hn_add hx hb dX0_having_157 ?_
                            refine lv_goto (tgt := 163) hx hb dX0_having_158 (by decide) ?_
                            have ej : (cN (hq b cnt a k y) i + bN (hq b cnt a k y i)) = ((cN (hq b cnt a k y) i) + 1) := by rw [c151]; rfl
                            rw [ej] at J
                            exact J
                        refine lv_istore (lv' := [(6, .int (nI (cN (hq b cnt a k y) i + bN (hq b cnt a k y i)))), (7, .int (nI (bN (hq b cnt a k y i)))), (0, .ref h0), (1, .int (nI a)), (2, .int (nI k)), (3, .int (nI y)), (4, .int (nI ((2 ^ k) - 1))), (5, .int (nI (a + k))), (8, .int (nI i))]) hx hb dX0_having_163 hl (by decide) rfl (fun ls hl => ?_)
                        refine lv_iinc (v := nI (i + 1)) (lv' := [(8, .int (nI (i + 1))), (6, .int (nI (cN (hq b cnt a k y) i + bN (hq b cnt a k y i)))), (7, .int (nI (bN (hq b cnt a k y i)))), (0, .ref h0), (1, .int (nI a)), (2, .int (nI k)), (3, .int (nI y)), (4, .int (nI ((2 ^ k) - 1))), (5, .int (nI (a + k)))]) hx hb dX0_having_165 hl (k := 8) rfl (nI_1 _) (by decide) rfl (fun ls hl => ?_)
                        refine lv_goto (tgt := 66) hx hb dX0_having_168 (by decide) ?_
                        have ev6 : (cN (hq b cnt a k y) (i + 1)) = (cN (hq b cnt a k y) i + bN (hq b cnt a k y i)) := by rfl
                        have ev7 : (bN (hin b cnt a k y (i + 1))) = (bN (hq b cnt a k y i)) := by rw [hin_s]
                        have ev8 : ((i + 1)) = (i + 1) := by rfl
                        have hl : lv_has ls 9 [(0, .ref h0), (1, .int (nI a)), (2, .int (nI k)), (3, .int (nI y)), (4, .int (nI ((2 ^ k) - 1))), (5, .int (nI (a + k))), (6, .int (nI (cN (hq b cnt a k y) (i + 1)))), (7, .int (nI (bN (hin b cnt a k y (i + 1))))), (8, .int (nI ((i + 1))))] := by rw [ev6, ev7, ev8]; exact lv_sub hl [3, 4, 5, 6, 7, 8, 1, 2, 0] rfl
                        exact ih66 trivial ls hl
                      · refine lv_iconst (v := nI 1) hx hb dX0_having_142 (by decide) ?_
                        refine lv_goto (tgt := 147) hx hb dX0_having_143 (by decide) ?_
                        refine lv_istore (lv' := [(7, .int (nI 1)), (0, .ref h0), (1, .int (nI a)), (2, .int (nI k)), (3, .int (nI y)), (4, .int (nI ((2 ^ k) - 1))), (5, .int (nI (a + k))), (6, .int (nI (cN (hq b cnt a k y) i))), (8, .int (nI i))]) hx hb dX0_having_147 hl (by decide) rfl (fun ls hl => ?_)
                        have e7 : bN (hq b cnt a k y i) = 1 := by rw [show hq b cnt a k y i = true from decide_eq_true c139]; rfl
                        have hl : lv_has ls 9 [(7, .int (nI (bN (hq b cnt a k y i)))), (0, .ref h0), (1, .int (nI a)), (2, .int (nI k)), (3, .int (nI y)), (4, .int (nI ((2 ^ k) - 1))), (5, .int (nI (a + k))), (6, .int (nI (cN (hq b cnt a k y) i))), (8, .int (nI i))] := by rw [e7]; exact hl
                        refine lv_iload hx hb dX0_having_149 (lv_at hl 0 rfl) ?_
                        refine W.jn2 (g := F0 mM 163 ls [.int (nI (cN (hq b cnt a k y) i + bN (hq b cnt a k y i)))]) (fun J => ?_) ?_
                        · refine hn_ifB_eq (tgt := 161) hx hb dX0_having_151 (by decide) (fun c151 => ?_) (fun c151 => ?_)
                          · refine lv_iload hx hb dX0_having_161 (lv_at hl 7 rfl) ?_
                            have ej : (cN (hq b cnt a k y) i + bN (hq b cnt a k y i)) = (cN (hq b cnt a k y) i) := by rw [c151]; rfl
                            rw [ej] at J
                            exact J
                          · refine lv_iload hx hb dX0_having_154 (lv_at hl 7 rfl) ?_
                            refine lv_iconst (v := nI 1) hx hb dX0_having_156 (by decide) ?_
                            refine hn_add hx hb dX0_having_157 ?_
                            refine lv_goto (tgt := 163) hx hb dX0_having_158 (by decide) ?_
                            have ej : (cN (hq b cnt a k y) i + bN (hq b cnt a k y i)) = ((cN (hq b cnt a k y) i) + 1) := by rw [c151]; rfl
                            rw [ej] at J
                            exact J
                        refine lv_istore (lv' := [(6, .int (nI (cN (hq b cnt a k y) i + bN (hq b cnt a k y i)))), (7, .int (nI (bN (hq b cnt a k y i)))), (0, .ref h0), (1, .int (nI a)), (2, .int (nI k)), (3, .int (nI y)), (4, .int (nI ((2 ^ k) - 1))), (5, .int (nI (a + k))), (8, .int (nI i))]) hx hb dX0_having_163 hl (by decide) rfl (fun ls hl => ?_)
                        refine lv_iinc (v := nI (i + 1)) (lv' := [(8, .int (nI (i + 1))), (6, .int (nI (cN (hq b cnt a k y) i + bN (hq b cnt a k y i)))), (7, .int (nI (bN (hq b cnt a k y i)))), (0, .ref h0), (1, .int (nI a)), (2, .int (nI k)), (3, .int (nI y)), (4, .int (nI ((2 ^ k) - 1))), (5, .int (nI (a + k)))]) hx hb dX0_having_165 hl (k := 8) rfl (nI_1 _) (by decide) rfl (fun ls hl => ?_)
                        refine lv_goto (tgt := 66) hx hb dX0_having_168 (by decide) ?_
                        have ev6 : (cN (hq b cnt a k y) (i + 1)) = (cN (hq b cnt a k y) i + bN (hq b cnt a k y i)) := by rfl
                        have ev7 : (bN (hin b cnt a k y (i + 1))) = (bN (hq b cnt a k y i)) := by rw [hin_s]
                        have ev8 : ((i + 1)) = (i + 1) := by rfl
                        have hl : lv_has ls 9 [(0, .ref h0), (1, .int (nI a)), (2, .int (nI k)), (3, .int (nI y)), (4, .int (nI ((2 ^ k) - 1))), (5, .int (nI (a + k))), (6, .int (nI (cN (hq b cnt a k y) (i + 1)))), (7, .int (nI (bN (hin b cnt a k y (i + 1))))), (8, .int (nI ((i + 1))))] := by rw [ev6, ev7, ev8]; exact lv_sub hl [3, 4, 5, 6, 7, 8, 1, 2, 0] rfl
                        exact ih66 trivial ls hl
                  · refine lv_aload_n hx hb dX0_having_80 rfl (lv_at hl 0 rfl) ?_
                    refine va_get (D := (dC, dI)) (ci := 0) (v := .ref k3) (C := RX0) (T := TX0) (N := 7) hx hb hts in_X0 hown hK hP 0 rfl rfl 4 (by decide) (hts _ q39) (fun _ h9 => h9) rfl dX0_having_81 ?_
                    refine lv_bipush (v := nI 8) hx hb dX0_having_84 (by decide) ?_
                    refine lv_iload hx hb dX0_having_86 (lv_at hl 5 rfl) ?_
                    refine hn_mul hx hb dX0_having_88 ?_
                    refine lv_iload hx hb dX0_having_89 (lv_at hl 8 rfl) ?_
                    refine hn_add hx hb dX0_having_91 ?_
                    refine hn_ald hx hb hK hP 3 0 rfl rfl (by omega) (by decide) dX0_having_92 ?_
                    refine hn_top (y := nI (bg b cnt (a + k) i)) (congrArg nI (hBt (a + k) hak i hii).2) ?_
                    refine lv_iload_n hx hb dX0_having_93 rfl (lv_at hl 1 rfl) ?_
                    refine hn_icmp_gt (tgt := 101) hx hb dX0_having_94 (by decide) (Nat.lt_of_le_of_lt (bg_le _ _ _ _) (by omega)) (by omega) (fun c94 => ?_) (fun c94 => ?_)
                    · refine lv_iconst (v := nI 0) hx hb dX0_having_101 (by decide) ?_
                      refine lv_istore (lv' := [(7, .int (nI 0)), (0, .ref h0), (1, .int (nI a)), (2, .int (nI k)), (3, .int (nI y)), (4, .int (nI ((2 ^ k) - 1))), (5, .int (nI (a + k))), (6, .int (nI (cN (hq b cnt a k y) i))), (8, .int (nI i))]) hx hb dX0_having_102 hl (by decide) rfl (fun ls hl => ?_)
                      refine lv_goto (tgt := 149) hx hb dX0_having_104 (by decide) ?_
                      have e7 : bN (hq b cnt a k y i) = 0 := by rw [hv_in c77, decide_eq_false (by omega)]; rfl
                      have hl : lv_has ls 9 [(7, .int (nI (bN (hq b cnt a k y i)))), (0, .ref h0), (1, .int (nI a)), (2, .int (nI k)), (3, .int (nI y)), (4, .int (nI ((2 ^ k) - 1))), (5, .int (nI (a + k))), (6, .int (nI (cN (hq b cnt a k y) i))), (8, .int (nI i))] := by rw [e7]; exact hl
                      refine lv_iload hx hb dX0_having_149 (lv_at hl 0 rfl) ?_
                      refine W.jn2 (g := F0 mM 163 ls [.int (nI (cN (hq b cnt a k y) i + bN (hq b cnt a k y i)))]) (fun J => ?_) ?_
                      · refine hn_ifB_eq (tgt := 161) hx hb dX0_having_151 (by decide) (fun c151 => ?_) (fun c151 => ?_)
                        · refine lv_iload hx hb dX0_having_161 (lv_at hl 7 rfl) ?_
                          have ej : (cN (hq b cnt a k y) i + bN (hq b cnt a k y i)) = (cN (hq b cnt a k y) i) := by rw [c151]; rfl
                          rw [ej] at J
                          exact J
                        · refine lv_iload hx hb dX0_having_154 (lv_at hl 7 rfl) ?_
                          refine lv_iconst (v := nI 1) hx hb dX0_having_156 (by decide) ?_
                          refine hn_add hx hb dX0_having_157 ?_
                          refine lv_goto (tgt := 163) hx hb dX0_having_158 (by decide) ?_
                          have ej : (cN (hq b cnt a k y) i + bN (hq b cnt a k y i)) = ((cN (hq b cnt a k y) i) + 1) := by rw [c151]; rfl
                          rw [ej] at J
                          exact J
                      refine lv_istore (lv' := [(6, .int (nI (cN (hq b cnt a k y) i + bN (hq b cnt a k y i)))), (7, .int (nI (bN (hq b cnt a k y i)))), (0, .ref h0), (1, .int (nI a)), (2, .int (nI k)), (3, .int (nI y)), (4, .int (nI ((2 ^ k) - 1))), (5, .int (nI (a + k))), (8, .int (nI i))]) hx hb dX0_having_163 hl (by decide) rfl (fun ls hl => ?_)
                      refine lv_iinc (v := nI (i + 1)) (lv' := [(8, .int (nI (i + 1))), (6, .int (nI (cN (hq b cnt a k y) i + bN (hq b cnt a k y i)))), (7, .int (nI (bN (hq b cnt a k y i)))), (0, .ref h0), (1, .int (nI a)), (2, .int (nI k)), (3, .int (nI y)), (4, .int (nI ((2 ^ k) - 1))), (5, .int (nI (a + k)))]) hx hb dX0_having_165 hl (k := 8) rfl (nI_1 _) (by decide) rfl (fun ls hl => ?_)
                      refine lv_goto (tgt := 66) hx hb dX0_having_168 (by decide) ?_
                      have ev6 : (cN (hq b cnt a k y) (i + 1)) = (cN (hq b cnt a k y) i + bN (hq b cnt a k y i)) := by rfl
                      have ev7 : (bN (hin b cnt a k y (i + 1))) = (bN (hq b cnt a k y i)) := by rw [hin_s]
                      have ev8 : ((i + 1)) = (i + 1) := by rfl
                      have hl : lv_has ls 9 [(0, .ref h0), (1, .int (nI a)), (2, .int (nI k)), (3, .int (nI y)), (4, .int (nI ((2 ^ k) - 1))), (5, .int (nI (a + k))), (6, .int (nI (cN (hq b cnt a k y) (i + 1)))), (7, .int (nI (bN (hin b cnt a k y (i + 1))))), (8, .int (nI ((i + 1))))] := by rw [ev6, ev7, ev8]; exact lv_sub hl [3, 4, 5, 6, 7, 8, 1, 2, 0] rfl
                      exact ih66 trivial ls hl
                    · refine lv_iconst (v := nI 1) hx hb dX0_having_97 (by decide) ?_
                      refine lv_goto (tgt := 102) hx hb dX0_having_98 (by decide) ?_
                      refine lv_istore (lv' := [(7, .int (nI 1)), (0, .ref h0), (1, .int (nI a)), (2, .int (nI k)), (3, .int (nI y)), (4, .int (nI ((2 ^ k) - 1))), (5, .int (nI (a + k))), (6, .int (nI (cN (hq b cnt a k y) i))), (8, .int (nI i))]) hx hb dX0_having_102 hl (by decide) rfl (fun ls hl => ?_)
                      refine lv_goto (tgt := 149) hx hb dX0_having_104 (by decide) ?_
                      have e7 : bN (hq b cnt a k y i) = 1 := by rw [hv_in c77, decide_eq_true c94]; rfl
                      have hl : lv_has ls 9 [(7, .int (nI (bN (hq b cnt a k y i)))), (0, .ref h0), (1, .int (nI a)), (2, .int (nI k)), (3, .int (nI y)), (4, .int (nI ((2 ^ k) - 1))), (5, .int (nI (a + k))), (6, .int (nI (cN (hq b cnt a k y) i))), (8, .int (nI i))] := by rw [e7]; exact hl
                      refine lv_iload hx hb dX0_having_149 (lv_at hl 0 rfl) ?_
                      refine W.jn2 (g := F0 mM 163 ls [.int (nI (cN (hq b cnt a k y) i + bN (hq b cnt a k y i)))]) (fun J => ?_) ?_
                      · refine hn_ifB_eq (tgt := 161) hx hb dX0_having_151 (by decide) (fun c151 => ?_) (fun c151 => ?_)
                        · refine lv_iload hx hb dX0_having_161 (lv_at hl 7 rfl) ?_
                          have ej : (cN (hq b cnt a k y) i + bN (hq b cnt a k y i)) = (cN (hq b cnt a k y) i) := by rw [c151]; rfl
                          rw [ej] at J
                          exact J
                        · refine lv_iload hx hb dX0_having_154 (lv_at hl 7 rfl) ?_
                          refine lv_iconst (v := nI 1) hx hb dX0_having_156 (by decide) ?_
                          refine hn_add hx hb dX0_having_157 ?_
                          refine lv_goto (tgt := 163) hx hb dX0_having_158 (by decide) ?_
                          have ej : (cN (hq b cnt a k y) i + bN (hq b cnt a k y i)) = ((cN (hq b cnt a k y) i) + 1) := by rw [c151]; rfl
                          rw [ej] at J
                          exact J
                      refine lv_istore (lv' := [(6, .int (nI (cN (hq b cnt a k y) i + bN (hq b cnt a k y i)))), (7, .int (nI (bN (hq b cnt a k y i)))), (0, .ref h0), (1, .int (nI a)), (2, .int (nI k)), (3, .int (nI y)), (4, .int (nI ((2 ^ k) - 1))), (5, .int (nI (a + k))), (8, .int (nI i))]) hx hb dX0_having_163 hl (by decide) rfl (fun ls hl => ?_)
                      refine lv_iinc (v := nI (i + 1)) (lv' := [(8, .int (nI (i + 1))), (6, .int (nI (cN (hq b cnt a k y) i + bN (hq b cnt a k y i)))), (7, .int (nI (bN (hq b cnt a k y i)))), (0, .ref h0), (1, .int (nI a)), (2, .int (nI k)), (3, .int (nI y)), (4, .int (nI ((2 ^ k) - 1))), (5, .int (nI (a + k)))]) hx hb dX0_having_165 hl (k := 8) rfl (nI_1 _) (by decide) rfl (fun ls hl => ?_)
                      refine lv_goto (tgt := 66) hx hb dX0_having_168 (by decide) ?_
                      have ev6 : (cN (hq b cnt a k y) (i + 1)) = (cN (hq b cnt a k y) i + bN (hq b cnt a k y i)) := by rfl
                      have ev7 : (bN (hin b cnt a k y (i + 1))) = (bN (hq b cnt a k y i)) := by rw [hin_s]
                      have ev8 : ((i + 1)) = (i + 1) := by rfl
                      have hl : lv_has ls 9 [(0, .ref h0), (1, .int (nI a)), (2, .int (nI k)), (3, .int (nI y)), (4, .int (nI ((2 ^ k) - 1))), (5, .int (nI (a + k))), (6, .int (nI (cN (hq b cnt a k y) (i + 1)))), (7, .int (nI (bN (hin b cnt a k y (i + 1))))), (8, .int (nI ((i + 1))))] := by rw [ev6, ev7, ev8]; exact lv_sub hl [3, 4, 5, 6, 7, 8, 1, 2, 0] rfl
                      exact ih66 trivial ls hl
              · rw [hz_t (k := 4095) (by omega)] at c36
                refine lv_iconst (v := -1) hx hb dX0_having_39 (by decide) ?_
                have er : (-1) = S_hav cnt b p0 p1 p2 := by exact (if_neg (fun z => by have z1 := of_decide_eq_true z.2.2.2; omega)).symm
                exact W.iret (v := (-1)) hx hb hret (fun t ht hW => ⟨⟨(-1), (), rfl, er, ⟨bu, o, g, n1, n2, hbt, by rw [ht]; exact hP, va_K.moved hW.alike hK, hD⟩⟩, hS.F ht⟩) hS.2.2 dX0_having_40

set_option maxHeartbeats 4000000 in
set_option maxRecDepth 100000 in
theorem metX0_fit {l : Launch} {dC : Nat → ClassId} {dI : Nat → Nat → Nat} {h0 k1 k2 k3 k4 k5 : Nat} {d0 : ClassId} {cnt bu : Nat} {b o g n1 n2 : Nat → Nat} {sz : Nat} (p0 p1 : Int32) (h8 : cnt ≤ 8) (hbd : ∀ k, b k < 4096) (hbt : okB cnt bu b o g) : Met l yX0_fit (ws_ yX0_fit cX0_fit 6 (some .int)) (rmk 3) (wrP (dC, dI) [(d0, .int)] (XW h0 k1 k2 k3 k4 k5 d0 cnt bu b o g n1 n2) sz [.ref h0, .int p0, .int p1]) (va_Qi (fun r (_ : Unit) => r = S_fit cnt b p0 p1) (fun _ t => XB (dC, dI) h0 k1 k2 k3 k4 k5 d0 (va_A (XW h0 k1 k2 k3 k4 k5 d0 cnt bu b o g n1 n2) sz) cnt b t) (va_A (XW h0 k1 k2 k3 k4 k5 d0 cnt bu b o g n1 n2) sz)) 0 0 (va_A (XW h0 k1 k2 k3 k4 k5 d0 cnt bu b o g n1 n2) sz) := by
  refine Met.ofW (cc := cX0_fit) (maxL := 6) (ret := (some .int)) (by decide) rfl ?_
  intro pP eE sS mM args below meth cC s₁ B hml hv
  obtain ⟨rfl, hsz, hP, hK, hD0⟩ := hv
  have hx := B.exec
  have hb := B.bytes
  have hret := B.returns
  have hts := atoms_spec (ws := ws_ yX0_fit cX0_fit 6 (some .int)) B.pre
  have hts : ∀ w ∈ lw_all, w.before _ sS = true := fun w h => hts w (List.mem_cons_of_mem _ h)
  have hown : sS.vm.findClass RX0 = some mM.cls := findClass_of_methodNamed B.named
  have hlocks := B.notSynchronized
  subst hsz
  have hD := hD0.self (sz := sS.heap.size)
  generalize hAe : va_A (XW h0 k1 k2 k3 k4 k5 d0 cnt bu b o g n1 n2) sS.heap.size = A at hD ⊢
  have hA : ∀ q : Nat, sS.heap.size ≤ q → A q := fun q h => by rw [← hAe]; exact Or.inr h
  clear hAe
  have hS : va_S A sS.heap sS.heap [] := va_S.rf
  have hl := lv_entry ([.ref h0, .int p0, .int p1]) (n := 6) (Nat.le_of_ble_eq_true rfl)
  rw [lg_entry_eq]
  generalize (lg_sl ([.ref h0, .int p0, .int p1]) ++ List.replicate (6 - (lg_sl ([.ref h0, .int p0, .int p1])).length) Slot.unset).toArray = ls at hl ⊢
  have hl : lv_has ls 6 [(0, .ref h0), (1, .int p0), (2, .int p1)] := hl
  refine lv_iload_n hx hb dX0_fit_0 rfl (lv_at hl 1 rfl) ?_
  refine hz_if_lt (tgt := 21) hx hb dX0_fit_1 (by decide) (fun c1 => ?_) (fun c1 => ?_)
  · refine lv_iconst (v := -1) hx hb dX0_fit_21 (by decide) ?_
    have er : (-1) = S_fit cnt b p0 p1 := by exact (if_neg (fun z => by have z1 := of_decide_eq_true z.1; omega)).symm
    exact W.iret (v := (-1)) hx hb hret (fun t ht hW => ⟨⟨(-1), (), rfl, er, ⟨bu, o, g, n1, n2, hbt, by rw [ht]; exact hP, va_K.moved hW.alike hK, hD⟩⟩, hS.F ht⟩) hS.2.2 dX0_fit_22
  · refine lv_iload_n hx hb dX0_fit_4 rfl (lv_at hl 1 rfl) ?_
    refine lv_bipush (v := nI 12) hx hb dX0_fit_5 (by decide) ?_
    refine hz_icmp_gt (tgt := 21) hx hb dX0_fit_7 (by decide) (fun c7 => ?_) (fun c7 => ?_)
    · rw [hz_t (k := 12) (by omega)] at c7
      refine lv_iconst (v := -1) hx hb dX0_fit_21 (by decide) ?_
      have er : (-1) = S_fit cnt b p0 p1 := by exact (if_neg (fun z => by have z1 := of_decide_eq_true z.1; omega)).symm
      exact W.iret (v := (-1)) hx hb hret (fun t ht hW => ⟨⟨(-1), (), rfl, er, ⟨bu, o, g, n1, n2, hbt, by rw [ht]; exact hP, va_K.moved hW.alike hK, hD⟩⟩, hS.F ht⟩) hS.2.2 dX0_fit_22
    · rw [hz_t (k := 12) (by omega)] at c7
      refine lv_iload_n hx hb dX0_fit_10 rfl (lv_at hl 2 rfl) ?_
      refine hz_if_lt (tgt := 21) hx hb dX0_fit_11 (by decide) (fun c11 => ?_) (fun c11 => ?_)
      · refine lv_iconst (v := -1) hx hb dX0_fit_21 (by decide) ?_
        have er : (-1) = S_fit cnt b p0 p1 := by exact (if_neg (fun z => by have z1 := of_decide_eq_true z.2; omega)).symm
        exact W.iret (v := (-1)) hx hb hret (fun t ht hW => ⟨⟨(-1), (), rfl, er, ⟨bu, o, g, n1, n2, hbt, by rw [ht]; exact hP, va_K.moved hW.alike hK, hD⟩⟩, hS.F ht⟩) hS.2.2 dX0_fit_22
      · refine lv_iload_n hx hb dX0_fit_14 rfl (lv_at hl 2 rfl) ?_
        refine lv_sipush (v := nI 4095) hx hb dX0_fit_15 (by decide) ?_
        refine hz_icmp_le (tgt := 23) hx hb dX0_fit_18 (by decide) (fun c18 => ?_) (fun c18 => ?_)
        · rw [hz_t (k := 4095) (by omega)] at c18
          obtain ⟨c, hc31, rfl, ec⟩ := hz_of (x := p0) (by omega)
          obtain ⟨y, hy31, rfl, ey⟩ := hz_of (x := p1) (by omega)
          have hc : c ≤ 12 := (by omega)
          have hy : y < 4096 := (by omega)
          clear c1 c7 c11 c18 ec ey
          refine lv_aload_n hx hb dX0_fit_23 rfl (lv_at hl 0 rfl) ?_
          have hFc := va_free (wc := (XW h0 k1 k2 k3 k4 k5 d0 cnt bu b o g n1 n2)) hD hS hA [0, 1, 2, 3, 4, 5] rfl
          refine va_callv (va_runV (As := []) (rest := []) ⟨hx, hb, hml, hown, hts⟩ (metX0_build h8 hbd hbt) (cwV 0 hts (lw_V q90 q92 qs3 q25 q93) rfl rfl rfl (by decide +kernel) ⟨Nat.le_of_ble_eq_true rfl, Nat.le_of_ble_eq_true rfl⟩) (wr_preX0 hK hP hD) rfl rfl hl.1 rfl (lv_room (Nat.le_of_ble_eq_true rfl)) dX0_fit_24 ⟨Nat.le_of_ble_eq_true rfl, Nat.le_of_ble_eq_true rfl⟩) hS (fun q _ h => hFc q h) hFc (fun u t H locs ht hvm hw hB9 hz1 hk1 hS => ?_)
          obtain ⟨hP, hK9, hD9⟩ := hB9
          rw [ht] at hP
          have hD := hD9.weaken (fun k q _ h => hFc q.1 h)
          obtain ⟨o3, g3, m3, m4⟩ := u
          have hP : va_P (dC, dI) vwCl (XW h0 k1 k2 k3 k4 k5 d0 cnt 1 b o3 g3 m3 m4) H := hP
          have hD : va_D A (XW h0 k1 k2 k3 k4 k5 d0 cnt 1 b o3 g3 m3 m4) := hD
          have hBt : Bt cnt b o3 g3 := hw
          refine lv_iconst (v := nI 0) hx hb dX0_fit_27 (by decide) ?_
          refine lv_istore_n (lv' := [(3, .int (nI 0)), (0, .ref h0), (1, .int (nI c)), (2, .int (nI y))]) hx hb dX0_fit_28 rfl hl (by decide) rfl (fun ls hl => ?_)
          refine lv_iconst (v := nI 0) hx hb dX0_fit_29 (by decide) ?_
          refine lv_istore (lv' := [(4, .int (nI 0)), (3, .int (nI 0)), (0, .ref h0), (1, .int (nI c)), (2, .int (nI y))]) hx hb dX0_fit_30 hl (by decide) rfl (fun ls hl => ?_)
          have hl : lv_has ls 6 [(0, .ref h0), (1, .int (nI c)), (2, .int (nI y)), (3, .int (nI (fpl b cnt c y 0))), (4, .int (nI 0))] := lv_sub hl [2, 3, 4, 1, 0] rfl
          refine W.up 6 32 (fun i => [(0, .ref h0), (1, .int (nI c)), (2, .int (nI y)), (3, .int (nI (fpl b cnt c y i))), (4, .int (nI i))]) (fun i => True) cnt ?_ ?_ 0 (by omega) trivial hl
          · intro hk ls hl
            have hl : lv_has ls 6 [(0, .ref h0), (1, .int (nI c)), (2, .int (nI y)), (3, .int (nI (fpl b cnt c y cnt))), (4, .int (nI cnt))] := hl
            refine lv_iload hx hb dX0_fit_32 (lv_at hl 4 rfl) ?_
            refine lv_aload_n hx hb dX0_fit_34 rfl (lv_at hl 0 rfl) ?_
            refine va_get (D := (dC, dI)) (ci := 0) (v := .int (nI cnt)) (C := RX0) (T := TX0) (N := 7) hx hb hts in_X0 hown hK hP 0 rfl rfl 0 (by decide) (hts _ q35) (fun _ h9 => h9) rfl dX0_fit_35 ?_
            refine hn_icmp_ge (tgt := 81) hx hb dX0_fit_38 (by decide) (by omega) (by omega) (fun c38 => ?_) (fun c38 => absurd c38 (by omega))
            obtain ⟨pl, hpl⟩ : ∃ pl, pl = fpl b cnt c y cnt := ⟨_, rfl⟩
            have hl : lv_has ls 6 [(0, .ref h0), (1, .int (nI c)), (2, .int (nI y)), (3, .int (nI pl)), (4, .int (nI cnt))] := by rw [hpl]; exact hl
            have hp8 : pl ≤ cnt := by rw [hpl]; exact fpl_le _ _ _ _ _
            refine lv_iload_n hx hb dX0_fit_81 rfl (lv_at hl 3 rfl) ?_
            refine W.jn2 (g := F0 mM 108 ls [.int (nI (if 0 < pl then c - AFv (b (ro b cnt c (pl - 1))) y c else 0))]) (fun J => ?_) ?_
            · refine hn_if_le (tgt := 107) hx hb dX0_fit_82 (by decide) (by omega) (fun c82 => ?_) (fun c82 => ?_)
              · refine lv_iconst (v := nI 0) hx hb dX0_fit_107 (by decide) ?_
                have ej : (if 0 < pl then c - AFv (b (ro b cnt c (pl - 1))) y c else 0) = 0 := by first | exact if_pos c82 | exact if_neg (by omega)
                rw [ej] at J
                exact J
              · refine lv_aload_n hx hb dX0_fit_85 rfl (lv_at hl 0 rfl) ?_
                refine lv_aload_n hx hb dX0_fit_86 rfl (lv_at hl 0 rfl) ?_
                refine va_get (D := (dC, dI)) (ci := 0) (v := .ref k2) (C := RX0) (T := TX0) (N := 7) hx hb hts in_X0 hown hK hP 0 rfl rfl 3 (by decide) (hts _ q38) (fun _ h9 => h9) rfl dX0_fit_87 ?_
                refine lv_bipush (v := nI 8) hx hb dX0_fit_90 (by decide) ?_
                refine lv_iload_n hx hb dX0_fit_92 rfl (lv_at hl 1 rfl) ?_
                refine hn_mul hx hb dX0_fit_93 ?_
                refine lv_iload_n hx hb dX0_fit_94 rfl (lv_at hl 3 rfl) ?_
                refine hn_add hx hb dX0_fit_95 ?_
                refine lv_iconst (v := nI 1) hx hb dX0_fit_96 (by decide) ?_
                refine hn_sub hx hb dX0_fit_97 (by omega) ?_
                refine hn_ald hx hb hK hP 2 0 rfl rfl (by omega) (by decide) dX0_fit_98 ?_
                refine hn_top (y := nI (ro b cnt c (pl - 1))) (congrArg nI (by rw [show 8 * c + pl - 1 = 8 * c + (pl - 1) by omega]; exact (hBt c hc (pl - 1) (by omega)).1)) ?_
                refine lv_iload_n hx hb dX0_fit_99 rfl (lv_at hl 2 rfl) ?_
                refine lv_iload_n hx hb dX0_fit_100 rfl (lv_at hl 1 rfl) ?_
                refine vp_callSi (W.runV (As := [.int (nI (ro b cnt c (pl - 1))), .int (nI y), .int (nI c)]) (rest := []) ⟨hx, hb, hml, hown, hts⟩ (metX0_sameBack (ro b cnt c (pl - 1)) y c (ro_lt8 h8 (by omega)) hy hc hbd) (cwV 3 hts (lw_V q158 q160 qs12 q25 q161) rfl rfl rfl (by decide +kernel) ⟨Nat.le_of_ble_eq_true rfl, Nat.le_of_ble_eq_true rfl⟩) (rd_preX0 hK hP) rfl rfl hl.1 rfl (lv_room (Nat.le_of_ble_eq_true rfl)) dX0_fit_101 ⟨Nat.le_of_ble_eq_true rfl, Nat.le_of_ble_eq_true rfl⟩) (fun v hv => ?_)
                subst hv
                refine lv_goto (tgt := 108) hx hb dX0_fit_104 (by decide) ?_
                have ej : (if 0 < pl then c - AFv (b (ro b cnt c (pl - 1))) y c else 0) = (c - AFv (b (ro b cnt c (pl - 1))) y c) := by first | exact if_pos c82 | exact if_neg (by omega)
                rw [ej] at J
                exact J
            refine lv_istore (lv' := [(4, .int (nI (if 0 < pl then c - AFv (b (ro b cnt c (pl - 1))) y c else 0))), (0, .ref h0), (1, .int (nI c)), (2, .int (nI y)), (3, .int (nI pl))]) hx hb dX0_fit_108 hl (by decide) rfl (fun ls hl => ?_)
            refine lv_iload_n hx hb dX0_fit_110 rfl (lv_at hl 4 rfl) ?_
            refine lv_aload_n hx hb dX0_fit_111 rfl (lv_at hl 1 rfl) ?_
            refine va_get (D := (dC, dI)) (ci := 0) (v := .int (nI cnt)) (C := RX0) (T := TX0) (N := 7) hx hb hts in_X0 hown hK hP 0 rfl rfl 0 (by decide) (hts _ q35) (fun _ h9 => h9) rfl dX0_fit_112 ?_
            refine W.jn2 (g := F0 mM 139 ls [.int (nI (if pl < cnt then c - AFv (b (ro b cnt c pl)) y c else 0))]) (fun J => ?_) ?_
            · refine hn_icmp_ge (tgt := 138) hx hb dX0_fit_115 (by decide) (by omega) (by omega) (fun c115 => ?_) (fun c115 => ?_)
              · refine lv_iconst (v := nI 0) hx hb dX0_fit_138 (by decide) ?_
                have ej : (if pl < cnt then c - AFv (b (ro b cnt c pl)) y c else 0) = 0 := by first | exact if_pos c115 | exact if_neg (by omega)
                rw [ej] at J
                exact J
              · refine lv_aload_n hx hb dX0_fit_118 rfl (lv_at hl 1 rfl) ?_
                refine lv_aload_n hx hb dX0_fit_119 rfl (lv_at hl 1 rfl) ?_
                refine va_get (D := (dC, dI)) (ci := 0) (v := .ref k2) (C := RX0) (T := TX0) (N := 7) hx hb hts in_X0 hown hK hP 0 rfl rfl 3 (by decide) (hts _ q38) (fun _ h9 => h9) rfl dX0_fit_120 ?_
                refine lv_bipush (v := nI 8) hx hb dX0_fit_123 (by decide) ?_
                refine lv_iload_n hx hb dX0_fit_125 rfl (lv_at hl 2 rfl) ?_
                refine hn_mul hx hb dX0_fit_126 ?_
                refine lv_iload_n hx hb dX0_fit_127 rfl (lv_at hl 4 rfl) ?_
                refine hn_add hx hb dX0_fit_128 ?_
                refine hn_ald hx hb hK hP 2 0 rfl rfl (by omega) (by decide) dX0_fit_129 ?_
                refine hn_top (y := nI (ro b cnt c pl)) (congrArg nI (hBt c hc pl c115).1) ?_
                refine lv_iload_n hx hb dX0_fit_130 rfl (lv_at hl 3 rfl) ?_
                refine lv_iload_n hx hb dX0_fit_131 rfl (lv_at hl 2 rfl) ?_
                refine vp_callSi (W.runV (As := [.int (nI (ro b cnt c pl)), .int (nI y), .int (nI c)]) (rest := []) ⟨hx, hb, hml, hown, hts⟩ (metX0_sameBack (ro b cnt c pl) y c (ro_lt8 h8 (by omega)) hy hc hbd) (cwV 3 hts (lw_V q158 q160 qs12 q25 q161) rfl rfl rfl (by decide +kernel) ⟨Nat.le_of_ble_eq_true rfl, Nat.le_of_ble_eq_true rfl⟩) (rd_preX0 hK hP) rfl rfl hl.1 rfl (lv_room (Nat.le_of_ble_eq_true rfl)) dX0_fit_132 ⟨Nat.le_of_ble_eq_true rfl, Nat.le_of_ble_eq_true rfl⟩) (fun v hv => ?_)
                subst hv
                refine lv_goto (tgt := 139) hx hb dX0_fit_135 (by decide) ?_
                have ej : (if pl < cnt then c - AFv (b (ro b cnt c pl)) y c else 0) = (c - AFv (b (ro b cnt c pl)) y c) := by first | exact if_pos c115 | exact if_neg (by omega)
                rw [ej] at J
                exact J
            refine lv_istore (lv' := [(5, .int (nI (if pl < cnt then c - AFv (b (ro b cnt c pl)) y c else 0))), (4, .int (nI (if 0 < pl then c - AFv (b (ro b cnt c (pl - 1))) y c else 0))), (0, .ref h0), (1, .int (nI c)), (2, .int (nI y)), (3, .int (nI pl))]) hx hb dX0_fit_139 hl (by decide) rfl (fun ls hl => ?_)
            refine lv_iload hx hb dX0_fit_141 (lv_at hl 1 rfl) ?_
            refine lv_iload hx hb dX0_fit_143 (lv_at hl 0 rfl) ?_
            refine hn_icmp_le (tgt := 153) hx hb dX0_fit_145 (by decide) (by split <;> omega) (by split <;> omega) (fun c145 => ?_) (fun c145 => ?_)
            · refine lv_iload hx hb dX0_fit_153 (lv_at hl 0 rfl) ?_
              have er : nI (if pl < cnt then c - AFv (b (ro b cnt c pl)) y c else 0) = S_fit cnt b (nI c) (nI y) := by rw [S_fit_ok hc hy, ← fit_eq hpl, if_neg (Nat.not_lt.mpr c145)]
              exact W.iret (v := nI (if pl < cnt then c - AFv (b (ro b cnt c pl)) y c else 0)) hx hb hret (fun t ht hW => ⟨⟨nI (if pl < cnt then c - AFv (b (ro b cnt c pl)) y c else 0), (), rfl, er, ⟨1, o3, g3, m3, m4, Or.inr ⟨rfl, hBt⟩, by rw [ht]; exact hP, va_K.moved hW.alike hK, hD⟩⟩, hS.F ht⟩) hS.2.2 dX0_fit_155
            · refine lv_iload hx hb dX0_fit_148 (lv_at hl 1 rfl) ?_
              refine lv_goto (tgt := 155) hx hb dX0_fit_150 (by decide) ?_
              have er : nI (if 0 < pl then c - AFv (b (ro b cnt c (pl - 1))) y c else 0) = S_fit cnt b (nI c) (nI y) := by rw [S_fit_ok hc hy, ← fit_eq hpl, if_pos c145]
              exact W.iret (v := nI (if 0 < pl then c - AFv (b (ro b cnt c (pl - 1))) y c else 0)) hx hb hret (fun t ht hW => ⟨⟨nI (if 0 < pl then c - AFv (b (ro b cnt c (pl - 1))) y c else 0), (), rfl, er, ⟨1, o3, g3, m3, m4, Or.inr ⟨rfl, hBt⟩, by rw [ht]; exact hP, va_K.moved hW.alike hK, hD⟩⟩, hS.F ht⟩) hS.2.2 dX0_fit_155
          · intro i hii hk ih32 ls hl
            have hl : lv_has ls 6 [(0, .ref h0), (1, .int (nI c)), (2, .int (nI y)), (3, .int (nI (fpl b cnt c y i))), (4, .int (nI i))] := hl
            refine lv_iload hx hb dX0_fit_32 (lv_at hl 4 rfl) ?_
            refine lv_aload_n hx hb dX0_fit_34 rfl (lv_at hl 0 rfl) ?_
            refine va_get (D := (dC, dI)) (ci := 0) (v := .int (nI cnt)) (C := RX0) (T := TX0) (N := 7) hx hb hts in_X0 hown hK hP 0 rfl rfl 0 (by decide) (hts _ q35) (fun _ h9 => h9) rfl dX0_fit_35 ?_
            refine hn_icmp_ge (tgt := 81) hx hb dX0_fit_38 (by decide) (by omega) (by omega) (fun c38 => absurd c38 (by omega)) (fun c38 => ?_)
            refine lv_aload_n hx hb dX0_fit_41 rfl (lv_at hl 0 rfl) ?_
            refine lv_aload_n hx hb dX0_fit_42 rfl (lv_at hl 0 rfl) ?_
            refine va_get (D := (dC, dI)) (ci := 0) (v := .ref k2) (C := RX0) (T := TX0) (N := 7) hx hb hts in_X0 hown hK hP 0 rfl rfl 3 (by decide) (hts _ q38) (fun _ h9 => h9) rfl dX0_fit_43 ?_
            refine lv_bipush (v := nI 8) hx hb dX0_fit_46 (by decide) ?_
            refine lv_iload_n hx hb dX0_fit_48 rfl (lv_at hl 1 rfl) ?_
            refine hn_mul hx hb dX0_fit_49 ?_
            refine lv_iload hx hb dX0_fit_50 (lv_at hl 4 rfl) ?_
            refine hn_add hx hb dX0_fit_52 ?_
            refine hn_ald hx hb hK hP 2 0 rfl rfl (by omega) (by decide) dX0_fit_53 ?_
            refine hn_top (y := nI (ro b cnt c i)) (congrArg nI (hBt c hc i hii).1) ?_
            refine lv_iload_n hx hb dX0_fit_54 rfl (lv_at hl 2 rfl) ?_
            refine lv_iload_n hx hb dX0_fit_55 rfl (lv_at hl 1 rfl) ?_
            refine vp_callSi (W.runV (As := [.int (nI (ro b cnt c i)), .int (nI y), .int (nI c)]) (rest := []) ⟨hx, hb, hml, hown, hts⟩ (metX0_isBefore (ro b cnt c i) y c (ro_lt8 h8 hii) hy hc hbd) (cwV 3 hts (lw_V q154 q156 qs11 q25 q157) rfl rfl rfl (by decide +kernel) ⟨Nat.le_of_ble_eq_true rfl, Nat.le_of_ble_eq_true rfl⟩) (rd_preX0 hK hP) rfl rfl hl.1 rfl (lv_room (Nat.le_of_ble_eq_true rfl)) dX0_fit_56 ⟨Nat.le_of_ble_eq_true rfl, Nat.le_of_ble_eq_true rfl⟩) (fun v hv => ?_)
            subst hv
            refine lv_istore (lv' := [(5, .int (nI (bN (LTv (b (ro b cnt c i)) y c)))), (0, .ref h0), (1, .int (nI c)), (2, .int (nI y)), (3, .int (nI (fpl b cnt c y i))), (4, .int (nI i))]) hx hb dX0_fit_59 hl (by decide) rfl (fun ls hl => ?_)
            refine lv_iload hx hb dX0_fit_61 (lv_at hl 0 rfl) ?_
            refine W.jn2 (g := F0 mM 74 ls [.int (nI (cond (LTv (b (ro b cnt c i)) y c) (i + 1) (fpl b cnt c y i)))]) (fun J => ?_) ?_
            · refine hn_ifB_eq (tgt := 73) hx hb dX0_fit_63 (by decide) (fun c63 => ?_) (fun c63 => ?_)
              · refine lv_iload_n hx hb dX0_fit_73 rfl (lv_at hl 4 rfl) ?_
                have ej : (cond (LTv (b (ro b cnt c i)) y c) (i + 1) (fpl b cnt c y i)) = (fpl b cnt c y i) := by rw [c63]; rfl
                rw [ej] at J
                exact J
              · refine lv_iload hx hb dX0_fit_66 (lv_at hl 5 rfl) ?_
                refine lv_iconst (v := nI 1) hx hb dX0_fit_68 (by decide) ?_
                refine hn_add hx hb dX0_fit_69 ?_
                refine lv_goto (tgt := 74) hx hb dX0_fit_70 (by decide) ?_
                have ej : (cond (LTv (b (ro b cnt c i)) y c) (i + 1) (fpl b cnt c y i)) = (i + 1) := by rw [c63]; rfl
                rw [ej] at J
                exact J
            refine lv_istore_n (lv' := [(3, .int (nI (cond (LTv (b (ro b cnt c i)) y c) (i + 1) (fpl b cnt c y i)))), (5, .int (nI (bN (LTv (b (ro b cnt c i)) y c)))), (0, .ref h0), (1, .int (nI c)), (2, .int (nI y)), (4, .int (nI i))]) hx hb dX0_fit_74 rfl hl (by decide) rfl (fun ls hl => ?_)
            refine lv_iinc (v := nI (i + 1)) (lv' := [(4, .int (nI (i + 1))), (3, .int (nI (cond (LTv (b (ro b cnt c i)) y c) (i + 1) (fpl b cnt c y i)))), (5, .int (nI (bN (LTv (b (ro b cnt c i)) y c)))), (0, .ref h0), (1, .int (nI c)), (2, .int (nI y))]) hx hb dX0_fit_75 hl (k := 5) rfl (nI_1 _) (by decide) rfl (fun ls hl => ?_)
            refine lv_goto (tgt := 32) hx hb dX0_fit_78 (by decide) ?_
            have ev3 : (fpl b cnt c y (i + 1)) = (cond (LTv (b (ro b cnt c i)) y c) (i + 1) (fpl b cnt c y i)) := by rfl
            have ev4 : ((i + 1)) = (i + 1) := by rfl
            have hl : lv_has ls 6 [(0, .ref h0), (1, .int (nI c)), (2, .int (nI y)), (3, .int (nI (fpl b cnt c y (i + 1)))), (4, .int (nI ((i + 1))))] := by rw [ev3, ev4]; exact lv_sub hl [3, 4, 5, 1, 0] rfl
            exact ih32 trivial ls hl
        · rw [hz_t (k := 4095) (by omega)] at c18
          refine lv_iconst (v := -1) hx hb dX0_fit_21 (by decide) ?_
          have er : (-1) = S_fit cnt b p0 p1 := by exact (if_neg (fun z => by have z1 := of_decide_eq_true z.2; omega)).symm
          exact W.iret (v := (-1)) hx hb hret (fun t ht hW => ⟨⟨(-1), (), rfl, er, ⟨bu, o, g, n1, n2, hbt, by rw [ht]; exact hP, va_K.moved hW.alike hK, hD⟩⟩, hS.F ht⟩) hS.2.2 dX0_fit_22
end
section
/-! PURE: the model's values are the class's: matches, winning, cover, kinds -/
-- pairs of a list, with a symmetric relation
def prs (P : Nat → Nat → Bool) : List Nat → Nat
  | [] => 0
  | x :: l => l.countP (P x) + prs P l
theorem prs_perm {P : Nat → Nat → Bool} (hs : ∀ x y, P x y = P y x) {l l' : List Nat} (h : l.Perm l') : prs P l = prs P l' := by
  induction h with
  | nil => rfl
  | cons x h ih => simp only [prs]; rw [ih, h.countP_eq]
  | swap x y l =>
    simp only [prs, List.countP_cons]
    rw [hs x y]
    omega
  | trans _ _ ih1 ih2 => exact ih1.trans ih2
theorem prs_snoc {P : Nat → Nat → Bool} (x : Nat) : ∀ l, prs P (l ++ [x]) = prs P l + l.countP (fun y => P y x)
  | [] => rfl
  | a :: l => by
    simp only [List.cons_append, prs]
    rw [prs_snoc x l, List.countP_append, List.countP_cons (p := fun y => P y x)]
    cases h : P a x <;> simp [h] <;> omega
theorem prs_range (P : Nat → Nat → Bool) : ∀ n, prs P (List.range n) = sm (fun s => cN (fun r => P r s) s) n
  | 0 => rfl
  | n + 1 => by
    rw [List.range_succ, prs_snoc, prs_range P n]
    simp only [sm]
    rw [cN_range]
theorem prs_idx (P : Nat → Nat → Bool) : ∀ l : List Nat, sm (fun i => cN (fun t => P (l.getD i 0) (l.getD (i + 1 + t) 0)) (l.length - (i + 1))) l.length = prs P l
  | [] => rfl
  | x :: l => by
    show sm _ (l.length + 1) = _
    rw [sm_left]
    simp only [prs]
    have e1 : cN (fun t => P ((x :: l).getD 0 0) ((x :: l).getD (0 + 1 + t) 0)) ((x :: l).length - (0 + 1)) = l.countP (P x) := by
      rw [← cN_list (P x) l]
      refine cN_congr _ (fun t _ => ?_)
      show P x ((x :: l).getD (0 + 1 + t) 0) = _
      rw [show 0 + 1 + t = t + 1 by omega]
      rfl
    have e2 : sm (fun i => cN (fun t => P ((x :: l).getD (i + 1) 0) ((x :: l).getD (i + 1 + 1 + t) 0)) ((x :: l).length - (i + 1 + 1))) l.length = sm (fun i => cN (fun t => P (l.getD i 0) (l.getD (i + 1 + t) 0)) (l.length - (i + 1))) l.length := by
      refine sm_congr _ (fun i _ => ?_)
      rw [show (x :: l).length - (i + 1 + 1) = l.length - (i + 1) by simp only [List.length_cons]; omega]
      refine cN_congr _ (fun t _ => ?_)
      show P (l.getD i 0) ((x :: l).getD (i + 1 + 1 + t) 0) = _
      rw [show i + 1 + 1 + t = (i + 1 + t) + 1 by omega]
      rfl
    rw [e1, e2, prs_idx P l]
theorem ptB_comm (b : Nat → Nat) (r s c : Nat) : ptB b r s c = ptB b s r c := by
  unfold ptB
  exact bN_dec ⟨fun h => h.imp id (fun z => fun q => z q.symm), fun h => h.imp id (fun z => fun q => z q.symm)⟩
theorem PP_comm (b : Nat → Nat) (c k x y : Nat) : PP b c k x y = PP b c k y x := by
  unfold PP
  rw [AF_comm, ptB_comm]
theorem EA_eq (b : Nat → Nat) (n c k : Nat) : EA b n c k = sm (fun s => cN (fun r => PP b c k r s) s) n := by
  have h := prs_idx (PP b c k) (hLS b n c)
  rw [hLS_len] at h
  rw [← prs_range, ← prs_perm (PP_comm b c k) (hLS_perm b n c), ← h]
  rfl
theorem bN_and (x y : Bool) : bN (x && y) = bN x * bN y := by cases x <;> cases y <;> rfl
theorem sm_ext {f g : Nat → Nat} (k : Nat) (h : ∀ i, f i = g i) : sm f k = sm g k := sm_congr k (fun i _ => h i)
/-- a sum that is cut off -/
theorem sm_cut (f : Nat → Nat) {n m : Nat} (h : n ≤ m) : sm (fun i => if i < n then f i else 0) m = sm f n := by
  obtain ⟨d, rfl⟩ : ∃ d, m = n + d := ⟨m - n, by omega⟩
  rw [sm_app]
  have e1 : sm (fun i => if i < n then f i else 0) n = sm f n := sm_congr n (fun i hi => if_pos hi)
  have e2 : sm (fun i => if n + i < n then f (n + i) else 0) d = 0 := by
    exact Eq.trans (sm_congr d (fun i _ => if_neg (by omega))) (sm_zero d)
  rw [e1, e2]
  rfl
/-- one pair, one end: exactly one begin -/
theorem mm_one (b : Nat → Nat) (k r s e : Nat) (hk : 1 ≤ k) (he : e < 12) : sm (fun a => bN (decide (a + k ≤ e + 1) && AMb b r s a e)) 12 = bN (PP b (e + 1) k r s) := by
  have hle := AF_le b r s (e + 1)
  rw [sm_one _ (AF b r s (e + 1)) 12 (fun i hi => by
    unfold AMb
    rw [decide_eq_false (p := AF b r s (e + 1) = i) (fun z => hi z.symm), Bool.false_and, Bool.and_false]
    rfl)]
  unfold AMb PP
  rw [decide_eq_true (p := AF b r s (e + 1) = AF b r s (e + 1)) rfl, Bool.true_and]
  by_cases h : AF b r s (e + 1) < 12
  · rw [if_pos h]
    congr 2
    exact bN_dec ⟨fun z => by omega, fun z => by omega⟩
  · rw [if_neg h, decide_eq_false (p := k ≤ e + 1 - AF b r s (e + 1)) (by omega), Bool.false_and]
    rfl
theorem MM_eq {b : Nat → Nat} {n k : Nat} (h8 : n ≤ 8) (hk : 1 ≤ k) : MM b n k = sm (fun c => EA b n (c + 1) k) 12 := by
  -- for a pair: the sum over ends
  have h1 : ∀ r s, sm (fun st => bN (decide (st / 12 + k ≤ st % 12 + 1) && AMb b r s (st / 12) (st % 12))) 144 = sm (fun e => bN (PP b (e + 1) k r s)) 12 := by
    intro r s
    have := sm_dm (fun a e => bN (decide (a + k ≤ e + 1) && AMb b r s a e)) (k := 12) (by decide) 12
    rw [show 144 = 12 * 12 from rfl, this, sm_comm]
    exact sm_congr 12 (fun e he => mm_one b k r s e hk he)
  have h2 : ∀ p, cN (mmP b n k p) 144 = if p / 8 < p % 8 ∧ p % 8 < n then sm (fun e => bN (PP b (e + 1) k (p / 8) (p % 8))) 12 else 0 := by
    intro p
    rw [cN_sm]
    by_cases z : p / 8 < p % 8 ∧ p % 8 < n
    · rw [if_pos z, ← h1]
      refine sm_ext 144 (fun st => ?_)
      unfold mmP
      rw [decide_eq_true z.1, decide_eq_true z.2]
      rfl
    · rw [if_neg z, ← sm_zero 144]
      refine sm_ext 144 (fun st => ?_)
      unfold mmP
      by_cases z1 : p / 8 < p % 8
      · rw [decide_eq_false (p := p % 8 < n) (fun q => z ⟨z1, q⟩), Bool.and_false]
        rfl
      · rw [decide_eq_false z1]
        rfl
  unfold MM
  rw [sm_ext 64 h2]
  have h3 := sm_dm (fun r s => if r < s ∧ s < n then sm (fun e => bN (PP b (e + 1) k r s)) 12 else 0) (k := 8) (by decide) 8
  rw [show 64 = 8 * 8 from rfl, h3, sm_comm]
  have h4 : ∀ s, s < 8 → sm (fun r => if r < s ∧ s < n then sm (fun e => bN (PP b (e + 1) k r s)) 12 else 0) 8 = if s < n then sm (fun e => cN (fun r => PP b (e + 1) k r s) s) 12 else 0 := by
    intro s hs
    by_cases z : s < n
    · rw [if_pos z]
      have e1 : sm (fun r => if r < s ∧ s < n then sm (fun e => bN (PP b (e + 1) k r s)) 12 else 0) 8 = sm (fun r => if r < s then sm (fun e => bN (PP b (e + 1) k r s)) 12 else 0) 8 := by
        refine sm_ext 8 (fun r => ?_)
        by_cases q : r < s
        · rw [if_pos ⟨q, z⟩, if_pos q]
        · rw [if_neg (fun w => q w.1), if_neg q]
      rw [e1, sm_cut (fun r => sm (fun e => bN (PP b (e + 1) k r s)) 12) (Nat.le_of_lt hs), sm_comm]
      exact sm_ext 12 (fun e => (cN_sm _ _).symm)
    · rw [if_neg z, ← sm_zero 8]
      exact sm_ext 8 (fun r => if_neg (fun w => z w.2))
  rw [sm_congr 8 h4, sm_cut (fun s => sm (fun e => cN (fun r => PP b (e + 1) k r s) s) 12) h8, sm_comm]
  exact sm_ext 12 (fun c => (EA_eq b n (c + 1) k).symm)
-- winning
theorem BT_iff {b : Nat → Nat} {n r a e : Nat} : BTb b n r a e = true ↔ ∃ t, t < n ∧ t ≠ r ∧ ((0 < a ∧ AF b r t (e + 1) ≤ a - 1) ∨ (e < 11 ∧ AF b r t (e + 1 + 1) ≤ a)) := by
  unfold BTb
  rw [anyN_iff]
  constructor
  · rintro ⟨t, h1, h2⟩
    refine ⟨t, h1, ?_⟩
    unfold bt1 AGb at h2
    simpa using h2
  · rintro ⟨t, h1, h2⟩
    refine ⟨t, h1, ?_⟩
    unfold bt1 AGb
    simpa using h2
/-- some row that agrees since the best begin goes on agreeing -/
theorem op_iff {b : Nat → Nat} {n r c : Nat} : anyN (wbO b n r c) n = true ↔ ∃ t, t < n ∧ t ≠ r ∧ AF b r t c = BS b n r c ∧ c ≠ 12 ∧ bitN (b r) c = bitN (b t) c := by
  rw [anyN_iff]
  constructor
  · rintro ⟨t, h1, h2⟩
    refine ⟨t, h1, ?_⟩
    unfold wbO wbP ptB at h2
    simp at h2
    exact ⟨h2.1.1, h2.1.2, h2.2.1, h2.2.2⟩
  · rintro ⟨t, h1, h2, h3, h4, h5⟩
    refine ⟨t, h1, ?_⟩
    unfold wbO wbP ptB
    simp
    exact ⟨⟨h2, h3⟩, h4, h5⟩
theorem win_key {b : Nat → Nat} {n r s e : Nat} (hs : s < n) (hr : s ≠ r) (he : e < 12) (hlt : AF b r s (e + 1) < e + 1) :
    (ptB b r s (e + 1) && !(BTb b n r (AF b r s (e + 1)) e)) = (decide (AF b r s (e + 1) = BS b n r (e + 1)) && !(anyN (wbO b n r (e + 1)) n)) := by
  have hlb := BS_lb (b := b) (c := e + 1) hs hr
  cases hB : BTb b n r (AF b r s (e + 1)) e
  · -- not beaten
    have nb : ∀ t, t < n → t ≠ r → ¬ ((0 < AF b r s (e + 1) ∧ AF b r t (e + 1) ≤ AF b r s (e + 1) - 1) ∨ (e < 11 ∧ AF b r t (e + 1 + 1) ≤ AF b r s (e + 1))) := by
      intro t h1 h2 h3
      have := BT_iff.mpr ⟨t, h1, h2, h3⟩
      rw [this] at hB
      cases hB
    have e1 : AF b r s (e + 1) = BS b n r (e + 1) := by
      rcases BS_at b n r (e + 1) with q | ⟨t, h1, h2, h3⟩
      · omega
      · have := nb t h1 h2
        have : ¬ (0 < AF b r s (e + 1) ∧ AF b r t (e + 1) ≤ AF b r s (e + 1) - 1) := fun z => this (Or.inl z)
        omega
    have e2 : anyN (wbO b n r (e + 1)) n = false := by
      cases q : anyN (wbO b n r (e + 1)) n
      · rfl
      · obtain ⟨t, h1, h2, h3, h4, h5⟩ := op_iff.mp q
        exact absurd (Or.inr ⟨by omega, by rw [AF_s h5]; omega⟩) (nb t h1 h2)
    have e3 : ptB b r s (e + 1) = true := by
      cases q : ptB b r s (e + 1)
      · have q1 := of_decide_eq_false q
        have : anyN (wbO b n r (e + 1)) n = true := op_iff.mpr ⟨s, hs, hr, e1, fun z => q1 (Or.inl z), Classical.not_not.mp (fun z => q1 (Or.inr z))⟩
        rw [this] at e2
        cases e2
      · rfl
    rw [e2, e3, decide_eq_true e1]
  · -- beaten
    rw [Bool.not_true, Bool.and_false]
    obtain ⟨t, h1, h2, h3⟩ := BT_iff.mp hB
    have hlt2 := BS_lb (b := b) (c := e + 1) h1 h2
    rcases h3 with ⟨h4, h5⟩ | ⟨h4, h5⟩
    · rw [decide_eq_false (p := AF b r s (e + 1) = BS b n r (e + 1)) (by omega)]
      rfl
    · by_cases q : AF b r s (e + 1) = BS b n r (e + 1)
      · have hbit : bitN (b r) (e + 1) = bitN (b t) (e + 1) := by
          apply Classical.byContradiction
          intro z
          rw [AF_sn z] at h5
          omega
        rw [AF_s hbit] at h5
        have : anyN (wbO b n r (e + 1)) n = true := op_iff.mpr ⟨t, h1, h2, by omega, by omega, hbit⟩
        rw [this, Bool.not_true, Bool.and_false]
      · rw [decide_eq_false q]
        rfl
theorem win_one {b : Nat → Nat} {n r s e : Nat} (hs : s < n) (he : e < 12) :
    sm (fun a => bN (decide (s ≠ r) && decide (a ≤ e) && AMb b r s a e && !(BTb b n r a e))) 12 = if BS b n r (e + 1) = e + 1 then 0 else cond (anyN (wbO b n r (e + 1)) n) 0 (bN (wbP b n r (e + 1) s)) := by
  have hle := AF_le b r s (e + 1)
  rw [sm_one _ (AF b r s (e + 1)) 12 (fun i hi => by
    unfold AMb
    rw [decide_eq_false (p := AF b r s (e + 1) = i) (fun z => hi z.symm), Bool.false_and, Bool.and_false, Bool.false_and]
    rfl)]
  unfold AMb
  rw [decide_eq_true (p := AF b r s (e + 1) = AF b r s (e + 1)) rfl, Bool.true_and]
  by_cases hr : s = r
  · rw [decide_eq_false (p := s ≠ r) (fun z => z hr)]
    have hw : wbP b n r (e + 1) s = false := by
      unfold wbP
      rw [decide_eq_false (p := s ≠ r) (fun z => z hr), Bool.false_and]
    rw [hw]
    simp [bN]
  · rw [decide_eq_true (p := s ≠ r) hr, Bool.true_and]
    by_cases hlt : AF b r s (e + 1) < e + 1
    · rw [if_pos (by omega), decide_eq_true (p := AF b r s (e + 1) ≤ e) (by omega), Bool.true_and, win_key hs hr he hlt]
      have hlb := BS_lb (b := b) (c := e + 1) hs hr
      rw [if_neg (by omega)]
      unfold wbP
      rw [decide_eq_true (p := s ≠ r) hr, Bool.true_and]
      cases anyN (wbO b n r (e + 1)) n
      · simp
      · simp [bN]
    · have hz : (if AF b r s (e + 1) < 12 then bN (decide (AF b r s (e + 1) ≤ e) && ptB b r s (e + 1) && !BTb b n r (AF b r s (e + 1)) e) else 0) = 0 := by
        rw [decide_eq_false (p := AF b r s (e + 1) ≤ e) (by omega)]
        simp [bN]
      rw [hz]
      by_cases q : BS b n r (e + 1) = e + 1
      · rw [if_pos q]
      · rw [if_neg q]
        have hw : wbP b n r (e + 1) s = false := by
          unfold wbP
          rw [decide_eq_false (p := AF b r s (e + 1) = BS b n r (e + 1)) (by omega), Bool.and_false]
        rw [hw]
        cases anyN (wbO b n r (e + 1)) n <;> rfl
theorem MWn_eq {b : Nat → Nat} {n r : Nat} : MWn b n r = sm (fun c => WB b n r (c + 1)) 12 := by
  unfold MWn
  have h1 : ∀ s, s < n → cN (mwP b n r s) 144 = sm (fun e => if BS b n r (e + 1) = e + 1 then 0 else cond (anyN (wbO b n r (e + 1)) n) 0 (bN (wbP b n r (e + 1) s))) 12 := by
    intro s hs
    rw [cN_sm]
    have := sm_dm (fun a e => bN (decide (s ≠ r) && decide (a ≤ e) && AMb b r s a e && !(BTb b n r a e))) (k := 12) (by decide) 12
    rw [show 144 = 12 * 12 from rfl]
    refine Eq.trans ?_ (this.trans ?_)
    · rfl
    · rw [sm_comm]
      exact sm_congr 12 (fun e he => win_one hs he)
  rw [sm_congr n h1, sm_comm]
  refine sm_congr 12 (fun e he => ?_)
  unfold WB
  by_cases q : BS b n r (e + 1) = e + 1
  · rw [if_pos q]
    refine Eq.trans (sm_ext n (fun s => if_pos q)) (sm_zero n)
  · rw [if_neg q]
    refine Eq.trans (sm_ext n (fun s => if_neg q)) ?_
    cases anyN (wbO b n r (e + 1)) n
    · exact (cN_sm _ _).symm
    · exact sm_zero n
-- cover
theorem mxi_leI (v0 : Nat) (f : Nat → Nat) (v : Nat) : ∀ k, mxi v0 f k ≤ v ↔ v0 ≤ v ∧ ∀ i, i < k → f i ≤ v
  | 0 => by simp [mxi]
  | k + 1 => by
    simp only [mxi]
    have ih := mxi_leI v0 f v k
    constructor
    · intro h
      have h1 : mxi v0 f k ≤ v := by split at h <;> omega
      refine ⟨(ih.mp h1).1, fun i hi => ?_⟩
      by_cases e : i = k
      · subst e
        split at h <;> omega
      · exact (ih.mp h1).2 i (by omega)
    · intro h
      have h1 := ih.mpr ⟨h.1, fun i hi => h.2 i (by omega)⟩
      have h2 := h.2 k (by omega)
      split <;> omega
theorem WOk_leI (b : Nat → Nat) (r c v : Nat) : ∀ n, WOk b r c n ≤ v ↔ ∀ s, s < n → s ≠ r → ∀ t, t < 12 - c → woT b r c s t ≤ v
  | 0 => by simp [WOk]
  | n + 1 => by
    simp only [WOk]
    have ih := WOk_leI b r c v n
    by_cases e : n = r
    · rw [if_pos e, ih]
      constructor
      · intro h s hs hr
        exact h s (by omega) hr
      · intro h s hs hr
        exact h s (by omega) hr
    · rw [if_neg e, mxi_leI, ih]
      constructor
      · intro h s hs hr
        by_cases z : s = n
        · subst z; exact h.2
        · exact h.1 s (by omega) hr
      · intro h
        exact ⟨fun s hs hr => h s (by omega) hr, h n (by omega) e⟩
theorem WO_eq {b : Nat → Nat} {n r c : Nat} (hc : c < 12) : WO b n r c = CV b n r c := by
  have key : ∀ v, WO b n r c ≤ v ↔ CV b n r c ≤ v := by
    intro v
    unfold WO CV
    rw [WOk_leI, mx_leI]
    constructor
    · intro h t ht
      unfold cvT
      split
      · rename_i hle
        rcases BS_at b n r (c + 1 + t) with q | ⟨s, h1, h2, h3⟩
        · omega
        · have := h s h1 h2 t ht
          unfold woT at this
          rw [show c + t + 1 = c + 1 + t by omega, if_pos (by omega)] at this
          omega
      · exact Nat.zero_le _
    · intro h s hs hr t ht
      unfold woT
      split
      · rename_i hle
        have hlb := BS_lb (b := b) (c := c + 1 + t) hs hr
        rw [show c + t + 1 = c + 1 + t by omega] at hle ⊢
        have := h t ht
        unfold cvT at this
        rw [if_pos (by omega)] at this
        have h9 := AF_le b r s (c + 1 + t)
        omega
      · exact Nat.zero_le _
  exact Nat.le_antisymm ((key _).mpr (Nat.le_refl _)) ((key _).mp (Nat.le_refl _))
-- kinds
def nk (E : Nat → Nat → Bool) : List Nat → Nat
  | [] => 0
  | x :: l => bN (!(l.any (E x))) + nk E l
theorem nk_perm {E : Nat → Nat → Bool} (hs : ∀ x y, E x y = E y x) (ht : ∀ x y z, E x y = true → E y z = true → E x z = true) {l l' : List Nat} (h : l.Perm l') : nk E l = nk E l' := by
  induction h with
  | nil => rfl
  | cons x h ih => simp only [nk]; rw [ih, h.any_eq]
  | swap x y l =>
    simp only [nk, List.any_cons]
    rw [hs y x]
    cases e : E x y
    · simp; omega
    · have : l.any (E y) = l.any (E x) := by
        apply Bool.eq_iff_iff.mpr
        rw [List.any_eq_true, List.any_eq_true]
        constructor
        · rintro ⟨z, h1, h2⟩
          exact ⟨z, h1, ht x y z e h2⟩
        · rintro ⟨z, h1, h2⟩
          exact ⟨z, h1, ht y x z (by rw [hs]; exact e) h2⟩
      rw [this]
  | trans _ _ ih1 ih2 => exact ih1.trans ih2
theorem AG_comm (b : Nat → Nat) (x y a e : Nat) : AGb b x y a e = AGb b y x a e := by
  unfold AGb
  rw [AF_comm]
theorem AG_tr {b : Nat → Nat} {x y z a e : Nat} (h1 : AGb b x y a e = true) (h2 : AGb b y z a e = true) : AGb b x z a e = true := decide_eq_true (AFv_tr (of_decide_eq_true h1) (of_decide_eq_true h2))
theorem nk_range (b : Nat → Nat) (a e : Nat) : ∀ n, nk (fun x y => AGb b x y a e) (List.range n).reverse = KM b a e n
  | 0 => rfl
  | n + 1 => by
    rw [List.range_succ, List.reverse_append]
    show bN (!((List.range n).reverse.any (fun y => AGb b n y a e))) + nk _ (List.range n).reverse = KM b a e n + bN (!(anyN (kf1 b n a e) n))
    rw [nk_range b a e n]
    have : (List.range n).reverse.any (fun y => AGb b n y a e) = anyN (kf1 b n a e) n := by
      apply Bool.eq_iff_iff.mpr
      rw [List.any_eq_true, anyN_iff]
      constructor
      · rintro ⟨z, h1, h2⟩
        exact ⟨z, by simpa using h1, h2⟩
      · rintro ⟨z, h1, h2⟩
        exact ⟨z, by simpa using h1, h2⟩
    rw [this]
    omega
theorem nk_ro (b : Nat → Nat) (n a e : Nat) : ∀ k, k ≤ n → nk (fun x y => AGb b x y a e) ((hLS b n (e + 1)).take k).reverse = cN (KNp b n a e) k
  | 0, _ => by simp [nk, cN]
  | k + 1, h => by
    have hl : k < (hLS b n (e + 1)).length := by rw [hLS_len]; omega
    rw [List.take_succ, List.getElem?_eq_getElem hl, ro_get]
    simp only [Option.toList_some, List.reverse_append, List.reverse_cons, List.reverse_nil, List.nil_append, List.singleton_append, List.cons_append]
    show bN (!(((hLS b n (e + 1)).take k).reverse.any (fun y => AGb b (ro b n (e + 1) k) y a e))) + nk _ _ = cN (KNp b n a e) k + bN (KNp b n a e k)
    rw [nk_ro b n a e k (by omega)]
    have : (!(((hLS b n (e + 1)).take k).reverse.any (fun y => AGb b (ro b n (e + 1) k) y a e))) = KNp b n a e k := by
      unfold KNp
      apply Bool.eq_iff_iff.mpr
      rw [Bool.not_eq_true', decide_eq_true_eq, ← Bool.not_eq_true, List.any_eq_true]
      constructor
      · intro h1
        by_cases z : k = 0
        · exact Or.inl z
        · right
          apply Nat.lt_of_not_le
          intro q
          apply h1
          have hm : ro b n (e + 1) (k - 1) ∈ ((hLS b n (e + 1)).take k).reverse := by
            rw [List.mem_reverse]
            have hl2 : k - 1 < ((hLS b n (e + 1)).take k).length := by rw [List.length_take, hLS_len]; omega
            have := List.getElem_mem hl2
            rw [List.getElem_take, ro_get] at this
            exact this
          refine ⟨_, hm, decide_eq_true ?_⟩
          unfold bg at q
          rw [if_neg z] at q
          rw [AF_comm]
          exact q
      · rintro h1 ⟨x, hx, hE⟩
        rw [List.mem_reverse] at hx
        obtain ⟨j, hj, ej⟩ := List.getElem_of_mem hx
        rw [List.length_take, hLS_len] at hj
        rw [List.getElem_take, ro_get] at ej
        have hE : AF b (ro b n (e + 1) k) x (e + 1) ≤ a := of_decide_eq_true hE
        rcases h1 with h1 | h1
        · omega
        · unfold bg at h1
          rw [if_neg (by omega)] at h1
          have hu := ro_ult (b := b) (n := n) (c := e + 1) (i := j) (j := k - 1) (k := k) (by omega) (by omega) (by omega)
          rw [← ej, AF_comm] at hE
          omega
    rw [this]
    omega
theorem KM_eq (b : Nat → Nat) (n a e : Nat) : KM b a e n = cN (KNp b n a e) n := by
  rw [← nk_range, ← nk_ro b n a e n (Nat.le_refl _), List.take_of_length_le (by rw [hLS_len]; exact Nat.le_refl _)]
  refine nk_perm (fun x y => AG_comm b x y a e) (fun x y z => AG_tr) ?_
  exact (List.reverse_perm _).trans ((hLS_perm b n (e + 1)).symm.trans (List.reverse_perm _).symm)
-- the common values
theorem S_mat_eq {n : Nat} {b : Nat → Nat} (h8 : n ≤ 8) (x : Int32) : S_matM n b x = S_mat n b x := by
  unfold S_matM S_mat
  by_cases h : 1 ≤ x.toInt ∧ x.toInt ≤ 12
  · rw [if_pos h, if_pos h, MM_eq h8 (by omega)]
  · rw [if_neg h, if_neg h]
theorem S_win_eq {n : Nat} {b : Nat → Nat} (x : Int32) : S_winM n b x = S_win n b x := by
  unfold S_winM S_win
  rw [MWn_eq]
theorem S_cov_eq {n : Nat} {b : Nat → Nat} (x : Int32) : S_covM n b x = S_cov n b x := by
  unfold S_covM S_cov
  rw [sm_congr 12 (fun c hc => WO_eq hc)]
theorem S_kin_eq {n : Nat} {b : Nat → Nat} (x y : Int32) : S_kinM n b x y = S_kin n b x y := by
  unfold S_kinM S_kin
  rw [KM_eq]
end
section
/-! THE CONSTRUCTORS -/
theorem K_same {D : va_G} {cl : List vw_C} {d1 d2 : ClassId} {s : State} (h : va_K D cl [(d1, .int), (d2, .int)] s) : d1 = d2 := by
  have h1 : s.vm.findClass _ = some d1 := (h.2 0 (d1, .int) rfl).2
  have h2 : s.vm.findClass _ = some d2 := (h.2 1 (d2, .int) rfl).2
  exact Option.some.inj (h1.symm.trans h2)
set_option maxHeartbeats 4000000 in
set_option maxRecDepth 100000 in
theorem metX0_init {l : Launch} {dC : Nat → ClassId} {dI : Nat → Nat → Nat} {h0 sz : Nat} : Met l yX0_init (ws_ yX0_init cX0_init 1 none) ({ frames := 1, cells := 5, slots := 232, locals := 12 }) (wrP (dC, dI) [] [(h0, .inr (0, [.int (nI 0), .null, .int (nI 0), .null, .null, .null, .null]))] sz [.ref h0]) (va_Qv (fun (_ : Nat × Nat × Nat × Nat × Nat × ClassId) => True) (fun u t => XB (dC, dI) h0 u.1 u.2.1 u.2.2.1 u.2.2.2.1 u.2.2.2.2.1 u.2.2.2.2.2 (va_A [(h0, .inr (0, [.int (nI 0), .null, .int (nI 0), .null, .null, .null, .null]))] sz) 0 (fun _ => 0) t) (va_A [(h0, .inr (0, [.int (nI 0), .null, .int (nI 0), .null, .null, .null, .null]))] sz)) 5 232 (va_A [(h0, .inr (0, [.int (nI 0), .null, .int (nI 0), .null, .null, .null, .null]))] sz) := by
  refine Met.ofW (cc := cX0_init) (maxL := 1) (ret := none) (by decide) rfl ?_
  intro pP eE sS mM args below meth cC s₁ B hml hv
  obtain ⟨rfl, hsz, hP, hK, hD0⟩ := hv
  have hx := B.exec
  have hb := B.bytes
  have hret := B.returns
  have hts := atoms_spec (ws := ws_ yX0_init cX0_init 1 none) B.pre
  have hts : ∀ w ∈ lw_all, w.before _ sS = true := fun w h => hts w (List.mem_cons_of_mem _ h)
  have hown : sS.vm.findClass RX0 = some mM.cls := findClass_of_methodNamed B.named
  have hlocks := B.notSynchronized
  have hin : meth.name = "<init>" := (name_of_methodNamed B.named B.method).1
  subst hsz
  have hD := hD0.self (sz := sS.heap.size)
  generalize hAe : va_A [(h0, .inr (0, [.int (nI 0), .null, .int (nI 0), .null, .null, .null, .null]))] sS.heap.size = A at hD ⊢
  have hA : ∀ q : Nat, sS.heap.size ≤ q → A q := fun q h => by rw [← hAe]; exact Or.inr h
  clear hAe
  have hS : va_S A sS.heap sS.heap [] := va_S.rf
  have hP : va_P (dC, dI) vwCl [(h0, .inr (0, [.int (nI 0), .null, .int (nI 0), .null, .null, .null, .null]))] sS.heap := hP
  have hl := lv_entry ([.ref h0]) (n := 1) (Nat.le_of_ble_eq_true rfl)
  rw [lg_entry_eq]
  generalize (lg_sl ([.ref h0]) ++ List.replicate (1 - (lg_sl ([.ref h0])).length) Slot.unset).toArray = ls at hl ⊢
  have hl : lv_has ls 1 [(0, .ref h0)] := hl
  refine lv_aload_n hx hb dX0_init_0 rfl (lv_at hl 0 rfl) ?_
  refine W.objInit hx hb hown (hts _ q32) (hts _ q33) (hts _ q34) rfl (by rw [hml]; exact hl.1) rfl dX0_init_1 (Nat.le_of_ble_eq_true rfl) (Nat.le_of_ble_eq_true rfl) ?_
  refine W.eq (g2 := F0 mM 4 ls []) rfl ?_
  refine lv_aload_n hx hb dX0_init_4 rfl (lv_at hl 0 rfl) ?_
  refine lv_bipush (v := nI 8) hx hb dX0_init_5 (by decide) ?_
  refine va_newa (atype := .int) (ty := .int) (n := nI 8) (N' := 8) (a0 := (8, .inl (nF (fun _ => 0)))) hx hb (hts _ q57) rfl hK hP hD hS hA (fun _ => rfl) (by decide) (by decide) (by decide) (Nat.le_of_ble_eq_true rfl) (Nat.le_of_ble_eq_true rfl) dX0_init_7 (fun k1 d0 H hK hP hD hS => ?_)
  have hK : va_K (dC, dI) vwCl [(d0, .int)] sS := hK
  have hP : va_P (dC, dI) vwCl [(h0, .inr (0, [.int (nI 0), .null, .int (nI 0), .null, .null, .null, .null])), (k1, .inl (d0, 8, .inl (nF (fun _ => 0))))] H := hP
  have hD : va_D A [(h0, .inr (0, [.int (nI 0), .null, .int (nI 0), .null, .null, .null, .null])), (k1, .inl (d0, 8, .inl (nF (fun _ => 0))))] := hD
  refine va_putF (D := (dC, dI)) (ci := 0) (v := .ref k1) (ty := .array .int) (C := RX0) (T := TX0) (N := 7) hx hb hts in_X0 tyX0 tyX0_ok nmX0 hown hK hP hD hS 0 rfl rfl 1 (by decide) (hts _ q36) (fun _ h9 => h9) rfl hin rfl (by decide +kernel) rfl rfl (Nat.le_of_ble_eq_true rfl) dX0_init_9 (fun H locs hP hD hS => ?_)
  have hP : va_P (dC, dI) vwCl [(h0, .inr (0, [.int (nI 0), .ref k1, .int (nI 0), .null, .null, .null, .null])), (k1, .inl (d0, 8, .inl (nF (fun _ => 0))))] H := hP
  have hD : va_D A [(h0, .inr (0, [.int (nI 0), .ref k1, .int (nI 0), .null, .null, .null, .null])), (k1, .inl (d0, 8, .inl (nF (fun _ => 0))))] := hD
  refine lv_aload_n hx hb dX0_init_12 rfl (lv_at hl 0 rfl) ?_
  refine lv_bipush (v := nI 104) hx hb dX0_init_13 (by decide) ?_
  refine va_newa (atype := .int) (ty := .int) (n := nI 104) (N' := 104) (a0 := (104, .inl (nF (fun _ => 0)))) hx hb (hts _ q57) rfl hK hP hD hS hA (fun _ => rfl) (by decide) (by decide) (by decide) (Nat.le_of_ble_eq_true rfl) (Nat.le_of_ble_eq_true rfl) dX0_init_15 (fun k2 d1 H hK hP hD hS => ?_)
  have hK : va_K (dC, dI) vwCl [(d0, .int), (d1, .int)] sS := hK
  obtain rfl := K_same hK
  have hK := hK.sub (tys' := [(d0, .int)]) [0] rfl
  have hP : va_P (dC, dI) vwCl [(h0, .inr (0, [.int (nI 0), .ref k1, .int (nI 0), .null, .null, .null, .null])), (k1, .inl (d0, 8, .inl (nF (fun _ => 0)))), (k2, .inl (d0, 104, .inl (nF (fun _ => 0))))] H := hP
  have hD : va_D A [(h0, .inr (0, [.int (nI 0), .ref k1, .int (nI 0), .null, .null, .null, .null])), (k1, .inl (d0, 8, .inl (nF (fun _ => 0)))), (k2, .inl (d0, 104, .inl (nF (fun _ => 0))))] := hD
  refine va_putF (D := (dC, dI)) (ci := 0) (v := .ref k2) (ty := .array .int) (C := RX0) (T := TX0) (N := 7) hx hb hts in_X0 tyX0 tyX0_ok nmX0 hown hK hP hD hS 0 rfl rfl 3 (by decide) (hts _ q38) (fun _ h9 => h9) rfl hin rfl (by decide +kernel) rfl rfl (Nat.le_of_ble_eq_true rfl) dX0_init_17 (fun H locs hP hD hS => ?_)
  have hP : va_P (dC, dI) vwCl [(h0, .inr (0, [.int (nI 0), .ref k1, .int (nI 0), .ref k2, .null, .null, .null])), (k1, .inl (d0, 8, .inl (nF (fun _ => 0)))), (k2, .inl (d0, 104, .inl (nF (fun _ => 0))))] H := hP
  have hD : va_D A [(h0, .inr (0, [.int (nI 0), .ref k1, .int (nI 0), .ref k2, .null, .null, .null])), (k1, .inl (d0, 8, .inl (nF (fun _ => 0)))), (k2, .inl (d0, 104, .inl (nF (fun _ => 0))))] := hD
  refine lv_aload_n hx hb dX0_init_20 rfl (lv_at hl 0 rfl) ?_
  refine lv_bipush (v := nI 104) hx hb dX0_init_21 (by decide) ?_
  refine va_newa (atype := .int) (ty := .int) (n := nI 104) (N' := 104) (a0 := (104, .inl (nF (fun _ => 0)))) hx hb (hts _ q57) rfl hK hP hD hS hA (fun _ => rfl) (by decide) (by decide) (by decide) (Nat.le_of_ble_eq_true rfl) (Nat.le_of_ble_eq_true rfl) dX0_init_23 (fun k3 d2 H hK hP hD hS => ?_)
  have hK : va_K (dC, dI) vwCl [(d0, .int), (d2, .int)] sS := hK
  obtain rfl := K_same hK
  have hK := hK.sub (tys' := [(d0, .int)]) [0] rfl
  have hP : va_P (dC, dI) vwCl [(h0, .inr (0, [.int (nI 0), .ref k1, .int (nI 0), .ref k2, .null, .null, .null])), (k1, .inl (d0, 8, .inl (nF (fun _ => 0)))), (k2, .inl (d0, 104, .inl (nF (fun _ => 0)))), (k3, .inl (d0, 104, .inl (nF (fun _ => 0))))] H := hP
  have hD : va_D A [(h0, .inr (0, [.int (nI 0), .ref k1, .int (nI 0), .ref k2, .null, .null, .null])), (k1, .inl (d0, 8, .inl (nF (fun _ => 0)))), (k2, .inl (d0, 104, .inl (nF (fun _ => 0)))), (k3, .inl (d0, 104, .inl (nF (fun _ => 0))))] := hD
  refine va_putF (D := (dC, dI)) (ci := 0) (v := .ref k3) (ty := .array .int) (C := RX0) (T := TX0) (N := 7) hx hb hts in_X0 tyX0 tyX0_ok nmX0 hown hK hP hD hS 0 rfl rfl 4 (by decide) (hts _ q39) (fun _ h9 => h9) rfl hin rfl (by decide +kernel) rfl rfl (Nat.le_of_ble_eq_true rfl) dX0_init_25 (fun H locs hP hD hS => ?_)
  have hP : va_P (dC, dI) vwCl [(h0, .inr (0, [.int (nI 0), .ref k1, .int (nI 0), .ref k2, .ref k3, .null, .null])), (k1, .inl (d0, 8, .inl (nF (fun _ => 0)))), (k2, .inl (d0, 104, .inl (nF (fun _ => 0)))), (k3, .inl (d0, 104, .inl (nF (fun _ => 0))))] H := hP
  have hD : va_D A [(h0, .inr (0, [.int (nI 0), .ref k1, .int (nI 0), .ref k2, .ref k3, .null, .null])), (k1, .inl (d0, 8, .inl (nF (fun _ => 0)))), (k2, .inl (d0, 104, .inl (nF (fun _ => 0)))), (k3, .inl (d0, 104, .inl (nF (fun _ => 0))))] := hD
  refine lv_aload_n hx hb dX0_init_28 rfl (lv_at hl 0 rfl) ?_
  refine lv_bipush (v := nI 8) hx hb dX0_init_29 (by decide) ?_
  refine va_newa (atype := .int) (ty := .int) (n := nI 8) (N' := 8) (a0 := (8, .inl (nF (fun _ => 0)))) hx hb (hts _ q57) rfl hK hP hD hS hA (fun _ => rfl) (by decide) (by decide) (by decide) (Nat.le_of_ble_eq_true rfl) (Nat.le_of_ble_eq_true rfl) dX0_init_31 (fun k4 d3 H hK hP hD hS => ?_)
  have hK : va_K (dC, dI) vwCl [(d0, .int), (d3, .int)] sS := hK
  obtain rfl := K_same hK
  have hK := hK.sub (tys' := [(d0, .int)]) [0] rfl
  have hP : va_P (dC, dI) vwCl [(h0, .inr (0, [.int (nI 0), .ref k1, .int (nI 0), .ref k2, .ref k3, .null, .null])), (k1, .inl (d0, 8, .inl (nF (fun _ => 0)))), (k2, .inl (d0, 104, .inl (nF (fun _ => 0)))), (k3, .inl (d0, 104, .inl (nF (fun _ => 0)))), (k4, .inl (d0, 8, .inl (nF (fun _ => 0))))] H := hP
  have hD : va_D A [(h0, .inr (0, [.int (nI 0), .ref k1, .int (nI 0), .ref k2, .ref k3, .null, .null])), (k1, .inl (d0, 8, .inl (nF (fun _ => 0)))), (k2, .inl (d0, 104, .inl (nF (fun _ => 0)))), (k3, .inl (d0, 104, .inl (nF (fun _ => 0)))), (k4, .inl (d0, 8, .inl (nF (fun _ => 0))))] := hD
  refine va_putF (D := (dC, dI)) (ci := 0) (v := .ref k4) (ty := .array .int) (C := RX0) (T := TX0) (N := 7) hx hb hts in_X0 tyX0 tyX0_ok nmX0 hown hK hP hD hS 0 rfl rfl 5 (by decide) (hts _ q40) (fun _ h9 => h9) rfl hin rfl (by decide +kernel) rfl rfl (Nat.le_of_ble_eq_true rfl) dX0_init_33 (fun H locs hP hD hS => ?_)
  have hP : va_P (dC, dI) vwCl [(h0, .inr (0, [.int (nI 0), .ref k1, .int (nI 0), .ref k2, .ref k3, .ref k4, .null])), (k1, .inl (d0, 8, .inl (nF (fun _ => 0)))), (k2, .inl (d0, 104, .inl (nF (fun _ => 0)))), (k3, .inl (d0, 104, .inl (nF (fun _ => 0)))), (k4, .inl (d0, 8, .inl (nF (fun _ => 0))))] H := hP
  have hD : va_D A [(h0, .inr (0, [.int (nI 0), .ref k1, .int (nI 0), .ref k2, .ref k3, .ref k4, .null])), (k1, .inl (d0, 8, .inl (nF (fun _ => 0)))), (k2, .inl (d0, 104, .inl (nF (fun _ => 0)))), (k3, .inl (d0, 104, .inl (nF (fun _ => 0)))), (k4, .inl (d0, 8, .inl (nF (fun _ => 0))))] := hD
  refine lv_aload_n hx hb dX0_init_36 rfl (lv_at hl 0 rfl) ?_
  refine lv_bipush (v := nI 8) hx hb dX0_init_37 (by decide) ?_
  refine va_newa (atype := .int) (ty := .int) (n := nI 8) (N' := 8) (a0 := (8, .inl (nF (fun _ => 0)))) hx hb (hts _ q57) rfl hK hP hD hS hA (fun _ => rfl) (by decide) (by decide) (by decide) (Nat.le_of_ble_eq_true rfl) (Nat.le_of_ble_eq_true rfl) dX0_init_39 (fun k5 d4 H hK hP hD hS => ?_)
  have hK : va_K (dC, dI) vwCl [(d0, .int), (d4, .int)] sS := hK
  obtain rfl := K_same hK
  have hK := hK.sub (tys' := [(d0, .int)]) [0] rfl
  have hP : va_P (dC, dI) vwCl [(h0, .inr (0, [.int (nI 0), .ref k1, .int (nI 0), .ref k2, .ref k3, .ref k4, .null])), (k1, .inl (d0, 8, .inl (nF (fun _ => 0)))), (k2, .inl (d0, 104, .inl (nF (fun _ => 0)))), (k3, .inl (d0, 104, .inl (nF (fun _ => 0)))), (k4, .inl (d0, 8, .inl (nF (fun _ => 0)))), (k5, .inl (d0, 8, .inl (nF (fun _ => 0))))] H := hP
  have hD : va_D A [(h0, .inr (0, [.int (nI 0), .ref k1, .int (nI 0), .ref k2, .ref k3, .ref k4, .null])), (k1, .inl (d0, 8, .inl (nF (fun _ => 0)))), (k2, .inl (d0, 104, .inl (nF (fun _ => 0)))), (k3, .inl (d0, 104, .inl (nF (fun _ => 0)))), (k4, .inl (d0, 8, .inl (nF (fun _ => 0)))), (k5, .inl (d0, 8, .inl (nF (fun _ => 0))))] := hD
  refine va_putF (D := (dC, dI)) (ci := 0) (v := .ref k5) (ty := .array .int) (C := RX0) (T := TX0) (N := 7) hx hb hts in_X0 tyX0 tyX0_ok nmX0 hown hK hP hD hS 0 rfl rfl 6 (by decide) (hts _ q41) (fun _ h9 => h9) rfl hin rfl (by decide +kernel) rfl rfl (Nat.le_of_ble_eq_true rfl) dX0_init_41 (fun H locs hP hD hS => ?_)
  have hP : va_P (dC, dI) vwCl [(h0, .inr (0, [.int (nI 0), .ref k1, .int (nI 0), .ref k2, .ref k3, .ref k4, .ref k5])), (k1, .inl (d0, 8, .inl (nF (fun _ => 0)))), (k2, .inl (d0, 104, .inl (nF (fun _ => 0)))), (k3, .inl (d0, 104, .inl (nF (fun _ => 0)))), (k4, .inl (d0, 8, .inl (nF (fun _ => 0)))), (k5, .inl (d0, 8, .inl (nF (fun _ => 0))))] H := hP
  have hD : va_D A [(h0, .inr (0, [.int (nI 0), .ref k1, .int (nI 0), .ref k2, .ref k3, .ref k4, .ref k5])), (k1, .inl (d0, 8, .inl (nF (fun _ => 0)))), (k2, .inl (d0, 104, .inl (nF (fun _ => 0)))), (k3, .inl (d0, 104, .inl (nF (fun _ => 0)))), (k4, .inl (d0, 8, .inl (nF (fun _ => 0)))), (k5, .inl (d0, 8, .inl (nF (fun _ => 0))))] := hD
  refine W.widen (k := 5) (n := 232) (by omega) (by omega) ?_
  exact W.vret hx hb hret (fun t ht hW => ⟨⟨(k1, k2, k3, k4, k5, d0), rfl, trivial, ⟨0, fun _ => 0, fun _ => 0, fun _ => 0, fun _ => 0, Or.inl rfl, by rw [ht]; exact hP, va_K.moved hW.alike hK, hD⟩⟩, hS.F ht⟩) hS.2.2 dX0_init_44
set_option maxHeartbeats 4000000 in
set_option maxRecDepth 100000 in
theorem metX1_init {l : Launch} {dC : Nat → ClassId} {dI : Nat → Nat → Nat} {h0 sz : Nat} : Met l yX1_init (ws_ yX1_init cX1_init 1 none) ({ frames := 1, cells := 1, slots := 8, locals := 12 }) (wrP (dC, dI) [] [(h0, .inr (1, [.null, .int (nI 0)]))] sz [.ref h0]) (va_Qv (fun (_ : Nat × ClassId) => True) (fun u t => MB (dC, dI) h0 u.1 u.2 (va_A [(h0, .inr (1, [.null, .int (nI 0)]))] sz) 0 (fun _ => 0) t) (va_A [(h0, .inr (1, [.null, .int (nI 0)]))] sz)) 1 8 (va_A [(h0, .inr (1, [.null, .int (nI 0)]))] sz) := by
  refine Met.ofW (cc := cX1_init) (maxL := 1) (ret := none) (by decide) rfl ?_
  intro pP eE sS mM args below meth cC s₁ B hml hv
  obtain ⟨rfl, hsz, hP, hK, hD0⟩ := hv
  have hx := B.exec
  have hb := B.bytes
  have hret := B.returns
  have hts := atoms_spec (ws := ws_ yX1_init cX1_init 1 none) B.pre
  have hts : ∀ w ∈ lw_all, w.before _ sS = true := fun w h => hts w (List.mem_cons_of_mem _ h)
  have hown : sS.vm.findClass RX1 = some mM.cls := findClass_of_methodNamed B.named
  have hlocks := B.notSynchronized
  have hin : meth.name = "<init>" := (name_of_methodNamed B.named B.method).1
  subst hsz
  have hD := hD0.self (sz := sS.heap.size)
  generalize hAe : va_A [(h0, .inr (1, [.null, .int (nI 0)]))] sS.heap.size = A at hD ⊢
  have hA : ∀ q : Nat, sS.heap.size ≤ q → A q := fun q h => by rw [← hAe]; exact Or.inr h
  clear hAe
  have hS : va_S A sS.heap sS.heap [] := va_S.rf
  have hP : va_P (dC, dI) vwCl [(h0, .inr (1, [.null, .int (nI 0)]))] sS.heap := hP
  have hl := lv_entry ([.ref h0]) (n := 1) (Nat.le_of_ble_eq_true rfl)
  rw [lg_entry_eq]
  generalize (lg_sl ([.ref h0]) ++ List.replicate (1 - (lg_sl ([.ref h0])).length) Slot.unset).toArray = ls at hl ⊢
  have hl : lv_has ls 1 [(0, .ref h0)] := hl
  refine lv_aload_n hx hb dX1_init_0 rfl (lv_at hl 0 rfl) ?_
  refine W.objInit hx hb hown (hts _ q167) (hts _ q33) (hts _ q34) rfl (by rw [hml]; exact hl.1) rfl dX1_init_1 (Nat.le_of_ble_eq_true rfl) (Nat.le_of_ble_eq_true rfl) ?_
  refine W.eq (g2 := F0 mM 4 ls []) rfl ?_
  refine lv_aload_n hx hb dX1_init_4 rfl (lv_at hl 0 rfl) ?_
  refine lv_bipush (v := nI 8) hx hb dX1_init_5 (by decide) ?_
  refine va_newa (atype := .int) (ty := .int) (n := nI 8) (N' := 8) (a0 := (8, .inl (nF (fun _ => 0)))) hx hb (hts _ q57) rfl hK hP hD hS hA (fun _ => rfl) (by decide) (by decide) (by decide) (Nat.le_of_ble_eq_true rfl) (Nat.le_of_ble_eq_true rfl) dX1_init_7 (fun k1 d0 H hK hP hD hS => ?_)
  have hK : va_K (dC, dI) vwCl [(d0, .int)] sS := hK
  have hP : va_P (dC, dI) vwCl [(h0, .inr (1, [.null, .int (nI 0)])), (k1, .inl (d0, 8, .inl (nF (fun _ => 0))))] H := hP
  have hD : va_D A [(h0, .inr (1, [.null, .int (nI 0)])), (k1, .inl (d0, 8, .inl (nF (fun _ => 0))))] := hD
  refine va_putF (D := (dC, dI)) (ci := 1) (v := .ref k1) (ty := .array .int) (C := RX1) (T := TX1) (N := 2) hx hb hts in_X1 tyX1 tyX1_ok nmX1 hown hK hP hD hS 0 rfl rfl 0 (by decide) (hts _ q168) (fun _ h9 => h9) rfl hin rfl (by decide +kernel) rfl rfl (Nat.le_of_ble_eq_true rfl) dX1_init_9 (fun H locs hP hD hS => ?_)
  have hP : va_P (dC, dI) vwCl [(h0, .inr (1, [.ref k1, .int (nI 0)])), (k1, .inl (d0, 8, .inl (nF (fun _ => 0))))] H := hP
  have hD : va_D A [(h0, .inr (1, [.ref k1, .int (nI 0)])), (k1, .inl (d0, 8, .inl (nF (fun _ => 0))))] := hD
  refine W.widen (k := 1) (n := 8) (by omega) (by omega) ?_
  exact W.vret hx hb hret (fun t ht hW => ⟨⟨(k1, d0), rfl, trivial, ⟨by rw [ht]; exact hP, va_K.moved hW.alike hK, hD⟩⟩, hS.F ht⟩) hS.2.2 dX1_init_12
end
section
/-! THE CLAIM OUT OF ONE WALK OF THE LAW'S BODY. Your part is whole_start (and what it stands on); all else here is the same for every law, but numbers. -/
def R_law : String := "HaplotypeRowsLaw"
def lw_P (b : Addr) (xs : List Int32) (args : Array Value) (s : State) : Prop := args = #[.ref b] ∧ s.IntsAt b xs ∧ xs.length ≤ 256 ∧ (Jvm.Cond.and given_1 narrow_1).before args s = true
def lw_Q (_ : Array Value) (s : State) (o : Outcome) (t : State) : Prop := o = .returned (some (.int 1)) ∧ Framed s o t [] 600000 7290000
def lw_Z (below : List Frame) (a : Array Value) (s : State) : State → Prop := fun t => ∃ o, t.status = .running ∧ Ended t below o ∧ lw_Q a s o t
/-- the law's own end, with 1 on the stack, nothing written that was there before, its room as the claim has it -/
theorem lw_ret {p : Program} {l : Launch} {e : Env} {s : State} {m : MethodId} {below : List Frame} {meth : Method} {c : Code} {b : Nat} (hx : p.tables.exec = Jvm.exec) (hb : c.code = code) (hr : meth.sig.returnType = ret) (hlocks : meth.locks = false) {pc : Nat} {H : Heap} {ls : Array Slot} (hdg : decode code pc = .ok (.ireturn, 1)) : W p l e room_1 s m #[Value.ref b] below meth c H [] 600000 7290000 (lw_Z below #[Value.ref b] s) (F0 m pc ls [.int 1]) := by
  intro T hT X
  obtain ⟨fs, hret, hrun, hended, hW, hframe⟩ := X.leave (v := some (.int 1)) (hlocks := hlocks) (fun h => by rw [hr] at h; cases h)
  have hmeth' : T.vm.method? m = some meth := X.method'
  refine ⟨T.setFrames fs, ?_, .returned (some (.int 1)), hrun, hended, rfl, ⟨_, rfl⟩, hW, hframe⟩
  jvm_step X.here [X.here.top, hx, hb, hdg, hmeth', hr, ret, narrow_b1]
  (try refine ⟨rfl, ?_⟩); (try refine ⟨rfl, ?_⟩)
  first | (intro acts; rw [hret _ acts rfl rfl rfl]) | rw [hret _ _ rfl rfl rfl]
  exact Steps.refl _
/-- what holds at the law's entry: the machine, the code, the tables' words (any of lw_tbl by 'hts w (by decide +kernel)'), the script of L ints xs at the cell b, what the Statement gives of the start (any of its parts by flat_of_before) -/
def lw_At (p : Program) (s : State) (m : MethodId) (meth : Method) (c : Code) (b L : Nat) (xs : Nat → Int32) : Prop :=
  p.tables.exec = Jvm.exec ∧ c.code = code ∧ meth.sig.returnType = ret ∧ c.maxLocals = 4 ∧ s.vm.findClass R_law = some m.cls ∧ (∀ w ∈ lw_tbl, w.before #[Value.ref b] s = true) ∧ va_X b L xs s s.heap ∧ b < s.heap.size ∧ meth.locks = false ∧ (Jvm.Cond.and given_1 narrow_1).before #[Value.ref b] s = true
end
section
/-! THE LAW'S LOOP -/
section HSL
variable {p : Program} {l : Launch} {e : Env} {R : Room} {s : State} {m : MethodId} {args : Array Value} {below : List Frame} {meth : Method} {c : Code} {H : Heap} {locs : List Loc} {cells slots : Nat} {Q : State → Prop} {cc : ByteArray} {pc : Nat} {ls : Array Slot} {rest : List Value} {A : Nat → Prop} {H0 : Heap}
theorem hn_sld (hexec : p.tables.exec = Jvm.exec) (hb : c.code = cc) {b L : Nat} {xs : Nat → Int32} (hX : va_X b L xs s H0) (hbl : b < H0.size) (hbA : ¬ A b) (hS : va_S A H0 H locs) {i : Nat} (hi : i < L) (hL : L < 2147483648) (hdg : decode cc pc = .ok (.iaload, 1))
    (k : W p l e R s m args below meth c H locs cells slots Q (F0 m (pc + 1) ls (.int (xs i) :: rest))) : W p l e R s m args below meth c H locs cells slots Q (F0 m pc ls (.int (nI i) :: .ref b :: rest)) := by
  refine va_sld hexec hb hX hbl hbA hS (vp_in_nI hi hL) hdg ?_
  rw [nI_clamp (Nat.lt_trans hi hL)]
  exact k
end HSL
set_option maxHeartbeats 8000000 in
set_option maxRecDepth 100000 in
theorem law_loop {p : Program} {e : Env} {s : State} {m : MethodId} {below : List Frame} {meth : Method} {c : Code} {l : Launch} {bb L : Nat} {xs : Nat → Int32} {dC : Nat → ClassId} {dI : Nat → Nat → Nat} {h0 k1 k2 k3 k4 k5 h1 m1 : Nat} {d0 : ClassId} (hL : L ≤ 256) (C0 : lw_At p s m meth c bb L xs) (hK : va_K (dC, dI) vwCl [(d0, .int)] s) :
    ∀ (n i : Nat), L + 1 ≤ i + n → i ≤ L + 4 → ∀ (cnt : Nat) (b : Nat → Nat) (bu : Nat) (o g n1 n2 : Nat → Nat), cnt ≤ 8 → (∀ k, b k < 4096) → okB cnt bu b o g → ∀ (H : Heap) (locs : List Loc), va_P (dC, dI) vwCl ((XW h0 k1 k2 k3 k4 k5 d0 cnt bu b o g n1 n2) ++ (MW h1 m1 d0 cnt b)) H → va_D (fun q : Nat => s.heap.size ≤ q) ((XW h0 k1 k2 k3 k4 k5 d0 cnt bu b o g n1 n2) ++ (MW h1 m1 d0 cnt b)) → va_S (fun q : Nat => s.heap.size ≤ q) s.heap H locs → ∀ (ls : Array Slot), lv_has ls 4 [(0, .ref bb), (1, .ref h0), (2, .ref h1), (3, .int (nI i))] → W p l e room_1 s m #[Value.ref bb] below meth c H locs 8 249 (lw_Z below #[Value.ref bb] s) (F0 m 18 ls []) := by
  obtain ⟨hx, hb, hr, hml, hown, hts0, hX, hbl, hlocks, hgv⟩ := C0
  have hts : ∀ w ∈ lw_all, w.before #[Value.ref bb] s = true := fun w h => hts0 w (lw_all_tbl h)
  have hA : ∀ q : Nat, s.heap.size ≤ q → (fun q : Nat => s.heap.size ≤ q) q := fun _ h => h
  have hbA : ¬ (fun q : Nat => s.heap.size ≤ q) bb := Nat.not_le.mpr hbl
  intro n
  induction n with
  | zero =>
    intro i hi hiL cnt b bu o g n1 n2 h8 hbd hbt H locs hP hD hS ls hl
    refine lv_iload_n hx hb dL_law_18 rfl (lv_at hl 3 rfl) ?_
    refine lv_aload_n hx hb dL_law_19 rfl (lv_at hl 0 rfl) ?_
    refine va_slen hx hb hX hbl hbA hS dL_law_20 ?_
    refine lv_iconst (v := nI 4) hx hb dL_law_21 (by decide) ?_
    refine lv_isub hx hb dL_law_22 ?_
    refine hz_icmp_gt (tgt := 465) hx hb dL_law_23 (by decide) (fun c9 => ?_) (fun c9 => ?_)
    · refine lv_iconst (v := 1) hx hb dL_law_465 (by decide) ?_
      refine va_forget (fun q hq => hS.2.2 q hq) ?_
      refine W.widen (k := 600000) (n := 7290000) (by decide) (by decide) ?_
      exact lw_ret hx hb hr hlocks dL_law_466
    · exfalso
      have c9 : (nI i).toInt ≤ (nI L - nI 4).toInt := c9
      rw [pk_sub_toInt (by omega) (by decide)] at c9
      rw [hz_t (by omega)] at c9
      omega
  | succ n ih =>
    intro i hi hiL cnt b bu o g n1 n2 h8 hbd hbt H locs hP hD hS ls hl
    refine lv_iload_n hx hb dL_law_18 rfl (lv_at hl 3 rfl) ?_
    refine lv_aload_n hx hb dL_law_19 rfl (lv_at hl 0 rfl) ?_
    refine va_slen hx hb hX hbl hbA hS dL_law_20 ?_
    refine lv_iconst (v := nI 4) hx hb dL_law_21 (by decide) ?_
    refine lv_isub hx hb dL_law_22 ?_
    refine hz_icmp_gt (tgt := 465) hx hb dL_law_23 (by decide) (fun c9 => ?_) (fun c9 => ?_)
    · refine lv_iconst (v := 1) hx hb dL_law_465 (by decide) ?_
      refine va_forget (fun q hq => hS.2.2 q hq) ?_
      refine W.widen (k := 600000) (n := 7290000) (by decide) (by decide) ?_
      exact lw_ret hx hb hr hlocks dL_law_466
    · have c9 : (nI i).toInt ≤ (nI L - nI 4).toInt := c9
      rw [hz_t (by omega), pk_sub_toInt (by omega) (by decide)] at c9
      have hi4 : i + 4 ≤ L := (by omega)
      clear c9
      refine lv_aload_n hx hb dL_law_26 rfl (lv_at hl 0 rfl) ?_
      refine lv_iload_n hx hb dL_law_27 rfl (lv_at hl 3 rfl) ?_
      refine hn_sld hx hb hX hbl hbA hS (by omega) (by omega) dL_law_28 ?_
      refine lv_bipush (v := nI 15) hx hb dL_law_29 (by decide) ?_
      refine lv_iand hx hb dL_law_31 ?_
      obtain ⟨j, hj, ej⟩ := pk_andE (xs i) (m := nI 15) 4 rfl
      refine hn_top ej ?_
      clear ej
      obtain rfl | rfl | rfl | rfl | rfl | rfl | rfl | rfl | rfl | rfl | rfl | rfl | rfl | rfl | rfl | rfl : j = 0 ∨ j = 1 ∨ j = 2 ∨ j = 3 ∨ j = 4 ∨ j = 5 ∨ j = 6 ∨ j = 7 ∨ j = 8 ∨ j = 9 ∨ j = 10 ∨ j = 11 ∨ j = 12 ∨ j = 13 ∨ j = 14 ∨ j = 15 := by omega
      · refine lv_tableIn (tgt := 100) hx hb dL_law_32 (by decide) (by decide) rfl (by decide) ?_
        refine lv_aload_n hx hb dL_law_100 rfl (lv_at hl 1 rfl) ?_
        refine lv_aload_n hx hb dL_law_101 rfl (lv_at hl 0 rfl) ?_
        refine lv_iload_n hx hb dL_law_102 rfl (lv_at hl 3 rfl) ?_
        refine lv_iconst (v := nI 1) hx hb dL_law_103 (by decide) ?_
        refine hn_add hx hb dL_law_104 ?_
        refine hn_sld hx hb hX hbl hbA hS (by omega) (by omega) dL_law_105 ?_
        have hPc := hP.sub (ws' := (XW h0 k1 k2 k3 k4 k5 d0 cnt bu b o g n1 n2)) [0, 1, 2, 3, 4, 5] rfl
        have hDc := hD.sub (ws' := (XW h0 k1 k2 k3 k4 k5 d0 cnt bu b o g n1 n2)) [0, 1, 2, 3, 4, 5] (by decide) rfl
        have hFc := va_free (wc := (XW h0 k1 k2 k3 k4 k5 d0 cnt bu b o g n1 n2)) hD hS hA [0, 1, 2, 3, 4, 5] rfl
        refine va_calli (va_runV (As := [.int (xs (i + 1))]) (rest := []) ⟨hx, hb, hml, hown, hts⟩ (metX0_add (xs (i + 1)) h8 hbd hbt) (cwV 1 hts (lw_V q58 q59 q60 q25 q61) rfl rfl rfl (by decide +kernel) ⟨Nat.le_of_ble_eq_true rfl, Nat.le_of_ble_eq_true rfl⟩) (wr_preX0 hK hPc hDc) rfl rfl hl.1 rfl (lv_room (Nat.le_of_ble_eq_true rfl)) dL_law_106 ⟨Nat.le_of_ble_eq_true rfl, Nat.le_of_ble_eq_true rfl⟩) hS (fun q _ h => hFc q h) hFc (fun rX u t H1 locs ht hvm hwX hB hz1 hk1 hS => ?_)
        obtain ⟨bu2, o2, g2, n12, n22, hbt2, hP1, hK1, hD1⟩ := hB
        rw [ht] at hP1
        obtain ⟨hP, hD⟩ := va_join (wr := (MW h1 m1 d0 cnt b)) (w1 := (XW h0 k1 k2 k3 k4 k5 d0 ((T_add cnt b (xs (i + 1))).2.1) bu2 ((T_add cnt b (xs (i + 1))).2.2) o2 g2 n12 n22)) hP hD [0, 1, 2, 3, 4, 5] [6, 7] rfl rfl (by decide) (by decide) hk1 hFc hP1 hD1
        generalize H1 = H at hP hS ⊢
        clear hk1 hz1 ht hvm hP1 hD1 hFc hPc hDc
        refine lv_aload_n hx hb dL_law_109 rfl (lv_at hl 2 rfl) ?_
        refine lv_aload_n hx hb dL_law_110 rfl (lv_at hl 0 rfl) ?_
        refine lv_iload_n hx hb dL_law_111 rfl (lv_at hl 3 rfl) ?_
        refine lv_iconst (v := nI 1) hx hb dL_law_112 (by decide) ?_
        refine hn_add hx hb dL_law_113 ?_
        refine hn_sld hx hb hX hbl hbA hS (by omega) (by omega) dL_law_114 ?_
        have hPm := hP.sub (ws' := (MW h1 m1 d0 cnt b)) [0, 1] rfl
        have hDm := hD.sub (ws' := (MW h1 m1 d0 cnt b)) [0, 1] (by decide) rfl
        have hFm := va_free (wc := (MW h1 m1 d0 cnt b)) hD hS hA [0, 1] rfl
        refine va_calli (va_runV (As := [.int (xs (i + 1))]) (rest := [.int rX]) ⟨hx, hb, hml, hown, hts⟩ (metX1_add (xs (i + 1)) h8 hbd) (cwV 1 hts (lw_V q175 q176 q177 q26 q178) rfl rfl rfl (by decide +kernel) ⟨Nat.le_of_ble_eq_true rfl, Nat.le_of_ble_eq_true rfl⟩) (wr_preX1 hK hPm hDm) rfl rfl hl.1 rfl (lv_room (Nat.le_of_ble_eq_true rfl)) dL_law_115 ⟨Nat.le_of_ble_eq_true rfl, Nat.le_of_ble_eq_true rfl⟩) hS (fun q _ h => hFm q h) hFm (fun rM u t H1 locs ht hvm hwM hB hz1 hk1 hS => ?_)
        obtain ⟨hP1, hK1, hD1⟩ := hB
        rw [ht] at hP1
        obtain ⟨hP, hD⟩ := va_join (wr := (XW h0 k1 k2 k3 k4 k5 d0 ((T_add cnt b (xs (i + 1))).2.1) bu2 ((T_add cnt b (xs (i + 1))).2.2) o2 g2 n12 n22)) (w1 := (MW h1 m1 d0 ((T_add cnt b (xs (i + 1))).2.1) ((T_add cnt b (xs (i + 1))).2.2))) hP hD [0, 1] [2, 3, 4, 5, 6, 7] rfl rfl (by decide) (by decide) hk1 hFm hP1 hD1
        generalize H1 = H at hP hS ⊢
        refine lv_icmp_eq (tgt := 459) hx hb dL_law_118 (by decide) (fun _ => ?_) (fun c9 => absurd (by rw [hwX, hwM]) c9)
        refine lv_iinc (v := nI (i + 4)) (lv' := [(3, .int (nI (i + 4))), (0, .ref bb), (1, .ref h0), (2, .ref h1)]) hx hb dL_law_459 hl (k := 3) rfl (nI_add i 4) (by decide) rfl (fun ls hl => ?_)
        refine lv_goto (tgt := 18) hx hb dL_law_462 (by decide) ?_
        exact ih (i + 4) (by omega) (by omega) ((T_add cnt b (xs (i + 1))).2.1) ((T_add cnt b (xs (i + 1))).2.2) bu2 o2 g2 n12 n22 (T_add_k h8 hbd).1 (T_add_k h8 hbd).2 hbt2 _ _ (hP.sub [0, 1, 2, 3, 4, 5, 6, 7] rfl) (hD.sub [0, 1, 2, 3, 4, 5, 6, 7] (by decide) rfl) hS ls (lv_sub hl [1, 2, 3, 0] rfl)
      · refine lv_tableIn (tgt := 123) hx hb dL_law_32 (by decide) (by decide) rfl (by decide) ?_
        refine lv_aload_n hx hb dL_law_123 rfl (lv_at hl 1 rfl) ?_
        have hPc := hP.sub (ws' := (XW h0 k1 k2 k3 k4 k5 d0 cnt bu b o g n1 n2)) [0, 1, 2, 3, 4, 5] rfl
        have hDc := hD.sub (ws' := (XW h0 k1 k2 k3 k4 k5 d0 cnt bu b o g n1 n2)) [0, 1, 2, 3, 4, 5] (by decide) rfl
        have hFc := va_free (wc := (XW h0 k1 k2 k3 k4 k5 d0 cnt bu b o g n1 n2)) hD hS hA [0, 1, 2, 3, 4, 5] rfl
        refine va_calli (va_runV (As := []) (rest := []) ⟨hx, hb, hml, hown, hts⟩ (metX0_remove  h8 hbd hbt) (cwV 0 hts (lw_V q62 q63 q64 q25 q65) rfl rfl rfl (by decide +kernel) ⟨Nat.le_of_ble_eq_true rfl, Nat.le_of_ble_eq_true rfl⟩) (wr_preX0 hK hPc hDc) rfl rfl hl.1 rfl (lv_room (Nat.le_of_ble_eq_true rfl)) dL_law_124 ⟨Nat.le_of_ble_eq_true rfl, Nat.le_of_ble_eq_true rfl⟩) hS (fun q _ h => hFc q h) hFc (fun rX u t H1 locs ht hvm hwX hB hz1 hk1 hS => ?_)
        obtain ⟨bu2, o2, g2, n12, n22, hbt2, hP1, hK1, hD1⟩ := hB
        rw [ht] at hP1
        obtain ⟨hP, hD⟩ := va_join (wr := (MW h1 m1 d0 cnt b)) (w1 := (XW h0 k1 k2 k3 k4 k5 d0 ((T_rem cnt b).2.1) bu2 ((T_rem cnt b).2.2) o2 g2 n12 n22)) hP hD [0, 1, 2, 3, 4, 5] [6, 7] rfl rfl (by decide) (by decide) hk1 hFc hP1 hD1
        generalize H1 = H at hP hS ⊢
        clear hk1 hz1 ht hvm hP1 hD1 hFc hPc hDc
        refine lv_aload_n hx hb dL_law_127 rfl (lv_at hl 2 rfl) ?_
        have hPm := hP.sub (ws' := (MW h1 m1 d0 cnt b)) [0, 1] rfl
        have hDm := hD.sub (ws' := (MW h1 m1 d0 cnt b)) [0, 1] (by decide) rfl
        have hFm := va_free (wc := (MW h1 m1 d0 cnt b)) hD hS hA [0, 1] rfl
        refine va_calli (va_runV (As := []) (rest := [.int rX]) ⟨hx, hb, hml, hown, hts⟩ (metX1_remove  h8 hbd) (cwV 0 hts (lw_V q183 q184 q185 q26 q186) rfl rfl rfl (by decide +kernel) ⟨Nat.le_of_ble_eq_true rfl, Nat.le_of_ble_eq_true rfl⟩) (wr_preX1 hK hPm hDm) rfl rfl hl.1 rfl (lv_room (Nat.le_of_ble_eq_true rfl)) dL_law_128 ⟨Nat.le_of_ble_eq_true rfl, Nat.le_of_ble_eq_true rfl⟩) hS (fun q _ h => hFm q h) hFm (fun rM u t H1 locs ht hvm hwM hB hz1 hk1 hS => ?_)
        obtain ⟨hP1, hK1, hD1⟩ := hB
        rw [ht] at hP1
        obtain ⟨hP, hD⟩ := va_join (wr := (XW h0 k1 k2 k3 k4 k5 d0 ((T_rem cnt b).2.1) bu2 ((T_rem cnt b).2.2) o2 g2 n12 n22)) (w1 := (MW h1 m1 d0 ((T_rem cnt b).2.1) ((T_rem cnt b).2.2))) hP hD [0, 1] [2, 3, 4, 5, 6, 7] rfl rfl (by decide) (by decide) hk1 hFm hP1 hD1
        generalize H1 = H at hP hS ⊢
        refine lv_icmp_eq (tgt := 459) hx hb dL_law_131 (by decide) (fun _ => ?_) (fun c9 => absurd (by rw [hwX, hwM]) c9)
        refine lv_iinc (v := nI (i + 4)) (lv' := [(3, .int (nI (i + 4))), (0, .ref bb), (1, .ref h0), (2, .ref h1)]) hx hb dL_law_459 hl (k := 3) rfl (nI_add i 4) (by decide) rfl (fun ls hl => ?_)
        refine lv_goto (tgt := 18) hx hb dL_law_462 (by decide) ?_
        exact ih (i + 4) (by omega) (by omega) ((T_rem cnt b).2.1) ((T_rem cnt b).2.2) bu2 o2 g2 n12 n22 (T_rem_k h8 hbd).1 (T_rem_k h8 hbd).2 hbt2 _ _ (hP.sub [0, 1, 2, 3, 4, 5, 6, 7] rfl) (hD.sub [0, 1, 2, 3, 4, 5, 6, 7] (by decide) rfl) hS ls (lv_sub hl [1, 2, 3, 0] rfl)
      · refine lv_tableIn (tgt := 136) hx hb dL_law_32 (by decide) (by decide) rfl (by decide) ?_
        refine lv_aload_n hx hb dL_law_136 rfl (lv_at hl 1 rfl) ?_
        refine lv_aload_n hx hb dL_law_137 rfl (lv_at hl 0 rfl) ?_
        refine lv_iload_n hx hb dL_law_138 rfl (lv_at hl 3 rfl) ?_
        refine lv_iconst (v := nI 1) hx hb dL_law_139 (by decide) ?_
        refine hn_add hx hb dL_law_140 ?_
        refine hn_sld hx hb hX hbl hbA hS (by omega) (by omega) dL_law_141 ?_
        refine lv_aload_n hx hb dL_law_142 rfl (lv_at hl 0 rfl) ?_
        refine lv_iload_n hx hb dL_law_143 rfl (lv_at hl 3 rfl) ?_
        refine lv_iconst (v := nI 2) hx hb dL_law_144 (by decide) ?_
        refine hn_add hx hb dL_law_145 ?_
        refine hn_sld hx hb hX hbl hbA hS (by omega) (by omega) dL_law_146 ?_
        have hPc := hP.sub (ws' := (XW h0 k1 k2 k3 k4 k5 d0 cnt bu b o g n1 n2)) [0, 1, 2, 3, 4, 5] rfl
        have hDc := hD.sub (ws' := (XW h0 k1 k2 k3 k4 k5 d0 cnt bu b o g n1 n2)) [0, 1, 2, 3, 4, 5] (by decide) rfl
        have hFc := va_free (wc := (XW h0 k1 k2 k3 k4 k5 d0 cnt bu b o g n1 n2)) hD hS hA [0, 1, 2, 3, 4, 5] rfl
        refine va_calli (va_runV (As := [.int (xs (i + 1)), .int (xs (i + 2))]) (rest := []) ⟨hx, hb, hml, hown, hts⟩ (metX0_turn (xs (i + 1)) (xs (i + 2)) h8 hbd hbt) (cwV 2 hts (lw_V q66 q67 q68 q25 q69) rfl rfl rfl (by decide +kernel) ⟨Nat.le_of_ble_eq_true rfl, Nat.le_of_ble_eq_true rfl⟩) (wr_preX0 hK hPc hDc) rfl rfl hl.1 rfl (lv_room (Nat.le_of_ble_eq_true rfl)) dL_law_147 ⟨Nat.le_of_ble_eq_true rfl, Nat.le_of_ble_eq_true rfl⟩) hS (fun q _ h => hFc q h) hFc (fun rX u t H1 locs ht hvm hwX hB hz1 hk1 hS => ?_)
        obtain ⟨bu2, o2, g2, n12, n22, hbt2, hP1, hK1, hD1⟩ := hB
        rw [ht] at hP1
        obtain ⟨hP, hD⟩ := va_join (wr := (MW h1 m1 d0 cnt b)) (w1 := (XW h0 k1 k2 k3 k4 k5 d0 ((T_turn cnt b (xs (i + 1)) (xs (i + 2))).2.1) bu2 ((T_turn cnt b (xs (i + 1)) (xs (i + 2))).2.2) o2 g2 n12 n22)) hP hD [0, 1, 2, 3, 4, 5] [6, 7] rfl rfl (by decide) (by decide) hk1 hFc hP1 hD1
        generalize H1 = H at hP hS ⊢
        clear hk1 hz1 ht hvm hP1 hD1 hFc hPc hDc
        refine lv_aload_n hx hb dL_law_150 rfl (lv_at hl 2 rfl) ?_
        refine lv_aload_n hx hb dL_law_151 rfl (lv_at hl 0 rfl) ?_
        refine lv_iload_n hx hb dL_law_152 rfl (lv_at hl 3 rfl) ?_
        refine lv_iconst (v := nI 1) hx hb dL_law_153 (by decide) ?_
        refine hn_add hx hb dL_law_154 ?_
        refine hn_sld hx hb hX hbl hbA hS (by omega) (by omega) dL_law_155 ?_
        refine lv_aload_n hx hb dL_law_156 rfl (lv_at hl 0 rfl) ?_
        refine lv_iload_n hx hb dL_law_157 rfl (lv_at hl 3 rfl) ?_
        refine lv_iconst (v := nI 2) hx hb dL_law_158 (by decide) ?_
        refine hn_add hx hb dL_law_159 ?_
        refine hn_sld hx hb hX hbl hbA hS (by omega) (by omega) dL_law_160 ?_
        have hPm := hP.sub (ws' := (MW h1 m1 d0 cnt b)) [0, 1] rfl
        have hDm := hD.sub (ws' := (MW h1 m1 d0 cnt b)) [0, 1] (by decide) rfl
        have hFm := va_free (wc := (MW h1 m1 d0 cnt b)) hD hS hA [0, 1] rfl
        refine va_calli (va_runV (As := [.int (xs (i + 1)), .int (xs (i + 2))]) (rest := [.int rX]) ⟨hx, hb, hml, hown, hts⟩ (metX1_turn (xs (i + 1)) (xs (i + 2)) h8 hbd) (cwV 2 hts (lw_V q187 q188 q189 q26 q190) rfl rfl rfl (by decide +kernel) ⟨Nat.le_of_ble_eq_true rfl, Nat.le_of_ble_eq_true rfl⟩) (wr_preX1 hK hPm hDm) rfl rfl hl.1 rfl (lv_room (Nat.le_of_ble_eq_true rfl)) dL_law_161 ⟨Nat.le_of_ble_eq_true rfl, Nat.le_of_ble_eq_true rfl⟩) hS (fun q _ h => hFm q h) hFm (fun rM u t H1 locs ht hvm hwM hB hz1 hk1 hS => ?_)
        obtain ⟨hP1, hK1, hD1⟩ := hB
        rw [ht] at hP1
        obtain ⟨hP, hD⟩ := va_join (wr := (XW h0 k1 k2 k3 k4 k5 d0 ((T_turn cnt b (xs (i + 1)) (xs (i + 2))).2.1) bu2 ((T_turn cnt b (xs (i + 1)) (xs (i + 2))).2.2) o2 g2 n12 n22)) (w1 := (MW h1 m1 d0 ((T_turn cnt b (xs (i + 1)) (xs (i + 2))).2.1) ((T_turn cnt b (xs (i + 1)) (xs (i + 2))).2.2))) hP hD [0, 1] [2, 3, 4, 5, 6, 7] rfl rfl (by decide) (by decide) hk1 hFm hP1 hD1
        generalize H1 = H at hP hS ⊢
        refine lv_icmp_eq (tgt := 459) hx hb dL_law_164 (by decide) (fun _ => ?_) (fun c9 => absurd (by rw [hwX, hwM]) c9)
        refine lv_iinc (v := nI (i + 4)) (lv' := [(3, .int (nI (i + 4))), (0, .ref bb), (1, .ref h0), (2, .ref h1)]) hx hb dL_law_459 hl (k := 3) rfl (nI_add i 4) (by decide) rfl (fun ls hl => ?_)
        refine lv_goto (tgt := 18) hx hb dL_law_462 (by decide) ?_
        exact ih (i + 4) (by omega) (by omega) ((T_turn cnt b (xs (i + 1)) (xs (i + 2))).2.1) ((T_turn cnt b (xs (i + 1)) (xs (i + 2))).2.2) bu2 o2 g2 n12 n22 (T_turn_k h8 hbd).1 (T_turn_k h8 hbd).2 hbt2 _ _ (hP.sub [0, 1, 2, 3, 4, 5, 6, 7] rfl) (hD.sub [0, 1, 2, 3, 4, 5, 6, 7] (by decide) rfl) hS ls (lv_sub hl [1, 2, 3, 0] rfl)
      · refine lv_tableIn (tgt := 169) hx hb dL_law_32 (by decide) (by decide) rfl (by decide) ?_
        refine lv_aload_n hx hb dL_law_169 rfl (lv_at hl 1 rfl) ?_
        have hPc := hP.sub (ws' := (XW h0 k1 k2 k3 k4 k5 d0 cnt bu b o g n1 n2)) [0, 1, 2, 3, 4, 5] rfl
        refine vp_callSi (W.runV (As := []) (rest := []) ⟨hx, hb, hml, hown, hts⟩ metX0_rows (cwV 0 hts (lw_V q78 q79 q80 q25 q81) rfl rfl rfl (by decide +kernel) ⟨Nat.le_of_ble_eq_true rfl, Nat.le_of_ble_eq_true rfl⟩) (rd_preX0 hK hPc) rfl rfl hl.1 rfl (lv_room (Nat.le_of_ble_eq_true rfl)) dL_law_170 ⟨Nat.le_of_ble_eq_true rfl, Nat.le_of_ble_eq_true rfl⟩) (fun rX hwX => ?_)
        refine lv_aload_n hx hb dL_law_173 rfl (lv_at hl 2 rfl) ?_
        have hPm := hP.sub (ws' := (MW h1 m1 d0 cnt b)) [6, 7] rfl
        refine vp_callSi (W.runV (As := []) (rest := [.int rX]) ⟨hx, hb, hml, hown, hts⟩ (metX1_rows  ) (cwV 0 hts (lw_V q195 q196 q197 q26 q198) rfl rfl rfl (by decide +kernel) ⟨Nat.le_of_ble_eq_true rfl, Nat.le_of_ble_eq_true rfl⟩) (rd_preX1 hK hPm) rfl rfl hl.1 rfl (lv_room (Nat.le_of_ble_eq_true rfl)) dL_law_174 ⟨Nat.le_of_ble_eq_true rfl, Nat.le_of_ble_eq_true rfl⟩) (fun rM hwM => ?_)
        refine lv_icmp_eq (tgt := 459) hx hb dL_law_177 (by decide) (fun _ => ?_) (fun c9 => absurd (by rw [hwX, hwM]) c9)
        refine lv_iinc (v := nI (i + 4)) (lv' := [(3, .int (nI (i + 4))), (0, .ref bb), (1, .ref h0), (2, .ref h1)]) hx hb dL_law_459 hl (k := 3) rfl (nI_add i 4) (by decide) rfl (fun ls hl => ?_)
        refine lv_goto (tgt := 18) hx hb dL_law_462 (by decide) ?_
        exact ih (i + 4) (by omega) (by omega) cnt b bu o g n1 n2 h8 hbd hbt _ _ (hP.sub [0, 1, 2, 3, 4, 5, 6, 7] rfl) (hD.sub [0, 1, 2, 3, 4, 5, 6, 7] (by decide) rfl) hS ls (lv_sub hl [1, 2, 3, 0] rfl)
      · refine lv_tableIn (tgt := 182) hx hb dL_law_32 (by decide) (by decide) rfl (by decide) ?_
        refine lv_aload_n hx hb dL_law_182 rfl (lv_at hl 1 rfl) ?_
        refine lv_aload_n hx hb dL_law_183 rfl (lv_at hl 0 rfl) ?_
        refine lv_iload_n hx hb dL_law_184 rfl (lv_at hl 3 rfl) ?_
        refine lv_iconst (v := nI 1) hx hb dL_law_185 (by decide) ?_
        refine hn_add hx hb dL_law_186 ?_
        refine hn_sld hx hb hX hbl hbA hS (by omega) (by omega) dL_law_187 ?_
        refine lv_aload_n hx hb dL_law_188 rfl (lv_at hl 0 rfl) ?_
        refine lv_iload_n hx hb dL_law_189 rfl (lv_at hl 3 rfl) ?_
        refine lv_iconst (v := nI 2) hx hb dL_law_190 (by decide) ?_
        refine hn_add hx hb dL_law_191 ?_
        refine hn_sld hx hb hX hbl hbA hS (by omega) (by omega) dL_law_192 ?_
        have hPc := hP.sub (ws' := (XW h0 k1 k2 k3 k4 k5 d0 cnt bu b o g n1 n2)) [0, 1, 2, 3, 4, 5] rfl
        have hDc := hD.sub (ws' := (XW h0 k1 k2 k3 k4 k5 d0 cnt bu b o g n1 n2)) [0, 1, 2, 3, 4, 5] (by decide) rfl
        have hFc := va_free (wc := (XW h0 k1 k2 k3 k4 k5 d0 cnt bu b o g n1 n2)) hD hS hA [0, 1, 2, 3, 4, 5] rfl
        refine va_calli (va_runV (As := [.int (xs (i + 1)), .int (xs (i + 2))]) (rest := []) ⟨hx, hb, hml, hown, hts⟩ (metX0_ordered (xs (i + 1)) (xs (i + 2)) h8 hbd hbt) (cwV 2 hts (lw_V q82 q83 q84 q25 q85) rfl rfl rfl (by decide +kernel) ⟨Nat.le_of_ble_eq_true rfl, Nat.le_of_ble_eq_true rfl⟩) (wr_preX0 hK hPc hDc) rfl rfl hl.1 rfl (lv_room (Nat.le_of_ble_eq_true rfl)) dL_law_193 ⟨Nat.le_of_ble_eq_true rfl, Nat.le_of_ble_eq_true rfl⟩) hS (fun q _ h => hFc q h) hFc (fun rX u t H1 locs ht hvm hwX hB hz1 hk1 hS => ?_)
        obtain ⟨bu2, o2, g2, n12, n22, hbt2, hP1, hK1, hD1⟩ := hB
        rw [ht] at hP1
        obtain ⟨hP, hD⟩ := va_join (wr := (MW h1 m1 d0 cnt b)) (w1 := (XW h0 k1 k2 k3 k4 k5 d0 cnt bu2 b o2 g2 n12 n22)) hP hD [0, 1, 2, 3, 4, 5] [6, 7] rfl rfl (by decide) (by decide) hk1 hFc hP1 hD1
        generalize H1 = H at hP hS ⊢
        clear hk1 hz1 ht hvm hP1 hD1 hFc hPc hDc
        refine lv_aload_n hx hb dL_law_196 rfl (lv_at hl 2 rfl) ?_
        refine lv_aload_n hx hb dL_law_197 rfl (lv_at hl 0 rfl) ?_
        refine lv_iload_n hx hb dL_law_198 rfl (lv_at hl 3 rfl) ?_
        refine lv_iconst (v := nI 1) hx hb dL_law_199 (by decide) ?_
        refine hn_add hx hb dL_law_200 ?_
        refine hn_sld hx hb hX hbl hbA hS (by omega) (by omega) dL_law_201 ?_
        refine lv_aload_n hx hb dL_law_202 rfl (lv_at hl 0 rfl) ?_
        refine lv_iload_n hx hb dL_law_203 rfl (lv_at hl 3 rfl) ?_
        refine lv_iconst (v := nI 2) hx hb dL_law_204 (by decide) ?_
        refine hn_add hx hb dL_law_205 ?_
        refine hn_sld hx hb hX hbl hbA hS (by omega) (by omega) dL_law_206 ?_
        have hPm := hP.sub (ws' := (MW h1 m1 d0 cnt b)) [0, 1] rfl
        refine vp_callSi (W.runV (As := [.int (xs (i + 1)), .int (xs (i + 2))]) (rest := [.int rX]) ⟨hx, hb, hml, hown, hts⟩ (metX1_ordered (xs (i + 1)) (xs (i + 2)) h8 hbd) (cwV 2 hts (lw_V q199 q200 q201 q26 q202) rfl rfl rfl (by decide +kernel) ⟨Nat.le_of_ble_eq_true rfl, Nat.le_of_ble_eq_true rfl⟩) (rd_preX1 hK hPm) rfl rfl hl.1 rfl (lv_room (Nat.le_of_ble_eq_true rfl)) dL_law_207 ⟨Nat.le_of_ble_eq_true rfl, Nat.le_of_ble_eq_true rfl⟩) (fun rM hwM => ?_)
        refine lv_icmp_eq (tgt := 459) hx hb dL_law_210 (by decide) (fun _ => ?_) (fun c9 => absurd (by rw [hwX, hwM]) c9)
        refine lv_iinc (v := nI (i + 4)) (lv' := [(3, .int (nI (i + 4))), (0, .ref bb), (1, .ref h0), (2, .ref h1)]) hx hb dL_law_459 hl (k := 3) rfl (nI_add i 4) (by decide) rfl (fun ls hl => ?_)
        refine lv_goto (tgt := 18) hx hb dL_law_462 (by decide) ?_
        exact ih (i + 4) (by omega) (by omega) cnt b bu2 o2 g2 n12 n22 h8 hbd hbt2 _ _ (hP.sub [2, 3, 4, 5, 6, 7, 0, 1] rfl) (hD.sub [2, 3, 4, 5, 6, 7, 0, 1] (by decide) rfl) hS ls (lv_sub hl [1, 2, 3, 0] rfl)
      · refine lv_tableIn (tgt := 215) hx hb dL_law_32 (by decide) (by decide) rfl (by decide) ?_
        refine lv_aload_n hx hb dL_law_215 rfl (lv_at hl 1 rfl) ?_
        refine lv_aload_n hx hb dL_law_216 rfl (lv_at hl 0 rfl) ?_
        refine lv_iload_n hx hb dL_law_217 rfl (lv_at hl 3 rfl) ?_
        refine lv_iconst (v := nI 1) hx hb dL_law_218 (by decide) ?_
        refine hn_add hx hb dL_law_219 ?_
        refine hn_sld hx hb hX hbl hbA hS (by omega) (by omega) dL_law_220 ?_
        refine lv_aload_n hx hb dL_law_221 rfl (lv_at hl 0 rfl) ?_
        refine lv_iload_n hx hb dL_law_222 rfl (lv_at hl 3 rfl) ?_
        refine lv_iconst (v := nI 2) hx hb dL_law_223 (by decide) ?_
        refine hn_add hx hb dL_law_224 ?_
        refine hn_sld hx hb hX hbl hbA hS (by omega) (by omega) dL_law_225 ?_
        have hPc := hP.sub (ws' := (XW h0 k1 k2 k3 k4 k5 d0 cnt bu b o g n1 n2)) [0, 1, 2, 3, 4, 5] rfl
        have hDc := hD.sub (ws' := (XW h0 k1 k2 k3 k4 k5 d0 cnt bu b o g n1 n2)) [0, 1, 2, 3, 4, 5] (by decide) rfl
        have hFc := va_free (wc := (XW h0 k1 k2 k3 k4 k5 d0 cnt bu b o g n1 n2)) hD hS hA [0, 1, 2, 3, 4, 5] rfl
        refine va_calli (va_runV (As := [.int (xs (i + 1)), .int (xs (i + 2))]) (rest := []) ⟨hx, hb, hml, hown, hts⟩ (metX0_since (xs (i + 1)) (xs (i + 2)) h8 hbd hbt) (cwV 2 hts (lw_V q98 q99 q100 q25 q101) rfl rfl rfl (by decide +kernel) ⟨Nat.le_of_ble_eq_true rfl, Nat.le_of_ble_eq_true rfl⟩) (wr_preX0 hK hPc hDc) rfl rfl hl.1 rfl (lv_room (Nat.le_of_ble_eq_true rfl)) dL_law_226 ⟨Nat.le_of_ble_eq_true rfl, Nat.le_of_ble_eq_true rfl⟩) hS (fun q _ h => hFc q h) hFc (fun rX u t H1 locs ht hvm hwX hB hz1 hk1 hS => ?_)
        obtain ⟨bu2, o2, g2, n12, n22, hbt2, hP1, hK1, hD1⟩ := hB
        rw [ht] at hP1
        obtain ⟨hP, hD⟩ := va_join (wr := (MW h1 m1 d0 cnt b)) (w1 := (XW h0 k1 k2 k3 k4 k5 d0 cnt bu2 b o2 g2 n12 n22)) hP hD [0, 1, 2, 3, 4, 5] [6, 7] rfl rfl (by decide) (by decide) hk1 hFc hP1 hD1
        generalize H1 = H at hP hS ⊢
        clear hk1 hz1 ht hvm hP1 hD1 hFc hPc hDc
        refine lv_aload_n hx hb dL_law_229 rfl (lv_at hl 2 rfl) ?_
        refine lv_aload_n hx hb dL_law_230 rfl (lv_at hl 0 rfl) ?_
        refine lv_iload_n hx hb dL_law_231 rfl (lv_at hl 3 rfl) ?_
        refine lv_iconst (v := nI 1) hx hb dL_law_232 (by decide) ?_
        refine hn_add hx hb dL_law_233 ?_
        refine hn_sld hx hb hX hbl hbA hS (by omega) (by omega) dL_law_234 ?_
        refine lv_aload_n hx hb dL_law_235 rfl (lv_at hl 0 rfl) ?_
        refine lv_iload_n hx hb dL_law_236 rfl (lv_at hl 3 rfl) ?_
        refine lv_iconst (v := nI 2) hx hb dL_law_237 (by decide) ?_
        refine hn_add hx hb dL_law_238 ?_
        refine hn_sld hx hb hX hbl hbA hS (by omega) (by omega) dL_law_239 ?_
        have hPm := hP.sub (ws' := (MW h1 m1 d0 cnt b)) [0, 1] rfl
        refine vp_callSi (W.runV (As := [.int (xs (i + 1)), .int (xs (i + 2))]) (rest := [.int rX]) ⟨hx, hb, hml, hown, hts⟩ (metX1_since (xs (i + 1)) (xs (i + 2)) h8 hbd) (cwV 2 hts (lw_V q219 q220 q221 q26 q222) rfl rfl rfl (by decide +kernel) ⟨Nat.le_of_ble_eq_true rfl, Nat.le_of_ble_eq_true rfl⟩) (rd_preX1 hK hPm) rfl rfl hl.1 rfl (lv_room (Nat.le_of_ble_eq_true rfl)) dL_law_240 ⟨Nat.le_of_ble_eq_true rfl, Nat.le_of_ble_eq_true rfl⟩) (fun rM hwM => ?_)
        refine lv_icmp_eq (tgt := 459) hx hb dL_law_243 (by decide) (fun _ => ?_) (fun c9 => absurd (by rw [hwX, hwM]) c9)
        refine lv_iinc (v := nI (i + 4)) (lv' := [(3, .int (nI (i + 4))), (0, .ref bb), (1, .ref h0), (2, .ref h1)]) hx hb dL_law_459 hl (k := 3) rfl (nI_add i 4) (by decide) rfl (fun ls hl => ?_)
        refine lv_goto (tgt := 18) hx hb dL_law_462 (by decide) ?_
        exact ih (i + 4) (by omega) (by omega) cnt b bu2 o2 g2 n12 n22 h8 hbd hbt2 _ _ (hP.sub [2, 3, 4, 5, 6, 7, 0, 1] rfl) (hD.sub [2, 3, 4, 5, 6, 7, 0, 1] (by decide) rfl) hS ls (lv_sub hl [1, 2, 3, 0] rfl)
      · refine lv_tableIn (tgt := 248) hx hb dL_law_32 (by decide) (by decide) rfl (by decide) ?_
        refine lv_aload_n hx hb dL_law_248 rfl (lv_at hl 1 rfl) ?_
        refine lv_aload_n hx hb dL_law_249 rfl (lv_at hl 0 rfl) ?_
        refine lv_iload_n hx hb dL_law_250 rfl (lv_at hl 3 rfl) ?_
        refine lv_iconst (v := nI 1) hx hb dL_law_251 (by decide) ?_
        refine hn_add hx hb dL_law_252 ?_
        refine hn_sld hx hb hX hbl hbA hS (by omega) (by omega) dL_law_253 ?_
        have hPc := hP.sub (ws' := (XW h0 k1 k2 k3 k4 k5 d0 cnt bu b o g n1 n2)) [0, 1, 2, 3, 4, 5] rfl
        have hDc := hD.sub (ws' := (XW h0 k1 k2 k3 k4 k5 d0 cnt bu b o g n1 n2)) [0, 1, 2, 3, 4, 5] (by decide) rfl
        have hFc := va_free (wc := (XW h0 k1 k2 k3 k4 k5 d0 cnt bu b o g n1 n2)) hD hS hA [0, 1, 2, 3, 4, 5] rfl
        refine va_calli (va_runV (As := [.int (xs (i + 1))]) (rest := []) ⟨hx, hb, hml, hown, hts⟩ (metX0_matches (xs (i + 1)) h8 hbd hbt) (cwV 1 hts (lw_V q102 q103 q104 q25 q105) rfl rfl rfl (by decide +kernel) ⟨Nat.le_of_ble_eq_true rfl, Nat.le_of_ble_eq_true rfl⟩) (wr_preX0 hK hPc hDc) rfl rfl hl.1 rfl (lv_room (Nat.le_of_ble_eq_true rfl)) dL_law_254 ⟨Nat.le_of_ble_eq_true rfl, Nat.le_of_ble_eq_true rfl⟩) hS (fun q _ h => hFc q h) hFc (fun rX u t H1 locs ht hvm hwX hB hz1 hk1 hS => ?_)
        obtain ⟨bu2, o2, g2, n12, n22, hbt2, hP1, hK1, hD1⟩ := hB
        rw [ht] at hP1
        obtain ⟨hP, hD⟩ := va_join (wr := (MW h1 m1 d0 cnt b)) (w1 := (XW h0 k1 k2 k3 k4 k5 d0 cnt bu2 b o2 g2 n12 n22)) hP hD [0, 1, 2, 3, 4, 5] [6, 7] rfl rfl (by decide) (by decide) hk1 hFc hP1 hD1
        generalize H1 = H at hP hS ⊢
        clear hk1 hz1 ht hvm hP1 hD1 hFc hPc hDc
        refine lv_aload_n hx hb dL_law_257 rfl (lv_at hl 2 rfl) ?_
        refine lv_aload_n hx hb dL_law_258 rfl (lv_at hl 0 rfl) ?_
        refine lv_iload_n hx hb dL_law_259 rfl (lv_at hl 3 rfl) ?_
        refine lv_iconst (v := nI 1) hx hb dL_law_260 (by decide) ?_
        refine hn_add hx hb dL_law_261 ?_
        refine hn_sld hx hb hX hbl hbA hS (by omega) (by omega) dL_law_262 ?_
        have hPm := hP.sub (ws' := (MW h1 m1 d0 cnt b)) [0, 1] rfl
        refine vp_callSi (W.runV (As := [.int (xs (i + 1))]) (rest := [.int rX]) ⟨hx, hb, hml, hown, hts⟩ (metX1_matches (xs (i + 1)) h8 hbd) (cwV 1 hts (lw_V q228 q229 q230 q26 q231) rfl rfl rfl (by decide +kernel) ⟨Nat.le_of_ble_eq_true rfl, Nat.le_of_ble_eq_true rfl⟩) (rd_preX1 hK hPm) rfl rfl hl.1 rfl (lv_room (Nat.le_of_ble_eq_true rfl)) dL_law_263 ⟨Nat.le_of_ble_eq_true rfl, Nat.le_of_ble_eq_true rfl⟩) (fun rM hwM => ?_)
        refine lv_icmp_eq (tgt := 459) hx hb dL_law_266 (by decide) (fun _ => ?_) (fun c9 => absurd (by rw [hwX, hwM, S_mat_eq h8]) c9)
        refine lv_iinc (v := nI (i + 4)) (lv' := [(3, .int (nI (i + 4))), (0, .ref bb), (1, .ref h0), (2, .ref h1)]) hx hb dL_law_459 hl (k := 3) rfl (nI_add i 4) (by decide) rfl (fun ls hl => ?_)
        refine lv_goto (tgt := 18) hx hb dL_law_462 (by decide) ?_
        exact ih (i + 4) (by omega) (by omega) cnt b bu2 o2 g2 n12 n22 h8 hbd hbt2 _ _ (hP.sub [2, 3, 4, 5, 6, 7, 0, 1] rfl) (hD.sub [2, 3, 4, 5, 6, 7, 0, 1] (by decide) rfl) hS ls (lv_sub hl [1, 2, 3, 0] rfl)
      · refine lv_tableIn (tgt := 271) hx hb dL_law_32 (by decide) (by decide) rfl (by decide) ?_
        refine lv_aload_n hx hb dL_law_271 rfl (lv_at hl 1 rfl) ?_
        refine lv_aload_n hx hb dL_law_272 rfl (lv_at hl 0 rfl) ?_
        refine lv_iload_n hx hb dL_law_273 rfl (lv_at hl 3 rfl) ?_
        refine lv_iconst (v := nI 1) hx hb dL_law_274 (by decide) ?_
        refine hn_add hx hb dL_law_275 ?_
        refine hn_sld hx hb hX hbl hbA hS (by omega) (by omega) dL_law_276 ?_
        refine lv_aload_n hx hb dL_law_277 rfl (lv_at hl 0 rfl) ?_
        refine lv_iload_n hx hb dL_law_278 rfl (lv_at hl 3 rfl) ?_
        refine lv_iconst (v := nI 2) hx hb dL_law_279 (by decide) ?_
        refine hn_add hx hb dL_law_280 ?_
        refine hn_sld hx hb hX hbl hbA hS (by omega) (by omega) dL_law_281 ?_
        have hPc := hP.sub (ws' := (XW h0 k1 k2 k3 k4 k5 d0 cnt bu b o g n1 n2)) [0, 1, 2, 3, 4, 5] rfl
        have hDc := hD.sub (ws' := (XW h0 k1 k2 k3 k4 k5 d0 cnt bu b o g n1 n2)) [0, 1, 2, 3, 4, 5] (by decide) rfl
        have hFc := va_free (wc := (XW h0 k1 k2 k3 k4 k5 d0 cnt bu b o g n1 n2)) hD hS hA [0, 1, 2, 3, 4, 5] rfl
        refine va_calli (va_runV (As := [.int (xs (i + 1)), .int (xs (i + 2))]) (rest := []) ⟨hx, hb, hml, hown, hts⟩ (metX0_longest (xs (i + 1)) (xs (i + 2)) h8 hbd hbt) (cwV 2 hts (lw_V q114 q115 q116 q25 q117) rfl rfl rfl (by decide +kernel) ⟨Nat.le_of_ble_eq_true rfl, Nat.le_of_ble_eq_true rfl⟩) (wr_preX0 hK hPc hDc) rfl rfl hl.1 rfl (lv_room (Nat.le_of_ble_eq_true rfl)) dL_law_282 ⟨Nat.le_of_ble_eq_true rfl, Nat.le_of_ble_eq_true rfl⟩) hS (fun q _ h => hFc q h) hFc (fun rX u t H1 locs ht hvm hwX hB hz1 hk1 hS => ?_)
        obtain ⟨bu2, o2, g2, n12, n22, hbt2, hP1, hK1, hD1⟩ := hB
        rw [ht] at hP1
        obtain ⟨hP, hD⟩ := va_join (wr := (MW h1 m1 d0 cnt b)) (w1 := (XW h0 k1 k2 k3 k4 k5 d0 cnt bu2 b o2 g2 n12 n22)) hP hD [0, 1, 2, 3, 4, 5] [6, 7] rfl rfl (by decide) (by decide) hk1 hFc hP1 hD1
        generalize H1 = H at hP hS ⊢
        clear hk1 hz1 ht hvm hP1 hD1 hFc hPc hDc
        refine lv_aload_n hx hb dL_law_285 rfl (lv_at hl 2 rfl) ?_
        refine lv_aload_n hx hb dL_law_286 rfl (lv_at hl 0 rfl) ?_
        refine lv_iload_n hx hb dL_law_287 rfl (lv_at hl 3 rfl) ?_
        refine lv_iconst (v := nI 1) hx hb dL_law_288 (by decide) ?_
        refine hn_add hx hb dL_law_289 ?_
        refine hn_sld hx hb hX hbl hbA hS (by omega) (by omega) dL_law_290 ?_
        refine lv_aload_n hx hb dL_law_291 rfl (lv_at hl 0 rfl) ?_
        refine lv_iload_n hx hb dL_law_292 rfl (lv_at hl 3 rfl) ?_
        refine lv_iconst (v := nI 2) hx hb dL_law_293 (by decide) ?_
        refine hn_add hx hb dL_law_294 ?_
        refine hn_sld hx hb hX hbl hbA hS (by omega) (by omega) dL_law_295 ?_
        have hPm := hP.sub (ws' := (MW h1 m1 d0 cnt b)) [0, 1] rfl
        refine vp_callSi (W.runV (As := [.int (xs (i + 1)), .int (xs (i + 2))]) (rest := [.int rX]) ⟨hx, hb, hml, hown, hts⟩ (metX1_longest (xs (i + 1)) (xs (i + 2)) h8 hbd) (cwV 2 hts (lw_V q236 q237 q238 q26 q239) rfl rfl rfl (by decide +kernel) ⟨Nat.le_of_ble_eq_true rfl, Nat.le_of_ble_eq_true rfl⟩) (rd_preX1 hK hPm) rfl rfl hl.1 rfl (lv_room (Nat.le_of_ble_eq_true rfl)) dL_law_296 ⟨Nat.le_of_ble_eq_true rfl, Nat.le_of_ble_eq_true rfl⟩) (fun rM hwM => ?_)
        refine lv_icmp_eq (tgt := 459) hx hb dL_law_299 (by decide) (fun _ => ?_) (fun c9 => absurd (by rw [hwX, hwM]) c9)
        refine lv_iinc (v := nI (i + 4)) (lv' := [(3, .int (nI (i + 4))), (0, .ref bb), (1, .ref h0), (2, .ref h1)]) hx hb dL_law_459 hl (k := 3) rfl (nI_add i 4) (by decide) rfl (fun ls hl => ?_)
        refine lv_goto (tgt := 18) hx hb dL_law_462 (by decide) ?_
        exact ih (i + 4) (by omega) (by omega) cnt b bu2 o2 g2 n12 n22 h8 hbd hbt2 _ _ (hP.sub [2, 3, 4, 5, 6, 7, 0, 1] rfl) (hD.sub [2, 3, 4, 5, 6, 7, 0, 1] (by decide) rfl) hS ls (lv_sub hl [1, 2, 3, 0] rfl)
      · refine lv_tableIn (tgt := 304) hx hb dL_law_32 (by decide) (by decide) rfl (by decide) ?_
        refine lv_aload_n hx hb dL_law_304 rfl (lv_at hl 1 rfl) ?_
        refine lv_aload_n hx hb dL_law_305 rfl (lv_at hl 0 rfl) ?_
        refine lv_iload_n hx hb dL_law_306 rfl (lv_at hl 3 rfl) ?_
        refine lv_iconst (v := nI 1) hx hb dL_law_307 (by decide) ?_
        refine hn_add hx hb dL_law_308 ?_
        refine hn_sld hx hb hX hbl hbA hS (by omega) (by omega) dL_law_309 ?_
        have hPc := hP.sub (ws' := (XW h0 k1 k2 k3 k4 k5 d0 cnt bu b o g n1 n2)) [0, 1, 2, 3, 4, 5] rfl
        have hDc := hD.sub (ws' := (XW h0 k1 k2 k3 k4 k5 d0 cnt bu b o g n1 n2)) [0, 1, 2, 3, 4, 5] (by decide) rfl
        have hFc := va_free (wc := (XW h0 k1 k2 k3 k4 k5 d0 cnt bu b o g n1 n2)) hD hS hA [0, 1, 2, 3, 4, 5] rfl
        refine va_calli (va_runV (As := [.int (xs (i + 1))]) (rest := []) ⟨hx, hb, hml, hown, hts⟩ (metX0_winning (xs (i + 1)) h8 hbd hbt) (cwV 1 hts (lw_V q126 q127 q128 q25 q129) rfl rfl rfl (by decide +kernel) ⟨Nat.le_of_ble_eq_true rfl, Nat.le_of_ble_eq_true rfl⟩) (wr_preX0 hK hPc hDc) rfl rfl hl.1 rfl (lv_room (Nat.le_of_ble_eq_true rfl)) dL_law_310 ⟨Nat.le_of_ble_eq_true rfl, Nat.le_of_ble_eq_true rfl⟩) hS (fun q _ h => hFc q h) hFc (fun rX u t H1 locs ht hvm hwX hB hz1 hk1 hS => ?_)
        obtain ⟨bu2, o2, g2, n12, n22, hbt2, hP1, hK1, hD1⟩ := hB
        rw [ht] at hP1
        obtain ⟨hP, hD⟩ := va_join (wr := (MW h1 m1 d0 cnt b)) (w1 := (XW h0 k1 k2 k3 k4 k5 d0 cnt bu2 b o2 g2 n12 n22)) hP hD [0, 1, 2, 3, 4, 5] [6, 7] rfl rfl (by decide) (by decide) hk1 hFc hP1 hD1
        generalize H1 = H at hP hS ⊢
        clear hk1 hz1 ht hvm hP1 hD1 hFc hPc hDc
        refine lv_aload_n hx hb dL_law_313 rfl (lv_at hl 2 rfl) ?_
        refine lv_aload_n hx hb dL_law_314 rfl (lv_at hl 0 rfl) ?_
        refine lv_iload_n hx hb dL_law_315 rfl (lv_at hl 3 rfl) ?_
        refine lv_iconst (v := nI 1) hx hb dL_law_316 (by decide) ?_
        refine hn_add hx hb dL_law_317 ?_
        refine hn_sld hx hb hX hbl hbA hS (by omega) (by omega) dL_law_318 ?_
        have hPm := hP.sub (ws' := (MW h1 m1 d0 cnt b)) [0, 1] rfl
        refine vp_callSi (W.runV (As := [.int (xs (i + 1))]) (rest := [.int rX]) ⟨hx, hb, hml, hown, hts⟩ (metX1_winning (xs (i + 1)) h8 hbd) (cwV 1 hts (lw_V q240 q241 q242 q26 q243) rfl rfl rfl (by decide +kernel) ⟨Nat.le_of_ble_eq_true rfl, Nat.le_of_ble_eq_true rfl⟩) (rd_preX1 hK hPm) rfl rfl hl.1 rfl (lv_room (Nat.le_of_ble_eq_true rfl)) dL_law_319 ⟨Nat.le_of_ble_eq_true rfl, Nat.le_of_ble_eq_true rfl⟩) (fun rM hwM => ?_)
        refine lv_icmp_eq (tgt := 459) hx hb dL_law_322 (by decide) (fun _ => ?_) (fun c9 => absurd (by rw [hwX, hwM, S_win_eq]) c9)
        refine lv_iinc (v := nI (i + 4)) (lv' := [(3, .int (nI (i + 4))), (0, .ref bb), (1, .ref h0), (2, .ref h1)]) hx hb dL_law_459 hl (k := 3) rfl (nI_add i 4) (by decide) rfl (fun ls hl => ?_)
        refine lv_goto (tgt := 18) hx hb dL_law_462 (by decide) ?_
        exact ih (i + 4) (by omega) (by omega) cnt b bu2 o2 g2 n12 n22 h8 hbd hbt2 _ _ (hP.sub [2, 3, 4, 5, 6, 7, 0, 1] rfl) (hD.sub [2, 3, 4, 5, 6, 7, 0, 1] (by decide) rfl) hS ls (lv_sub hl [1, 2, 3, 0] rfl)
      · refine lv_tableIn (tgt := 327) hx hb dL_law_32 (by decide) (by decide) rfl (by decide) ?_
        refine lv_aload_n hx hb dL_law_327 rfl (lv_at hl 1 rfl) ?_
        refine lv_aload_n hx hb dL_law_328 rfl (lv_at hl 0 rfl) ?_
        refine lv_iload_n hx hb dL_law_329 rfl (lv_at hl 3 rfl) ?_
        refine lv_iconst (v := nI 1) hx hb dL_law_330 (by decide) ?_
        refine hn_add hx hb dL_law_331 ?_
        refine hn_sld hx hb hX hbl hbA hS (by omega) (by omega) dL_law_332 ?_
        have hPc := hP.sub (ws' := (XW h0 k1 k2 k3 k4 k5 d0 cnt bu b o g n1 n2)) [0, 1, 2, 3, 4, 5] rfl
        have hDc := hD.sub (ws' := (XW h0 k1 k2 k3 k4 k5 d0 cnt bu b o g n1 n2)) [0, 1, 2, 3, 4, 5] (by decide) rfl
        have hFc := va_free (wc := (XW h0 k1 k2 k3 k4 k5 d0 cnt bu b o g n1 n2)) hD hS hA [0, 1, 2, 3, 4, 5] rfl
        refine va_calli (va_runV (As := [.int (xs (i + 1))]) (rest := []) ⟨hx, hb, hml, hown, hts⟩ (metX0_cover (xs (i + 1)) h8 hbd hbt) (cwV 1 hts (lw_V q138 q139 q140 q25 q141) rfl rfl rfl (by decide +kernel) ⟨Nat.le_of_ble_eq_true rfl, Nat.le_of_ble_eq_true rfl⟩) (wr_preX0 hK hPc hDc) rfl rfl hl.1 rfl (lv_room (Nat.le_of_ble_eq_true rfl)) dL_law_333 ⟨Nat.le_of_ble_eq_true rfl, Nat.le_of_ble_eq_true rfl⟩) hS (fun q _ h => hFc q h) hFc (fun rX u t H1 locs ht hvm hwX hB hz1 hk1 hS => ?_)
        obtain ⟨bu2, o2, g2, n12, n22, hbt2, hP1, hK1, hD1⟩ := hB
        rw [ht] at hP1
        obtain ⟨hP, hD⟩ := va_join (wr := (MW h1 m1 d0 cnt b)) (w1 := (XW h0 k1 k2 k3 k4 k5 d0 cnt bu2 b o2 g2 n12 n22)) hP hD [0, 1, 2, 3, 4, 5] [6, 7] rfl rfl (by decide) (by decide) hk1 hFc hP1 hD1
        generalize H1 = H at hP hS ⊢
        clear hk1 hz1 ht hvm hP1 hD1 hFc hPc hDc
        refine lv_aload_n hx hb dL_law_336 rfl (lv_at hl 2 rfl) ?_
        refine lv_aload_n hx hb dL_law_337 rfl (lv_at hl 0 rfl) ?_
        refine lv_iload_n hx hb dL_law_338 rfl (lv_at hl 3 rfl) ?_
        refine lv_iconst (v := nI 1) hx hb dL_law_339 (by decide) ?_
        refine hn_add hx hb dL_law_340 ?_
        refine hn_sld hx hb hX hbl hbA hS (by omega) (by omega) dL_law_341 ?_
        have hPm := hP.sub (ws' := (MW h1 m1 d0 cnt b)) [0, 1] rfl
        refine vp_callSi (W.runV (As := [.int (xs (i + 1))]) (rest := [.int rX]) ⟨hx, hb, hml, hown, hts⟩ (metX1_cover (xs (i + 1)) h8 hbd) (cwV 1 hts (lw_V q252 q253 q254 q26 q255) rfl rfl rfl (by decide +kernel) ⟨Nat.le_of_ble_eq_true rfl, Nat.le_of_ble_eq_true rfl⟩) (rd_preX1 hK hPm) rfl rfl hl.1 rfl (lv_room (Nat.le_of_ble_eq_true rfl)) dL_law_342 ⟨Nat.le_of_ble_eq_true rfl, Nat.le_of_ble_eq_true rfl⟩) (fun rM hwM => ?_)
        refine lv_icmp_eq (tgt := 459) hx hb dL_law_345 (by decide) (fun _ => ?_) (fun c9 => absurd (by rw [hwX, hwM, S_cov_eq]) c9)
        refine lv_iinc (v := nI (i + 4)) (lv' := [(3, .int (nI (i + 4))), (0, .ref bb), (1, .ref h0), (2, .ref h1)]) hx hb dL_law_459 hl (k := 3) rfl (nI_add i 4) (by decide) rfl (fun ls hl => ?_)
        refine lv_goto (tgt := 18) hx hb dL_law_462 (by decide) ?_
        exact ih (i + 4) (by omega) (by omega) cnt b bu2 o2 g2 n12 n22 h8 hbd hbt2 _ _ (hP.sub [2, 3, 4, 5, 6, 7, 0, 1] rfl) (hD.sub [2, 3, 4, 5, 6, 7, 0, 1] (by decide) rfl) hS ls (lv_sub hl [1, 2, 3, 0] rfl)
      · refine lv_tableIn (tgt := 350) hx hb dL_law_32 (by decide) (by decide) rfl (by decide) ?_
        refine lv_aload_n hx hb dL_law_350 rfl (lv_at hl 1 rfl) ?_
        refine lv_aload_n hx hb dL_law_351 rfl (lv_at hl 0 rfl) ?_
        refine lv_iload_n hx hb dL_law_352 rfl (lv_at hl 3 rfl) ?_
        refine lv_iconst (v := nI 1) hx hb dL_law_353 (by decide) ?_
        refine hn_add hx hb dL_law_354 ?_
        refine hn_sld hx hb hX hbl hbA hS (by omega) (by omega) dL_law_355 ?_
        refine lv_aload_n hx hb dL_law_356 rfl (lv_at hl 0 rfl) ?_
        refine lv_iload_n hx hb dL_law_357 rfl (lv_at hl 3 rfl) ?_
        refine lv_iconst (v := nI 2) hx hb dL_law_358 (by decide) ?_
        refine hn_add hx hb dL_law_359 ?_
        refine hn_sld hx hb hX hbl hbA hS (by omega) (by omega) dL_law_360 ?_
        have hPc := hP.sub (ws' := (XW h0 k1 k2 k3 k4 k5 d0 cnt bu b o g n1 n2)) [0, 1, 2, 3, 4, 5] rfl
        have hDc := hD.sub (ws' := (XW h0 k1 k2 k3 k4 k5 d0 cnt bu b o g n1 n2)) [0, 1, 2, 3, 4, 5] (by decide) rfl
        have hFc := va_free (wc := (XW h0 k1 k2 k3 k4 k5 d0 cnt bu b o g n1 n2)) hD hS hA [0, 1, 2, 3, 4, 5] rfl
        refine va_calli (va_runV (As := [.int (xs (i + 1)), .int (xs (i + 2))]) (rest := []) ⟨hx, hb, hml, hown, hts⟩ (metX0_kinds (xs (i + 1)) (xs (i + 2)) h8 hbd hbt) (cwV 2 hts (lw_V q142 q143 q144 q25 q145) rfl rfl rfl (by decide +kernel) ⟨Nat.le_of_ble_eq_true rfl, Nat.le_of_ble_eq_true rfl⟩) (wr_preX0 hK hPc hDc) rfl rfl hl.1 rfl (lv_room (Nat.le_of_ble_eq_true rfl)) dL_law_361 ⟨Nat.le_of_ble_eq_true rfl, Nat.le_of_ble_eq_true rfl⟩) hS (fun q _ h => hFc q h) hFc (fun rX u t H1 locs ht hvm hwX hB hz1 hk1 hS => ?_)
        obtain ⟨bu2, o2, g2, n12, n22, hbt2, hP1, hK1, hD1⟩ := hB
        rw [ht] at hP1
        obtain ⟨hP, hD⟩ := va_join (wr := (MW h1 m1 d0 cnt b)) (w1 := (XW h0 k1 k2 k3 k4 k5 d0 cnt bu2 b o2 g2 n12 n22)) hP hD [0, 1, 2, 3, 4, 5] [6, 7] rfl rfl (by decide) (by decide) hk1 hFc hP1 hD1
        generalize H1 = H at hP hS ⊢
        clear hk1 hz1 ht hvm hP1 hD1 hFc hPc hDc
        refine lv_aload_n hx hb dL_law_364 rfl (lv_at hl 2 rfl) ?_
        refine lv_aload_n hx hb dL_law_365 rfl (lv_at hl 0 rfl) ?_
        refine lv_iload_n hx hb dL_law_366 rfl (lv_at hl 3 rfl) ?_
        refine lv_iconst (v := nI 1) hx hb dL_law_367 (by decide) ?_
        refine hn_add hx hb dL_law_368 ?_
        refine hn_sld hx hb hX hbl hbA hS (by omega) (by omega) dL_law_369 ?_
        refine lv_aload_n hx hb dL_law_370 rfl (lv_at hl 0 rfl) ?_
        refine lv_iload_n hx hb dL_law_371 rfl (lv_at hl 3 rfl) ?_
        refine lv_iconst (v := nI 2) hx hb dL_law_372 (by decide) ?_
        refine hn_add hx hb dL_law_373 ?_
        refine hn_sld hx hb hX hbl hbA hS (by omega) (by omega) dL_law_374 ?_
        have hPm := hP.sub (ws' := (MW h1 m1 d0 cnt b)) [0, 1] rfl
        refine vp_callSi (W.runV (As := [.int (xs (i + 1)), .int (xs (i + 2))]) (rest := [.int rX]) ⟨hx, hb, hml, hown, hts⟩ (metX1_kinds (xs (i + 1)) (xs (i + 2)) h8 hbd) (cwV 2 hts (lw_V q260 q261 q262 q26 q263) rfl rfl rfl (by decide +kernel) ⟨Nat.le_of_ble_eq_true rfl, Nat.le_of_ble_eq_true rfl⟩) (rd_preX1 hK hPm) rfl rfl hl.1 rfl (lv_room (Nat.le_of_ble_eq_true rfl)) dL_law_375 ⟨Nat.le_of_ble_eq_true rfl, Nat.le_of_ble_eq_true rfl⟩) (fun rM hwM => ?_)
        refine lv_icmp_eq (tgt := 459) hx hb dL_law_378 (by decide) (fun _ => ?_) (fun c9 => absurd (by rw [hwX, hwM, S_kin_eq]) c9)
        refine lv_iinc (v := nI (i + 4)) (lv' := [(3, .int (nI (i + 4))), (0, .ref bb), (1, .ref h0), (2, .ref h1)]) hx hb dL_law_459 hl (k := 3) rfl (nI_add i 4) (by decide) rfl (fun ls hl => ?_)
        refine lv_goto (tgt := 18) hx hb dL_law_462 (by decide) ?_
        exact ih (i + 4) (by omega) (by omega) cnt b bu2 o2 g2 n12 n22 h8 hbd hbt2 _ _ (hP.sub [2, 3, 4, 5, 6, 7, 0, 1] rfl) (hD.sub [2, 3, 4, 5, 6, 7, 0, 1] (by decide) rfl) hS ls (lv_sub hl [1, 2, 3, 0] rfl)
      · refine lv_tableIn (tgt := 383) hx hb dL_law_32 (by decide) (by decide) rfl (by decide) ?_
        refine lv_aload_n hx hb dL_law_383 rfl (lv_at hl 1 rfl) ?_
        refine lv_aload_n hx hb dL_law_384 rfl (lv_at hl 0 rfl) ?_
        refine lv_iload_n hx hb dL_law_385 rfl (lv_at hl 3 rfl) ?_
        refine lv_iconst (v := nI 1) hx hb dL_law_386 (by decide) ?_
        refine hn_add hx hb dL_law_387 ?_
        refine hn_sld hx hb hX hbl hbA hS (by omega) (by omega) dL_law_388 ?_
        refine lv_aload_n hx hb dL_law_389 rfl (lv_at hl 0 rfl) ?_
        refine lv_iload_n hx hb dL_law_390 rfl (lv_at hl 3 rfl) ?_
        refine lv_iconst (v := nI 2) hx hb dL_law_391 (by decide) ?_
        refine hn_add hx hb dL_law_392 ?_
        refine hn_sld hx hb hX hbl hbA hS (by omega) (by omega) dL_law_393 ?_
        refine lv_aload_n hx hb dL_law_394 rfl (lv_at hl 0 rfl) ?_
        refine lv_iload_n hx hb dL_law_395 rfl (lv_at hl 3 rfl) ?_
        refine lv_iconst (v := nI 3) hx hb dL_law_396 (by decide) ?_
        refine hn_add hx hb dL_law_397 ?_
        refine hn_sld hx hb hX hbl hbA hS (by omega) (by omega) dL_law_398 ?_
        have hPc := hP.sub (ws' := (XW h0 k1 k2 k3 k4 k5 d0 cnt bu b o g n1 n2)) [0, 1, 2, 3, 4, 5] rfl
        have hDc := hD.sub (ws' := (XW h0 k1 k2 k3 k4 k5 d0 cnt bu b o g n1 n2)) [0, 1, 2, 3, 4, 5] (by decide) rfl
        have hFc := va_free (wc := (XW h0 k1 k2 k3 k4 k5 d0 cnt bu b o g n1 n2)) hD hS hA [0, 1, 2, 3, 4, 5] rfl
        refine va_calli (va_runV (As := [.int (xs (i + 1)), .int (xs (i + 2)), .int (xs (i + 3))]) (rest := []) ⟨hx, hb, hml, hown, hts⟩ (metX0_having (xs (i + 1)) (xs (i + 2)) (xs (i + 3)) h8 hbd hbt) (cwV 3 hts (lw_V q146 q147 q148 q25 q149) rfl rfl rfl (by decide +kernel) ⟨Nat.le_of_ble_eq_true rfl, Nat.le_of_ble_eq_true rfl⟩) (wr_preX0 hK hPc hDc) rfl rfl hl.1 rfl (lv_room (Nat.le_of_ble_eq_true rfl)) dL_law_399 ⟨Nat.le_of_ble_eq_true rfl, Nat.le_of_ble_eq_true rfl⟩) hS (fun q _ h => hFc q h) hFc (fun rX u t H1 locs ht hvm hwX hB hz1 hk1 hS => ?_)
        obtain ⟨bu2, o2, g2, n12, n22, hbt2, hP1, hK1, hD1⟩ := hB
        rw [ht] at hP1
        obtain ⟨hP, hD⟩ := va_join (wr := (MW h1 m1 d0 cnt b)) (w1 := (XW h0 k1 k2 k3 k4 k5 d0 cnt bu2 b o2 g2 n12 n22)) hP hD [0, 1, 2, 3, 4, 5] [6, 7] rfl rfl (by decide) (by decide) hk1 hFc hP1 hD1
        generalize H1 = H at hP hS ⊢
        clear hk1 hz1 ht hvm hP1 hD1 hFc hPc hDc
        refine lv_aload_n hx hb dL_law_402 rfl (lv_at hl 2 rfl) ?_
        refine lv_aload_n hx hb dL_law_403 rfl (lv_at hl 0 rfl) ?_
        refine lv_iload_n hx hb dL_law_404 rfl (lv_at hl 3 rfl) ?_
        refine lv_iconst (v := nI 1) hx hb dL_law_405 (by decide) ?_
        refine hn_add hx hb dL_law_406 ?_
        refine hn_sld hx hb hX hbl hbA hS (by omega) (by omega) dL_law_407 ?_
        refine lv_aload_n hx hb dL_law_408 rfl (lv_at hl 0 rfl) ?_
        refine lv_iload_n hx hb dL_law_409 rfl (lv_at hl 3 rfl) ?_
        refine lv_iconst (v := nI 2) hx hb dL_law_410 (by decide) ?_
        refine hn_add hx hb dL_law_411 ?_
        refine hn_sld hx hb hX hbl hbA hS (by omega) (by omega) dL_law_412 ?_
        refine lv_aload_n hx hb dL_law_413 rfl (lv_at hl 0 rfl) ?_
        refine lv_iload_n hx hb dL_law_414 rfl (lv_at hl 3 rfl) ?_
        refine lv_iconst (v := nI 3) hx hb dL_law_415 (by decide) ?_
        refine hn_add hx hb dL_law_416 ?_
        refine hn_sld hx hb hX hbl hbA hS (by omega) (by omega) dL_law_417 ?_
        have hPm := hP.sub (ws' := (MW h1 m1 d0 cnt b)) [0, 1] rfl
        refine vp_callSi (W.runV (As := [.int (xs (i + 1)), .int (xs (i + 2)), .int (xs (i + 3))]) (rest := [.int rX]) ⟨hx, hb, hml, hown, hts⟩ (metX1_having (xs (i + 1)) (xs (i + 2)) (xs (i + 3)) h8 hbd) (cwV 3 hts (lw_V q264 q265 q266 q26 q267) rfl rfl rfl (by decide +kernel) ⟨Nat.le_of_ble_eq_true rfl, Nat.le_of_ble_eq_true rfl⟩) (rd_preX1 hK hPm) rfl rfl hl.1 rfl (lv_room (Nat.le_of_ble_eq_true rfl)) dL_law_418 ⟨Nat.le_of_ble_eq_true rfl, Nat.le_of_ble_eq_true rfl⟩) (fun rM hwM => ?_)
        refine lv_icmp_eq (tgt := 459) hx hb dL_law_421 (by decide) (fun _ => ?_) (fun c9 => absurd (by rw [hwX, hwM]) c9)
        refine lv_iinc (v := nI (i + 4)) (lv' := [(3, .int (nI (i + 4))), (0, .ref bb), (1, .ref h0), (2, .ref h1)]) hx hb dL_law_459 hl (k := 3) rfl (nI_add i 4) (by decide) rfl (fun ls hl => ?_)
        refine lv_goto (tgt := 18) hx hb dL_law_462 (by decide) ?_
        exact ih (i + 4) (by omega) (by omega) cnt b bu2 o2 g2 n12 n22 h8 hbd hbt2 _ _ (hP.sub [2, 3, 4, 5, 6, 7, 0, 1] rfl) (hD.sub [2, 3, 4, 5, 6, 7, 0, 1] (by decide) rfl) hS ls (lv_sub hl [1, 2, 3, 0] rfl)
      · refine lv_tableIn (tgt := 426) hx hb dL_law_32 (by decide) (by decide) rfl (by decide) ?_
        refine lv_aload_n hx hb dL_law_426 rfl (lv_at hl 1 rfl) ?_
        refine lv_aload_n hx hb dL_law_427 rfl (lv_at hl 0 rfl) ?_
        refine lv_iload_n hx hb dL_law_428 rfl (lv_at hl 3 rfl) ?_
        refine lv_iconst (v := nI 1) hx hb dL_law_429 (by decide) ?_
        refine hn_add hx hb dL_law_430 ?_
        refine hn_sld hx hb hX hbl hbA hS (by omega) (by omega) dL_law_431 ?_
        refine lv_aload_n hx hb dL_law_432 rfl (lv_at hl 0 rfl) ?_
        refine lv_iload_n hx hb dL_law_433 rfl (lv_at hl 3 rfl) ?_
        refine lv_iconst (v := nI 2) hx hb dL_law_434 (by decide) ?_
        refine hn_add hx hb dL_law_435 ?_
        refine hn_sld hx hb hX hbl hbA hS (by omega) (by omega) dL_law_436 ?_
        have hPc := hP.sub (ws' := (XW h0 k1 k2 k3 k4 k5 d0 cnt bu b o g n1 n2)) [0, 1, 2, 3, 4, 5] rfl
        have hDc := hD.sub (ws' := (XW h0 k1 k2 k3 k4 k5 d0 cnt bu b o g n1 n2)) [0, 1, 2, 3, 4, 5] (by decide) rfl
        have hFc := va_free (wc := (XW h0 k1 k2 k3 k4 k5 d0 cnt bu b o g n1 n2)) hD hS hA [0, 1, 2, 3, 4, 5] rfl
        refine va_calli (va_runV (As := [.int (xs (i + 1)), .int (xs (i + 2))]) (rest := []) ⟨hx, hb, hml, hown, hts⟩ (metX0_fit (xs (i + 1)) (xs (i + 2)) h8 hbd hbt) (cwV 2 hts (lw_V q150 q151 q152 q25 q153) rfl rfl rfl (by decide +kernel) ⟨Nat.le_of_ble_eq_true rfl, Nat.le_of_ble_eq_true rfl⟩) (wr_preX0 hK hPc hDc) rfl rfl hl.1 rfl (lv_room (Nat.le_of_ble_eq_true rfl)) dL_law_437 ⟨Nat.le_of_ble_eq_true rfl, Nat.le_of_ble_eq_true rfl⟩) hS (fun q _ h => hFc q h) hFc (fun rX u t H1 locs ht hvm hwX hB hz1 hk1 hS => ?_)
        obtain ⟨bu2, o2, g2, n12, n22, hbt2, hP1, hK1, hD1⟩ := hB
        rw [ht] at hP1
        obtain ⟨hP, hD⟩ := va_join (wr := (MW h1 m1 d0 cnt b)) (w1 := (XW h0 k1 k2 k3 k4 k5 d0 cnt bu2 b o2 g2 n12 n22)) hP hD [0, 1, 2, 3, 4, 5] [6, 7] rfl rfl (by decide) (by decide) hk1 hFc hP1 hD1
        generalize H1 = H at hP hS ⊢
        clear hk1 hz1 ht hvm hP1 hD1 hFc hPc hDc
        refine lv_aload_n hx hb dL_law_440 rfl (lv_at hl 2 rfl) ?_
        refine lv_aload_n hx hb dL_law_441 rfl (lv_at hl 0 rfl) ?_
        refine lv_iload_n hx hb dL_law_442 rfl (lv_at hl 3 rfl) ?_
        refine lv_iconst (v := nI 1) hx hb dL_law_443 (by decide) ?_
        refine hn_add hx hb dL_law_444 ?_
        refine hn_sld hx hb hX hbl hbA hS (by omega) (by omega) dL_law_445 ?_
        refine lv_aload_n hx hb dL_law_446 rfl (lv_at hl 0 rfl) ?_
        refine lv_iload_n hx hb dL_law_447 rfl (lv_at hl 3 rfl) ?_
        refine lv_iconst (v := nI 2) hx hb dL_law_448 (by decide) ?_
        refine hn_add hx hb dL_law_449 ?_
        refine hn_sld hx hb hX hbl hbA hS (by omega) (by omega) dL_law_450 ?_
        have hPm := hP.sub (ws' := (MW h1 m1 d0 cnt b)) [0, 1] rfl
        refine vp_callSi (W.runV (As := [.int (xs (i + 1)), .int (xs (i + 2))]) (rest := [.int rX]) ⟨hx, hb, hml, hown, hts⟩ (metX1_fit (xs (i + 1)) (xs (i + 2)) h8 hbd) (cwV 2 hts (lw_V q268 q269 q270 q26 q271) rfl rfl rfl (by decide +kernel) ⟨Nat.le_of_ble_eq_true rfl, Nat.le_of_ble_eq_true rfl⟩) (rd_preX1 hK hPm) rfl rfl hl.1 rfl (lv_room (Nat.le_of_ble_eq_true rfl)) dL_law_451 ⟨Nat.le_of_ble_eq_true rfl, Nat.le_of_ble_eq_true rfl⟩) (fun rM hwM => ?_)
        refine lv_icmp_eq (tgt := 459) hx hb dL_law_454 (by decide) (fun _ => ?_) (fun c9 => absurd (by rw [hwX, hwM]) c9)
        refine lv_iinc (v := nI (i + 4)) (lv' := [(3, .int (nI (i + 4))), (0, .ref bb), (1, .ref h0), (2, .ref h1)]) hx hb dL_law_459 hl (k := 3) rfl (nI_add i 4) (by decide) rfl (fun ls hl => ?_)
        refine lv_goto (tgt := 18) hx hb dL_law_462 (by decide) ?_
        exact ih (i + 4) (by omega) (by omega) cnt b bu2 o2 g2 n12 n22 h8 hbd hbt2 _ _ (hP.sub [2, 3, 4, 5, 6, 7, 0, 1] rfl) (hD.sub [2, 3, 4, 5, 6, 7, 0, 1] (by decide) rfl) hS ls (lv_sub hl [1, 2, 3, 0] rfl)
      · refine lv_tableOut (tgt := 459) hx hb dL_law_32 (by decide) (by decide) ?_
        refine lv_iinc (v := nI (i + 4)) (lv' := [(3, .int (nI (i + 4))), (0, .ref bb), (1, .ref h0), (2, .ref h1)]) hx hb dL_law_459 hl (k := 3) rfl (nI_add i 4) (by decide) rfl (fun ls hl => ?_)
        refine lv_goto (tgt := 18) hx hb dL_law_462 (by decide) ?_
        exact ih (i + 4) (by omega) (by omega) cnt b bu o g n1 n2 h8 hbd hbt _ _ hP hD hS ls (lv_sub hl [1, 2, 3, 0] rfl)
      · refine lv_tableOut (tgt := 459) hx hb dL_law_32 (by decide) (by decide) ?_
        refine lv_iinc (v := nI (i + 4)) (lv' := [(3, .int (nI (i + 4))), (0, .ref bb), (1, .ref h0), (2, .ref h1)]) hx hb dL_law_459 hl (k := 3) rfl (nI_add i 4) (by decide) rfl (fun ls hl => ?_)
        refine lv_goto (tgt := 18) hx hb dL_law_462 (by decide) ?_
        exact ih (i + 4) (by omega) (by omega) cnt b bu o g n1 n2 h8 hbd hbt _ _ hP hD hS ls (lv_sub hl [1, 2, 3, 0] rfl)
      · refine lv_tableOut (tgt := 459) hx hb dL_law_32 (by decide) (by decide) ?_
        refine lv_iinc (v := nI (i + 4)) (lv' := [(3, .int (nI (i + 4))), (0, .ref bb), (1, .ref h0), (2, .ref h1)]) hx hb dL_law_459 hl (k := 3) rfl (nI_add i 4) (by decide) rfl (fun ls hl => ?_)
        refine lv_goto (tgt := 18) hx hb dL_law_462 (by decide) ?_
        exact ih (i + 4) (by omega) (by omega) cnt b bu o g n1 n2 h8 hbd hbt _ _ hP hD hS ls (lv_sub hl [1, 2, 3, 0] rfl)
end
section
set_option maxHeartbeats 4000000 in
set_option maxRecDepth 100000 in
theorem whole_start {p : Program} {e : Env} {s : State} {m : MethodId} {below : List Frame} {meth : Method} {c : Code} (l : Launch) {b L : Nat} {xs : Nat → Int32} (hL : L ≤ 256) (C0 : lw_At p s m meth c b L xs) : W p l e room_1 s m #[Value.ref b] below meth c s.heap [] 0 0 (lw_Z below #[Value.ref b] s) (entryFrame m ([Value.ref b] : List Value).toArray 4) := by
  obtain ⟨hx, hb, hr, hml, hown, hts0, hX, hbl, hlocks, hgv⟩ := id C0
  have hts : ∀ w ∈ lw_all, w.before #[Value.ref b] s = true := fun w h => hts0 w (lw_all_tbl h)
  have hA : ∀ q : Nat, s.heap.size ≤ q → (fun q : Nat => s.heap.size ≤ q) q := fun _ h => h
  have hbA : ¬ (fun q : Nat => s.heap.size ≤ q) b := Nat.not_le.mpr hbl
  obtain ⟨c0, iS0, hKn0⟩ := u_known (C := RX0) (T := TX0) (N := 7) (n := 7) hts0 (fun w h => lw_all_tbl (in_X0 w h)) (hts _ q28)
  obtain ⟨c1, iS1, hKn1⟩ := u_known (C := RX1) (T := TX1) (N := 2) (n := 2) hts0 (fun w h => lw_all_tbl (in_X1 w h)) (hts _ q163)
  obtain ⟨dC, dI, hKc⟩ : ∃ (dC : Nat → ClassId) (dI : Nat → Nat → Nat), ∀ (k : Nat) (q : vw_C), vwCl[k]? = some q → u_Kn s q.1 q.2.1 q.2.2 (dC k) (dI k) := by
    refine ⟨fun k => if k = 0 then c0 else c1, fun k => if k = 0 then iS0 else iS1, ?_⟩
    intro k q hq
    match k, hq with
    | 0, hq => cases hq; exact hKn0
    | 1, hq => cases hq; exact hKn1
    | k + 2, hq => simp [vwCl] at hq
  have hS : va_S (fun q : Nat => s.heap.size ≤ q) s.heap s.heap [] := va_S.rf
  have hK : va_K (dC, dI) vwCl [] s := ⟨hKc, fun k q h => by simp at h⟩
  have hP : va_P (dC, dI) vwCl [] s.heap := fun k q h => by simp at h
  have hD : va_D (fun q : Nat => s.heap.size ≤ q) [] := ⟨fun i j p q h => by simp at h, fun k q h => by simp at h⟩
  have hl := lv_entry ([.ref b]) (n := 4) (Nat.le_of_ble_eq_true rfl)
  rw [lg_entry_eq]
  generalize (lg_sl ([.ref b]) ++ List.replicate (4 - (lg_sl ([.ref b])).length) Slot.unset).toArray = ls at hl ⊢
  have hl : lv_has ls 4 [(0, .ref b)] := hl
  refine va_new (ci := 0) (fs := [.int (nI 0), .null, .int (nI 0), .null, .null, .null, .null]) (C := RX0) (T := TX0) (N := 7) hx hb hts in_X0 tyX0 tyX0_ok hown (hts _ q27) (hts _ q28) (hts _ q25) hK hP hD hS hA rfl (fun j hj => by rcases (show j = 0 ∨ j = 1 ∨ j = 2 ∨ j = 3 ∨ j = 4 ∨ j = 5 ∨ j = 6 by omega) with rfl | rfl | rfl | rfl | rfl | rfl | rfl <;> rfl) (Nat.le_of_ble_eq_true rfl) (Nat.le_of_ble_eq_true rfl) dL_law_0 (fun h0 H hP hD hS => ?_)
  have hP : va_P (dC, dI) vwCl [(h0, .inr (0, [.int (nI 0), .null, .int (nI 0), .null, .null, .null, .null]))] H := hP
  have hD : va_D (fun q : Nat => s.heap.size ≤ q) [(h0, .inr (0, [.int (nI 0), .null, .int (nI 0), .null, .null, .null, .null]))] := hD
  refine W.widen (k := 1) (n := 7) (by omega) (by omega) ?_
  refine lv_dup hx hb dL_law_3 rfl ?_
  have hFc := va_free (wc := [(h0, .inr (0, [.int (nI 0), .null, .int (nI 0), .null, .null, .null, .null]))]) hD hS hA [0] rfl
  refine va_callv (va_runI (As := []) (rest := [.ref h0]) ⟨hx, hb, hml, hown, hts⟩ metX0_init (cwI 0 hts (lw_meth q31) rfl rfl rfl (hts _ q25) (hts _ q29) (hts _ q30) rfl (by decide +kernel) ⟨Nat.le_of_ble_eq_true rfl, Nat.le_of_ble_eq_true rfl⟩) (wr_preS hK hP hD) rfl rfl hl.1 rfl (lv_room (Nat.le_of_ble_eq_true rfl)) dL_law_4 ⟨Nat.le_of_ble_eq_true rfl, Nat.le_of_ble_eq_true rfl⟩) hS (fun q _ h => hFc q h) hFc (fun u t H1 locs ht hvm _ hB hz1 hk1 hS => ?_)
  obtain ⟨k1, k2, k3, k4, k5, d0⟩ := u
  obtain ⟨bu, o, g, n1, n2, hbt, hP1, hK1, hD1⟩ := hB
  rw [ht] at hP1
  have hK := va_K.moved hvm.symm hK1
  obtain ⟨hP, hD⟩ := va_join (wr := []) (w1 := (XW h0 k1 k2 k3 k4 k5 d0 0 bu ((fun _ => 0)) o g n1 n2)) hP hD [0] [] rfl rfl (by decide) (by decide) hk1 hFc hP1 hD1
  generalize H1 = H at hP hS ⊢
  have hP : va_P (dC, dI) vwCl (XW h0 k1 k2 k3 k4 k5 d0 0 bu ((fun _ => 0)) o g n1 n2) H := hP
  have hD : va_D (fun q : Nat => s.heap.size ≤ q) (XW h0 k1 k2 k3 k4 k5 d0 0 bu ((fun _ => 0)) o g n1 n2) := hD
  clear hk1 hz1 ht hvm hP1 hD1 hFc
  refine W.widen (k := 6) (n := 239) (by omega) (by omega) ?_
  refine lv_astore_n (lv' := [(1, .ref h0), (0, .ref b)]) hx hb dL_law_7 rfl hl (by decide) rfl (fun ls hl => ?_)
  refine va_new (ci := 1) (fs := [.null, .int (nI 0)]) (C := RX1) (T := TX1) (N := 2) hx hb hts in_X1 tyX1 tyX1_ok hown (hts _ q162) (hts _ q163) (hts _ q26) hK hP hD hS hA rfl (fun j hj => by rcases (show j = 0 ∨ j = 1 by omega) with rfl | rfl <;> rfl) (Nat.le_of_ble_eq_true rfl) (Nat.le_of_ble_eq_true rfl) dL_law_8 (fun h1 H hP hD hS => ?_)
  refine W.widen (k := 7) (n := 241) (by omega) (by omega) ?_
  refine lv_dup hx hb dL_law_11 rfl ?_
  have hPc := hP.sub (ws' := [(h1, .inr (1, [.null, .int (nI 0)]))]) [6] rfl
  have hDc := hD.sub (ws' := [(h1, .inr (1, [.null, .int (nI 0)]))]) [6] (by decide) rfl
  have hKc2 := hK.sub (tys' := []) [] rfl
  have hFc := va_free (wc := [(h1, .inr (1, [.null, .int (nI 0)]))]) hD hS hA [6] rfl
  refine va_callv (va_runI (As := []) (rest := [.ref h1]) ⟨hx, hb, hml, hown, hts⟩ metX1_init (cwI 0 hts (lw_meth q166) rfl rfl rfl (hts _ q26) (hts _ q164) (hts _ q165) rfl (by decide +kernel) ⟨Nat.le_of_ble_eq_true rfl, Nat.le_of_ble_eq_true rfl⟩) (wr_preS hKc2 hPc hDc) rfl rfl hl.1 rfl (lv_room (Nat.le_of_ble_eq_true rfl)) dL_law_12 ⟨Nat.le_of_ble_eq_true rfl, Nat.le_of_ble_eq_true rfl⟩) hS (fun q _ h => hFc q h) hFc (fun u t H1 locs ht hvm _ hB hz1 hk1 hS => ?_)
  obtain ⟨m1, d1⟩ := u
  obtain ⟨hP1, hK1, hD1⟩ := hB
  rw [ht] at hP1
  have hK1 := va_K.moved hvm.symm hK1
  have hK2 : va_K (dC, dI) vwCl [(d0, .int), (d1, .int)] s := hK.app hK1
  obtain rfl := K_same hK2
  obtain ⟨hP, hD⟩ := va_join (wr := (XW h0 k1 k2 k3 k4 k5 d0 0 bu ((fun _ => 0)) o g n1 n2)) (w1 := MW h1 m1 d0 0 (fun _ => 0)) hP hD [6] [0, 1, 2, 3, 4, 5] rfl rfl (by decide) (by decide) hk1 hFc hP1 hD1
  generalize H1 = H at hP hS ⊢
  refine W.widen (k := 8) (n := 249) (by omega) (by omega) ?_
  refine lv_astore_n (lv' := [(2, .ref h1), (1, .ref h0), (0, .ref b)]) hx hb dL_law_15 rfl hl (by decide) rfl (fun ls hl => ?_)
  refine lv_iconst (v := nI 0) hx hb dL_law_16 (by decide) ?_
  refine lv_istore_n (lv' := [(3, .int (nI 0)), (2, .ref h1), (1, .ref h0), (0, .ref b)]) hx hb dL_law_17 rfl hl (by decide) rfl (fun ls hl => ?_)
  exact law_loop hL C0 hK (L + 1) 0 (by omega) (by omega) 0 (fun _ => 0) bu o g n1 n2 (by decide) (fun _ => by decide) hbt _ _ hP hD hS ls (lv_sub hl [3, 2, 1, 0] rfl)

set_option maxHeartbeats 4000000 in
theorem lw_walk (l : Launch) (b : Addr) (xs : List Int32) : MetFree l x (headSpec (Jvm.Cond.code x code maxLocals ret :: tables_1) room_1) (lw_P b xs) (fun _ _ _ _ _ => True) lw_Q := by
  refine MetFree.of_bodyS (code := code) (maxLocals := maxLocals) (ret := ret) (by decide) ?_ ?_
  · intro args s m h hn
    obtain ⟨meth, c, h1, h2, h3, h4, h5, h6, -, -⟩ := Cond.code_spec hn (atoms_spec (ws := Jvm.Cond.code x code maxLocals ret :: tables_1) h _ List.mem_cons_self)
    exact ⟨meth, c, h1, h2, h3, h4, h5, h6⟩
  · intro p e s m args below meth c s₁ B hml0 hP _
    obtain ⟨rfl, hx, hbd, hgv⟩ := hP
    obtain ⟨scr, harrAt, hlist, hof, hsmall⟩ := hx
    obtain ⟨hcb, hkn, -, -⟩ := State.arrayAt?_spec harrAt
    have hown : s.vm.findClass R_law = some m.cls := findClass_of_methodNamed B.named
    have hts0 : ∀ c ∈ (Jvm.Cond.code x code maxLocals ret :: tables_1), c.before #[Value.ref b] s = true := atoms_spec (ws := Jvm.Cond.code x code maxLocals ret :: tables_1) B.pre
    have hts : ∀ w ∈ lw_tbl, w.before #[Value.ref b] s = true := k2_hts_sels lw_privs (fun w hw => hts0 w (List.mem_cons_of_mem _ hw)) lw_privs_ok
    have hml : c.maxLocals = 4 := B.maxLocals_eq (hts0 _ List.mem_cons_self)
    have X₀ : Stand p l e room_1 s m #[Value.ref b] below meth c s₁ [] 0 0 := Stand.of_body B
    have hh0 : s₁.heap = s.heap := by rw [B.state]; rfl
    have hsz : scr.slots.size = xs.length := by rw [← Array.length_toList, hlist, List.length_map]
    have hval : ∀ j : Nat, j < xs.length → scr.slots[j]? = some (.int (xs.getD j 0)) := fun j hj => by
      rw [← Array.getElem?_toList, hlist]
      simp [hj]
    have hbl : b < s.heap.size := (Array.getElem?_eq_some_iff.mp hcb).1
    have hX : va_X b xs.length (fun j => xs.getD j 0) s s.heap := ⟨scr, hcb, hof, hkn, hsz, hval⟩
    have K : W p l e room_1 s m #[Value.ref b] below meth c s₁.heap [] 0 0 (lw_Z below #[Value.ref b] s) (entryFrame m ([Value.ref b] : List Value).toArray 4) := by
      rw [hh0]
      exact whole_start l hbd ⟨B.exec, B.bytes, B.returns, hml, hown, hts, hX, hbl, B.notSynchronized, hgv⟩
    obtain ⟨t, a1, o, b1, b2, b3⟩ := K s₁ rfl X₀
    exact ⟨t, o, a1, b1, b2, b3⟩
theorem lw_pre_spec {args : Array Value} {s : State} (h : (Jvm.Cond.and given_1 narrow_1).before args s = true) (hr : rest_1_c.before args s = true) : ∃ (b : Addr) (xs : List Int32), lw_P b xs args s := by
  have hs := flat_of_before _ h
  have hq := flat_of_before _ hr
  have hc : (Cond.count 1).before args s = true := hs _ (by decide +kernel)
  have harr : (Cond.arrayOf (.arg 0) .int).before args s = true := hs _ (by decide +kernel)
  have hle : (Cond.le (.length (.arg 0)) (.int 256)).before args s = true := hs _ (by decide +kernel)
  have hlen : (Cond.isInt (.length (.arg 0))).before args s = true := hq _ (by decide +kernel)
  have hall : (Cond.all (.arg 0) (.isInt (.elem (.arg 0) (.index 0)))).before args s = true := hq _ (by decide +kernel)
  obtain ⟨b, xs, hb, hx⟩ := State.ints_of_pre rfl harr hlen hall
  have hsm : xs.length < 2 ^ 31 := hx.choose_spec.2.2.2
  have hev : (Term.length (.arg 0)).eval args s none [] s = some (.int xs.length.toInt32) := hx.length_eval hb
  have hv := Cond.le_ints hev (show (Term.int 256).eval args s none [] s = some (.int 256) from rfl)
  have hd : xs.length.toInt32 ≤ 256 := by
    simpa [Cond.before, Cond.holds, hv] using hle
  have hN : xs.length ≤ 256 := (Int32.ofNat_le_ofNat hsm (by decide)).mp (show Int32.ofNat xs.length ≤ Int32.ofNat 256 from hd)
  exact ⟨b, xs, Cond.one_arg hc (show args[0]? = some (.ref b) from hb), hx, hN, h⟩
theorem lw_comes (l : Launch) : Comes l x (Jvm.Cond.code x code maxLocals ret :: tables_1) room_1 (fun tb e args s => Calls_1 tb e args s ∧ rest_1 tb e args s ∧ Pre_1 tb e args s)
    (fun _ _ args s o t => lw_Q args s o t) := by
  intro p e ha hc hk s m args below hf hfit hheap happ hpre
  obtain ⟨b, xs, hP⟩ := lw_pre_spec hpre.2.2 hpre.2.1
  obtain ⟨k, o, h1, h2, h3, hQ⟩ := lw_walk l b xs p e ha hc hk s m args below hf ((Spec.applies_iff_loose hf).mp happ).1 hP trivial
  exact ⟨k, o, h1, h2, h3, hQ⟩
theorem lw_frame {s t : State} {o : Outcome} {args : Array Value} (h : Framed s o t [] 600000 7290000) :
    Framed s o t (fieldLocs frame_1_writes args s ++ arrayLocs frame_1_arrays args s ++ staticLocs frame_1_statics s) 600000 7290000 := h
theorem lw_limb (L : Cond) (hL : ∀ (args : Array Value) (s t : State), L.after args s (.returned (some (.int 1))) t = true) :
    ArmFor flags0 classFile x code maxLocals ret World_1 tables_1 room_1 Calls_1 rest_1 Pre_1
      (fun tb e a s o t => postC L tb e a s o t ∧ Framed s o t (fieldLocs frame_1_writes a s ++ arrayLocs frame_1_arrays a s ++ staticLocs frame_1_statics s) 600000 7290000) := by
  intro l _ _ _ p e ha hc hk s m args below hf hfit hheap happ hpre
  obtain ⟨k, o, h1, h2, h3, rfl, hF⟩ := lw_comes l p e ha hc hk s m args below hf hfit hheap happ hpre
  exact ⟨k, _, h1, h2, h3, hL args s _, lw_frame hF⟩
theorem i_vc : Claimed_1_1 ∧ Claimed_1_2 := ⟨lw_limb limb_1_1 (fun args s t => by simp [limb_1_1, Cond.after, Cond.holds, Cond.value]), lw_limb limb_1_2 (fun args s t => Cond.after_iff.mpr (by
  first | (rw [show limb_1_2 = Cond.eq .result (.int 1) from rfl, Cond.eq_ints (x := 1) (y := 1) rfl rfl]; simp; done) | (simp [limb_1_2, Cond.value, Term.eval]; done)))⟩
end
