section
-- ===== PART A: goes FIRST, ahead of the names: the tables' words, and 'selects' of the private methods out of them =====
/-- a private method of a class that the tables say can be made, by its rows of tables_1 -/
def lw_okq (q : MethodName × Nat) : Prop := (q.1.cls ≠ "java/lang/invoke/MethodHandle" ∧ q.1.cls ≠ "java/lang/invoke/VarHandle") ∧ Cond.instantiable q.1.cls q.2 ∈ tables_1 ∧ Cond.privateMethod q.1 ∈ tables_1 ∧ Cond.instanceMethod q.1 ∈ tables_1
set_option maxRecDepth 100000
theorem lw_t1 {w : Cond} (h : w ∈ tables_1_1) : w ∈ tables_1 := List.mem_append_left _ h
theorem lw_t2 {w : Cond} (h : w ∈ tables_1_2) : w ∈ tables_1 := List.mem_append_right _ h
theorem lw_p0 : lw_okq (⟨"TJoins", "isPlace", "(I)Z"⟩, 12) := ⟨⟨by decide +kernel, by decide +kernel⟩, lw_t1 (List.mem_of_getElem? (i := 4) rfl), lw_t1 (List.mem_of_getElem? (i := 54) rfl), lw_t1 (List.mem_of_getElem? (i := 55) rfl)⟩
theorem lw_p1 : lw_okq (⟨"TJoins", "isRoad", "(I)Z"⟩, 12) := ⟨⟨by decide +kernel, by decide +kernel⟩, lw_t1 (List.mem_of_getElem? (i := 4) rfl), lw_t1 (List.mem_of_getElem? (i := 62) rfl), lw_t1 (List.mem_of_getElem? (i := 63) rfl)⟩
theorem lw_p2 : lw_okq (⟨"TJoins", "oddOf", "(I)I"⟩, 12) := ⟨⟨by decide +kernel, by decide +kernel⟩, lw_t1 (List.mem_of_getElem? (i := 4) rfl), lw_t1 (List.mem_of_getElem? (i := 86) rfl), lw_t1 (List.mem_of_getElem? (i := 87) rfl)⟩
theorem lw_p3 : lw_okq (⟨"TJoins", "isPossible", "(I)Z"⟩, 12) := ⟨⟨by decide +kernel, by decide +kernel⟩, lw_t1 (List.mem_of_getElem? (i := 4) rfl), lw_t1 (List.mem_of_getElem? (i := 94) rfl), lw_t1 (List.mem_of_getElem? (i := 95) rfl)⟩
theorem lw_p4 : lw_okq (⟨"TJoins", "findParts", "()V"⟩, 12) := ⟨⟨by decide +kernel, by decide +kernel⟩, lw_t1 (List.mem_of_getElem? (i := 4) rfl), lw_t1 (List.mem_of_getElem? (i := 98) rfl), lw_t1 (List.mem_of_getElem? (i := 99) rfl)⟩
theorem lw_p5 : lw_okq (⟨"TJoins", "countParts", "()I"⟩, 12) := ⟨⟨by decide +kernel, by decide +kernel⟩, lw_t1 (List.mem_of_getElem? (i := 4) rfl), lw_t1 (List.mem_of_getElem? (i := 106) rfl), lw_t1 (List.mem_of_getElem? (i := 107) rfl)⟩
theorem lw_p6 : lw_okq (⟨"TJoins", "takeCosts", "()V"⟩, 12) := ⟨⟨by decide +kernel, by decide +kernel⟩, lw_t1 (List.mem_of_getElem? (i := 4) rfl), lw_t1 (List.mem_of_getElem? (i := 114) rfl), lw_t1 (List.mem_of_getElem? (i := 115) rfl)⟩
theorem lw_p7 : lw_okq (⟨"TJoins", "solve", "(I)I"⟩, 12) := ⟨⟨by decide +kernel, by decide +kernel⟩, lw_t1 (List.mem_of_getElem? (i := 4) rfl), lw_t1 (List.mem_of_getElem? (i := 118) rfl), lw_t1 (List.mem_of_getElem? (i := 119) rfl)⟩
theorem lw_p8 : lw_okq (⟨"TJoins", "findWays", "()V"⟩, 12) := ⟨⟨by decide +kernel, by decide +kernel⟩, lw_t1 (List.mem_of_getElem? (i := 4) rfl), lw_t1 (List.mem_of_getElem? (i := 122) rfl), lw_t1 (List.mem_of_getElem? (i := 123) rfl)⟩
theorem lw_p9 : lw_okq (⟨"TJoins", "take", "(III)V"⟩, 12) := ⟨⟨by decide +kernel, by decide +kernel⟩, lw_t1 (List.mem_of_getElem? (i := 4) rfl), lw_t1 (List.mem_of_getElem? (i := 127) rfl), lw_t1 (List.mem_of_getElem? (i := 128) rfl)⟩
theorem lw_p10 : lw_okq (⟨"TJoins", "pairUp", "(I)V"⟩, 12) := ⟨⟨by decide +kernel, by decide +kernel⟩, lw_t1 (List.mem_of_getElem? (i := 4) rfl), lw_t1 (List.mem_of_getElem? (i := 131) rfl), lw_t1 (List.mem_of_getElem? (i := 132) rfl)⟩
theorem lw_p11 : lw_okq (⟨"TJoins", "pair", "(III)V"⟩, 12) := ⟨⟨by decide +kernel, by decide +kernel⟩, lw_t1 (List.mem_of_getElem? (i := 4) rfl), lw_t1 (List.mem_of_getElem? (i := 135) rfl), lw_t1 (List.mem_of_getElem? (i := 136) rfl)⟩
theorem lw_p12 : lw_okq (⟨"TJoins", "weightOf", "(I)I"⟩, 12) := ⟨⟨by decide +kernel, by decide +kernel⟩, lw_t1 (List.mem_of_getElem? (i := 4) rfl), lw_t1 (List.mem_of_getElem? (i := 139) rfl), lw_t1 (List.mem_of_getElem? (i := 140) rfl)⟩
theorem lw_p13 : lw_okq (⟨"TJoinsModel", "bad", "(I)Z"⟩, 6) := ⟨⟨by decide +kernel, by decide +kernel⟩, lw_t1 (List.mem_of_getElem? (i := 172) rfl), lw_t1 (List.mem_of_getElem? (i := 201) rfl), lw_t1 (List.mem_of_getElem? (i := 202) rfl)⟩
theorem lw_p14 : lw_okq (⟨"TJoinsModel", "far", "(I)Z"⟩, 6) := ⟨⟨by decide +kernel, by decide +kernel⟩, lw_t1 (List.mem_of_getElem? (i := 172) rfl), lw_t1 (List.mem_of_getElem? (i := 205) rfl), lw_t1 (List.mem_of_getElem? (i := 206) rfl)⟩
theorem lw_p15 : lw_okq (⟨"TJoinsModel", "badRoad", "(I)Z"⟩, 6) := ⟨⟨by decide +kernel, by decide +kernel⟩, lw_t1 (List.mem_of_getElem? (i := 172) rfl), lw_t1 (List.mem_of_getElem? (i := 213) rfl), lw_t1 (List.mem_of_getElem? (i := 214) rfl)⟩
def lw_privs_1 : List (MethodName × Nat) := [(⟨"TJoins", "isPlace", "(I)Z"⟩, 12), (⟨"TJoins", "isRoad", "(I)Z"⟩, 12), (⟨"TJoins", "oddOf", "(I)I"⟩, 12), (⟨"TJoins", "isPossible", "(I)Z"⟩, 12), (⟨"TJoins", "findParts", "()V"⟩, 12), (⟨"TJoins", "countParts", "()I"⟩, 12), (⟨"TJoins", "takeCosts", "()V"⟩, 12), (⟨"TJoins", "solve", "(I)I"⟩, 12), (⟨"TJoins", "findWays", "()V"⟩, 12), (⟨"TJoins", "take", "(III)V"⟩, 12), (⟨"TJoins", "pairUp", "(I)V"⟩, 12), (⟨"TJoins", "pair", "(III)V"⟩, 12), (⟨"TJoins", "weightOf", "(I)I"⟩, 12), (⟨"TJoinsModel", "bad", "(I)Z"⟩, 6), (⟨"TJoinsModel", "far", "(I)Z"⟩, 6), (⟨"TJoinsModel", "badRoad", "(I)Z"⟩, 6)]
theorem lw_r1 : ∀ q ∈ lw_privs_1, lw_okq q := List.forall_mem_cons.mpr ⟨lw_p0, List.forall_mem_cons.mpr ⟨lw_p1, List.forall_mem_cons.mpr ⟨lw_p2, List.forall_mem_cons.mpr ⟨lw_p3, List.forall_mem_cons.mpr ⟨lw_p4, List.forall_mem_cons.mpr ⟨lw_p5, List.forall_mem_cons.mpr ⟨lw_p6, List.forall_mem_cons.mpr ⟨lw_p7, List.forall_mem_cons.mpr ⟨lw_p8, List.forall_mem_cons.mpr ⟨lw_p9, List.forall_mem_cons.mpr ⟨lw_p10, List.forall_mem_cons.mpr ⟨lw_p11, List.forall_mem_cons.mpr ⟨lw_p12, List.forall_mem_cons.mpr ⟨lw_p13, List.forall_mem_cons.mpr ⟨lw_p14, List.forall_mem_cons.mpr ⟨lw_p15, fun _ h => absurd h List.not_mem_nil⟩⟩⟩⟩⟩⟩⟩⟩⟩⟩⟩⟩⟩⟩⟩⟩
theorem lw_p16 : lw_okq (⟨"TJoinsModel", "odd", "(I)I"⟩, 6) := ⟨⟨by decide +kernel, by decide +kernel⟩, lw_t1 (List.mem_of_getElem? (i := 172) rfl), lw_t1 (List.mem_of_getElem? (i := 237) rfl), lw_t1 (List.mem_of_getElem? (i := 238) rfl)⟩
theorem lw_p17 : lw_okq (⟨"TJoinsModel", "search", "(III)I"⟩, 6) := ⟨⟨by decide +kernel, by decide +kernel⟩, lw_t1 (List.mem_of_getElem? (i := 172) rfl), lw_t2 (List.mem_of_getElem? (i := 5) rfl), lw_t2 (List.mem_of_getElem? (i := 6) rfl)⟩
theorem lw_p18 : lw_okq (⟨"TJoinsModel", "sum", "(I)I"⟩, 6) := ⟨⟨by decide +kernel, by decide +kernel⟩, lw_t1 (List.mem_of_getElem? (i := 172) rfl), lw_t2 (List.mem_of_getElem? (i := 9) rfl), lw_t2 (List.mem_of_getElem? (i := 10) rfl)⟩
theorem lw_p19 : lw_okq (⟨"TJoinsModel", "weightOf", "(I)I"⟩, 6) := ⟨⟨by decide +kernel, by decide +kernel⟩, lw_t1 (List.mem_of_getElem? (i := 172) rfl), lw_t2 (List.mem_of_getElem? (i := 21) rfl), lw_t2 (List.mem_of_getElem? (i := 22) rfl)⟩
theorem lw_p20 : lw_okq (⟨"TJoinsModel", "whole", "()Z"⟩, 6) := ⟨⟨by decide +kernel, by decide +kernel⟩, lw_t1 (List.mem_of_getElem? (i := 172) rfl), lw_t2 (List.mem_of_getElem? (i := 45) rfl), lw_t2 (List.mem_of_getElem? (i := 46) rfl)⟩
def lw_privs_2 : List (MethodName × Nat) := [(⟨"TJoinsModel", "odd", "(I)I"⟩, 6), (⟨"TJoinsModel", "search", "(III)I"⟩, 6), (⟨"TJoinsModel", "sum", "(I)I"⟩, 6), (⟨"TJoinsModel", "weightOf", "(I)I"⟩, 6), (⟨"TJoinsModel", "whole", "()Z"⟩, 6)]
theorem lw_r2 : ∀ q ∈ lw_privs_2, lw_okq q := List.forall_mem_cons.mpr ⟨lw_p16, List.forall_mem_cons.mpr ⟨lw_p17, List.forall_mem_cons.mpr ⟨lw_p18, List.forall_mem_cons.mpr ⟨lw_p19, List.forall_mem_cons.mpr ⟨lw_p20, fun _ h => absurd h List.not_mem_nil⟩⟩⟩⟩⟩
def lw_privs : List (MethodName × Nat) := lw_privs_1 ++ (lw_privs_2)
def lw_tbl : List Cond := k2_sels lw_privs ++ tables_1
theorem lw_privs_ok : ∀ q ∈ lw_privs, lw_okq q := by
  show ∀ q ∈ lw_privs_1 ++ (lw_privs_2), lw_okq q
  exact List.forall_mem_append.mpr ⟨lw_r1, lw_r2⟩
-- ===== ONE list of words for every method: the tables' words that hold all through a run =====
def lw_all : List Cond := lw_tbl.filter goodWord
/-- a word of the tables by its place: claim/WORDS.tsv -/
theorem lw_w {w : Cond} (i : Nat) (h : lw_tbl[i]? = some w) (g : goodWord w = true) : w ∈ lw_all := List.mem_filter.mpr ⟨List.mem_of_getElem? h, g⟩
theorem lw_all_tbl {w : Cond} (h : w ∈ lw_all) : w ∈ lw_tbl := (List.mem_filter.mp h).1
theorem lw_self : GoodIn lw_all lw_all := fun w h => ⟨h, good_of_word (List.mem_filter.mp h).2⟩
/-- a class's field words, by their places -/
theorem lw_in (ws : List Cond) (ps : List Nat) (hp : ws = ps.filterMap (fun i => lw_tbl[i]?)) (hg : ws.all goodWord = true) : ∀ w ∈ ws, w ∈ lw_all := by
  intro w h
  have h1 := List.all_eq_true.mp hg w h
  rw [hp] at h
  obtain ⟨i, -, hi⟩ := List.mem_filterMap.mp h
  exact lw_w i hi h1
/-- the words of a contract for the method y with code b, L locals, answer r -/
abbrev ws_ (y : MethodName) (b : ByteArray) (L : Nat) (r : Option FieldType) : List Cond := Cond.code y b L r :: lw_all
theorem lw_meth {y : MethodName} {b : ByteArray} {L : Nat} {r : Option FieldType} (h : Cond.code y b L r ∈ lw_all) : GoodIn lw_all (ws_ y b L r) := by
  intro w hw
  rcases List.mem_cons.mp hw with e | e
  · rw [e]
    exact lw_self _ h
  · exact lw_self _ e
theorem lw_app {a c : List Cond} (ha : ∀ w ∈ a, w ∈ lw_all) (hc : GoodIn lw_all c) : GoodIn lw_all (a ++ c) := by
  intro w hw
  rcases List.mem_append.mp hw with e | e
  · exact lw_self w (ha w e)
  · exact hc w e
/-- what a call through an object asks: cwV n hts (lw_V ..) -/
theorem lw_V {own : String} {idx : Nat} {C : String} {y : MethodName} {b : ByteArray} {L : Nat} {r : Option FieldType} (h1 : Cond.methodLink own idx y ∈ lw_all) (h2 : Cond.instanceMethod y ∈ lw_all) (h3 : Cond.selects C y y ∈ lw_all) (h4 : Cond.initialized C ∈ lw_all) (h5 : Cond.code y b L r ∈ lw_all) : GoodIn lw_all (wsV own idx C y (ws_ y b L r)) := by
  refine lw_app ?_ (lw_meth h5)
  intro w hw
  simp only [List.mem_cons, List.not_mem_nil, or_false] at hw
  rcases hw with e | e | e | e
  · rw [e]; exact h1
  · rw [e]; exact h2
  · rw [e]; exact h3
  · rw [e]; exact h4
/-- what a static call asks: va_cwS n hts (lw_S ..) -/
theorem lw_S {own : String} {idx : Nat} {y : MethodName} {b : ByteArray} {L : Nat} {r : Option FieldType} (h1 : Cond.methodLink own idx y ∈ lw_all) (h2 : Cond.static y ∈ lw_all) (h3 : Cond.initialized y.cls ∈ lw_all) (h4 : Cond.code y b L r ∈ lw_all) : GoodIn lw_all (va_wsS own idx y (ws_ y b L r)) := by
  refine lw_app ?_ (lw_meth h4)
  intro w hw
  simp only [List.mem_cons, List.not_mem_nil, or_false] at hw
  rcases hw with e | e | e
  · rw [e]; exact h1
  · rw [e]; exact h2
  · rw [e]; exact h3
/-- the words of a contract for a method WITH HANDLERS (hh: its table) -/
abbrev wsW_ (y : MethodName) (b : ByteArray) (L : Nat) (r : Option FieldType) (hh : List (Nat × Nat × Nat × Nat)) : List Cond := Cond.codeWith y b L r hh :: lw_all
theorem lw_methW {y : MethodName} {b : ByteArray} {L : Nat} {r : Option FieldType} {hh : List (Nat × Nat × Nat × Nat)} (h : Cond.codeWith y b L r hh ∈ lw_all) : GoodIn lw_all (wsW_ y b L r hh) := by
  intro w hw
  rcases List.mem_cons.mp hw with e | e
  · rw [e]
    exact lw_self _ h
  · exact lw_self _ e
/-- any list of words by their places (lw_in), good -/
theorem lw_good {ws : List Cond} (h : ∀ w ∈ ws, w ∈ lw_all) : GoodIn lw_all ws := fun w hw => lw_self w (h w hw)
/-- what a call of a method with handlers asks: vx_cwVW n hts (lw_VW ..), vx_cwSW n hts (lw_SW ..) -/
theorem lw_VW {own : String} {idx : Nat} {C : String} {y : MethodName} {b : ByteArray} {L : Nat} {r : Option FieldType} {hh : List (Nat × Nat × Nat × Nat)} (h1 : Cond.methodLink own idx y ∈ lw_all) (h2 : Cond.instanceMethod y ∈ lw_all) (h3 : Cond.selects C y y ∈ lw_all) (h4 : Cond.initialized C ∈ lw_all) (h5 : Cond.codeWith y b L r hh ∈ lw_all) : GoodIn lw_all (wsV own idx C y (wsW_ y b L r hh)) := by
  refine lw_app ?_ (lw_methW h5)
  intro w hw
  simp only [List.mem_cons, List.not_mem_nil, or_false] at hw
  rcases hw with e | e | e | e
  · rw [e]; exact h1
  · rw [e]; exact h2
  · rw [e]; exact h3
  · rw [e]; exact h4
theorem lw_SW {own : String} {idx : Nat} {y : MethodName} {b : ByteArray} {L : Nat} {r : Option FieldType} {hh : List (Nat × Nat × Nat × Nat)} (h1 : Cond.methodLink own idx y ∈ lw_all) (h2 : Cond.static y ∈ lw_all) (h3 : Cond.initialized y.cls ∈ lw_all) (h4 : Cond.codeWith y b L r hh ∈ lw_all) : GoodIn lw_all (va_wsS own idx y (wsW_ y b L r hh)) := by
  refine lw_app ?_ (lw_methW h4)
  intro w hw
  simp only [List.mem_cons, List.not_mem_nil, or_false] at hw
  rcases hw with e | e | e
  · rw [e]; exact h1
  · rw [e]; exact h2
  · rw [e]; exact h3
/-- a word by its place in its run of the tables -/
theorem lw_at {r : List Cond} (hr : ∀ w ∈ r, w ∈ lw_tbl) {w : Cond} (i : Nat) (h : r[i]? = some w) : w ∈ lw_tbl := hr w (List.mem_of_getElem? h)
theorem lw_g {w : Cond} (h : w ∈ lw_tbl) (g : goodWord w = true) : w ∈ lw_all := List.mem_filter.mpr ⟨h, g⟩
theorem lw_ms : ∀ w ∈ k2_sels lw_privs, w ∈ lw_tbl := fun w h => show w ∈ k2_sels lw_privs ++ tables_1 from List.mem_append_left _ h
theorem lw_m1 : ∀ w ∈ tables_1_1, w ∈ lw_tbl := fun w h => show w ∈ k2_sels lw_privs ++ tables_1 from List.mem_append_right (k2_sels lw_privs) (show w ∈ tables_1 from List.mem_append_left _ h)
theorem lw_m2 : ∀ w ∈ tables_1_2, w ∈ lw_tbl := fun w h => show w ∈ k2_sels lw_privs ++ tables_1 from List.mem_append_right (k2_sels lw_privs) (show w ∈ tables_1 from List.mem_append_right _ h)
theorem qs0 : (Cond.selects "TJoins" ⟨"TJoins", "isPlace", "(I)Z"⟩ ⟨"TJoins", "isPlace", "(I)Z"⟩) ∈ lw_all := lw_g (lw_at lw_ms 0 rfl) rfl
theorem qs1 : (Cond.selects "TJoins" ⟨"TJoins", "isRoad", "(I)Z"⟩ ⟨"TJoins", "isRoad", "(I)Z"⟩) ∈ lw_all := lw_g (lw_at lw_ms 1 rfl) rfl
theorem qs2 : (Cond.selects "TJoins" ⟨"TJoins", "oddOf", "(I)I"⟩ ⟨"TJoins", "oddOf", "(I)I"⟩) ∈ lw_all := lw_g (lw_at lw_ms 2 rfl) rfl
theorem qs3 : (Cond.selects "TJoins" ⟨"TJoins", "isPossible", "(I)Z"⟩ ⟨"TJoins", "isPossible", "(I)Z"⟩) ∈ lw_all := lw_g (lw_at lw_ms 3 rfl) rfl
theorem qs4 : (Cond.selects "TJoins" ⟨"TJoins", "findParts", "()V"⟩ ⟨"TJoins", "findParts", "()V"⟩) ∈ lw_all := lw_g (lw_at lw_ms 4 rfl) rfl
theorem qs5 : (Cond.selects "TJoins" ⟨"TJoins", "countParts", "()I"⟩ ⟨"TJoins", "countParts", "()I"⟩) ∈ lw_all := lw_g (lw_at lw_ms 5 rfl) rfl
theorem qs6 : (Cond.selects "TJoins" ⟨"TJoins", "takeCosts", "()V"⟩ ⟨"TJoins", "takeCosts", "()V"⟩) ∈ lw_all := lw_g (lw_at lw_ms 6 rfl) rfl
theorem qs7 : (Cond.selects "TJoins" ⟨"TJoins", "solve", "(I)I"⟩ ⟨"TJoins", "solve", "(I)I"⟩) ∈ lw_all := lw_g (lw_at lw_ms 7 rfl) rfl
theorem qs8 : (Cond.selects "TJoins" ⟨"TJoins", "findWays", "()V"⟩ ⟨"TJoins", "findWays", "()V"⟩) ∈ lw_all := lw_g (lw_at lw_ms 8 rfl) rfl
theorem qs9 : (Cond.selects "TJoins" ⟨"TJoins", "take", "(III)V"⟩ ⟨"TJoins", "take", "(III)V"⟩) ∈ lw_all := lw_g (lw_at lw_ms 9 rfl) rfl
theorem qs10 : (Cond.selects "TJoins" ⟨"TJoins", "pairUp", "(I)V"⟩ ⟨"TJoins", "pairUp", "(I)V"⟩) ∈ lw_all := lw_g (lw_at lw_ms 10 rfl) rfl
theorem qs11 : (Cond.selects "TJoins" ⟨"TJoins", "pair", "(III)V"⟩ ⟨"TJoins", "pair", "(III)V"⟩) ∈ lw_all := lw_g (lw_at lw_ms 11 rfl) rfl
theorem qs12 : (Cond.selects "TJoins" ⟨"TJoins", "weightOf", "(I)I"⟩ ⟨"TJoins", "weightOf", "(I)I"⟩) ∈ lw_all := lw_g (lw_at lw_ms 12 rfl) rfl
theorem qs13 : (Cond.selects "TJoinsModel" ⟨"TJoinsModel", "bad", "(I)Z"⟩ ⟨"TJoinsModel", "bad", "(I)Z"⟩) ∈ lw_all := lw_g (lw_at lw_ms 13 rfl) rfl
theorem qs14 : (Cond.selects "TJoinsModel" ⟨"TJoinsModel", "far", "(I)Z"⟩ ⟨"TJoinsModel", "far", "(I)Z"⟩) ∈ lw_all := lw_g (lw_at lw_ms 14 rfl) rfl
theorem qs15 : (Cond.selects "TJoinsModel" ⟨"TJoinsModel", "badRoad", "(I)Z"⟩ ⟨"TJoinsModel", "badRoad", "(I)Z"⟩) ∈ lw_all := lw_g (lw_at lw_ms 15 rfl) rfl
theorem qs16 : (Cond.selects "TJoinsModel" ⟨"TJoinsModel", "odd", "(I)I"⟩ ⟨"TJoinsModel", "odd", "(I)I"⟩) ∈ lw_all := lw_g (lw_at lw_ms 16 rfl) rfl
theorem qs17 : (Cond.selects "TJoinsModel" ⟨"TJoinsModel", "search", "(III)I"⟩ ⟨"TJoinsModel", "search", "(III)I"⟩) ∈ lw_all := lw_g (lw_at lw_ms 17 rfl) rfl
theorem qs18 : (Cond.selects "TJoinsModel" ⟨"TJoinsModel", "sum", "(I)I"⟩ ⟨"TJoinsModel", "sum", "(I)I"⟩) ∈ lw_all := lw_g (lw_at lw_ms 18 rfl) rfl
theorem qs19 : (Cond.selects "TJoinsModel" ⟨"TJoinsModel", "weightOf", "(I)I"⟩ ⟨"TJoinsModel", "weightOf", "(I)I"⟩) ∈ lw_all := lw_g (lw_at lw_ms 19 rfl) rfl
theorem qs20 : (Cond.selects "TJoinsModel" ⟨"TJoinsModel", "whole", "()Z"⟩ ⟨"TJoinsModel", "whole", "()Z"⟩) ∈ lw_all := lw_g (lw_at lw_ms 20 rfl) rfl
end
section
/-! TJoins -/
set_option maxRecDepth 100000
def RX1 : String := "TJoins"
def TX1 : u_T := fun k => match k with
  | 0 => ("TJoins", "ends", "[I", true)
  | 1 => ("TJoins", "others", "[I", true)
  | 2 => ("TJoins", "weights", "[I", true)
  | 3 => ("TJoins", "costs", "[I", true)
  | 4 => ("TJoins", "far", "[I", true)
  | 5 => ("TJoins", "via", "[I", true)
  | 6 => ("TJoins", "sums", "[I", true)
  | 7 => ("TJoins", "sets", "[I", true)
  | 8 => ("TJoins", "part", "[I", true)
  | 9 => ("TJoins", "n", "I", false)
  | 10 => ("TJoins", "count", "I", false)
  | _ => ("TJoins", "wanted", "I", false)
def tyX1 : Nat → FieldType := fun k => match k with
  | 0 => .array .int
  | 1 => .array .int
  | 2 => .array .int
  | 3 => .array .int
  | 4 => .array .int
  | 5 => .array .int
  | 6 => .array .int
  | 7 => .array .int
  | 8 => .array .int
  | 9 => .int
  | 10 => .int
  | _ => .int
abbrev wsX10 : List Cond := u_ws RX1 TX1 12
theorem nmX1 : ∀ a, a < 12 → ∀ b, b < 12 → a ≠ b → (TX1 a).2.1 ≠ (TX1 b).2.1 := by decide +kernel
theorem tyX1_ok : ∀ k, k < 12 → parseFieldDescriptor (TX1 k).2.2.1 = some (tyX1 k) := by decide +kernel
abbrev cX1_init : ByteArray := prog_1_method_1_code
def yX1_init : MethodName := ⟨RX1, "<init>", "(I)V"⟩
theorem dX1_init_0 : decode cX1_init 0 = .ok (.aload_n 0, 1) := by decide +kernel
theorem dX1_init_1 : decode cX1_init 1 = .ok (.invokespecial 1, 3) := by decide +kernel
theorem dX1_init_4 : decode cX1_init 4 = .ok (.aload_n 0, 1) := by decide +kernel
theorem dX1_init_5 : decode cX1_init 5 = .ok (.bipush 12, 2) := by decide +kernel
theorem dX1_init_7 : decode cX1_init 7 = .ok (.newarray .int, 2) := by decide +kernel
theorem dX1_init_9 : decode cX1_init 9 = .ok (.putfield 7, 3) := by decide +kernel
theorem dX1_init_12 : decode cX1_init 12 = .ok (.aload_n 0, 1) := by decide +kernel
theorem dX1_init_13 : decode cX1_init 13 = .ok (.bipush 12, 2) := by decide +kernel
theorem dX1_init_15 : decode cX1_init 15 = .ok (.newarray .int, 2) := by decide +kernel
theorem dX1_init_17 : decode cX1_init 17 = .ok (.putfield 13, 3) := by decide +kernel
theorem dX1_init_20 : decode cX1_init 20 = .ok (.aload_n 0, 1) := by decide +kernel
theorem dX1_init_21 : decode cX1_init 21 = .ok (.bipush 12, 2) := by decide +kernel
theorem dX1_init_23 : decode cX1_init 23 = .ok (.newarray .int, 2) := by decide +kernel
theorem dX1_init_25 : decode cX1_init 25 = .ok (.putfield 16, 3) := by decide +kernel
theorem dX1_init_28 : decode cX1_init 28 = .ok (.aload_n 0, 1) := by decide +kernel
theorem dX1_init_29 : decode cX1_init 29 = .ok (.bipush 12, 2) := by decide +kernel
theorem dX1_init_31 : decode cX1_init 31 = .ok (.newarray .int, 2) := by decide +kernel
theorem dX1_init_33 : decode cX1_init 33 = .ok (.putfield 19, 3) := by decide +kernel
theorem dX1_init_36 : decode cX1_init 36 = .ok (.aload_n 0, 1) := by decide +kernel
theorem dX1_init_37 : decode cX1_init 37 = .ok (.bipush 49, 2) := by decide +kernel
theorem dX1_init_39 : decode cX1_init 39 = .ok (.newarray .int, 2) := by decide +kernel
theorem dX1_init_41 : decode cX1_init 41 = .ok (.putfield 22, 3) := by decide +kernel
theorem dX1_init_44 : decode cX1_init 44 = .ok (.aload_n 0, 1) := by decide +kernel
theorem dX1_init_45 : decode cX1_init 45 = .ok (.bipush 49, 2) := by decide +kernel
theorem dX1_init_47 : decode cX1_init 47 = .ok (.newarray .int, 2) := by decide +kernel
theorem dX1_init_49 : decode cX1_init 49 = .ok (.putfield 25, 3) := by decide +kernel
theorem dX1_init_52 : decode cX1_init 52 = .ok (.aload_n 0, 1) := by decide +kernel
theorem dX1_init_53 : decode cX1_init 53 = .ok (.sipush 128, 3) := by decide +kernel
theorem dX1_init_56 : decode cX1_init 56 = .ok (.newarray .int, 2) := by decide +kernel
theorem dX1_init_58 : decode cX1_init 58 = .ok (.putfield 28, 3) := by decide +kernel
theorem dX1_init_61 : decode cX1_init 61 = .ok (.aload_n 0, 1) := by decide +kernel
theorem dX1_init_62 : decode cX1_init 62 = .ok (.sipush 128, 3) := by decide +kernel
theorem dX1_init_65 : decode cX1_init 65 = .ok (.newarray .int, 2) := by decide +kernel
theorem dX1_init_67 : decode cX1_init 67 = .ok (.putfield 31, 3) := by decide +kernel
theorem dX1_init_70 : decode cX1_init 70 = .ok (.aload_n 0, 1) := by decide +kernel
theorem dX1_init_71 : decode cX1_init 71 = .ok (.bipush 7, 2) := by decide +kernel
theorem dX1_init_73 : decode cX1_init 73 = .ok (.newarray .int, 2) := by decide +kernel
theorem dX1_init_75 : decode cX1_init 75 = .ok (.putfield 34, 3) := by decide +kernel
theorem dX1_init_78 : decode cX1_init 78 = .ok (.aload_n 0, 1) := by decide +kernel
theorem dX1_init_79 : decode cX1_init 79 = .ok (.iload_n 1, 1) := by decide +kernel
theorem dX1_init_80 : decode cX1_init 80 = .ok (.iconst 2, 1) := by decide +kernel
theorem dX1_init_81 : decode cX1_init 81 = .ok (.if_icmp .ge 7, 3) := by decide +kernel
theorem dX1_init_84 : decode cX1_init 84 = .ok (.iconst 2, 1) := by decide +kernel
theorem dX1_init_85 : decode cX1_init 85 = .ok (.goto 4, 3) := by decide +kernel
theorem dX1_init_88 : decode cX1_init 88 = .ok (.iload_n 1, 1) := by decide +kernel
theorem dX1_init_89 : decode cX1_init 89 = .ok (.putfield 37, 3) := by decide +kernel
theorem dX1_init_92 : decode cX1_init 92 = .ok (.aload_n 0, 1) := by decide +kernel
theorem dX1_init_93 : decode cX1_init 93 = .ok (.getfield 37, 3) := by decide +kernel
theorem dX1_init_96 : decode cX1_init 96 = .ok (.bipush 7, 2) := by decide +kernel
theorem dX1_init_98 : decode cX1_init 98 = .ok (.if_icmp .le 9, 3) := by decide +kernel
theorem dX1_init_101 : decode cX1_init 101 = .ok (.aload_n 0, 1) := by decide +kernel
theorem dX1_init_102 : decode cX1_init 102 = .ok (.bipush 7, 2) := by decide +kernel
theorem dX1_init_104 : decode cX1_init 104 = .ok (.putfield 37, 3) := by decide +kernel
theorem dX1_init_107 : decode cX1_init 107 = .ok (.return_, 1) := by decide +kernel
abbrev cX1_road : ByteArray := prog_1_method_2_code
def yX1_road : MethodName := ⟨RX1, "road", "(III)I"⟩
theorem dX1_road_0 : decode cX1_road 0 = .ok (.aload_n 0, 1) := by decide +kernel
theorem dX1_road_1 : decode cX1_road 1 = .ok (.iload_n 1, 1) := by decide +kernel
theorem dX1_road_2 : decode cX1_road 2 = .ok (.invokevirtual 41, 3) := by decide +kernel
theorem dX1_road_5 : decode cX1_road 5 = .ok (.ifCond .eq 11, 3) := by decide +kernel
theorem dX1_road_8 : decode cX1_road 8 = .ok (.aload_n 0, 1) := by decide +kernel
theorem dX1_road_9 : decode cX1_road 9 = .ok (.iload_n 2, 1) := by decide +kernel
theorem dX1_road_10 : decode cX1_road 10 = .ok (.invokevirtual 41, 3) := by decide +kernel
theorem dX1_road_13 : decode cX1_road 13 = .ok (.ifCond .ne 5, 3) := by decide +kernel
theorem dX1_road_16 : decode cX1_road 16 = .ok (.iconst (-1), 1) := by decide +kernel
theorem dX1_road_17 : decode cX1_road 17 = .ok (.ireturn, 1) := by decide +kernel
theorem dX1_road_18 : decode cX1_road 18 = .ok (.iload_n 3, 1) := by decide +kernel
theorem dX1_road_19 : decode cX1_road 19 = .ok (.bipush (-9), 2) := by decide +kernel
theorem dX1_road_21 : decode cX1_road 21 = .ok (.if_icmp .lt 9, 3) := by decide +kernel
theorem dX1_road_24 : decode cX1_road 24 = .ok (.iload_n 3, 1) := by decide +kernel
theorem dX1_road_25 : decode cX1_road 25 = .ok (.bipush 20, 2) := by decide +kernel
theorem dX1_road_27 : decode cX1_road 27 = .ok (.if_icmp .le 6, 3) := by decide +kernel
theorem dX1_road_30 : decode cX1_road 30 = .ok (.bipush (-2), 2) := by decide +kernel
theorem dX1_road_32 : decode cX1_road 32 = .ok (.ireturn, 1) := by decide +kernel
theorem dX1_road_33 : decode cX1_road 33 = .ok (.aload_n 0, 1) := by decide +kernel
theorem dX1_road_34 : decode cX1_road 34 = .ok (.getfield 45, 3) := by decide +kernel
theorem dX1_road_37 : decode cX1_road 37 = .ok (.bipush 12, 2) := by decide +kernel
theorem dX1_road_39 : decode cX1_road 39 = .ok (.if_icmp .ne 6, 3) := by decide +kernel
theorem dX1_road_42 : decode cX1_road 42 = .ok (.bipush (-3), 2) := by decide +kernel
theorem dX1_road_44 : decode cX1_road 44 = .ok (.ireturn, 1) := by decide +kernel
theorem dX1_road_45 : decode cX1_road 45 = .ok (.aload_n 0, 1) := by decide +kernel
theorem dX1_road_46 : decode cX1_road 46 = .ok (.getfield 7, 3) := by decide +kernel
theorem dX1_road_49 : decode cX1_road 49 = .ok (.aload_n 0, 1) := by decide +kernel
theorem dX1_road_50 : decode cX1_road 50 = .ok (.getfield 45, 3) := by decide +kernel
theorem dX1_road_53 : decode cX1_road 53 = .ok (.iload_n 1, 1) := by decide +kernel
theorem dX1_road_54 : decode cX1_road 54 = .ok (.iastore, 1) := by decide +kernel
theorem dX1_road_55 : decode cX1_road 55 = .ok (.aload_n 0, 1) := by decide +kernel
theorem dX1_road_56 : decode cX1_road 56 = .ok (.getfield 13, 3) := by decide +kernel
theorem dX1_road_59 : decode cX1_road 59 = .ok (.aload_n 0, 1) := by decide +kernel
theorem dX1_road_60 : decode cX1_road 60 = .ok (.getfield 45, 3) := by decide +kernel
theorem dX1_road_63 : decode cX1_road 63 = .ok (.iload_n 2, 1) := by decide +kernel
theorem dX1_road_64 : decode cX1_road 64 = .ok (.iastore, 1) := by decide +kernel
theorem dX1_road_65 : decode cX1_road 65 = .ok (.aload_n 0, 1) := by decide +kernel
theorem dX1_road_66 : decode cX1_road 66 = .ok (.getfield 16, 3) := by decide +kernel
theorem dX1_road_69 : decode cX1_road 69 = .ok (.aload_n 0, 1) := by decide +kernel
theorem dX1_road_70 : decode cX1_road 70 = .ok (.getfield 45, 3) := by decide +kernel
theorem dX1_road_73 : decode cX1_road 73 = .ok (.iload_n 3, 1) := by decide +kernel
theorem dX1_road_74 : decode cX1_road 74 = .ok (.iastore, 1) := by decide +kernel
theorem dX1_road_75 : decode cX1_road 75 = .ok (.aload_n 0, 1) := by decide +kernel
theorem dX1_road_76 : decode cX1_road 76 = .ok (.dup, 1) := by decide +kernel
theorem dX1_road_77 : decode cX1_road 77 = .ok (.getfield 45, 3) := by decide +kernel
theorem dX1_road_80 : decode cX1_road 80 = .ok (.iconst 1, 1) := by decide +kernel
theorem dX1_road_81 : decode cX1_road 81 = .ok (.iadd, 1) := by decide +kernel
theorem dX1_road_82 : decode cX1_road 82 = .ok (.putfield 45, 3) := by decide +kernel
theorem dX1_road_85 : decode cX1_road 85 = .ok (.aload_n 0, 1) := by decide +kernel
theorem dX1_road_86 : decode cX1_road 86 = .ok (.getfield 45, 3) := by decide +kernel
theorem dX1_road_89 : decode cX1_road 89 = .ok (.iconst 1, 1) := by decide +kernel
theorem dX1_road_90 : decode cX1_road 90 = .ok (.isub, 1) := by decide +kernel
theorem dX1_road_91 : decode cX1_road 91 = .ok (.ireturn, 1) := by decide +kernel
abbrev cX1_isPlace : ByteArray := prog_1_method_18_code
def yX1_isPlace : MethodName := ⟨RX1, "isPlace", "(I)Z"⟩
theorem dX1_isPlace_0 : decode cX1_isPlace 0 = .ok (.iload_n 1, 1) := by decide +kernel
theorem dX1_isPlace_1 : decode cX1_isPlace 1 = .ok (.ifCond .lt 15, 3) := by decide +kernel
theorem dX1_isPlace_4 : decode cX1_isPlace 4 = .ok (.iload_n 1, 1) := by decide +kernel
theorem dX1_isPlace_5 : decode cX1_isPlace 5 = .ok (.aload_n 0, 1) := by decide +kernel
theorem dX1_isPlace_6 : decode cX1_isPlace 6 = .ok (.getfield 37, 3) := by decide +kernel
theorem dX1_isPlace_9 : decode cX1_isPlace 9 = .ok (.if_icmp .ge 7, 3) := by decide +kernel
theorem dX1_isPlace_12 : decode cX1_isPlace 12 = .ok (.iconst 1, 1) := by decide +kernel
theorem dX1_isPlace_13 : decode cX1_isPlace 13 = .ok (.goto 4, 3) := by decide +kernel
theorem dX1_isPlace_16 : decode cX1_isPlace 16 = .ok (.iconst 0, 1) := by decide +kernel
theorem dX1_isPlace_17 : decode cX1_isPlace 17 = .ok (.ireturn, 1) := by decide +kernel
abbrev cX1_remove : ByteArray := prog_1_method_3_code
def yX1_remove : MethodName := ⟨RX1, "remove", "(I)I"⟩
theorem dX1_remove_0 : decode cX1_remove 0 = .ok (.aload_n 0, 1) := by decide +kernel
theorem dX1_remove_1 : decode cX1_remove 1 = .ok (.iload_n 1, 1) := by decide +kernel
theorem dX1_remove_2 : decode cX1_remove 2 = .ok (.invokevirtual 48, 3) := by decide +kernel
theorem dX1_remove_5 : decode cX1_remove 5 = .ok (.ifCond .ne 5, 3) := by decide +kernel
theorem dX1_remove_8 : decode cX1_remove 8 = .ok (.iconst (-1), 1) := by decide +kernel
theorem dX1_remove_9 : decode cX1_remove 9 = .ok (.ireturn, 1) := by decide +kernel
theorem dX1_remove_10 : decode cX1_remove 10 = .ok (.iload_n 1, 1) := by decide +kernel
theorem dX1_remove_11 : decode cX1_remove 11 = .ok (.iconst 1, 1) := by decide +kernel
theorem dX1_remove_12 : decode cX1_remove 12 = .ok (.iadd, 1) := by decide +kernel
theorem dX1_remove_13 : decode cX1_remove 13 = .ok (.istore_n 2, 1) := by decide +kernel
theorem dX1_remove_14 : decode cX1_remove 14 = .ok (.iload_n 2, 1) := by decide +kernel
theorem dX1_remove_15 : decode cX1_remove 15 = .ok (.aload_n 0, 1) := by decide +kernel
theorem dX1_remove_16 : decode cX1_remove 16 = .ok (.getfield 45, 3) := by decide +kernel
theorem dX1_remove_19 : decode cX1_remove 19 = .ok (.if_icmp .ge 51, 3) := by decide +kernel
theorem dX1_remove_22 : decode cX1_remove 22 = .ok (.aload_n 0, 1) := by decide +kernel
theorem dX1_remove_23 : decode cX1_remove 23 = .ok (.getfield 7, 3) := by decide +kernel
theorem dX1_remove_26 : decode cX1_remove 26 = .ok (.iload_n 2, 1) := by decide +kernel
theorem dX1_remove_27 : decode cX1_remove 27 = .ok (.iconst 1, 1) := by decide +kernel
theorem dX1_remove_28 : decode cX1_remove 28 = .ok (.isub, 1) := by decide +kernel
theorem dX1_remove_29 : decode cX1_remove 29 = .ok (.aload_n 0, 1) := by decide +kernel
theorem dX1_remove_30 : decode cX1_remove 30 = .ok (.getfield 7, 3) := by decide +kernel
theorem dX1_remove_33 : decode cX1_remove 33 = .ok (.iload_n 2, 1) := by decide +kernel
theorem dX1_remove_34 : decode cX1_remove 34 = .ok (.iaload, 1) := by decide +kernel
theorem dX1_remove_35 : decode cX1_remove 35 = .ok (.iastore, 1) := by decide +kernel
theorem dX1_remove_36 : decode cX1_remove 36 = .ok (.aload_n 0, 1) := by decide +kernel
theorem dX1_remove_37 : decode cX1_remove 37 = .ok (.getfield 13, 3) := by decide +kernel
theorem dX1_remove_40 : decode cX1_remove 40 = .ok (.iload_n 2, 1) := by decide +kernel
theorem dX1_remove_41 : decode cX1_remove 41 = .ok (.iconst 1, 1) := by decide +kernel
theorem dX1_remove_42 : decode cX1_remove 42 = .ok (.isub, 1) := by decide +kernel
theorem dX1_remove_43 : decode cX1_remove 43 = .ok (.aload_n 0, 1) := by decide +kernel
theorem dX1_remove_44 : decode cX1_remove 44 = .ok (.getfield 13, 3) := by decide +kernel
theorem dX1_remove_47 : decode cX1_remove 47 = .ok (.iload_n 2, 1) := by decide +kernel
theorem dX1_remove_48 : decode cX1_remove 48 = .ok (.iaload, 1) := by decide +kernel
theorem dX1_remove_49 : decode cX1_remove 49 = .ok (.iastore, 1) := by decide +kernel
theorem dX1_remove_50 : decode cX1_remove 50 = .ok (.aload_n 0, 1) := by decide +kernel
theorem dX1_remove_51 : decode cX1_remove 51 = .ok (.getfield 16, 3) := by decide +kernel
theorem dX1_remove_54 : decode cX1_remove 54 = .ok (.iload_n 2, 1) := by decide +kernel
theorem dX1_remove_55 : decode cX1_remove 55 = .ok (.iconst 1, 1) := by decide +kernel
theorem dX1_remove_56 : decode cX1_remove 56 = .ok (.isub, 1) := by decide +kernel
theorem dX1_remove_57 : decode cX1_remove 57 = .ok (.aload_n 0, 1) := by decide +kernel
theorem dX1_remove_58 : decode cX1_remove 58 = .ok (.getfield 16, 3) := by decide +kernel
theorem dX1_remove_61 : decode cX1_remove 61 = .ok (.iload_n 2, 1) := by decide +kernel
theorem dX1_remove_62 : decode cX1_remove 62 = .ok (.iaload, 1) := by decide +kernel
theorem dX1_remove_63 : decode cX1_remove 63 = .ok (.iastore, 1) := by decide +kernel
theorem dX1_remove_64 : decode cX1_remove 64 = .ok (.iinc 2 1, 3) := by decide +kernel
theorem dX1_remove_67 : decode cX1_remove 67 = .ok (.goto (-53), 3) := by decide +kernel
theorem dX1_remove_70 : decode cX1_remove 70 = .ok (.aload_n 0, 1) := by decide +kernel
theorem dX1_remove_71 : decode cX1_remove 71 = .ok (.dup, 1) := by decide +kernel
theorem dX1_remove_72 : decode cX1_remove 72 = .ok (.getfield 45, 3) := by decide +kernel
theorem dX1_remove_75 : decode cX1_remove 75 = .ok (.iconst 1, 1) := by decide +kernel
theorem dX1_remove_76 : decode cX1_remove 76 = .ok (.isub, 1) := by decide +kernel
theorem dX1_remove_77 : decode cX1_remove 77 = .ok (.putfield 45, 3) := by decide +kernel
theorem dX1_remove_80 : decode cX1_remove 80 = .ok (.aload_n 0, 1) := by decide +kernel
theorem dX1_remove_81 : decode cX1_remove 81 = .ok (.getfield 45, 3) := by decide +kernel
theorem dX1_remove_84 : decode cX1_remove 84 = .ok (.ireturn, 1) := by decide +kernel
abbrev cX1_isRoad : ByteArray := prog_1_method_19_code
def yX1_isRoad : MethodName := ⟨RX1, "isRoad", "(I)Z"⟩
theorem dX1_isRoad_0 : decode cX1_isRoad 0 = .ok (.iload_n 1, 1) := by decide +kernel
theorem dX1_isRoad_1 : decode cX1_isRoad 1 = .ok (.ifCond .lt 15, 3) := by decide +kernel
theorem dX1_isRoad_4 : decode cX1_isRoad 4 = .ok (.iload_n 1, 1) := by decide +kernel
theorem dX1_isRoad_5 : decode cX1_isRoad 5 = .ok (.aload_n 0, 1) := by decide +kernel
theorem dX1_isRoad_6 : decode cX1_isRoad 6 = .ok (.getfield 45, 3) := by decide +kernel
theorem dX1_isRoad_9 : decode cX1_isRoad 9 = .ok (.if_icmp .ge 7, 3) := by decide +kernel
theorem dX1_isRoad_12 : decode cX1_isRoad 12 = .ok (.iconst 1, 1) := by decide +kernel
theorem dX1_isRoad_13 : decode cX1_isRoad 13 = .ok (.goto 4, 3) := by decide +kernel
theorem dX1_isRoad_16 : decode cX1_isRoad 16 = .ok (.iconst 0, 1) := by decide +kernel
theorem dX1_isRoad_17 : decode cX1_isRoad 17 = .ok (.ireturn, 1) := by decide +kernel
abbrev cX1_weigh : ByteArray := prog_1_method_4_code
def yX1_weigh : MethodName := ⟨RX1, "weigh", "(II)I"⟩
theorem dX1_weigh_0 : decode cX1_weigh 0 = .ok (.aload_n 0, 1) := by decide +kernel
theorem dX1_weigh_1 : decode cX1_weigh 1 = .ok (.iload_n 1, 1) := by decide +kernel
theorem dX1_weigh_2 : decode cX1_weigh 2 = .ok (.invokevirtual 48, 3) := by decide +kernel
theorem dX1_weigh_5 : decode cX1_weigh 5 = .ok (.ifCond .ne 5, 3) := by decide +kernel
theorem dX1_weigh_8 : decode cX1_weigh 8 = .ok (.iconst (-1), 1) := by decide +kernel
theorem dX1_weigh_9 : decode cX1_weigh 9 = .ok (.ireturn, 1) := by decide +kernel
theorem dX1_weigh_10 : decode cX1_weigh 10 = .ok (.iload_n 2, 1) := by decide +kernel
theorem dX1_weigh_11 : decode cX1_weigh 11 = .ok (.bipush (-9), 2) := by decide +kernel
theorem dX1_weigh_13 : decode cX1_weigh 13 = .ok (.if_icmp .lt 9, 3) := by decide +kernel
theorem dX1_weigh_16 : decode cX1_weigh 16 = .ok (.iload_n 2, 1) := by decide +kernel
theorem dX1_weigh_17 : decode cX1_weigh 17 = .ok (.bipush 20, 2) := by decide +kernel
theorem dX1_weigh_19 : decode cX1_weigh 19 = .ok (.if_icmp .le 6, 3) := by decide +kernel
theorem dX1_weigh_22 : decode cX1_weigh 22 = .ok (.bipush (-2), 2) := by decide +kernel
theorem dX1_weigh_24 : decode cX1_weigh 24 = .ok (.ireturn, 1) := by decide +kernel
theorem dX1_weigh_25 : decode cX1_weigh 25 = .ok (.aload_n 0, 1) := by decide +kernel
theorem dX1_weigh_26 : decode cX1_weigh 26 = .ok (.getfield 16, 3) := by decide +kernel
theorem dX1_weigh_29 : decode cX1_weigh 29 = .ok (.iload_n 1, 1) := by decide +kernel
theorem dX1_weigh_30 : decode cX1_weigh 30 = .ok (.iaload, 1) := by decide +kernel
theorem dX1_weigh_31 : decode cX1_weigh 31 = .ok (.istore_n 3, 1) := by decide +kernel
theorem dX1_weigh_32 : decode cX1_weigh 32 = .ok (.aload_n 0, 1) := by decide +kernel
theorem dX1_weigh_33 : decode cX1_weigh 33 = .ok (.getfield 16, 3) := by decide +kernel
theorem dX1_weigh_36 : decode cX1_weigh 36 = .ok (.iload_n 1, 1) := by decide +kernel
theorem dX1_weigh_37 : decode cX1_weigh 37 = .ok (.iload_n 2, 1) := by decide +kernel
theorem dX1_weigh_38 : decode cX1_weigh 38 = .ok (.iastore, 1) := by decide +kernel
theorem dX1_weigh_39 : decode cX1_weigh 39 = .ok (.iload_n 3, 1) := by decide +kernel
theorem dX1_weigh_40 : decode cX1_weigh 40 = .ok (.ireturn, 1) := by decide +kernel
abbrev cX1_want : ByteArray := prog_1_method_5_code
def yX1_want : MethodName := ⟨RX1, "want", "(I)I"⟩
theorem dX1_want_0 : decode cX1_want 0 = .ok (.iload_n 1, 1) := by decide +kernel
theorem dX1_want_1 : decode cX1_want 1 = .ok (.ifCond .lt 13, 3) := by decide +kernel
theorem dX1_want_4 : decode cX1_want 4 = .ok (.iload_n 1, 1) := by decide +kernel
theorem dX1_want_5 : decode cX1_want 5 = .ok (.iconst 1, 1) := by decide +kernel
theorem dX1_want_6 : decode cX1_want 6 = .ok (.aload_n 0, 1) := by decide +kernel
theorem dX1_want_7 : decode cX1_want 7 = .ok (.getfield 37, 3) := by decide +kernel
theorem dX1_want_10 : decode cX1_want 10 = .ok (.ishl, 1) := by decide +kernel
theorem dX1_want_11 : decode cX1_want 11 = .ok (.if_icmp .lt 5, 3) := by decide +kernel
theorem dX1_want_14 : decode cX1_want 14 = .ok (.iconst (-1), 1) := by decide +kernel
theorem dX1_want_15 : decode cX1_want 15 = .ok (.ireturn, 1) := by decide +kernel
theorem dX1_want_16 : decode cX1_want 16 = .ok (.aload_n 0, 1) := by decide +kernel
theorem dX1_want_17 : decode cX1_want 17 = .ok (.getfield 51, 3) := by decide +kernel
theorem dX1_want_20 : decode cX1_want 20 = .ok (.istore_n 2, 1) := by decide +kernel
theorem dX1_want_21 : decode cX1_want 21 = .ok (.aload_n 0, 1) := by decide +kernel
theorem dX1_want_22 : decode cX1_want 22 = .ok (.iload_n 1, 1) := by decide +kernel
theorem dX1_want_23 : decode cX1_want 23 = .ok (.putfield 51, 3) := by decide +kernel
theorem dX1_want_26 : decode cX1_want 26 = .ok (.iload_n 2, 1) := by decide +kernel
theorem dX1_want_27 : decode cX1_want 27 = .ok (.ireturn, 1) := by decide +kernel
abbrev cX1_turn : ByteArray := prog_1_method_6_code
def yX1_turn : MethodName := ⟨RX1, "turn", "(I)I"⟩
theorem dX1_turn_0 : decode cX1_turn 0 = .ok (.aload_n 0, 1) := by decide +kernel
theorem dX1_turn_1 : decode cX1_turn 1 = .ok (.iload_n 1, 1) := by decide +kernel
theorem dX1_turn_2 : decode cX1_turn 2 = .ok (.invokevirtual 41, 3) := by decide +kernel
theorem dX1_turn_5 : decode cX1_turn 5 = .ok (.ifCond .ne 5, 3) := by decide +kernel
theorem dX1_turn_8 : decode cX1_turn 8 = .ok (.iconst (-1), 1) := by decide +kernel
theorem dX1_turn_9 : decode cX1_turn 9 = .ok (.ireturn, 1) := by decide +kernel
theorem dX1_turn_10 : decode cX1_turn 10 = .ok (.aload_n 0, 1) := by decide +kernel
theorem dX1_turn_11 : decode cX1_turn 11 = .ok (.aload_n 0, 1) := by decide +kernel
theorem dX1_turn_12 : decode cX1_turn 12 = .ok (.getfield 51, 3) := by decide +kernel
theorem dX1_turn_15 : decode cX1_turn 15 = .ok (.iconst 1, 1) := by decide +kernel
theorem dX1_turn_16 : decode cX1_turn 16 = .ok (.iload_n 1, 1) := by decide +kernel
theorem dX1_turn_17 : decode cX1_turn 17 = .ok (.ishl, 1) := by decide +kernel
theorem dX1_turn_18 : decode cX1_turn 18 = .ok (.ixor, 1) := by decide +kernel
theorem dX1_turn_19 : decode cX1_turn 19 = .ok (.putfield 51, 3) := by decide +kernel
theorem dX1_turn_22 : decode cX1_turn 22 = .ok (.aload_n 0, 1) := by decide +kernel
theorem dX1_turn_23 : decode cX1_turn 23 = .ok (.getfield 51, 3) := by decide +kernel
theorem dX1_turn_26 : decode cX1_turn 26 = .ok (.ireturn, 1) := by decide +kernel
abbrev cX1_roads : ByteArray := prog_1_method_7_code
def yX1_roads : MethodName := ⟨RX1, "roads", "()I"⟩
theorem dX1_roads_0 : decode cX1_roads 0 = .ok (.aload_n 0, 1) := by decide +kernel
theorem dX1_roads_1 : decode cX1_roads 1 = .ok (.getfield 45, 3) := by decide +kernel
theorem dX1_roads_4 : decode cX1_roads 4 = .ok (.ireturn, 1) := by decide +kernel
abbrev cX1_isJoin : ByteArray := prog_1_method_8_code
def yX1_isJoin : MethodName := ⟨RX1, "isJoin", "(I)I"⟩
theorem dX1_isJoin_0 : decode cX1_isJoin 0 = .ok (.iload_n 1, 1) := by decide +kernel
theorem dX1_isJoin_1 : decode cX1_isJoin 1 = .ok (.ifCond .lt 13, 3) := by decide +kernel
theorem dX1_isJoin_4 : decode cX1_isJoin 4 = .ok (.iload_n 1, 1) := by decide +kernel
theorem dX1_isJoin_5 : decode cX1_isJoin 5 = .ok (.iconst 1, 1) := by decide +kernel
theorem dX1_isJoin_6 : decode cX1_isJoin 6 = .ok (.aload_n 0, 1) := by decide +kernel
theorem dX1_isJoin_7 : decode cX1_isJoin 7 = .ok (.getfield 45, 3) := by decide +kernel
theorem dX1_isJoin_10 : decode cX1_isJoin 10 = .ok (.ishl, 1) := by decide +kernel
theorem dX1_isJoin_11 : decode cX1_isJoin 11 = .ok (.if_icmp .lt 5, 3) := by decide +kernel
theorem dX1_isJoin_14 : decode cX1_isJoin 14 = .ok (.iconst (-1), 1) := by decide +kernel
theorem dX1_isJoin_15 : decode cX1_isJoin 15 = .ok (.ireturn, 1) := by decide +kernel
theorem dX1_isJoin_16 : decode cX1_isJoin 16 = .ok (.aload_n 0, 1) := by decide +kernel
theorem dX1_isJoin_17 : decode cX1_isJoin 17 = .ok (.iload_n 1, 1) := by decide +kernel
theorem dX1_isJoin_18 : decode cX1_isJoin 18 = .ok (.invokevirtual 54, 3) := by decide +kernel
theorem dX1_isJoin_21 : decode cX1_isJoin 21 = .ok (.aload_n 0, 1) := by decide +kernel
theorem dX1_isJoin_22 : decode cX1_isJoin 22 = .ok (.getfield 51, 3) := by decide +kernel
theorem dX1_isJoin_25 : decode cX1_isJoin 25 = .ok (.if_icmp .ne 7, 3) := by decide +kernel
theorem dX1_isJoin_28 : decode cX1_isJoin 28 = .ok (.iconst 1, 1) := by decide +kernel
theorem dX1_isJoin_29 : decode cX1_isJoin 29 = .ok (.goto 4, 3) := by decide +kernel
theorem dX1_isJoin_32 : decode cX1_isJoin 32 = .ok (.iconst 0, 1) := by decide +kernel
theorem dX1_isJoin_33 : decode cX1_isJoin 33 = .ok (.ireturn, 1) := by decide +kernel
abbrev cX1_oddOf : ByteArray := prog_1_method_21_code
def yX1_oddOf : MethodName := ⟨RX1, "oddOf", "(I)I"⟩
theorem dX1_oddOf_0 : decode cX1_oddOf 0 = .ok (.iconst 0, 1) := by decide +kernel
theorem dX1_oddOf_1 : decode cX1_oddOf 1 = .ok (.istore_n 2, 1) := by decide +kernel
theorem dX1_oddOf_2 : decode cX1_oddOf 2 = .ok (.iconst 0, 1) := by decide +kernel
theorem dX1_oddOf_3 : decode cX1_oddOf 3 = .ok (.istore_n 3, 1) := by decide +kernel
theorem dX1_oddOf_4 : decode cX1_oddOf 4 = .ok (.iload_n 3, 1) := by decide +kernel
theorem dX1_oddOf_5 : decode cX1_oddOf 5 = .ok (.aload_n 0, 1) := by decide +kernel
theorem dX1_oddOf_6 : decode cX1_oddOf 6 = .ok (.getfield 45, 3) := by decide +kernel
theorem dX1_oddOf_9 : decode cX1_oddOf 9 = .ok (.if_icmp .ge 38, 3) := by decide +kernel
theorem dX1_oddOf_12 : decode cX1_oddOf 12 = .ok (.iload_n 1, 1) := by decide +kernel
theorem dX1_oddOf_13 : decode cX1_oddOf 13 = .ok (.iload_n 3, 1) := by decide +kernel
theorem dX1_oddOf_14 : decode cX1_oddOf 14 = .ok (.ishr, 1) := by decide +kernel
theorem dX1_oddOf_15 : decode cX1_oddOf 15 = .ok (.iconst 1, 1) := by decide +kernel
theorem dX1_oddOf_16 : decode cX1_oddOf 16 = .ok (.iand, 1) := by decide +kernel
theorem dX1_oddOf_17 : decode cX1_oddOf 17 = .ok (.iconst 1, 1) := by decide +kernel
theorem dX1_oddOf_18 : decode cX1_oddOf 18 = .ok (.if_icmp .ne 23, 3) := by decide +kernel
theorem dX1_oddOf_21 : decode cX1_oddOf 21 = .ok (.iload_n 2, 1) := by decide +kernel
theorem dX1_oddOf_22 : decode cX1_oddOf 22 = .ok (.iconst 1, 1) := by decide +kernel
theorem dX1_oddOf_23 : decode cX1_oddOf 23 = .ok (.aload_n 0, 1) := by decide +kernel
theorem dX1_oddOf_24 : decode cX1_oddOf 24 = .ok (.getfield 7, 3) := by decide +kernel
theorem dX1_oddOf_27 : decode cX1_oddOf 27 = .ok (.iload_n 3, 1) := by decide +kernel
theorem dX1_oddOf_28 : decode cX1_oddOf 28 = .ok (.iaload, 1) := by decide +kernel
theorem dX1_oddOf_29 : decode cX1_oddOf 29 = .ok (.ishl, 1) := by decide +kernel
theorem dX1_oddOf_30 : decode cX1_oddOf 30 = .ok (.ixor, 1) := by decide +kernel
theorem dX1_oddOf_31 : decode cX1_oddOf 31 = .ok (.iconst 1, 1) := by decide +kernel
theorem dX1_oddOf_32 : decode cX1_oddOf 32 = .ok (.aload_n 0, 1) := by decide +kernel
theorem dX1_oddOf_33 : decode cX1_oddOf 33 = .ok (.getfield 13, 3) := by decide +kernel
theorem dX1_oddOf_36 : decode cX1_oddOf 36 = .ok (.iload_n 3, 1) := by decide +kernel
theorem dX1_oddOf_37 : decode cX1_oddOf 37 = .ok (.iaload, 1) := by decide +kernel
theorem dX1_oddOf_38 : decode cX1_oddOf 38 = .ok (.ishl, 1) := by decide +kernel
theorem dX1_oddOf_39 : decode cX1_oddOf 39 = .ok (.ixor, 1) := by decide +kernel
theorem dX1_oddOf_40 : decode cX1_oddOf 40 = .ok (.istore_n 2, 1) := by decide +kernel
theorem dX1_oddOf_41 : decode cX1_oddOf 41 = .ok (.iinc 3 1, 3) := by decide +kernel
theorem dX1_oddOf_44 : decode cX1_oddOf 44 = .ok (.goto (-40), 3) := by decide +kernel
theorem dX1_oddOf_47 : decode cX1_oddOf 47 = .ok (.iload_n 2, 1) := by decide +kernel
theorem dX1_oddOf_48 : decode cX1_oddOf 48 = .ok (.ireturn, 1) := by decide +kernel
abbrev cX1_possible : ByteArray := prog_1_method_9_code
def yX1_possible : MethodName := ⟨RX1, "possible", "()I"⟩
theorem dX1_possible_0 : decode cX1_possible 0 = .ok (.aload_n 0, 1) := by decide +kernel
theorem dX1_possible_1 : decode cX1_possible 1 = .ok (.aload_n 0, 1) := by decide +kernel
theorem dX1_possible_2 : decode cX1_possible 2 = .ok (.getfield 51, 3) := by decide +kernel
theorem dX1_possible_5 : decode cX1_possible 5 = .ok (.invokevirtual 58, 3) := by decide +kernel
theorem dX1_possible_8 : decode cX1_possible 8 = .ok (.ifCond .eq 7, 3) := by decide +kernel
theorem dX1_possible_11 : decode cX1_possible 11 = .ok (.iconst 1, 1) := by decide +kernel
theorem dX1_possible_12 : decode cX1_possible 12 = .ok (.goto 4, 3) := by decide +kernel
theorem dX1_possible_15 : decode cX1_possible 15 = .ok (.iconst 0, 1) := by decide +kernel
theorem dX1_possible_16 : decode cX1_possible 16 = .ok (.ireturn, 1) := by decide +kernel
abbrev cX1_isPossible : ByteArray := prog_1_method_24_code
def yX1_isPossible : MethodName := ⟨RX1, "isPossible", "(I)Z"⟩
theorem dX1_isPossible_0 : decode cX1_isPossible 0 = .ok (.aload_n 0, 1) := by decide +kernel
theorem dX1_isPossible_1 : decode cX1_isPossible 1 = .ok (.invokevirtual 75, 3) := by decide +kernel
theorem dX1_isPossible_4 : decode cX1_isPossible 4 = .ok (.iconst 0, 1) := by decide +kernel
theorem dX1_isPossible_5 : decode cX1_isPossible 5 = .ok (.istore_n 2, 1) := by decide +kernel
theorem dX1_isPossible_6 : decode cX1_isPossible 6 = .ok (.iload_n 2, 1) := by decide +kernel
theorem dX1_isPossible_7 : decode cX1_isPossible 7 = .ok (.aload_n 0, 1) := by decide +kernel
theorem dX1_isPossible_8 : decode cX1_isPossible 8 = .ok (.getfield 37, 3) := by decide +kernel
theorem dX1_isPossible_11 : decode cX1_isPossible 11 = .ok (.if_icmp .ge 60, 3) := by decide +kernel
theorem dX1_isPossible_14 : decode cX1_isPossible 14 = .ok (.iconst 0, 1) := by decide +kernel
theorem dX1_isPossible_15 : decode cX1_isPossible 15 = .ok (.istore_n 3, 1) := by decide +kernel
theorem dX1_isPossible_16 : decode cX1_isPossible 16 = .ok (.iconst 0, 1) := by decide +kernel
theorem dX1_isPossible_17 : decode cX1_isPossible 17 = .ok (.istore 4, 2) := by decide +kernel
theorem dX1_isPossible_19 : decode cX1_isPossible 19 = .ok (.iload 4, 2) := by decide +kernel
theorem dX1_isPossible_21 : decode cX1_isPossible 21 = .ok (.aload_n 0, 1) := by decide +kernel
theorem dX1_isPossible_22 : decode cX1_isPossible 22 = .ok (.getfield 37, 3) := by decide +kernel
theorem dX1_isPossible_25 : decode cX1_isPossible 25 = .ok (.if_icmp .ge 33, 3) := by decide +kernel
theorem dX1_isPossible_28 : decode cX1_isPossible 28 = .ok (.iload_n 3, 1) := by decide +kernel
theorem dX1_isPossible_29 : decode cX1_isPossible 29 = .ok (.aload_n 0, 1) := by decide +kernel
theorem dX1_isPossible_30 : decode cX1_isPossible 30 = .ok (.getfield 34, 3) := by decide +kernel
theorem dX1_isPossible_33 : decode cX1_isPossible 33 = .ok (.iload 4, 2) := by decide +kernel
theorem dX1_isPossible_35 : decode cX1_isPossible 35 = .ok (.iaload, 1) := by decide +kernel
theorem dX1_isPossible_36 : decode cX1_isPossible 36 = .ok (.iload_n 2, 1) := by decide +kernel
theorem dX1_isPossible_37 : decode cX1_isPossible 37 = .ok (.if_icmp .ne 12, 3) := by decide +kernel
theorem dX1_isPossible_40 : decode cX1_isPossible 40 = .ok (.iload_n 1, 1) := by decide +kernel
theorem dX1_isPossible_41 : decode cX1_isPossible 41 = .ok (.iload 4, 2) := by decide +kernel
theorem dX1_isPossible_43 : decode cX1_isPossible 43 = .ok (.ishr, 1) := by decide +kernel
theorem dX1_isPossible_44 : decode cX1_isPossible 44 = .ok (.iconst 1, 1) := by decide +kernel
theorem dX1_isPossible_45 : decode cX1_isPossible 45 = .ok (.iand, 1) := by decide +kernel
theorem dX1_isPossible_46 : decode cX1_isPossible 46 = .ok (.goto 4, 3) := by decide +kernel
theorem dX1_isPossible_49 : decode cX1_isPossible 49 = .ok (.iconst 0, 1) := by decide +kernel
theorem dX1_isPossible_50 : decode cX1_isPossible 50 = .ok (.ixor, 1) := by decide +kernel
theorem dX1_isPossible_51 : decode cX1_isPossible 51 = .ok (.istore_n 3, 1) := by decide +kernel
theorem dX1_isPossible_52 : decode cX1_isPossible 52 = .ok (.iinc 4 1, 3) := by decide +kernel
theorem dX1_isPossible_55 : decode cX1_isPossible 55 = .ok (.goto (-36), 3) := by decide +kernel
theorem dX1_isPossible_58 : decode cX1_isPossible 58 = .ok (.iload_n 3, 1) := by decide +kernel
theorem dX1_isPossible_59 : decode cX1_isPossible 59 = .ok (.iconst 1, 1) := by decide +kernel
theorem dX1_isPossible_60 : decode cX1_isPossible 60 = .ok (.if_icmp .ne 5, 3) := by decide +kernel
theorem dX1_isPossible_63 : decode cX1_isPossible 63 = .ok (.iconst 0, 1) := by decide +kernel
theorem dX1_isPossible_64 : decode cX1_isPossible 64 = .ok (.ireturn, 1) := by decide +kernel
theorem dX1_isPossible_65 : decode cX1_isPossible 65 = .ok (.iinc 2 1, 3) := by decide +kernel
theorem dX1_isPossible_68 : decode cX1_isPossible 68 = .ok (.goto (-62), 3) := by decide +kernel
theorem dX1_isPossible_71 : decode cX1_isPossible 71 = .ok (.iconst 1, 1) := by decide +kernel
theorem dX1_isPossible_72 : decode cX1_isPossible 72 = .ok (.ireturn, 1) := by decide +kernel
abbrev cX1_findParts : ByteArray := prog_1_method_22_code
def yX1_findParts : MethodName := ⟨RX1, "findParts", "()V"⟩
theorem dX1_findParts_0 : decode cX1_findParts 0 = .ok (.iconst 0, 1) := by decide +kernel
theorem dX1_findParts_1 : decode cX1_findParts 1 = .ok (.istore_n 1, 1) := by decide +kernel
theorem dX1_findParts_2 : decode cX1_findParts 2 = .ok (.iload_n 1, 1) := by decide +kernel
theorem dX1_findParts_3 : decode cX1_findParts 3 = .ok (.aload_n 0, 1) := by decide +kernel
theorem dX1_findParts_4 : decode cX1_findParts 4 = .ok (.getfield 37, 3) := by decide +kernel
theorem dX1_findParts_7 : decode cX1_findParts 7 = .ok (.if_icmp .ge 16, 3) := by decide +kernel
theorem dX1_findParts_10 : decode cX1_findParts 10 = .ok (.aload_n 0, 1) := by decide +kernel
theorem dX1_findParts_11 : decode cX1_findParts 11 = .ok (.getfield 34, 3) := by decide +kernel
theorem dX1_findParts_14 : decode cX1_findParts 14 = .ok (.iload_n 1, 1) := by decide +kernel
theorem dX1_findParts_15 : decode cX1_findParts 15 = .ok (.iload_n 1, 1) := by decide +kernel
theorem dX1_findParts_16 : decode cX1_findParts 16 = .ok (.iastore, 1) := by decide +kernel
theorem dX1_findParts_17 : decode cX1_findParts 17 = .ok (.iinc 1 1, 3) := by decide +kernel
theorem dX1_findParts_20 : decode cX1_findParts 20 = .ok (.goto (-18), 3) := by decide +kernel
theorem dX1_findParts_23 : decode cX1_findParts 23 = .ok (.iconst 0, 1) := by decide +kernel
theorem dX1_findParts_24 : decode cX1_findParts 24 = .ok (.istore_n 1, 1) := by decide +kernel
theorem dX1_findParts_25 : decode cX1_findParts 25 = .ok (.iload_n 1, 1) := by decide +kernel
theorem dX1_findParts_26 : decode cX1_findParts 26 = .ok (.aload_n 0, 1) := by decide +kernel
theorem dX1_findParts_27 : decode cX1_findParts 27 = .ok (.getfield 45, 3) := by decide +kernel
theorem dX1_findParts_30 : decode cX1_findParts 30 = .ok (.if_icmp .ge 80, 3) := by decide +kernel
theorem dX1_findParts_33 : decode cX1_findParts 33 = .ok (.aload_n 0, 1) := by decide +kernel
theorem dX1_findParts_34 : decode cX1_findParts 34 = .ok (.getfield 34, 3) := by decide +kernel
theorem dX1_findParts_37 : decode cX1_findParts 37 = .ok (.aload_n 0, 1) := by decide +kernel
theorem dX1_findParts_38 : decode cX1_findParts 38 = .ok (.getfield 7, 3) := by decide +kernel
theorem dX1_findParts_41 : decode cX1_findParts 41 = .ok (.iload_n 1, 1) := by decide +kernel
theorem dX1_findParts_42 : decode cX1_findParts 42 = .ok (.iaload, 1) := by decide +kernel
theorem dX1_findParts_43 : decode cX1_findParts 43 = .ok (.iaload, 1) := by decide +kernel
theorem dX1_findParts_44 : decode cX1_findParts 44 = .ok (.istore_n 2, 1) := by decide +kernel
theorem dX1_findParts_45 : decode cX1_findParts 45 = .ok (.aload_n 0, 1) := by decide +kernel
theorem dX1_findParts_46 : decode cX1_findParts 46 = .ok (.getfield 34, 3) := by decide +kernel
theorem dX1_findParts_49 : decode cX1_findParts 49 = .ok (.aload_n 0, 1) := by decide +kernel
theorem dX1_findParts_50 : decode cX1_findParts 50 = .ok (.getfield 13, 3) := by decide +kernel
theorem dX1_findParts_53 : decode cX1_findParts 53 = .ok (.iload_n 1, 1) := by decide +kernel
theorem dX1_findParts_54 : decode cX1_findParts 54 = .ok (.iaload, 1) := by decide +kernel
theorem dX1_findParts_55 : decode cX1_findParts 55 = .ok (.iaload, 1) := by decide +kernel
theorem dX1_findParts_56 : decode cX1_findParts 56 = .ok (.istore_n 3, 1) := by decide +kernel
theorem dX1_findParts_57 : decode cX1_findParts 57 = .ok (.iconst 0, 1) := by decide +kernel
theorem dX1_findParts_58 : decode cX1_findParts 58 = .ok (.istore 4, 2) := by decide +kernel
theorem dX1_findParts_60 : decode cX1_findParts 60 = .ok (.iload 4, 2) := by decide +kernel
theorem dX1_findParts_62 : decode cX1_findParts 62 = .ok (.aload_n 0, 1) := by decide +kernel
theorem dX1_findParts_63 : decode cX1_findParts 63 = .ok (.getfield 37, 3) := by decide +kernel
theorem dX1_findParts_66 : decode cX1_findParts 66 = .ok (.if_icmp .ge 38, 3) := by decide +kernel
theorem dX1_findParts_69 : decode cX1_findParts 69 = .ok (.aload_n 0, 1) := by decide +kernel
theorem dX1_findParts_70 : decode cX1_findParts 70 = .ok (.getfield 34, 3) := by decide +kernel
theorem dX1_findParts_73 : decode cX1_findParts 73 = .ok (.iload 4, 2) := by decide +kernel
theorem dX1_findParts_75 : decode cX1_findParts 75 = .ok (.aload_n 0, 1) := by decide +kernel
theorem dX1_findParts_76 : decode cX1_findParts 76 = .ok (.getfield 34, 3) := by decide +kernel
theorem dX1_findParts_79 : decode cX1_findParts 79 = .ok (.iload 4, 2) := by decide +kernel
theorem dX1_findParts_81 : decode cX1_findParts 81 = .ok (.iaload, 1) := by decide +kernel
theorem dX1_findParts_82 : decode cX1_findParts 82 = .ok (.iload_n 3, 1) := by decide +kernel
theorem dX1_findParts_83 : decode cX1_findParts 83 = .ok (.if_icmp .ne 7, 3) := by decide +kernel
theorem dX1_findParts_86 : decode cX1_findParts 86 = .ok (.iload_n 2, 1) := by decide +kernel
theorem dX1_findParts_87 : decode cX1_findParts 87 = .ok (.goto 10, 3) := by decide +kernel
theorem dX1_findParts_90 : decode cX1_findParts 90 = .ok (.aload_n 0, 1) := by decide +kernel
theorem dX1_findParts_91 : decode cX1_findParts 91 = .ok (.getfield 34, 3) := by decide +kernel
theorem dX1_findParts_94 : decode cX1_findParts 94 = .ok (.iload 4, 2) := by decide +kernel
theorem dX1_findParts_96 : decode cX1_findParts 96 = .ok (.iaload, 1) := by decide +kernel
theorem dX1_findParts_97 : decode cX1_findParts 97 = .ok (.iastore, 1) := by decide +kernel
theorem dX1_findParts_98 : decode cX1_findParts 98 = .ok (.iinc 4 1, 3) := by decide +kernel
theorem dX1_findParts_101 : decode cX1_findParts 101 = .ok (.goto (-41), 3) := by decide +kernel
theorem dX1_findParts_104 : decode cX1_findParts 104 = .ok (.iinc 1 1, 3) := by decide +kernel
theorem dX1_findParts_107 : decode cX1_findParts 107 = .ok (.goto (-82), 3) := by decide +kernel
theorem dX1_findParts_110 : decode cX1_findParts 110 = .ok (.return_, 1) := by decide +kernel
end
section
set_option maxRecDepth 100000
abbrev cX1_joins : ByteArray := prog_1_method_10_code
def yX1_joins : MethodName := ⟨RX1, "joins", "()I"⟩
theorem dX1_joins_0 : decode cX1_joins 0 = .ok (.aload_n 0, 1) := by decide +kernel
theorem dX1_joins_1 : decode cX1_joins 1 = .ok (.aload_n 0, 1) := by decide +kernel
theorem dX1_joins_2 : decode cX1_joins 2 = .ok (.getfield 51, 3) := by decide +kernel
theorem dX1_joins_5 : decode cX1_joins 5 = .ok (.invokevirtual 58, 3) := by decide +kernel
theorem dX1_joins_8 : decode cX1_joins 8 = .ok (.ifCond .ne 5, 3) := by decide +kernel
theorem dX1_joins_11 : decode cX1_joins 11 = .ok (.iconst 0, 1) := by decide +kernel
theorem dX1_joins_12 : decode cX1_joins 12 = .ok (.ireturn, 1) := by decide +kernel
theorem dX1_joins_13 : decode cX1_joins 13 = .ok (.iconst 1, 1) := by decide +kernel
theorem dX1_joins_14 : decode cX1_joins 14 = .ok (.aload_n 0, 1) := by decide +kernel
theorem dX1_joins_15 : decode cX1_joins 15 = .ok (.getfield 45, 3) := by decide +kernel
theorem dX1_joins_18 : decode cX1_joins 18 = .ok (.aload_n 0, 1) := by decide +kernel
theorem dX1_joins_19 : decode cX1_joins 19 = .ok (.getfield 37, 3) := by decide +kernel
theorem dX1_joins_22 : decode cX1_joins 22 = .ok (.isub, 1) := by decide +kernel
theorem dX1_joins_23 : decode cX1_joins 23 = .ok (.aload_n 0, 1) := by decide +kernel
theorem dX1_joins_24 : decode cX1_joins 24 = .ok (.invokevirtual 61, 3) := by decide +kernel
theorem dX1_joins_27 : decode cX1_joins 27 = .ok (.iadd, 1) := by decide +kernel
theorem dX1_joins_28 : decode cX1_joins 28 = .ok (.ishl, 1) := by decide +kernel
theorem dX1_joins_29 : decode cX1_joins 29 = .ok (.ireturn, 1) := by decide +kernel
abbrev cX1_countParts : ByteArray := prog_1_method_23_code
def yX1_countParts : MethodName := ⟨RX1, "countParts", "()I"⟩
theorem dX1_countParts_0 : decode cX1_countParts 0 = .ok (.aload_n 0, 1) := by decide +kernel
theorem dX1_countParts_1 : decode cX1_countParts 1 = .ok (.invokevirtual 75, 3) := by decide +kernel
theorem dX1_countParts_4 : decode cX1_countParts 4 = .ok (.iconst 0, 1) := by decide +kernel
theorem dX1_countParts_5 : decode cX1_countParts 5 = .ok (.istore_n 1, 1) := by decide +kernel
theorem dX1_countParts_6 : decode cX1_countParts 6 = .ok (.iconst 0, 1) := by decide +kernel
theorem dX1_countParts_7 : decode cX1_countParts 7 = .ok (.istore_n 2, 1) := by decide +kernel
theorem dX1_countParts_8 : decode cX1_countParts 8 = .ok (.iload_n 2, 1) := by decide +kernel
theorem dX1_countParts_9 : decode cX1_countParts 9 = .ok (.aload_n 0, 1) := by decide +kernel
theorem dX1_countParts_10 : decode cX1_countParts 10 = .ok (.getfield 37, 3) := by decide +kernel
theorem dX1_countParts_13 : decode cX1_countParts 13 = .ok (.if_icmp .ge 64, 3) := by decide +kernel
theorem dX1_countParts_16 : decode cX1_countParts 16 = .ok (.iconst 1, 1) := by decide +kernel
theorem dX1_countParts_17 : decode cX1_countParts 17 = .ok (.istore_n 3, 1) := by decide +kernel
theorem dX1_countParts_18 : decode cX1_countParts 18 = .ok (.iconst 0, 1) := by decide +kernel
theorem dX1_countParts_19 : decode cX1_countParts 19 = .ok (.istore 4, 2) := by decide +kernel
theorem dX1_countParts_21 : decode cX1_countParts 21 = .ok (.iload 4, 2) := by decide +kernel
theorem dX1_countParts_23 : decode cX1_countParts 23 = .ok (.iload_n 2, 1) := by decide +kernel
theorem dX1_countParts_24 : decode cX1_countParts 24 = .ok (.if_icmp .ge 35, 3) := by decide +kernel
theorem dX1_countParts_27 : decode cX1_countParts 27 = .ok (.iload_n 3, 1) := by decide +kernel
theorem dX1_countParts_28 : decode cX1_countParts 28 = .ok (.ifCond .eq 23, 3) := by decide +kernel
theorem dX1_countParts_31 : decode cX1_countParts 31 = .ok (.aload_n 0, 1) := by decide +kernel
theorem dX1_countParts_32 : decode cX1_countParts 32 = .ok (.getfield 34, 3) := by decide +kernel
theorem dX1_countParts_35 : decode cX1_countParts 35 = .ok (.iload 4, 2) := by decide +kernel
theorem dX1_countParts_37 : decode cX1_countParts 37 = .ok (.iaload, 1) := by decide +kernel
theorem dX1_countParts_38 : decode cX1_countParts 38 = .ok (.aload_n 0, 1) := by decide +kernel
theorem dX1_countParts_39 : decode cX1_countParts 39 = .ok (.getfield 34, 3) := by decide +kernel
theorem dX1_countParts_42 : decode cX1_countParts 42 = .ok (.iload_n 2, 1) := by decide +kernel
theorem dX1_countParts_43 : decode cX1_countParts 43 = .ok (.iaload, 1) := by decide +kernel
theorem dX1_countParts_44 : decode cX1_countParts 44 = .ok (.if_icmp .eq 7, 3) := by decide +kernel
theorem dX1_countParts_47 : decode cX1_countParts 47 = .ok (.iconst 1, 1) := by decide +kernel
theorem dX1_countParts_48 : decode cX1_countParts 48 = .ok (.goto 4, 3) := by decide +kernel
theorem dX1_countParts_51 : decode cX1_countParts 51 = .ok (.iconst 0, 1) := by decide +kernel
theorem dX1_countParts_52 : decode cX1_countParts 52 = .ok (.istore_n 3, 1) := by decide +kernel
theorem dX1_countParts_53 : decode cX1_countParts 53 = .ok (.iinc 4 1, 3) := by decide +kernel
theorem dX1_countParts_56 : decode cX1_countParts 56 = .ok (.goto (-35), 3) := by decide +kernel
theorem dX1_countParts_59 : decode cX1_countParts 59 = .ok (.iload_n 1, 1) := by decide +kernel
theorem dX1_countParts_60 : decode cX1_countParts 60 = .ok (.iload_n 3, 1) := by decide +kernel
theorem dX1_countParts_61 : decode cX1_countParts 61 = .ok (.ifCond .eq 7, 3) := by decide +kernel
theorem dX1_countParts_64 : decode cX1_countParts 64 = .ok (.iconst 1, 1) := by decide +kernel
theorem dX1_countParts_65 : decode cX1_countParts 65 = .ok (.goto 4, 3) := by decide +kernel
theorem dX1_countParts_68 : decode cX1_countParts 68 = .ok (.iconst 0, 1) := by decide +kernel
theorem dX1_countParts_69 : decode cX1_countParts 69 = .ok (.iadd, 1) := by decide +kernel
theorem dX1_countParts_70 : decode cX1_countParts 70 = .ok (.istore_n 1, 1) := by decide +kernel
theorem dX1_countParts_71 : decode cX1_countParts 71 = .ok (.iinc 2 1, 3) := by decide +kernel
theorem dX1_countParts_74 : decode cX1_countParts 74 = .ok (.goto (-66), 3) := by decide +kernel
theorem dX1_countParts_77 : decode cX1_countParts 77 = .ok (.iload_n 1, 1) := by decide +kernel
theorem dX1_countParts_78 : decode cX1_countParts 78 = .ok (.ireturn, 1) := by decide +kernel
abbrev cX1_best : ByteArray := prog_1_method_11_code
def yX1_best : MethodName := ⟨RX1, "best", "()I"⟩
theorem dX1_best_0 : decode cX1_best 0 = .ok (.aload_n 0, 1) := by decide +kernel
theorem dX1_best_1 : decode cX1_best 1 = .ok (.invokevirtual 65, 3) := by decide +kernel
theorem dX1_best_4 : decode cX1_best 4 = .ok (.aload_n 0, 1) := by decide +kernel
theorem dX1_best_5 : decode cX1_best 5 = .ok (.aload_n 0, 1) := by decide +kernel
theorem dX1_best_6 : decode cX1_best 6 = .ok (.getfield 51, 3) := by decide +kernel
theorem dX1_best_9 : decode cX1_best 9 = .ok (.invokevirtual 68, 3) := by decide +kernel
theorem dX1_best_12 : decode cX1_best 12 = .ok (.istore_n 1, 1) := by decide +kernel
theorem dX1_best_13 : decode cX1_best 13 = .ok (.iload_n 1, 1) := by decide +kernel
theorem dX1_best_14 : decode cX1_best 14 = .ok (.ifCond .ge 9, 3) := by decide +kernel
theorem dX1_best_17 : decode cX1_best 17 = .ok (.sipush (-1000), 3) := by decide +kernel
theorem dX1_best_20 : decode cX1_best 20 = .ok (.goto 8, 3) := by decide +kernel
theorem dX1_best_23 : decode cX1_best 23 = .ok (.aload_n 0, 1) := by decide +kernel
theorem dX1_best_24 : decode cX1_best 24 = .ok (.iload_n 1, 1) := by decide +kernel
theorem dX1_best_25 : decode cX1_best 25 = .ok (.invokevirtual 71, 3) := by decide +kernel
theorem dX1_best_28 : decode cX1_best 28 = .ok (.ireturn, 1) := by decide +kernel
abbrev cX1_takeCosts : ByteArray := prog_1_method_25_code
def yX1_takeCosts : MethodName := ⟨RX1, "takeCosts", "()V"⟩
theorem dX1_takeCosts_0 : decode cX1_takeCosts 0 = .ok (.iconst 0, 1) := by decide +kernel
theorem dX1_takeCosts_1 : decode cX1_takeCosts 1 = .ok (.istore_n 1, 1) := by decide +kernel
theorem dX1_takeCosts_2 : decode cX1_takeCosts 2 = .ok (.iload_n 1, 1) := by decide +kernel
theorem dX1_takeCosts_3 : decode cX1_takeCosts 3 = .ok (.aload_n 0, 1) := by decide +kernel
theorem dX1_takeCosts_4 : decode cX1_takeCosts 4 = .ok (.getfield 45, 3) := by decide +kernel
theorem dX1_takeCosts_7 : decode cX1_takeCosts 7 = .ok (.if_icmp .ge 29, 3) := by decide +kernel
theorem dX1_takeCosts_10 : decode cX1_takeCosts 10 = .ok (.aload_n 0, 1) := by decide +kernel
theorem dX1_takeCosts_11 : decode cX1_takeCosts 11 = .ok (.getfield 19, 3) := by decide +kernel
theorem dX1_takeCosts_14 : decode cX1_takeCosts 14 = .ok (.iload_n 1, 1) := by decide +kernel
theorem dX1_takeCosts_15 : decode cX1_takeCosts 15 = .ok (.sipush 4096, 3) := by decide +kernel
theorem dX1_takeCosts_18 : decode cX1_takeCosts 18 = .ok (.aload_n 0, 1) := by decide +kernel
theorem dX1_takeCosts_19 : decode cX1_takeCosts 19 = .ok (.getfield 16, 3) := by decide +kernel
theorem dX1_takeCosts_22 : decode cX1_takeCosts 22 = .ok (.iload_n 1, 1) := by decide +kernel
theorem dX1_takeCosts_23 : decode cX1_takeCosts 23 = .ok (.iaload, 1) := by decide +kernel
theorem dX1_takeCosts_24 : decode cX1_takeCosts 24 = .ok (.imul, 1) := by decide +kernel
theorem dX1_takeCosts_25 : decode cX1_takeCosts 25 = .ok (.iconst 1, 1) := by decide +kernel
theorem dX1_takeCosts_26 : decode cX1_takeCosts 26 = .ok (.iload_n 1, 1) := by decide +kernel
theorem dX1_takeCosts_27 : decode cX1_takeCosts 27 = .ok (.ishl, 1) := by decide +kernel
theorem dX1_takeCosts_28 : decode cX1_takeCosts 28 = .ok (.iadd, 1) := by decide +kernel
theorem dX1_takeCosts_29 : decode cX1_takeCosts 29 = .ok (.iastore, 1) := by decide +kernel
theorem dX1_takeCosts_30 : decode cX1_takeCosts 30 = .ok (.iinc 1 1, 3) := by decide +kernel
theorem dX1_takeCosts_33 : decode cX1_takeCosts 33 = .ok (.goto (-31), 3) := by decide +kernel
theorem dX1_takeCosts_36 : decode cX1_takeCosts 36 = .ok (.return_, 1) := by decide +kernel
abbrev cX1_solve : ByteArray := prog_1_method_26_code
def yX1_solve : MethodName := ⟨RX1, "solve", "(I)I"⟩
theorem dX1_solve_0 : decode cX1_solve 0 = .ok (.aload_n 0, 1) := by decide +kernel
theorem dX1_solve_1 : decode cX1_solve 1 = .ok (.iload_n 1, 1) := by decide +kernel
theorem dX1_solve_2 : decode cX1_solve 2 = .ok (.invokevirtual 58, 3) := by decide +kernel
theorem dX1_solve_5 : decode cX1_solve 5 = .ok (.ifCond .ne 5, 3) := by decide +kernel
theorem dX1_solve_8 : decode cX1_solve 8 = .ok (.iconst (-1), 1) := by decide +kernel
theorem dX1_solve_9 : decode cX1_solve 9 = .ok (.ireturn, 1) := by decide +kernel
theorem dX1_solve_10 : decode cX1_solve 10 = .ok (.iconst 0, 1) := by decide +kernel
theorem dX1_solve_11 : decode cX1_solve 11 = .ok (.istore_n 2, 1) := by decide +kernel
theorem dX1_solve_12 : decode cX1_solve 12 = .ok (.iconst 0, 1) := by decide +kernel
theorem dX1_solve_13 : decode cX1_solve 13 = .ok (.istore_n 3, 1) := by decide +kernel
theorem dX1_solve_14 : decode cX1_solve 14 = .ok (.iload_n 3, 1) := by decide +kernel
theorem dX1_solve_15 : decode cX1_solve 15 = .ok (.aload_n 0, 1) := by decide +kernel
theorem dX1_solve_16 : decode cX1_solve 16 = .ok (.getfield 45, 3) := by decide +kernel
theorem dX1_solve_19 : decode cX1_solve 19 = .ok (.if_icmp .ge 28, 3) := by decide +kernel
theorem dX1_solve_22 : decode cX1_solve 22 = .ok (.iload_n 2, 1) := by decide +kernel
theorem dX1_solve_23 : decode cX1_solve 23 = .ok (.aload_n 0, 1) := by decide +kernel
theorem dX1_solve_24 : decode cX1_solve 24 = .ok (.getfield 19, 3) := by decide +kernel
theorem dX1_solve_27 : decode cX1_solve 27 = .ok (.iload_n 3, 1) := by decide +kernel
theorem dX1_solve_28 : decode cX1_solve 28 = .ok (.iaload, 1) := by decide +kernel
theorem dX1_solve_29 : decode cX1_solve 29 = .ok (.ifCond .ge 9, 3) := by decide +kernel
theorem dX1_solve_32 : decode cX1_solve 32 = .ok (.iconst 1, 1) := by decide +kernel
theorem dX1_solve_33 : decode cX1_solve 33 = .ok (.iload_n 3, 1) := by decide +kernel
theorem dX1_solve_34 : decode cX1_solve 34 = .ok (.ishl, 1) := by decide +kernel
theorem dX1_solve_35 : decode cX1_solve 35 = .ok (.goto 4, 3) := by decide +kernel
theorem dX1_solve_38 : decode cX1_solve 38 = .ok (.iconst 0, 1) := by decide +kernel
theorem dX1_solve_39 : decode cX1_solve 39 = .ok (.ior, 1) := by decide +kernel
theorem dX1_solve_40 : decode cX1_solve 40 = .ok (.istore_n 2, 1) := by decide +kernel
theorem dX1_solve_41 : decode cX1_solve 41 = .ok (.iinc 3 1, 3) := by decide +kernel
theorem dX1_solve_44 : decode cX1_solve 44 = .ok (.goto (-30), 3) := by decide +kernel
theorem dX1_solve_47 : decode cX1_solve 47 = .ok (.aload_n 0, 1) := by decide +kernel
theorem dX1_solve_48 : decode cX1_solve 48 = .ok (.invokevirtual 81, 3) := by decide +kernel
theorem dX1_solve_51 : decode cX1_solve 51 = .ok (.iload_n 1, 1) := by decide +kernel
theorem dX1_solve_52 : decode cX1_solve 52 = .ok (.aload_n 0, 1) := by decide +kernel
theorem dX1_solve_53 : decode cX1_solve 53 = .ok (.iload_n 2, 1) := by decide +kernel
theorem dX1_solve_54 : decode cX1_solve 54 = .ok (.invokevirtual 54, 3) := by decide +kernel
theorem dX1_solve_57 : decode cX1_solve 57 = .ok (.ixor, 1) := by decide +kernel
theorem dX1_solve_58 : decode cX1_solve 58 = .ok (.istore_n 3, 1) := by decide +kernel
theorem dX1_solve_59 : decode cX1_solve 59 = .ok (.aload_n 0, 1) := by decide +kernel
theorem dX1_solve_60 : decode cX1_solve 60 = .ok (.iload_n 3, 1) := by decide +kernel
theorem dX1_solve_61 : decode cX1_solve 61 = .ok (.invokevirtual 84, 3) := by decide +kernel
theorem dX1_solve_64 : decode cX1_solve 64 = .ok (.aload_n 0, 1) := by decide +kernel
theorem dX1_solve_65 : decode cX1_solve 65 = .ok (.getfield 31, 3) := by decide +kernel
theorem dX1_solve_68 : decode cX1_solve 68 = .ok (.iload_n 3, 1) := by decide +kernel
theorem dX1_solve_69 : decode cX1_solve 69 = .ok (.iaload, 1) := by decide +kernel
theorem dX1_solve_70 : decode cX1_solve 70 = .ok (.iload_n 2, 1) := by decide +kernel
theorem dX1_solve_71 : decode cX1_solve 71 = .ok (.ixor, 1) := by decide +kernel
theorem dX1_solve_72 : decode cX1_solve 72 = .ok (.ireturn, 1) := by decide +kernel
abbrev cX1_findWays : ByteArray := prog_1_method_27_code
def yX1_findWays : MethodName := ⟨RX1, "findWays", "()V"⟩
theorem dX1_findWays_0 : decode cX1_findWays 0 = .ok (.iconst 0, 1) := by decide +kernel
theorem dX1_findWays_1 : decode cX1_findWays 1 = .ok (.istore_n 1, 1) := by decide +kernel
theorem dX1_findWays_2 : decode cX1_findWays 2 = .ok (.iload_n 1, 1) := by decide +kernel
theorem dX1_findWays_3 : decode cX1_findWays 3 = .ok (.bipush 49, 2) := by decide +kernel
theorem dX1_findWays_5 : decode cX1_findWays 5 = .ok (.if_icmp .ge 39, 3) := by decide +kernel
theorem dX1_findWays_8 : decode cX1_findWays 8 = .ok (.aload_n 0, 1) := by decide +kernel
theorem dX1_findWays_9 : decode cX1_findWays 9 = .ok (.getfield 22, 3) := by decide +kernel
theorem dX1_findWays_12 : decode cX1_findWays 12 = .ok (.iload_n 1, 1) := by decide +kernel
theorem dX1_findWays_13 : decode cX1_findWays 13 = .ok (.iload_n 1, 1) := by decide +kernel
theorem dX1_findWays_14 : decode cX1_findWays 14 = .ok (.bipush 7, 2) := by decide +kernel
theorem dX1_findWays_16 : decode cX1_findWays 16 = .ok (.idiv, 1) := by decide +kernel
theorem dX1_findWays_17 : decode cX1_findWays 17 = .ok (.iload_n 1, 1) := by decide +kernel
theorem dX1_findWays_18 : decode cX1_findWays 18 = .ok (.bipush 7, 2) := by decide +kernel
theorem dX1_findWays_20 : decode cX1_findWays 20 = .ok (.irem, 1) := by decide +kernel
theorem dX1_findWays_21 : decode cX1_findWays 21 = .ok (.if_icmp .ne 7, 3) := by decide +kernel
theorem dX1_findWays_24 : decode cX1_findWays 24 = .ok (.iconst 0, 1) := by decide +kernel
theorem dX1_findWays_25 : decode cX1_findWays 25 = .ok (.goto 5, 3) := by decide +kernel
theorem dX1_findWays_28 : decode cX1_findWays 28 = .ok (.ldc 88, 2) := by decide +kernel
theorem dX1_findWays_30 : decode cX1_findWays 30 = .ok (.iastore, 1) := by decide +kernel
theorem dX1_findWays_31 : decode cX1_findWays 31 = .ok (.aload_n 0, 1) := by decide +kernel
theorem dX1_findWays_32 : decode cX1_findWays 32 = .ok (.getfield 25, 3) := by decide +kernel
theorem dX1_findWays_35 : decode cX1_findWays 35 = .ok (.iload_n 1, 1) := by decide +kernel
theorem dX1_findWays_36 : decode cX1_findWays 36 = .ok (.iconst 0, 1) := by decide +kernel
theorem dX1_findWays_37 : decode cX1_findWays 37 = .ok (.iastore, 1) := by decide +kernel
theorem dX1_findWays_38 : decode cX1_findWays 38 = .ok (.iinc 1 1, 3) := by decide +kernel
theorem dX1_findWays_41 : decode cX1_findWays 41 = .ok (.goto (-39), 3) := by decide +kernel
theorem dX1_findWays_44 : decode cX1_findWays 44 = .ok (.iconst 0, 1) := by decide +kernel
theorem dX1_findWays_45 : decode cX1_findWays 45 = .ok (.istore_n 1, 1) := by decide +kernel
theorem dX1_findWays_46 : decode cX1_findWays 46 = .ok (.iload_n 1, 1) := by decide +kernel
theorem dX1_findWays_47 : decode cX1_findWays 47 = .ok (.aload_n 0, 1) := by decide +kernel
theorem dX1_findWays_48 : decode cX1_findWays 48 = .ok (.getfield 45, 3) := by decide +kernel
theorem dX1_findWays_51 : decode cX1_findWays 51 = .ok (.if_icmp .ge 83, 3) := by decide +kernel
theorem dX1_findWays_54 : decode cX1_findWays 54 = .ok (.aload_n 0, 1) := by decide +kernel
theorem dX1_findWays_55 : decode cX1_findWays 55 = .ok (.getfield 19, 3) := by decide +kernel
theorem dX1_findWays_58 : decode cX1_findWays 58 = .ok (.iload_n 1, 1) := by decide +kernel
theorem dX1_findWays_59 : decode cX1_findWays 59 = .ok (.iaload, 1) := by decide +kernel
theorem dX1_findWays_60 : decode cX1_findWays 60 = .ok (.ifCond .ge 13, 3) := by decide +kernel
theorem dX1_findWays_63 : decode cX1_findWays 63 = .ok (.aload_n 0, 1) := by decide +kernel
theorem dX1_findWays_64 : decode cX1_findWays 64 = .ok (.getfield 19, 3) := by decide +kernel
theorem dX1_findWays_67 : decode cX1_findWays 67 = .ok (.iload_n 1, 1) := by decide +kernel
theorem dX1_findWays_68 : decode cX1_findWays 68 = .ok (.iaload, 1) := by decide +kernel
theorem dX1_findWays_69 : decode cX1_findWays 69 = .ok (.ineg, 1) := by decide +kernel
theorem dX1_findWays_70 : decode cX1_findWays 70 = .ok (.goto 9, 3) := by decide +kernel
theorem dX1_findWays_73 : decode cX1_findWays 73 = .ok (.aload_n 0, 1) := by decide +kernel
theorem dX1_findWays_74 : decode cX1_findWays 74 = .ok (.getfield 19, 3) := by decide +kernel
theorem dX1_findWays_77 : decode cX1_findWays 77 = .ok (.iload_n 1, 1) := by decide +kernel
theorem dX1_findWays_78 : decode cX1_findWays 78 = .ok (.iaload, 1) := by decide +kernel
theorem dX1_findWays_79 : decode cX1_findWays 79 = .ok (.istore_n 2, 1) := by decide +kernel
theorem dX1_findWays_80 : decode cX1_findWays 80 = .ok (.aload_n 0, 1) := by decide +kernel
theorem dX1_findWays_81 : decode cX1_findWays 81 = .ok (.bipush 7, 2) := by decide +kernel
theorem dX1_findWays_83 : decode cX1_findWays 83 = .ok (.aload_n 0, 1) := by decide +kernel
theorem dX1_findWays_84 : decode cX1_findWays 84 = .ok (.getfield 7, 3) := by decide +kernel
theorem dX1_findWays_87 : decode cX1_findWays 87 = .ok (.iload_n 1, 1) := by decide +kernel
theorem dX1_findWays_88 : decode cX1_findWays 88 = .ok (.iaload, 1) := by decide +kernel
theorem dX1_findWays_89 : decode cX1_findWays 89 = .ok (.imul, 1) := by decide +kernel
theorem dX1_findWays_90 : decode cX1_findWays 90 = .ok (.aload_n 0, 1) := by decide +kernel
theorem dX1_findWays_91 : decode cX1_findWays 91 = .ok (.getfield 13, 3) := by decide +kernel
theorem dX1_findWays_94 : decode cX1_findWays 94 = .ok (.iload_n 1, 1) := by decide +kernel
theorem dX1_findWays_95 : decode cX1_findWays 95 = .ok (.iaload, 1) := by decide +kernel
theorem dX1_findWays_96 : decode cX1_findWays 96 = .ok (.iadd, 1) := by decide +kernel
theorem dX1_findWays_97 : decode cX1_findWays 97 = .ok (.iload_n 2, 1) := by decide +kernel
theorem dX1_findWays_98 : decode cX1_findWays 98 = .ok (.iconst 1, 1) := by decide +kernel
theorem dX1_findWays_99 : decode cX1_findWays 99 = .ok (.iload_n 1, 1) := by decide +kernel
theorem dX1_findWays_100 : decode cX1_findWays 100 = .ok (.ishl, 1) := by decide +kernel
theorem dX1_findWays_101 : decode cX1_findWays 101 = .ok (.invokevirtual 89, 3) := by decide +kernel
theorem dX1_findWays_104 : decode cX1_findWays 104 = .ok (.aload_n 0, 1) := by decide +kernel
theorem dX1_findWays_105 : decode cX1_findWays 105 = .ok (.bipush 7, 2) := by decide +kernel
theorem dX1_findWays_107 : decode cX1_findWays 107 = .ok (.aload_n 0, 1) := by decide +kernel
theorem dX1_findWays_108 : decode cX1_findWays 108 = .ok (.getfield 13, 3) := by decide +kernel
theorem dX1_findWays_111 : decode cX1_findWays 111 = .ok (.iload_n 1, 1) := by decide +kernel
theorem dX1_findWays_112 : decode cX1_findWays 112 = .ok (.iaload, 1) := by decide +kernel
theorem dX1_findWays_113 : decode cX1_findWays 113 = .ok (.imul, 1) := by decide +kernel
theorem dX1_findWays_114 : decode cX1_findWays 114 = .ok (.aload_n 0, 1) := by decide +kernel
theorem dX1_findWays_115 : decode cX1_findWays 115 = .ok (.getfield 7, 3) := by decide +kernel
theorem dX1_findWays_118 : decode cX1_findWays 118 = .ok (.iload_n 1, 1) := by decide +kernel
theorem dX1_findWays_119 : decode cX1_findWays 119 = .ok (.iaload, 1) := by decide +kernel
theorem dX1_findWays_120 : decode cX1_findWays 120 = .ok (.iadd, 1) := by decide +kernel
theorem dX1_findWays_121 : decode cX1_findWays 121 = .ok (.iload_n 2, 1) := by decide +kernel
theorem dX1_findWays_122 : decode cX1_findWays 122 = .ok (.iconst 1, 1) := by decide +kernel
theorem dX1_findWays_123 : decode cX1_findWays 123 = .ok (.iload_n 1, 1) := by decide +kernel
theorem dX1_findWays_124 : decode cX1_findWays 124 = .ok (.ishl, 1) := by decide +kernel
theorem dX1_findWays_125 : decode cX1_findWays 125 = .ok (.invokevirtual 89, 3) := by decide +kernel
theorem dX1_findWays_128 : decode cX1_findWays 128 = .ok (.iinc 1 1, 3) := by decide +kernel
theorem dX1_findWays_131 : decode cX1_findWays 131 = .ok (.goto (-85), 3) := by decide +kernel
theorem dX1_findWays_134 : decode cX1_findWays 134 = .ok (.iconst 0, 1) := by decide +kernel
theorem dX1_findWays_135 : decode cX1_findWays 135 = .ok (.istore_n 1, 1) := by decide +kernel
theorem dX1_findWays_136 : decode cX1_findWays 136 = .ok (.iload_n 1, 1) := by decide +kernel
theorem dX1_findWays_137 : decode cX1_findWays 137 = .ok (.aload_n 0, 1) := by decide +kernel
theorem dX1_findWays_138 : decode cX1_findWays 138 = .ok (.getfield 37, 3) := by decide +kernel
theorem dX1_findWays_141 : decode cX1_findWays 141 = .ok (.if_icmp .ge 77, 3) := by decide +kernel
theorem dX1_findWays_144 : decode cX1_findWays 144 = .ok (.iconst 0, 1) := by decide +kernel
theorem dX1_findWays_145 : decode cX1_findWays 145 = .ok (.istore_n 2, 1) := by decide +kernel
theorem dX1_findWays_146 : decode cX1_findWays 146 = .ok (.iload_n 2, 1) := by decide +kernel
theorem dX1_findWays_147 : decode cX1_findWays 147 = .ok (.bipush 49, 2) := by decide +kernel
theorem dX1_findWays_149 : decode cX1_findWays 149 = .ok (.if_icmp .ge 63, 3) := by decide +kernel
theorem dX1_findWays_152 : decode cX1_findWays 152 = .ok (.bipush 7, 2) := by decide +kernel
theorem dX1_findWays_154 : decode cX1_findWays 154 = .ok (.iload_n 2, 1) := by decide +kernel
theorem dX1_findWays_155 : decode cX1_findWays 155 = .ok (.bipush 7, 2) := by decide +kernel
theorem dX1_findWays_157 : decode cX1_findWays 157 = .ok (.idiv, 1) := by decide +kernel
theorem dX1_findWays_158 : decode cX1_findWays 158 = .ok (.imul, 1) := by decide +kernel
theorem dX1_findWays_159 : decode cX1_findWays 159 = .ok (.iload_n 1, 1) := by decide +kernel
theorem dX1_findWays_160 : decode cX1_findWays 160 = .ok (.iadd, 1) := by decide +kernel
theorem dX1_findWays_161 : decode cX1_findWays 161 = .ok (.istore_n 3, 1) := by decide +kernel
theorem dX1_findWays_162 : decode cX1_findWays 162 = .ok (.bipush 7, 2) := by decide +kernel
theorem dX1_findWays_164 : decode cX1_findWays 164 = .ok (.iload_n 1, 1) := by decide +kernel
theorem dX1_findWays_165 : decode cX1_findWays 165 = .ok (.imul, 1) := by decide +kernel
theorem dX1_findWays_166 : decode cX1_findWays 166 = .ok (.iload_n 2, 1) := by decide +kernel
theorem dX1_findWays_167 : decode cX1_findWays 167 = .ok (.bipush 7, 2) := by decide +kernel
theorem dX1_findWays_169 : decode cX1_findWays 169 = .ok (.irem, 1) := by decide +kernel
theorem dX1_findWays_170 : decode cX1_findWays 170 = .ok (.iadd, 1) := by decide +kernel
theorem dX1_findWays_171 : decode cX1_findWays 171 = .ok (.istore 4, 2) := by decide +kernel
theorem dX1_findWays_173 : decode cX1_findWays 173 = .ok (.aload_n 0, 1) := by decide +kernel
theorem dX1_findWays_174 : decode cX1_findWays 174 = .ok (.iload_n 2, 1) := by decide +kernel
theorem dX1_findWays_175 : decode cX1_findWays 175 = .ok (.aload_n 0, 1) := by decide +kernel
theorem dX1_findWays_176 : decode cX1_findWays 176 = .ok (.getfield 22, 3) := by decide +kernel
theorem dX1_findWays_179 : decode cX1_findWays 179 = .ok (.iload_n 3, 1) := by decide +kernel
theorem dX1_findWays_180 : decode cX1_findWays 180 = .ok (.iaload, 1) := by decide +kernel
theorem dX1_findWays_181 : decode cX1_findWays 181 = .ok (.aload_n 0, 1) := by decide +kernel
theorem dX1_findWays_182 : decode cX1_findWays 182 = .ok (.getfield 22, 3) := by decide +kernel
theorem dX1_findWays_185 : decode cX1_findWays 185 = .ok (.iload 4, 2) := by decide +kernel
theorem dX1_findWays_187 : decode cX1_findWays 187 = .ok (.iaload, 1) := by decide +kernel
theorem dX1_findWays_188 : decode cX1_findWays 188 = .ok (.iadd, 1) := by decide +kernel
theorem dX1_findWays_189 : decode cX1_findWays 189 = .ok (.aload_n 0, 1) := by decide +kernel
theorem dX1_findWays_190 : decode cX1_findWays 190 = .ok (.getfield 25, 3) := by decide +kernel
theorem dX1_findWays_193 : decode cX1_findWays 193 = .ok (.iload_n 3, 1) := by decide +kernel
theorem dX1_findWays_194 : decode cX1_findWays 194 = .ok (.iaload, 1) := by decide +kernel
theorem dX1_findWays_195 : decode cX1_findWays 195 = .ok (.aload_n 0, 1) := by decide +kernel
theorem dX1_findWays_196 : decode cX1_findWays 196 = .ok (.getfield 25, 3) := by decide +kernel
theorem dX1_findWays_199 : decode cX1_findWays 199 = .ok (.iload 4, 2) := by decide +kernel
theorem dX1_findWays_201 : decode cX1_findWays 201 = .ok (.iaload, 1) := by decide +kernel
theorem dX1_findWays_202 : decode cX1_findWays 202 = .ok (.ixor, 1) := by decide +kernel
theorem dX1_findWays_203 : decode cX1_findWays 203 = .ok (.invokevirtual 89, 3) := by decide +kernel
theorem dX1_findWays_206 : decode cX1_findWays 206 = .ok (.iinc 2 1, 3) := by decide +kernel
theorem dX1_findWays_209 : decode cX1_findWays 209 = .ok (.goto (-63), 3) := by decide +kernel
theorem dX1_findWays_212 : decode cX1_findWays 212 = .ok (.iinc 1 1, 3) := by decide +kernel
theorem dX1_findWays_215 : decode cX1_findWays 215 = .ok (.goto (-79), 3) := by decide +kernel
theorem dX1_findWays_218 : decode cX1_findWays 218 = .ok (.return_, 1) := by decide +kernel
abbrev cX1_take : ByteArray := prog_1_method_28_code
def yX1_take : MethodName := ⟨RX1, "take", "(III)V"⟩
theorem dX1_take_0 : decode cX1_take 0 = .ok (.iload_n 2, 1) := by decide +kernel
theorem dX1_take_1 : decode cX1_take 1 = .ok (.aload_n 0, 1) := by decide +kernel
theorem dX1_take_2 : decode cX1_take 2 = .ok (.getfield 22, 3) := by decide +kernel
theorem dX1_take_5 : decode cX1_take 5 = .ok (.iload_n 1, 1) := by decide +kernel
theorem dX1_take_6 : decode cX1_take 6 = .ok (.iaload, 1) := by decide +kernel
theorem dX1_take_7 : decode cX1_take 7 = .ok (.if_icmp .ge 17, 3) := by decide +kernel
theorem dX1_take_10 : decode cX1_take 10 = .ok (.aload_n 0, 1) := by decide +kernel
theorem dX1_take_11 : decode cX1_take 11 = .ok (.getfield 22, 3) := by decide +kernel
theorem dX1_take_14 : decode cX1_take 14 = .ok (.iload_n 1, 1) := by decide +kernel
theorem dX1_take_15 : decode cX1_take 15 = .ok (.iload_n 2, 1) := by decide +kernel
theorem dX1_take_16 : decode cX1_take 16 = .ok (.iastore, 1) := by decide +kernel
theorem dX1_take_17 : decode cX1_take 17 = .ok (.aload_n 0, 1) := by decide +kernel
theorem dX1_take_18 : decode cX1_take 18 = .ok (.getfield 25, 3) := by decide +kernel
theorem dX1_take_21 : decode cX1_take 21 = .ok (.iload_n 1, 1) := by decide +kernel
theorem dX1_take_22 : decode cX1_take 22 = .ok (.iload_n 3, 1) := by decide +kernel
theorem dX1_take_23 : decode cX1_take 23 = .ok (.iastore, 1) := by decide +kernel
theorem dX1_take_24 : decode cX1_take 24 = .ok (.return_, 1) := by decide +kernel
abbrev cX1_pairUp : ByteArray := prog_1_method_29_code
def yX1_pairUp : MethodName := ⟨RX1, "pairUp", "(I)V"⟩
theorem dX1_pairUp_0 : decode cX1_pairUp 0 = .ok (.aload_n 0, 1) := by decide +kernel
theorem dX1_pairUp_1 : decode cX1_pairUp 1 = .ok (.getfield 28, 3) := by decide +kernel
theorem dX1_pairUp_4 : decode cX1_pairUp 4 = .ok (.iconst 0, 1) := by decide +kernel
theorem dX1_pairUp_5 : decode cX1_pairUp 5 = .ok (.iconst 0, 1) := by decide +kernel
theorem dX1_pairUp_6 : decode cX1_pairUp 6 = .ok (.iastore, 1) := by decide +kernel
theorem dX1_pairUp_7 : decode cX1_pairUp 7 = .ok (.aload_n 0, 1) := by decide +kernel
theorem dX1_pairUp_8 : decode cX1_pairUp 8 = .ok (.getfield 31, 3) := by decide +kernel
theorem dX1_pairUp_11 : decode cX1_pairUp 11 = .ok (.iconst 0, 1) := by decide +kernel
theorem dX1_pairUp_12 : decode cX1_pairUp 12 = .ok (.iconst 0, 1) := by decide +kernel
theorem dX1_pairUp_13 : decode cX1_pairUp 13 = .ok (.iastore, 1) := by decide +kernel
theorem dX1_pairUp_14 : decode cX1_pairUp 14 = .ok (.iconst 1, 1) := by decide +kernel
theorem dX1_pairUp_15 : decode cX1_pairUp 15 = .ok (.istore_n 2, 1) := by decide +kernel
theorem dX1_pairUp_16 : decode cX1_pairUp 16 = .ok (.iload_n 2, 1) := by decide +kernel
theorem dX1_pairUp_17 : decode cX1_pairUp 17 = .ok (.iload_n 1, 1) := by decide +kernel
theorem dX1_pairUp_18 : decode cX1_pairUp 18 = .ok (.if_icmp .gt 82, 3) := by decide +kernel
theorem dX1_pairUp_21 : decode cX1_pairUp 21 = .ok (.aload_n 0, 1) := by decide +kernel
theorem dX1_pairUp_22 : decode cX1_pairUp 22 = .ok (.getfield 28, 3) := by decide +kernel
theorem dX1_pairUp_25 : decode cX1_pairUp 25 = .ok (.iload_n 2, 1) := by decide +kernel
theorem dX1_pairUp_26 : decode cX1_pairUp 26 = .ok (.ldc 88, 2) := by decide +kernel
theorem dX1_pairUp_28 : decode cX1_pairUp 28 = .ok (.iastore, 1) := by decide +kernel
theorem dX1_pairUp_29 : decode cX1_pairUp 29 = .ok (.aload_n 0, 1) := by decide +kernel
theorem dX1_pairUp_30 : decode cX1_pairUp 30 = .ok (.getfield 31, 3) := by decide +kernel
theorem dX1_pairUp_33 : decode cX1_pairUp 33 = .ok (.iload_n 2, 1) := by decide +kernel
theorem dX1_pairUp_34 : decode cX1_pairUp 34 = .ok (.iconst 0, 1) := by decide +kernel
theorem dX1_pairUp_35 : decode cX1_pairUp 35 = .ok (.iastore, 1) := by decide +kernel
theorem dX1_pairUp_36 : decode cX1_pairUp 36 = .ok (.iload_n 2, 1) := by decide +kernel
theorem dX1_pairUp_37 : decode cX1_pairUp 37 = .ok (.iload_n 1, 1) := by decide +kernel
theorem dX1_pairUp_38 : decode cX1_pairUp 38 = .ok (.iconst (-1), 1) := by decide +kernel
theorem dX1_pairUp_39 : decode cX1_pairUp 39 = .ok (.ixor, 1) := by decide +kernel
theorem dX1_pairUp_40 : decode cX1_pairUp 40 = .ok (.iand, 1) := by decide +kernel
theorem dX1_pairUp_41 : decode cX1_pairUp 41 = .ok (.ifCond .ne 53, 3) := by decide +kernel
theorem dX1_pairUp_44 : decode cX1_pairUp 44 = .ok (.bipush 6, 2) := by decide +kernel
theorem dX1_pairUp_46 : decode cX1_pairUp 46 = .ok (.istore_n 3, 1) := by decide +kernel
theorem dX1_pairUp_47 : decode cX1_pairUp 47 = .ok (.iload_n 2, 1) := by decide +kernel
theorem dX1_pairUp_48 : decode cX1_pairUp 48 = .ok (.iload_n 3, 1) := by decide +kernel
theorem dX1_pairUp_49 : decode cX1_pairUp 49 = .ok (.ishr, 1) := by decide +kernel
theorem dX1_pairUp_50 : decode cX1_pairUp 50 = .ok (.iconst 1, 1) := by decide +kernel
theorem dX1_pairUp_51 : decode cX1_pairUp 51 = .ok (.iand, 1) := by decide +kernel
theorem dX1_pairUp_52 : decode cX1_pairUp 52 = .ok (.ifCond .ne 9, 3) := by decide +kernel
theorem dX1_pairUp_55 : decode cX1_pairUp 55 = .ok (.iinc 3 (-1), 3) := by decide +kernel
theorem dX1_pairUp_58 : decode cX1_pairUp 58 = .ok (.goto (-11), 3) := by decide +kernel
theorem dX1_pairUp_61 : decode cX1_pairUp 61 = .ok (.iconst 0, 1) := by decide +kernel
theorem dX1_pairUp_62 : decode cX1_pairUp 62 = .ok (.istore 4, 2) := by decide +kernel
theorem dX1_pairUp_64 : decode cX1_pairUp 64 = .ok (.iload 4, 2) := by decide +kernel
theorem dX1_pairUp_66 : decode cX1_pairUp 66 = .ok (.iload_n 3, 1) := by decide +kernel
theorem dX1_pairUp_67 : decode cX1_pairUp 67 = .ok (.if_icmp .ge 27, 3) := by decide +kernel
theorem dX1_pairUp_70 : decode cX1_pairUp 70 = .ok (.iload_n 2, 1) := by decide +kernel
theorem dX1_pairUp_71 : decode cX1_pairUp 71 = .ok (.iload 4, 2) := by decide +kernel
theorem dX1_pairUp_73 : decode cX1_pairUp 73 = .ok (.ishr, 1) := by decide +kernel
theorem dX1_pairUp_74 : decode cX1_pairUp 74 = .ok (.iconst 1, 1) := by decide +kernel
theorem dX1_pairUp_75 : decode cX1_pairUp 75 = .ok (.iand, 1) := by decide +kernel
theorem dX1_pairUp_76 : decode cX1_pairUp 76 = .ok (.iconst 1, 1) := by decide +kernel
theorem dX1_pairUp_77 : decode cX1_pairUp 77 = .ok (.if_icmp .ne 11, 3) := by decide +kernel
theorem dX1_pairUp_80 : decode cX1_pairUp 80 = .ok (.aload_n 0, 1) := by decide +kernel
theorem dX1_pairUp_81 : decode cX1_pairUp 81 = .ok (.iload_n 2, 1) := by decide +kernel
theorem dX1_pairUp_82 : decode cX1_pairUp 82 = .ok (.iload_n 3, 1) := by decide +kernel
theorem dX1_pairUp_83 : decode cX1_pairUp 83 = .ok (.iload 4, 2) := by decide +kernel
theorem dX1_pairUp_85 : decode cX1_pairUp 85 = .ok (.invokevirtual 93, 3) := by decide +kernel
theorem dX1_pairUp_88 : decode cX1_pairUp 88 = .ok (.iinc 4 1, 3) := by decide +kernel
theorem dX1_pairUp_91 : decode cX1_pairUp 91 = .ok (.goto (-27), 3) := by decide +kernel
theorem dX1_pairUp_94 : decode cX1_pairUp 94 = .ok (.iinc 2 1, 3) := by decide +kernel
theorem dX1_pairUp_97 : decode cX1_pairUp 97 = .ok (.goto (-81), 3) := by decide +kernel
theorem dX1_pairUp_100 : decode cX1_pairUp 100 = .ok (.return_, 1) := by decide +kernel
abbrev cX1_pair : ByteArray := prog_1_method_30_code
def yX1_pair : MethodName := ⟨RX1, "pair", "(III)V"⟩
theorem dX1_pair_0 : decode cX1_pair 0 = .ok (.iload_n 1, 1) := by decide +kernel
theorem dX1_pair_1 : decode cX1_pair 1 = .ok (.iconst 1, 1) := by decide +kernel
theorem dX1_pair_2 : decode cX1_pair 2 = .ok (.iload_n 2, 1) := by decide +kernel
theorem dX1_pair_3 : decode cX1_pair 3 = .ok (.ishl, 1) := by decide +kernel
theorem dX1_pair_4 : decode cX1_pair 4 = .ok (.iconst (-1), 1) := by decide +kernel
theorem dX1_pair_5 : decode cX1_pair 5 = .ok (.ixor, 1) := by decide +kernel
theorem dX1_pair_6 : decode cX1_pair 6 = .ok (.iand, 1) := by decide +kernel
theorem dX1_pair_7 : decode cX1_pair 7 = .ok (.iconst 1, 1) := by decide +kernel
theorem dX1_pair_8 : decode cX1_pair 8 = .ok (.iload_n 3, 1) := by decide +kernel
theorem dX1_pair_9 : decode cX1_pair 9 = .ok (.ishl, 1) := by decide +kernel
theorem dX1_pair_10 : decode cX1_pair 10 = .ok (.iconst (-1), 1) := by decide +kernel
theorem dX1_pair_11 : decode cX1_pair 11 = .ok (.ixor, 1) := by decide +kernel
theorem dX1_pair_12 : decode cX1_pair 12 = .ok (.iand, 1) := by decide +kernel
theorem dX1_pair_13 : decode cX1_pair 13 = .ok (.istore 4, 2) := by decide +kernel
theorem dX1_pair_15 : decode cX1_pair 15 = .ok (.bipush 7, 2) := by decide +kernel
theorem dX1_pair_17 : decode cX1_pair 17 = .ok (.iload_n 2, 1) := by decide +kernel
theorem dX1_pair_18 : decode cX1_pair 18 = .ok (.imul, 1) := by decide +kernel
theorem dX1_pair_19 : decode cX1_pair 19 = .ok (.iload_n 3, 1) := by decide +kernel
theorem dX1_pair_20 : decode cX1_pair 20 = .ok (.iadd, 1) := by decide +kernel
theorem dX1_pair_21 : decode cX1_pair 21 = .ok (.istore 5, 2) := by decide +kernel
theorem dX1_pair_23 : decode cX1_pair 23 = .ok (.aload_n 0, 1) := by decide +kernel
theorem dX1_pair_24 : decode cX1_pair 24 = .ok (.getfield 22, 3) := by decide +kernel
theorem dX1_pair_27 : decode cX1_pair 27 = .ok (.iload 5, 2) := by decide +kernel
theorem dX1_pair_29 : decode cX1_pair 29 = .ok (.iaload, 1) := by decide +kernel
theorem dX1_pair_30 : decode cX1_pair 30 = .ok (.ldc 88, 2) := by decide +kernel
theorem dX1_pair_32 : decode cX1_pair 32 = .ok (.if_icmp .ge 81, 3) := by decide +kernel
theorem dX1_pair_35 : decode cX1_pair 35 = .ok (.aload_n 0, 1) := by decide +kernel
theorem dX1_pair_36 : decode cX1_pair 36 = .ok (.getfield 28, 3) := by decide +kernel
theorem dX1_pair_39 : decode cX1_pair 39 = .ok (.iload 4, 2) := by decide +kernel
theorem dX1_pair_41 : decode cX1_pair 41 = .ok (.iaload, 1) := by decide +kernel
theorem dX1_pair_42 : decode cX1_pair 42 = .ok (.ldc 88, 2) := by decide +kernel
theorem dX1_pair_44 : decode cX1_pair 44 = .ok (.if_icmp .ge 69, 3) := by decide +kernel
theorem dX1_pair_47 : decode cX1_pair 47 = .ok (.aload_n 0, 1) := by decide +kernel
theorem dX1_pair_48 : decode cX1_pair 48 = .ok (.getfield 28, 3) := by decide +kernel
theorem dX1_pair_51 : decode cX1_pair 51 = .ok (.iload 4, 2) := by decide +kernel
theorem dX1_pair_53 : decode cX1_pair 53 = .ok (.iaload, 1) := by decide +kernel
theorem dX1_pair_54 : decode cX1_pair 54 = .ok (.aload_n 0, 1) := by decide +kernel
theorem dX1_pair_55 : decode cX1_pair 55 = .ok (.getfield 22, 3) := by decide +kernel
theorem dX1_pair_58 : decode cX1_pair 58 = .ok (.iload 5, 2) := by decide +kernel
theorem dX1_pair_60 : decode cX1_pair 60 = .ok (.iaload, 1) := by decide +kernel
theorem dX1_pair_61 : decode cX1_pair 61 = .ok (.iadd, 1) := by decide +kernel
theorem dX1_pair_62 : decode cX1_pair 62 = .ok (.aload_n 0, 1) := by decide +kernel
theorem dX1_pair_63 : decode cX1_pair 63 = .ok (.getfield 28, 3) := by decide +kernel
theorem dX1_pair_66 : decode cX1_pair 66 = .ok (.iload_n 1, 1) := by decide +kernel
theorem dX1_pair_67 : decode cX1_pair 67 = .ok (.iaload, 1) := by decide +kernel
theorem dX1_pair_68 : decode cX1_pair 68 = .ok (.if_icmp .ge 45, 3) := by decide +kernel
theorem dX1_pair_71 : decode cX1_pair 71 = .ok (.aload_n 0, 1) := by decide +kernel
theorem dX1_pair_72 : decode cX1_pair 72 = .ok (.getfield 28, 3) := by decide +kernel
theorem dX1_pair_75 : decode cX1_pair 75 = .ok (.iload_n 1, 1) := by decide +kernel
theorem dX1_pair_76 : decode cX1_pair 76 = .ok (.aload_n 0, 1) := by decide +kernel
theorem dX1_pair_77 : decode cX1_pair 77 = .ok (.getfield 28, 3) := by decide +kernel
theorem dX1_pair_80 : decode cX1_pair 80 = .ok (.iload 4, 2) := by decide +kernel
theorem dX1_pair_82 : decode cX1_pair 82 = .ok (.iaload, 1) := by decide +kernel
theorem dX1_pair_83 : decode cX1_pair 83 = .ok (.aload_n 0, 1) := by decide +kernel
theorem dX1_pair_84 : decode cX1_pair 84 = .ok (.getfield 22, 3) := by decide +kernel
theorem dX1_pair_87 : decode cX1_pair 87 = .ok (.iload 5, 2) := by decide +kernel
theorem dX1_pair_89 : decode cX1_pair 89 = .ok (.iaload, 1) := by decide +kernel
theorem dX1_pair_90 : decode cX1_pair 90 = .ok (.iadd, 1) := by decide +kernel
theorem dX1_pair_91 : decode cX1_pair 91 = .ok (.iastore, 1) := by decide +kernel
theorem dX1_pair_92 : decode cX1_pair 92 = .ok (.aload_n 0, 1) := by decide +kernel
theorem dX1_pair_93 : decode cX1_pair 93 = .ok (.getfield 31, 3) := by decide +kernel
theorem dX1_pair_96 : decode cX1_pair 96 = .ok (.iload_n 1, 1) := by decide +kernel
theorem dX1_pair_97 : decode cX1_pair 97 = .ok (.aload_n 0, 1) := by decide +kernel
theorem dX1_pair_98 : decode cX1_pair 98 = .ok (.getfield 31, 3) := by decide +kernel
theorem dX1_pair_101 : decode cX1_pair 101 = .ok (.iload 4, 2) := by decide +kernel
theorem dX1_pair_103 : decode cX1_pair 103 = .ok (.iaload, 1) := by decide +kernel
theorem dX1_pair_104 : decode cX1_pair 104 = .ok (.aload_n 0, 1) := by decide +kernel
theorem dX1_pair_105 : decode cX1_pair 105 = .ok (.getfield 25, 3) := by decide +kernel
theorem dX1_pair_108 : decode cX1_pair 108 = .ok (.iload 5, 2) := by decide +kernel
theorem dX1_pair_110 : decode cX1_pair 110 = .ok (.iaload, 1) := by decide +kernel
theorem dX1_pair_111 : decode cX1_pair 111 = .ok (.ixor, 1) := by decide +kernel
theorem dX1_pair_112 : decode cX1_pair 112 = .ok (.iastore, 1) := by decide +kernel
theorem dX1_pair_113 : decode cX1_pair 113 = .ok (.return_, 1) := by decide +kernel
abbrev cX1_weightOf : ByteArray := prog_1_method_20_code
def yX1_weightOf : MethodName := ⟨RX1, "weightOf", "(I)I"⟩
theorem dX1_weightOf_0 : decode cX1_weightOf 0 = .ok (.iconst 0, 1) := by decide +kernel
theorem dX1_weightOf_1 : decode cX1_weightOf 1 = .ok (.istore_n 2, 1) := by decide +kernel
theorem dX1_weightOf_2 : decode cX1_weightOf 2 = .ok (.iconst 0, 1) := by decide +kernel
theorem dX1_weightOf_3 : decode cX1_weightOf 3 = .ok (.istore_n 3, 1) := by decide +kernel
theorem dX1_weightOf_4 : decode cX1_weightOf 4 = .ok (.iload_n 3, 1) := by decide +kernel
theorem dX1_weightOf_5 : decode cX1_weightOf 5 = .ok (.aload_n 0, 1) := by decide +kernel
theorem dX1_weightOf_6 : decode cX1_weightOf 6 = .ok (.getfield 45, 3) := by decide +kernel
theorem dX1_weightOf_9 : decode cX1_weightOf 9 = .ok (.if_icmp .ge 31, 3) := by decide +kernel
theorem dX1_weightOf_12 : decode cX1_weightOf 12 = .ok (.iload_n 2, 1) := by decide +kernel
theorem dX1_weightOf_13 : decode cX1_weightOf 13 = .ok (.iload_n 1, 1) := by decide +kernel
theorem dX1_weightOf_14 : decode cX1_weightOf 14 = .ok (.iload_n 3, 1) := by decide +kernel
theorem dX1_weightOf_15 : decode cX1_weightOf 15 = .ok (.ishr, 1) := by decide +kernel
theorem dX1_weightOf_16 : decode cX1_weightOf 16 = .ok (.iconst 1, 1) := by decide +kernel
theorem dX1_weightOf_17 : decode cX1_weightOf 17 = .ok (.iand, 1) := by decide +kernel
theorem dX1_weightOf_18 : decode cX1_weightOf 18 = .ok (.iconst 1, 1) := by decide +kernel
theorem dX1_weightOf_19 : decode cX1_weightOf 19 = .ok (.if_icmp .ne 12, 3) := by decide +kernel
theorem dX1_weightOf_22 : decode cX1_weightOf 22 = .ok (.aload_n 0, 1) := by decide +kernel
theorem dX1_weightOf_23 : decode cX1_weightOf 23 = .ok (.getfield 16, 3) := by decide +kernel
theorem dX1_weightOf_26 : decode cX1_weightOf 26 = .ok (.iload_n 3, 1) := by decide +kernel
theorem dX1_weightOf_27 : decode cX1_weightOf 27 = .ok (.iaload, 1) := by decide +kernel
theorem dX1_weightOf_28 : decode cX1_weightOf 28 = .ok (.goto 4, 3) := by decide +kernel
theorem dX1_weightOf_31 : decode cX1_weightOf 31 = .ok (.iconst 0, 1) := by decide +kernel
theorem dX1_weightOf_32 : decode cX1_weightOf 32 = .ok (.iadd, 1) := by decide +kernel
theorem dX1_weightOf_33 : decode cX1_weightOf 33 = .ok (.istore_n 2, 1) := by decide +kernel
theorem dX1_weightOf_34 : decode cX1_weightOf 34 = .ok (.iinc 3 1, 3) := by decide +kernel
theorem dX1_weightOf_37 : decode cX1_weightOf 37 = .ok (.goto (-33), 3) := by decide +kernel
theorem dX1_weightOf_40 : decode cX1_weightOf 40 = .ok (.iload_n 2, 1) := by decide +kernel
theorem dX1_weightOf_41 : decode cX1_weightOf 41 = .ok (.ireturn, 1) := by decide +kernel
abbrev cX1_bestSet : ByteArray := prog_1_method_12_code
def yX1_bestSet : MethodName := ⟨RX1, "bestSet", "()I"⟩
theorem dX1_bestSet_0 : decode cX1_bestSet 0 = .ok (.aload_n 0, 1) := by decide +kernel
theorem dX1_bestSet_1 : decode cX1_bestSet 1 = .ok (.invokevirtual 65, 3) := by decide +kernel
theorem dX1_bestSet_4 : decode cX1_bestSet 4 = .ok (.aload_n 0, 1) := by decide +kernel
theorem dX1_bestSet_5 : decode cX1_bestSet 5 = .ok (.aload_n 0, 1) := by decide +kernel
theorem dX1_bestSet_6 : decode cX1_bestSet 6 = .ok (.getfield 51, 3) := by decide +kernel
theorem dX1_bestSet_9 : decode cX1_bestSet 9 = .ok (.invokevirtual 68, 3) := by decide +kernel
theorem dX1_bestSet_12 : decode cX1_bestSet 12 = .ok (.ireturn, 1) := by decide +kernel
abbrev cX1_bestWith : ByteArray := prog_1_method_13_code
def yX1_bestWith : MethodName := ⟨RX1, "bestWith", "(I)I"⟩
theorem dX1_bestWith_0 : decode cX1_bestWith 0 = .ok (.aload_n 0, 1) := by decide +kernel
theorem dX1_bestWith_1 : decode cX1_bestWith 1 = .ok (.iload_n 1, 1) := by decide +kernel
theorem dX1_bestWith_2 : decode cX1_bestWith 2 = .ok (.invokevirtual 48, 3) := by decide +kernel
theorem dX1_bestWith_5 : decode cX1_bestWith 5 = .ok (.ifCond .ne 7, 3) := by decide +kernel
theorem dX1_bestWith_8 : decode cX1_bestWith 8 = .ok (.sipush (-2000), 3) := by decide +kernel
theorem dX1_bestWith_11 : decode cX1_bestWith 11 = .ok (.ireturn, 1) := by decide +kernel
theorem dX1_bestWith_12 : decode cX1_bestWith 12 = .ok (.aload_n 0, 1) := by decide +kernel
theorem dX1_bestWith_13 : decode cX1_bestWith 13 = .ok (.invokevirtual 65, 3) := by decide +kernel
theorem dX1_bestWith_16 : decode cX1_bestWith 16 = .ok (.aload_n 0, 1) := by decide +kernel
theorem dX1_bestWith_17 : decode cX1_bestWith 17 = .ok (.getfield 19, 3) := by decide +kernel
theorem dX1_bestWith_20 : decode cX1_bestWith 20 = .ok (.iload_n 1, 1) := by decide +kernel
theorem dX1_bestWith_21 : decode cX1_bestWith 21 = .ok (.dup2, 1) := by decide +kernel
theorem dX1_bestWith_22 : decode cX1_bestWith 22 = .ok (.iaload, 1) := by decide +kernel
theorem dX1_bestWith_23 : decode cX1_bestWith 23 = .ok (.ldc 74, 2) := by decide +kernel
theorem dX1_bestWith_25 : decode cX1_bestWith 25 = .ok (.isub, 1) := by decide +kernel
theorem dX1_bestWith_26 : decode cX1_bestWith 26 = .ok (.iastore, 1) := by decide +kernel
theorem dX1_bestWith_27 : decode cX1_bestWith 27 = .ok (.aload_n 0, 1) := by decide +kernel
theorem dX1_bestWith_28 : decode cX1_bestWith 28 = .ok (.aload_n 0, 1) := by decide +kernel
theorem dX1_bestWith_29 : decode cX1_bestWith 29 = .ok (.getfield 51, 3) := by decide +kernel
theorem dX1_bestWith_32 : decode cX1_bestWith 32 = .ok (.invokevirtual 68, 3) := by decide +kernel
theorem dX1_bestWith_35 : decode cX1_bestWith 35 = .ok (.istore_n 2, 1) := by decide +kernel
theorem dX1_bestWith_36 : decode cX1_bestWith 36 = .ok (.iload_n 2, 1) := by decide +kernel
theorem dX1_bestWith_37 : decode cX1_bestWith 37 = .ok (.ifCond .lt 11, 3) := by decide +kernel
theorem dX1_bestWith_40 : decode cX1_bestWith 40 = .ok (.iload_n 2, 1) := by decide +kernel
theorem dX1_bestWith_41 : decode cX1_bestWith 41 = .ok (.iload_n 1, 1) := by decide +kernel
theorem dX1_bestWith_42 : decode cX1_bestWith 42 = .ok (.ishr, 1) := by decide +kernel
theorem dX1_bestWith_43 : decode cX1_bestWith 43 = .ok (.iconst 1, 1) := by decide +kernel
theorem dX1_bestWith_44 : decode cX1_bestWith 44 = .ok (.iand, 1) := by decide +kernel
theorem dX1_bestWith_45 : decode cX1_bestWith 45 = .ok (.ifCond .ne 9, 3) := by decide +kernel
theorem dX1_bestWith_48 : decode cX1_bestWith 48 = .ok (.sipush (-1000), 3) := by decide +kernel
theorem dX1_bestWith_51 : decode cX1_bestWith 51 = .ok (.goto 8, 3) := by decide +kernel
theorem dX1_bestWith_54 : decode cX1_bestWith 54 = .ok (.aload_n 0, 1) := by decide +kernel
theorem dX1_bestWith_55 : decode cX1_bestWith 55 = .ok (.iload_n 2, 1) := by decide +kernel
theorem dX1_bestWith_56 : decode cX1_bestWith 56 = .ok (.invokevirtual 71, 3) := by decide +kernel
theorem dX1_bestWith_59 : decode cX1_bestWith 59 = .ok (.ireturn, 1) := by decide +kernel
abbrev cX1_bestWithout : ByteArray := prog_1_method_14_code
def yX1_bestWithout : MethodName := ⟨RX1, "bestWithout", "(I)I"⟩
theorem dX1_bestWithout_0 : decode cX1_bestWithout 0 = .ok (.aload_n 0, 1) := by decide +kernel
theorem dX1_bestWithout_1 : decode cX1_bestWithout 1 = .ok (.iload_n 1, 1) := by decide +kernel
theorem dX1_bestWithout_2 : decode cX1_bestWithout 2 = .ok (.invokevirtual 48, 3) := by decide +kernel
theorem dX1_bestWithout_5 : decode cX1_bestWithout 5 = .ok (.ifCond .ne 7, 3) := by decide +kernel
theorem dX1_bestWithout_8 : decode cX1_bestWithout 8 = .ok (.sipush (-2000), 3) := by decide +kernel
theorem dX1_bestWithout_11 : decode cX1_bestWithout 11 = .ok (.ireturn, 1) := by decide +kernel
theorem dX1_bestWithout_12 : decode cX1_bestWithout 12 = .ok (.aload_n 0, 1) := by decide +kernel
theorem dX1_bestWithout_13 : decode cX1_bestWithout 13 = .ok (.invokevirtual 65, 3) := by decide +kernel
theorem dX1_bestWithout_16 : decode cX1_bestWithout 16 = .ok (.aload_n 0, 1) := by decide +kernel
theorem dX1_bestWithout_17 : decode cX1_bestWithout 17 = .ok (.getfield 19, 3) := by decide +kernel
theorem dX1_bestWithout_20 : decode cX1_bestWithout 20 = .ok (.iload_n 1, 1) := by decide +kernel
theorem dX1_bestWithout_21 : decode cX1_bestWithout 21 = .ok (.dup2, 1) := by decide +kernel
theorem dX1_bestWithout_22 : decode cX1_bestWithout 22 = .ok (.iaload, 1) := by decide +kernel
theorem dX1_bestWithout_23 : decode cX1_bestWithout 23 = .ok (.ldc 74, 2) := by decide +kernel
theorem dX1_bestWithout_25 : decode cX1_bestWithout 25 = .ok (.iadd, 1) := by decide +kernel
theorem dX1_bestWithout_26 : decode cX1_bestWithout 26 = .ok (.iastore, 1) := by decide +kernel
theorem dX1_bestWithout_27 : decode cX1_bestWithout 27 = .ok (.aload_n 0, 1) := by decide +kernel
theorem dX1_bestWithout_28 : decode cX1_bestWithout 28 = .ok (.aload_n 0, 1) := by decide +kernel
theorem dX1_bestWithout_29 : decode cX1_bestWithout 29 = .ok (.getfield 51, 3) := by decide +kernel
theorem dX1_bestWithout_32 : decode cX1_bestWithout 32 = .ok (.invokevirtual 68, 3) := by decide +kernel
theorem dX1_bestWithout_35 : decode cX1_bestWithout 35 = .ok (.istore_n 2, 1) := by decide +kernel
theorem dX1_bestWithout_36 : decode cX1_bestWithout 36 = .ok (.iload_n 2, 1) := by decide +kernel
theorem dX1_bestWithout_37 : decode cX1_bestWithout 37 = .ok (.ifCond .lt 12, 3) := by decide +kernel
theorem dX1_bestWithout_40 : decode cX1_bestWithout 40 = .ok (.iload_n 2, 1) := by decide +kernel
theorem dX1_bestWithout_41 : decode cX1_bestWithout 41 = .ok (.iload_n 1, 1) := by decide +kernel
theorem dX1_bestWithout_42 : decode cX1_bestWithout 42 = .ok (.ishr, 1) := by decide +kernel
theorem dX1_bestWithout_43 : decode cX1_bestWithout 43 = .ok (.iconst 1, 1) := by decide +kernel
theorem dX1_bestWithout_44 : decode cX1_bestWithout 44 = .ok (.iand, 1) := by decide +kernel
theorem dX1_bestWithout_45 : decode cX1_bestWithout 45 = .ok (.iconst 1, 1) := by decide +kernel
theorem dX1_bestWithout_46 : decode cX1_bestWithout 46 = .ok (.if_icmp .ne 9, 3) := by decide +kernel
theorem dX1_bestWithout_49 : decode cX1_bestWithout 49 = .ok (.sipush (-1000), 3) := by decide +kernel
theorem dX1_bestWithout_52 : decode cX1_bestWithout 52 = .ok (.goto 8, 3) := by decide +kernel
theorem dX1_bestWithout_55 : decode cX1_bestWithout 55 = .ok (.aload_n 0, 1) := by decide +kernel
theorem dX1_bestWithout_56 : decode cX1_bestWithout 56 = .ok (.iload_n 2, 1) := by decide +kernel
theorem dX1_bestWithout_57 : decode cX1_bestWithout 57 = .ok (.invokevirtual 71, 3) := by decide +kernel
theorem dX1_bestWithout_60 : decode cX1_bestWithout 60 = .ok (.ireturn, 1) := by decide +kernel
abbrev cX1_between : ByteArray := prog_1_method_15_code
def yX1_between : MethodName := ⟨RX1, "between", "(II)I"⟩
theorem dX1_between_0 : decode cX1_between 0 = .ok (.aload_n 0, 1) := by decide +kernel
theorem dX1_between_1 : decode cX1_between 1 = .ok (.iload_n 1, 1) := by decide +kernel
theorem dX1_between_2 : decode cX1_between 2 = .ok (.invokevirtual 41, 3) := by decide +kernel
theorem dX1_between_5 : decode cX1_between 5 = .ok (.ifCond .eq 11, 3) := by decide +kernel
theorem dX1_between_8 : decode cX1_between 8 = .ok (.aload_n 0, 1) := by decide +kernel
theorem dX1_between_9 : decode cX1_between 9 = .ok (.iload_n 2, 1) := by decide +kernel
theorem dX1_between_10 : decode cX1_between 10 = .ok (.invokevirtual 41, 3) := by decide +kernel
theorem dX1_between_13 : decode cX1_between 13 = .ok (.ifCond .ne 7, 3) := by decide +kernel
theorem dX1_between_16 : decode cX1_between 16 = .ok (.sipush (-2000), 3) := by decide +kernel
theorem dX1_between_19 : decode cX1_between 19 = .ok (.ireturn, 1) := by decide +kernel
theorem dX1_between_20 : decode cX1_between 20 = .ok (.aload_n 0, 1) := by decide +kernel
theorem dX1_between_21 : decode cX1_between 21 = .ok (.invokevirtual 65, 3) := by decide +kernel
theorem dX1_between_24 : decode cX1_between 24 = .ok (.aload_n 0, 1) := by decide +kernel
theorem dX1_between_25 : decode cX1_between 25 = .ok (.iconst 1, 1) := by decide +kernel
theorem dX1_between_26 : decode cX1_between 26 = .ok (.iload_n 1, 1) := by decide +kernel
theorem dX1_between_27 : decode cX1_between 27 = .ok (.ishl, 1) := by decide +kernel
theorem dX1_between_28 : decode cX1_between 28 = .ok (.iconst 1, 1) := by decide +kernel
theorem dX1_between_29 : decode cX1_between 29 = .ok (.iload_n 2, 1) := by decide +kernel
theorem dX1_between_30 : decode cX1_between 30 = .ok (.ishl, 1) := by decide +kernel
theorem dX1_between_31 : decode cX1_between 31 = .ok (.ixor, 1) := by decide +kernel
theorem dX1_between_32 : decode cX1_between 32 = .ok (.invokevirtual 68, 3) := by decide +kernel
theorem dX1_between_35 : decode cX1_between 35 = .ok (.istore_n 3, 1) := by decide +kernel
theorem dX1_between_36 : decode cX1_between 36 = .ok (.iload_n 3, 1) := by decide +kernel
theorem dX1_between_37 : decode cX1_between 37 = .ok (.ifCond .ge 9, 3) := by decide +kernel
theorem dX1_between_40 : decode cX1_between 40 = .ok (.sipush (-1000), 3) := by decide +kernel
theorem dX1_between_43 : decode cX1_between 43 = .ok (.goto 8, 3) := by decide +kernel
theorem dX1_between_46 : decode cX1_between 46 = .ok (.aload_n 0, 1) := by decide +kernel
theorem dX1_between_47 : decode cX1_between 47 = .ok (.iload_n 3, 1) := by decide +kernel
theorem dX1_between_48 : decode cX1_between 48 = .ok (.invokevirtual 71, 3) := by decide +kernel
theorem dX1_between_51 : decode cX1_between 51 = .ok (.ireturn, 1) := by decide +kernel
abbrev cX1_postman : ByteArray := prog_1_method_16_code
def yX1_postman : MethodName := ⟨RX1, "postman", "()I"⟩
theorem dX1_postman_0 : decode cX1_postman 0 = .ok (.iconst 0, 1) := by decide +kernel
theorem dX1_postman_1 : decode cX1_postman 1 = .ok (.istore_n 1, 1) := by decide +kernel
theorem dX1_postman_2 : decode cX1_postman 2 = .ok (.iload_n 1, 1) := by decide +kernel
theorem dX1_postman_3 : decode cX1_postman 3 = .ok (.aload_n 0, 1) := by decide +kernel
theorem dX1_postman_4 : decode cX1_postman 4 = .ok (.getfield 45, 3) := by decide +kernel
theorem dX1_postman_7 : decode cX1_postman 7 = .ok (.if_icmp .ge 20, 3) := by decide +kernel
theorem dX1_postman_10 : decode cX1_postman 10 = .ok (.aload_n 0, 1) := by decide +kernel
theorem dX1_postman_11 : decode cX1_postman 11 = .ok (.getfield 16, 3) := by decide +kernel
theorem dX1_postman_14 : decode cX1_postman 14 = .ok (.iload_n 1, 1) := by decide +kernel
theorem dX1_postman_15 : decode cX1_postman 15 = .ok (.iaload, 1) := by decide +kernel
theorem dX1_postman_16 : decode cX1_postman 16 = .ok (.ifCond .ge 5, 3) := by decide +kernel
theorem dX1_postman_19 : decode cX1_postman 19 = .ok (.iconst (-1), 1) := by decide +kernel
theorem dX1_postman_20 : decode cX1_postman 20 = .ok (.ireturn, 1) := by decide +kernel
theorem dX1_postman_21 : decode cX1_postman 21 = .ok (.iinc 1 1, 3) := by decide +kernel
theorem dX1_postman_24 : decode cX1_postman 24 = .ok (.goto (-22), 3) := by decide +kernel
theorem dX1_postman_27 : decode cX1_postman 27 = .ok (.aload_n 0, 1) := by decide +kernel
theorem dX1_postman_28 : decode cX1_postman 28 = .ok (.getfield 45, 3) := by decide +kernel
theorem dX1_postman_31 : decode cX1_postman 31 = .ok (.ifCond .ne 5, 3) := by decide +kernel
theorem dX1_postman_34 : decode cX1_postman 34 = .ok (.iconst 0, 1) := by decide +kernel
theorem dX1_postman_35 : decode cX1_postman 35 = .ok (.ireturn, 1) := by decide +kernel
theorem dX1_postman_36 : decode cX1_postman 36 = .ok (.aload_n 0, 1) := by decide +kernel
theorem dX1_postman_37 : decode cX1_postman 37 = .ok (.invokevirtual 75, 3) := by decide +kernel
theorem dX1_postman_40 : decode cX1_postman 40 = .ok (.iconst 1, 1) := by decide +kernel
theorem dX1_postman_41 : decode cX1_postman 41 = .ok (.istore_n 1, 1) := by decide +kernel
theorem dX1_postman_42 : decode cX1_postman 42 = .ok (.iload_n 1, 1) := by decide +kernel
theorem dX1_postman_43 : decode cX1_postman 43 = .ok (.aload_n 0, 1) := by decide +kernel
theorem dX1_postman_44 : decode cX1_postman 44 = .ok (.getfield 45, 3) := by decide +kernel
theorem dX1_postman_47 : decode cX1_postman 47 = .ok (.if_icmp .ge 37, 3) := by decide +kernel
theorem dX1_postman_50 : decode cX1_postman 50 = .ok (.aload_n 0, 1) := by decide +kernel
theorem dX1_postman_51 : decode cX1_postman 51 = .ok (.getfield 34, 3) := by decide +kernel
theorem dX1_postman_54 : decode cX1_postman 54 = .ok (.aload_n 0, 1) := by decide +kernel
theorem dX1_postman_55 : decode cX1_postman 55 = .ok (.getfield 7, 3) := by decide +kernel
theorem dX1_postman_58 : decode cX1_postman 58 = .ok (.iload_n 1, 1) := by decide +kernel
theorem dX1_postman_59 : decode cX1_postman 59 = .ok (.iaload, 1) := by decide +kernel
theorem dX1_postman_60 : decode cX1_postman 60 = .ok (.iaload, 1) := by decide +kernel
theorem dX1_postman_61 : decode cX1_postman 61 = .ok (.aload_n 0, 1) := by decide +kernel
theorem dX1_postman_62 : decode cX1_postman 62 = .ok (.getfield 34, 3) := by decide +kernel
theorem dX1_postman_65 : decode cX1_postman 65 = .ok (.aload_n 0, 1) := by decide +kernel
theorem dX1_postman_66 : decode cX1_postman 66 = .ok (.getfield 7, 3) := by decide +kernel
theorem dX1_postman_69 : decode cX1_postman 69 = .ok (.iconst 0, 1) := by decide +kernel
theorem dX1_postman_70 : decode cX1_postman 70 = .ok (.iaload, 1) := by decide +kernel
theorem dX1_postman_71 : decode cX1_postman 71 = .ok (.iaload, 1) := by decide +kernel
theorem dX1_postman_72 : decode cX1_postman 72 = .ok (.if_icmp .eq 6, 3) := by decide +kernel
theorem dX1_postman_75 : decode cX1_postman 75 = .ok (.bipush (-2), 2) := by decide +kernel
theorem dX1_postman_77 : decode cX1_postman 77 = .ok (.ireturn, 1) := by decide +kernel
theorem dX1_postman_78 : decode cX1_postman 78 = .ok (.iinc 1 1, 3) := by decide +kernel
theorem dX1_postman_81 : decode cX1_postman 81 = .ok (.goto (-39), 3) := by decide +kernel
theorem dX1_postman_84 : decode cX1_postman 84 = .ok (.aload_n 0, 1) := by decide +kernel
theorem dX1_postman_85 : decode cX1_postman 85 = .ok (.invokevirtual 65, 3) := by decide +kernel
theorem dX1_postman_88 : decode cX1_postman 88 = .ok (.aload_n 0, 1) := by decide +kernel
theorem dX1_postman_89 : decode cX1_postman 89 = .ok (.invokevirtual 78, 3) := by decide +kernel
theorem dX1_postman_92 : decode cX1_postman 92 = .ok (.istore_n 1, 1) := by decide +kernel
theorem dX1_postman_93 : decode cX1_postman 93 = .ok (.aload_n 0, 1) := by decide +kernel
theorem dX1_postman_94 : decode cX1_postman 94 = .ok (.iload_n 1, 1) := by decide +kernel
theorem dX1_postman_95 : decode cX1_postman 95 = .ok (.invokevirtual 68, 3) := by decide +kernel
theorem dX1_postman_98 : decode cX1_postman 98 = .ok (.istore_n 2, 1) := by decide +kernel
theorem dX1_postman_99 : decode cX1_postman 99 = .ok (.aload_n 0, 1) := by decide +kernel
theorem dX1_postman_100 : decode cX1_postman 100 = .ok (.iload_n 2, 1) := by decide +kernel
theorem dX1_postman_101 : decode cX1_postman 101 = .ok (.invokevirtual 71, 3) := by decide +kernel
theorem dX1_postman_104 : decode cX1_postman 104 = .ok (.ireturn, 1) := by decide +kernel
abbrev cX1_oddPlaces : ByteArray := prog_1_method_17_code
def yX1_oddPlaces : MethodName := ⟨RX1, "oddPlaces", "()I"⟩
theorem dX1_oddPlaces_0 : decode cX1_oddPlaces 0 = .ok (.aload_n 0, 1) := by decide +kernel
theorem dX1_oddPlaces_1 : decode cX1_oddPlaces 1 = .ok (.iconst 1, 1) := by decide +kernel
theorem dX1_oddPlaces_2 : decode cX1_oddPlaces 2 = .ok (.aload_n 0, 1) := by decide +kernel
theorem dX1_oddPlaces_3 : decode cX1_oddPlaces 3 = .ok (.getfield 45, 3) := by decide +kernel
theorem dX1_oddPlaces_6 : decode cX1_oddPlaces 6 = .ok (.ishl, 1) := by decide +kernel
theorem dX1_oddPlaces_7 : decode cX1_oddPlaces 7 = .ok (.iconst 1, 1) := by decide +kernel
theorem dX1_oddPlaces_8 : decode cX1_oddPlaces 8 = .ok (.isub, 1) := by decide +kernel
theorem dX1_oddPlaces_9 : decode cX1_oddPlaces 9 = .ok (.invokevirtual 54, 3) := by decide +kernel
theorem dX1_oddPlaces_12 : decode cX1_oddPlaces 12 = .ok (.ireturn, 1) := by decide +kernel
theorem q22 : (Jvm.Cond.initialized "TJoins") ∈ lw_all := lw_g (lw_at lw_m1 1 rfl) rfl
theorem q25 : (Jvm.Cond.instantiable "TJoins" (12 : Nat)) ∈ lw_all := lw_g (lw_at lw_m1 4 rfl) rfl
theorem q27 : (Jvm.Cond.instanceMethod ({ cls := "TJoins", name := "<init>", desc := "(I)V" } : Jvm.MethodName)) ∈ lw_all := lw_g (lw_at lw_m1 6 rfl) rfl
theorem q28 : (Jvm.Cond.code ({ cls := "TJoins", name := "<init>", desc := "(I)V" } : Jvm.MethodName) prog_1_method_1_code (2 : Nat) (Option.none : Option Jvm.ClassFile.FieldType)) ∈ lw_all := lw_g (lw_at lw_m1 7 rfl) rfl
theorem q29 : (Jvm.Cond.methodLink "TJoins" (1 : Nat) ({ cls := "java/lang/Object", name := "<init>", desc := "()V" } : Jvm.MethodName)) ∈ lw_all := lw_g (lw_at lw_m1 8 rfl) rfl
theorem q32 : (Jvm.Cond.fieldLink "TJoins" (7 : Nat) "TJoins" "ends" "[I") ∈ lw_all := lw_g (lw_at lw_m1 11 rfl) rfl
theorem q33 : (Jvm.Cond.fieldLink "TJoins" (13 : Nat) "TJoins" "others" "[I") ∈ lw_all := lw_g (lw_at lw_m1 12 rfl) rfl
theorem q34 : (Jvm.Cond.fieldLink "TJoins" (16 : Nat) "TJoins" "weights" "[I") ∈ lw_all := lw_g (lw_at lw_m1 13 rfl) rfl
theorem q35 : (Jvm.Cond.fieldLink "TJoins" (19 : Nat) "TJoins" "costs" "[I") ∈ lw_all := lw_g (lw_at lw_m1 14 rfl) rfl
theorem q36 : (Jvm.Cond.fieldLink "TJoins" (22 : Nat) "TJoins" "far" "[I") ∈ lw_all := lw_g (lw_at lw_m1 15 rfl) rfl
theorem q37 : (Jvm.Cond.fieldLink "TJoins" (25 : Nat) "TJoins" "via" "[I") ∈ lw_all := lw_g (lw_at lw_m1 16 rfl) rfl
theorem q38 : (Jvm.Cond.fieldLink "TJoins" (28 : Nat) "TJoins" "sums" "[I") ∈ lw_all := lw_g (lw_at lw_m1 17 rfl) rfl
theorem q39 : (Jvm.Cond.fieldLink "TJoins" (31 : Nat) "TJoins" "sets" "[I") ∈ lw_all := lw_g (lw_at lw_m1 18 rfl) rfl
theorem q40 : (Jvm.Cond.fieldLink "TJoins" (34 : Nat) "TJoins" "part" "[I") ∈ lw_all := lw_g (lw_at lw_m1 19 rfl) rfl
theorem q41 : (Jvm.Cond.fieldLink "TJoins" (37 : Nat) "TJoins" "n" "I") ∈ lw_all := lw_g (lw_at lw_m1 20 rfl) rfl
theorem q42 : (Jvm.Cond.fieldLink "TJoins" (45 : Nat) "TJoins" "count" "I") ∈ lw_all := lw_g (lw_at lw_m1 21 rfl) rfl
theorem q43 : (Jvm.Cond.fieldLink "TJoins" (51 : Nat) "TJoins" "wanted" "I") ∈ lw_all := lw_g (lw_at lw_m1 22 rfl) rfl
theorem q44 : (Jvm.Cond.laysFinal "TJoins" "TJoins" "ends" "[I") ∈ lw_all := lw_g (lw_at lw_m1 23 rfl) rfl
theorem q45 : (Jvm.Cond.soleField "TJoins" "ends") ∈ lw_all := lw_g (lw_at lw_m1 24 rfl) rfl
theorem q46 : (Jvm.Cond.laysFinal "TJoins" "TJoins" "others" "[I") ∈ lw_all := lw_g (lw_at lw_m1 25 rfl) rfl
theorem q47 : (Jvm.Cond.soleField "TJoins" "others") ∈ lw_all := lw_g (lw_at lw_m1 26 rfl) rfl
theorem q48 : (Jvm.Cond.laysFinal "TJoins" "TJoins" "weights" "[I") ∈ lw_all := lw_g (lw_at lw_m1 27 rfl) rfl
theorem q49 : (Jvm.Cond.soleField "TJoins" "weights") ∈ lw_all := lw_g (lw_at lw_m1 28 rfl) rfl
theorem q50 : (Jvm.Cond.laysFinal "TJoins" "TJoins" "costs" "[I") ∈ lw_all := lw_g (lw_at lw_m1 29 rfl) rfl
theorem q51 : (Jvm.Cond.soleField "TJoins" "costs") ∈ lw_all := lw_g (lw_at lw_m1 30 rfl) rfl
theorem q52 : (Jvm.Cond.laysFinal "TJoins" "TJoins" "far" "[I") ∈ lw_all := lw_g (lw_at lw_m1 31 rfl) rfl
theorem q53 : (Jvm.Cond.soleField "TJoins" "far") ∈ lw_all := lw_g (lw_at lw_m1 32 rfl) rfl
theorem q54 : (Jvm.Cond.laysFinal "TJoins" "TJoins" "via" "[I") ∈ lw_all := lw_g (lw_at lw_m1 33 rfl) rfl
theorem q55 : (Jvm.Cond.soleField "TJoins" "via") ∈ lw_all := lw_g (lw_at lw_m1 34 rfl) rfl
theorem q56 : (Jvm.Cond.laysFinal "TJoins" "TJoins" "sums" "[I") ∈ lw_all := lw_g (lw_at lw_m1 35 rfl) rfl
theorem q57 : (Jvm.Cond.soleField "TJoins" "sums") ∈ lw_all := lw_g (lw_at lw_m1 36 rfl) rfl
theorem q58 : (Jvm.Cond.laysFinal "TJoins" "TJoins" "sets" "[I") ∈ lw_all := lw_g (lw_at lw_m1 37 rfl) rfl
theorem q59 : (Jvm.Cond.soleField "TJoins" "sets") ∈ lw_all := lw_g (lw_at lw_m1 38 rfl) rfl
theorem q60 : (Jvm.Cond.laysFinal "TJoins" "TJoins" "part" "[I") ∈ lw_all := lw_g (lw_at lw_m1 39 rfl) rfl
theorem q61 : (Jvm.Cond.soleField "TJoins" "part") ∈ lw_all := lw_g (lw_at lw_m1 40 rfl) rfl
theorem q62 : (Jvm.Cond.lays "TJoins" "TJoins" "n" "I") ∈ lw_all := lw_g (lw_at lw_m1 41 rfl) rfl
theorem q63 : (Jvm.Cond.soleField "TJoins" "n") ∈ lw_all := lw_g (lw_at lw_m1 42 rfl) rfl
theorem q64 : (Jvm.Cond.lays "TJoins" "TJoins" "count" "I") ∈ lw_all := lw_g (lw_at lw_m1 43 rfl) rfl
theorem q65 : (Jvm.Cond.soleField "TJoins" "count") ∈ lw_all := lw_g (lw_at lw_m1 44 rfl) rfl
theorem q66 : (Jvm.Cond.lays "TJoins" "TJoins" "wanted" "I") ∈ lw_all := lw_g (lw_at lw_m1 45 rfl) rfl
theorem q67 : (Jvm.Cond.soleField "TJoins" "wanted") ∈ lw_all := lw_g (lw_at lw_m1 46 rfl) rfl
theorem q68 : (Jvm.Cond.superclass "TJoins" "java/lang/Object") ∈ lw_all := lw_g (lw_at lw_m1 47 rfl) rfl
theorem q71 : (Jvm.Cond.instanceMethod ({ cls := "TJoins", name := "road", desc := "(III)I" } : Jvm.MethodName)) ∈ lw_all := lw_g (lw_at lw_m1 50 rfl) rfl
theorem q72 : (Jvm.Cond.selects "TJoins" ({ cls := "TJoins", name := "road", desc := "(III)I" } : Jvm.MethodName) ({ cls := "TJoins", name := "road", desc := "(III)I" } : Jvm.MethodName)) ∈ lw_all := lw_g (lw_at lw_m1 51 rfl) rfl
theorem q73 : (Jvm.Cond.code ({ cls := "TJoins", name := "road", desc := "(III)I" } : Jvm.MethodName) prog_1_method_2_code (4 : Nat) (Option.some Jvm.ClassFile.FieldType.int)) ∈ lw_all := lw_g (lw_at lw_m1 52 rfl) rfl
theorem q74 : (Jvm.Cond.methodLink "TJoins" (41 : Nat) ({ cls := "TJoins", name := "isPlace", desc := "(I)Z" } : Jvm.MethodName)) ∈ lw_all := lw_g (lw_at lw_m1 53 rfl) rfl
theorem q75 : (Jvm.Cond.privateMethod ({ cls := "TJoins", name := "isPlace", desc := "(I)Z" } : Jvm.MethodName)) ∈ lw_tbl := lw_at lw_m1 54 rfl
theorem q76 : (Jvm.Cond.instanceMethod ({ cls := "TJoins", name := "isPlace", desc := "(I)Z" } : Jvm.MethodName)) ∈ lw_all := lw_g (lw_at lw_m1 55 rfl) rfl
theorem q77 : (Jvm.Cond.code ({ cls := "TJoins", name := "isPlace", desc := "(I)Z" } : Jvm.MethodName) prog_1_method_18_code (2 : Nat) (Option.some Jvm.ClassFile.FieldType.boolean)) ∈ lw_all := lw_g (lw_at lw_m1 56 rfl) rfl
theorem q79 : (Jvm.Cond.instanceMethod ({ cls := "TJoins", name := "remove", desc := "(I)I" } : Jvm.MethodName)) ∈ lw_all := lw_g (lw_at lw_m1 58 rfl) rfl
theorem q80 : (Jvm.Cond.selects "TJoins" ({ cls := "TJoins", name := "remove", desc := "(I)I" } : Jvm.MethodName) ({ cls := "TJoins", name := "remove", desc := "(I)I" } : Jvm.MethodName)) ∈ lw_all := lw_g (lw_at lw_m1 59 rfl) rfl
theorem q81 : (Jvm.Cond.code ({ cls := "TJoins", name := "remove", desc := "(I)I" } : Jvm.MethodName) prog_1_method_3_code (3 : Nat) (Option.some Jvm.ClassFile.FieldType.int)) ∈ lw_all := lw_g (lw_at lw_m1 60 rfl) rfl
theorem q82 : (Jvm.Cond.methodLink "TJoins" (48 : Nat) ({ cls := "TJoins", name := "isRoad", desc := "(I)Z" } : Jvm.MethodName)) ∈ lw_all := lw_g (lw_at lw_m1 61 rfl) rfl
theorem q83 : (Jvm.Cond.privateMethod ({ cls := "TJoins", name := "isRoad", desc := "(I)Z" } : Jvm.MethodName)) ∈ lw_tbl := lw_at lw_m1 62 rfl
theorem q84 : (Jvm.Cond.instanceMethod ({ cls := "TJoins", name := "isRoad", desc := "(I)Z" } : Jvm.MethodName)) ∈ lw_all := lw_g (lw_at lw_m1 63 rfl) rfl
theorem q85 : (Jvm.Cond.code ({ cls := "TJoins", name := "isRoad", desc := "(I)Z" } : Jvm.MethodName) prog_1_method_19_code (2 : Nat) (Option.some Jvm.ClassFile.FieldType.boolean)) ∈ lw_all := lw_g (lw_at lw_m1 64 rfl) rfl
theorem q87 : (Jvm.Cond.instanceMethod ({ cls := "TJoins", name := "weigh", desc := "(II)I" } : Jvm.MethodName)) ∈ lw_all := lw_g (lw_at lw_m1 66 rfl) rfl
theorem q88 : (Jvm.Cond.selects "TJoins" ({ cls := "TJoins", name := "weigh", desc := "(II)I" } : Jvm.MethodName) ({ cls := "TJoins", name := "weigh", desc := "(II)I" } : Jvm.MethodName)) ∈ lw_all := lw_g (lw_at lw_m1 67 rfl) rfl
theorem q89 : (Jvm.Cond.code ({ cls := "TJoins", name := "weigh", desc := "(II)I" } : Jvm.MethodName) prog_1_method_4_code (4 : Nat) (Option.some Jvm.ClassFile.FieldType.int)) ∈ lw_all := lw_g (lw_at lw_m1 68 rfl) rfl
theorem q91 : (Jvm.Cond.instanceMethod ({ cls := "TJoins", name := "want", desc := "(I)I" } : Jvm.MethodName)) ∈ lw_all := lw_g (lw_at lw_m1 70 rfl) rfl
theorem q92 : (Jvm.Cond.selects "TJoins" ({ cls := "TJoins", name := "want", desc := "(I)I" } : Jvm.MethodName) ({ cls := "TJoins", name := "want", desc := "(I)I" } : Jvm.MethodName)) ∈ lw_all := lw_g (lw_at lw_m1 71 rfl) rfl
theorem q93 : (Jvm.Cond.code ({ cls := "TJoins", name := "want", desc := "(I)I" } : Jvm.MethodName) prog_1_method_5_code (3 : Nat) (Option.some Jvm.ClassFile.FieldType.int)) ∈ lw_all := lw_g (lw_at lw_m1 72 rfl) rfl
theorem q95 : (Jvm.Cond.instanceMethod ({ cls := "TJoins", name := "turn", desc := "(I)I" } : Jvm.MethodName)) ∈ lw_all := lw_g (lw_at lw_m1 74 rfl) rfl
theorem q96 : (Jvm.Cond.selects "TJoins" ({ cls := "TJoins", name := "turn", desc := "(I)I" } : Jvm.MethodName) ({ cls := "TJoins", name := "turn", desc := "(I)I" } : Jvm.MethodName)) ∈ lw_all := lw_g (lw_at lw_m1 75 rfl) rfl
theorem q97 : (Jvm.Cond.code ({ cls := "TJoins", name := "turn", desc := "(I)I" } : Jvm.MethodName) prog_1_method_6_code (2 : Nat) (Option.some Jvm.ClassFile.FieldType.int)) ∈ lw_all := lw_g (lw_at lw_m1 76 rfl) rfl
theorem q99 : (Jvm.Cond.instanceMethod ({ cls := "TJoins", name := "roads", desc := "()I" } : Jvm.MethodName)) ∈ lw_all := lw_g (lw_at lw_m1 78 rfl) rfl
theorem q100 : (Jvm.Cond.selects "TJoins" ({ cls := "TJoins", name := "roads", desc := "()I" } : Jvm.MethodName) ({ cls := "TJoins", name := "roads", desc := "()I" } : Jvm.MethodName)) ∈ lw_all := lw_g (lw_at lw_m1 79 rfl) rfl
theorem q101 : (Jvm.Cond.code ({ cls := "TJoins", name := "roads", desc := "()I" } : Jvm.MethodName) prog_1_method_7_code (1 : Nat) (Option.some Jvm.ClassFile.FieldType.int)) ∈ lw_all := lw_g (lw_at lw_m1 80 rfl) rfl
theorem q103 : (Jvm.Cond.instanceMethod ({ cls := "TJoins", name := "isJoin", desc := "(I)I" } : Jvm.MethodName)) ∈ lw_all := lw_g (lw_at lw_m1 82 rfl) rfl
theorem q104 : (Jvm.Cond.selects "TJoins" ({ cls := "TJoins", name := "isJoin", desc := "(I)I" } : Jvm.MethodName) ({ cls := "TJoins", name := "isJoin", desc := "(I)I" } : Jvm.MethodName)) ∈ lw_all := lw_g (lw_at lw_m1 83 rfl) rfl
theorem q105 : (Jvm.Cond.code ({ cls := "TJoins", name := "isJoin", desc := "(I)I" } : Jvm.MethodName) prog_1_method_8_code (2 : Nat) (Option.some Jvm.ClassFile.FieldType.int)) ∈ lw_all := lw_g (lw_at lw_m1 84 rfl) rfl
theorem q106 : (Jvm.Cond.methodLink "TJoins" (54 : Nat) ({ cls := "TJoins", name := "oddOf", desc := "(I)I" } : Jvm.MethodName)) ∈ lw_all := lw_g (lw_at lw_m1 85 rfl) rfl
theorem q107 : (Jvm.Cond.privateMethod ({ cls := "TJoins", name := "oddOf", desc := "(I)I" } : Jvm.MethodName)) ∈ lw_tbl := lw_at lw_m1 86 rfl
theorem q108 : (Jvm.Cond.instanceMethod ({ cls := "TJoins", name := "oddOf", desc := "(I)I" } : Jvm.MethodName)) ∈ lw_all := lw_g (lw_at lw_m1 87 rfl) rfl
theorem q109 : (Jvm.Cond.code ({ cls := "TJoins", name := "oddOf", desc := "(I)I" } : Jvm.MethodName) prog_1_method_21_code (4 : Nat) (Option.some Jvm.ClassFile.FieldType.int)) ∈ lw_all := lw_g (lw_at lw_m1 88 rfl) rfl
theorem q111 : (Jvm.Cond.instanceMethod ({ cls := "TJoins", name := "possible", desc := "()I" } : Jvm.MethodName)) ∈ lw_all := lw_g (lw_at lw_m1 90 rfl) rfl
theorem q112 : (Jvm.Cond.selects "TJoins" ({ cls := "TJoins", name := "possible", desc := "()I" } : Jvm.MethodName) ({ cls := "TJoins", name := "possible", desc := "()I" } : Jvm.MethodName)) ∈ lw_all := lw_g (lw_at lw_m1 91 rfl) rfl
theorem q113 : (Jvm.Cond.code ({ cls := "TJoins", name := "possible", desc := "()I" } : Jvm.MethodName) prog_1_method_9_code (1 : Nat) (Option.some Jvm.ClassFile.FieldType.int)) ∈ lw_all := lw_g (lw_at lw_m1 92 rfl) rfl
theorem q114 : (Jvm.Cond.methodLink "TJoins" (58 : Nat) ({ cls := "TJoins", name := "isPossible", desc := "(I)Z" } : Jvm.MethodName)) ∈ lw_all := lw_g (lw_at lw_m1 93 rfl) rfl
theorem q115 : (Jvm.Cond.privateMethod ({ cls := "TJoins", name := "isPossible", desc := "(I)Z" } : Jvm.MethodName)) ∈ lw_tbl := lw_at lw_m1 94 rfl
theorem q116 : (Jvm.Cond.instanceMethod ({ cls := "TJoins", name := "isPossible", desc := "(I)Z" } : Jvm.MethodName)) ∈ lw_all := lw_g (lw_at lw_m1 95 rfl) rfl
theorem q117 : (Jvm.Cond.code ({ cls := "TJoins", name := "isPossible", desc := "(I)Z" } : Jvm.MethodName) prog_1_method_24_code (5 : Nat) (Option.some Jvm.ClassFile.FieldType.boolean)) ∈ lw_all := lw_g (lw_at lw_m1 96 rfl) rfl
theorem q118 : (Jvm.Cond.methodLink "TJoins" (75 : Nat) ({ cls := "TJoins", name := "findParts", desc := "()V" } : Jvm.MethodName)) ∈ lw_all := lw_g (lw_at lw_m1 97 rfl) rfl
theorem q119 : (Jvm.Cond.privateMethod ({ cls := "TJoins", name := "findParts", desc := "()V" } : Jvm.MethodName)) ∈ lw_tbl := lw_at lw_m1 98 rfl
theorem q120 : (Jvm.Cond.instanceMethod ({ cls := "TJoins", name := "findParts", desc := "()V" } : Jvm.MethodName)) ∈ lw_all := lw_g (lw_at lw_m1 99 rfl) rfl
theorem q121 : (Jvm.Cond.code ({ cls := "TJoins", name := "findParts", desc := "()V" } : Jvm.MethodName) prog_1_method_22_code (5 : Nat) (Option.none : Option Jvm.ClassFile.FieldType)) ∈ lw_all := lw_g (lw_at lw_m1 100 rfl) rfl
theorem q123 : (Jvm.Cond.instanceMethod ({ cls := "TJoins", name := "joins", desc := "()I" } : Jvm.MethodName)) ∈ lw_all := lw_g (lw_at lw_m1 102 rfl) rfl
theorem q124 : (Jvm.Cond.selects "TJoins" ({ cls := "TJoins", name := "joins", desc := "()I" } : Jvm.MethodName) ({ cls := "TJoins", name := "joins", desc := "()I" } : Jvm.MethodName)) ∈ lw_all := lw_g (lw_at lw_m1 103 rfl) rfl
theorem q125 : (Jvm.Cond.code ({ cls := "TJoins", name := "joins", desc := "()I" } : Jvm.MethodName) prog_1_method_10_code (1 : Nat) (Option.some Jvm.ClassFile.FieldType.int)) ∈ lw_all := lw_g (lw_at lw_m1 104 rfl) rfl
theorem q126 : (Jvm.Cond.methodLink "TJoins" (61 : Nat) ({ cls := "TJoins", name := "countParts", desc := "()I" } : Jvm.MethodName)) ∈ lw_all := lw_g (lw_at lw_m1 105 rfl) rfl
theorem q127 : (Jvm.Cond.privateMethod ({ cls := "TJoins", name := "countParts", desc := "()I" } : Jvm.MethodName)) ∈ lw_tbl := lw_at lw_m1 106 rfl
theorem q128 : (Jvm.Cond.instanceMethod ({ cls := "TJoins", name := "countParts", desc := "()I" } : Jvm.MethodName)) ∈ lw_all := lw_g (lw_at lw_m1 107 rfl) rfl
theorem q129 : (Jvm.Cond.code ({ cls := "TJoins", name := "countParts", desc := "()I" } : Jvm.MethodName) prog_1_method_23_code (5 : Nat) (Option.some Jvm.ClassFile.FieldType.int)) ∈ lw_all := lw_g (lw_at lw_m1 108 rfl) rfl
theorem q131 : (Jvm.Cond.instanceMethod ({ cls := "TJoins", name := "best", desc := "()I" } : Jvm.MethodName)) ∈ lw_all := lw_g (lw_at lw_m1 110 rfl) rfl
theorem q132 : (Jvm.Cond.selects "TJoins" ({ cls := "TJoins", name := "best", desc := "()I" } : Jvm.MethodName) ({ cls := "TJoins", name := "best", desc := "()I" } : Jvm.MethodName)) ∈ lw_all := lw_g (lw_at lw_m1 111 rfl) rfl
theorem q133 : (Jvm.Cond.code ({ cls := "TJoins", name := "best", desc := "()I" } : Jvm.MethodName) prog_1_method_11_code (2 : Nat) (Option.some Jvm.ClassFile.FieldType.int)) ∈ lw_all := lw_g (lw_at lw_m1 112 rfl) rfl
theorem q134 : (Jvm.Cond.methodLink "TJoins" (65 : Nat) ({ cls := "TJoins", name := "takeCosts", desc := "()V" } : Jvm.MethodName)) ∈ lw_all := lw_g (lw_at lw_m1 113 rfl) rfl
theorem q135 : (Jvm.Cond.privateMethod ({ cls := "TJoins", name := "takeCosts", desc := "()V" } : Jvm.MethodName)) ∈ lw_tbl := lw_at lw_m1 114 rfl
theorem q136 : (Jvm.Cond.instanceMethod ({ cls := "TJoins", name := "takeCosts", desc := "()V" } : Jvm.MethodName)) ∈ lw_all := lw_g (lw_at lw_m1 115 rfl) rfl
theorem q137 : (Jvm.Cond.code ({ cls := "TJoins", name := "takeCosts", desc := "()V" } : Jvm.MethodName) prog_1_method_25_code (2 : Nat) (Option.none : Option Jvm.ClassFile.FieldType)) ∈ lw_all := lw_g (lw_at lw_m1 116 rfl) rfl
theorem q138 : (Jvm.Cond.methodLink "TJoins" (68 : Nat) ({ cls := "TJoins", name := "solve", desc := "(I)I" } : Jvm.MethodName)) ∈ lw_all := lw_g (lw_at lw_m1 117 rfl) rfl
theorem q139 : (Jvm.Cond.privateMethod ({ cls := "TJoins", name := "solve", desc := "(I)I" } : Jvm.MethodName)) ∈ lw_tbl := lw_at lw_m1 118 rfl
theorem q140 : (Jvm.Cond.instanceMethod ({ cls := "TJoins", name := "solve", desc := "(I)I" } : Jvm.MethodName)) ∈ lw_all := lw_g (lw_at lw_m1 119 rfl) rfl
theorem q141 : (Jvm.Cond.code ({ cls := "TJoins", name := "solve", desc := "(I)I" } : Jvm.MethodName) prog_1_method_26_code (4 : Nat) (Option.some Jvm.ClassFile.FieldType.int)) ∈ lw_all := lw_g (lw_at lw_m1 120 rfl) rfl
theorem q142 : (Jvm.Cond.methodLink "TJoins" (81 : Nat) ({ cls := "TJoins", name := "findWays", desc := "()V" } : Jvm.MethodName)) ∈ lw_all := lw_g (lw_at lw_m1 121 rfl) rfl
theorem q143 : (Jvm.Cond.privateMethod ({ cls := "TJoins", name := "findWays", desc := "()V" } : Jvm.MethodName)) ∈ lw_tbl := lw_at lw_m1 122 rfl
theorem q144 : (Jvm.Cond.instanceMethod ({ cls := "TJoins", name := "findWays", desc := "()V" } : Jvm.MethodName)) ∈ lw_all := lw_g (lw_at lw_m1 123 rfl) rfl
theorem q145 : (Jvm.Cond.code ({ cls := "TJoins", name := "findWays", desc := "()V" } : Jvm.MethodName) prog_1_method_27_code (5 : Nat) (Option.none : Option Jvm.ClassFile.FieldType)) ∈ lw_all := lw_g (lw_at lw_m1 124 rfl) rfl
theorem q146 : (Jvm.Cond.constant "TJoins" (88 : Nat) (268435456 : Int32)) ∈ lw_all := lw_g (lw_at lw_m1 125 rfl) rfl
theorem q147 : (Jvm.Cond.methodLink "TJoins" (89 : Nat) ({ cls := "TJoins", name := "take", desc := "(III)V" } : Jvm.MethodName)) ∈ lw_all := lw_g (lw_at lw_m1 126 rfl) rfl
theorem q148 : (Jvm.Cond.privateMethod ({ cls := "TJoins", name := "take", desc := "(III)V" } : Jvm.MethodName)) ∈ lw_tbl := lw_at lw_m1 127 rfl
theorem q149 : (Jvm.Cond.instanceMethod ({ cls := "TJoins", name := "take", desc := "(III)V" } : Jvm.MethodName)) ∈ lw_all := lw_g (lw_at lw_m1 128 rfl) rfl
theorem q150 : (Jvm.Cond.code ({ cls := "TJoins", name := "take", desc := "(III)V" } : Jvm.MethodName) prog_1_method_28_code (4 : Nat) (Option.none : Option Jvm.ClassFile.FieldType)) ∈ lw_all := lw_g (lw_at lw_m1 129 rfl) rfl
theorem q151 : (Jvm.Cond.methodLink "TJoins" (84 : Nat) ({ cls := "TJoins", name := "pairUp", desc := "(I)V" } : Jvm.MethodName)) ∈ lw_all := lw_g (lw_at lw_m1 130 rfl) rfl
theorem q152 : (Jvm.Cond.privateMethod ({ cls := "TJoins", name := "pairUp", desc := "(I)V" } : Jvm.MethodName)) ∈ lw_tbl := lw_at lw_m1 131 rfl
theorem q153 : (Jvm.Cond.instanceMethod ({ cls := "TJoins", name := "pairUp", desc := "(I)V" } : Jvm.MethodName)) ∈ lw_all := lw_g (lw_at lw_m1 132 rfl) rfl
theorem q154 : (Jvm.Cond.code ({ cls := "TJoins", name := "pairUp", desc := "(I)V" } : Jvm.MethodName) prog_1_method_29_code (5 : Nat) (Option.none : Option Jvm.ClassFile.FieldType)) ∈ lw_all := lw_g (lw_at lw_m1 133 rfl) rfl
theorem q155 : (Jvm.Cond.methodLink "TJoins" (93 : Nat) ({ cls := "TJoins", name := "pair", desc := "(III)V" } : Jvm.MethodName)) ∈ lw_all := lw_g (lw_at lw_m1 134 rfl) rfl
theorem q156 : (Jvm.Cond.privateMethod ({ cls := "TJoins", name := "pair", desc := "(III)V" } : Jvm.MethodName)) ∈ lw_tbl := lw_at lw_m1 135 rfl
theorem q157 : (Jvm.Cond.instanceMethod ({ cls := "TJoins", name := "pair", desc := "(III)V" } : Jvm.MethodName)) ∈ lw_all := lw_g (lw_at lw_m1 136 rfl) rfl
theorem q158 : (Jvm.Cond.code ({ cls := "TJoins", name := "pair", desc := "(III)V" } : Jvm.MethodName) prog_1_method_30_code (6 : Nat) (Option.none : Option Jvm.ClassFile.FieldType)) ∈ lw_all := lw_g (lw_at lw_m1 137 rfl) rfl
theorem q159 : (Jvm.Cond.methodLink "TJoins" (71 : Nat) ({ cls := "TJoins", name := "weightOf", desc := "(I)I" } : Jvm.MethodName)) ∈ lw_all := lw_g (lw_at lw_m1 138 rfl) rfl
theorem q160 : (Jvm.Cond.privateMethod ({ cls := "TJoins", name := "weightOf", desc := "(I)I" } : Jvm.MethodName)) ∈ lw_tbl := lw_at lw_m1 139 rfl
theorem q161 : (Jvm.Cond.instanceMethod ({ cls := "TJoins", name := "weightOf", desc := "(I)I" } : Jvm.MethodName)) ∈ lw_all := lw_g (lw_at lw_m1 140 rfl) rfl
theorem q162 : (Jvm.Cond.code ({ cls := "TJoins", name := "weightOf", desc := "(I)I" } : Jvm.MethodName) prog_1_method_20_code (4 : Nat) (Option.some Jvm.ClassFile.FieldType.int)) ∈ lw_all := lw_g (lw_at lw_m1 141 rfl) rfl
theorem q164 : (Jvm.Cond.instanceMethod ({ cls := "TJoins", name := "bestSet", desc := "()I" } : Jvm.MethodName)) ∈ lw_all := lw_g (lw_at lw_m1 143 rfl) rfl
theorem q165 : (Jvm.Cond.selects "TJoins" ({ cls := "TJoins", name := "bestSet", desc := "()I" } : Jvm.MethodName) ({ cls := "TJoins", name := "bestSet", desc := "()I" } : Jvm.MethodName)) ∈ lw_all := lw_g (lw_at lw_m1 144 rfl) rfl
theorem q166 : (Jvm.Cond.code ({ cls := "TJoins", name := "bestSet", desc := "()I" } : Jvm.MethodName) prog_1_method_12_code (1 : Nat) (Option.some Jvm.ClassFile.FieldType.int)) ∈ lw_all := lw_g (lw_at lw_m1 145 rfl) rfl
theorem q168 : (Jvm.Cond.instanceMethod ({ cls := "TJoins", name := "bestWith", desc := "(I)I" } : Jvm.MethodName)) ∈ lw_all := lw_g (lw_at lw_m1 147 rfl) rfl
theorem q169 : (Jvm.Cond.selects "TJoins" ({ cls := "TJoins", name := "bestWith", desc := "(I)I" } : Jvm.MethodName) ({ cls := "TJoins", name := "bestWith", desc := "(I)I" } : Jvm.MethodName)) ∈ lw_all := lw_g (lw_at lw_m1 148 rfl) rfl
theorem q170 : (Jvm.Cond.code ({ cls := "TJoins", name := "bestWith", desc := "(I)I" } : Jvm.MethodName) prog_1_method_13_code (3 : Nat) (Option.some Jvm.ClassFile.FieldType.int)) ∈ lw_all := lw_g (lw_at lw_m1 149 rfl) rfl
theorem q171 : (Jvm.Cond.constant "TJoins" (74 : Nat) (4194304 : Int32)) ∈ lw_all := lw_g (lw_at lw_m1 150 rfl) rfl
theorem q173 : (Jvm.Cond.instanceMethod ({ cls := "TJoins", name := "bestWithout", desc := "(I)I" } : Jvm.MethodName)) ∈ lw_all := lw_g (lw_at lw_m1 152 rfl) rfl
theorem q174 : (Jvm.Cond.selects "TJoins" ({ cls := "TJoins", name := "bestWithout", desc := "(I)I" } : Jvm.MethodName) ({ cls := "TJoins", name := "bestWithout", desc := "(I)I" } : Jvm.MethodName)) ∈ lw_all := lw_g (lw_at lw_m1 153 rfl) rfl
theorem q175 : (Jvm.Cond.code ({ cls := "TJoins", name := "bestWithout", desc := "(I)I" } : Jvm.MethodName) prog_1_method_14_code (3 : Nat) (Option.some Jvm.ClassFile.FieldType.int)) ∈ lw_all := lw_g (lw_at lw_m1 154 rfl) rfl
theorem q177 : (Jvm.Cond.instanceMethod ({ cls := "TJoins", name := "between", desc := "(II)I" } : Jvm.MethodName)) ∈ lw_all := lw_g (lw_at lw_m1 156 rfl) rfl
theorem q178 : (Jvm.Cond.selects "TJoins" ({ cls := "TJoins", name := "between", desc := "(II)I" } : Jvm.MethodName) ({ cls := "TJoins", name := "between", desc := "(II)I" } : Jvm.MethodName)) ∈ lw_all := lw_g (lw_at lw_m1 157 rfl) rfl
theorem q179 : (Jvm.Cond.code ({ cls := "TJoins", name := "between", desc := "(II)I" } : Jvm.MethodName) prog_1_method_15_code (4 : Nat) (Option.some Jvm.ClassFile.FieldType.int)) ∈ lw_all := lw_g (lw_at lw_m1 158 rfl) rfl
theorem q181 : (Jvm.Cond.instanceMethod ({ cls := "TJoins", name := "postman", desc := "()I" } : Jvm.MethodName)) ∈ lw_all := lw_g (lw_at lw_m1 160 rfl) rfl
theorem q182 : (Jvm.Cond.selects "TJoins" ({ cls := "TJoins", name := "postman", desc := "()I" } : Jvm.MethodName) ({ cls := "TJoins", name := "postman", desc := "()I" } : Jvm.MethodName)) ∈ lw_all := lw_g (lw_at lw_m1 161 rfl) rfl
theorem q183 : (Jvm.Cond.code ({ cls := "TJoins", name := "postman", desc := "()I" } : Jvm.MethodName) prog_1_method_16_code (3 : Nat) (Option.some Jvm.ClassFile.FieldType.int)) ∈ lw_all := lw_g (lw_at lw_m1 162 rfl) rfl
theorem q184 : (Jvm.Cond.methodLink "TJoins" (78 : Nat) ({ cls := "TJoins", name := "oddPlaces", desc := "()I" } : Jvm.MethodName)) ∈ lw_all := lw_g (lw_at lw_m1 163 rfl) rfl
theorem q185 : (Jvm.Cond.instanceMethod ({ cls := "TJoins", name := "oddPlaces", desc := "()I" } : Jvm.MethodName)) ∈ lw_all := lw_g (lw_at lw_m1 164 rfl) rfl
theorem q186 : (Jvm.Cond.selects "TJoins" ({ cls := "TJoins", name := "oddPlaces", desc := "()I" } : Jvm.MethodName) ({ cls := "TJoins", name := "oddPlaces", desc := "()I" } : Jvm.MethodName)) ∈ lw_all := lw_g (lw_at lw_m1 165 rfl) rfl
theorem q187 : (Jvm.Cond.code ({ cls := "TJoins", name := "oddPlaces", desc := "()I" } : Jvm.MethodName) prog_1_method_17_code (1 : Nat) (Option.some Jvm.ClassFile.FieldType.int)) ∈ lw_all := lw_g (lw_at lw_m1 166 rfl) rfl
theorem in_X1 : ∀ w ∈ wsX10, w ∈ lw_all := lw_in wsX10 [44, 46, 48, 50, 52, 54, 56, 58, 60, 62, 64, 66] (by decide +kernel) (by decide +kernel)
end
section
/-! TJoinsModel -/
set_option maxRecDepth 100000
def RX2 : String := "TJoinsModel"
def TX2 : u_T := fun k => match k with
  | 0 => ("TJoinsModel", "n", "I", false)
  | 1 => ("TJoinsModel", "count", "I", false)
  | 2 => ("TJoinsModel", "from", "[I", false)
  | 3 => ("TJoinsModel", "to", "[I", false)
  | 4 => ("TJoinsModel", "worth", "[I", false)
  | _ => ("TJoinsModel", "wanted", "I", false)
def tyX2 : Nat → FieldType := fun k => match k with
  | 0 => .int
  | 1 => .int
  | 2 => .array .int
  | 3 => .array .int
  | 4 => .array .int
  | _ => .int
abbrev wsX20 : List Cond := u_ws RX2 TX2 6
theorem nmX2 : ∀ a, a < 6 → ∀ b, b < 6 → a ≠ b → (TX2 a).2.1 ≠ (TX2 b).2.1 := by decide +kernel
theorem tyX2_ok : ∀ k, k < 6 → parseFieldDescriptor (TX2 k).2.2.1 = some (tyX2 k) := by decide +kernel
abbrev cX2_init : ByteArray := prog_3_method_1_code
def yX2_init : MethodName := ⟨RX2, "<init>", "(I)V"⟩
theorem dX2_init_0 : decode cX2_init 0 = .ok (.aload_n 0, 1) := by decide +kernel
theorem dX2_init_1 : decode cX2_init 1 = .ok (.invokespecial 1, 3) := by decide +kernel
theorem dX2_init_4 : decode cX2_init 4 = .ok (.aload_n 0, 1) := by decide +kernel
theorem dX2_init_5 : decode cX2_init 5 = .ok (.bipush 12, 2) := by decide +kernel
theorem dX2_init_7 : decode cX2_init 7 = .ok (.newarray .int, 2) := by decide +kernel
theorem dX2_init_9 : decode cX2_init 9 = .ok (.putfield 7, 3) := by decide +kernel
theorem dX2_init_12 : decode cX2_init 12 = .ok (.aload_n 0, 1) := by decide +kernel
theorem dX2_init_13 : decode cX2_init 13 = .ok (.bipush 12, 2) := by decide +kernel
theorem dX2_init_15 : decode cX2_init 15 = .ok (.newarray .int, 2) := by decide +kernel
theorem dX2_init_17 : decode cX2_init 17 = .ok (.putfield 13, 3) := by decide +kernel
theorem dX2_init_20 : decode cX2_init 20 = .ok (.aload_n 0, 1) := by decide +kernel
theorem dX2_init_21 : decode cX2_init 21 = .ok (.bipush 12, 2) := by decide +kernel
theorem dX2_init_23 : decode cX2_init 23 = .ok (.newarray .int, 2) := by decide +kernel
theorem dX2_init_25 : decode cX2_init 25 = .ok (.putfield 16, 3) := by decide +kernel
theorem dX2_init_28 : decode cX2_init 28 = .ok (.aload_n 0, 1) := by decide +kernel
theorem dX2_init_29 : decode cX2_init 29 = .ok (.iload_n 1, 1) := by decide +kernel
theorem dX2_init_30 : decode cX2_init 30 = .ok (.iconst 2, 1) := by decide +kernel
theorem dX2_init_31 : decode cX2_init 31 = .ok (.if_icmp .ge 7, 3) := by decide +kernel
theorem dX2_init_34 : decode cX2_init 34 = .ok (.iconst 2, 1) := by decide +kernel
theorem dX2_init_35 : decode cX2_init 35 = .ok (.goto 15, 3) := by decide +kernel
theorem dX2_init_38 : decode cX2_init 38 = .ok (.iload_n 1, 1) := by decide +kernel
theorem dX2_init_39 : decode cX2_init 39 = .ok (.bipush 7, 2) := by decide +kernel
theorem dX2_init_41 : decode cX2_init 41 = .ok (.if_icmp .le 8, 3) := by decide +kernel
theorem dX2_init_44 : decode cX2_init 44 = .ok (.bipush 7, 2) := by decide +kernel
theorem dX2_init_46 : decode cX2_init 46 = .ok (.goto 4, 3) := by decide +kernel
theorem dX2_init_49 : decode cX2_init 49 = .ok (.iload_n 1, 1) := by decide +kernel
theorem dX2_init_50 : decode cX2_init 50 = .ok (.putfield 19, 3) := by decide +kernel
theorem dX2_init_53 : decode cX2_init 53 = .ok (.return_, 1) := by decide +kernel
abbrev cX2_road : ByteArray := prog_3_method_5_code
def yX2_road : MethodName := ⟨RX2, "road", "(III)I"⟩
theorem dX2_road_0 : decode cX2_road 0 = .ok (.aload_n 0, 1) := by decide +kernel
theorem dX2_road_1 : decode cX2_road 1 = .ok (.iload_n 1, 1) := by decide +kernel
theorem dX2_road_2 : decode cX2_road 2 = .ok (.invokevirtual 26, 3) := by decide +kernel
theorem dX2_road_5 : decode cX2_road 5 = .ok (.ifCond .ne 11, 3) := by decide +kernel
theorem dX2_road_8 : decode cX2_road 8 = .ok (.aload_n 0, 1) := by decide +kernel
theorem dX2_road_9 : decode cX2_road 9 = .ok (.iload_n 2, 1) := by decide +kernel
theorem dX2_road_10 : decode cX2_road 10 = .ok (.invokevirtual 26, 3) := by decide +kernel
theorem dX2_road_13 : decode cX2_road 13 = .ok (.ifCond .eq 5, 3) := by decide +kernel
theorem dX2_road_16 : decode cX2_road 16 = .ok (.iconst (-1), 1) := by decide +kernel
theorem dX2_road_17 : decode cX2_road 17 = .ok (.ireturn, 1) := by decide +kernel
theorem dX2_road_18 : decode cX2_road 18 = .ok (.aload_n 0, 1) := by decide +kernel
theorem dX2_road_19 : decode cX2_road 19 = .ok (.iload_n 3, 1) := by decide +kernel
theorem dX2_road_20 : decode cX2_road 20 = .ok (.invokevirtual 30, 3) := by decide +kernel
theorem dX2_road_23 : decode cX2_road 23 = .ok (.ifCond .eq 6, 3) := by decide +kernel
theorem dX2_road_26 : decode cX2_road 26 = .ok (.bipush (-2), 2) := by decide +kernel
theorem dX2_road_28 : decode cX2_road 28 = .ok (.ireturn, 1) := by decide +kernel
theorem dX2_road_29 : decode cX2_road 29 = .ok (.aload_n 0, 1) := by decide +kernel
theorem dX2_road_30 : decode cX2_road 30 = .ok (.getfield 23, 3) := by decide +kernel
theorem dX2_road_33 : decode cX2_road 33 = .ok (.istore 4, 2) := by decide +kernel
theorem dX2_road_35 : decode cX2_road 35 = .ok (.iload 4, 2) := by decide +kernel
theorem dX2_road_37 : decode cX2_road 37 = .ok (.bipush 11, 2) := by decide +kernel
theorem dX2_road_39 : decode cX2_road 39 = .ok (.if_icmp .le 6, 3) := by decide +kernel
theorem dX2_road_42 : decode cX2_road 42 = .ok (.bipush (-3), 2) := by decide +kernel
theorem dX2_road_44 : decode cX2_road 44 = .ok (.ireturn, 1) := by decide +kernel
theorem dX2_road_45 : decode cX2_road 45 = .ok (.aload_n 0, 1) := by decide +kernel
theorem dX2_road_46 : decode cX2_road 46 = .ok (.getfield 7, 3) := by decide +kernel
theorem dX2_road_49 : decode cX2_road 49 = .ok (.iload 4, 2) := by decide +kernel
theorem dX2_road_51 : decode cX2_road 51 = .ok (.iload_n 1, 1) := by decide +kernel
theorem dX2_road_52 : decode cX2_road 52 = .ok (.iastore, 1) := by decide +kernel
theorem dX2_road_53 : decode cX2_road 53 = .ok (.aload_n 0, 1) := by decide +kernel
theorem dX2_road_54 : decode cX2_road 54 = .ok (.getfield 13, 3) := by decide +kernel
theorem dX2_road_57 : decode cX2_road 57 = .ok (.iload 4, 2) := by decide +kernel
theorem dX2_road_59 : decode cX2_road 59 = .ok (.iload_n 2, 1) := by decide +kernel
theorem dX2_road_60 : decode cX2_road 60 = .ok (.iastore, 1) := by decide +kernel
theorem dX2_road_61 : decode cX2_road 61 = .ok (.aload_n 0, 1) := by decide +kernel
theorem dX2_road_62 : decode cX2_road 62 = .ok (.getfield 16, 3) := by decide +kernel
theorem dX2_road_65 : decode cX2_road 65 = .ok (.iload 4, 2) := by decide +kernel
theorem dX2_road_67 : decode cX2_road 67 = .ok (.iload_n 3, 1) := by decide +kernel
theorem dX2_road_68 : decode cX2_road 68 = .ok (.iastore, 1) := by decide +kernel
theorem dX2_road_69 : decode cX2_road 69 = .ok (.aload_n 0, 1) := by decide +kernel
theorem dX2_road_70 : decode cX2_road 70 = .ok (.iload 4, 2) := by decide +kernel
theorem dX2_road_72 : decode cX2_road 72 = .ok (.iconst 1, 1) := by decide +kernel
theorem dX2_road_73 : decode cX2_road 73 = .ok (.iadd, 1) := by decide +kernel
theorem dX2_road_74 : decode cX2_road 74 = .ok (.putfield 23, 3) := by decide +kernel
theorem dX2_road_77 : decode cX2_road 77 = .ok (.iload 4, 2) := by decide +kernel
theorem dX2_road_79 : decode cX2_road 79 = .ok (.ireturn, 1) := by decide +kernel
abbrev cX2_bad : ByteArray := prog_3_method_2_code
def yX2_bad : MethodName := ⟨RX2, "bad", "(I)Z"⟩
theorem dX2_bad_0 : decode cX2_bad 0 = .ok (.iload_n 1, 1) := by decide +kernel
theorem dX2_bad_1 : decode cX2_bad 1 = .ok (.ifCond .lt 11, 3) := by decide +kernel
theorem dX2_bad_4 : decode cX2_bad 4 = .ok (.iload_n 1, 1) := by decide +kernel
theorem dX2_bad_5 : decode cX2_bad 5 = .ok (.aload_n 0, 1) := by decide +kernel
theorem dX2_bad_6 : decode cX2_bad 6 = .ok (.getfield 19, 3) := by decide +kernel
theorem dX2_bad_9 : decode cX2_bad 9 = .ok (.if_icmp .lt 7, 3) := by decide +kernel
theorem dX2_bad_12 : decode cX2_bad 12 = .ok (.iconst 1, 1) := by decide +kernel
theorem dX2_bad_13 : decode cX2_bad 13 = .ok (.goto 4, 3) := by decide +kernel
theorem dX2_bad_16 : decode cX2_bad 16 = .ok (.iconst 0, 1) := by decide +kernel
theorem dX2_bad_17 : decode cX2_bad 17 = .ok (.ireturn, 1) := by decide +kernel
abbrev cX2_far : ByteArray := prog_3_method_4_code
def yX2_far : MethodName := ⟨RX2, "far", "(I)Z"⟩
theorem dX2_far_0 : decode cX2_far 0 = .ok (.iload_n 1, 1) := by decide +kernel
theorem dX2_far_1 : decode cX2_far 1 = .ok (.bipush (-9), 2) := by decide +kernel
theorem dX2_far_3 : decode cX2_far 3 = .ok (.if_icmp .lt 9, 3) := by decide +kernel
theorem dX2_far_6 : decode cX2_far 6 = .ok (.iload_n 1, 1) := by decide +kernel
theorem dX2_far_7 : decode cX2_far 7 = .ok (.bipush 20, 2) := by decide +kernel
theorem dX2_far_9 : decode cX2_far 9 = .ok (.if_icmp .le 7, 3) := by decide +kernel
theorem dX2_far_12 : decode cX2_far 12 = .ok (.iconst 1, 1) := by decide +kernel
theorem dX2_far_13 : decode cX2_far 13 = .ok (.goto 4, 3) := by decide +kernel
theorem dX2_far_16 : decode cX2_far 16 = .ok (.iconst 0, 1) := by decide +kernel
theorem dX2_far_17 : decode cX2_far 17 = .ok (.ireturn, 1) := by decide +kernel
abbrev cX2_remove : ByteArray := prog_3_method_6_code
def yX2_remove : MethodName := ⟨RX2, "remove", "(I)I"⟩
theorem dX2_remove_0 : decode cX2_remove 0 = .ok (.aload_n 0, 1) := by decide +kernel
theorem dX2_remove_1 : decode cX2_remove 1 = .ok (.iload_n 1, 1) := by decide +kernel
theorem dX2_remove_2 : decode cX2_remove 2 = .ok (.invokevirtual 33, 3) := by decide +kernel
theorem dX2_remove_5 : decode cX2_remove 5 = .ok (.ifCond .eq 5, 3) := by decide +kernel
theorem dX2_remove_8 : decode cX2_remove 8 = .ok (.iconst (-1), 1) := by decide +kernel
theorem dX2_remove_9 : decode cX2_remove 9 = .ok (.ireturn, 1) := by decide +kernel
theorem dX2_remove_10 : decode cX2_remove 10 = .ok (.iload_n 1, 1) := by decide +kernel
theorem dX2_remove_11 : decode cX2_remove 11 = .ok (.istore_n 2, 1) := by decide +kernel
theorem dX2_remove_12 : decode cX2_remove 12 = .ok (.iload_n 2, 1) := by decide +kernel
theorem dX2_remove_13 : decode cX2_remove 13 = .ok (.aload_n 0, 1) := by decide +kernel
theorem dX2_remove_14 : decode cX2_remove 14 = .ok (.getfield 23, 3) := by decide +kernel
theorem dX2_remove_17 : decode cX2_remove 17 = .ok (.iconst 1, 1) := by decide +kernel
theorem dX2_remove_18 : decode cX2_remove 18 = .ok (.isub, 1) := by decide +kernel
theorem dX2_remove_19 : decode cX2_remove 19 = .ok (.if_icmp .ge 57, 3) := by decide +kernel
theorem dX2_remove_22 : decode cX2_remove 22 = .ok (.iload_n 2, 1) := by decide +kernel
theorem dX2_remove_23 : decode cX2_remove 23 = .ok (.bipush 11, 2) := by decide +kernel
theorem dX2_remove_25 : decode cX2_remove 25 = .ok (.if_icmp .ge 51, 3) := by decide +kernel
theorem dX2_remove_28 : decode cX2_remove 28 = .ok (.aload_n 0, 1) := by decide +kernel
theorem dX2_remove_29 : decode cX2_remove 29 = .ok (.getfield 7, 3) := by decide +kernel
theorem dX2_remove_32 : decode cX2_remove 32 = .ok (.iload_n 2, 1) := by decide +kernel
theorem dX2_remove_33 : decode cX2_remove 33 = .ok (.aload_n 0, 1) := by decide +kernel
theorem dX2_remove_34 : decode cX2_remove 34 = .ok (.getfield 7, 3) := by decide +kernel
theorem dX2_remove_37 : decode cX2_remove 37 = .ok (.iload_n 2, 1) := by decide +kernel
theorem dX2_remove_38 : decode cX2_remove 38 = .ok (.iconst 1, 1) := by decide +kernel
theorem dX2_remove_39 : decode cX2_remove 39 = .ok (.iadd, 1) := by decide +kernel
theorem dX2_remove_40 : decode cX2_remove 40 = .ok (.iaload, 1) := by decide +kernel
theorem dX2_remove_41 : decode cX2_remove 41 = .ok (.iastore, 1) := by decide +kernel
theorem dX2_remove_42 : decode cX2_remove 42 = .ok (.aload_n 0, 1) := by decide +kernel
theorem dX2_remove_43 : decode cX2_remove 43 = .ok (.getfield 13, 3) := by decide +kernel
theorem dX2_remove_46 : decode cX2_remove 46 = .ok (.iload_n 2, 1) := by decide +kernel
theorem dX2_remove_47 : decode cX2_remove 47 = .ok (.aload_n 0, 1) := by decide +kernel
theorem dX2_remove_48 : decode cX2_remove 48 = .ok (.getfield 13, 3) := by decide +kernel
theorem dX2_remove_51 : decode cX2_remove 51 = .ok (.iload_n 2, 1) := by decide +kernel
theorem dX2_remove_52 : decode cX2_remove 52 = .ok (.iconst 1, 1) := by decide +kernel
theorem dX2_remove_53 : decode cX2_remove 53 = .ok (.iadd, 1) := by decide +kernel
theorem dX2_remove_54 : decode cX2_remove 54 = .ok (.iaload, 1) := by decide +kernel
theorem dX2_remove_55 : decode cX2_remove 55 = .ok (.iastore, 1) := by decide +kernel
theorem dX2_remove_56 : decode cX2_remove 56 = .ok (.aload_n 0, 1) := by decide +kernel
theorem dX2_remove_57 : decode cX2_remove 57 = .ok (.getfield 16, 3) := by decide +kernel
theorem dX2_remove_60 : decode cX2_remove 60 = .ok (.iload_n 2, 1) := by decide +kernel
theorem dX2_remove_61 : decode cX2_remove 61 = .ok (.aload_n 0, 1) := by decide +kernel
theorem dX2_remove_62 : decode cX2_remove 62 = .ok (.getfield 16, 3) := by decide +kernel
theorem dX2_remove_65 : decode cX2_remove 65 = .ok (.iload_n 2, 1) := by decide +kernel
theorem dX2_remove_66 : decode cX2_remove 66 = .ok (.iconst 1, 1) := by decide +kernel
theorem dX2_remove_67 : decode cX2_remove 67 = .ok (.iadd, 1) := by decide +kernel
theorem dX2_remove_68 : decode cX2_remove 68 = .ok (.iaload, 1) := by decide +kernel
theorem dX2_remove_69 : decode cX2_remove 69 = .ok (.iastore, 1) := by decide +kernel
theorem dX2_remove_70 : decode cX2_remove 70 = .ok (.iinc 2 1, 3) := by decide +kernel
theorem dX2_remove_73 : decode cX2_remove 73 = .ok (.goto (-61), 3) := by decide +kernel
theorem dX2_remove_76 : decode cX2_remove 76 = .ok (.aload_n 0, 1) := by decide +kernel
theorem dX2_remove_77 : decode cX2_remove 77 = .ok (.dup, 1) := by decide +kernel
theorem dX2_remove_78 : decode cX2_remove 78 = .ok (.getfield 23, 3) := by decide +kernel
theorem dX2_remove_81 : decode cX2_remove 81 = .ok (.iconst 1, 1) := by decide +kernel
theorem dX2_remove_82 : decode cX2_remove 82 = .ok (.isub, 1) := by decide +kernel
theorem dX2_remove_83 : decode cX2_remove 83 = .ok (.putfield 23, 3) := by decide +kernel
theorem dX2_remove_86 : decode cX2_remove 86 = .ok (.aload_n 0, 1) := by decide +kernel
theorem dX2_remove_87 : decode cX2_remove 87 = .ok (.getfield 23, 3) := by decide +kernel
theorem dX2_remove_90 : decode cX2_remove 90 = .ok (.ireturn, 1) := by decide +kernel
abbrev cX2_badRoad : ByteArray := prog_3_method_3_code
def yX2_badRoad : MethodName := ⟨RX2, "badRoad", "(I)Z"⟩
theorem dX2_badRoad_0 : decode cX2_badRoad 0 = .ok (.iload_n 1, 1) := by decide +kernel
theorem dX2_badRoad_1 : decode cX2_badRoad 1 = .ok (.ifCond .lt 17, 3) := by decide +kernel
theorem dX2_badRoad_4 : decode cX2_badRoad 4 = .ok (.iload_n 1, 1) := by decide +kernel
theorem dX2_badRoad_5 : decode cX2_badRoad 5 = .ok (.aload_n 0, 1) := by decide +kernel
theorem dX2_badRoad_6 : decode cX2_badRoad 6 = .ok (.getfield 23, 3) := by decide +kernel
theorem dX2_badRoad_9 : decode cX2_badRoad 9 = .ok (.if_icmp .ge 9, 3) := by decide +kernel
theorem dX2_badRoad_12 : decode cX2_badRoad 12 = .ok (.iload_n 1, 1) := by decide +kernel
theorem dX2_badRoad_13 : decode cX2_badRoad 13 = .ok (.bipush 11, 2) := by decide +kernel
theorem dX2_badRoad_15 : decode cX2_badRoad 15 = .ok (.if_icmp .le 7, 3) := by decide +kernel
theorem dX2_badRoad_18 : decode cX2_badRoad 18 = .ok (.iconst 1, 1) := by decide +kernel
theorem dX2_badRoad_19 : decode cX2_badRoad 19 = .ok (.goto 4, 3) := by decide +kernel
theorem dX2_badRoad_22 : decode cX2_badRoad 22 = .ok (.iconst 0, 1) := by decide +kernel
theorem dX2_badRoad_23 : decode cX2_badRoad 23 = .ok (.ireturn, 1) := by decide +kernel
abbrev cX2_weigh : ByteArray := prog_3_method_7_code
def yX2_weigh : MethodName := ⟨RX2, "weigh", "(II)I"⟩
theorem dX2_weigh_0 : decode cX2_weigh 0 = .ok (.aload_n 0, 1) := by decide +kernel
theorem dX2_weigh_1 : decode cX2_weigh 1 = .ok (.iload_n 1, 1) := by decide +kernel
theorem dX2_weigh_2 : decode cX2_weigh 2 = .ok (.invokevirtual 33, 3) := by decide +kernel
theorem dX2_weigh_5 : decode cX2_weigh 5 = .ok (.ifCond .eq 5, 3) := by decide +kernel
theorem dX2_weigh_8 : decode cX2_weigh 8 = .ok (.iconst (-1), 1) := by decide +kernel
theorem dX2_weigh_9 : decode cX2_weigh 9 = .ok (.ireturn, 1) := by decide +kernel
theorem dX2_weigh_10 : decode cX2_weigh 10 = .ok (.aload_n 0, 1) := by decide +kernel
theorem dX2_weigh_11 : decode cX2_weigh 11 = .ok (.iload_n 2, 1) := by decide +kernel
theorem dX2_weigh_12 : decode cX2_weigh 12 = .ok (.invokevirtual 30, 3) := by decide +kernel
theorem dX2_weigh_15 : decode cX2_weigh 15 = .ok (.ifCond .eq 6, 3) := by decide +kernel
theorem dX2_weigh_18 : decode cX2_weigh 18 = .ok (.bipush (-2), 2) := by decide +kernel
theorem dX2_weigh_20 : decode cX2_weigh 20 = .ok (.ireturn, 1) := by decide +kernel
theorem dX2_weigh_21 : decode cX2_weigh 21 = .ok (.aload_n 0, 1) := by decide +kernel
theorem dX2_weigh_22 : decode cX2_weigh 22 = .ok (.getfield 16, 3) := by decide +kernel
theorem dX2_weigh_25 : decode cX2_weigh 25 = .ok (.iload_n 1, 1) := by decide +kernel
theorem dX2_weigh_26 : decode cX2_weigh 26 = .ok (.iaload, 1) := by decide +kernel
theorem dX2_weigh_27 : decode cX2_weigh 27 = .ok (.istore_n 3, 1) := by decide +kernel
theorem dX2_weigh_28 : decode cX2_weigh 28 = .ok (.aload_n 0, 1) := by decide +kernel
theorem dX2_weigh_29 : decode cX2_weigh 29 = .ok (.getfield 16, 3) := by decide +kernel
theorem dX2_weigh_32 : decode cX2_weigh 32 = .ok (.iload_n 1, 1) := by decide +kernel
theorem dX2_weigh_33 : decode cX2_weigh 33 = .ok (.iload_n 2, 1) := by decide +kernel
theorem dX2_weigh_34 : decode cX2_weigh 34 = .ok (.iastore, 1) := by decide +kernel
theorem dX2_weigh_35 : decode cX2_weigh 35 = .ok (.iload_n 3, 1) := by decide +kernel
theorem dX2_weigh_36 : decode cX2_weigh 36 = .ok (.ireturn, 1) := by decide +kernel
abbrev cX2_want : ByteArray := prog_3_method_8_code
def yX2_want : MethodName := ⟨RX2, "want", "(I)I"⟩
theorem dX2_want_0 : decode cX2_want 0 = .ok (.iload_n 1, 1) := by decide +kernel
theorem dX2_want_1 : decode cX2_want 1 = .ok (.ifCond .lt 13, 3) := by decide +kernel
theorem dX2_want_4 : decode cX2_want 4 = .ok (.iload_n 1, 1) := by decide +kernel
theorem dX2_want_5 : decode cX2_want 5 = .ok (.iconst 1, 1) := by decide +kernel
theorem dX2_want_6 : decode cX2_want 6 = .ok (.aload_n 0, 1) := by decide +kernel
theorem dX2_want_7 : decode cX2_want 7 = .ok (.getfield 19, 3) := by decide +kernel
theorem dX2_want_10 : decode cX2_want 10 = .ok (.ishl, 1) := by decide +kernel
theorem dX2_want_11 : decode cX2_want 11 = .ok (.if_icmp .lt 5, 3) := by decide +kernel
theorem dX2_want_14 : decode cX2_want 14 = .ok (.iconst (-1), 1) := by decide +kernel
theorem dX2_want_15 : decode cX2_want 15 = .ok (.ireturn, 1) := by decide +kernel
theorem dX2_want_16 : decode cX2_want 16 = .ok (.aload_n 0, 1) := by decide +kernel
theorem dX2_want_17 : decode cX2_want 17 = .ok (.getfield 36, 3) := by decide +kernel
theorem dX2_want_20 : decode cX2_want 20 = .ok (.istore_n 2, 1) := by decide +kernel
theorem dX2_want_21 : decode cX2_want 21 = .ok (.aload_n 0, 1) := by decide +kernel
theorem dX2_want_22 : decode cX2_want 22 = .ok (.iload_n 1, 1) := by decide +kernel
theorem dX2_want_23 : decode cX2_want 23 = .ok (.putfield 36, 3) := by decide +kernel
theorem dX2_want_26 : decode cX2_want 26 = .ok (.iload_n 2, 1) := by decide +kernel
theorem dX2_want_27 : decode cX2_want 27 = .ok (.ireturn, 1) := by decide +kernel
abbrev cX2_turn : ByteArray := prog_3_method_9_code
def yX2_turn : MethodName := ⟨RX2, "turn", "(I)I"⟩
theorem dX2_turn_0 : decode cX2_turn 0 = .ok (.aload_n 0, 1) := by decide +kernel
theorem dX2_turn_1 : decode cX2_turn 1 = .ok (.iload_n 1, 1) := by decide +kernel
theorem dX2_turn_2 : decode cX2_turn 2 = .ok (.invokevirtual 26, 3) := by decide +kernel
theorem dX2_turn_5 : decode cX2_turn 5 = .ok (.ifCond .eq 5, 3) := by decide +kernel
theorem dX2_turn_8 : decode cX2_turn 8 = .ok (.iconst (-1), 1) := by decide +kernel
theorem dX2_turn_9 : decode cX2_turn 9 = .ok (.ireturn, 1) := by decide +kernel
theorem dX2_turn_10 : decode cX2_turn 10 = .ok (.aload_n 0, 1) := by decide +kernel
theorem dX2_turn_11 : decode cX2_turn 11 = .ok (.aload_n 0, 1) := by decide +kernel
theorem dX2_turn_12 : decode cX2_turn 12 = .ok (.getfield 36, 3) := by decide +kernel
theorem dX2_turn_15 : decode cX2_turn 15 = .ok (.iconst 1, 1) := by decide +kernel
theorem dX2_turn_16 : decode cX2_turn 16 = .ok (.iload_n 1, 1) := by decide +kernel
theorem dX2_turn_17 : decode cX2_turn 17 = .ok (.ishl, 1) := by decide +kernel
theorem dX2_turn_18 : decode cX2_turn 18 = .ok (.ixor, 1) := by decide +kernel
theorem dX2_turn_19 : decode cX2_turn 19 = .ok (.putfield 36, 3) := by decide +kernel
theorem dX2_turn_22 : decode cX2_turn 22 = .ok (.aload_n 0, 1) := by decide +kernel
theorem dX2_turn_23 : decode cX2_turn 23 = .ok (.getfield 36, 3) := by decide +kernel
theorem dX2_turn_26 : decode cX2_turn 26 = .ok (.ireturn, 1) := by decide +kernel
abbrev cX2_roads : ByteArray := prog_3_method_10_code
def yX2_roads : MethodName := ⟨RX2, "roads", "()I"⟩
theorem dX2_roads_0 : decode cX2_roads 0 = .ok (.aload_n 0, 1) := by decide +kernel
theorem dX2_roads_1 : decode cX2_roads 1 = .ok (.getfield 23, 3) := by decide +kernel
theorem dX2_roads_4 : decode cX2_roads 4 = .ok (.ireturn, 1) := by decide +kernel
abbrev cX2_isJoin : ByteArray := prog_3_method_15_code
def yX2_isJoin : MethodName := ⟨RX2, "isJoin", "(I)I"⟩
theorem dX2_isJoin_0 : decode cX2_isJoin 0 = .ok (.iload_n 1, 1) := by decide +kernel
theorem dX2_isJoin_1 : decode cX2_isJoin 1 = .ok (.ifCond .lt 13, 3) := by decide +kernel
theorem dX2_isJoin_4 : decode cX2_isJoin 4 = .ok (.iload_n 1, 1) := by decide +kernel
theorem dX2_isJoin_5 : decode cX2_isJoin 5 = .ok (.iconst 1, 1) := by decide +kernel
theorem dX2_isJoin_6 : decode cX2_isJoin 6 = .ok (.aload_n 0, 1) := by decide +kernel
theorem dX2_isJoin_7 : decode cX2_isJoin 7 = .ok (.getfield 23, 3) := by decide +kernel
theorem dX2_isJoin_10 : decode cX2_isJoin 10 = .ok (.ishl, 1) := by decide +kernel
theorem dX2_isJoin_11 : decode cX2_isJoin 11 = .ok (.if_icmp .lt 5, 3) := by decide +kernel
theorem dX2_isJoin_14 : decode cX2_isJoin 14 = .ok (.iconst (-1), 1) := by decide +kernel
theorem dX2_isJoin_15 : decode cX2_isJoin 15 = .ok (.ireturn, 1) := by decide +kernel
theorem dX2_isJoin_16 : decode cX2_isJoin 16 = .ok (.aload_n 0, 1) := by decide +kernel
theorem dX2_isJoin_17 : decode cX2_isJoin 17 = .ok (.iload_n 1, 1) := by decide +kernel
theorem dX2_isJoin_18 : decode cX2_isJoin 18 = .ok (.invokevirtual 39, 3) := by decide +kernel
theorem dX2_isJoin_21 : decode cX2_isJoin 21 = .ok (.aload_n 0, 1) := by decide +kernel
theorem dX2_isJoin_22 : decode cX2_isJoin 22 = .ok (.getfield 36, 3) := by decide +kernel
theorem dX2_isJoin_25 : decode cX2_isJoin 25 = .ok (.if_icmp .ne 7, 3) := by decide +kernel
theorem dX2_isJoin_28 : decode cX2_isJoin 28 = .ok (.iconst 1, 1) := by decide +kernel
theorem dX2_isJoin_29 : decode cX2_isJoin 29 = .ok (.goto 4, 3) := by decide +kernel
theorem dX2_isJoin_32 : decode cX2_isJoin 32 = .ok (.iconst 0, 1) := by decide +kernel
theorem dX2_isJoin_33 : decode cX2_isJoin 33 = .ok (.ireturn, 1) := by decide +kernel
abbrev cX2_odd : ByteArray := prog_3_method_11_code
def yX2_odd : MethodName := ⟨RX2, "odd", "(I)I"⟩
theorem dX2_odd_0 : decode cX2_odd 0 = .ok (.iconst 0, 1) := by decide +kernel
theorem dX2_odd_1 : decode cX2_odd 1 = .ok (.istore_n 2, 1) := by decide +kernel
theorem dX2_odd_2 : decode cX2_odd 2 = .ok (.iconst 0, 1) := by decide +kernel
theorem dX2_odd_3 : decode cX2_odd 3 = .ok (.istore_n 3, 1) := by decide +kernel
theorem dX2_odd_4 : decode cX2_odd 4 = .ok (.iload_n 3, 1) := by decide +kernel
theorem dX2_odd_5 : decode cX2_odd 5 = .ok (.aload_n 0, 1) := by decide +kernel
theorem dX2_odd_6 : decode cX2_odd 6 = .ok (.getfield 23, 3) := by decide +kernel
theorem dX2_odd_9 : decode cX2_odd 9 = .ok (.if_icmp .ge 44, 3) := by decide +kernel
theorem dX2_odd_12 : decode cX2_odd 12 = .ok (.iload_n 3, 1) := by decide +kernel
theorem dX2_odd_13 : decode cX2_odd 13 = .ok (.bipush 12, 2) := by decide +kernel
theorem dX2_odd_15 : decode cX2_odd 15 = .ok (.if_icmp .ge 38, 3) := by decide +kernel
theorem dX2_odd_18 : decode cX2_odd 18 = .ok (.iload_n 1, 1) := by decide +kernel
theorem dX2_odd_19 : decode cX2_odd 19 = .ok (.iload_n 3, 1) := by decide +kernel
theorem dX2_odd_20 : decode cX2_odd 20 = .ok (.ishr, 1) := by decide +kernel
theorem dX2_odd_21 : decode cX2_odd 21 = .ok (.iconst 1, 1) := by decide +kernel
theorem dX2_odd_22 : decode cX2_odd 22 = .ok (.iand, 1) := by decide +kernel
theorem dX2_odd_23 : decode cX2_odd 23 = .ok (.iconst 1, 1) := by decide +kernel
theorem dX2_odd_24 : decode cX2_odd 24 = .ok (.if_icmp .ne 23, 3) := by decide +kernel
theorem dX2_odd_27 : decode cX2_odd 27 = .ok (.iload_n 2, 1) := by decide +kernel
theorem dX2_odd_28 : decode cX2_odd 28 = .ok (.iconst 1, 1) := by decide +kernel
theorem dX2_odd_29 : decode cX2_odd 29 = .ok (.aload_n 0, 1) := by decide +kernel
theorem dX2_odd_30 : decode cX2_odd 30 = .ok (.getfield 7, 3) := by decide +kernel
theorem dX2_odd_33 : decode cX2_odd 33 = .ok (.iload_n 3, 1) := by decide +kernel
theorem dX2_odd_34 : decode cX2_odd 34 = .ok (.iaload, 1) := by decide +kernel
theorem dX2_odd_35 : decode cX2_odd 35 = .ok (.ishl, 1) := by decide +kernel
theorem dX2_odd_36 : decode cX2_odd 36 = .ok (.ixor, 1) := by decide +kernel
theorem dX2_odd_37 : decode cX2_odd 37 = .ok (.iconst 1, 1) := by decide +kernel
theorem dX2_odd_38 : decode cX2_odd 38 = .ok (.aload_n 0, 1) := by decide +kernel
theorem dX2_odd_39 : decode cX2_odd 39 = .ok (.getfield 13, 3) := by decide +kernel
theorem dX2_odd_42 : decode cX2_odd 42 = .ok (.iload_n 3, 1) := by decide +kernel
theorem dX2_odd_43 : decode cX2_odd 43 = .ok (.iaload, 1) := by decide +kernel
theorem dX2_odd_44 : decode cX2_odd 44 = .ok (.ishl, 1) := by decide +kernel
theorem dX2_odd_45 : decode cX2_odd 45 = .ok (.ixor, 1) := by decide +kernel
theorem dX2_odd_46 : decode cX2_odd 46 = .ok (.istore_n 2, 1) := by decide +kernel
theorem dX2_odd_47 : decode cX2_odd 47 = .ok (.iinc 3 1, 3) := by decide +kernel
theorem dX2_odd_50 : decode cX2_odd 50 = .ok (.goto (-46), 3) := by decide +kernel
theorem dX2_odd_53 : decode cX2_odd 53 = .ok (.iload_n 2, 1) := by decide +kernel
theorem dX2_odd_54 : decode cX2_odd 54 = .ok (.ireturn, 1) := by decide +kernel
abbrev cX2_possible : ByteArray := prog_3_method_16_code
def yX2_possible : MethodName := ⟨RX2, "possible", "()I"⟩
theorem dX2_possible_0 : decode cX2_possible 0 = .ok (.aload_n 0, 1) := by decide +kernel
theorem dX2_possible_1 : decode cX2_possible 1 = .ok (.aload_n 0, 1) := by decide +kernel
theorem dX2_possible_2 : decode cX2_possible 2 = .ok (.getfield 36, 3) := by decide +kernel
theorem dX2_possible_5 : decode cX2_possible 5 = .ok (.iconst 0, 1) := by decide +kernel
theorem dX2_possible_6 : decode cX2_possible 6 = .ok (.iconst 0, 1) := by decide +kernel
theorem dX2_possible_7 : decode cX2_possible 7 = .ok (.invokevirtual 46, 3) := by decide +kernel
theorem dX2_possible_10 : decode cX2_possible 10 = .ok (.ifCond .ge 7, 3) := by decide +kernel
theorem dX2_possible_13 : decode cX2_possible 13 = .ok (.iconst 0, 1) := by decide +kernel
theorem dX2_possible_14 : decode cX2_possible 14 = .ok (.goto 4, 3) := by decide +kernel
theorem dX2_possible_17 : decode cX2_possible 17 = .ok (.iconst 1, 1) := by decide +kernel
theorem dX2_possible_18 : decode cX2_possible 18 = .ok (.ireturn, 1) := by decide +kernel
abbrev cX2_search : ByteArray := prog_3_method_13_code
def yX2_search : MethodName := ⟨RX2, "search", "(III)I"⟩
theorem dX2_search_0 : decode cX2_search 0 = .ok (.iconst (-1), 1) := by decide +kernel
theorem dX2_search_1 : decode cX2_search 1 = .ok (.istore 4, 2) := by decide +kernel
theorem dX2_search_3 : decode cX2_search 3 = .ok (.iconst 0, 1) := by decide +kernel
theorem dX2_search_4 : decode cX2_search 4 = .ok (.istore 5, 2) := by decide +kernel
theorem dX2_search_6 : decode cX2_search 6 = .ok (.iconst 0, 1) := by decide +kernel
theorem dX2_search_7 : decode cX2_search 7 = .ok (.istore 6, 2) := by decide +kernel
theorem dX2_search_9 : decode cX2_search 9 = .ok (.iload 6, 2) := by decide +kernel
theorem dX2_search_11 : decode cX2_search 11 = .ok (.iconst 1, 1) := by decide +kernel
theorem dX2_search_12 : decode cX2_search 12 = .ok (.aload_n 0, 1) := by decide +kernel
theorem dX2_search_13 : decode cX2_search 13 = .ok (.getfield 23, 3) := by decide +kernel
theorem dX2_search_16 : decode cX2_search 16 = .ok (.ishl, 1) := by decide +kernel
theorem dX2_search_17 : decode cX2_search 17 = .ok (.if_icmp .ge 62, 3) := by decide +kernel
theorem dX2_search_20 : decode cX2_search 20 = .ok (.iload 6, 2) := by decide +kernel
theorem dX2_search_22 : decode cX2_search 22 = .ok (.iload_n 2, 1) := by decide +kernel
theorem dX2_search_23 : decode cX2_search 23 = .ok (.iand, 1) := by decide +kernel
theorem dX2_search_24 : decode cX2_search 24 = .ok (.iload_n 2, 1) := by decide +kernel
theorem dX2_search_25 : decode cX2_search 25 = .ok (.if_icmp .ne 48, 3) := by decide +kernel
theorem dX2_search_28 : decode cX2_search 28 = .ok (.iload 6, 2) := by decide +kernel
theorem dX2_search_30 : decode cX2_search 30 = .ok (.iload_n 3, 1) := by decide +kernel
theorem dX2_search_31 : decode cX2_search 31 = .ok (.iand, 1) := by decide +kernel
theorem dX2_search_32 : decode cX2_search 32 = .ok (.ifCond .ne 41, 3) := by decide +kernel
theorem dX2_search_35 : decode cX2_search 35 = .ok (.aload_n 0, 1) := by decide +kernel
theorem dX2_search_36 : decode cX2_search 36 = .ok (.iload 6, 2) := by decide +kernel
theorem dX2_search_38 : decode cX2_search 38 = .ok (.invokevirtual 39, 3) := by decide +kernel
theorem dX2_search_41 : decode cX2_search 41 = .ok (.iload_n 1, 1) := by decide +kernel
theorem dX2_search_42 : decode cX2_search 42 = .ok (.if_icmp .ne 31, 3) := by decide +kernel
theorem dX2_search_45 : decode cX2_search 45 = .ok (.aload_n 0, 1) := by decide +kernel
theorem dX2_search_46 : decode cX2_search 46 = .ok (.iload 6, 2) := by decide +kernel
theorem dX2_search_48 : decode cX2_search 48 = .ok (.invokevirtual 43, 3) := by decide +kernel
theorem dX2_search_51 : decode cX2_search 51 = .ok (.istore 7, 2) := by decide +kernel
theorem dX2_search_53 : decode cX2_search 53 = .ok (.iload 4, 2) := by decide +kernel
theorem dX2_search_55 : decode cX2_search 55 = .ok (.ifCond .lt 10, 3) := by decide +kernel
theorem dX2_search_58 : decode cX2_search 58 = .ok (.iload 7, 2) := by decide +kernel
theorem dX2_search_60 : decode cX2_search 60 = .ok (.iload 5, 2) := by decide +kernel
theorem dX2_search_62 : decode cX2_search 62 = .ok (.if_icmp .ge 11, 3) := by decide +kernel
theorem dX2_search_65 : decode cX2_search 65 = .ok (.iload 6, 2) := by decide +kernel
theorem dX2_search_67 : decode cX2_search 67 = .ok (.istore 4, 2) := by decide +kernel
theorem dX2_search_69 : decode cX2_search 69 = .ok (.iload 7, 2) := by decide +kernel
theorem dX2_search_71 : decode cX2_search 71 = .ok (.istore 5, 2) := by decide +kernel
theorem dX2_search_73 : decode cX2_search 73 = .ok (.iinc 6 1, 3) := by decide +kernel
theorem dX2_search_76 : decode cX2_search 76 = .ok (.goto (-67), 3) := by decide +kernel
theorem dX2_search_79 : decode cX2_search 79 = .ok (.iload 4, 2) := by decide +kernel
theorem dX2_search_81 : decode cX2_search 81 = .ok (.ireturn, 1) := by decide +kernel
abbrev cX2_sum : ByteArray := prog_3_method_12_code
def yX2_sum : MethodName := ⟨RX2, "sum", "(I)I"⟩
theorem dX2_sum_0 : decode cX2_sum 0 = .ok (.iconst 0, 1) := by decide +kernel
theorem dX2_sum_1 : decode cX2_sum 1 = .ok (.istore_n 2, 1) := by decide +kernel
theorem dX2_sum_2 : decode cX2_sum 2 = .ok (.iconst 0, 1) := by decide +kernel
theorem dX2_sum_3 : decode cX2_sum 3 = .ok (.istore_n 3, 1) := by decide +kernel
theorem dX2_sum_4 : decode cX2_sum 4 = .ok (.iload_n 3, 1) := by decide +kernel
theorem dX2_sum_5 : decode cX2_sum 5 = .ok (.aload_n 0, 1) := by decide +kernel
theorem dX2_sum_6 : decode cX2_sum 6 = .ok (.getfield 23, 3) := by decide +kernel
theorem dX2_sum_9 : decode cX2_sum 9 = .ok (.if_icmp .ge 33, 3) := by decide +kernel
theorem dX2_sum_12 : decode cX2_sum 12 = .ok (.iload_n 3, 1) := by decide +kernel
theorem dX2_sum_13 : decode cX2_sum 13 = .ok (.bipush 12, 2) := by decide +kernel
theorem dX2_sum_15 : decode cX2_sum 15 = .ok (.if_icmp .ge 27, 3) := by decide +kernel
theorem dX2_sum_18 : decode cX2_sum 18 = .ok (.iload_n 1, 1) := by decide +kernel
theorem dX2_sum_19 : decode cX2_sum 19 = .ok (.iload_n 3, 1) := by decide +kernel
theorem dX2_sum_20 : decode cX2_sum 20 = .ok (.ishr, 1) := by decide +kernel
theorem dX2_sum_21 : decode cX2_sum 21 = .ok (.iconst 1, 1) := by decide +kernel
theorem dX2_sum_22 : decode cX2_sum 22 = .ok (.iand, 1) := by decide +kernel
theorem dX2_sum_23 : decode cX2_sum 23 = .ok (.iconst 1, 1) := by decide +kernel
theorem dX2_sum_24 : decode cX2_sum 24 = .ok (.if_icmp .ne 12, 3) := by decide +kernel
theorem dX2_sum_27 : decode cX2_sum 27 = .ok (.iload_n 2, 1) := by decide +kernel
theorem dX2_sum_28 : decode cX2_sum 28 = .ok (.aload_n 0, 1) := by decide +kernel
theorem dX2_sum_29 : decode cX2_sum 29 = .ok (.getfield 16, 3) := by decide +kernel
theorem dX2_sum_32 : decode cX2_sum 32 = .ok (.iload_n 3, 1) := by decide +kernel
theorem dX2_sum_33 : decode cX2_sum 33 = .ok (.iaload, 1) := by decide +kernel
theorem dX2_sum_34 : decode cX2_sum 34 = .ok (.iadd, 1) := by decide +kernel
theorem dX2_sum_35 : decode cX2_sum 35 = .ok (.istore_n 2, 1) := by decide +kernel
theorem dX2_sum_36 : decode cX2_sum 36 = .ok (.iinc 3 1, 3) := by decide +kernel
theorem dX2_sum_39 : decode cX2_sum 39 = .ok (.goto (-35), 3) := by decide +kernel
theorem dX2_sum_42 : decode cX2_sum 42 = .ok (.iload_n 2, 1) := by decide +kernel
theorem dX2_sum_43 : decode cX2_sum 43 = .ok (.ireturn, 1) := by decide +kernel
abbrev cX2_joins : ByteArray := prog_3_method_17_code
def yX2_joins : MethodName := ⟨RX2, "joins", "()I"⟩
theorem dX2_joins_0 : decode cX2_joins 0 = .ok (.iconst 0, 1) := by decide +kernel
theorem dX2_joins_1 : decode cX2_joins 1 = .ok (.istore_n 1, 1) := by decide +kernel
theorem dX2_joins_2 : decode cX2_joins 2 = .ok (.iconst 0, 1) := by decide +kernel
theorem dX2_joins_3 : decode cX2_joins 3 = .ok (.istore_n 2, 1) := by decide +kernel
theorem dX2_joins_4 : decode cX2_joins 4 = .ok (.iload_n 2, 1) := by decide +kernel
theorem dX2_joins_5 : decode cX2_joins 5 = .ok (.iconst 1, 1) := by decide +kernel
theorem dX2_joins_6 : decode cX2_joins 6 = .ok (.aload_n 0, 1) := by decide +kernel
theorem dX2_joins_7 : decode cX2_joins 7 = .ok (.getfield 23, 3) := by decide +kernel
theorem dX2_joins_10 : decode cX2_joins 10 = .ok (.ishl, 1) := by decide +kernel
theorem dX2_joins_11 : decode cX2_joins 11 = .ok (.if_icmp .ge 24, 3) := by decide +kernel
theorem dX2_joins_14 : decode cX2_joins 14 = .ok (.aload_n 0, 1) := by decide +kernel
theorem dX2_joins_15 : decode cX2_joins 15 = .ok (.iload_n 2, 1) := by decide +kernel
theorem dX2_joins_16 : decode cX2_joins 16 = .ok (.invokevirtual 39, 3) := by decide +kernel
theorem dX2_joins_19 : decode cX2_joins 19 = .ok (.aload_n 0, 1) := by decide +kernel
theorem dX2_joins_20 : decode cX2_joins 20 = .ok (.getfield 36, 3) := by decide +kernel
theorem dX2_joins_23 : decode cX2_joins 23 = .ok (.if_icmp .ne 6, 3) := by decide +kernel
theorem dX2_joins_26 : decode cX2_joins 26 = .ok (.iinc 1 1, 3) := by decide +kernel
theorem dX2_joins_29 : decode cX2_joins 29 = .ok (.iinc 2 1, 3) := by decide +kernel
theorem dX2_joins_32 : decode cX2_joins 32 = .ok (.goto (-28), 3) := by decide +kernel
theorem dX2_joins_35 : decode cX2_joins 35 = .ok (.iload_n 1, 1) := by decide +kernel
theorem dX2_joins_36 : decode cX2_joins 36 = .ok (.ireturn, 1) := by decide +kernel
abbrev cX2_best : ByteArray := prog_3_method_18_code
def yX2_best : MethodName := ⟨RX2, "best", "()I"⟩
theorem dX2_best_0 : decode cX2_best 0 = .ok (.aload_n 0, 1) := by decide +kernel
theorem dX2_best_1 : decode cX2_best 1 = .ok (.aload_n 0, 1) := by decide +kernel
theorem dX2_best_2 : decode cX2_best 2 = .ok (.getfield 36, 3) := by decide +kernel
theorem dX2_best_5 : decode cX2_best 5 = .ok (.iconst 0, 1) := by decide +kernel
theorem dX2_best_6 : decode cX2_best 6 = .ok (.iconst 0, 1) := by decide +kernel
theorem dX2_best_7 : decode cX2_best 7 = .ok (.invokevirtual 46, 3) := by decide +kernel
theorem dX2_best_10 : decode cX2_best 10 = .ok (.istore_n 1, 1) := by decide +kernel
theorem dX2_best_11 : decode cX2_best 11 = .ok (.aload_n 0, 1) := by decide +kernel
theorem dX2_best_12 : decode cX2_best 12 = .ok (.iload_n 1, 1) := by decide +kernel
theorem dX2_best_13 : decode cX2_best 13 = .ok (.invokevirtual 50, 3) := by decide +kernel
theorem dX2_best_16 : decode cX2_best 16 = .ok (.ireturn, 1) := by decide +kernel
abbrev cX2_weightOf : ByteArray := prog_3_method_14_code
def yX2_weightOf : MethodName := ⟨RX2, "weightOf", "(I)I"⟩
theorem dX2_weightOf_0 : decode cX2_weightOf 0 = .ok (.iload_n 1, 1) := by decide +kernel
theorem dX2_weightOf_1 : decode cX2_weightOf 1 = .ok (.ifCond .ge 9, 3) := by decide +kernel
theorem dX2_weightOf_4 : decode cX2_weightOf 4 = .ok (.sipush (-1000), 3) := by decide +kernel
theorem dX2_weightOf_7 : decode cX2_weightOf 7 = .ok (.goto 8, 3) := by decide +kernel
theorem dX2_weightOf_10 : decode cX2_weightOf 10 = .ok (.aload_n 0, 1) := by decide +kernel
theorem dX2_weightOf_11 : decode cX2_weightOf 11 = .ok (.iload_n 1, 1) := by decide +kernel
theorem dX2_weightOf_12 : decode cX2_weightOf 12 = .ok (.invokevirtual 43, 3) := by decide +kernel
theorem dX2_weightOf_15 : decode cX2_weightOf 15 = .ok (.ireturn, 1) := by decide +kernel
abbrev cX2_bestSet : ByteArray := prog_3_method_19_code
def yX2_bestSet : MethodName := ⟨RX2, "bestSet", "()I"⟩
theorem dX2_bestSet_0 : decode cX2_bestSet 0 = .ok (.aload_n 0, 1) := by decide +kernel
theorem dX2_bestSet_1 : decode cX2_bestSet 1 = .ok (.aload_n 0, 1) := by decide +kernel
theorem dX2_bestSet_2 : decode cX2_bestSet 2 = .ok (.getfield 36, 3) := by decide +kernel
theorem dX2_bestSet_5 : decode cX2_bestSet 5 = .ok (.iconst 0, 1) := by decide +kernel
theorem dX2_bestSet_6 : decode cX2_bestSet 6 = .ok (.iconst 0, 1) := by decide +kernel
theorem dX2_bestSet_7 : decode cX2_bestSet 7 = .ok (.invokevirtual 46, 3) := by decide +kernel
theorem dX2_bestSet_10 : decode cX2_bestSet 10 = .ok (.ireturn, 1) := by decide +kernel
abbrev cX2_bestWith : ByteArray := prog_3_method_20_code
def yX2_bestWith : MethodName := ⟨RX2, "bestWith", "(I)I"⟩
theorem dX2_bestWith_0 : decode cX2_bestWith 0 = .ok (.aload_n 0, 1) := by decide +kernel
theorem dX2_bestWith_1 : decode cX2_bestWith 1 = .ok (.iload_n 1, 1) := by decide +kernel
theorem dX2_bestWith_2 : decode cX2_bestWith 2 = .ok (.invokevirtual 33, 3) := by decide +kernel
theorem dX2_bestWith_5 : decode cX2_bestWith 5 = .ok (.ifCond .eq 7, 3) := by decide +kernel
theorem dX2_bestWith_8 : decode cX2_bestWith 8 = .ok (.sipush (-2000), 3) := by decide +kernel
theorem dX2_bestWith_11 : decode cX2_bestWith 11 = .ok (.ireturn, 1) := by decide +kernel
theorem dX2_bestWith_12 : decode cX2_bestWith 12 = .ok (.aload_n 0, 1) := by decide +kernel
theorem dX2_bestWith_13 : decode cX2_bestWith 13 = .ok (.aload_n 0, 1) := by decide +kernel
theorem dX2_bestWith_14 : decode cX2_bestWith 14 = .ok (.getfield 36, 3) := by decide +kernel
theorem dX2_bestWith_17 : decode cX2_bestWith 17 = .ok (.iconst 1, 1) := by decide +kernel
theorem dX2_bestWith_18 : decode cX2_bestWith 18 = .ok (.iload_n 1, 1) := by decide +kernel
theorem dX2_bestWith_19 : decode cX2_bestWith 19 = .ok (.ishl, 1) := by decide +kernel
theorem dX2_bestWith_20 : decode cX2_bestWith 20 = .ok (.iconst 0, 1) := by decide +kernel
theorem dX2_bestWith_21 : decode cX2_bestWith 21 = .ok (.invokevirtual 46, 3) := by decide +kernel
theorem dX2_bestWith_24 : decode cX2_bestWith 24 = .ok (.istore_n 2, 1) := by decide +kernel
theorem dX2_bestWith_25 : decode cX2_bestWith 25 = .ok (.aload_n 0, 1) := by decide +kernel
theorem dX2_bestWith_26 : decode cX2_bestWith 26 = .ok (.iload_n 2, 1) := by decide +kernel
theorem dX2_bestWith_27 : decode cX2_bestWith 27 = .ok (.invokevirtual 50, 3) := by decide +kernel
theorem dX2_bestWith_30 : decode cX2_bestWith 30 = .ok (.ireturn, 1) := by decide +kernel
abbrev cX2_bestWithout : ByteArray := prog_3_method_21_code
def yX2_bestWithout : MethodName := ⟨RX2, "bestWithout", "(I)I"⟩
theorem dX2_bestWithout_0 : decode cX2_bestWithout 0 = .ok (.aload_n 0, 1) := by decide +kernel
theorem dX2_bestWithout_1 : decode cX2_bestWithout 1 = .ok (.iload_n 1, 1) := by decide +kernel
theorem dX2_bestWithout_2 : decode cX2_bestWithout 2 = .ok (.invokevirtual 33, 3) := by decide +kernel
theorem dX2_bestWithout_5 : decode cX2_bestWithout 5 = .ok (.ifCond .eq 7, 3) := by decide +kernel
theorem dX2_bestWithout_8 : decode cX2_bestWithout 8 = .ok (.sipush (-2000), 3) := by decide +kernel
theorem dX2_bestWithout_11 : decode cX2_bestWithout 11 = .ok (.ireturn, 1) := by decide +kernel
theorem dX2_bestWithout_12 : decode cX2_bestWithout 12 = .ok (.aload_n 0, 1) := by decide +kernel
theorem dX2_bestWithout_13 : decode cX2_bestWithout 13 = .ok (.aload_n 0, 1) := by decide +kernel
theorem dX2_bestWithout_14 : decode cX2_bestWithout 14 = .ok (.getfield 36, 3) := by decide +kernel
theorem dX2_bestWithout_17 : decode cX2_bestWithout 17 = .ok (.iconst 0, 1) := by decide +kernel
theorem dX2_bestWithout_18 : decode cX2_bestWithout 18 = .ok (.iconst 1, 1) := by decide +kernel
theorem dX2_bestWithout_19 : decode cX2_bestWithout 19 = .ok (.iload_n 1, 1) := by decide +kernel
theorem dX2_bestWithout_20 : decode cX2_bestWithout 20 = .ok (.ishl, 1) := by decide +kernel
theorem dX2_bestWithout_21 : decode cX2_bestWithout 21 = .ok (.invokevirtual 46, 3) := by decide +kernel
theorem dX2_bestWithout_24 : decode cX2_bestWithout 24 = .ok (.istore_n 2, 1) := by decide +kernel
theorem dX2_bestWithout_25 : decode cX2_bestWithout 25 = .ok (.aload_n 0, 1) := by decide +kernel
theorem dX2_bestWithout_26 : decode cX2_bestWithout 26 = .ok (.iload_n 2, 1) := by decide +kernel
theorem dX2_bestWithout_27 : decode cX2_bestWithout 27 = .ok (.invokevirtual 50, 3) := by decide +kernel
theorem dX2_bestWithout_30 : decode cX2_bestWithout 30 = .ok (.ireturn, 1) := by decide +kernel
abbrev cX2_between : ByteArray := prog_3_method_22_code
def yX2_between : MethodName := ⟨RX2, "between", "(II)I"⟩
theorem dX2_between_0 : decode cX2_between 0 = .ok (.aload_n 0, 1) := by decide +kernel
theorem dX2_between_1 : decode cX2_between 1 = .ok (.iload_n 1, 1) := by decide +kernel
theorem dX2_between_2 : decode cX2_between 2 = .ok (.invokevirtual 26, 3) := by decide +kernel
theorem dX2_between_5 : decode cX2_between 5 = .ok (.ifCond .ne 11, 3) := by decide +kernel
theorem dX2_between_8 : decode cX2_between 8 = .ok (.aload_n 0, 1) := by decide +kernel
theorem dX2_between_9 : decode cX2_between 9 = .ok (.iload_n 2, 1) := by decide +kernel
theorem dX2_between_10 : decode cX2_between 10 = .ok (.invokevirtual 26, 3) := by decide +kernel
theorem dX2_between_13 : decode cX2_between 13 = .ok (.ifCond .eq 7, 3) := by decide +kernel
theorem dX2_between_16 : decode cX2_between 16 = .ok (.sipush (-2000), 3) := by decide +kernel
theorem dX2_between_19 : decode cX2_between 19 = .ok (.ireturn, 1) := by decide +kernel
theorem dX2_between_20 : decode cX2_between 20 = .ok (.aload_n 0, 1) := by decide +kernel
theorem dX2_between_21 : decode cX2_between 21 = .ok (.iconst 1, 1) := by decide +kernel
theorem dX2_between_22 : decode cX2_between 22 = .ok (.iload_n 1, 1) := by decide +kernel
theorem dX2_between_23 : decode cX2_between 23 = .ok (.ishl, 1) := by decide +kernel
theorem dX2_between_24 : decode cX2_between 24 = .ok (.iconst 1, 1) := by decide +kernel
theorem dX2_between_25 : decode cX2_between 25 = .ok (.iload_n 2, 1) := by decide +kernel
theorem dX2_between_26 : decode cX2_between 26 = .ok (.ishl, 1) := by decide +kernel
theorem dX2_between_27 : decode cX2_between 27 = .ok (.ixor, 1) := by decide +kernel
theorem dX2_between_28 : decode cX2_between 28 = .ok (.iconst 0, 1) := by decide +kernel
theorem dX2_between_29 : decode cX2_between 29 = .ok (.iconst 0, 1) := by decide +kernel
theorem dX2_between_30 : decode cX2_between 30 = .ok (.invokevirtual 46, 3) := by decide +kernel
theorem dX2_between_33 : decode cX2_between 33 = .ok (.istore_n 3, 1) := by decide +kernel
theorem dX2_between_34 : decode cX2_between 34 = .ok (.aload_n 0, 1) := by decide +kernel
theorem dX2_between_35 : decode cX2_between 35 = .ok (.iload_n 3, 1) := by decide +kernel
theorem dX2_between_36 : decode cX2_between 36 = .ok (.invokevirtual 50, 3) := by decide +kernel
theorem dX2_between_39 : decode cX2_between 39 = .ok (.ireturn, 1) := by decide +kernel
abbrev cX2_postman : ByteArray := prog_3_method_24_code
def yX2_postman : MethodName := ⟨RX2, "postman", "()I"⟩
theorem dX2_postman_0 : decode cX2_postman 0 = .ok (.iconst 0, 1) := by decide +kernel
theorem dX2_postman_1 : decode cX2_postman 1 = .ok (.istore_n 1, 1) := by decide +kernel
theorem dX2_postman_2 : decode cX2_postman 2 = .ok (.iload_n 1, 1) := by decide +kernel
theorem dX2_postman_3 : decode cX2_postman 3 = .ok (.aload_n 0, 1) := by decide +kernel
theorem dX2_postman_4 : decode cX2_postman 4 = .ok (.getfield 23, 3) := by decide +kernel
theorem dX2_postman_7 : decode cX2_postman 7 = .ok (.if_icmp .ge 26, 3) := by decide +kernel
theorem dX2_postman_10 : decode cX2_postman 10 = .ok (.iload_n 1, 1) := by decide +kernel
theorem dX2_postman_11 : decode cX2_postman 11 = .ok (.bipush 12, 2) := by decide +kernel
theorem dX2_postman_13 : decode cX2_postman 13 = .ok (.if_icmp .ge 20, 3) := by decide +kernel
theorem dX2_postman_16 : decode cX2_postman 16 = .ok (.aload_n 0, 1) := by decide +kernel
theorem dX2_postman_17 : decode cX2_postman 17 = .ok (.getfield 16, 3) := by decide +kernel
theorem dX2_postman_20 : decode cX2_postman 20 = .ok (.iload_n 1, 1) := by decide +kernel
theorem dX2_postman_21 : decode cX2_postman 21 = .ok (.iaload, 1) := by decide +kernel
theorem dX2_postman_22 : decode cX2_postman 22 = .ok (.ifCond .ge 5, 3) := by decide +kernel
theorem dX2_postman_25 : decode cX2_postman 25 = .ok (.iconst (-1), 1) := by decide +kernel
theorem dX2_postman_26 : decode cX2_postman 26 = .ok (.ireturn, 1) := by decide +kernel
theorem dX2_postman_27 : decode cX2_postman 27 = .ok (.iinc 1 1, 3) := by decide +kernel
theorem dX2_postman_30 : decode cX2_postman 30 = .ok (.goto (-28), 3) := by decide +kernel
theorem dX2_postman_33 : decode cX2_postman 33 = .ok (.aload_n 0, 1) := by decide +kernel
theorem dX2_postman_34 : decode cX2_postman 34 = .ok (.getfield 23, 3) := by decide +kernel
theorem dX2_postman_37 : decode cX2_postman 37 = .ok (.ifCond .ne 5, 3) := by decide +kernel
theorem dX2_postman_40 : decode cX2_postman 40 = .ok (.iconst 0, 1) := by decide +kernel
theorem dX2_postman_41 : decode cX2_postman 41 = .ok (.ireturn, 1) := by decide +kernel
theorem dX2_postman_42 : decode cX2_postman 42 = .ok (.aload_n 0, 1) := by decide +kernel
theorem dX2_postman_43 : decode cX2_postman 43 = .ok (.invokevirtual 53, 3) := by decide +kernel
theorem dX2_postman_46 : decode cX2_postman 46 = .ok (.ifCond .ne 6, 3) := by decide +kernel
theorem dX2_postman_49 : decode cX2_postman 49 = .ok (.bipush (-2), 2) := by decide +kernel
theorem dX2_postman_51 : decode cX2_postman 51 = .ok (.ireturn, 1) := by decide +kernel
theorem dX2_postman_52 : decode cX2_postman 52 = .ok (.aload_n 0, 1) := by decide +kernel
theorem dX2_postman_53 : decode cX2_postman 53 = .ok (.iconst 1, 1) := by decide +kernel
theorem dX2_postman_54 : decode cX2_postman 54 = .ok (.aload_n 0, 1) := by decide +kernel
theorem dX2_postman_55 : decode cX2_postman 55 = .ok (.getfield 23, 3) := by decide +kernel
theorem dX2_postman_58 : decode cX2_postman 58 = .ok (.ishl, 1) := by decide +kernel
theorem dX2_postman_59 : decode cX2_postman 59 = .ok (.iconst 1, 1) := by decide +kernel
theorem dX2_postman_60 : decode cX2_postman 60 = .ok (.isub, 1) := by decide +kernel
theorem dX2_postman_61 : decode cX2_postman 61 = .ok (.invokevirtual 39, 3) := by decide +kernel
theorem dX2_postman_64 : decode cX2_postman 64 = .ok (.istore_n 1, 1) := by decide +kernel
theorem dX2_postman_65 : decode cX2_postman 65 = .ok (.aload_n 0, 1) := by decide +kernel
theorem dX2_postman_66 : decode cX2_postman 66 = .ok (.iload_n 1, 1) := by decide +kernel
theorem dX2_postman_67 : decode cX2_postman 67 = .ok (.iconst 0, 1) := by decide +kernel
theorem dX2_postman_68 : decode cX2_postman 68 = .ok (.iconst 0, 1) := by decide +kernel
theorem dX2_postman_69 : decode cX2_postman 69 = .ok (.invokevirtual 46, 3) := by decide +kernel
theorem dX2_postman_72 : decode cX2_postman 72 = .ok (.istore_n 2, 1) := by decide +kernel
theorem dX2_postman_73 : decode cX2_postman 73 = .ok (.aload_n 0, 1) := by decide +kernel
theorem dX2_postman_74 : decode cX2_postman 74 = .ok (.iload_n 2, 1) := by decide +kernel
theorem dX2_postman_75 : decode cX2_postman 75 = .ok (.invokevirtual 50, 3) := by decide +kernel
theorem dX2_postman_78 : decode cX2_postman 78 = .ok (.ireturn, 1) := by decide +kernel
abbrev cX2_whole : ByteArray := prog_3_method_23_code
def yX2_whole : MethodName := ⟨RX2, "whole", "()Z"⟩
theorem dX2_whole_0 : decode cX2_whole 0 = .ok (.iconst 1, 1) := by decide +kernel
theorem dX2_whole_1 : decode cX2_whole 1 = .ok (.aload_n 0, 1) := by decide +kernel
theorem dX2_whole_2 : decode cX2_whole 2 = .ok (.getfield 7, 3) := by decide +kernel
theorem dX2_whole_5 : decode cX2_whole 5 = .ok (.iconst 0, 1) := by decide +kernel
theorem dX2_whole_6 : decode cX2_whole 6 = .ok (.iaload, 1) := by decide +kernel
theorem dX2_whole_7 : decode cX2_whole 7 = .ok (.ishl, 1) := by decide +kernel
theorem dX2_whole_8 : decode cX2_whole 8 = .ok (.istore_n 1, 1) := by decide +kernel
theorem dX2_whole_9 : decode cX2_whole 9 = .ok (.iconst 0, 1) := by decide +kernel
theorem dX2_whole_10 : decode cX2_whole 10 = .ok (.istore_n 2, 1) := by decide +kernel
theorem dX2_whole_11 : decode cX2_whole 11 = .ok (.iload_n 2, 1) := by decide +kernel
theorem dX2_whole_12 : decode cX2_whole 12 = .ok (.bipush 7, 2) := by decide +kernel
theorem dX2_whole_14 : decode cX2_whole 14 = .ok (.if_icmp .ge 62, 3) := by decide +kernel
theorem dX2_whole_17 : decode cX2_whole 17 = .ok (.iconst 0, 1) := by decide +kernel
theorem dX2_whole_18 : decode cX2_whole 18 = .ok (.istore_n 3, 1) := by decide +kernel
theorem dX2_whole_19 : decode cX2_whole 19 = .ok (.iload_n 3, 1) := by decide +kernel
theorem dX2_whole_20 : decode cX2_whole 20 = .ok (.aload_n 0, 1) := by decide +kernel
theorem dX2_whole_21 : decode cX2_whole 21 = .ok (.getfield 23, 3) := by decide +kernel
theorem dX2_whole_24 : decode cX2_whole 24 = .ok (.if_icmp .ge 46, 3) := by decide +kernel
theorem dX2_whole_27 : decode cX2_whole 27 = .ok (.iload_n 3, 1) := by decide +kernel
theorem dX2_whole_28 : decode cX2_whole 28 = .ok (.bipush 12, 2) := by decide +kernel
theorem dX2_whole_30 : decode cX2_whole 30 = .ok (.if_icmp .ge 40, 3) := by decide +kernel
theorem dX2_whole_33 : decode cX2_whole 33 = .ok (.iconst 1, 1) := by decide +kernel
theorem dX2_whole_34 : decode cX2_whole 34 = .ok (.aload_n 0, 1) := by decide +kernel
theorem dX2_whole_35 : decode cX2_whole 35 = .ok (.getfield 7, 3) := by decide +kernel
theorem dX2_whole_38 : decode cX2_whole 38 = .ok (.iload_n 3, 1) := by decide +kernel
theorem dX2_whole_39 : decode cX2_whole 39 = .ok (.iaload, 1) := by decide +kernel
theorem dX2_whole_40 : decode cX2_whole 40 = .ok (.ishl, 1) := by decide +kernel
theorem dX2_whole_41 : decode cX2_whole 41 = .ok (.iconst 1, 1) := by decide +kernel
theorem dX2_whole_42 : decode cX2_whole 42 = .ok (.aload_n 0, 1) := by decide +kernel
theorem dX2_whole_43 : decode cX2_whole 43 = .ok (.getfield 13, 3) := by decide +kernel
theorem dX2_whole_46 : decode cX2_whole 46 = .ok (.iload_n 3, 1) := by decide +kernel
theorem dX2_whole_47 : decode cX2_whole 47 = .ok (.iaload, 1) := by decide +kernel
theorem dX2_whole_48 : decode cX2_whole 48 = .ok (.ishl, 1) := by decide +kernel
theorem dX2_whole_49 : decode cX2_whole 49 = .ok (.ior, 1) := by decide +kernel
theorem dX2_whole_50 : decode cX2_whole 50 = .ok (.istore 4, 2) := by decide +kernel
theorem dX2_whole_52 : decode cX2_whole 52 = .ok (.iload_n 1, 1) := by decide +kernel
theorem dX2_whole_53 : decode cX2_whole 53 = .ok (.iload 4, 2) := by decide +kernel
theorem dX2_whole_55 : decode cX2_whole 55 = .ok (.iand, 1) := by decide +kernel
theorem dX2_whole_56 : decode cX2_whole 56 = .ok (.ifCond .eq 8, 3) := by decide +kernel
theorem dX2_whole_59 : decode cX2_whole 59 = .ok (.iload_n 1, 1) := by decide +kernel
theorem dX2_whole_60 : decode cX2_whole 60 = .ok (.iload 4, 2) := by decide +kernel
theorem dX2_whole_62 : decode cX2_whole 62 = .ok (.ior, 1) := by decide +kernel
theorem dX2_whole_63 : decode cX2_whole 63 = .ok (.istore_n 1, 1) := by decide +kernel
theorem dX2_whole_64 : decode cX2_whole 64 = .ok (.iinc 3 1, 3) := by decide +kernel
theorem dX2_whole_67 : decode cX2_whole 67 = .ok (.goto (-48), 3) := by decide +kernel
theorem dX2_whole_70 : decode cX2_whole 70 = .ok (.iinc 2 1, 3) := by decide +kernel
theorem dX2_whole_73 : decode cX2_whole 73 = .ok (.goto (-62), 3) := by decide +kernel
theorem dX2_whole_76 : decode cX2_whole 76 = .ok (.iconst 0, 1) := by decide +kernel
theorem dX2_whole_77 : decode cX2_whole 77 = .ok (.istore_n 2, 1) := by decide +kernel
theorem dX2_whole_78 : decode cX2_whole 78 = .ok (.iload_n 2, 1) := by decide +kernel
theorem dX2_whole_79 : decode cX2_whole 79 = .ok (.aload_n 0, 1) := by decide +kernel
theorem dX2_whole_80 : decode cX2_whole 80 = .ok (.getfield 23, 3) := by decide +kernel
theorem dX2_whole_83 : decode cX2_whole 83 = .ok (.if_icmp .ge 30, 3) := by decide +kernel
theorem dX2_whole_86 : decode cX2_whole 86 = .ok (.iload_n 2, 1) := by decide +kernel
theorem dX2_whole_87 : decode cX2_whole 87 = .ok (.bipush 12, 2) := by decide +kernel
theorem dX2_whole_89 : decode cX2_whole 89 = .ok (.if_icmp .ge 24, 3) := by decide +kernel
theorem dX2_whole_92 : decode cX2_whole 92 = .ok (.iload_n 1, 1) := by decide +kernel
theorem dX2_whole_93 : decode cX2_whole 93 = .ok (.aload_n 0, 1) := by decide +kernel
theorem dX2_whole_94 : decode cX2_whole 94 = .ok (.getfield 7, 3) := by decide +kernel
theorem dX2_whole_97 : decode cX2_whole 97 = .ok (.iload_n 2, 1) := by decide +kernel
theorem dX2_whole_98 : decode cX2_whole 98 = .ok (.iaload, 1) := by decide +kernel
theorem dX2_whole_99 : decode cX2_whole 99 = .ok (.ishr, 1) := by decide +kernel
theorem dX2_whole_100 : decode cX2_whole 100 = .ok (.iconst 1, 1) := by decide +kernel
theorem dX2_whole_101 : decode cX2_whole 101 = .ok (.iand, 1) := by decide +kernel
theorem dX2_whole_102 : decode cX2_whole 102 = .ok (.ifCond .ne 5, 3) := by decide +kernel
theorem dX2_whole_105 : decode cX2_whole 105 = .ok (.iconst 0, 1) := by decide +kernel
theorem dX2_whole_106 : decode cX2_whole 106 = .ok (.ireturn, 1) := by decide +kernel
theorem dX2_whole_107 : decode cX2_whole 107 = .ok (.iinc 2 1, 3) := by decide +kernel
theorem dX2_whole_110 : decode cX2_whole 110 = .ok (.goto (-32), 3) := by decide +kernel
theorem dX2_whole_113 : decode cX2_whole 113 = .ok (.iconst 1, 1) := by decide +kernel
theorem dX2_whole_114 : decode cX2_whole 114 = .ok (.ireturn, 1) := by decide +kernel
abbrev cX2_oddPlaces : ByteArray := prog_3_method_25_code
def yX2_oddPlaces : MethodName := ⟨RX2, "oddPlaces", "()I"⟩
theorem dX2_oddPlaces_0 : decode cX2_oddPlaces 0 = .ok (.aload_n 0, 1) := by decide +kernel
theorem dX2_oddPlaces_1 : decode cX2_oddPlaces 1 = .ok (.iconst 1, 1) := by decide +kernel
theorem dX2_oddPlaces_2 : decode cX2_oddPlaces 2 = .ok (.aload_n 0, 1) := by decide +kernel
theorem dX2_oddPlaces_3 : decode cX2_oddPlaces 3 = .ok (.getfield 23, 3) := by decide +kernel
theorem dX2_oddPlaces_6 : decode cX2_oddPlaces 6 = .ok (.ishl, 1) := by decide +kernel
theorem dX2_oddPlaces_7 : decode cX2_oddPlaces 7 = .ok (.iconst 1, 1) := by decide +kernel
theorem dX2_oddPlaces_8 : decode cX2_oddPlaces 8 = .ok (.isub, 1) := by decide +kernel
theorem dX2_oddPlaces_9 : decode cX2_oddPlaces 9 = .ok (.invokevirtual 39, 3) := by decide +kernel
theorem dX2_oddPlaces_12 : decode cX2_oddPlaces 12 = .ok (.ireturn, 1) := by decide +kernel
theorem q23 : (Jvm.Cond.initialized "TJoinsModel") ∈ lw_all := lw_g (lw_at lw_m1 2 rfl) rfl
theorem q193 : (Jvm.Cond.instantiable "TJoinsModel" (6 : Nat)) ∈ lw_all := lw_g (lw_at lw_m1 172 rfl) rfl
theorem q195 : (Jvm.Cond.instanceMethod ({ cls := "TJoinsModel", name := "<init>", desc := "(I)V" } : Jvm.MethodName)) ∈ lw_all := lw_g (lw_at lw_m1 174 rfl) rfl
theorem q196 : (Jvm.Cond.code ({ cls := "TJoinsModel", name := "<init>", desc := "(I)V" } : Jvm.MethodName) prog_3_method_1_code (2 : Nat) (Option.none : Option Jvm.ClassFile.FieldType)) ∈ lw_all := lw_g (lw_at lw_m1 175 rfl) rfl
theorem q197 : (Jvm.Cond.methodLink "TJoinsModel" (1 : Nat) ({ cls := "java/lang/Object", name := "<init>", desc := "()V" } : Jvm.MethodName)) ∈ lw_all := lw_g (lw_at lw_m1 176 rfl) rfl
theorem q198 : (Jvm.Cond.fieldLink "TJoinsModel" (19 : Nat) "TJoinsModel" "n" "I") ∈ lw_all := lw_g (lw_at lw_m1 177 rfl) rfl
theorem q199 : (Jvm.Cond.fieldLink "TJoinsModel" (23 : Nat) "TJoinsModel" "count" "I") ∈ lw_all := lw_g (lw_at lw_m1 178 rfl) rfl
theorem q200 : (Jvm.Cond.fieldLink "TJoinsModel" (7 : Nat) "TJoinsModel" "from" "[I") ∈ lw_all := lw_g (lw_at lw_m1 179 rfl) rfl
theorem q201 : (Jvm.Cond.fieldLink "TJoinsModel" (13 : Nat) "TJoinsModel" "to" "[I") ∈ lw_all := lw_g (lw_at lw_m1 180 rfl) rfl
theorem q202 : (Jvm.Cond.fieldLink "TJoinsModel" (16 : Nat) "TJoinsModel" "worth" "[I") ∈ lw_all := lw_g (lw_at lw_m1 181 rfl) rfl
theorem q203 : (Jvm.Cond.fieldLink "TJoinsModel" (36 : Nat) "TJoinsModel" "wanted" "I") ∈ lw_all := lw_g (lw_at lw_m1 182 rfl) rfl
theorem q204 : (Jvm.Cond.lays "TJoinsModel" "TJoinsModel" "n" "I") ∈ lw_all := lw_g (lw_at lw_m1 183 rfl) rfl
theorem q205 : (Jvm.Cond.soleField "TJoinsModel" "n") ∈ lw_all := lw_g (lw_at lw_m1 184 rfl) rfl
theorem q206 : (Jvm.Cond.lays "TJoinsModel" "TJoinsModel" "count" "I") ∈ lw_all := lw_g (lw_at lw_m1 185 rfl) rfl
theorem q207 : (Jvm.Cond.soleField "TJoinsModel" "count") ∈ lw_all := lw_g (lw_at lw_m1 186 rfl) rfl
theorem q208 : (Jvm.Cond.lays "TJoinsModel" "TJoinsModel" "from" "[I") ∈ lw_all := lw_g (lw_at lw_m1 187 rfl) rfl
theorem q209 : (Jvm.Cond.soleField "TJoinsModel" "from") ∈ lw_all := lw_g (lw_at lw_m1 188 rfl) rfl
theorem q210 : (Jvm.Cond.lays "TJoinsModel" "TJoinsModel" "to" "[I") ∈ lw_all := lw_g (lw_at lw_m1 189 rfl) rfl
theorem q211 : (Jvm.Cond.soleField "TJoinsModel" "to") ∈ lw_all := lw_g (lw_at lw_m1 190 rfl) rfl
theorem q212 : (Jvm.Cond.lays "TJoinsModel" "TJoinsModel" "worth" "[I") ∈ lw_all := lw_g (lw_at lw_m1 191 rfl) rfl
theorem q213 : (Jvm.Cond.soleField "TJoinsModel" "worth") ∈ lw_all := lw_g (lw_at lw_m1 192 rfl) rfl
theorem q214 : (Jvm.Cond.lays "TJoinsModel" "TJoinsModel" "wanted" "I") ∈ lw_all := lw_g (lw_at lw_m1 193 rfl) rfl
theorem q215 : (Jvm.Cond.soleField "TJoinsModel" "wanted") ∈ lw_all := lw_g (lw_at lw_m1 194 rfl) rfl
theorem q216 : (Jvm.Cond.superclass "TJoinsModel" "java/lang/Object") ∈ lw_all := lw_g (lw_at lw_m1 195 rfl) rfl
theorem q218 : (Jvm.Cond.instanceMethod ({ cls := "TJoinsModel", name := "road", desc := "(III)I" } : Jvm.MethodName)) ∈ lw_all := lw_g (lw_at lw_m1 197 rfl) rfl
theorem q219 : (Jvm.Cond.selects "TJoinsModel" ({ cls := "TJoinsModel", name := "road", desc := "(III)I" } : Jvm.MethodName) ({ cls := "TJoinsModel", name := "road", desc := "(III)I" } : Jvm.MethodName)) ∈ lw_all := lw_g (lw_at lw_m1 198 rfl) rfl
theorem q220 : (Jvm.Cond.code ({ cls := "TJoinsModel", name := "road", desc := "(III)I" } : Jvm.MethodName) prog_3_method_5_code (5 : Nat) (Option.some Jvm.ClassFile.FieldType.int)) ∈ lw_all := lw_g (lw_at lw_m1 199 rfl) rfl
theorem q221 : (Jvm.Cond.methodLink "TJoinsModel" (26 : Nat) ({ cls := "TJoinsModel", name := "bad", desc := "(I)Z" } : Jvm.MethodName)) ∈ lw_all := lw_g (lw_at lw_m1 200 rfl) rfl
theorem q222 : (Jvm.Cond.privateMethod ({ cls := "TJoinsModel", name := "bad", desc := "(I)Z" } : Jvm.MethodName)) ∈ lw_tbl := lw_at lw_m1 201 rfl
theorem q223 : (Jvm.Cond.instanceMethod ({ cls := "TJoinsModel", name := "bad", desc := "(I)Z" } : Jvm.MethodName)) ∈ lw_all := lw_g (lw_at lw_m1 202 rfl) rfl
theorem q224 : (Jvm.Cond.code ({ cls := "TJoinsModel", name := "bad", desc := "(I)Z" } : Jvm.MethodName) prog_3_method_2_code (2 : Nat) (Option.some Jvm.ClassFile.FieldType.boolean)) ∈ lw_all := lw_g (lw_at lw_m1 203 rfl) rfl
theorem q225 : (Jvm.Cond.methodLink "TJoinsModel" (30 : Nat) ({ cls := "TJoinsModel", name := "far", desc := "(I)Z" } : Jvm.MethodName)) ∈ lw_all := lw_g (lw_at lw_m1 204 rfl) rfl
theorem q226 : (Jvm.Cond.privateMethod ({ cls := "TJoinsModel", name := "far", desc := "(I)Z" } : Jvm.MethodName)) ∈ lw_tbl := lw_at lw_m1 205 rfl
theorem q227 : (Jvm.Cond.instanceMethod ({ cls := "TJoinsModel", name := "far", desc := "(I)Z" } : Jvm.MethodName)) ∈ lw_all := lw_g (lw_at lw_m1 206 rfl) rfl
theorem q228 : (Jvm.Cond.code ({ cls := "TJoinsModel", name := "far", desc := "(I)Z" } : Jvm.MethodName) prog_3_method_4_code (2 : Nat) (Option.some Jvm.ClassFile.FieldType.boolean)) ∈ lw_all := lw_g (lw_at lw_m1 207 rfl) rfl
theorem q230 : (Jvm.Cond.instanceMethod ({ cls := "TJoinsModel", name := "remove", desc := "(I)I" } : Jvm.MethodName)) ∈ lw_all := lw_g (lw_at lw_m1 209 rfl) rfl
theorem q231 : (Jvm.Cond.selects "TJoinsModel" ({ cls := "TJoinsModel", name := "remove", desc := "(I)I" } : Jvm.MethodName) ({ cls := "TJoinsModel", name := "remove", desc := "(I)I" } : Jvm.MethodName)) ∈ lw_all := lw_g (lw_at lw_m1 210 rfl) rfl
theorem q232 : (Jvm.Cond.code ({ cls := "TJoinsModel", name := "remove", desc := "(I)I" } : Jvm.MethodName) prog_3_method_6_code (3 : Nat) (Option.some Jvm.ClassFile.FieldType.int)) ∈ lw_all := lw_g (lw_at lw_m1 211 rfl) rfl
theorem q233 : (Jvm.Cond.methodLink "TJoinsModel" (33 : Nat) ({ cls := "TJoinsModel", name := "badRoad", desc := "(I)Z" } : Jvm.MethodName)) ∈ lw_all := lw_g (lw_at lw_m1 212 rfl) rfl
theorem q234 : (Jvm.Cond.privateMethod ({ cls := "TJoinsModel", name := "badRoad", desc := "(I)Z" } : Jvm.MethodName)) ∈ lw_tbl := lw_at lw_m1 213 rfl
theorem q235 : (Jvm.Cond.instanceMethod ({ cls := "TJoinsModel", name := "badRoad", desc := "(I)Z" } : Jvm.MethodName)) ∈ lw_all := lw_g (lw_at lw_m1 214 rfl) rfl
theorem q236 : (Jvm.Cond.code ({ cls := "TJoinsModel", name := "badRoad", desc := "(I)Z" } : Jvm.MethodName) prog_3_method_3_code (2 : Nat) (Option.some Jvm.ClassFile.FieldType.boolean)) ∈ lw_all := lw_g (lw_at lw_m1 215 rfl) rfl
theorem q238 : (Jvm.Cond.instanceMethod ({ cls := "TJoinsModel", name := "weigh", desc := "(II)I" } : Jvm.MethodName)) ∈ lw_all := lw_g (lw_at lw_m1 217 rfl) rfl
theorem q239 : (Jvm.Cond.selects "TJoinsModel" ({ cls := "TJoinsModel", name := "weigh", desc := "(II)I" } : Jvm.MethodName) ({ cls := "TJoinsModel", name := "weigh", desc := "(II)I" } : Jvm.MethodName)) ∈ lw_all := lw_g (lw_at lw_m1 218 rfl) rfl
theorem q240 : (Jvm.Cond.code ({ cls := "TJoinsModel", name := "weigh", desc := "(II)I" } : Jvm.MethodName) prog_3_method_7_code (4 : Nat) (Option.some Jvm.ClassFile.FieldType.int)) ∈ lw_all := lw_g (lw_at lw_m1 219 rfl) rfl
theorem q242 : (Jvm.Cond.instanceMethod ({ cls := "TJoinsModel", name := "want", desc := "(I)I" } : Jvm.MethodName)) ∈ lw_all := lw_g (lw_at lw_m1 221 rfl) rfl
theorem q243 : (Jvm.Cond.selects "TJoinsModel" ({ cls := "TJoinsModel", name := "want", desc := "(I)I" } : Jvm.MethodName) ({ cls := "TJoinsModel", name := "want", desc := "(I)I" } : Jvm.MethodName)) ∈ lw_all := lw_g (lw_at lw_m1 222 rfl) rfl
theorem q244 : (Jvm.Cond.code ({ cls := "TJoinsModel", name := "want", desc := "(I)I" } : Jvm.MethodName) prog_3_method_8_code (3 : Nat) (Option.some Jvm.ClassFile.FieldType.int)) ∈ lw_all := lw_g (lw_at lw_m1 223 rfl) rfl
theorem q246 : (Jvm.Cond.instanceMethod ({ cls := "TJoinsModel", name := "turn", desc := "(I)I" } : Jvm.MethodName)) ∈ lw_all := lw_g (lw_at lw_m1 225 rfl) rfl
theorem q247 : (Jvm.Cond.selects "TJoinsModel" ({ cls := "TJoinsModel", name := "turn", desc := "(I)I" } : Jvm.MethodName) ({ cls := "TJoinsModel", name := "turn", desc := "(I)I" } : Jvm.MethodName)) ∈ lw_all := lw_g (lw_at lw_m1 226 rfl) rfl
theorem q248 : (Jvm.Cond.code ({ cls := "TJoinsModel", name := "turn", desc := "(I)I" } : Jvm.MethodName) prog_3_method_9_code (2 : Nat) (Option.some Jvm.ClassFile.FieldType.int)) ∈ lw_all := lw_g (lw_at lw_m1 227 rfl) rfl
theorem q250 : (Jvm.Cond.instanceMethod ({ cls := "TJoinsModel", name := "roads", desc := "()I" } : Jvm.MethodName)) ∈ lw_all := lw_g (lw_at lw_m1 229 rfl) rfl
theorem q251 : (Jvm.Cond.selects "TJoinsModel" ({ cls := "TJoinsModel", name := "roads", desc := "()I" } : Jvm.MethodName) ({ cls := "TJoinsModel", name := "roads", desc := "()I" } : Jvm.MethodName)) ∈ lw_all := lw_g (lw_at lw_m1 230 rfl) rfl
theorem q252 : (Jvm.Cond.code ({ cls := "TJoinsModel", name := "roads", desc := "()I" } : Jvm.MethodName) prog_3_method_10_code (1 : Nat) (Option.some Jvm.ClassFile.FieldType.int)) ∈ lw_all := lw_g (lw_at lw_m1 231 rfl) rfl
theorem q254 : (Jvm.Cond.instanceMethod ({ cls := "TJoinsModel", name := "isJoin", desc := "(I)I" } : Jvm.MethodName)) ∈ lw_all := lw_g (lw_at lw_m1 233 rfl) rfl
theorem q255 : (Jvm.Cond.selects "TJoinsModel" ({ cls := "TJoinsModel", name := "isJoin", desc := "(I)I" } : Jvm.MethodName) ({ cls := "TJoinsModel", name := "isJoin", desc := "(I)I" } : Jvm.MethodName)) ∈ lw_all := lw_g (lw_at lw_m1 234 rfl) rfl
theorem q256 : (Jvm.Cond.code ({ cls := "TJoinsModel", name := "isJoin", desc := "(I)I" } : Jvm.MethodName) prog_3_method_15_code (2 : Nat) (Option.some Jvm.ClassFile.FieldType.int)) ∈ lw_all := lw_g (lw_at lw_m1 235 rfl) rfl
theorem q257 : (Jvm.Cond.methodLink "TJoinsModel" (39 : Nat) ({ cls := "TJoinsModel", name := "odd", desc := "(I)I" } : Jvm.MethodName)) ∈ lw_all := lw_g (lw_at lw_m1 236 rfl) rfl
theorem q258 : (Jvm.Cond.privateMethod ({ cls := "TJoinsModel", name := "odd", desc := "(I)I" } : Jvm.MethodName)) ∈ lw_tbl := lw_at lw_m1 237 rfl
theorem q259 : (Jvm.Cond.instanceMethod ({ cls := "TJoinsModel", name := "odd", desc := "(I)I" } : Jvm.MethodName)) ∈ lw_all := lw_g (lw_at lw_m1 238 rfl) rfl
theorem q260 : (Jvm.Cond.code ({ cls := "TJoinsModel", name := "odd", desc := "(I)I" } : Jvm.MethodName) prog_3_method_11_code (4 : Nat) (Option.some Jvm.ClassFile.FieldType.int)) ∈ lw_all := lw_g (lw_at lw_m1 239 rfl) rfl
theorem q262 : (Jvm.Cond.instanceMethod ({ cls := "TJoinsModel", name := "possible", desc := "()I" } : Jvm.MethodName)) ∈ lw_all := lw_g (lw_at lw_m2 1 rfl) rfl
theorem q263 : (Jvm.Cond.selects "TJoinsModel" ({ cls := "TJoinsModel", name := "possible", desc := "()I" } : Jvm.MethodName) ({ cls := "TJoinsModel", name := "possible", desc := "()I" } : Jvm.MethodName)) ∈ lw_all := lw_g (lw_at lw_m2 2 rfl) rfl
theorem q264 : (Jvm.Cond.code ({ cls := "TJoinsModel", name := "possible", desc := "()I" } : Jvm.MethodName) prog_3_method_16_code (1 : Nat) (Option.some Jvm.ClassFile.FieldType.int)) ∈ lw_all := lw_g (lw_at lw_m2 3 rfl) rfl
theorem q265 : (Jvm.Cond.methodLink "TJoinsModel" (46 : Nat) ({ cls := "TJoinsModel", name := "search", desc := "(III)I" } : Jvm.MethodName)) ∈ lw_all := lw_g (lw_at lw_m2 4 rfl) rfl
theorem q266 : (Jvm.Cond.privateMethod ({ cls := "TJoinsModel", name := "search", desc := "(III)I" } : Jvm.MethodName)) ∈ lw_tbl := lw_at lw_m2 5 rfl
theorem q267 : (Jvm.Cond.instanceMethod ({ cls := "TJoinsModel", name := "search", desc := "(III)I" } : Jvm.MethodName)) ∈ lw_all := lw_g (lw_at lw_m2 6 rfl) rfl
theorem q268 : (Jvm.Cond.code ({ cls := "TJoinsModel", name := "search", desc := "(III)I" } : Jvm.MethodName) prog_3_method_13_code (8 : Nat) (Option.some Jvm.ClassFile.FieldType.int)) ∈ lw_all := lw_g (lw_at lw_m2 7 rfl) rfl
theorem q269 : (Jvm.Cond.methodLink "TJoinsModel" (43 : Nat) ({ cls := "TJoinsModel", name := "sum", desc := "(I)I" } : Jvm.MethodName)) ∈ lw_all := lw_g (lw_at lw_m2 8 rfl) rfl
theorem q270 : (Jvm.Cond.privateMethod ({ cls := "TJoinsModel", name := "sum", desc := "(I)I" } : Jvm.MethodName)) ∈ lw_tbl := lw_at lw_m2 9 rfl
theorem q271 : (Jvm.Cond.instanceMethod ({ cls := "TJoinsModel", name := "sum", desc := "(I)I" } : Jvm.MethodName)) ∈ lw_all := lw_g (lw_at lw_m2 10 rfl) rfl
theorem q272 : (Jvm.Cond.code ({ cls := "TJoinsModel", name := "sum", desc := "(I)I" } : Jvm.MethodName) prog_3_method_12_code (4 : Nat) (Option.some Jvm.ClassFile.FieldType.int)) ∈ lw_all := lw_g (lw_at lw_m2 11 rfl) rfl
theorem q274 : (Jvm.Cond.instanceMethod ({ cls := "TJoinsModel", name := "joins", desc := "()I" } : Jvm.MethodName)) ∈ lw_all := lw_g (lw_at lw_m2 13 rfl) rfl
theorem q275 : (Jvm.Cond.selects "TJoinsModel" ({ cls := "TJoinsModel", name := "joins", desc := "()I" } : Jvm.MethodName) ({ cls := "TJoinsModel", name := "joins", desc := "()I" } : Jvm.MethodName)) ∈ lw_all := lw_g (lw_at lw_m2 14 rfl) rfl
theorem q276 : (Jvm.Cond.code ({ cls := "TJoinsModel", name := "joins", desc := "()I" } : Jvm.MethodName) prog_3_method_17_code (3 : Nat) (Option.some Jvm.ClassFile.FieldType.int)) ∈ lw_all := lw_g (lw_at lw_m2 15 rfl) rfl
theorem q278 : (Jvm.Cond.instanceMethod ({ cls := "TJoinsModel", name := "best", desc := "()I" } : Jvm.MethodName)) ∈ lw_all := lw_g (lw_at lw_m2 17 rfl) rfl
theorem q279 : (Jvm.Cond.selects "TJoinsModel" ({ cls := "TJoinsModel", name := "best", desc := "()I" } : Jvm.MethodName) ({ cls := "TJoinsModel", name := "best", desc := "()I" } : Jvm.MethodName)) ∈ lw_all := lw_g (lw_at lw_m2 18 rfl) rfl
theorem q280 : (Jvm.Cond.code ({ cls := "TJoinsModel", name := "best", desc := "()I" } : Jvm.MethodName) prog_3_method_18_code (2 : Nat) (Option.some Jvm.ClassFile.FieldType.int)) ∈ lw_all := lw_g (lw_at lw_m2 19 rfl) rfl
theorem q281 : (Jvm.Cond.methodLink "TJoinsModel" (50 : Nat) ({ cls := "TJoinsModel", name := "weightOf", desc := "(I)I" } : Jvm.MethodName)) ∈ lw_all := lw_g (lw_at lw_m2 20 rfl) rfl
theorem q282 : (Jvm.Cond.privateMethod ({ cls := "TJoinsModel", name := "weightOf", desc := "(I)I" } : Jvm.MethodName)) ∈ lw_tbl := lw_at lw_m2 21 rfl
theorem q283 : (Jvm.Cond.instanceMethod ({ cls := "TJoinsModel", name := "weightOf", desc := "(I)I" } : Jvm.MethodName)) ∈ lw_all := lw_g (lw_at lw_m2 22 rfl) rfl
theorem q284 : (Jvm.Cond.code ({ cls := "TJoinsModel", name := "weightOf", desc := "(I)I" } : Jvm.MethodName) prog_3_method_14_code (2 : Nat) (Option.some Jvm.ClassFile.FieldType.int)) ∈ lw_all := lw_g (lw_at lw_m2 23 rfl) rfl
theorem q286 : (Jvm.Cond.instanceMethod ({ cls := "TJoinsModel", name := "bestSet", desc := "()I" } : Jvm.MethodName)) ∈ lw_all := lw_g (lw_at lw_m2 25 rfl) rfl
theorem q287 : (Jvm.Cond.selects "TJoinsModel" ({ cls := "TJoinsModel", name := "bestSet", desc := "()I" } : Jvm.MethodName) ({ cls := "TJoinsModel", name := "bestSet", desc := "()I" } : Jvm.MethodName)) ∈ lw_all := lw_g (lw_at lw_m2 26 rfl) rfl
theorem q288 : (Jvm.Cond.code ({ cls := "TJoinsModel", name := "bestSet", desc := "()I" } : Jvm.MethodName) prog_3_method_19_code (1 : Nat) (Option.some Jvm.ClassFile.FieldType.int)) ∈ lw_all := lw_g (lw_at lw_m2 27 rfl) rfl
theorem q290 : (Jvm.Cond.instanceMethod ({ cls := "TJoinsModel", name := "bestWith", desc := "(I)I" } : Jvm.MethodName)) ∈ lw_all := lw_g (lw_at lw_m2 29 rfl) rfl
theorem q291 : (Jvm.Cond.selects "TJoinsModel" ({ cls := "TJoinsModel", name := "bestWith", desc := "(I)I" } : Jvm.MethodName) ({ cls := "TJoinsModel", name := "bestWith", desc := "(I)I" } : Jvm.MethodName)) ∈ lw_all := lw_g (lw_at lw_m2 30 rfl) rfl
theorem q292 : (Jvm.Cond.code ({ cls := "TJoinsModel", name := "bestWith", desc := "(I)I" } : Jvm.MethodName) prog_3_method_20_code (3 : Nat) (Option.some Jvm.ClassFile.FieldType.int)) ∈ lw_all := lw_g (lw_at lw_m2 31 rfl) rfl
theorem q294 : (Jvm.Cond.instanceMethod ({ cls := "TJoinsModel", name := "bestWithout", desc := "(I)I" } : Jvm.MethodName)) ∈ lw_all := lw_g (lw_at lw_m2 33 rfl) rfl
theorem q295 : (Jvm.Cond.selects "TJoinsModel" ({ cls := "TJoinsModel", name := "bestWithout", desc := "(I)I" } : Jvm.MethodName) ({ cls := "TJoinsModel", name := "bestWithout", desc := "(I)I" } : Jvm.MethodName)) ∈ lw_all := lw_g (lw_at lw_m2 34 rfl) rfl
theorem q296 : (Jvm.Cond.code ({ cls := "TJoinsModel", name := "bestWithout", desc := "(I)I" } : Jvm.MethodName) prog_3_method_21_code (3 : Nat) (Option.some Jvm.ClassFile.FieldType.int)) ∈ lw_all := lw_g (lw_at lw_m2 35 rfl) rfl
theorem q298 : (Jvm.Cond.instanceMethod ({ cls := "TJoinsModel", name := "between", desc := "(II)I" } : Jvm.MethodName)) ∈ lw_all := lw_g (lw_at lw_m2 37 rfl) rfl
theorem q299 : (Jvm.Cond.selects "TJoinsModel" ({ cls := "TJoinsModel", name := "between", desc := "(II)I" } : Jvm.MethodName) ({ cls := "TJoinsModel", name := "between", desc := "(II)I" } : Jvm.MethodName)) ∈ lw_all := lw_g (lw_at lw_m2 38 rfl) rfl
theorem q300 : (Jvm.Cond.code ({ cls := "TJoinsModel", name := "between", desc := "(II)I" } : Jvm.MethodName) prog_3_method_22_code (4 : Nat) (Option.some Jvm.ClassFile.FieldType.int)) ∈ lw_all := lw_g (lw_at lw_m2 39 rfl) rfl
theorem q302 : (Jvm.Cond.instanceMethod ({ cls := "TJoinsModel", name := "postman", desc := "()I" } : Jvm.MethodName)) ∈ lw_all := lw_g (lw_at lw_m2 41 rfl) rfl
theorem q303 : (Jvm.Cond.selects "TJoinsModel" ({ cls := "TJoinsModel", name := "postman", desc := "()I" } : Jvm.MethodName) ({ cls := "TJoinsModel", name := "postman", desc := "()I" } : Jvm.MethodName)) ∈ lw_all := lw_g (lw_at lw_m2 42 rfl) rfl
theorem q304 : (Jvm.Cond.code ({ cls := "TJoinsModel", name := "postman", desc := "()I" } : Jvm.MethodName) prog_3_method_24_code (3 : Nat) (Option.some Jvm.ClassFile.FieldType.int)) ∈ lw_all := lw_g (lw_at lw_m2 43 rfl) rfl
theorem q305 : (Jvm.Cond.methodLink "TJoinsModel" (53 : Nat) ({ cls := "TJoinsModel", name := "whole", desc := "()Z" } : Jvm.MethodName)) ∈ lw_all := lw_g (lw_at lw_m2 44 rfl) rfl
theorem q306 : (Jvm.Cond.privateMethod ({ cls := "TJoinsModel", name := "whole", desc := "()Z" } : Jvm.MethodName)) ∈ lw_tbl := lw_at lw_m2 45 rfl
theorem q307 : (Jvm.Cond.instanceMethod ({ cls := "TJoinsModel", name := "whole", desc := "()Z" } : Jvm.MethodName)) ∈ lw_all := lw_g (lw_at lw_m2 46 rfl) rfl
theorem q308 : (Jvm.Cond.code ({ cls := "TJoinsModel", name := "whole", desc := "()Z" } : Jvm.MethodName) prog_3_method_23_code (5 : Nat) (Option.some Jvm.ClassFile.FieldType.boolean)) ∈ lw_all := lw_g (lw_at lw_m2 47 rfl) rfl
theorem q310 : (Jvm.Cond.instanceMethod ({ cls := "TJoinsModel", name := "oddPlaces", desc := "()I" } : Jvm.MethodName)) ∈ lw_all := lw_g (lw_at lw_m2 49 rfl) rfl
theorem q311 : (Jvm.Cond.selects "TJoinsModel" ({ cls := "TJoinsModel", name := "oddPlaces", desc := "()I" } : Jvm.MethodName) ({ cls := "TJoinsModel", name := "oddPlaces", desc := "()I" } : Jvm.MethodName)) ∈ lw_all := lw_g (lw_at lw_m2 50 rfl) rfl
theorem q312 : (Jvm.Cond.code ({ cls := "TJoinsModel", name := "oddPlaces", desc := "()I" } : Jvm.MethodName) prog_3_method_25_code (1 : Nat) (Option.some Jvm.ClassFile.FieldType.int)) ∈ lw_all := lw_g (lw_at lw_m2 51 rfl) rfl
theorem in_X2 : ∀ w ∈ wsX20, w ∈ lw_all := lw_in wsX20 [204, 206, 208, 210, 212, 214] (by decide +kernel) (by decide +kernel)
end
section
set_option maxRecDepth 100000
/-! java/lang/Object -/
def RJ0 : String := "java/lang/Object"
abbrev cJ0_init : ByteArray := object_method_1_code
def yJ0_init : MethodName := ⟨RJ0, "<init>", "()V"⟩
theorem dJ0_init_0 : decode cJ0_init 0 = .ok (.return_, 1) := by decide +kernel
theorem q30 : (Jvm.Cond.instanceMethod ({ cls := "java/lang/Object", name := "<init>", desc := "()V" } : Jvm.MethodName)) ∈ lw_all := lw_g (lw_at lw_m1 9 rfl) rfl
theorem q31 : (Jvm.Cond.code ({ cls := "java/lang/Object", name := "<init>", desc := "()V" } : Jvm.MethodName) object_method_1_code (1 : Nat) (Option.none : Option Jvm.ClassFile.FieldType)) ∈ lw_all := lw_g (lw_at lw_m1 10 rfl) rfl
theorem q69 : (Jvm.Cond.arrayClass Jvm.ClassFile.FieldType.int) ∈ lw_all := lw_g (lw_at lw_m1 48 rfl) rfl
/-! TJoinsLaw -/
def RX0 : String := "TJoinsLaw"
abbrev cX0_cell : ByteArray := method_2_code
def yX0_cell : MethodName := ⟨RX0, "cell", "([II)I"⟩
theorem dX0_cell_0 : decode cX0_cell 0 = .ok (.iload_n 1, 1) := by decide +kernel
theorem dX0_cell_1 : decode cX0_cell 1 = .ok (.aload_n 0, 1) := by decide +kernel
theorem dX0_cell_2 : decode cX0_cell 2 = .ok (.arraylength, 1) := by decide +kernel
theorem dX0_cell_3 : decode cX0_cell 3 = .ok (.if_icmp .ge 9, 3) := by decide +kernel
theorem dX0_cell_6 : decode cX0_cell 6 = .ok (.aload_n 0, 1) := by decide +kernel
theorem dX0_cell_7 : decode cX0_cell 7 = .ok (.iload_n 1, 1) := by decide +kernel
theorem dX0_cell_8 : decode cX0_cell 8 = .ok (.iaload, 1) := by decide +kernel
theorem dX0_cell_9 : decode cX0_cell 9 = .ok (.goto 4, 3) := by decide +kernel
theorem dX0_cell_12 : decode cX0_cell 12 = .ok (.iconst 0, 1) := by decide +kernel
theorem dX0_cell_13 : decode cX0_cell 13 = .ok (.ireturn, 1) := by decide +kernel
theorem q21 : (Jvm.Cond.initialized "TJoinsLaw") ∈ lw_all := lw_g (lw_at lw_m1 0 rfl) rfl
theorem q24 : (Jvm.Cond.classLink "TJoinsLaw" (7 : Nat) "TJoins") ∈ lw_all := lw_g (lw_at lw_m1 3 rfl) rfl
theorem q26 : (Jvm.Cond.methodLink "TJoinsLaw" (15 : Nat) ({ cls := "TJoins", name := "<init>", desc := "(I)V" } : Jvm.MethodName)) ∈ lw_all := lw_g (lw_at lw_m1 5 rfl) rfl
theorem q70 : (Jvm.Cond.methodLink "TJoinsLaw" (21 : Nat) ({ cls := "TJoins", name := "road", desc := "(III)I" } : Jvm.MethodName)) ∈ lw_all := lw_g (lw_at lw_m1 49 rfl) rfl
theorem q78 : (Jvm.Cond.methodLink "TJoinsLaw" (26 : Nat) ({ cls := "TJoins", name := "remove", desc := "(I)I" } : Jvm.MethodName)) ∈ lw_all := lw_g (lw_at lw_m1 57 rfl) rfl
theorem q86 : (Jvm.Cond.methodLink "TJoinsLaw" (31 : Nat) ({ cls := "TJoins", name := "weigh", desc := "(II)I" } : Jvm.MethodName)) ∈ lw_all := lw_g (lw_at lw_m1 65 rfl) rfl
theorem q90 : (Jvm.Cond.methodLink "TJoinsLaw" (36 : Nat) ({ cls := "TJoins", name := "want", desc := "(I)I" } : Jvm.MethodName)) ∈ lw_all := lw_g (lw_at lw_m1 69 rfl) rfl
theorem q94 : (Jvm.Cond.methodLink "TJoinsLaw" (40 : Nat) ({ cls := "TJoins", name := "turn", desc := "(I)I" } : Jvm.MethodName)) ∈ lw_all := lw_g (lw_at lw_m1 73 rfl) rfl
theorem q98 : (Jvm.Cond.methodLink "TJoinsLaw" (44 : Nat) ({ cls := "TJoins", name := "roads", desc := "()I" } : Jvm.MethodName)) ∈ lw_all := lw_g (lw_at lw_m1 77 rfl) rfl
theorem q102 : (Jvm.Cond.methodLink "TJoinsLaw" (49 : Nat) ({ cls := "TJoins", name := "isJoin", desc := "(I)I" } : Jvm.MethodName)) ∈ lw_all := lw_g (lw_at lw_m1 81 rfl) rfl
theorem q110 : (Jvm.Cond.methodLink "TJoinsLaw" (53 : Nat) ({ cls := "TJoins", name := "possible", desc := "()I" } : Jvm.MethodName)) ∈ lw_all := lw_g (lw_at lw_m1 89 rfl) rfl
theorem q122 : (Jvm.Cond.methodLink "TJoinsLaw" (57 : Nat) ({ cls := "TJoins", name := "joins", desc := "()I" } : Jvm.MethodName)) ∈ lw_all := lw_g (lw_at lw_m1 101 rfl) rfl
theorem q130 : (Jvm.Cond.methodLink "TJoinsLaw" (61 : Nat) ({ cls := "TJoins", name := "best", desc := "()I" } : Jvm.MethodName)) ∈ lw_all := lw_g (lw_at lw_m1 109 rfl) rfl
theorem q163 : (Jvm.Cond.methodLink "TJoinsLaw" (65 : Nat) ({ cls := "TJoins", name := "bestSet", desc := "()I" } : Jvm.MethodName)) ∈ lw_all := lw_g (lw_at lw_m1 142 rfl) rfl
theorem q167 : (Jvm.Cond.methodLink "TJoinsLaw" (69 : Nat) ({ cls := "TJoins", name := "bestWith", desc := "(I)I" } : Jvm.MethodName)) ∈ lw_all := lw_g (lw_at lw_m1 146 rfl) rfl
theorem q172 : (Jvm.Cond.methodLink "TJoinsLaw" (73 : Nat) ({ cls := "TJoins", name := "bestWithout", desc := "(I)I" } : Jvm.MethodName)) ∈ lw_all := lw_g (lw_at lw_m1 151 rfl) rfl
theorem q176 : (Jvm.Cond.methodLink "TJoinsLaw" (77 : Nat) ({ cls := "TJoins", name := "between", desc := "(II)I" } : Jvm.MethodName)) ∈ lw_all := lw_g (lw_at lw_m1 155 rfl) rfl
theorem q180 : (Jvm.Cond.methodLink "TJoinsLaw" (81 : Nat) ({ cls := "TJoins", name := "postman", desc := "()I" } : Jvm.MethodName)) ∈ lw_all := lw_g (lw_at lw_m1 159 rfl) rfl
theorem q188 : (Jvm.Cond.methodLink "TJoinsLaw" (85 : Nat) ({ cls := "TJoins", name := "oddPlaces", desc := "()I" } : Jvm.MethodName)) ∈ lw_all := lw_g (lw_at lw_m1 167 rfl) rfl
theorem q189 : (Jvm.Cond.methodLink "TJoinsLaw" (9 : Nat) ({ cls := "TJoinsLaw", name := "cell", desc := "([II)I" } : Jvm.MethodName)) ∈ lw_all := lw_g (lw_at lw_m1 168 rfl) rfl
theorem q190 : (Jvm.Cond.static ({ cls := "TJoinsLaw", name := "cell", desc := "([II)I" } : Jvm.MethodName)) ∈ lw_all := lw_g (lw_at lw_m1 169 rfl) rfl
theorem q191 : (Jvm.Cond.code ({ cls := "TJoinsLaw", name := "cell", desc := "([II)I" } : Jvm.MethodName) method_2_code (2 : Nat) (Option.some Jvm.ClassFile.FieldType.int)) ∈ lw_all := lw_g (lw_at lw_m1 170 rfl) rfl
theorem q192 : (Jvm.Cond.classLink "TJoinsLaw" (18 : Nat) "TJoinsModel") ∈ lw_all := lw_g (lw_at lw_m1 171 rfl) rfl
theorem q194 : (Jvm.Cond.methodLink "TJoinsLaw" (20 : Nat) ({ cls := "TJoinsModel", name := "<init>", desc := "(I)V" } : Jvm.MethodName)) ∈ lw_all := lw_g (lw_at lw_m1 173 rfl) rfl
theorem q217 : (Jvm.Cond.methodLink "TJoinsLaw" (25 : Nat) ({ cls := "TJoinsModel", name := "road", desc := "(III)I" } : Jvm.MethodName)) ∈ lw_all := lw_g (lw_at lw_m1 196 rfl) rfl
theorem q229 : (Jvm.Cond.methodLink "TJoinsLaw" (30 : Nat) ({ cls := "TJoinsModel", name := "remove", desc := "(I)I" } : Jvm.MethodName)) ∈ lw_all := lw_g (lw_at lw_m1 208 rfl) rfl
theorem q237 : (Jvm.Cond.methodLink "TJoinsLaw" (35 : Nat) ({ cls := "TJoinsModel", name := "weigh", desc := "(II)I" } : Jvm.MethodName)) ∈ lw_all := lw_g (lw_at lw_m1 216 rfl) rfl
theorem q241 : (Jvm.Cond.methodLink "TJoinsLaw" (39 : Nat) ({ cls := "TJoinsModel", name := "want", desc := "(I)I" } : Jvm.MethodName)) ∈ lw_all := lw_g (lw_at lw_m1 220 rfl) rfl
theorem q245 : (Jvm.Cond.methodLink "TJoinsLaw" (43 : Nat) ({ cls := "TJoinsModel", name := "turn", desc := "(I)I" } : Jvm.MethodName)) ∈ lw_all := lw_g (lw_at lw_m1 224 rfl) rfl
theorem q249 : (Jvm.Cond.methodLink "TJoinsLaw" (48 : Nat) ({ cls := "TJoinsModel", name := "roads", desc := "()I" } : Jvm.MethodName)) ∈ lw_all := lw_g (lw_at lw_m1 228 rfl) rfl
theorem q253 : (Jvm.Cond.methodLink "TJoinsLaw" (52 : Nat) ({ cls := "TJoinsModel", name := "isJoin", desc := "(I)I" } : Jvm.MethodName)) ∈ lw_all := lw_g (lw_at lw_m1 232 rfl) rfl
theorem q261 : (Jvm.Cond.methodLink "TJoinsLaw" (56 : Nat) ({ cls := "TJoinsModel", name := "possible", desc := "()I" } : Jvm.MethodName)) ∈ lw_all := lw_g (lw_at lw_m2 0 rfl) rfl
theorem q273 : (Jvm.Cond.methodLink "TJoinsLaw" (60 : Nat) ({ cls := "TJoinsModel", name := "joins", desc := "()I" } : Jvm.MethodName)) ∈ lw_all := lw_g (lw_at lw_m2 12 rfl) rfl
theorem q277 : (Jvm.Cond.methodLink "TJoinsLaw" (64 : Nat) ({ cls := "TJoinsModel", name := "best", desc := "()I" } : Jvm.MethodName)) ∈ lw_all := lw_g (lw_at lw_m2 16 rfl) rfl
theorem q285 : (Jvm.Cond.methodLink "TJoinsLaw" (68 : Nat) ({ cls := "TJoinsModel", name := "bestSet", desc := "()I" } : Jvm.MethodName)) ∈ lw_all := lw_g (lw_at lw_m2 24 rfl) rfl
theorem q289 : (Jvm.Cond.methodLink "TJoinsLaw" (72 : Nat) ({ cls := "TJoinsModel", name := "bestWith", desc := "(I)I" } : Jvm.MethodName)) ∈ lw_all := lw_g (lw_at lw_m2 28 rfl) rfl
theorem q293 : (Jvm.Cond.methodLink "TJoinsLaw" (76 : Nat) ({ cls := "TJoinsModel", name := "bestWithout", desc := "(I)I" } : Jvm.MethodName)) ∈ lw_all := lw_g (lw_at lw_m2 32 rfl) rfl
theorem q297 : (Jvm.Cond.methodLink "TJoinsLaw" (80 : Nat) ({ cls := "TJoinsModel", name := "between", desc := "(II)I" } : Jvm.MethodName)) ∈ lw_all := lw_g (lw_at lw_m2 36 rfl) rfl
theorem q301 : (Jvm.Cond.methodLink "TJoinsLaw" (84 : Nat) ({ cls := "TJoinsModel", name := "postman", desc := "()I" } : Jvm.MethodName)) ∈ lw_all := lw_g (lw_at lw_m2 40 rfl) rfl
theorem q309 : (Jvm.Cond.methodLink "TJoinsLaw" (88 : Nat) ({ cls := "TJoinsModel", name := "oddPlaces", desc := "()I" } : Jvm.MethodName)) ∈ lw_all := lw_g (lw_at lw_m2 48 rfl) rfl
/-! the law's own entry -/
abbrev cL_law : ByteArray := code
theorem dL_law_0 : decode cL_law 0 = .ok (.new 7, 3) := by decide +kernel
theorem dL_law_3 : decode cL_law 3 = .ok (.dup, 1) := by decide +kernel
theorem dL_law_4 : decode cL_law 4 = .ok (.aload_n 0, 1) := by decide +kernel
theorem dL_law_5 : decode cL_law 5 = .ok (.iconst 0, 1) := by decide +kernel
theorem dL_law_6 : decode cL_law 6 = .ok (.invokestatic 9, 3) := by decide +kernel
theorem dL_law_9 : decode cL_law 9 = .ok (.invokespecial 15, 3) := by decide +kernel
theorem dL_law_12 : decode cL_law 12 = .ok (.astore_n 1, 1) := by decide +kernel
theorem dL_law_13 : decode cL_law 13 = .ok (.new 18, 3) := by decide +kernel
theorem dL_law_16 : decode cL_law 16 = .ok (.dup, 1) := by decide +kernel
theorem dL_law_17 : decode cL_law 17 = .ok (.aload_n 0, 1) := by decide +kernel
theorem dL_law_18 : decode cL_law 18 = .ok (.iconst 0, 1) := by decide +kernel
theorem dL_law_19 : decode cL_law 19 = .ok (.invokestatic 9, 3) := by decide +kernel
theorem dL_law_22 : decode cL_law 22 = .ok (.invokespecial 20, 3) := by decide +kernel
theorem dL_law_25 : decode cL_law 25 = .ok (.astore_n 2, 1) := by decide +kernel
theorem dL_law_26 : decode cL_law 26 = .ok (.iconst 1, 1) := by decide +kernel
theorem dL_law_27 : decode cL_law 27 = .ok (.istore_n 3, 1) := by decide +kernel
theorem dL_law_28 : decode cL_law 28 = .ok (.iload_n 3, 1) := by decide +kernel
theorem dL_law_29 : decode cL_law 29 = .ok (.aload_n 0, 1) := by decide +kernel
theorem dL_law_30 : decode cL_law 30 = .ok (.arraylength, 1) := by decide +kernel
theorem dL_law_31 : decode cL_law 31 = .ok (.iconst 4, 1) := by decide +kernel
theorem dL_law_32 : decode cL_law 32 = .ok (.isub, 1) := by decide +kernel
theorem dL_law_33 : decode cL_law 33 = .ok (.if_icmp .gt 431, 3) := by decide +kernel
theorem dL_law_36 : decode cL_law 36 = .ok (.aload_n 0, 1) := by decide +kernel
theorem dL_law_37 : decode cL_law 37 = .ok (.iload_n 3, 1) := by decide +kernel
theorem dL_law_38 : decode cL_law 38 = .ok (.iaload, 1) := by decide +kernel
theorem dL_law_39 : decode cL_law 39 = .ok (.bipush 15, 2) := by decide +kernel
theorem dL_law_41 : decode cL_law 41 = .ok (.iand, 1) := by decide +kernel
theorem dL_law_42 : decode cL_law 42 = .ok (.tableswitch 416 0 15 #[78, 121, 144, 177, 200, 223, 236, 259, 272, 285, 298, 311, 334, 357, 390, 403], 78) := by decide +kernel
theorem dL_law_120 : decode cL_law 120 = .ok (.aload_n 1, 1) := by decide +kernel
theorem dL_law_121 : decode cL_law 121 = .ok (.aload_n 0, 1) := by decide +kernel
theorem dL_law_122 : decode cL_law 122 = .ok (.iload_n 3, 1) := by decide +kernel
theorem dL_law_123 : decode cL_law 123 = .ok (.iconst 1, 1) := by decide +kernel
theorem dL_law_124 : decode cL_law 124 = .ok (.iadd, 1) := by decide +kernel
theorem dL_law_125 : decode cL_law 125 = .ok (.iaload, 1) := by decide +kernel
theorem dL_law_126 : decode cL_law 126 = .ok (.aload_n 0, 1) := by decide +kernel
theorem dL_law_127 : decode cL_law 127 = .ok (.iload_n 3, 1) := by decide +kernel
theorem dL_law_128 : decode cL_law 128 = .ok (.iconst 2, 1) := by decide +kernel
theorem dL_law_129 : decode cL_law 129 = .ok (.iadd, 1) := by decide +kernel
theorem dL_law_130 : decode cL_law 130 = .ok (.iaload, 1) := by decide +kernel
theorem dL_law_131 : decode cL_law 131 = .ok (.aload_n 0, 1) := by decide +kernel
theorem dL_law_132 : decode cL_law 132 = .ok (.iload_n 3, 1) := by decide +kernel
theorem dL_law_133 : decode cL_law 133 = .ok (.iconst 3, 1) := by decide +kernel
theorem dL_law_134 : decode cL_law 134 = .ok (.iadd, 1) := by decide +kernel
theorem dL_law_135 : decode cL_law 135 = .ok (.iaload, 1) := by decide +kernel
theorem dL_law_136 : decode cL_law 136 = .ok (.invokevirtual 21, 3) := by decide +kernel
theorem dL_law_139 : decode cL_law 139 = .ok (.aload_n 2, 1) := by decide +kernel
theorem dL_law_140 : decode cL_law 140 = .ok (.aload_n 0, 1) := by decide +kernel
theorem dL_law_141 : decode cL_law 141 = .ok (.iload_n 3, 1) := by decide +kernel
theorem dL_law_142 : decode cL_law 142 = .ok (.iconst 1, 1) := by decide +kernel
theorem dL_law_143 : decode cL_law 143 = .ok (.iadd, 1) := by decide +kernel
theorem dL_law_144 : decode cL_law 144 = .ok (.iaload, 1) := by decide +kernel
theorem dL_law_145 : decode cL_law 145 = .ok (.aload_n 0, 1) := by decide +kernel
theorem dL_law_146 : decode cL_law 146 = .ok (.iload_n 3, 1) := by decide +kernel
theorem dL_law_147 : decode cL_law 147 = .ok (.iconst 2, 1) := by decide +kernel
theorem dL_law_148 : decode cL_law 148 = .ok (.iadd, 1) := by decide +kernel
theorem dL_law_149 : decode cL_law 149 = .ok (.iaload, 1) := by decide +kernel
theorem dL_law_150 : decode cL_law 150 = .ok (.aload_n 0, 1) := by decide +kernel
theorem dL_law_151 : decode cL_law 151 = .ok (.iload_n 3, 1) := by decide +kernel
theorem dL_law_152 : decode cL_law 152 = .ok (.iconst 3, 1) := by decide +kernel
theorem dL_law_153 : decode cL_law 153 = .ok (.iadd, 1) := by decide +kernel
theorem dL_law_154 : decode cL_law 154 = .ok (.iaload, 1) := by decide +kernel
theorem dL_law_155 : decode cL_law 155 = .ok (.invokevirtual 25, 3) := by decide +kernel
theorem dL_law_158 : decode cL_law 158 = .ok (.if_icmp .eq 300, 3) := by decide +kernel
theorem dL_law_161 : decode cL_law 161 = .ok (.iconst 0, 1) := by decide +kernel
theorem dL_law_162 : decode cL_law 162 = .ok (.ireturn, 1) := by decide +kernel
theorem dL_law_163 : decode cL_law 163 = .ok (.aload_n 1, 1) := by decide +kernel
theorem dL_law_164 : decode cL_law 164 = .ok (.aload_n 0, 1) := by decide +kernel
theorem dL_law_165 : decode cL_law 165 = .ok (.iload_n 3, 1) := by decide +kernel
theorem dL_law_166 : decode cL_law 166 = .ok (.iconst 1, 1) := by decide +kernel
theorem dL_law_167 : decode cL_law 167 = .ok (.iadd, 1) := by decide +kernel
theorem dL_law_168 : decode cL_law 168 = .ok (.iaload, 1) := by decide +kernel
theorem dL_law_169 : decode cL_law 169 = .ok (.invokevirtual 26, 3) := by decide +kernel
theorem dL_law_172 : decode cL_law 172 = .ok (.aload_n 2, 1) := by decide +kernel
theorem dL_law_173 : decode cL_law 173 = .ok (.aload_n 0, 1) := by decide +kernel
theorem dL_law_174 : decode cL_law 174 = .ok (.iload_n 3, 1) := by decide +kernel
theorem dL_law_175 : decode cL_law 175 = .ok (.iconst 1, 1) := by decide +kernel
theorem dL_law_176 : decode cL_law 176 = .ok (.iadd, 1) := by decide +kernel
theorem dL_law_177 : decode cL_law 177 = .ok (.iaload, 1) := by decide +kernel
theorem dL_law_178 : decode cL_law 178 = .ok (.invokevirtual 30, 3) := by decide +kernel
theorem dL_law_181 : decode cL_law 181 = .ok (.if_icmp .eq 277, 3) := by decide +kernel
theorem dL_law_184 : decode cL_law 184 = .ok (.iconst 0, 1) := by decide +kernel
theorem dL_law_185 : decode cL_law 185 = .ok (.ireturn, 1) := by decide +kernel
theorem dL_law_186 : decode cL_law 186 = .ok (.aload_n 1, 1) := by decide +kernel
theorem dL_law_187 : decode cL_law 187 = .ok (.aload_n 0, 1) := by decide +kernel
theorem dL_law_188 : decode cL_law 188 = .ok (.iload_n 3, 1) := by decide +kernel
theorem dL_law_189 : decode cL_law 189 = .ok (.iconst 1, 1) := by decide +kernel
theorem dL_law_190 : decode cL_law 190 = .ok (.iadd, 1) := by decide +kernel
theorem dL_law_191 : decode cL_law 191 = .ok (.iaload, 1) := by decide +kernel
theorem dL_law_192 : decode cL_law 192 = .ok (.aload_n 0, 1) := by decide +kernel
theorem dL_law_193 : decode cL_law 193 = .ok (.iload_n 3, 1) := by decide +kernel
theorem dL_law_194 : decode cL_law 194 = .ok (.iconst 2, 1) := by decide +kernel
theorem dL_law_195 : decode cL_law 195 = .ok (.iadd, 1) := by decide +kernel
theorem dL_law_196 : decode cL_law 196 = .ok (.iaload, 1) := by decide +kernel
theorem dL_law_197 : decode cL_law 197 = .ok (.invokevirtual 31, 3) := by decide +kernel
theorem dL_law_200 : decode cL_law 200 = .ok (.aload_n 2, 1) := by decide +kernel
theorem dL_law_201 : decode cL_law 201 = .ok (.aload_n 0, 1) := by decide +kernel
theorem dL_law_202 : decode cL_law 202 = .ok (.iload_n 3, 1) := by decide +kernel
theorem dL_law_203 : decode cL_law 203 = .ok (.iconst 1, 1) := by decide +kernel
theorem dL_law_204 : decode cL_law 204 = .ok (.iadd, 1) := by decide +kernel
theorem dL_law_205 : decode cL_law 205 = .ok (.iaload, 1) := by decide +kernel
theorem dL_law_206 : decode cL_law 206 = .ok (.aload_n 0, 1) := by decide +kernel
theorem dL_law_207 : decode cL_law 207 = .ok (.iload_n 3, 1) := by decide +kernel
theorem dL_law_208 : decode cL_law 208 = .ok (.iconst 2, 1) := by decide +kernel
theorem dL_law_209 : decode cL_law 209 = .ok (.iadd, 1) := by decide +kernel
theorem dL_law_210 : decode cL_law 210 = .ok (.iaload, 1) := by decide +kernel
theorem dL_law_211 : decode cL_law 211 = .ok (.invokevirtual 35, 3) := by decide +kernel
theorem dL_law_214 : decode cL_law 214 = .ok (.if_icmp .eq 244, 3) := by decide +kernel
theorem dL_law_217 : decode cL_law 217 = .ok (.iconst 0, 1) := by decide +kernel
theorem dL_law_218 : decode cL_law 218 = .ok (.ireturn, 1) := by decide +kernel
theorem dL_law_219 : decode cL_law 219 = .ok (.aload_n 1, 1) := by decide +kernel
theorem dL_law_220 : decode cL_law 220 = .ok (.aload_n 0, 1) := by decide +kernel
theorem dL_law_221 : decode cL_law 221 = .ok (.iload_n 3, 1) := by decide +kernel
theorem dL_law_222 : decode cL_law 222 = .ok (.iconst 1, 1) := by decide +kernel
theorem dL_law_223 : decode cL_law 223 = .ok (.iadd, 1) := by decide +kernel
theorem dL_law_224 : decode cL_law 224 = .ok (.iaload, 1) := by decide +kernel
theorem dL_law_225 : decode cL_law 225 = .ok (.invokevirtual 36, 3) := by decide +kernel
theorem dL_law_228 : decode cL_law 228 = .ok (.aload_n 2, 1) := by decide +kernel
theorem dL_law_229 : decode cL_law 229 = .ok (.aload_n 0, 1) := by decide +kernel
theorem dL_law_230 : decode cL_law 230 = .ok (.iload_n 3, 1) := by decide +kernel
theorem dL_law_231 : decode cL_law 231 = .ok (.iconst 1, 1) := by decide +kernel
theorem dL_law_232 : decode cL_law 232 = .ok (.iadd, 1) := by decide +kernel
theorem dL_law_233 : decode cL_law 233 = .ok (.iaload, 1) := by decide +kernel
theorem dL_law_234 : decode cL_law 234 = .ok (.invokevirtual 39, 3) := by decide +kernel
theorem dL_law_237 : decode cL_law 237 = .ok (.if_icmp .eq 221, 3) := by decide +kernel
theorem dL_law_240 : decode cL_law 240 = .ok (.iconst 0, 1) := by decide +kernel
theorem dL_law_241 : decode cL_law 241 = .ok (.ireturn, 1) := by decide +kernel
theorem dL_law_242 : decode cL_law 242 = .ok (.aload_n 1, 1) := by decide +kernel
theorem dL_law_243 : decode cL_law 243 = .ok (.aload_n 0, 1) := by decide +kernel
theorem dL_law_244 : decode cL_law 244 = .ok (.iload_n 3, 1) := by decide +kernel
theorem dL_law_245 : decode cL_law 245 = .ok (.iconst 1, 1) := by decide +kernel
theorem dL_law_246 : decode cL_law 246 = .ok (.iadd, 1) := by decide +kernel
theorem dL_law_247 : decode cL_law 247 = .ok (.iaload, 1) := by decide +kernel
theorem dL_law_248 : decode cL_law 248 = .ok (.invokevirtual 40, 3) := by decide +kernel
theorem dL_law_251 : decode cL_law 251 = .ok (.aload_n 2, 1) := by decide +kernel
theorem dL_law_252 : decode cL_law 252 = .ok (.aload_n 0, 1) := by decide +kernel
theorem dL_law_253 : decode cL_law 253 = .ok (.iload_n 3, 1) := by decide +kernel
theorem dL_law_254 : decode cL_law 254 = .ok (.iconst 1, 1) := by decide +kernel
theorem dL_law_255 : decode cL_law 255 = .ok (.iadd, 1) := by decide +kernel
theorem dL_law_256 : decode cL_law 256 = .ok (.iaload, 1) := by decide +kernel
theorem dL_law_257 : decode cL_law 257 = .ok (.invokevirtual 43, 3) := by decide +kernel
theorem dL_law_260 : decode cL_law 260 = .ok (.if_icmp .eq 198, 3) := by decide +kernel
theorem dL_law_263 : decode cL_law 263 = .ok (.iconst 0, 1) := by decide +kernel
theorem dL_law_264 : decode cL_law 264 = .ok (.ireturn, 1) := by decide +kernel
theorem dL_law_265 : decode cL_law 265 = .ok (.aload_n 1, 1) := by decide +kernel
theorem dL_law_266 : decode cL_law 266 = .ok (.invokevirtual 44, 3) := by decide +kernel
theorem dL_law_269 : decode cL_law 269 = .ok (.aload_n 2, 1) := by decide +kernel
theorem dL_law_270 : decode cL_law 270 = .ok (.invokevirtual 48, 3) := by decide +kernel
theorem dL_law_273 : decode cL_law 273 = .ok (.if_icmp .eq 185, 3) := by decide +kernel
theorem dL_law_276 : decode cL_law 276 = .ok (.iconst 0, 1) := by decide +kernel
theorem dL_law_277 : decode cL_law 277 = .ok (.ireturn, 1) := by decide +kernel
theorem dL_law_278 : decode cL_law 278 = .ok (.aload_n 1, 1) := by decide +kernel
theorem dL_law_279 : decode cL_law 279 = .ok (.aload_n 0, 1) := by decide +kernel
theorem dL_law_280 : decode cL_law 280 = .ok (.iload_n 3, 1) := by decide +kernel
theorem dL_law_281 : decode cL_law 281 = .ok (.iconst 1, 1) := by decide +kernel
theorem dL_law_282 : decode cL_law 282 = .ok (.iadd, 1) := by decide +kernel
theorem dL_law_283 : decode cL_law 283 = .ok (.iaload, 1) := by decide +kernel
theorem dL_law_284 : decode cL_law 284 = .ok (.invokevirtual 49, 3) := by decide +kernel
theorem dL_law_287 : decode cL_law 287 = .ok (.aload_n 2, 1) := by decide +kernel
theorem dL_law_288 : decode cL_law 288 = .ok (.aload_n 0, 1) := by decide +kernel
theorem dL_law_289 : decode cL_law 289 = .ok (.iload_n 3, 1) := by decide +kernel
theorem dL_law_290 : decode cL_law 290 = .ok (.iconst 1, 1) := by decide +kernel
theorem dL_law_291 : decode cL_law 291 = .ok (.iadd, 1) := by decide +kernel
theorem dL_law_292 : decode cL_law 292 = .ok (.iaload, 1) := by decide +kernel
theorem dL_law_293 : decode cL_law 293 = .ok (.invokevirtual 52, 3) := by decide +kernel
theorem dL_law_296 : decode cL_law 296 = .ok (.if_icmp .eq 162, 3) := by decide +kernel
theorem dL_law_299 : decode cL_law 299 = .ok (.iconst 0, 1) := by decide +kernel
theorem dL_law_300 : decode cL_law 300 = .ok (.ireturn, 1) := by decide +kernel
theorem dL_law_301 : decode cL_law 301 = .ok (.aload_n 1, 1) := by decide +kernel
theorem dL_law_302 : decode cL_law 302 = .ok (.invokevirtual 53, 3) := by decide +kernel
theorem dL_law_305 : decode cL_law 305 = .ok (.aload_n 2, 1) := by decide +kernel
theorem dL_law_306 : decode cL_law 306 = .ok (.invokevirtual 56, 3) := by decide +kernel
theorem dL_law_309 : decode cL_law 309 = .ok (.if_icmp .eq 149, 3) := by decide +kernel
theorem dL_law_312 : decode cL_law 312 = .ok (.iconst 0, 1) := by decide +kernel
theorem dL_law_313 : decode cL_law 313 = .ok (.ireturn, 1) := by decide +kernel
theorem dL_law_314 : decode cL_law 314 = .ok (.aload_n 1, 1) := by decide +kernel
theorem dL_law_315 : decode cL_law 315 = .ok (.invokevirtual 57, 3) := by decide +kernel
theorem dL_law_318 : decode cL_law 318 = .ok (.aload_n 2, 1) := by decide +kernel
theorem dL_law_319 : decode cL_law 319 = .ok (.invokevirtual 60, 3) := by decide +kernel
theorem dL_law_322 : decode cL_law 322 = .ok (.if_icmp .eq 136, 3) := by decide +kernel
theorem dL_law_325 : decode cL_law 325 = .ok (.iconst 0, 1) := by decide +kernel
theorem dL_law_326 : decode cL_law 326 = .ok (.ireturn, 1) := by decide +kernel
theorem dL_law_327 : decode cL_law 327 = .ok (.aload_n 1, 1) := by decide +kernel
theorem dL_law_328 : decode cL_law 328 = .ok (.invokevirtual 61, 3) := by decide +kernel
theorem dL_law_331 : decode cL_law 331 = .ok (.aload_n 2, 1) := by decide +kernel
theorem dL_law_332 : decode cL_law 332 = .ok (.invokevirtual 64, 3) := by decide +kernel
theorem dL_law_335 : decode cL_law 335 = .ok (.if_icmp .eq 123, 3) := by decide +kernel
theorem dL_law_338 : decode cL_law 338 = .ok (.iconst 0, 1) := by decide +kernel
theorem dL_law_339 : decode cL_law 339 = .ok (.ireturn, 1) := by decide +kernel
theorem dL_law_340 : decode cL_law 340 = .ok (.aload_n 1, 1) := by decide +kernel
theorem dL_law_341 : decode cL_law 341 = .ok (.invokevirtual 65, 3) := by decide +kernel
theorem dL_law_344 : decode cL_law 344 = .ok (.aload_n 2, 1) := by decide +kernel
theorem dL_law_345 : decode cL_law 345 = .ok (.invokevirtual 68, 3) := by decide +kernel
theorem dL_law_348 : decode cL_law 348 = .ok (.if_icmp .eq 110, 3) := by decide +kernel
theorem dL_law_351 : decode cL_law 351 = .ok (.iconst 0, 1) := by decide +kernel
theorem dL_law_352 : decode cL_law 352 = .ok (.ireturn, 1) := by decide +kernel
theorem dL_law_353 : decode cL_law 353 = .ok (.aload_n 1, 1) := by decide +kernel
theorem dL_law_354 : decode cL_law 354 = .ok (.aload_n 0, 1) := by decide +kernel
theorem dL_law_355 : decode cL_law 355 = .ok (.iload_n 3, 1) := by decide +kernel
theorem dL_law_356 : decode cL_law 356 = .ok (.iconst 1, 1) := by decide +kernel
theorem dL_law_357 : decode cL_law 357 = .ok (.iadd, 1) := by decide +kernel
theorem dL_law_358 : decode cL_law 358 = .ok (.iaload, 1) := by decide +kernel
theorem dL_law_359 : decode cL_law 359 = .ok (.invokevirtual 69, 3) := by decide +kernel
theorem dL_law_362 : decode cL_law 362 = .ok (.aload_n 2, 1) := by decide +kernel
theorem dL_law_363 : decode cL_law 363 = .ok (.aload_n 0, 1) := by decide +kernel
theorem dL_law_364 : decode cL_law 364 = .ok (.iload_n 3, 1) := by decide +kernel
theorem dL_law_365 : decode cL_law 365 = .ok (.iconst 1, 1) := by decide +kernel
theorem dL_law_366 : decode cL_law 366 = .ok (.iadd, 1) := by decide +kernel
theorem dL_law_367 : decode cL_law 367 = .ok (.iaload, 1) := by decide +kernel
theorem dL_law_368 : decode cL_law 368 = .ok (.invokevirtual 72, 3) := by decide +kernel
theorem dL_law_371 : decode cL_law 371 = .ok (.if_icmp .eq 87, 3) := by decide +kernel
theorem dL_law_374 : decode cL_law 374 = .ok (.iconst 0, 1) := by decide +kernel
theorem dL_law_375 : decode cL_law 375 = .ok (.ireturn, 1) := by decide +kernel
theorem dL_law_376 : decode cL_law 376 = .ok (.aload_n 1, 1) := by decide +kernel
theorem dL_law_377 : decode cL_law 377 = .ok (.aload_n 0, 1) := by decide +kernel
theorem dL_law_378 : decode cL_law 378 = .ok (.iload_n 3, 1) := by decide +kernel
theorem dL_law_379 : decode cL_law 379 = .ok (.iconst 1, 1) := by decide +kernel
theorem dL_law_380 : decode cL_law 380 = .ok (.iadd, 1) := by decide +kernel
theorem dL_law_381 : decode cL_law 381 = .ok (.iaload, 1) := by decide +kernel
theorem dL_law_382 : decode cL_law 382 = .ok (.invokevirtual 73, 3) := by decide +kernel
theorem dL_law_385 : decode cL_law 385 = .ok (.aload_n 2, 1) := by decide +kernel
theorem dL_law_386 : decode cL_law 386 = .ok (.aload_n 0, 1) := by decide +kernel
theorem dL_law_387 : decode cL_law 387 = .ok (.iload_n 3, 1) := by decide +kernel
theorem dL_law_388 : decode cL_law 388 = .ok (.iconst 1, 1) := by decide +kernel
theorem dL_law_389 : decode cL_law 389 = .ok (.iadd, 1) := by decide +kernel
theorem dL_law_390 : decode cL_law 390 = .ok (.iaload, 1) := by decide +kernel
theorem dL_law_391 : decode cL_law 391 = .ok (.invokevirtual 76, 3) := by decide +kernel
theorem dL_law_394 : decode cL_law 394 = .ok (.if_icmp .eq 64, 3) := by decide +kernel
theorem dL_law_397 : decode cL_law 397 = .ok (.iconst 0, 1) := by decide +kernel
theorem dL_law_398 : decode cL_law 398 = .ok (.ireturn, 1) := by decide +kernel
theorem dL_law_399 : decode cL_law 399 = .ok (.aload_n 1, 1) := by decide +kernel
theorem dL_law_400 : decode cL_law 400 = .ok (.aload_n 0, 1) := by decide +kernel
theorem dL_law_401 : decode cL_law 401 = .ok (.iload_n 3, 1) := by decide +kernel
theorem dL_law_402 : decode cL_law 402 = .ok (.iconst 1, 1) := by decide +kernel
theorem dL_law_403 : decode cL_law 403 = .ok (.iadd, 1) := by decide +kernel
theorem dL_law_404 : decode cL_law 404 = .ok (.iaload, 1) := by decide +kernel
theorem dL_law_405 : decode cL_law 405 = .ok (.aload_n 0, 1) := by decide +kernel
theorem dL_law_406 : decode cL_law 406 = .ok (.iload_n 3, 1) := by decide +kernel
theorem dL_law_407 : decode cL_law 407 = .ok (.iconst 2, 1) := by decide +kernel
theorem dL_law_408 : decode cL_law 408 = .ok (.iadd, 1) := by decide +kernel
theorem dL_law_409 : decode cL_law 409 = .ok (.iaload, 1) := by decide +kernel
theorem dL_law_410 : decode cL_law 410 = .ok (.invokevirtual 77, 3) := by decide +kernel
theorem dL_law_413 : decode cL_law 413 = .ok (.aload_n 2, 1) := by decide +kernel
theorem dL_law_414 : decode cL_law 414 = .ok (.aload_n 0, 1) := by decide +kernel
theorem dL_law_415 : decode cL_law 415 = .ok (.iload_n 3, 1) := by decide +kernel
theorem dL_law_416 : decode cL_law 416 = .ok (.iconst 1, 1) := by decide +kernel
theorem dL_law_417 : decode cL_law 417 = .ok (.iadd, 1) := by decide +kernel
theorem dL_law_418 : decode cL_law 418 = .ok (.iaload, 1) := by decide +kernel
theorem dL_law_419 : decode cL_law 419 = .ok (.aload_n 0, 1) := by decide +kernel
theorem dL_law_420 : decode cL_law 420 = .ok (.iload_n 3, 1) := by decide +kernel
theorem dL_law_421 : decode cL_law 421 = .ok (.iconst 2, 1) := by decide +kernel
theorem dL_law_422 : decode cL_law 422 = .ok (.iadd, 1) := by decide +kernel
theorem dL_law_423 : decode cL_law 423 = .ok (.iaload, 1) := by decide +kernel
theorem dL_law_424 : decode cL_law 424 = .ok (.invokevirtual 80, 3) := by decide +kernel
theorem dL_law_427 : decode cL_law 427 = .ok (.if_icmp .eq 31, 3) := by decide +kernel
theorem dL_law_430 : decode cL_law 430 = .ok (.iconst 0, 1) := by decide +kernel
theorem dL_law_431 : decode cL_law 431 = .ok (.ireturn, 1) := by decide +kernel
theorem dL_law_432 : decode cL_law 432 = .ok (.aload_n 1, 1) := by decide +kernel
theorem dL_law_433 : decode cL_law 433 = .ok (.invokevirtual 81, 3) := by decide +kernel
theorem dL_law_436 : decode cL_law 436 = .ok (.aload_n 2, 1) := by decide +kernel
theorem dL_law_437 : decode cL_law 437 = .ok (.invokevirtual 84, 3) := by decide +kernel
theorem dL_law_440 : decode cL_law 440 = .ok (.if_icmp .eq 18, 3) := by decide +kernel
theorem dL_law_443 : decode cL_law 443 = .ok (.iconst 0, 1) := by decide +kernel
theorem dL_law_444 : decode cL_law 444 = .ok (.ireturn, 1) := by decide +kernel
theorem dL_law_445 : decode cL_law 445 = .ok (.aload_n 1, 1) := by decide +kernel
theorem dL_law_446 : decode cL_law 446 = .ok (.invokevirtual 85, 3) := by decide +kernel
theorem dL_law_449 : decode cL_law 449 = .ok (.aload_n 2, 1) := by decide +kernel
theorem dL_law_450 : decode cL_law 450 = .ok (.invokevirtual 88, 3) := by decide +kernel
theorem dL_law_453 : decode cL_law 453 = .ok (.if_icmp .eq 5, 3) := by decide +kernel
theorem dL_law_456 : decode cL_law 456 = .ok (.iconst 0, 1) := by decide +kernel
theorem dL_law_457 : decode cL_law 457 = .ok (.ireturn, 1) := by decide +kernel
theorem dL_law_458 : decode cL_law 458 = .ok (.iinc 3 4, 3) := by decide +kernel
theorem dL_law_461 : decode cL_law 461 = .ok (.goto (-433), 3) := by decide +kernel
theorem dL_law_464 : decode cL_law 464 = .ok (.iconst 1, 1) := by decide +kernel
theorem dL_law_465 : decode cL_law 465 = .ok (.ireturn, 1) := by decide +kernel
end
section
/-! rows of this claim over the kit: contracts over a whole world, loops, calls, arrays by a Nat index -/
abbrev vwCl : List vw_C := [(RX1, TX1, 12), (RX2, TX2, 6)]
def Pre_ (D : va_G) (d : ClassId) (w : va_W) (sz : Nat) (av : List Value) : Array Value → State → Prop :=
  va_Pc av (fun U => U.heap.size = sz ∧ va_P D vwCl w U.heap ∧ va_K D vwCl [(d, .int)] U ∧ va_D (fun _ => True) w)
def Bw_ {S : Type} (D : va_G) (d : ClassId) (wf : S → va_W) (A : Nat → Prop) (u : S) (t : State) : Prop :=
  va_P D vwCl (wf u) t.heap ∧ va_K D vwCl [(d, .int)] t ∧ va_D A (wf u)
/-- y, called with av in the world w, answers r and leaves the world wf u, with post r u -/
def MI_ {S : Type} (l : Launch) (y : MethodName) (ws : List Cond) (rm : Room) (D : va_G) (d : ClassId) (w : va_W) (wf : S → va_W) (av : List Value) (post : Int32 → S → Prop) : Prop :=
  ∀ sz : Nat, Met l y ws rm (Pre_ D d w sz av) (va_Qi post (Bw_ D d wf (va_A w sz)) (va_A w sz)) 0 0 (va_A w sz)
def MV_ {S : Type} (l : Launch) (y : MethodName) (ws : List Cond) (rm : Room) (D : va_G) (d : ClassId) (w : va_W) (wf : S → va_W) (av : List Value) (post : S → Prop) : Prop :=
  ∀ sz : Nat, Met l y ws rm (Pre_ D d w sz av) (va_Qv post (Bw_ D d wf (va_A w sz)) (va_A w sz)) 0 0 (va_A w sz)
theorem MI_mk {S : Type} {l : Launch} {y : MethodName} {rm : Room} {D : va_G} {d : ClassId} {w : va_W} {wf : S → va_W} {av : List Value} {post : Int32 → S → Prop} {cc : ByteArray} {nL : Nat} {ty : FieldType} {lv : List (Nat × Value)}
    (hy : plainName y.cls = true) (hav : (lg_sl av).length ≤ nL) (hlv : lv_args 0 av = lv)
    (body : ∀ (p : Program) (e : Env) (s : State) (mm : MethodId) (below : List Frame) (meth : Method) (c : Code) (A : Nat → Prop) (ls : Array Slot), p.tables.exec = Jvm.exec → c.code = cc → meth.sig.returnType = some ty → meth.locks = false → c.maxLocals = nL → s.vm.findClass y.cls = some mm.cls → (∀ w ∈ lw_all, w.before av.toArray s = true) → (∀ q : Nat, s.heap.size ≤ q → A q) → va_P D vwCl w s.heap → va_K D vwCl [(d, .int)] s → va_D A w → va_S A s.heap s.heap [] → lv_has ls nL lv →
      W p l e rm s mm av.toArray below meth c s.heap [] 0 0 (MQ below (va_Qi post (Bw_ D d wf A) A) av.toArray s 0 0 A) (F0 mm 0 ls [])) :
    MI_ l y (ws_ y cc nL (some ty)) rm D d w wf av post := by
  intro sz
  refine Met.ofW (cc := cc) (maxL := nL) (ret := some ty) hy rfl ?_
  intro p e s m args below meth c s₁ B hml hv
  obtain ⟨rfl, hsz, hP, hK, hD0⟩ := hv
  have hts := atoms_spec (ws := ws_ y cc nL (some ty)) B.pre
  have hts : ∀ w ∈ lw_all, w.before _ s = true := fun w h => hts w (List.mem_cons_of_mem _ h)
  subst hsz
  have hD := hD0.self (sz := s.heap.size)
  generalize hAe : va_A w s.heap.size = A at hD ⊢
  have hA : ∀ q : Nat, s.heap.size ≤ q → A q := fun q h => by rw [← hAe]; exact Or.inr h
  have hl := lv_entry av (n := nL) hav
  rw [lg_entry_eq]
  generalize (lg_sl av ++ List.replicate (nL - (lg_sl av).length) Slot.unset).toArray = ls at hl ⊢
  rw [hlv] at hl
  exact body p e s m below meth c A ls B.exec B.bytes B.returns B.notSynchronized hml (findClass_of_methodNamed B.named) hts hA hP hK hD va_S.rf hl
theorem MV_mk {S : Type} {l : Launch} {y : MethodName} {rm : Room} {D : va_G} {d : ClassId} {w : va_W} {wf : S → va_W} {av : List Value} {post : S → Prop} {cc : ByteArray} {nL : Nat} {lv : List (Nat × Value)}
    (hy : plainName y.cls = true) (hav : (lg_sl av).length ≤ nL) (hlv : lv_args 0 av = lv)
    (body : ∀ (p : Program) (e : Env) (s : State) (mm : MethodId) (below : List Frame) (meth : Method) (c : Code) (A : Nat → Prop) (ls : Array Slot), p.tables.exec = Jvm.exec → c.code = cc → meth.sig.returnType = none → meth.locks = false → c.maxLocals = nL → s.vm.findClass y.cls = some mm.cls → (∀ w ∈ lw_all, w.before av.toArray s = true) → (∀ q : Nat, s.heap.size ≤ q → A q) → va_P D vwCl w s.heap → va_K D vwCl [(d, .int)] s → va_D A w → va_S A s.heap s.heap [] → lv_has ls nL lv →
      W p l e rm s mm av.toArray below meth c s.heap [] 0 0 (MQ below (va_Qv post (Bw_ D d wf A) A) av.toArray s 0 0 A) (F0 mm 0 ls [])) :
    MV_ l y (ws_ y cc nL none) rm D d w wf av post := by
  intro sz
  refine Met.ofW (cc := cc) (maxL := nL) (ret := none) hy rfl ?_
  intro p e s m args below meth c s₁ B hml hv
  obtain ⟨rfl, hsz, hP, hK, hD0⟩ := hv
  have hts := atoms_spec (ws := ws_ y cc nL none) B.pre
  have hts : ∀ w ∈ lw_all, w.before _ s = true := fun w h => hts w (List.mem_cons_of_mem _ h)
  subst hsz
  have hD := hD0.self (sz := s.heap.size)
  generalize hAe : va_A w s.heap.size = A at hD ⊢
  have hA : ∀ q : Nat, s.heap.size ≤ q → A q := fun q h => by rw [← hAe]; exact Or.inr h
  have hl := lv_entry av (n := nL) hav
  rw [lg_entry_eq]
  generalize (lg_sl av ++ List.replicate (nL - (lg_sl av).length) Slot.unset).toArray = ls at hl ⊢
  rw [hlv] at hl
  exact body p e s m below meth c A ls B.exec B.bytes B.returns B.notSynchronized hml (findClass_of_methodNamed B.named) hts hA hP hK hD va_S.rf hl
section WK
variable {p : Program} {l : Launch} {e : Env} {R : Room} {s : State} {m : MethodId} {args : Array Value} {below : List Frame} {meth : Method} {c : Code} {H : Heap} {locs : List Loc} {cells slots : Nat} {Q : State → Prop}
variable {cc : ByteArray} {pc : Nat} {ls : Array Slot} {rest : List Value} {D : va_G} {cl : List vw_C} {A : Nat → Prop} {a : Nat} {tys : List (ClassId × FieldType)} {ws : va_W} {H0 : Heap}
/-- the number on top, written otherwise -/
theorem w_top {x y : Int32} (h : x = y) (k : W p l e R s m args below meth c H locs cells slots Q (F0 m pc ls (.int y :: rest))) : W p l e R s m args below meth c H locs cells slots Q (F0 m pc ls (.int x :: rest)) := by
  rw [h]; exact k
/-- two roads come together at pcJ with a number on top -/
theorem w_join {g : JFrame} (pcJ : Nat) (ls : Array Slot) (rest : List Value) (P : Int32 → Prop) (k1 : ∀ v : Int32, P v → W p l e R s m args below meth c H locs cells slots Q (F0 m pcJ ls (.int v :: rest)))
    (k2 : (∀ v : Int32, P v → W p l e R s m args below meth c H locs cells slots Q (F0 m pcJ ls (.int v :: rest))) → W p l e R s m args below meth c H locs cells slots Q g) : W p l e R s m args below meth c H locs cells slots Q g := k2 k1
theorem w_iald (hexec : p.tables.exec = Jvm.exec) (hb : c.code = cc) (hK : va_K D cl tys s) (hP : va_P D cl ws H) (q0 t0 : Nat) {cA : ClassId} {n : Nat} {f : Nat → Int32} (ha : ws[q0]? = some (a, .inl (cA, n, .inl f))) (ht : tys[t0]? = some (cA, .int)) {x : Nat} {v : Int32} (hlt : x < n) (hn : n < 2 ^ 31) (hv : f x = v) (hdg : decode cc pc = .ok (.iaload, 1))
    (kk : W p l e R s m args below meth c H locs cells slots Q (F0 m (pc + 1) ls (.int v :: rest))) : W p l e R s m args below meth c H locs cells slots Q (F0 m pc ls (.int (nI x) :: .ref a :: rest)) := by
  refine va_iald hexec hb hK hP q0 t0 ha ht (vp_in_nI hlt hn) hdg ?_
  rw [nI_clamp (Nat.lt_trans hlt hn), hv]
  exact kk
theorem w_iast (hexec : p.tables.exec = Jvm.exec) (hb : c.code = cc) (hK : va_K D cl tys s) (hP : va_P D cl ws H) (hD : va_D A ws) (hS : va_S A H0 H locs) (q0 t0 : Nat) {cA : ClassId} {n : Nat} {f : Nat → Int32} (ha : ws[q0]? = some (a, .inl (cA, n, .inl f))) (ht : tys[t0]? = some (cA, .int)) {i : Nat} {x : Int32} (hlt : i < n) (hn : n < 2 ^ 31) (hdg : decode cc pc = .ok (.iastore, 1))
    (kk : ∀ (H1 : Heap) (locs1 : List Loc), va_P D cl (ws.set q0 (a, .inl (cA, n, .inl (upd f i x)))) H1 → va_D A (ws.set q0 (a, .inl (cA, n, .inl (upd f i x)))) → va_S A H0 H1 locs1 → W p l e R s m args below meth c H1 locs1 cells slots Q (F0 m (pc + 1) ls rest)) : W p l e R s m args below meth c H locs cells slots Q (F0 m pc ls (.int x :: .int (nI i) :: .ref a :: rest)) := by
  refine va_iast hexec hb hK hP hD hS q0 t0 ha ht (vp_in_nI hlt hn) hdg ?_
  rw [nI_clamp (Nat.lt_trans hlt hn)]
  exact kk
/-- a loop that counts i up to hi at its head pc: the state u, the world w u, the locals lv i u, what holds I i u -/
theorem w_for {σ : Type} {st : List Value} {nL : Nat} (hi : Nat) (w : σ → va_W) (lv : Nat → σ → List (Nat × Value)) (I : Nat → σ → Prop)
    (step : ∀ i : Nat, i ≤ hi → (∀ (u : σ) (H : Heap) (locs : List Loc) (ls : Array Slot), i < hi → I (i + 1) u → va_P D cl (w u) H → va_D A (w u) → va_S A H0 H locs → lv_has ls nL (lv (i + 1) u) → W p l e R s m args below meth c H locs cells slots Q (F0 m pc ls st)) →
      ∀ (u : σ) (H : Heap) (locs : List Loc) (ls : Array Slot), I i u → va_P D cl (w u) H → va_D A (w u) → va_S A H0 H locs → lv_has ls nL (lv i u) → W p l e R s m args below meth c H locs cells slots Q (F0 m pc ls st))
    {i0 : Nat} (h0 : i0 ≤ hi) (u0 : σ) (hI : I i0 u0) (hP : va_P D cl (w u0) H) (hD : va_D A (w u0)) (hS : va_S A H0 H locs) (hl : lv_has ls nL (lv i0 u0)) : W p l e R s m args below meth c H locs cells slots Q (F0 m pc ls st) := by
  have key : ∀ k i : Nat, i + k = hi → ∀ (u : σ) (H : Heap) (locs : List Loc) (ls : Array Slot), I i u → va_P D cl (w u) H → va_D A (w u) → va_S A H0 H locs → lv_has ls nL (lv i u) → W p l e R s m args below meth c H locs cells slots Q (F0 m pc ls st) := by
    intro k
    induction k with
    | zero => exact fun i hik => step i (by omega) (fun u H locs ls hlt => absurd hlt (by omega))
    | succ k ih => exact fun i hik => step i (by omega) (fun u H locs ls hlt => ih (i + 1) (by omega) u H locs ls)
  exact key (hi - i0) i0 (by omega) u0 H locs ls hI hP hD hS hl
/-- a loop that counts down: i falls -/
theorem w_down {σ : Type} {st : List Value} {nL : Nat} (w : σ → va_W) (lv : Nat → σ → List (Nat × Value)) (I : Nat → σ → Prop)
    (step : ∀ i : Nat, (∀ (u : σ) (H : Heap) (locs : List Loc) (ls : Array Slot) (j : Nat), j < i → I j u → va_P D cl (w u) H → va_D A (w u) → va_S A H0 H locs → lv_has ls nL (lv j u) → W p l e R s m args below meth c H locs cells slots Q (F0 m pc ls st)) →
      ∀ (u : σ) (H : Heap) (locs : List Loc) (ls : Array Slot), I i u → va_P D cl (w u) H → va_D A (w u) → va_S A H0 H locs → lv_has ls nL (lv i u) → W p l e R s m args below meth c H locs cells slots Q (F0 m pc ls st))
    (i0 : Nat) (u0 : σ) (hI : I i0 u0) (hP : va_P D cl (w u0) H) (hD : va_D A (w u0)) (hS : va_S A H0 H locs) (hl : lv_has ls nL (lv i0 u0)) : W p l e R s m args below meth c H locs cells slots Q (F0 m pc ls st) := by
  have key : ∀ k i : Nat, i < k → ∀ (u : σ) (H : Heap) (locs : List Loc) (ls : Array Slot), I i u → va_P D cl (w u) H → va_D A (w u) → va_S A H0 H locs → lv_has ls nL (lv i u) → W p l e R s m args below meth c H locs cells slots Q (F0 m pc ls st) := by
    intro k
    induction k with
    | zero => exact fun i h => absurd h (by omega)
    | succ k ih => exact fun i hik => step i (fun u H locs ls j hj => ih j (by omega) u H locs ls)
  exact key (i0 + 1) i0 (by omega) u0 H locs ls hI hP hD hS hl
variable {S : Type} {post : Int32 → S → Prop} {postv : S → Prop} {wf : S → va_W} {d : ClassId} {v : Int32}
theorem w_iret (hx : p.tables.exec = Jvm.exec) (hb : c.code = cc) (hr : meth.sig.returnType = some .int) (hlocks : meth.locks = false) (u : S) (hpost : post v u) (hP : va_P D vwCl (wf u) H) (hK : va_K D vwCl [(d, .int)] s) (hD : va_D A (wf u)) (hS : va_S A s.heap H locs) (hdg : decode cc pc = .ok (.ireturn, 1)) :
    W p l e R s m args below meth c H locs 0 0 (MQ below (va_Qi post (Bw_ D d wf A) A) args s 0 0 A) (F0 m pc ls [.int v]) :=
  W.iret (v := v) hx hb hr (fun t ht hW => ⟨⟨v, u, rfl, hpost, by rw [ht]; exact hP, va_K.moved hW.alike hK, hD⟩, hS.F ht⟩) hS.2.2 hdg hlocks
theorem w_zret (hx : p.tables.exec = Jvm.exec) (hb : c.code = cc) (hr : meth.sig.returnType = some .boolean) (hlocks : meth.locks = false) (hn : narrow .boolean (.int v) = .int v) (u : S) (hpost : post v u) (hP : va_P D vwCl (wf u) H) (hK : va_K D vwCl [(d, .int)] s) (hD : va_D A (wf u)) (hS : va_S A s.heap H locs) (hdg : decode cc pc = .ok (.ireturn, 1)) :
    W p l e R s m args below meth c H locs 0 0 (MQ below (va_Qi post (Bw_ D d wf A) A) args s 0 0 A) (F0 m pc ls [.int v]) :=
  W.zret (v := v) hx hb hr hn (fun t ht hW => ⟨⟨v, u, rfl, hpost, by rw [ht]; exact hP, va_K.moved hW.alike hK, hD⟩, hS.F ht⟩) hS.2.2 hdg hlocks
theorem w_vret (hx : p.tables.exec = Jvm.exec) (hb : c.code = cc) (hr : meth.sig.returnType = none) (hlocks : meth.locks = false) (u : S) (hpost : postv u) (hP : va_P D vwCl (wf u) H) (hK : va_K D vwCl [(d, .int)] s) (hD : va_D A (wf u)) (hS : va_S A s.heap H locs) (hdg : decode cc pc = .ok (.return_, 1)) :
    W p l e R s m args below meth c H locs 0 0 (MQ below (va_Qv postv (Bw_ D d wf A) A) args s 0 0 A) (F0 m pc ls []) :=
  W.vret hx hb hr (fun t ht hW => ⟨⟨u, rfl, hpost, by rw [ht]; exact hP, va_K.moved hW.alike hK, hD⟩, hS.F ht⟩) hS.2.2 hdg hlocks
variable {y : MethodName} {bytes : ByteArray} {maxL nL n index : Nat} {ret : Option FieldType} {wsc : List Cond} {rm : Room} {Ts : List Cond} {own C : String} {b : Addr} {As st0 : List Value} {w wc wr : va_W}
/-- a call through an object whose cells are some of the world's: isC its places, isR the others' -/
theorem w_calli {T : u_T} {N ci q0 : Nat} {fs : List Value} (F : CallFix p m c cc nL s args Ts own) (hM : MI_ l y wsc rm D d wc wf (.ref b :: As) post) (cw : CallW R s args own C index y bytes maxL ret wsc rm 0 0 n)
    (hP : va_P D vwCl w H) (hK : va_K D vwCl [(d, .int)] s) (hD : va_D A w) (hS : va_S A s.heap H locs) (hA : ∀ q : Nat, s.heap.size ≤ q → A q)
    (isC isR : List Nat) (hCf : isC.filterMap (fun i => w[i]?) = wc) (hC : isC.map (fun i => w[i]?) = wc.map some) (hR : isR.map (fun i => w[i]?) = wr.map some) (hnC : va_nd isC = true) (hnR : va_nd isR = true) (hdis : ∀ i ∈ isR, i ∉ isC)
    (hcl : vwCl[ci]? = some (C, T, N)) (he : wc[q0]? = some (b, .inr (ci, fs)))
    (hn : As.length = n) (hsize : ls.size = nL) (hstack : st0 = As.reverse ++ .ref b :: rest) (hW : (rest.map fun v => v.category).sum ≤ 8) (hdg : decode cc pc = .ok (.invokevirtual index, 3)) (hf : cells ≤ R.cells ∧ slots ≤ R.slots)
    (kk : ∀ (r : Int32) (u : S) (H1 : Heap) (locs1 : List Loc), post r u → va_P D vwCl (wr ++ wf u) H1 → va_D A (wr ++ wf u) → va_S A s.heap H1 locs1 → W p l e R s m args below meth c H1 locs1 cells slots Q (F0 m (pc + 3) ls (.int r :: rest))) :
    W p l e R s m args below meth c H locs cells slots Q (F0 m pc ls st0) := by
  have hPc := hP.sub isC hCf
  have hDc := hD.sub isC hnC hC
  have hFc := va_free (wc := wc) hD hS hA isC hC
  refine va_calli (va_runV (As := As) (rest := rest) F (hM H.size) cw ⟨fun a U g mk q => ?_, va_recv hK hPc hcl he, fun U hU hW => ⟨rfl, by rw [hU], by rw [hU]; exact hPc, va_K.moved hW.alike hK, hDc.weaken (fun _ _ _ _ => trivial)⟩⟩ rfl hn hsize hstack (lv_room hW) hdg hf) hS (fun q _ h => hFc q h) hFc (fun r u t H1 locs1 ht hvm hw hB hz hk hS1 => ?_)
  · obtain ⟨q0, q1, qP, qK, qD⟩ := q
    exact ⟨q0, q1, qP, va_K.moved (u := U) (U := U.calling g mk a) (Vm.Alike.refl U.vm) qK, qD⟩
  · obtain ⟨hP1, hK1, hD1⟩ := hB
    rw [ht] at hP1
    obtain ⟨hP2, hD2⟩ := va_join (wr := wr) (w1 := wf u) hP hD isC isR hC hR hnR hdis hk hFc hP1 hD1
    exact kk r u H1 locs1 hw hP2 hD2 hS1
theorem w_callv {T : u_T} {N ci q0 : Nat} {fs : List Value} (F : CallFix p m c cc nL s args Ts own) (hM : MV_ l y wsc rm D d wc wf (.ref b :: As) postv) (cw : CallW R s args own C index y bytes maxL ret wsc rm 0 0 n)
    (hP : va_P D vwCl w H) (hK : va_K D vwCl [(d, .int)] s) (hD : va_D A w) (hS : va_S A s.heap H locs) (hA : ∀ q : Nat, s.heap.size ≤ q → A q)
    (isC isR : List Nat) (hCf : isC.filterMap (fun i => w[i]?) = wc) (hC : isC.map (fun i => w[i]?) = wc.map some) (hR : isR.map (fun i => w[i]?) = wr.map some) (hnC : va_nd isC = true) (hnR : va_nd isR = true) (hdis : ∀ i ∈ isR, i ∉ isC)
    (hcl : vwCl[ci]? = some (C, T, N)) (he : wc[q0]? = some (b, .inr (ci, fs)))
    (hn : As.length = n) (hsize : ls.size = nL) (hstack : st0 = As.reverse ++ .ref b :: rest) (hW : (rest.map fun v => v.category).sum ≤ 8) (hdg : decode cc pc = .ok (.invokevirtual index, 3)) (hf : cells ≤ R.cells ∧ slots ≤ R.slots)
    (kk : ∀ (u : S) (H1 : Heap) (locs1 : List Loc), postv u → va_P D vwCl (wr ++ wf u) H1 → va_D A (wr ++ wf u) → va_S A s.heap H1 locs1 → W p l e R s m args below meth c H1 locs1 cells slots Q (F0 m (pc + 3) ls rest)) :
    W p l e R s m args below meth c H locs cells slots Q (F0 m pc ls st0) := by
  have hPc := hP.sub isC hCf
  have hDc := hD.sub isC hnC hC
  have hFc := va_free (wc := wc) hD hS hA isC hC
  refine va_callv (va_runV (As := As) (rest := rest) F (hM H.size) cw ⟨fun a U g mk q => ?_, va_recv hK hPc hcl he, fun U hU hW => ⟨rfl, by rw [hU], by rw [hU]; exact hPc, va_K.moved hW.alike hK, hDc.weaken (fun _ _ _ _ => trivial)⟩⟩ rfl hn hsize hstack (lv_room hW) hdg hf) hS (fun q _ h => hFc q h) hFc (fun u t H1 locs1 ht hvm hw hB hz hk hS1 => ?_)
  · obtain ⟨q0, q1, qP, qK, qD⟩ := q
    exact ⟨q0, q1, qP, va_K.moved (u := U) (U := U.calling g mk a) (Vm.Alike.refl U.vm) qK, qD⟩
  · obtain ⟨hP1, hK1, hD1⟩ := hB
    rw [ht] at hP1
    obtain ⟨hP2, hD2⟩ := va_join (wr := wr) (w1 := wf u) hP hD isC isR hC hR hnR hdis hk hFc hP1 hD1
    exact kk u H1 locs1 hw hP2 hD2 hS1
end WK
/-- TJoins in the heap: ad its cells' addresses (0: the object, 1 .. 9: its arrays), d the kind of int arrays -/
abbrev wX (ad : Nat → Nat) (d : ClassId) (E O G C F V S T P : Nat → Int32) (n m w : Int32) : va_W :=
  [(ad 0, .inr (0, [.ref (ad 1), .ref (ad 2), .ref (ad 3), .ref (ad 4), .ref (ad 5), .ref (ad 6), .ref (ad 7), .ref (ad 8), .ref (ad 9), .int n, .int m, .int w])),
   (ad 1, .inl (d, 12, .inl E)), (ad 2, .inl (d, 12, .inl O)), (ad 3, .inl (d, 12, .inl G)), (ad 4, .inl (d, 12, .inl C)), (ad 5, .inl (d, 49, .inl F)), (ad 6, .inl (d, 49, .inl V)), (ad 7, .inl (d, 128, .inl S)), (ad 8, .inl (d, 128, .inl T)), (ad 9, .inl (d, 7, .inl P))]
/-- TJoinsModel in the heap -/
abbrev wM (ad : Nat → Nat) (d : ClassId) (E O G : Nat → Int32) (n m w : Int32) : va_W :=
  [(ad 0, .inr (1, [.int n, .int m, .ref (ad 1), .ref (ad 2), .ref (ad 3), .int w])), (ad 1, .inl (d, 12, .inl E)), (ad 2, .inl (d, 12, .inl O)), (ad 3, .inl (d, 12, .inl G))]
section WX
variable {p : Program} {l : Launch} {e : Env} {R : Room} {s : State} {mm : MethodId} {args : Array Value} {below : List Frame} {meth : Method} {c : Code} {H : Heap} {locs : List Loc} {Q : State → Prop}
variable {cc : ByteArray} {pc : Nat} {ls : Array Slot} {rest : List Value} {D : va_G} {A : Nat → Prop}
variable {U : Type} {post : Int32 → U → Prop} {postv : U → Prop} {wf : U → va_W} {d : ClassId}
variable {y : MethodName} {bytes : ByteArray} {maxL nL k index : Nat} {ret : Option FieldType} {wsc : List Cond} {rm : Room} {Ts : List Cond} {own : String} {As st0 : List Value}
variable {ad : Nat → Nat} {E O G C F V S T P : Nat → Int32} {n m w : Int32}
theorem w_xi (F0' : CallFix p mm c cc nL s args Ts own) (hM : MI_ l y wsc rm D d (wX ad d E O G C F V S T P n m w) wf (.ref (ad 0) :: As) post) (cw : CallW R s args own RX1 index y bytes maxL ret wsc rm 0 0 k)
    (hP : va_P D vwCl (wX ad d E O G C F V S T P n m w) H) (hK : va_K D vwCl [(d, .int)] s) (hD : va_D A (wX ad d E O G C F V S T P n m w)) (hS : va_S A s.heap H locs) (hA : ∀ q : Nat, s.heap.size ≤ q → A q)
    (hn : As.length = k) (hsize : ls.size = nL) (hstack : st0 = As.reverse ++ .ref (ad 0) :: rest) (hW : (rest.map fun v => v.category).sum ≤ 8) (hdg : decode cc pc = .ok (.invokevirtual index, 3))
    (kk : ∀ (r : Int32) (u : U) (H1 : Heap) (locs1 : List Loc), post r u → va_P D vwCl (wf u) H1 → va_D A (wf u) → va_S A s.heap H1 locs1 → W p l e R s mm args below meth c H1 locs1 0 0 Q (F0 mm (pc + 3) ls (.int r :: rest))) :
    W p l e R s mm args below meth c H locs 0 0 Q (F0 mm pc ls st0) :=
  w_calli (q0 := 0) (ci := 0) (T := TX1) (N := 12) (wr := []) F0' hM cw hP hK hD hS hA [0, 1, 2, 3, 4, 5, 6, 7, 8, 9] [] rfl rfl rfl (by decide) (by decide) (by decide) rfl rfl hn hsize hstack hW hdg ⟨Nat.zero_le _, Nat.zero_le _⟩ kk
theorem w_xv (F0' : CallFix p mm c cc nL s args Ts own) (hM : MV_ l y wsc rm D d (wX ad d E O G C F V S T P n m w) wf (.ref (ad 0) :: As) postv) (cw : CallW R s args own RX1 index y bytes maxL ret wsc rm 0 0 k)
    (hP : va_P D vwCl (wX ad d E O G C F V S T P n m w) H) (hK : va_K D vwCl [(d, .int)] s) (hD : va_D A (wX ad d E O G C F V S T P n m w)) (hS : va_S A s.heap H locs) (hA : ∀ q : Nat, s.heap.size ≤ q → A q)
    (hn : As.length = k) (hsize : ls.size = nL) (hstack : st0 = As.reverse ++ .ref (ad 0) :: rest) (hW : (rest.map fun v => v.category).sum ≤ 8) (hdg : decode cc pc = .ok (.invokevirtual index, 3))
    (kk : ∀ (u : U) (H1 : Heap) (locs1 : List Loc), postv u → va_P D vwCl (wf u) H1 → va_D A (wf u) → va_S A s.heap H1 locs1 → W p l e R s mm args below meth c H1 locs1 0 0 Q (F0 mm (pc + 3) ls rest)) :
    W p l e R s mm args below meth c H locs 0 0 Q (F0 mm pc ls st0) :=
  w_callv (q0 := 0) (ci := 0) (T := TX1) (N := 12) (wr := []) F0' hM cw hP hK hD hS hA [0, 1, 2, 3, 4, 5, 6, 7, 8, 9] [] rfl rfl rfl (by decide) (by decide) (by decide) rfl rfl hn hsize hstack hW hdg ⟨Nat.zero_le _, Nat.zero_le _⟩ kk
theorem w_mi (F0' : CallFix p mm c cc nL s args Ts own) (hM : MI_ l y wsc rm D d (wM ad d E O G n m w) wf (.ref (ad 0) :: As) post) (cw : CallW R s args own RX2 index y bytes maxL ret wsc rm 0 0 k)
    (hP : va_P D vwCl (wM ad d E O G n m w) H) (hK : va_K D vwCl [(d, .int)] s) (hD : va_D A (wM ad d E O G n m w)) (hS : va_S A s.heap H locs) (hA : ∀ q : Nat, s.heap.size ≤ q → A q)
    (hn : As.length = k) (hsize : ls.size = nL) (hstack : st0 = As.reverse ++ .ref (ad 0) :: rest) (hW : (rest.map fun v => v.category).sum ≤ 8) (hdg : decode cc pc = .ok (.invokevirtual index, 3))
    (kk : ∀ (r : Int32) (u : U) (H1 : Heap) (locs1 : List Loc), post r u → va_P D vwCl (wf u) H1 → va_D A (wf u) → va_S A s.heap H1 locs1 → W p l e R s mm args below meth c H1 locs1 0 0 Q (F0 mm (pc + 3) ls (.int r :: rest))) :
    W p l e R s mm args below meth c H locs 0 0 Q (F0 mm pc ls st0) :=
  w_calli (q0 := 0) (ci := 1) (T := TX2) (N := 6) (wr := []) F0' hM cw hP hK hD hS hA [0, 1, 2, 3] [] rfl rfl rfl (by decide) (by decide) (by decide) rfl rfl hn hsize hstack hW hdg ⟨Nat.zero_le _, Nat.zero_le _⟩ kk
end WX
/-- the start: its heap gets a name -/
theorem w_start {p : Program} {l : Launch} {e : Env} {R : Room} {s : State} {m : MethodId} {args : Array Value} {below : List Frame} {meth : Method} {c : Code} {cells slots : Nat} {Q : State → Prop} {g : JFrame} (k : ∀ (H : Heap) (locs : List Loc), H = s.heap → locs = [] → W p l e R s m args below meth c H locs cells slots Q g) : W p l e R s m args below meth c s.heap [] cells slots Q g := k _ _ rfl rfl
end
section
/-! numbers: zI z is the int z; bits of nI; the pure words of both classes -/
def zI (z : Int) : Int32 := Int32.ofInt z
def okI (z : Int) : Prop := -2147483648 ≤ z ∧ z < 2147483648
theorem zI_add (a b : Int) : zI a + zI b = zI (a + b) := (Int32.ofInt_add a b).symm
theorem zI_sub (a b : Int) : zI a - zI b = zI (a - b) := (Int32.ofInt_sub a b).symm
theorem zI_mul (a b : Int) : zI a * zI b = zI (a * b) := (Int32.ofInt_mul a b).symm
theorem zI_neg (a : Int) : -zI a = zI (-a) := (Int32.ofInt_neg a).symm
theorem zI_nat (n : Nat) : nI n = zI n := Int32.ofInt_eq_ofNat.symm
theorem zI_T {a : Int} (h : okI a) : (zI a).toInt = a := by
  obtain ⟨h1, h2⟩ := h
  exact Int32.toInt_ofInt_of_le (by omega) (by omega)
theorem zI_lt {a b : Int} (ha : okI a) (hb : okI b) : zI a < zI b ↔ a < b := by rw [Int32.lt_iff_toInt_lt, zI_T ha, zI_T hb]
theorem zI_le {a b : Int} (ha : okI a) (hb : okI b) : zI a ≤ zI b ↔ a ≤ b := by rw [Int32.le_iff_toInt_le, zI_T ha, zI_T hb]
theorem zI_eq {a b : Int} (ha : okI a) (hb : okI b) : zI a = zI b ↔ a = b := by rw [← Int32.toInt_inj, zI_T ha, zI_T hb]
theorem zI_back (x : Int32) : zI x.toInt = x := Int32.ofInt_toInt x
theorem zI_0 : zI 0 = 0 := rfl
theorem zI_lt0 {a : Int} (ha : okI a) : zI a < 0 ↔ a < 0 := by rw [← zI_0]; exact zI_lt ha ⟨by omega, by omega⟩
theorem zI_ge0 {a : Int} (ha : okI a) : 0 ≤ zI a ↔ 0 ≤ a := by rw [← zI_0]; exact zI_le ⟨by omega, by omega⟩ ha
theorem nx_and (a b : Nat) : nI a &&& nI b = nI (a &&& b) := by
  apply Int32.toBitVec_inj.1
  show BitVec.ofNat 32 a &&& BitVec.ofNat 32 b = BitVec.ofNat 32 (a &&& b)
  apply BitVec.eq_of_getLsbD_eq
  intro i hi
  simp [hi]
theorem nx_xor (a b : Nat) : nI a ^^^ nI b = nI (a ^^^ b) := by
  apply Int32.toBitVec_inj.1
  show BitVec.ofNat 32 a ^^^ BitVec.ofNat 32 b = BitVec.ofNat 32 (a ^^^ b)
  apply BitVec.eq_of_getLsbD_eq
  intro i hi
  simp [hi]
theorem nx_or (a b : Nat) : nI a ||| nI b = nI (a ||| b) := by
  apply Int32.toBitVec_inj.1
  show BitVec.ofNat 32 a ||| BitVec.ofNat 32 b = BitVec.ofNat 32 (a ||| b)
  apply BitVec.eq_of_getLsbD_eq
  intro i hi
  simp [hi]
theorem s_l : ∀ n, n < 32 → ((nI n &&& 31).toBitVec.smod 32).toNat = n := by decide +kernel
theorem b_shl1 : ∀ e, e < 31 → (1 : Int32) <<< (nI e &&& 31) = nI (2 ^ e) := by decide +kernel
theorem b_shr {S e : Nat} (hS : S < 2 ^ 31) (he : e < 31) : nI S >>> (nI e &&& 31) = nI (S / 2 ^ e) := pk_shrN hS _ e (s_l e (by omega))
/-- a bit of a set, as the code reads it -/
def bI (t : Bool) : Int32 := if t = true then 1 else 0
theorem b_bit {S e : Nat} (hS : S < 2 ^ 31) (he : e < 31) : (nI S >>> (nI e &&& 31)) &&& 1 = bI (S.testBit e) := by
  rw [b_shr hS he]
  show nI (S / 2 ^ e) &&& nI 1 = _
  rw [nx_and, Nat.and_one_is_mod, Nat.testBit_eq_decide_div_mod_eq]
  by_cases h : S / 2 ^ e % 2 = 1
  · rw [h]; rfl
  · rw [decide_eq_false h, show S / 2 ^ e % 2 = 0 by omega]; rfl
theorem bI_1 {t : Bool} : bI t = 1 ↔ t = true := by cases t <;> decide
theorem bI_0 {t : Bool} : bI t = 0 ↔ t = false := by cases t <;> decide
theorem bI_n1 {t : Bool} : ¬ bI t = 1 ↔ t = false := by cases t <;> decide
theorem bI_n0 {t : Bool} : ¬ bI t = 0 ↔ t = true := by cases t <;> decide
theorem bI_xor (s t : Bool) : bI s ^^^ bI t = bI (s ^^ t) := by cases s <;> cases t <;> decide
def updN (f : Nat → Nat) (k x : Nat) : Nat → Nat := fun j => if j = k then x else f j
def updZ (f : Nat → Int) (k : Nat) (x : Int) : Nat → Int := fun j => if j = k then x else f j
theorem updN_s {f : Nat → Nat} {k x : Nat} : updN f k x k = x := if_pos rfl
theorem updN_n {f : Nat → Nat} {k x j : Nat} (h : j ≠ k) : updN f k x j = f j := if_neg h
theorem updZ_s {f : Nat → Int} {k : Nat} {x : Int} : updZ f k x k = x := if_pos rfl
theorem updZ_n {f : Nat → Int} {k j : Nat} {x : Int} (h : j ≠ k) : updZ f k x j = f j := if_neg h
/-- the places with an odd number of ends of the roads of S, roads below k -/
def oddN (a b : Nat → Nat) (S : Nat) : Nat → Nat
  | 0 => 0
  | k + 1 => if S.testBit k = true then oddN a b S k ^^^ 2 ^ a k ^^^ 2 ^ b k else oddN a b S k
/-- the weight of the roads of S, roads below k -/
def sumN (g : Nat → Int) (S : Nat) : Nat → Int
  | 0 => 0
  | k + 1 => if S.testBit k = true then sumN g S k + g k else sumN g S k
/-- the reference's search: sets below k -/
abbrev vaN (a b : Nat → Nat) (m pl mu no k : Nat) : Prop := k &&& mu = mu ∧ k &&& no = 0 ∧ oddN a b k m = pl
def srN (a b : Nat → Nat) (g : Nat → Int) (m pl mu no : Nat) : Nat → Option Nat
  | 0 => none
  | k + 1 => if k &&& mu = mu ∧ k &&& no = 0 ∧ oddN a b k m = pl then (match srN a b g m pl mu no k with | none => some k | some j => if sumN g k m < sumN g j m then some k else some j) else srN a b g m pl mu no k
/-- an answer that is a set, -1 if there is none -/
def sI : Option Nat → Int32
  | none => -1
  | some j => nI j
def wI (g : Nat → Int) (m : Nat) : Option Nat → Int32
  | none => -1000
  | some j => zI (sumN g j m)
/-- the reference's count of joins: sets below k -/
def cjN (a b : Nat → Nat) (m pl : Nat) : Nat → Nat
  | 0 => 0
  | k + 1 => if oddN a b k m = pl then cjN a b m pl k + 1 else cjN a b m pl k
/-- what the reference has reached -/
def reN (a b : Nat → Nat) (r : Nat) : Nat → Nat
  | 0 => r
  | e + 1 => if reN a b r e &&& (2 ^ a e ||| 2 ^ b e) = 0 then reN a b r e else reN a b r e ||| (2 ^ a e ||| 2 ^ b e)
def rrN (a b : Nat → Nat) (m : Nat) : Nat → Nat
  | 0 => 2 ^ a 0
  | k + 1 => reN a b (rrN a b m k) m
/-- parts of joined places, behind k roads -/
def ptN (a b : Nat → Nat) : Nat → Nat → Nat
  | 0, j => j
  | k + 1, j => if ptN a b k j = ptN a b k (b k) then ptN a b k (a k) else ptN a b k j
/-- whether an odd number of the members of S below k is in part q -/
def paN (pt : Nat → Nat) (S q : Nat) : Nat → Bool
  | 0 => false
  | k + 1 => paN pt S q k ^^ (decide (pt k = q) && S.testBit k)
/-- no place below k is in p's part -/
def fiN (pt : Nat → Nat) (p : Nat) : Nat → Bool
  | 0 => true
  | k + 1 => fiN pt p k && !decide (pt k = pt p)
def cpN (pt : Nat → Nat) : Nat → Nat
  | 0 => 0
  | k + 1 => cpN pt k + (if fiN pt k k = true then 1 else 0)
/-- the roads of negative cost -/
def ngN (c : Nat → Int) : Nat → Nat
  | 0 => 0
  | e + 1 => if c e < 0 then ngN c e ||| 2 ^ e else ngN c e
abbrev FV : Type := (Nat → Nat) × (Nat → Nat)
/-- take -/
def tkN (z : FV) (k len r : Nat) : FV := if len < z.1 k then (updN z.1 k len, updN z.2 k r) else z
def f0N : FV := (fun k => if k / 7 = k % 7 then 0 else 268435456, fun _ => 0)
def feN (a b : Nat → Nat) (c : Nat → Int) : Nat → FV
  | 0 => f0N
  | e + 1 => tkN (tkN (feN a b c e) (7 * a e + b e) (c e).natAbs (2 ^ e)) (7 * b e + a e) (c e).natAbs (2 ^ e)
def fkN (z : FV) (o : Nat) : Nat → FV
  | 0 => z
  | k + 1 => tkN (fkN z o k) k ((fkN z o k).1 (7 * (k / 7) + o) + (fkN z o k).1 (7 * o + k % 7)) ((fkN z o k).2 (7 * (k / 7) + o) ^^^ (fkN z o k).2 (7 * o + k % 7))
def foN (z : FV) : Nat → FV
  | 0 => z
  | o + 1 => fkN (foN z o) o 49
/-- the shortest ways -/
def fwN (a b : Nat → Nat) (c : Nat → Int) (n m : Nat) : FV := foN (feN a b c m) n
/-- pair -/
def prN (z y : FV) (S top p : Nat) : FV :=
  if z.1 (7 * top + p) < 268435456 ∧ y.1 (S ^^^ 2 ^ top ^^^ 2 ^ p) < 268435456 ∧ y.1 (S ^^^ 2 ^ top ^^^ 2 ^ p) + z.1 (7 * top + p) < y.1 S then
    (updN y.1 S (y.1 (S ^^^ 2 ^ top ^^^ 2 ^ p) + z.1 (7 * top + p)), updN y.2 S (y.2 (S ^^^ 2 ^ top ^^^ 2 ^ p) ^^^ z.2 (7 * top + p))) else y
def piN (z y : FV) (S top : Nat) : Nat → FV
  | 0 => y
  | p + 1 => if S.testBit p = true then prN z (piN z y S top p) S top p else piN z y S top p
/-- the greatest member of S, at most k -/
def toN (S : Nat) : Nat → Nat
  | 0 => 0
  | k + 1 => if S.testBit (k + 1) = true then k + 1 else toN S k
def p1N (y : FV) (S : Nat) : FV := (updN y.1 S 268435456, updN y.2 S 0)
def puN (z : FV) (y0 : FV) (goal : Nat) : Nat → FV
  | 0 => (updN y0.1 0 0, updN y0.2 0 0)
  | k + 1 => if (k + 1) &&& goal = k + 1 then piN z (p1N (puN z y0 goal k) (k + 1)) (k + 1) (toN (k + 1) 6) (toN (k + 1) 6) else p1N (puN z y0 goal k) (k + 1)
def posN (a b : Nat → Nat) (n m S : Nat) : Prop := ∀ q, q < n → paN (ptN a b m) S q n = false
/-- what a state is: n places, m roads from a to b of weight g, w wanted -/
def Okg (n m w : Nat) (a b : Nat → Nat) (g : Nat → Int) : Prop := (2 ≤ n ∧ n ≤ 7 ∧ m ≤ 12 ∧ w < 2 ^ n) ∧ ∀ e, e < m → a e < n ∧ b e < n ∧ -9 ≤ g e ∧ g e ≤ 20
def Rep (n m w : Nat) (a b : Nat → Nat) (g : Nat → Int) (E O G : Nat → Int32) : Prop := Okg n m w a b g ∧ ∀ e, e < m → E e = nI (a e) ∧ O e = nI (b e) ∧ G e = zI (g e)
/-- costs c in C -/
def RepC (m : Nat) (c : Nat → Int) (C : Nat → Int32) : Prop := ∀ e, e < m → C e = zI (c e) ∧ (c e).natAbs < 16777216
def RepF (N : Nat) (z : FV) (F V : Nat → Int32) : Prop := ∀ j, j < N → F j = nI (z.1 j) ∧ V j = nI (z.2 j) ∧ z.1 j ≤ 268435456
def inI (x : Int32) (n : Nat) : Prop := ∃ j : Nat, j < n ∧ x = nI j
theorem inI_of {x : Int32} {n : Nat} (h1 : ¬ x < 0) (h2 : ¬ nI n ≤ x) (hn : n < 2 ^ 31) : inI x n := by
  rcases pk_ix x hn with h | h | h
  · exact absurd h h1
  · exact absurd h h2
  · exact h
theorem inI_neg {x : Int32} {n : Nat} (h : x < 0) (hn : n < 2 ^ 31) : ¬ inI x n := by
  rintro ⟨j, hj, rfl⟩
  exact nI_pos (Nat.lt_trans hj hn) h
theorem inI_big {x : Int32} {n : Nat} (h : nI n ≤ x) (hn : n < 2 ^ 31) : ¬ inI x n := by
  rintro ⟨j, hj, rfl⟩
  exact nI_ge hj hn h
theorem le_c {a b : Nat} (h : nI a ≤ nI b) (ha : a < 2 ^ 31 := by omega) (hb : b < 2 ^ 31 := by omega) : a ≤ b := (nI_leI ha hb).mp h
theorem nle_c {a b : Nat} (h : ¬ nI a ≤ nI b) (ha : a < 2 ^ 31 := by omega) (hb : b < 2 ^ 31 := by omega) : b < a := Nat.lt_of_not_le (fun q => h ((nI_leI ha hb).mpr q))
theorem lt_c {a b : Nat} (h : nI a < nI b) (ha : a < 2 ^ 31 := by omega) (hb : b < 2 ^ 31 := by omega) : a < b := (nI_ltI ha hb).mp h
theorem nlt_c {a b : Nat} (h : ¬ nI a < nI b) (ha : a < 2 ^ 31 := by omega) (hb : b < 2 ^ 31 := by omega) : b ≤ a := Nat.le_of_not_lt (fun q => h ((nI_ltI ha hb).mpr q))
theorem eq_c {a b : Nat} (h : nI a = nI b) (ha : a < 2 ^ 31 := by omega) (hb : b < 2 ^ 31 := by omega) : a = b := (nI_eq ha hb).mp h
theorem ne_c {a b : Nat} (h : ¬ nI a = nI b) : ¬ a = b := fun q => h (by rw [q])
/-- an answer that is 1 with P, 0 with Q -/
def orI (r : Int32) (P Q : Prop) : Prop := (r = 1 ∧ P) ∨ (r = 0 ∧ Q)
theorem or_t {r : Int32} {P Q : Prop} (h : orI r P Q) (c : ¬ r = 0) : P := by
  rcases h with h | h
  · exact h.2
  · exact absurd h.1 c
theorem or_f {r : Int32} {P Q : Prop} (h : orI r P Q) (c : r = 0) : Q := by
  rcases h with h | h
  · rw [h.1] at c; exact absurd c (by decide)
  · exact h.2
/-- a weight that may be -/
def tok (t : Int32) : Prop := -9 ≤ t.toInt ∧ t.toInt ≤ 20
theorem tok_lo {t : Int32} (h : t < -9) : ¬ tok t := by
  intro q
  have h1 := Int32.lt_iff_toInt_lt.mp h
  have h2 : ((-9 : Int32)).toInt = -9 := by decide
  rw [h2] at h1
  obtain ⟨q1, q2⟩ := q
  omega
theorem tok_hi {t : Int32} (h : ¬ t ≤ 20) : ¬ tok t := by
  intro q
  refine h (Int32.le_iff_toInt_le.mpr ?_)
  have h2 : ((20 : Int32)).toInt = 20 := by decide
  rw [h2]
  exact q.2
theorem tok_hi' {t : Int32} (h : 20 < t) : ¬ tok t := by
  intro q
  have h1 := Int32.lt_iff_toInt_lt.mp h
  have h2 : ((20 : Int32)).toInt = 20 := by decide
  rw [h2] at h1
  obtain ⟨q1, q2⟩ := q
  omega
theorem tok_of {t : Int32} (h1 : ¬ t < -9) (h2 : t ≤ 20) : tok t := by
  constructor
  · have e2 : ((-9 : Int32)).toInt = -9 := by decide
    rcases Int.lt_or_le t.toInt (-9) with q | q
    · exact absurd (Int32.lt_iff_toInt_lt.mpr (by rw [e2]; exact q)) h1
    · exact q
  · have e2 : ((20 : Int32)).toInt = 20 := by decide
    have := Int32.le_iff_toInt_le.mp h2
    rw [e2] at this
    exact this
theorem tok_of' {t : Int32} (h1 : ¬ t < -9) (h2 : ¬ 20 < t) : tok t := by
  refine tok_of h1 (Int32.le_iff_toInt_le.mpr ?_)
  rcases Int.lt_or_le (20 : Int32).toInt t.toInt with q | q
  · exact absurd (Int32.lt_iff_toInt_lt.mpr q) h2
  · exact q
abbrev rq0 : Room := { frames := 0, cells := 0, slots := 0, locals := 0 }
abbrev rq1 : Room := { frames := 1, cells := 0, slots := 0, locals := 32 }
abbrev rq2 : Room := { frames := 2, cells := 0, slots := 0, locals := 64 }
abbrev rq3 : Room := { frames := 3, cells := 0, slots := 0, locals := 96 }
/-! what the public methods answer and do, the same words for both sides -/
def shN (f : Nat → Nat) (j : Nat) : Nat → Nat := fun e => if j ≤ e then f (e + 1) else f e
def shZ (f : Nat → Int) (j : Nat) : Nat → Int := fun e => if j ≤ e then f (e + 1) else f e
def RoadR (n m w : Nat) (a b : Nat → Nat) (g : Nat → Int) (p q t r : Int32) (m' : Nat) (E' O' G' : Nat → Int32) : Prop :=
  (¬ (inI p n ∧ inI q n) ∧ r = -1 ∧ m' = m ∧ Rep n m w a b g E' O' G') ∨ ((inI p n ∧ inI q n) ∧ ¬ tok t ∧ r = -2 ∧ m' = m ∧ Rep n m w a b g E' O' G') ∨ ((inI p n ∧ inI q n) ∧ tok t ∧ m = 12 ∧ r = -3 ∧ m' = m ∧ Rep n m w a b g E' O' G') ∨
  ((inI p n ∧ inI q n) ∧ tok t ∧ m < 12 ∧ r = nI m ∧ m' = m + 1 ∧ Rep n (m + 1) w (updN a m p.toNatClampNeg) (updN b m q.toNatClampNeg) (updZ g m t.toInt) E' O' G')
def RemR (n m w : Nat) (a b : Nat → Nat) (g : Nat → Int) (x r : Int32) (m' : Nat) (E' O' G' : Nat → Int32) : Prop :=
  (¬ inI x m ∧ r = -1 ∧ m' = m ∧ Rep n m w a b g E' O' G') ∨ (∃ j, j < m ∧ x = nI j ∧ r = nI (m - 1) ∧ m' = m - 1 ∧ Rep n (m - 1) w (shN a j) (shN b j) (shZ g j) E' O' G')
def WeiR (n m w : Nat) (a b : Nat → Nat) (g : Nat → Int) (x t r : Int32) (E' O' G' : Nat → Int32) : Prop :=
  (¬ inI x m ∧ r = -1 ∧ Rep n m w a b g E' O' G') ∨ (∃ j, j < m ∧ x = nI j ∧ ¬ tok t ∧ r = -2 ∧ Rep n m w a b g E' O' G') ∨ (∃ j, j < m ∧ x = nI j ∧ tok t ∧ r = zI (g j) ∧ Rep n m w a b (updZ g j t.toInt) E' O' G')
def WanR (n w : Nat) (x r : Int32) (w' : Nat) : Prop := (¬ inI x (2 ^ n) ∧ r = -1 ∧ w' = w) ∨ (∃ j, j < 2 ^ n ∧ x = nI j ∧ r = nI w ∧ w' = j)
def TurR (n w : Nat) (x r : Int32) (w' : Nat) : Prop := (¬ inI x n ∧ r = -1 ∧ w' = w) ∨ (∃ j, j < n ∧ x = nI j ∧ r = nI (w ^^^ 2 ^ j) ∧ w' = w ^^^ 2 ^ j)
def IsjR (m w : Nat) (a b : Nat → Nat) (x r : Int32) : Prop := (¬ inI x (2 ^ m) ∧ r = -1) ∨ (∃ j, j < 2 ^ m ∧ x = nI j ∧ r = bI (decide (oddN a b j m = w)))
/-- the best set for pl with mu and without no -/
def beN (a b : Nat → Nat) (g : Nat → Int) (m pl mu no : Nat) : Option Nat := srN a b g m pl mu no (2 ^ m)
def WitR (m w : Nat) (a b : Nat → Nat) (g : Nat → Int) (x r : Int32) : Prop := (¬ inI x m ∧ r = -2000) ∨ (∃ j, j < m ∧ x = nI j ∧ r = wI g m (beN a b g m w (2 ^ j) 0))
def WoutR (m w : Nat) (a b : Nat → Nat) (g : Nat → Int) (x r : Int32) : Prop := (¬ inI x m ∧ r = -2000) ∨ (∃ j, j < m ∧ x = nI j ∧ r = wI g m (beN a b g m w 0 (2 ^ j)))
def BetR (n m : Nat) (a b : Nat → Nat) (g : Nat → Int) (x y r : Int32) : Prop := (¬ (inI x n ∧ inI y n) ∧ r = -2000) ∨ (∃ i j, i < n ∧ j < n ∧ x = nI i ∧ y = nI j ∧ r = wI g m (beN a b g m (2 ^ i ^^^ 2 ^ j) 0 0))
def whN (a b : Nat → Nat) (m : Nat) : Prop := ∀ e, e < m → (rrN a b m 7).testBit (a e) = true
def PosR (m : Nat) (a b : Nat → Nat) (g : Nat → Int) (r : Int32) : Prop :=
  ((∃ e, e < m ∧ g e < 0) ∧ r = -1) ∨ ((∀ e, e < m → 0 ≤ g e) ∧ m = 0 ∧ r = 0) ∨ ((∀ e, e < m → 0 ≤ g e) ∧ 0 < m ∧ ¬ whN a b m ∧ r = -2) ∨
  ((∀ e, e < m → 0 ≤ g e) ∧ 0 < m ∧ whN a b m ∧ r = wI g m (beN a b g m (oddN a b (2 ^ m - 1) m) 0 0))
end
section
/-! small laws of the pure words -/
theorem oddN_lt {a b : Nat → Nat} {N J : Nat} : ∀ {m : Nat}, (∀ e, e < m → a e < N ∧ b e < N) → oddN a b J m < 2 ^ N
  | 0, _ => Nat.two_pow_pos N
  | k + 1, h => by
    have ih : oddN a b J k < 2 ^ N := oddN_lt (fun e he => h e (by omega))
    obtain ⟨h1, h2⟩ := h k (by omega)
    unfold oddN
    split
    · exact Nat.xor_lt_two_pow (Nat.xor_lt_two_pow ih (Nat.pow_lt_pow_right (by decide) h1)) (Nat.pow_lt_pow_right (by decide) h2)
    · exact ih
theorem odd128 {n m w : Nat} {a b : Nat → Nat} {g : Nat → Int} {J : Nat} (h : Okg n m w a b g) : oddN a b J m < 128 := by
  obtain ⟨⟨-, h7, -, -⟩, hok⟩ := h
  exact oddN_lt (N := 7) (fun e he => ⟨Nat.lt_of_lt_of_le (hok e he).1 h7, Nat.lt_of_lt_of_le (hok e he).2.1 h7⟩)
theorem sumN_bd {g : Nat → Int} {J : Nat} : ∀ {m : Nat}, (∀ e, e < m → -9 ≤ g e ∧ g e ≤ 20) → -9 * (m : Int) ≤ sumN g J m ∧ sumN g J m ≤ 20 * (m : Int)
  | 0, _ => by simp [sumN]
  | k + 1, h => by
    have ih := sumN_bd (J := J) (m := k) (fun e he => h e (by omega))
    obtain ⟨h1, h2⟩ := h k (by omega)
    unfold sumN
    split <;> omega
theorem sum_ok {n m w : Nat} {a b : Nat → Nat} {g : Nat → Int} {J : Nat} (h : Okg n m w a b g) : okI (sumN g J m) := by
  obtain ⟨⟨-, -, h12, -⟩, hok⟩ := h
  have := sumN_bd (g := g) (J := J) (m := m) (fun e he => ⟨(hok e he).2.2.1, (hok e he).2.2.2⟩)
  constructor <;> omega
section SR
variable {a b : Nat → Nat} {g : Nat → Int} {m pl mu no k j : Nat}
theorem srN_no (h : ¬ vaN a b m pl mu no k) : srN a b g m pl mu no (k + 1) = srN a b g m pl mu no k := if_neg h
theorem srN_first (h : vaN a b m pl mu no k) (hn : srN a b g m pl mu no k = none) : srN a b g m pl mu no (k + 1) = some k := by
  show (if _ then _ else _) = _
  rw [if_pos h, hn]
theorem srN_less (h : vaN a b m pl mu no k) (hn : srN a b g m pl mu no k = some j) (hl : sumN g k m < sumN g j m) : srN a b g m pl mu no (k + 1) = some k := by
  show (if _ then _ else _) = _
  rw [if_pos h, hn]
  exact if_pos hl
theorem srN_keep (h : vaN a b m pl mu no k) (hn : srN a b g m pl mu no k = some j) (hl : ¬ sumN g k m < sumN g j m) : srN a b g m pl mu no (k + 1) = srN a b g m pl mu no k := by
  show (if _ then _ else _) = _
  rw [if_pos h, hn]
  exact if_neg hl
theorem srN_lt : ∀ {k j : Nat}, srN a b g m pl mu no k = some j → j < k
  | 0, j, h => by cases h
  | k + 1, j, h => by
    by_cases hv : vaN a b m pl mu no k
    · cases hn : srN a b g m pl mu no k with
      | none => rw [srN_first hv hn] at h; cases h; omega
      | some i =>
        have := srN_lt hn
        by_cases hl : sumN g k m < sumN g i m
        · rw [srN_less hv hn hl] at h; cases h; omega
        · rw [srN_keep hv hn hl, hn] at h; cases h; omega
    · rw [srN_no hv] at h
      have := srN_lt h
      omega
end SR
/-- the reference's least weight -/
def lsI (g : Nat → Int) (m : Nat) : Option Nat → Int32
  | none => 0
  | some j => zI (sumN g j m)
theorem sI_neg {o : Option Nat} (h : ∀ j, o = some j → j < 2 ^ 31) (c : sI o < 0) : o = none := by
  cases o with
  | none => rfl
  | some j => exact absurd c (nI_pos (h j rfl))
theorem sI_pos {o : Option Nat} (c : ¬ sI o < 0) : ∃ j, o = some j := by
  cases o with
  | none => exact absurd (by decide) c
  | some j => exact ⟨j, rfl⟩
theorem sI_pos' {o : Option Nat} (c : 0 ≤ sI o) : ∃ j, o = some j := by
  cases o with
  | none => exact absurd c (by decide)
  | some j => exact ⟨j, rfl⟩
theorem sI_neg' {o : Option Nat} (h : ∀ j, o = some j → j < 2 ^ 31) (c : ¬ 0 ≤ sI o) : o = none := by
  cases o with
  | none => rfl
  | some j => exact absurd (nI_pos' (h j rfl)) c
theorem be_lt {a b : Nat → Nat} {g : Nat → Int} {m pl mu no j : Nat} (hm : m ≤ 12) (h : beN a b g m pl mu no = some j) : j < 4096 :=
  Nat.lt_of_lt_of_le (srN_lt h) (Nat.pow_le_pow_right (n := 2) (by decide) hm)
theorem two7 : ∀ {i : Nat}, i < 7 → 2 ^ i < 128 := fun h => Nat.pow_lt_pow_right (a := 2) (by decide) h
theorem reN_lt {a b : Nat → Nat} {r : Nat} (hr : r < 128) : ∀ {m : Nat}, (∀ e, e < m → a e < 7 ∧ b e < 7) → reN a b r m < 128
  | 0, _ => hr
  | k + 1, h => by
    have ih := reN_lt (a := a) (b := b) hr (m := k) (fun e he => h e (by omega))
    obtain ⟨h1, h2⟩ := h k (by omega)
    unfold reN
    split
    · exact ih
    · exact Nat.or_lt_two_pow (n := 7) ih (Nat.or_lt_two_pow (n := 7) (two7 h1) (two7 h2))
theorem rrN_lt {a b : Nat → Nat} {m : Nat} (h : ∀ e, e < m → a e < 7 ∧ b e < 7) (h0 : a 0 < 7) : ∀ k, rrN a b m k < 128
  | 0 => two7 h0
  | k + 1 => reN_lt (rrN_lt h h0 k) h
/-- the ints behind the removed road, moved as far as i -/
def shI (f : Nat → Int32) (j i : Nat) : Nat → Int32 := fun e => if j ≤ e ∧ e < i then f (e + 1) else f e
theorem shI_0 (f : Nat → Int32) (j : Nat) : shI f j j = f := by
  funext e
  exact if_neg (by omega)
theorem shI_at {f : Nat → Int32} {j i : Nat} : shI f j i (i + 1) = f (i + 1) := if_neg (by omega)
theorem shI_s {f : Nat → Int32} {j i : Nat} (h : j ≤ i) : upd (shI f j i) i (shI f j i (i + 1)) = shI f j (i + 1) := by
  funext e
  unfold upd
  by_cases he : e = i
  · rw [if_pos he, shI_at, he]
    exact (if_pos ⟨h, by omega⟩).symm
  · rw [if_neg he]
    unfold shI
    by_cases h1 : j ≤ e ∧ e < i
    · rw [if_pos h1, if_pos ⟨h1.1, by omega⟩]
    · rw [if_neg h1, if_neg (by omega)]
theorem rep_rem {n m w : Nat} {a b : Nat → Nat} {g : Nat → Int} {E O G : Nat → Int32} (h : Rep n m w a b g E O G) {j : Nat} (hj : j < m) : Rep n (m - 1) w (shN a j) (shN b j) (shZ g j) (shI E j (m - 1)) (shI O j (m - 1)) (shI G j (m - 1)) := by
  obtain ⟨⟨⟨h2, h7, h12, hw⟩, hok⟩, hE⟩ := h
  refine ⟨⟨⟨h2, h7, by omega, hw⟩, fun e he => ?_⟩, fun e he => ?_⟩
  · unfold shN shZ
    by_cases hje : j ≤ e
    · simp only [if_pos hje]; exact hok (e + 1) (by omega)
    · simp only [if_neg hje]; exact hok e (by omega)
  · unfold shN shZ shI
    by_cases hje : j ≤ e
    · simp only [if_pos hje, if_pos (show j ≤ e ∧ e < m - 1 from ⟨hje, he⟩)]; exact hE (e + 1) (by omega)
    · simp only [if_neg hje, if_neg (show ¬ (j ≤ e ∧ e < m - 1) from fun q => hje q.1)]; exact hE e (by omega)
theorem rep_wei {n m w : Nat} {a b : Nat → Nat} {g : Nat → Int} {E O G : Nat → Int32} (h : Rep n m w a b g E O G) {j : Nat} {t : Int32} (ht : tok t) : Rep n m w a b (updZ g j t.toInt) E O (upd G j t) := by
  obtain ⟨⟨h0, hok⟩, hE⟩ := h
  refine ⟨⟨h0, fun e he => ?_⟩, fun e he => ?_⟩
  · unfold updZ
    by_cases hje : e = j
    · rw [if_pos hje]; exact ⟨(hok e he).1, (hok e he).2.1, ht.1, ht.2⟩
    · rw [if_neg hje]; exact hok e he
  · unfold updZ upd
    by_cases hje : e = j
    · rw [if_pos hje, if_pos hje, zI_back]; exact ⟨(hE e he).1, (hE e he).2.1, rfl⟩
    · rw [if_neg hje, if_neg hje]; exact hE e he
theorem inI_clamp {x : Int32} {n : Nat} (h : inI x n) (hn : n < 2 ^ 31) : x = nI x.toNatClampNeg ∧ x.toNatClampNeg < n := by
  obtain ⟨j, hj, rfl⟩ := h
  rw [nI_clamp (by omega)]
  exact ⟨rfl, hj⟩
theorem rep_road {n m w : Nat} {a b : Nat → Nat} {g : Nat → Int} {E O G : Nat → Int32} (h : Rep n m w a b g E O G) {p q t : Int32} (hp : inI p n) (hq : inI q n) (ht : tok t) (hm : m < 12) : Rep n (m + 1) w (updN a m p.toNatClampNeg) (updN b m q.toNatClampNeg) (updZ g m t.toInt) (upd E m p) (upd O m q) (upd G m t) := by
  obtain ⟨⟨⟨h2, h7, h12, hw⟩, hok⟩, hE⟩ := h
  have hp := inI_clamp hp (by omega)
  have hq := inI_clamp hq (by omega)
  refine ⟨⟨⟨h2, h7, by omega, hw⟩, fun e he => ?_⟩, fun e he => ?_⟩
  · unfold updN updZ
    by_cases hje : e = m
    · simp only [if_pos hje]; exact ⟨hp.2, hq.2, ht.1, ht.2⟩
    · simp only [if_neg hje]; exact hok e (by omega)
  · unfold updN updZ upd
    by_cases hje : e = m
    · simp only [if_pos hje]; exact ⟨hp.1, hq.1, (zI_back t).symm⟩
    · simp only [if_neg hje]; exact hE e (by omega)
end
section
/-! laws of the pure words that the walks of TJoins use -/
theorem upd_lt {f h : Nat → Int32} {i : Nat} (hf : ∀ j, j < i → f j = h j) : ∀ j, j < i + 1 → upd f i (h i) j = h j := by
  intro j hj
  unfold upd
  by_cases e : j = i
  · rw [if_pos e, e]
  · rw [if_neg e]; exact hf j (by omega)
theorem ptN_lt {a b : Nat → Nat} {n : Nat} : ∀ {k j : Nat}, (∀ e, e < k → a e < n ∧ b e < n) → j < n → ptN a b k j < n
  | 0, j, _, hj => hj
  | k + 1, j, h, hj => by
    have h' : ∀ e, e < k → a e < n ∧ b e < n := fun e he => h e (by omega)
    unfold ptN
    split
    · exact ptN_lt h' (h k (by omega)).1
    · exact ptN_lt h' hj
/-- the inner loop of findParts, one place on -/
theorem pt_step {a b : Nat → Nat} {n e k : Nat} {P : Nat → Int32} {v : Nat} (hP : ∀ j, j < n → P j = nI (if j < k then ptN a b (e + 1) j else ptN a b e j)) (hv : v = ptN a b (e + 1) k) : ∀ j, j < n → upd P k (nI v) j = nI (if j < k + 1 then ptN a b (e + 1) j else ptN a b e j) := by
  intro j hj
  unfold upd
  by_cases q : j = k
  · rw [if_pos q, hv, q, if_pos (Nat.lt_succ_self k)]
  · rw [if_neg q, hP j hj]
    by_cases h : j < k
    · rw [if_pos h, if_pos (by omega)]
    · rw [if_neg h, if_neg (by omega)]
def coN (g : Nat → Int) : Nat → Int := fun e => 4096 * g e + ((2 ^ e : Nat) : Int)
theorem tkN_no {z : FV} {k len r : Nat} (h : ¬ len < z.1 k) : tkN z k len r = z := if_neg h
theorem repF_tk {N : Nat} {z : FV} {F V : Nat → Int32} {k len r : Nat} (h : RepF N z F V) (hk : k < N) (hl : len < z.1 k) : RepF N (tkN z k len r) (upd F k (nI len)) (upd V k (nI r)) := by
  intro j hj
  unfold tkN upd updN
  rw [if_pos hl]
  by_cases q : j = k
  · simp only [if_pos q]
    have := (h k hk).2.2
    exact ⟨trivial, trivial, by omega⟩
  · simp only [if_neg q]; exact h j hj
theorem repF_0 {F V : Nat → Int32} (h : ∀ j, j < 49 → F j = nI (f0N.1 j) ∧ V j = nI (f0N.2 j)) : RepF 49 f0N F V := by
  intro j hj
  refine ⟨(h j hj).1, (h j hj).2, ?_⟩
  show (if _ then _ else _) ≤ _
  split <;> omega
theorem f0_step {F V : Nat → Int32} {i : Nat} {x y : Nat} (h : ∀ j, j < i → F j = nI (f0N.1 j) ∧ V j = nI (f0N.2 j)) (hx : x = f0N.1 i) (hy : y = f0N.2 i) : ∀ j, j < i + 1 → upd F i (nI x) j = nI (f0N.1 j) ∧ upd V i (nI y) j = nI (f0N.2 j) := by
  intro j hj
  unfold upd
  by_cases q : j = i
  · subst q
    rw [if_pos rfl, if_pos rfl, hx, hy]
    exact ⟨rfl, rfl⟩
  · rw [if_neg q, if_neg q]; exact h j (by omega)
theorem prN_no {z y : FV} {J t p : Nat} (h : ¬ (z.1 (7 * t + p) < 268435456 ∧ y.1 (J ^^^ 2 ^ t ^^^ 2 ^ p) < 268435456 ∧ y.1 (J ^^^ 2 ^ t ^^^ 2 ^ p) + z.1 (7 * t + p) < y.1 J)) : prN z y J t p = y := if_neg h
theorem repF_pr {N : Nat} {z y : FV} {S T : Nat → Int32} {J t p : Nat} (h : RepF N y S T) (hJ : J < N) (hc : z.1 (7 * t + p) < 268435456 ∧ y.1 (J ^^^ 2 ^ t ^^^ 2 ^ p) < 268435456 ∧ y.1 (J ^^^ 2 ^ t ^^^ 2 ^ p) + z.1 (7 * t + p) < y.1 J) : RepF N (prN z y J t p) (upd S J (nI (y.1 (J ^^^ 2 ^ t ^^^ 2 ^ p) + z.1 (7 * t + p)))) (upd T J (nI (y.2 (J ^^^ 2 ^ t ^^^ 2 ^ p) ^^^ z.2 (7 * t + p)))) := by
  intro j hj
  unfold prN upd updN
  rw [if_pos hc]
  by_cases q : j = J
  · simp only [if_pos q]
    have := (h J hJ).2.2
    exact ⟨trivial, trivial, by omega⟩
  · simp only [if_neg q]; exact h j hj
theorem repF_p1 {k : Nat} {y : FV} {S T : Nat → Int32} (h : RepF (k + 1) y S T) : RepF (k + 2) (p1N y (k + 1)) (upd S (k + 1) (nI 268435456)) (upd T (k + 1) (nI 0)) := by
  intro j hj
  unfold p1N upd updN
  by_cases q : j = k + 1
  · simp only [if_pos q]; exact ⟨trivial, trivial, Nat.le_refl _⟩
  · simp only [if_neg q]; exact h j (by omega)
theorem repF_p0 {z : FV} {goal : Nat} {S T : Nat → Int32} : RepF 1 (puN z (fun _ => 0, fun _ => 0) goal 0) (upd S 0 (nI 0)) (upd T 0 (nI 0)) := by
  intro j hj
  have : j = 0 := by omega
  subst this
  exact ⟨rfl, rfl, Nat.zero_le _⟩
theorem nx_andn (a b : Nat) : nI a &&& (nI b ^^^ (-1)) = nI (a ^^^ (a &&& b)) := by
  apply Int32.toBitVec_inj.1
  show BitVec.ofNat 32 a &&& (BitVec.ofNat 32 b ^^^ BitVec.allOnes 32) = BitVec.ofNat 32 (a ^^^ (a &&& b))
  apply BitVec.eq_of_getLsbD_eq
  intro i hi
  rw [BitVec.getLsbD_and, BitVec.getLsbD_xor, BitVec.getLsbD_allOnes, BitVec.getLsbD_ofNat, BitVec.getLsbD_ofNat, BitVec.getLsbD_ofNat, decide_eq_true hi, Nat.testBit_xor, Nat.testBit_and]
  cases a.testBit i <;> cases b.testBit i <;> rfl
theorem clr_bit {J t : Nat} (h : J.testBit t = true) : J ^^^ (J &&& 2 ^ t) = J ^^^ 2 ^ t := by
  apply Nat.eq_of_testBit_eq
  intro i
  rw [Nat.testBit_xor, Nat.testBit_xor, Nat.testBit_and, Nat.testBit_two_pow]
  by_cases e : t = i
  · subst e; rw [h]; simp
  · simp [e]
theorem bit_x2 {J t i : Nat} (h : i ≠ t) : (J ^^^ 2 ^ t).testBit i = J.testBit i := by
  rw [Nat.testBit_xor, Nat.testBit_two_pow, decide_eq_false (fun e => h e.symm)]
  exact Bool.xor_false _
theorem pr_rest {J t p : Nat} (hpt : p < t) (ht : J.testBit t = true) (hp : J.testBit p = true) : (nI J &&& (nI (2 ^ t) ^^^ (-1))) &&& (nI (2 ^ p) ^^^ (-1)) = nI (J ^^^ 2 ^ t ^^^ 2 ^ p) := by
  rw [nx_andn, nx_andn, clr_bit ht, clr_bit (by rw [bit_x2 (by omega)]; exact hp)]
theorem su_b : ∀ J, J < 128 → ∀ K, K < 128 → (nI J &&& (nI K ^^^ (-1)) = 0 ↔ J &&& K = J) := by decide +kernel
theorem x2_lt : ∀ J, J < 128 → ∀ t, t < 7 → J.testBit t = true → J ^^^ 2 ^ t < J := by decide +kernel
theorem pr_lt {J t p : Nat} (hJ : J < 128) (h7 : t < 7) (hpt : p < t) (ht : J.testBit t = true) (hp : J.testBit p = true) : J ^^^ 2 ^ t ^^^ 2 ^ p < J := by
  have h1 := x2_lt J hJ t h7 ht
  exact Nat.lt_trans (x2_lt _ (by omega) p (by omega) (by rw [bit_x2 (by omega)]; exact hp)) h1
theorem to_ex : ∀ J, J < 128 → 0 < J → ∃ j, j < 7 ∧ J.testBit j = true := by decide +kernel
theorem toN_at {J : Nat} : ∀ {t : Nat}, J.testBit t = true → toN J t = t
  | 0, _ => rfl
  | _ + 1, h => if_pos h
theorem toN_no {J t : Nat} (h : J.testBit (t + 1) = false) : toN J (t + 1) = toN J t := if_neg (by rw [h]; decide)
theorem toN_le {J : Nat} : ∀ t, toN J t ≤ t
  | 0 => Nat.le_refl 0
  | t + 1 => by
    unfold toN
    split
    · exact Nat.le_refl _
    · have := toN_le (J := J) t; omega
/-- what solve answers when a join is possible -/
def goN (a b : Nat → Nat) (c : Nat → Int) (m J : Nat) : Nat := J ^^^ oddN a b (ngN c m) m
def soJ (a b : Nat → Nat) (c : Nat → Int) (n m J : Nat) : Nat := (puN (fwN a b c n m) (fun _ => 0, fun _ => 0) (goN a b c m J) (goN a b c m J)).2 (goN a b c m J) ^^^ ngN c m
theorem ngN_lt {c : Nat → Int} : ∀ {m N : Nat}, m ≤ N → ngN c m < 2 ^ N
  | 0, N, _ => Nat.two_pow_pos N
  | k + 1, N, h => by
    have ih := ngN_lt (c := c) (m := k) (N := N) (by omega)
    unfold ngN
    split
    · exact Nat.or_lt_two_pow ih (Nat.pow_lt_pow_right (by decide) h)
    · exact ih
end
section
set_option maxHeartbeats 4000000 in
set_option maxRecDepth 100000 in
theorem mX2_bad (l : Launch) (D : va_G) (d : ClassId) (ad : Nat → Nat) (E O G : Nat → Int32) (n m w : Nat) (a b : Nat → Nat) (g : Nat → Int) (hR : Rep n m w a b g E O G) (x : Int32) : MI_ l yX2_bad (ws_ yX2_bad cX2_bad 2 (some .boolean)) rq0 D d (wM ad d E O G (nI n) (nI m) (nI w)) (fun u : Unit => (wM ad d E O G (nI n) (nI m) (nI w))) [.ref (ad 0), .int x] (fun (r : Int32) u => orI r (¬ inI x n) (inI x n)) := by
  have hR0 := hR
  obtain ⟨⟨⟨hn2, hn7, hm12, hw7⟩, hok⟩, hE⟩ := hR0
  refine MI_mk (lv := [(0, .ref (ad 0)), (1, .int x)]) (by decide) (Nat.le_of_ble_eq_true rfl) rfl fun pg en s mm below meth cd A ls hx hb hr hlocks hml hown hts hA hP hK hD hS hl => ?_
  have hown : s.vm.findClass RX2 = some mm.cls := hown
  refine w_start fun H locs hH hL => ?_
  rw [← hH] at hP
  replace hS : va_S A s.heap H locs := by rw [hL, hH]; exact va_S.rf
  refine lv_iload_n hx hb dX2_bad_0 rfl (lv_at hl 1 rfl) ?_
  refine lv_if_lt (tgt := 12) hx hb dX2_bad_1 (by decide) (fun c_1 => ?_) (fun c_1 => ?_)
  · refine lv_iconst (v := 1) hx hb dX2_bad_12 (by decide) ?_
    refine lv_goto (tgt := 17) hx hb dX2_bad_13 (by decide) ?_
    exact w_zret hx hb hr hlocks rfl () (Or.inl ⟨rfl, by first | exact inI_neg c_1 (by omega) | exact inI_big (Int32.not_lt.mp c_9) (by omega)⟩) hP hK hD hS dX2_bad_17
  · refine lv_iload_n hx hb dX2_bad_4 rfl (lv_at hl 1 rfl) ?_
    refine lv_aload_n hx hb dX2_bad_5 rfl (lv_at hl 0 rfl) ?_
    refine va_get (D := D) (ci := 1) (v := .int (nI n)) (C := RX2) (T := TX2) (N := 6) hx hb hts in_X2 hown hK hP 0 rfl rfl 0 (by decide) (hts _ q198) (fun _ h9 => h9) rfl dX2_bad_6 ?_
    refine lv_icmp_lt (tgt := 16) hx hb dX2_bad_9 (by decide) (fun c_9 => ?_) (fun c_9 => ?_)
    · refine lv_iconst (v := 0) hx hb dX2_bad_16 (by decide) ?_
      exact w_zret hx hb hr hlocks rfl () (Or.inr ⟨rfl, inI_of c_1 (Int32.not_le.mpr c_9) (by omega)⟩) hP hK hD hS dX2_bad_17
    · refine lv_iconst (v := 1) hx hb dX2_bad_12 (by decide) ?_
      refine lv_goto (tgt := 17) hx hb dX2_bad_13 (by decide) ?_
      exact w_zret hx hb hr hlocks rfl () (Or.inl ⟨rfl, by first | exact inI_neg c_1 (by omega) | exact inI_big (Int32.not_lt.mp c_9) (by omega)⟩) hP hK hD hS dX2_bad_17
set_option maxHeartbeats 4000000 in
set_option maxRecDepth 100000 in
theorem mX2_badRoad (l : Launch) (D : va_G) (d : ClassId) (ad : Nat → Nat) (E O G : Nat → Int32) (n m w : Nat) (a b : Nat → Nat) (g : Nat → Int) (hR : Rep n m w a b g E O G) (x : Int32) : MI_ l yX2_badRoad (ws_ yX2_badRoad cX2_badRoad 2 (some .boolean)) rq0 D d (wM ad d E O G (nI n) (nI m) (nI w)) (fun u : Unit => (wM ad d E O G (nI n) (nI m) (nI w))) [.ref (ad 0), .int x] (fun (r : Int32) u => orI r (¬ inI x m) (inI x m)) := by
  have hR0 := hR
  obtain ⟨⟨⟨hn2, hn7, hm12, hw7⟩, hok⟩, hE⟩ := hR0
  refine MI_mk (lv := [(0, .ref (ad 0)), (1, .int x)]) (by decide) (Nat.le_of_ble_eq_true rfl) rfl fun pg en s mm below meth cd A ls hx hb hr hlocks hml hown hts hA hP hK hD hS hl => ?_
  have hown : s.vm.findClass RX2 = some mm.cls := hown
  refine w_start fun H locs hH hL => ?_
  rw [← hH] at hP
  replace hS : va_S A s.heap H locs := by rw [hL, hH]; exact va_S.rf
  refine lv_iload_n hx hb dX2_badRoad_0 rfl (lv_at hl 1 rfl) ?_
  refine lv_if_lt (tgt := 18) hx hb dX2_badRoad_1 (by decide) (fun c_1 => ?_) (fun c_1 => ?_)
  · refine lv_iconst (v := 1) hx hb dX2_badRoad_18 (by decide) ?_
    refine lv_goto (tgt := 23) hx hb dX2_badRoad_19 (by decide) ?_
    exact w_zret hx hb hr hlocks rfl () (Or.inl ⟨rfl, by first | exact inI_neg c_1 (by omega) | exact inI_big c_9 (by omega)⟩) hP hK hD hS dX2_badRoad_23
  · refine lv_iload_n hx hb dX2_badRoad_4 rfl (lv_at hl 1 rfl) ?_
    refine lv_aload_n hx hb dX2_badRoad_5 rfl (lv_at hl 0 rfl) ?_
    refine va_get (D := D) (ci := 1) (v := .int (nI m)) (C := RX2) (T := TX2) (N := 6) hx hb hts in_X2 hown hK hP 0 rfl rfl 1 (by decide) (hts _ q199) (fun _ h9 => h9) rfl dX2_badRoad_6 ?_
    refine lv_icmp_ge (tgt := 18) hx hb dX2_badRoad_9 (by decide) (fun c_9 => ?_) (fun c_9 => ?_)
    · refine lv_iconst (v := 1) hx hb dX2_badRoad_18 (by decide) ?_
      refine lv_goto (tgt := 23) hx hb dX2_badRoad_19 (by decide) ?_
      exact w_zret hx hb hr hlocks rfl () (Or.inl ⟨rfl, by first | exact inI_neg c_1 (by omega) | exact inI_big c_9 (by omega)⟩) hP hK hD hS dX2_badRoad_23
    · refine lv_iload_n hx hb dX2_badRoad_12 rfl (lv_at hl 1 rfl) ?_
      refine lv_bipush (v := nI 11) hx hb dX2_badRoad_13 (by decide) ?_
      refine lv_icmp_le (tgt := 22) hx hb dX2_badRoad_15 (by decide) (fun c_15 => ?_) (fun c_15 => ?_)
      · refine lv_iconst (v := 0) hx hb dX2_badRoad_22 (by decide) ?_
        exact w_zret hx hb hr hlocks rfl () (Or.inr ⟨rfl, inI_of c_1 c_9 (by omega)⟩) hP hK hD hS dX2_badRoad_23
      · obtain ⟨j, hj, rfl⟩ := inI_of c_1 c_9 (by omega)
        exact absurd (nI_le (by omega) (by omega)) c_15
set_option maxHeartbeats 4000000 in
set_option maxRecDepth 100000 in
theorem mX2_far (l : Launch) (D : va_G) (d : ClassId) (ad : Nat → Nat) (E O G : Nat → Int32) (n m w : Nat) (a b : Nat → Nat) (g : Nat → Int) (hR : Rep n m w a b g E O G) (x : Int32) : MI_ l yX2_far (ws_ yX2_far cX2_far 2 (some .boolean)) rq0 D d (wM ad d E O G (nI n) (nI m) (nI w)) (fun u : Unit => (wM ad d E O G (nI n) (nI m) (nI w))) [.ref (ad 0), .int x] (fun (r : Int32) u => orI r (¬ tok x) (tok x)) := by
  have hR0 := hR
  obtain ⟨⟨⟨hn2, hn7, hm12, hw7⟩, hok⟩, hE⟩ := hR0
  refine MI_mk (lv := [(0, .ref (ad 0)), (1, .int x)]) (by decide) (Nat.le_of_ble_eq_true rfl) rfl fun pg en s mm below meth cd A ls hx hb hr hlocks hml hown hts hA hP hK hD hS hl => ?_
  have hown : s.vm.findClass RX2 = some mm.cls := hown
  refine w_start fun H locs hH hL => ?_
  rw [← hH] at hP
  replace hS : va_S A s.heap H locs := by rw [hL, hH]; exact va_S.rf
  refine lv_iload_n hx hb dX2_far_0 rfl (lv_at hl 1 rfl) ?_
  refine lv_bipush (v := (-9)) hx hb dX2_far_1 (by decide) ?_
  refine lv_icmp_lt (tgt := 12) hx hb dX2_far_3 (by decide) (fun c_3 => ?_) (fun c_3 => ?_)
  · refine lv_iconst (v := 1) hx hb dX2_far_12 (by decide) ?_
    refine lv_goto (tgt := 17) hx hb dX2_far_13 (by decide) ?_
    exact w_zret hx hb hr hlocks rfl () (Or.inl ⟨rfl, by first | exact tok_lo c_3 | exact tok_hi c_9⟩) hP hK hD hS dX2_far_17
  · refine lv_iload_n hx hb dX2_far_6 rfl (lv_at hl 1 rfl) ?_
    refine lv_bipush (v := 20) hx hb dX2_far_7 (by decide) ?_
    refine lv_icmp_le (tgt := 16) hx hb dX2_far_9 (by decide) (fun c_9 => ?_) (fun c_9 => ?_)
    · refine lv_iconst (v := 0) hx hb dX2_far_16 (by decide) ?_
      exact w_zret hx hb hr hlocks rfl () (Or.inr ⟨rfl, tok_of c_3 c_9⟩) hP hK hD hS dX2_far_17
    · refine lv_iconst (v := 1) hx hb dX2_far_12 (by decide) ?_
      refine lv_goto (tgt := 17) hx hb dX2_far_13 (by decide) ?_
      exact w_zret hx hb hr hlocks rfl () (Or.inl ⟨rfl, by first | exact tok_lo c_3 | exact tok_hi c_9⟩) hP hK hD hS dX2_far_17
set_option maxHeartbeats 4000000 in
set_option maxRecDepth 100000 in
theorem mX2_odd (l : Launch) (D : va_G) (d : ClassId) (ad : Nat → Nat) (E O G : Nat → Int32) (n m w : Nat) (a b : Nat → Nat) (g : Nat → Int) (hR : Rep n m w a b g E O G) (J : Nat) (hJ : J < 4096) : MI_ l yX2_odd (ws_ yX2_odd cX2_odd 4 (some .int)) rq0 D d (wM ad d E O G (nI n) (nI m) (nI w)) (fun u : Unit => (wM ad d E O G (nI n) (nI m) (nI w))) [.ref (ad 0), .int (nI J)] (fun (r : Int32) u => r = nI (oddN a b J m)) := by
  have hR0 := hR
  obtain ⟨⟨⟨hn2, hn7, hm12, hw7⟩, hok⟩, hE⟩ := hR0
  refine MI_mk (lv := [(0, .ref (ad 0)), (1, .int (nI J))]) (by decide) (Nat.le_of_ble_eq_true rfl) rfl fun pg en s mm below meth cd A ls hx hb hr hlocks hml hown hts hA hP hK hD hS hl => ?_
  have hown : s.vm.findClass RX2 = some mm.cls := hown
  refine w_start fun H locs hH hL => ?_
  rw [← hH] at hP
  replace hS : va_S A s.heap H locs := by rw [hL, hH]; exact va_S.rf
  refine lv_iconst (v := nI 0) hx hb dX2_odd_0 (by decide) ?_
  refine lv_istore_n (lv' := [(2, .int (nI 0)), (0, .ref (ad 0)), (1, .int (nI J))]) hx hb dX2_odd_1 rfl hl (by decide) rfl (fun ls hl => ?_)
  refine lv_iconst (v := nI 0) hx hb dX2_odd_2 (by decide) ?_
  refine lv_istore_n (lv' := [(3, .int (nI 0)), (2, .int (nI 0)), (0, .ref (ad 0)), (1, .int (nI J))]) hx hb dX2_odd_3 rfl hl (by decide) rfl (fun ls hl => ?_)
  refine w_for (σ := Unit) (m) (fun u => (wM ad d E O G (nI n) (nI m) (nI w))) (fun i u => [(0, .ref (ad 0)), (1, .int (nI J)), (2, .int (nI (oddN a b J i))), (3, .int (nI i))]) (fun i u => True) (fun i hi_i IH_i u H locs ls hI_i hP hD hS hl => ?_) (i0 := 0) (Nat.zero_le _) () trivial hP hD hS (lv_sub hl [2, 3, 1, 0] rfl)
  have hP : va_P D vwCl (wM ad d E O G (nI n) (nI m) (nI w)) H := hP
  have hD : va_D A (wM ad d E O G (nI n) (nI m) (nI w)) := hD
  have hl : lv_has ls 4 [(0, .ref (ad 0)), (1, .int (nI J)), (2, .int (nI (oddN a b J i))), (3, .int (nI i))] := hl
  refine lv_iload_n hx hb dX2_odd_4 rfl (lv_at hl 3 rfl) ?_
  refine lv_aload_n hx hb dX2_odd_5 rfl (lv_at hl 0 rfl) ?_
  refine va_get (D := D) (ci := 1) (v := .int (nI m)) (C := RX2) (T := TX2) (N := 6) hx hb hts in_X2 hown hK hP 0 rfl rfl 1 (by decide) (hts _ q199) (fun _ h9 => h9) rfl dX2_odd_6 ?_
  refine lv_icmp_ge (tgt := 53) hx hb dX2_odd_9 (by decide) (fun c_9 => ?_) (fun c_9 => ?_)
  · have him_i : i = m := by have := le_c c_9; omega
    refine lv_iload_n hx hb dX2_odd_53 rfl (lv_at hl 2 rfl) ?_
    exact w_iret hx hb hr hlocks () (by rw [him_i]) hP hK hD hS dX2_odd_54
  · have hlt_i : i < m := nle_c c_9
    obtain ⟨hai, hbi, hg1i, hg2i⟩ := hok i hlt_i
    obtain ⟨hEi, hOi, hGi⟩ := hE i hlt_i
    refine lv_iload_n hx hb dX2_odd_12 rfl (lv_at hl 3 rfl) ?_
    refine lv_bipush (v := nI 12) hx hb dX2_odd_13 (by decide) ?_
    refine lv_icmp_ge (tgt := 53) hx hb dX2_odd_15 (by decide) (fun c_15 => ?_) (fun c_15 => ?_)
    · exact absurd (le_c c_15) (by omega)
    · refine lv_iload_n hx hb dX2_odd_18 rfl (lv_at hl 1 rfl) ?_
      refine lv_iload_n hx hb dX2_odd_19 rfl (lv_at hl 3 rfl) ?_
      refine lv_ishr hx hb dX2_odd_20 ?_
      refine lv_iconst (v := 1) hx hb dX2_odd_21 (by decide) ?_
      refine lv_iand hx hb dX2_odd_22 ?_
      refine w_top (y := bI (J.testBit i)) (b_bit (by omega) (by omega)) ?_
      refine lv_iconst (v := 1) hx hb dX2_odd_23 (by decide) ?_
      refine lv_icmp_ne (tgt := 47) hx hb dX2_odd_24 (by decide) (fun c_24 => ?_) (fun c_24 => ?_)
      · have hstep : oddN a b J (i + 1) = oddN a b J i := if_neg (by rw [bI_n1.mp c_24]; decide)
        refine lv_iinc (v := (nI (i + 1))) (lv' := [(3, .int (nI (i + 1))), (0, .ref (ad 0)), (1, .int (nI J)), (2, .int (nI (oddN a b J i)))]) hx hb dX2_odd_47 hl (k := 3) rfl (nI_1 i) (by decide) rfl (fun ls hl => ?_)
        refine lv_goto (tgt := 4) hx hb dX2_odd_50 (by decide) ?_
        have hl : lv_has ls 4 [(0, .ref (ad 0)), (1, .int (nI J)), (2, .int (nI (oddN a b J (i + 1)))), (3, .int (nI (i + 1)))] := by rw [hstep]; exact lv_sub hl [1, 2, 3, 0] rfl
        exact IH_i () _ _ _ hlt_i trivial hP hD hS hl
      · have hstep : oddN a b J (i + 1) = oddN a b J i ^^^ 2 ^ a i ^^^ 2 ^ b i := if_pos (bI_1.mp c_24)
        refine lv_iload_n hx hb dX2_odd_27 rfl (lv_at hl 2 rfl) ?_
        refine lv_iconst (v := 1) hx hb dX2_odd_28 (by decide) ?_
        refine lv_aload_n hx hb dX2_odd_29 rfl (lv_at hl 0 rfl) ?_
        refine va_get (D := D) (ci := 1) (v := .ref (ad 1)) (C := RX2) (T := TX2) (N := 6) hx hb hts in_X2 hown hK hP 0 rfl rfl 2 (by decide) (hts _ q200) (fun _ h9 => h9) rfl dX2_odd_30 ?_
        refine lv_iload_n hx hb dX2_odd_33 rfl (lv_at hl 3 rfl) ?_
        refine w_iald (v := (nI (a i))) hx hb hK hP 1 0 rfl rfl (by omega) (by decide) hEi dX2_odd_34 ?_
        refine lv_ishl hx hb dX2_odd_35 ?_
        refine w_top (y := nI (2 ^ a i)) (b_shl1 _ (by omega)) ?_
        refine lv_ixor hx hb dX2_odd_36 ?_
        refine w_top (y := nI (oddN a b J i ^^^ 2 ^ a i)) (nx_xor _ _) ?_
        refine lv_iconst (v := 1) hx hb dX2_odd_37 (by decide) ?_
        refine lv_aload_n hx hb dX2_odd_38 rfl (lv_at hl 0 rfl) ?_
        refine va_get (D := D) (ci := 1) (v := .ref (ad 2)) (C := RX2) (T := TX2) (N := 6) hx hb hts in_X2 hown hK hP 0 rfl rfl 3 (by decide) (hts _ q201) (fun _ h9 => h9) rfl dX2_odd_39 ?_
        refine lv_iload_n hx hb dX2_odd_42 rfl (lv_at hl 3 rfl) ?_
        refine w_iald (v := (nI (b i))) hx hb hK hP 2 0 rfl rfl (by omega) (by decide) hOi dX2_odd_43 ?_
        refine lv_ishl hx hb dX2_odd_44 ?_
        refine w_top (y := nI (2 ^ b i)) (b_shl1 _ (by omega)) ?_
        refine lv_ixor hx hb dX2_odd_45 ?_
        refine w_top (y := nI (oddN a b J i ^^^ 2 ^ a i ^^^ 2 ^ b i)) (nx_xor _ _) ?_
        refine lv_istore_n (lv' := [(2, .int (nI (oddN a b J i ^^^ 2 ^ a i ^^^ 2 ^ b i))), (0, .ref (ad 0)), (1, .int (nI J)), (3, .int (nI i))]) hx hb dX2_odd_46 rfl hl (by decide) rfl (fun ls hl => ?_)
        refine lv_iinc (v := (nI (i + 1))) (lv' := [(3, .int (nI (i + 1))), (2, .int (nI (oddN a b J i ^^^ 2 ^ a i ^^^ 2 ^ b i))), (0, .ref (ad 0)), (1, .int (nI J))]) hx hb dX2_odd_47 hl (k := 3) rfl (nI_1 i) (by decide) rfl (fun ls hl => ?_)
        refine lv_goto (tgt := 4) hx hb dX2_odd_50 (by decide) ?_
        have hl : lv_has ls 4 [(0, .ref (ad 0)), (1, .int (nI J)), (2, .int (nI (oddN a b J (i + 1)))), (3, .int (nI (i + 1)))] := by rw [hstep]; exact lv_sub hl [2, 3, 1, 0] rfl
        exact IH_i () _ _ _ hlt_i trivial hP hD hS hl
set_option maxHeartbeats 4000000 in
set_option maxRecDepth 100000 in
theorem mX2_sum (l : Launch) (D : va_G) (d : ClassId) (ad : Nat → Nat) (E O G : Nat → Int32) (n m w : Nat) (a b : Nat → Nat) (g : Nat → Int) (hR : Rep n m w a b g E O G) (J : Nat) (hJ : J < 4096) : MI_ l yX2_sum (ws_ yX2_sum cX2_sum 4 (some .int)) rq0 D d (wM ad d E O G (nI n) (nI m) (nI w)) (fun u : Unit => (wM ad d E O G (nI n) (nI m) (nI w))) [.ref (ad 0), .int (nI J)] (fun (r : Int32) u => r = zI (sumN g J m)) := by
  have hR0 := hR
  obtain ⟨⟨⟨hn2, hn7, hm12, hw7⟩, hok⟩, hE⟩ := hR0
  refine MI_mk (lv := [(0, .ref (ad 0)), (1, .int (nI J))]) (by decide) (Nat.le_of_ble_eq_true rfl) rfl fun pg en s mm below meth cd A ls hx hb hr hlocks hml hown hts hA hP hK hD hS hl => ?_
  have hown : s.vm.findClass RX2 = some mm.cls := hown
  refine w_start fun H locs hH hL => ?_
  rw [← hH] at hP
  replace hS : va_S A s.heap H locs := by rw [hL, hH]; exact va_S.rf
  refine lv_iconst (v := zI 0) hx hb dX2_sum_0 (by decide) ?_
  refine lv_istore_n (lv' := [(2, .int (zI 0)), (0, .ref (ad 0)), (1, .int (nI J))]) hx hb dX2_sum_1 rfl hl (by decide) rfl (fun ls hl => ?_)
  refine lv_iconst (v := nI 0) hx hb dX2_sum_2 (by decide) ?_
  refine lv_istore_n (lv' := [(3, .int (nI 0)), (2, .int (zI 0)), (0, .ref (ad 0)), (1, .int (nI J))]) hx hb dX2_sum_3 rfl hl (by decide) rfl (fun ls hl => ?_)
  refine w_for (σ := Unit) (m) (fun u => (wM ad d E O G (nI n) (nI m) (nI w))) (fun i u => [(0, .ref (ad 0)), (1, .int (nI J)), (2, .int (zI (sumN g J i))), (3, .int (nI i))]) (fun i u => True) (fun i hi_i IH_i u H locs ls hI_i hP hD hS hl => ?_) (i0 := 0) (Nat.zero_le _) () trivial hP hD hS (lv_sub hl [2, 3, 1, 0] rfl)
  have hP : va_P D vwCl (wM ad d E O G (nI n) (nI m) (nI w)) H := hP
  have hD : va_D A (wM ad d E O G (nI n) (nI m) (nI w)) := hD
  have hl : lv_has ls 4 [(0, .ref (ad 0)), (1, .int (nI J)), (2, .int (zI (sumN g J i))), (3, .int (nI i))] := hl
  refine lv_iload_n hx hb dX2_sum_4 rfl (lv_at hl 3 rfl) ?_
  refine lv_aload_n hx hb dX2_sum_5 rfl (lv_at hl 0 rfl) ?_
  refine va_get (D := D) (ci := 1) (v := .int (nI m)) (C := RX2) (T := TX2) (N := 6) hx hb hts in_X2 hown hK hP 0 rfl rfl 1 (by decide) (hts _ q199) (fun _ h9 => h9) rfl dX2_sum_6 ?_
  refine lv_icmp_ge (tgt := 42) hx hb dX2_sum_9 (by decide) (fun c_9 => ?_) (fun c_9 => ?_)
  · have him_i : i = m := by have := le_c c_9; omega
    refine lv_iload_n hx hb dX2_sum_42 rfl (lv_at hl 2 rfl) ?_
    exact w_iret hx hb hr hlocks () (by rw [him_i]) hP hK hD hS dX2_sum_43
  · have hlt_i : i < m := nle_c c_9
    obtain ⟨hai, hbi, hg1i, hg2i⟩ := hok i hlt_i
    obtain ⟨hEi, hOi, hGi⟩ := hE i hlt_i
    refine lv_iload_n hx hb dX2_sum_12 rfl (lv_at hl 3 rfl) ?_
    refine lv_bipush (v := nI 12) hx hb dX2_sum_13 (by decide) ?_
    refine lv_icmp_ge (tgt := 42) hx hb dX2_sum_15 (by decide) (fun c_15 => ?_) (fun c_15 => ?_)
    · exact absurd (le_c c_15) (by omega)
    · refine lv_iload_n hx hb dX2_sum_18 rfl (lv_at hl 1 rfl) ?_
      refine lv_iload_n hx hb dX2_sum_19 rfl (lv_at hl 3 rfl) ?_
      refine lv_ishr hx hb dX2_sum_20 ?_
      refine lv_iconst (v := 1) hx hb dX2_sum_21 (by decide) ?_
      refine lv_iand hx hb dX2_sum_22 ?_
      refine w_top (y := bI (J.testBit i)) (b_bit (by omega) (by omega)) ?_
      refine lv_iconst (v := 1) hx hb dX2_sum_23 (by decide) ?_
      refine lv_icmp_ne (tgt := 36) hx hb dX2_sum_24 (by decide) (fun c_24 => ?_) (fun c_24 => ?_)
      · have hstep : sumN g J (i + 1) = sumN g J i := if_neg (by rw [bI_n1.mp c_24]; decide)
        refine lv_iinc (v := (nI (i + 1))) (lv' := [(3, .int (nI (i + 1))), (0, .ref (ad 0)), (1, .int (nI J)), (2, .int (zI (sumN g J i)))]) hx hb dX2_sum_36 hl (k := 3) rfl (nI_1 i) (by decide) rfl (fun ls hl => ?_)
        refine lv_goto (tgt := 4) hx hb dX2_sum_39 (by decide) ?_
        have hl : lv_has ls 4 [(0, .ref (ad 0)), (1, .int (nI J)), (2, .int (zI (sumN g J (i + 1)))), (3, .int (nI (i + 1)))] := by rw [hstep]; exact lv_sub hl [1, 2, 3, 0] rfl
        exact IH_i () _ _ _ hlt_i trivial hP hD hS hl
      · have hstep : sumN g J (i + 1) = sumN g J i + g i := if_pos (bI_1.mp c_24)
        refine lv_iload_n hx hb dX2_sum_27 rfl (lv_at hl 2 rfl) ?_
        refine lv_aload_n hx hb dX2_sum_28 rfl (lv_at hl 0 rfl) ?_
        refine va_get (D := D) (ci := 1) (v := .ref (ad 3)) (C := RX2) (T := TX2) (N := 6) hx hb hts in_X2 hown hK hP 0 rfl rfl 4 (by decide) (hts _ q202) (fun _ h9 => h9) rfl dX2_sum_29 ?_
        refine lv_iload_n hx hb dX2_sum_32 rfl (lv_at hl 3 rfl) ?_
        refine w_iald (v := (zI (g i))) hx hb hK hP 3 0 rfl rfl (by omega) (by decide) hGi dX2_sum_33 ?_
        refine lv_iadd hx hb dX2_sum_34 ?_
        refine w_top (y := zI (sumN g J i + g i)) (zI_add _ _) ?_
        refine lv_istore_n (lv' := [(2, .int (zI (sumN g J i + g i))), (0, .ref (ad 0)), (1, .int (nI J)), (3, .int (nI i))]) hx hb dX2_sum_35 rfl hl (by decide) rfl (fun ls hl => ?_)
        refine lv_iinc (v := (nI (i + 1))) (lv' := [(3, .int (nI (i + 1))), (2, .int (zI (sumN g J i + g i))), (0, .ref (ad 0)), (1, .int (nI J))]) hx hb dX2_sum_36 hl (k := 3) rfl (nI_1 i) (by decide) rfl (fun ls hl => ?_)
        refine lv_goto (tgt := 4) hx hb dX2_sum_39 (by decide) ?_
        have hl : lv_has ls 4 [(0, .ref (ad 0)), (1, .int (nI J)), (2, .int (zI (sumN g J (i + 1)))), (3, .int (nI (i + 1)))] := by rw [hstep]; exact lv_sub hl [2, 3, 1, 0] rfl
        exact IH_i () _ _ _ hlt_i trivial hP hD hS hl
end
section
set_option maxHeartbeats 4000000 in
set_option maxRecDepth 100000 in
theorem mX2_search (l : Launch) (D : va_G) (d : ClassId) (ad : Nat → Nat) (E O G : Nat → Int32) (n m w : Nat) (a b : Nat → Nat) (g : Nat → Int) (hR : Rep n m w a b g E O G) (pl mu no : Nat) (hpl : pl < 128) (hmu : mu < 4096) (hno : no < 4096) : MI_ l yX2_search (ws_ yX2_search cX2_search 8 (some .int)) rq1 D d (wM ad d E O G (nI n) (nI m) (nI w)) (fun u : Unit => (wM ad d E O G (nI n) (nI m) (nI w))) [.ref (ad 0), .int (nI pl), .int (nI mu), .int (nI no)] (fun (r : Int32) u => r = sI (beN a b g m pl mu no)) := by
  have hR0 := hR
  obtain ⟨⟨⟨hn2, hn7, hm12, hw7⟩, hok⟩, hE⟩ := hR0
  have h2m : 2 ^ m ≤ 4096 := Nat.pow_le_pow_right (n := 2) (by decide) hm12
  have hokg := hR.1
  refine MI_mk (lv := [(0, .ref (ad 0)), (1, .int (nI pl)), (2, .int (nI mu)), (3, .int (nI no))]) (by decide) (Nat.le_of_ble_eq_true rfl) rfl fun pg en s mm below meth cd A ls hx hb hr hlocks hml hown hts hA hP hK hD hS hl => ?_
  have hown : s.vm.findClass RX2 = some mm.cls := hown
  refine w_start fun H locs hH hL => ?_
  rw [← hH] at hP
  replace hS : va_S A s.heap H locs := by rw [hL, hH]; exact va_S.rf
  refine lv_iconst (v := (-1)) hx hb dX2_search_0 (by decide) ?_
  refine lv_istore (lv' := [(4, .int (-1)), (0, .ref (ad 0)), (1, .int (nI pl)), (2, .int (nI mu)), (3, .int (nI no))]) hx hb dX2_search_1 hl (by decide) rfl (fun ls hl => ?_)
  refine lv_iconst (v := 0) hx hb dX2_search_3 (by decide) ?_
  refine lv_istore (lv' := [(5, .int 0), (4, .int (-1)), (0, .ref (ad 0)), (1, .int (nI pl)), (2, .int (nI mu)), (3, .int (nI no))]) hx hb dX2_search_4 hl (by decide) rfl (fun ls hl => ?_)
  refine lv_iconst (v := nI 0) hx hb dX2_search_6 (by decide) ?_
  refine lv_istore (lv' := [(6, .int (nI 0)), (5, .int 0), (4, .int (-1)), (0, .ref (ad 0)), (1, .int (nI pl)), (2, .int (nI mu)), (3, .int (nI no))]) hx hb dX2_search_7 hl (by decide) rfl (fun ls hl => ?_)
  refine w_for (σ := Unit) (2 ^ m) (fun u => (wM ad d E O G (nI n) (nI m) (nI w))) (fun i u => [(0, .ref (ad 0)), (1, .int (nI pl)), (2, .int (nI mu)), (3, .int (nI no)), (4, .int (sI (srN a b g m pl mu no i))), (5, .int (lsI g m (srN a b g m pl mu no i))), (6, .int (nI i))]) (fun i u => True) (fun i hi_i IH_i u H locs ls hI_i hP hD hS hl => ?_) (i0 := 0) (Nat.zero_le _) () trivial hP hD hS (lv_sub hl [3, 4, 5, 6, 2, 1, 0] rfl)
  have hP : va_P D vwCl (wM ad d E O G (nI n) (nI m) (nI w)) H := hP
  have hD : va_D A (wM ad d E O G (nI n) (nI m) (nI w)) := hD
  have hl : lv_has ls 8 [(0, .ref (ad 0)), (1, .int (nI pl)), (2, .int (nI mu)), (3, .int (nI no)), (4, .int (sI (srN a b g m pl mu no i))), (5, .int (lsI g m (srN a b g m pl mu no i))), (6, .int (nI i))] := hl
  refine lv_iload hx hb dX2_search_9 (lv_at hl 6 rfl) ?_
  refine lv_iconst (v := 1) hx hb dX2_search_11 (by decide) ?_
  refine lv_aload_n hx hb dX2_search_12 rfl (lv_at hl 0 rfl) ?_
  refine va_get (D := D) (ci := 1) (v := .int (nI m)) (C := RX2) (T := TX2) (N := 6) hx hb hts in_X2 hown hK hP 0 rfl rfl 1 (by decide) (hts _ q199) (fun _ h9 => h9) rfl dX2_search_13 ?_
  refine lv_ishl hx hb dX2_search_16 ?_
  refine w_top (y := nI (2 ^ m)) (b_shl1 _ (by omega)) ?_
  refine lv_icmp_ge (tgt := 79) hx hb dX2_search_17 (by decide) (fun c_17 => ?_) (fun c_17 => ?_)
  · have him_i : i = 2 ^ m := by have := le_c c_17; omega
    refine lv_iload hx hb dX2_search_79 (lv_at hl 4 rfl) ?_
    exact w_iret hx hb hr hlocks () (by rw [him_i]; rfl) hP hK hD hS dX2_search_81
  · have hlt_i : i < 2 ^ m := nle_c c_17
    have hi4 : i < 4096 := by omega
    refine lv_iload hx hb dX2_search_20 (lv_at hl 6 rfl) ?_
    refine lv_iload_n hx hb dX2_search_22 rfl (lv_at hl 2 rfl) ?_
    refine lv_iand hx hb dX2_search_23 ?_
    refine w_top (y := nI (i &&& mu)) (nx_and _ _) ?_
    refine lv_iload_n hx hb dX2_search_24 rfl (lv_at hl 2 rfl) ?_
    refine lv_icmp_ne (tgt := 73) hx hb dX2_search_25 (by decide) (fun c_25 => ?_) (fun c_25 => ?_)
    · have hstep : srN a b g m pl mu no (i + 1) = srN a b g m pl mu no i := srN_no (fun h => c_25 (by rw [h.1]))
      refine lv_iinc (v := (nI (i + 1))) (lv' := [(6, .int (nI (i + 1))), (0, .ref (ad 0)), (1, .int (nI pl)), (2, .int (nI mu)), (3, .int (nI no)), (4, .int (sI (srN a b g m pl mu no i))), (5, .int (lsI g m (srN a b g m pl mu no i)))]) hx hb dX2_search_73 hl (k := 6) rfl (nI_1 i) (by decide) rfl (fun ls hl => ?_)
      refine lv_goto (tgt := 9) hx hb dX2_search_76 (by decide) ?_
      have hl : lv_has ls 8 [(0, .ref (ad 0)), (1, .int (nI pl)), (2, .int (nI mu)), (3, .int (nI no)), (4, .int (sI (srN a b g m pl mu no (i + 1)))), (5, .int (lsI g m (srN a b g m pl mu no (i + 1)))), (6, .int (nI (i + 1)))] := by rw [hstep]; exact lv_sub hl [1, 2, 3, 4, 5, 6, 0] rfl
      exact IH_i () _ _ _ hlt_i trivial hP hD hS hl
    · have hA1 : i &&& mu = mu := eq_c c_25 (Nat.lt_of_le_of_lt Nat.and_le_left (by omega)) (by omega)
      refine lv_iload hx hb dX2_search_28 (lv_at hl 6 rfl) ?_
      refine lv_iload_n hx hb dX2_search_30 rfl (lv_at hl 3 rfl) ?_
      refine lv_iand hx hb dX2_search_31 ?_
      refine w_top (y := nI (i &&& no)) (nx_and _ _) ?_
      refine lv_if_ne (tgt := 73) hx hb dX2_search_32 (by decide) (fun c_32 => ?_) (fun c_32 => ?_)
      · have hstep : srN a b g m pl mu no (i + 1) = srN a b g m pl mu no i := srN_no (fun h => c_32 (by rw [h.2.1]; rfl))
        refine lv_iinc (v := (nI (i + 1))) (lv' := [(6, .int (nI (i + 1))), (0, .ref (ad 0)), (1, .int (nI pl)), (2, .int (nI mu)), (3, .int (nI no)), (4, .int (sI (srN a b g m pl mu no i))), (5, .int (lsI g m (srN a b g m pl mu no i)))]) hx hb dX2_search_73 hl (k := 6) rfl (nI_1 i) (by decide) rfl (fun ls hl => ?_)
        refine lv_goto (tgt := 9) hx hb dX2_search_76 (by decide) ?_
        have hl : lv_has ls 8 [(0, .ref (ad 0)), (1, .int (nI pl)), (2, .int (nI mu)), (3, .int (nI no)), (4, .int (sI (srN a b g m pl mu no (i + 1)))), (5, .int (lsI g m (srN a b g m pl mu no (i + 1)))), (6, .int (nI (i + 1)))] := by rw [hstep]; exact lv_sub hl [1, 2, 3, 4, 5, 6, 0] rfl
        exact IH_i () _ _ _ hlt_i trivial hP hD hS hl
      · have hA2 : i &&& no = 0 := eq_c (show nI (i &&& no) = nI 0 from c_32) (Nat.lt_of_le_of_lt Nat.and_le_left (by omega)) (by omega)
        refine lv_aload_n hx hb dX2_search_35 rfl (lv_at hl 0 rfl) ?_
        refine lv_iload hx hb dX2_search_36 (lv_at hl 6 rfl) ?_
        refine w_mi (As := [.int (nI i)]) (rest := []) ⟨hx, hb, hml, hown, hts⟩ (mX2_odd l D d ad E O G n m w a b g hR i hi4) (cwV 1 hts (lw_V q257 q259 qs16 q23 q260) rfl rfl rfl (by decide +kernel) ⟨Nat.le_of_ble_eq_true rfl, Nat.le_of_ble_eq_true rfl⟩) hP hK hD hS hA rfl hl.1 rfl (Nat.le_of_ble_eq_true rfl) dX2_search_38 (fun r _ H locs hw hP hD hS => ?_)
        subst hw
        have hP : va_P D vwCl (wM ad d E O G (nI n) (nI m) (nI w)) H := hP
        have hD : va_D A (wM ad d E O G (nI n) (nI m) (nI w)) := hD
        refine lv_iload_n hx hb dX2_search_41 rfl (lv_at hl 1 rfl) ?_
        refine lv_icmp_ne (tgt := 73) hx hb dX2_search_42 (by decide) (fun c_42 => ?_) (fun c_42 => ?_)
        · have hstep : srN a b g m pl mu no (i + 1) = srN a b g m pl mu no i := srN_no (fun h => c_42 (by rw [h.2.2]))
          refine lv_iinc (v := (nI (i + 1))) (lv' := [(6, .int (nI (i + 1))), (0, .ref (ad 0)), (1, .int (nI pl)), (2, .int (nI mu)), (3, .int (nI no)), (4, .int (sI (srN a b g m pl mu no i))), (5, .int (lsI g m (srN a b g m pl mu no i)))]) hx hb dX2_search_73 hl (k := 6) rfl (nI_1 i) (by decide) rfl (fun ls hl => ?_)
          refine lv_goto (tgt := 9) hx hb dX2_search_76 (by decide) ?_
          have hl : lv_has ls 8 [(0, .ref (ad 0)), (1, .int (nI pl)), (2, .int (nI mu)), (3, .int (nI no)), (4, .int (sI (srN a b g m pl mu no (i + 1)))), (5, .int (lsI g m (srN a b g m pl mu no (i + 1)))), (6, .int (nI (i + 1)))] := by rw [hstep]; exact lv_sub hl [1, 2, 3, 4, 5, 6, 0] rfl
          exact IH_i () _ _ _ hlt_i trivial hP hD hS hl
        · have hA3 : oddN a b i m = pl := eq_c c_42 (Nat.lt_trans (odd128 hokg) (by decide)) (by omega)
          have hV : vaN a b m pl mu no i := ⟨hA1, hA2, hA3⟩
          refine lv_aload_n hx hb dX2_search_45 rfl (lv_at hl 0 rfl) ?_
          refine lv_iload hx hb dX2_search_46 (lv_at hl 6 rfl) ?_
          refine w_mi (As := [.int (nI i)]) (rest := []) ⟨hx, hb, hml, hown, hts⟩ (mX2_sum l D d ad E O G n m w a b g hR i hi4) (cwV 1 hts (lw_V q269 q271 qs18 q23 q272) rfl rfl rfl (by decide +kernel) ⟨Nat.le_of_ble_eq_true rfl, Nat.le_of_ble_eq_true rfl⟩) hP hK hD hS hA rfl hl.1 rfl (Nat.le_of_ble_eq_true rfl) dX2_search_48 (fun r _ H locs hw hP hD hS => ?_)
          subst hw
          have hP : va_P D vwCl (wM ad d E O G (nI n) (nI m) (nI w)) H := hP
          have hD : va_D A (wM ad d E O G (nI n) (nI m) (nI w)) := hD
          refine lv_istore (lv' := [(7, .int (zI (sumN g i m))), (0, .ref (ad 0)), (1, .int (nI pl)), (2, .int (nI mu)), (3, .int (nI no)), (4, .int (sI (srN a b g m pl mu no i))), (5, .int (lsI g m (srN a b g m pl mu no i))), (6, .int (nI i))]) hx hb dX2_search_51 hl (by decide) rfl (fun ls hl => ?_)
          refine lv_iload hx hb dX2_search_53 (lv_at hl 5 rfl) ?_
          refine lv_if_lt (tgt := 65) hx hb dX2_search_55 (by decide) (fun c_55 => ?_) (fun c_55 => ?_)
          · have hnone := sI_neg (fun j h => Nat.lt_trans (srN_lt h) (by omega)) c_55
            have hstep : srN a b g m pl mu no (i + 1) = some i := srN_first hV hnone
            refine lv_iload hx hb dX2_search_65 (lv_at hl 7 rfl) ?_
            refine lv_istore (lv' := [(4, .int (nI i)), (7, .int (zI (sumN g i m))), (0, .ref (ad 0)), (1, .int (nI pl)), (2, .int (nI mu)), (3, .int (nI no)), (5, .int (lsI g m (srN a b g m pl mu no i))), (6, .int (nI i))]) hx hb dX2_search_67 hl (by decide) rfl (fun ls hl => ?_)
            refine lv_iload hx hb dX2_search_69 (lv_at hl 1 rfl) ?_
            refine lv_istore (lv' := [(5, .int (zI (sumN g i m))), (4, .int (nI i)), (7, .int (zI (sumN g i m))), (0, .ref (ad 0)), (1, .int (nI pl)), (2, .int (nI mu)), (3, .int (nI no)), (6, .int (nI i))]) hx hb dX2_search_71 hl (by decide) rfl (fun ls hl => ?_)
            refine lv_iinc (v := (nI (i + 1))) (lv' := [(6, .int (nI (i + 1))), (5, .int (zI (sumN g i m))), (4, .int (nI i)), (7, .int (zI (sumN g i m))), (0, .ref (ad 0)), (1, .int (nI pl)), (2, .int (nI mu)), (3, .int (nI no))]) hx hb dX2_search_73 hl (k := 7) rfl (nI_1 i) (by decide) rfl (fun ls hl => ?_)
            refine lv_goto (tgt := 9) hx hb dX2_search_76 (by decide) ?_
            have hl : lv_has ls 8 [(0, .ref (ad 0)), (1, .int (nI pl)), (2, .int (nI mu)), (3, .int (nI no)), (4, .int (sI (srN a b g m pl mu no (i + 1)))), (5, .int (lsI g m (srN a b g m pl mu no (i + 1)))), (6, .int (nI (i + 1)))] := by rw [hstep]; exact lv_sub hl [4, 5, 6, 7, 2, 1, 0] rfl
            exact IH_i () _ _ _ hlt_i trivial hP hD hS hl
          · obtain ⟨j, hj⟩ := sI_pos c_55
            refine lv_iload hx hb dX2_search_58 (lv_at hl 0 rfl) ?_
            refine lv_iload hx hb dX2_search_60 (lv_at hl 6 rfl) ?_
            refine lv_icmp_ge (tgt := 73) hx hb dX2_search_62 (by decide) (fun c_62 => ?_) (fun c_62 => ?_)
            · rw [hj] at c_62
              have hstep : srN a b g m pl mu no (i + 1) = srN a b g m pl mu no i := srN_keep hV hj (fun h => absurd ((zI_le (sum_ok hokg) (sum_ok hokg)).mp c_62) (by omega))
              refine lv_iinc (v := (nI (i + 1))) (lv' := [(6, .int (nI (i + 1))), (7, .int (zI (sumN g i m))), (0, .ref (ad 0)), (1, .int (nI pl)), (2, .int (nI mu)), (3, .int (nI no)), (4, .int (sI (srN a b g m pl mu no i))), (5, .int (lsI g m (srN a b g m pl mu no i)))]) hx hb dX2_search_73 hl (k := 7) rfl (nI_1 i) (by decide) rfl (fun ls hl => ?_)
              refine lv_goto (tgt := 9) hx hb dX2_search_76 (by decide) ?_
              have hl : lv_has ls 8 [(0, .ref (ad 0)), (1, .int (nI pl)), (2, .int (nI mu)), (3, .int (nI no)), (4, .int (sI (srN a b g m pl mu no (i + 1)))), (5, .int (lsI g m (srN a b g m pl mu no (i + 1)))), (6, .int (nI (i + 1)))] := by rw [hstep]; exact lv_sub hl [2, 3, 4, 5, 6, 7, 0] rfl
              exact IH_i () _ _ _ hlt_i trivial hP hD hS hl
            · rw [hj] at c_62
              have hstep : srN a b g m pl mu no (i + 1) = some i := srN_less hV hj (Int.lt_of_not_ge (fun h => c_62 ((zI_le (sum_ok hokg) (sum_ok hokg)).mpr h)))
              refine lv_iload hx hb dX2_search_65 (lv_at hl 7 rfl) ?_
              refine lv_istore (lv' := [(4, .int (nI i)), (7, .int (zI (sumN g i m))), (0, .ref (ad 0)), (1, .int (nI pl)), (2, .int (nI mu)), (3, .int (nI no)), (5, .int (lsI g m (srN a b g m pl mu no i))), (6, .int (nI i))]) hx hb dX2_search_67 hl (by decide) rfl (fun ls hl => ?_)
              refine lv_iload hx hb dX2_search_69 (lv_at hl 1 rfl) ?_
              refine lv_istore (lv' := [(5, .int (zI (sumN g i m))), (4, .int (nI i)), (7, .int (zI (sumN g i m))), (0, .ref (ad 0)), (1, .int (nI pl)), (2, .int (nI mu)), (3, .int (nI no)), (6, .int (nI i))]) hx hb dX2_search_71 hl (by decide) rfl (fun ls hl => ?_)
              refine lv_iinc (v := (nI (i + 1))) (lv' := [(6, .int (nI (i + 1))), (5, .int (zI (sumN g i m))), (4, .int (nI i)), (7, .int (zI (sumN g i m))), (0, .ref (ad 0)), (1, .int (nI pl)), (2, .int (nI mu)), (3, .int (nI no))]) hx hb dX2_search_73 hl (k := 7) rfl (nI_1 i) (by decide) rfl (fun ls hl => ?_)
              refine lv_goto (tgt := 9) hx hb dX2_search_76 (by decide) ?_
              have hl : lv_has ls 8 [(0, .ref (ad 0)), (1, .int (nI pl)), (2, .int (nI mu)), (3, .int (nI no)), (4, .int (sI (srN a b g m pl mu no (i + 1)))), (5, .int (lsI g m (srN a b g m pl mu no (i + 1)))), (6, .int (nI (i + 1)))] := by rw [hstep]; exact lv_sub hl [4, 5, 6, 7, 2, 1, 0] rfl
              exact IH_i () _ _ _ hlt_i trivial hP hD hS hl
set_option maxHeartbeats 4000000 in
set_option maxRecDepth 100000 in
theorem mX2_weightOf (l : Launch) (D : va_G) (d : ClassId) (ad : Nat → Nat) (E O G : Nat → Int32) (n m w : Nat) (a b : Nat → Nat) (g : Nat → Int) (hR : Rep n m w a b g E O G) (o : Option Nat) (ho : ∀ j, o = some j → j < 4096) : MI_ l yX2_weightOf (ws_ yX2_weightOf cX2_weightOf 2 (some .int)) rq1 D d (wM ad d E O G (nI n) (nI m) (nI w)) (fun u : Unit => (wM ad d E O G (nI n) (nI m) (nI w))) [.ref (ad 0), .int (sI o)] (fun (r : Int32) u => r = wI g m o) := by
  have hR0 := hR
  obtain ⟨⟨⟨hn2, hn7, hm12, hw7⟩, hok⟩, hE⟩ := hR0
  refine MI_mk (lv := [(0, .ref (ad 0)), (1, .int (sI o))]) (by decide) (Nat.le_of_ble_eq_true rfl) rfl fun pg en s mm below meth cd A ls hx hb hr hlocks hml hown hts hA hP hK hD hS hl => ?_
  have hown : s.vm.findClass RX2 = some mm.cls := hown
  refine w_start fun H locs hH hL => ?_
  rw [← hH] at hP
  replace hS : va_S A s.heap H locs := by rw [hL, hH]; exact va_S.rf
  refine lv_iload_n hx hb dX2_weightOf_0 rfl (lv_at hl 1 rfl) ?_
  refine lv_if_ge (tgt := 10) hx hb dX2_weightOf_1 (by decide) (fun c_1 => ?_) (fun c_1 => ?_)
  · obtain ⟨j, rfl⟩ := sI_pos' c_1
    refine lv_aload_n hx hb dX2_weightOf_10 rfl (lv_at hl 0 rfl) ?_
    refine lv_iload_n hx hb dX2_weightOf_11 rfl (lv_at hl 1 rfl) ?_
    refine w_mi (As := [.int (sI (some j))]) (rest := []) ⟨hx, hb, hml, hown, hts⟩ (mX2_sum l D d ad E O G n m w a b g hR j (ho j rfl)) (cwV 1 hts (lw_V q269 q271 qs18 q23 q272) rfl rfl rfl (by decide +kernel) ⟨Nat.le_of_ble_eq_true rfl, Nat.le_of_ble_eq_true rfl⟩) hP hK hD hS hA rfl hl.1 rfl (Nat.le_of_ble_eq_true rfl) dX2_weightOf_12 (fun r _ H locs hw hP hD hS => ?_)
    subst hw
    have hP : va_P D vwCl (wM ad d E O G (nI n) (nI m) (nI w)) H := hP
    have hD : va_D A (wM ad d E O G (nI n) (nI m) (nI w)) := hD
    exact w_iret hx hb hr hlocks () rfl hP hK hD hS dX2_weightOf_15
  · have hnone := sI_neg' (fun j h => Nat.lt_trans (ho j h) (by decide)) c_1
    subst hnone
    refine lv_sipush (v := (-1000)) hx hb dX2_weightOf_4 (by decide) ?_
    refine lv_goto (tgt := 15) hx hb dX2_weightOf_7 (by decide) ?_
    exact w_iret hx hb hr hlocks () rfl hP hK hD hS dX2_weightOf_15
set_option maxHeartbeats 4000000 in
set_option maxRecDepth 100000 in
theorem mX2_isJoin (l : Launch) (D : va_G) (d : ClassId) (ad : Nat → Nat) (E O G : Nat → Int32) (n m w : Nat) (a b : Nat → Nat) (g : Nat → Int) (hR : Rep n m w a b g E O G) (x : Int32) : MI_ l yX2_isJoin (ws_ yX2_isJoin cX2_isJoin 2 (some .int)) rq3 D d (wM ad d E O G (nI n) (nI m) (nI w)) (fun u : Unit => (wM ad d E O G (nI n) (nI m) (nI w))) [.ref (ad 0), .int x] (fun (r : Int32) u => IsjR m w a b x r) := by
  have hR0 := hR
  obtain ⟨⟨⟨hn2, hn7, hm12, hw7⟩, hok⟩, hE⟩ := hR0
  have h2m : 2 ^ m ≤ 4096 := Nat.pow_le_pow_right (n := 2) (by decide) hm12
  have hokg := hR.1
  have hw128 : w < 128 := Nat.lt_of_lt_of_le hw7 (Nat.pow_le_pow_right (n := 2) (by decide) hn7)
  refine MI_mk (lv := [(0, .ref (ad 0)), (1, .int x)]) (by decide) (Nat.le_of_ble_eq_true rfl) rfl fun pg en s mm below meth cd A ls hx hb hr hlocks hml hown hts hA hP hK hD hS hl => ?_
  have hown : s.vm.findClass RX2 = some mm.cls := hown
  refine w_start fun H locs hH hL => ?_
  rw [← hH] at hP
  replace hS : va_S A s.heap H locs := by rw [hL, hH]; exact va_S.rf
  refine lv_iload_n hx hb dX2_isJoin_0 rfl (lv_at hl 1 rfl) ?_
  refine lv_if_lt (tgt := 14) hx hb dX2_isJoin_1 (by decide) (fun c_1 => ?_) (fun c_1 => ?_)
  · refine lv_iconst (v := (-1)) hx hb dX2_isJoin_14 (by decide) ?_
    exact w_iret hx hb hr hlocks () (Or.inl ⟨by first | exact inI_neg c_1 (by omega) | exact inI_big (Int32.not_lt.mp c_11) (by omega), rfl⟩) hP hK hD hS dX2_isJoin_15
  · refine lv_iload_n hx hb dX2_isJoin_4 rfl (lv_at hl 1 rfl) ?_
    refine lv_iconst (v := 1) hx hb dX2_isJoin_5 (by decide) ?_
    refine lv_aload_n hx hb dX2_isJoin_6 rfl (lv_at hl 0 rfl) ?_
    refine va_get (D := D) (ci := 1) (v := .int (nI m)) (C := RX2) (T := TX2) (N := 6) hx hb hts in_X2 hown hK hP 0 rfl rfl 1 (by decide) (hts _ q199) (fun _ h9 => h9) rfl dX2_isJoin_7 ?_
    refine lv_ishl hx hb dX2_isJoin_10 ?_
    refine w_top (y := nI (2 ^ m)) (b_shl1 _ (by omega)) ?_
    refine lv_icmp_lt (tgt := 16) hx hb dX2_isJoin_11 (by decide) (fun c_11 => ?_) (fun c_11 => ?_)
    · obtain ⟨j, hj, rfl⟩ : inI x (2 ^ m) := inI_of c_1 (Int32.not_le.mpr c_11) (by omega)
      refine lv_aload_n hx hb dX2_isJoin_16 rfl (lv_at hl 0 rfl) ?_
      refine lv_iload_n hx hb dX2_isJoin_17 rfl (lv_at hl 1 rfl) ?_
      refine w_mi (As := [.int (nI j)]) (rest := []) ⟨hx, hb, hml, hown, hts⟩ (mX2_odd l D d ad E O G n m w a b g hR j (by omega)) (cwV 1 hts (lw_V q257 q259 qs16 q23 q260) rfl rfl rfl (by decide +kernel) ⟨Nat.le_of_ble_eq_true rfl, Nat.le_of_ble_eq_true rfl⟩) hP hK hD hS hA rfl hl.1 rfl (Nat.le_of_ble_eq_true rfl) dX2_isJoin_18 (fun r _ H locs hw hP hD hS => ?_)
      subst hw
      have hP : va_P D vwCl (wM ad d E O G (nI n) (nI m) (nI w)) H := hP
      have hD : va_D A (wM ad d E O G (nI n) (nI m) (nI w)) := hD
      refine lv_aload_n hx hb dX2_isJoin_21 rfl (lv_at hl 0 rfl) ?_
      refine va_get (D := D) (ci := 1) (v := .int (nI w)) (C := RX2) (T := TX2) (N := 6) hx hb hts in_X2 hown hK hP 0 rfl rfl 5 (by decide) (hts _ q203) (fun _ h9 => h9) rfl dX2_isJoin_22 ?_
      refine lv_icmp_ne (tgt := 32) hx hb dX2_isJoin_25 (by decide) (fun c_25 => ?_) (fun c_25 => ?_)
      · refine lv_iconst (v := 0) hx hb dX2_isJoin_32 (by decide) ?_
        exact w_iret hx hb hr hlocks () (Or.inr ⟨j, hj, rfl, by rw [decide_eq_false (ne_c c_25)]; rfl⟩) hP hK hD hS dX2_isJoin_33
      · refine lv_iconst (v := 1) hx hb dX2_isJoin_28 (by decide) ?_
        refine lv_goto (tgt := 33) hx hb dX2_isJoin_29 (by decide) ?_
        exact w_iret hx hb hr hlocks () (Or.inr ⟨j, hj, rfl, by rw [decide_eq_true (eq_c c_25 (Nat.lt_trans (odd128 hokg) (by decide)) (by omega))]; rfl⟩) hP hK hD hS dX2_isJoin_33
    · refine lv_iconst (v := (-1)) hx hb dX2_isJoin_14 (by decide) ?_
      exact w_iret hx hb hr hlocks () (Or.inl ⟨by first | exact inI_neg c_1 (by omega) | exact inI_big (Int32.not_lt.mp c_11) (by omega), rfl⟩) hP hK hD hS dX2_isJoin_15
set_option maxHeartbeats 4000000 in
set_option maxRecDepth 100000 in
theorem mX2_possible (l : Launch) (D : va_G) (d : ClassId) (ad : Nat → Nat) (E O G : Nat → Int32) (n m w : Nat) (a b : Nat → Nat) (g : Nat → Int) (hR : Rep n m w a b g E O G) : MI_ l yX2_possible (ws_ yX2_possible cX2_possible 1 (some .int)) rq3 D d (wM ad d E O G (nI n) (nI m) (nI w)) (fun u : Unit => (wM ad d E O G (nI n) (nI m) (nI w))) [.ref (ad 0)] (fun (r : Int32) u => r = bI (beN a b g m w 0 0).isSome) := by
  have hR0 := hR
  obtain ⟨⟨⟨hn2, hn7, hm12, hw7⟩, hok⟩, hE⟩ := hR0
  have hw128 : w < 128 := Nat.lt_of_lt_of_le hw7 (Nat.pow_le_pow_right (n := 2) (by decide) hn7)
  refine MI_mk (lv := [(0, .ref (ad 0))]) (by decide) (Nat.le_of_ble_eq_true rfl) rfl fun pg en s mm below meth cd A ls hx hb hr hlocks hml hown hts hA hP hK hD hS hl => ?_
  have hown : s.vm.findClass RX2 = some mm.cls := hown
  refine w_start fun H locs hH hL => ?_
  rw [← hH] at hP
  replace hS : va_S A s.heap H locs := by rw [hL, hH]; exact va_S.rf
  refine lv_aload_n hx hb dX2_possible_0 rfl (lv_at hl 0 rfl) ?_
  refine lv_aload_n hx hb dX2_possible_1 rfl (lv_at hl 0 rfl) ?_
  refine va_get (D := D) (ci := 1) (v := .int (nI w)) (C := RX2) (T := TX2) (N := 6) hx hb hts in_X2 hown hK hP 0 rfl rfl 5 (by decide) (hts _ q203) (fun _ h9 => h9) rfl dX2_possible_2 ?_
  refine lv_iconst (v := nI 0) hx hb dX2_possible_5 (by decide) ?_
  refine lv_iconst (v := nI 0) hx hb dX2_possible_6 (by decide) ?_
  refine w_mi (As := [.int (nI w), .int (nI 0), .int (nI 0)]) (rest := []) ⟨hx, hb, hml, hown, hts⟩ (mX2_search l D d ad E O G n m w a b g hR (w) (0) (0) hw128 (by decide) (by decide)) (cwV 3 hts (lw_V q265 q267 qs17 q23 q268) rfl rfl rfl (by decide +kernel) ⟨Nat.le_of_ble_eq_true rfl, Nat.le_of_ble_eq_true rfl⟩) hP hK hD hS hA rfl hl.1 rfl (Nat.le_of_ble_eq_true rfl) dX2_possible_7 (fun r _ H locs hw hP hD hS => ?_)
  subst hw
  have hP : va_P D vwCl (wM ad d E O G (nI n) (nI m) (nI w)) H := hP
  have hD : va_D A (wM ad d E O G (nI n) (nI m) (nI w)) := hD
  refine lv_if_ge (tgt := 17) hx hb dX2_possible_10 (by decide) (fun c_10 => ?_) (fun c_10 => ?_)
  · obtain ⟨j, hj⟩ := sI_pos' c_10
    refine lv_iconst (v := 1) hx hb dX2_possible_17 (by decide) ?_
    exact w_iret hx hb hr hlocks () (by rw [hj]; rfl) hP hK hD hS dX2_possible_18
  · have hnone := sI_neg' (fun j h => Nat.lt_trans (be_lt hm12 h) (by decide)) c_10
    refine lv_iconst (v := 0) hx hb dX2_possible_13 (by decide) ?_
    refine lv_goto (tgt := 18) hx hb dX2_possible_14 (by decide) ?_
    exact w_iret hx hb hr hlocks () (by rw [hnone]; rfl) hP hK hD hS dX2_possible_18
set_option maxHeartbeats 4000000 in
set_option maxRecDepth 100000 in
theorem mX2_joins (l : Launch) (D : va_G) (d : ClassId) (ad : Nat → Nat) (E O G : Nat → Int32) (n m w : Nat) (a b : Nat → Nat) (g : Nat → Int) (hR : Rep n m w a b g E O G) : MI_ l yX2_joins (ws_ yX2_joins cX2_joins 3 (some .int)) rq3 D d (wM ad d E O G (nI n) (nI m) (nI w)) (fun u : Unit => (wM ad d E O G (nI n) (nI m) (nI w))) [.ref (ad 0)] (fun (r : Int32) u => r = nI (cjN a b m w (2 ^ m))) := by
  have hR0 := hR
  obtain ⟨⟨⟨hn2, hn7, hm12, hw7⟩, hok⟩, hE⟩ := hR0
  have h2m : 2 ^ m ≤ 4096 := Nat.pow_le_pow_right (n := 2) (by decide) hm12
  have hokg := hR.1
  have hw128 : w < 128 := Nat.lt_of_lt_of_le hw7 (Nat.pow_le_pow_right (n := 2) (by decide) hn7)
  refine MI_mk (lv := [(0, .ref (ad 0))]) (by decide) (Nat.le_of_ble_eq_true rfl) rfl fun pg en s mm below meth cd A ls hx hb hr hlocks hml hown hts hA hP hK hD hS hl => ?_
  have hown : s.vm.findClass RX2 = some mm.cls := hown
  refine w_start fun H locs hH hL => ?_
  rw [← hH] at hP
  replace hS : va_S A s.heap H locs := by rw [hL, hH]; exact va_S.rf
  refine lv_iconst (v := nI 0) hx hb dX2_joins_0 (by decide) ?_
  refine lv_istore_n (lv' := [(1, .int (nI 0)), (0, .ref (ad 0))]) hx hb dX2_joins_1 rfl hl (by decide) rfl (fun ls hl => ?_)
  refine lv_iconst (v := nI 0) hx hb dX2_joins_2 (by decide) ?_
  refine lv_istore_n (lv' := [(2, .int (nI 0)), (1, .int (nI 0)), (0, .ref (ad 0))]) hx hb dX2_joins_3 rfl hl (by decide) rfl (fun ls hl => ?_)
  refine w_for (σ := Unit) (2 ^ m) (fun u => (wM ad d E O G (nI n) (nI m) (nI w))) (fun i u => [(0, .ref (ad 0)), (1, .int (nI (cjN a b m w i))), (2, .int (nI i))]) (fun i u => True) (fun i hi_i IH_i u H locs ls hI_i hP hD hS hl => ?_) (i0 := 0) (Nat.zero_le _) () trivial hP hD hS (lv_sub hl [2, 1, 0] rfl)
  have hP : va_P D vwCl (wM ad d E O G (nI n) (nI m) (nI w)) H := hP
  have hD : va_D A (wM ad d E O G (nI n) (nI m) (nI w)) := hD
  have hl : lv_has ls 3 [(0, .ref (ad 0)), (1, .int (nI (cjN a b m w i))), (2, .int (nI i))] := hl
  refine lv_iload_n hx hb dX2_joins_4 rfl (lv_at hl 2 rfl) ?_
  refine lv_iconst (v := 1) hx hb dX2_joins_5 (by decide) ?_
  refine lv_aload_n hx hb dX2_joins_6 rfl (lv_at hl 0 rfl) ?_
  refine va_get (D := D) (ci := 1) (v := .int (nI m)) (C := RX2) (T := TX2) (N := 6) hx hb hts in_X2 hown hK hP 0 rfl rfl 1 (by decide) (hts _ q199) (fun _ h9 => h9) rfl dX2_joins_7 ?_
  refine lv_ishl hx hb dX2_joins_10 ?_
  refine w_top (y := nI (2 ^ m)) (b_shl1 _ (by omega)) ?_
  refine lv_icmp_ge (tgt := 35) hx hb dX2_joins_11 (by decide) (fun c_11 => ?_) (fun c_11 => ?_)
  · have him_i : i = 2 ^ m := by have := le_c c_11; omega
    refine lv_iload_n hx hb dX2_joins_35 rfl (lv_at hl 1 rfl) ?_
    exact w_iret hx hb hr hlocks () (by rw [him_i]) hP hK hD hS dX2_joins_36
  · have hlt_i : i < 2 ^ m := nle_c c_11
    have hi4 : i < 4096 := by omega
    refine lv_aload_n hx hb dX2_joins_14 rfl (lv_at hl 0 rfl) ?_
    refine lv_iload_n hx hb dX2_joins_15 rfl (lv_at hl 2 rfl) ?_
    refine w_mi (As := [.int (nI i)]) (rest := []) ⟨hx, hb, hml, hown, hts⟩ (mX2_odd l D d ad E O G n m w a b g hR i hi4) (cwV 1 hts (lw_V q257 q259 qs16 q23 q260) rfl rfl rfl (by decide +kernel) ⟨Nat.le_of_ble_eq_true rfl, Nat.le_of_ble_eq_true rfl⟩) hP hK hD hS hA rfl hl.1 rfl (Nat.le_of_ble_eq_true rfl) dX2_joins_16 (fun r _ H locs hw hP hD hS => ?_)
    subst hw
    have hP : va_P D vwCl (wM ad d E O G (nI n) (nI m) (nI w)) H := hP
    have hD : va_D A (wM ad d E O G (nI n) (nI m) (nI w)) := hD
    refine lv_aload_n hx hb dX2_joins_19 rfl (lv_at hl 0 rfl) ?_
    refine va_get (D := D) (ci := 1) (v := .int (nI w)) (C := RX2) (T := TX2) (N := 6) hx hb hts in_X2 hown hK hP 0 rfl rfl 5 (by decide) (hts _ q203) (fun _ h9 => h9) rfl dX2_joins_20 ?_
    refine lv_icmp_ne (tgt := 29) hx hb dX2_joins_23 (by decide) (fun c_23 => ?_) (fun c_23 => ?_)
    · have hstep : cjN a b m w (i + 1) = cjN a b m w i := if_neg (fun h => c_23 (by rw [h]))
      refine lv_iinc (v := (nI (i + 1))) (lv' := [(2, .int (nI (i + 1))), (0, .ref (ad 0)), (1, .int (nI (cjN a b m w i)))]) hx hb dX2_joins_29 hl (k := 2) rfl (nI_1 i) (by decide) rfl (fun ls hl => ?_)
      refine lv_goto (tgt := 4) hx hb dX2_joins_32 (by decide) ?_
      have hl : lv_has ls 3 [(0, .ref (ad 0)), (1, .int (nI (cjN a b m w (i + 1)))), (2, .int (nI (i + 1)))] := by rw [hstep]; exact lv_sub hl [1, 2, 0] rfl
      exact IH_i () _ _ _ hlt_i trivial hP hD hS hl
    · have hstep : cjN a b m w (i + 1) = cjN a b m w i + 1 := if_pos (eq_c c_23 (Nat.lt_trans (odd128 hokg) (by decide)) (by omega))
      refine lv_iinc (v := (nI (cjN a b m w i + 1))) (lv' := [(1, .int (nI (cjN a b m w i + 1))), (0, .ref (ad 0)), (2, .int (nI i))]) hx hb dX2_joins_26 hl (k := 1) rfl (nI_1 _) (by decide) rfl (fun ls hl => ?_)
      refine lv_iinc (v := (nI (i + 1))) (lv' := [(2, .int (nI (i + 1))), (1, .int (nI (cjN a b m w i + 1))), (0, .ref (ad 0))]) hx hb dX2_joins_29 hl (k := 2) rfl (nI_1 i) (by decide) rfl (fun ls hl => ?_)
      refine lv_goto (tgt := 4) hx hb dX2_joins_32 (by decide) ?_
      have hl : lv_has ls 3 [(0, .ref (ad 0)), (1, .int (nI (cjN a b m w (i + 1)))), (2, .int (nI (i + 1)))] := by rw [hstep]; exact lv_sub hl [2, 1, 0] rfl
      exact IH_i () _ _ _ hlt_i trivial hP hD hS hl
set_option maxHeartbeats 4000000 in
set_option maxRecDepth 100000 in
theorem mX2_best (l : Launch) (D : va_G) (d : ClassId) (ad : Nat → Nat) (E O G : Nat → Int32) (n m w : Nat) (a b : Nat → Nat) (g : Nat → Int) (hR : Rep n m w a b g E O G) : MI_ l yX2_best (ws_ yX2_best cX2_best 2 (some .int)) rq3 D d (wM ad d E O G (nI n) (nI m) (nI w)) (fun u : Unit => (wM ad d E O G (nI n) (nI m) (nI w))) [.ref (ad 0)] (fun (r : Int32) u => r = wI g m (beN a b g m w 0 0)) := by
  have hR0 := hR
  obtain ⟨⟨⟨hn2, hn7, hm12, hw7⟩, hok⟩, hE⟩ := hR0
  have hw128 : w < 128 := Nat.lt_of_lt_of_le hw7 (Nat.pow_le_pow_right (n := 2) (by decide) hn7)
  refine MI_mk (lv := [(0, .ref (ad 0))]) (by decide) (Nat.le_of_ble_eq_true rfl) rfl fun pg en s mm below meth cd A ls hx hb hr hlocks hml hown hts hA hP hK hD hS hl => ?_
  have hown : s.vm.findClass RX2 = some mm.cls := hown
  refine w_start fun H locs hH hL => ?_
  rw [← hH] at hP
  replace hS : va_S A s.heap H locs := by rw [hL, hH]; exact va_S.rf
  refine lv_aload_n hx hb dX2_best_0 rfl (lv_at hl 0 rfl) ?_
  refine lv_aload_n hx hb dX2_best_1 rfl (lv_at hl 0 rfl) ?_
  refine va_get (D := D) (ci := 1) (v := .int (nI w)) (C := RX2) (T := TX2) (N := 6) hx hb hts in_X2 hown hK hP 0 rfl rfl 5 (by decide) (hts _ q203) (fun _ h9 => h9) rfl dX2_best_2 ?_
  refine lv_iconst (v := nI 0) hx hb dX2_best_5 (by decide) ?_
  refine lv_iconst (v := nI 0) hx hb dX2_best_6 (by decide) ?_
  refine w_mi (As := [.int (nI w), .int (nI 0), .int (nI 0)]) (rest := []) ⟨hx, hb, hml, hown, hts⟩ (mX2_search l D d ad E O G n m w a b g hR (w) (0) (0) hw128 (by decide) (by decide)) (cwV 3 hts (lw_V q265 q267 qs17 q23 q268) rfl rfl rfl (by decide +kernel) ⟨Nat.le_of_ble_eq_true rfl, Nat.le_of_ble_eq_true rfl⟩) hP hK hD hS hA rfl hl.1 rfl (Nat.le_of_ble_eq_true rfl) dX2_best_7 (fun r _ H locs hw hP hD hS => ?_)
  subst hw
  have hP : va_P D vwCl (wM ad d E O G (nI n) (nI m) (nI w)) H := hP
  have hD : va_D A (wM ad d E O G (nI n) (nI m) (nI w)) := hD
  refine lv_istore_n (lv' := [(1, .int (sI (beN a b g m (w) (0) (0)))), (0, .ref (ad 0))]) hx hb dX2_best_10 rfl hl (by decide) rfl (fun ls hl => ?_)
  refine lv_aload_n hx hb dX2_best_11 rfl (lv_at hl 1 rfl) ?_
  refine lv_iload_n hx hb dX2_best_12 rfl (lv_at hl 0 rfl) ?_
  refine w_mi (As := [.int (sI (beN a b g m (w) (0) (0)))]) (rest := []) ⟨hx, hb, hml, hown, hts⟩ (mX2_weightOf l D d ad E O G n m w a b g hR (beN a b g m (w) (0) (0)) (fun j h => be_lt hm12 h)) (cwV 1 hts (lw_V q281 q283 qs19 q23 q284) rfl rfl rfl (by decide +kernel) ⟨Nat.le_of_ble_eq_true rfl, Nat.le_of_ble_eq_true rfl⟩) hP hK hD hS hA rfl hl.1 rfl (Nat.le_of_ble_eq_true rfl) dX2_best_13 (fun r _ H locs hw hP hD hS => ?_)
  subst hw
  have hP : va_P D vwCl (wM ad d E O G (nI n) (nI m) (nI w)) H := hP
  have hD : va_D A (wM ad d E O G (nI n) (nI m) (nI w)) := hD
  exact w_iret hx hb hr hlocks () rfl hP hK hD hS dX2_best_16
set_option maxHeartbeats 4000000 in
set_option maxRecDepth 100000 in
theorem mX2_bestSet (l : Launch) (D : va_G) (d : ClassId) (ad : Nat → Nat) (E O G : Nat → Int32) (n m w : Nat) (a b : Nat → Nat) (g : Nat → Int) (hR : Rep n m w a b g E O G) : MI_ l yX2_bestSet (ws_ yX2_bestSet cX2_bestSet 1 (some .int)) rq3 D d (wM ad d E O G (nI n) (nI m) (nI w)) (fun u : Unit => (wM ad d E O G (nI n) (nI m) (nI w))) [.ref (ad 0)] (fun (r : Int32) u => r = sI (beN a b g m w 0 0)) := by
  have hR0 := hR
  obtain ⟨⟨⟨hn2, hn7, hm12, hw7⟩, hok⟩, hE⟩ := hR0
  have hw128 : w < 128 := Nat.lt_of_lt_of_le hw7 (Nat.pow_le_pow_right (n := 2) (by decide) hn7)
  refine MI_mk (lv := [(0, .ref (ad 0))]) (by decide) (Nat.le_of_ble_eq_true rfl) rfl fun pg en s mm below meth cd A ls hx hb hr hlocks hml hown hts hA hP hK hD hS hl => ?_
  have hown : s.vm.findClass RX2 = some mm.cls := hown
  refine w_start fun H locs hH hL => ?_
  rw [← hH] at hP
  replace hS : va_S A s.heap H locs := by rw [hL, hH]; exact va_S.rf
  refine lv_aload_n hx hb dX2_bestSet_0 rfl (lv_at hl 0 rfl) ?_
  refine lv_aload_n hx hb dX2_bestSet_1 rfl (lv_at hl 0 rfl) ?_
  refine va_get (D := D) (ci := 1) (v := .int (nI w)) (C := RX2) (T := TX2) (N := 6) hx hb hts in_X2 hown hK hP 0 rfl rfl 5 (by decide) (hts _ q203) (fun _ h9 => h9) rfl dX2_bestSet_2 ?_
  refine lv_iconst (v := nI 0) hx hb dX2_bestSet_5 (by decide) ?_
  refine lv_iconst (v := nI 0) hx hb dX2_bestSet_6 (by decide) ?_
  refine w_mi (As := [.int (nI w), .int (nI 0), .int (nI 0)]) (rest := []) ⟨hx, hb, hml, hown, hts⟩ (mX2_search l D d ad E O G n m w a b g hR (w) (0) (0) hw128 (by decide) (by decide)) (cwV 3 hts (lw_V q265 q267 qs17 q23 q268) rfl rfl rfl (by decide +kernel) ⟨Nat.le_of_ble_eq_true rfl, Nat.le_of_ble_eq_true rfl⟩) hP hK hD hS hA rfl hl.1 rfl (Nat.le_of_ble_eq_true rfl) dX2_bestSet_7 (fun r _ H locs hw hP hD hS => ?_)
  subst hw
  have hP : va_P D vwCl (wM ad d E O G (nI n) (nI m) (nI w)) H := hP
  have hD : va_D A (wM ad d E O G (nI n) (nI m) (nI w)) := hD
  exact w_iret hx hb hr hlocks () rfl hP hK hD hS dX2_bestSet_10
set_option maxHeartbeats 4000000 in
set_option maxRecDepth 100000 in
theorem mX2_bestWith (l : Launch) (D : va_G) (d : ClassId) (ad : Nat → Nat) (E O G : Nat → Int32) (n m w : Nat) (a b : Nat → Nat) (g : Nat → Int) (hR : Rep n m w a b g E O G) (x : Int32) : MI_ l yX2_bestWith (ws_ yX2_bestWith cX2_bestWith 3 (some .int)) rq3 D d (wM ad d E O G (nI n) (nI m) (nI w)) (fun u : Unit => (wM ad d E O G (nI n) (nI m) (nI w))) [.ref (ad 0), .int x] (fun (r : Int32) u => WitR m w a b g x r) := by
  have hR0 := hR
  obtain ⟨⟨⟨hn2, hn7, hm12, hw7⟩, hok⟩, hE⟩ := hR0
  have hw128 : w < 128 := Nat.lt_of_lt_of_le hw7 (Nat.pow_le_pow_right (n := 2) (by decide) hn7)
  refine MI_mk (lv := [(0, .ref (ad 0)), (1, .int x)]) (by decide) (Nat.le_of_ble_eq_true rfl) rfl fun pg en s mm below meth cd A ls hx hb hr hlocks hml hown hts hA hP hK hD hS hl => ?_
  have hown : s.vm.findClass RX2 = some mm.cls := hown
  refine w_start fun H locs hH hL => ?_
  rw [← hH] at hP
  replace hS : va_S A s.heap H locs := by rw [hL, hH]; exact va_S.rf
  refine lv_aload_n hx hb dX2_bestWith_0 rfl (lv_at hl 0 rfl) ?_
  refine lv_iload_n hx hb dX2_bestWith_1 rfl (lv_at hl 1 rfl) ?_
  refine w_mi (As := [.int x]) (rest := []) ⟨hx, hb, hml, hown, hts⟩ (mX2_badRoad l D d ad E O G n m w a b g hR x) (cwV 1 hts (lw_V q233 q235 qs15 q23 q236) rfl rfl rfl (by decide +kernel) ⟨Nat.le_of_ble_eq_true rfl, Nat.le_of_ble_eq_true rfl⟩) hP hK hD hS hA rfl hl.1 rfl (Nat.le_of_ble_eq_true rfl) dX2_bestWith_2 (fun r1 _ H locs hw1 hP hD hS => ?_)
  have hP : va_P D vwCl (wM ad d E O G (nI n) (nI m) (nI w)) H := hP
  have hD : va_D A (wM ad d E O G (nI n) (nI m) (nI w)) := hD
  refine lv_if_eq (tgt := 12) hx hb dX2_bestWith_5 (by decide) (fun c_5 => ?_) (fun c_5 => ?_)
  · obtain ⟨j, hj, rfl⟩ := or_f hw1 c_5
    have h2j : 2 ^ j < 4096 := Nat.pow_lt_pow_right (a := 2) (n := 12) (by decide) (by omega)
    refine lv_aload_n hx hb dX2_bestWith_12 rfl (lv_at hl 0 rfl) ?_
    refine lv_aload_n hx hb dX2_bestWith_13 rfl (lv_at hl 0 rfl) ?_
    refine va_get (D := D) (ci := 1) (v := .int (nI w)) (C := RX2) (T := TX2) (N := 6) hx hb hts in_X2 hown hK hP 0 rfl rfl 5 (by decide) (hts _ q203) (fun _ h9 => h9) rfl dX2_bestWith_14 ?_
    refine lv_iconst (v := 1) hx hb dX2_bestWith_17 (by decide) ?_
    refine lv_iload_n hx hb dX2_bestWith_18 rfl (lv_at hl 1 rfl) ?_
    refine lv_ishl hx hb dX2_bestWith_19 ?_
    refine w_top (y := nI (2 ^ j)) (b_shl1 _ (by omega)) ?_
    refine lv_iconst (v := nI 0) hx hb dX2_bestWith_20 (by decide) ?_
    refine w_mi (As := [.int (nI w), .int (nI (2 ^ j)), .int (nI 0)]) (rest := []) ⟨hx, hb, hml, hown, hts⟩ (mX2_search l D d ad E O G n m w a b g hR (w) (2 ^ j) (0) hw128 h2j (by decide)) (cwV 3 hts (lw_V q265 q267 qs17 q23 q268) rfl rfl rfl (by decide +kernel) ⟨Nat.le_of_ble_eq_true rfl, Nat.le_of_ble_eq_true rfl⟩) hP hK hD hS hA rfl hl.1 rfl (Nat.le_of_ble_eq_true rfl) dX2_bestWith_21 (fun r _ H locs hw hP hD hS => ?_)
    subst hw
    have hP : va_P D vwCl (wM ad d E O G (nI n) (nI m) (nI w)) H := hP
    have hD : va_D A (wM ad d E O G (nI n) (nI m) (nI w)) := hD
    refine lv_istore_n (lv' := [(2, .int (sI (beN a b g m (w) (2 ^ j) (0)))), (0, .ref (ad 0)), (1, .int (nI j))]) hx hb dX2_bestWith_24 rfl hl (by decide) rfl (fun ls hl => ?_)
    refine lv_aload_n hx hb dX2_bestWith_25 rfl (lv_at hl 1 rfl) ?_
    refine lv_iload_n hx hb dX2_bestWith_26 rfl (lv_at hl 0 rfl) ?_
    refine w_mi (As := [.int (sI (beN a b g m (w) (2 ^ j) (0)))]) (rest := []) ⟨hx, hb, hml, hown, hts⟩ (mX2_weightOf l D d ad E O G n m w a b g hR (beN a b g m (w) (2 ^ j) (0)) (fun j h => be_lt hm12 h)) (cwV 1 hts (lw_V q281 q283 qs19 q23 q284) rfl rfl rfl (by decide +kernel) ⟨Nat.le_of_ble_eq_true rfl, Nat.le_of_ble_eq_true rfl⟩) hP hK hD hS hA rfl hl.1 rfl (Nat.le_of_ble_eq_true rfl) dX2_bestWith_27 (fun r _ H locs hw hP hD hS => ?_)
    subst hw
    have hP : va_P D vwCl (wM ad d E O G (nI n) (nI m) (nI w)) H := hP
    have hD : va_D A (wM ad d E O G (nI n) (nI m) (nI w)) := hD
    exact w_iret hx hb hr hlocks () (Or.inr ⟨j, hj, rfl, rfl⟩) hP hK hD hS dX2_bestWith_30
  · refine lv_sipush (v := (-2000)) hx hb dX2_bestWith_8 (by decide) ?_
    exact w_iret hx hb hr hlocks () (Or.inl ⟨or_t hw1 c_5, rfl⟩) hP hK hD hS dX2_bestWith_11
set_option maxHeartbeats 4000000 in
set_option maxRecDepth 100000 in
theorem mX2_bestWithout (l : Launch) (D : va_G) (d : ClassId) (ad : Nat → Nat) (E O G : Nat → Int32) (n m w : Nat) (a b : Nat → Nat) (g : Nat → Int) (hR : Rep n m w a b g E O G) (x : Int32) : MI_ l yX2_bestWithout (ws_ yX2_bestWithout cX2_bestWithout 3 (some .int)) rq3 D d (wM ad d E O G (nI n) (nI m) (nI w)) (fun u : Unit => (wM ad d E O G (nI n) (nI m) (nI w))) [.ref (ad 0), .int x] (fun (r : Int32) u => WoutR m w a b g x r) := by
  have hR0 := hR
  obtain ⟨⟨⟨hn2, hn7, hm12, hw7⟩, hok⟩, hE⟩ := hR0
  have hw128 : w < 128 := Nat.lt_of_lt_of_le hw7 (Nat.pow_le_pow_right (n := 2) (by decide) hn7)
  refine MI_mk (lv := [(0, .ref (ad 0)), (1, .int x)]) (by decide) (Nat.le_of_ble_eq_true rfl) rfl fun pg en s mm below meth cd A ls hx hb hr hlocks hml hown hts hA hP hK hD hS hl => ?_
  have hown : s.vm.findClass RX2 = some mm.cls := hown
  refine w_start fun H locs hH hL => ?_
  rw [← hH] at hP
  replace hS : va_S A s.heap H locs := by rw [hL, hH]; exact va_S.rf
  refine lv_aload_n hx hb dX2_bestWithout_0 rfl (lv_at hl 0 rfl) ?_
  refine lv_iload_n hx hb dX2_bestWithout_1 rfl (lv_at hl 1 rfl) ?_
  refine w_mi (As := [.int x]) (rest := []) ⟨hx, hb, hml, hown, hts⟩ (mX2_badRoad l D d ad E O G n m w a b g hR x) (cwV 1 hts (lw_V q233 q235 qs15 q23 q236) rfl rfl rfl (by decide +kernel) ⟨Nat.le_of_ble_eq_true rfl, Nat.le_of_ble_eq_true rfl⟩) hP hK hD hS hA rfl hl.1 rfl (Nat.le_of_ble_eq_true rfl) dX2_bestWithout_2 (fun r1 _ H locs hw1 hP hD hS => ?_)
  have hP : va_P D vwCl (wM ad d E O G (nI n) (nI m) (nI w)) H := hP
  have hD : va_D A (wM ad d E O G (nI n) (nI m) (nI w)) := hD
  refine lv_if_eq (tgt := 12) hx hb dX2_bestWithout_5 (by decide) (fun c_5 => ?_) (fun c_5 => ?_)
  · obtain ⟨j, hj, rfl⟩ := or_f hw1 c_5
    have h2j : 2 ^ j < 4096 := Nat.pow_lt_pow_right (a := 2) (n := 12) (by decide) (by omega)
    refine lv_aload_n hx hb dX2_bestWithout_12 rfl (lv_at hl 0 rfl) ?_
    refine lv_aload_n hx hb dX2_bestWithout_13 rfl (lv_at hl 0 rfl) ?_
    refine va_get (D := D) (ci := 1) (v := .int (nI w)) (C := RX2) (T := TX2) (N := 6) hx hb hts in_X2 hown hK hP 0 rfl rfl 5 (by decide) (hts _ q203) (fun _ h9 => h9) rfl dX2_bestWithout_14 ?_
    refine lv_iconst (v := nI 0) hx hb dX2_bestWithout_17 (by decide) ?_
    refine lv_iconst (v := 1) hx hb dX2_bestWithout_18 (by decide) ?_
    refine lv_iload_n hx hb dX2_bestWithout_19 rfl (lv_at hl 1 rfl) ?_
    refine lv_ishl hx hb dX2_bestWithout_20 ?_
    refine w_top (y := nI (2 ^ j)) (b_shl1 _ (by omega)) ?_
    refine w_mi (As := [.int (nI w), .int (nI 0), .int (nI (2 ^ j))]) (rest := []) ⟨hx, hb, hml, hown, hts⟩ (mX2_search l D d ad E O G n m w a b g hR (w) (0) (2 ^ j) hw128 (by decide) h2j) (cwV 3 hts (lw_V q265 q267 qs17 q23 q268) rfl rfl rfl (by decide +kernel) ⟨Nat.le_of_ble_eq_true rfl, Nat.le_of_ble_eq_true rfl⟩) hP hK hD hS hA rfl hl.1 rfl (Nat.le_of_ble_eq_true rfl) dX2_bestWithout_21 (fun r _ H locs hw hP hD hS => ?_)
    subst hw
    have hP : va_P D vwCl (wM ad d E O G (nI n) (nI m) (nI w)) H := hP
    have hD : va_D A (wM ad d E O G (nI n) (nI m) (nI w)) := hD
    refine lv_istore_n (lv' := [(2, .int (sI (beN a b g m (w) (0) (2 ^ j)))), (0, .ref (ad 0)), (1, .int (nI j))]) hx hb dX2_bestWithout_24 rfl hl (by decide) rfl (fun ls hl => ?_)
    refine lv_aload_n hx hb dX2_bestWithout_25 rfl (lv_at hl 1 rfl) ?_
    refine lv_iload_n hx hb dX2_bestWithout_26 rfl (lv_at hl 0 rfl) ?_
    refine w_mi (As := [.int (sI (beN a b g m (w) (0) (2 ^ j)))]) (rest := []) ⟨hx, hb, hml, hown, hts⟩ (mX2_weightOf l D d ad E O G n m w a b g hR (beN a b g m (w) (0) (2 ^ j)) (fun j h => be_lt hm12 h)) (cwV 1 hts (lw_V q281 q283 qs19 q23 q284) rfl rfl rfl (by decide +kernel) ⟨Nat.le_of_ble_eq_true rfl, Nat.le_of_ble_eq_true rfl⟩) hP hK hD hS hA rfl hl.1 rfl (Nat.le_of_ble_eq_true rfl) dX2_bestWithout_27 (fun r _ H locs hw hP hD hS => ?_)
    subst hw
    have hP : va_P D vwCl (wM ad d E O G (nI n) (nI m) (nI w)) H := hP
    have hD : va_D A (wM ad d E O G (nI n) (nI m) (nI w)) := hD
    exact w_iret hx hb hr hlocks () (Or.inr ⟨j, hj, rfl, rfl⟩) hP hK hD hS dX2_bestWithout_30
  · refine lv_sipush (v := (-2000)) hx hb dX2_bestWithout_8 (by decide) ?_
    exact w_iret hx hb hr hlocks () (Or.inl ⟨or_t hw1 c_5, rfl⟩) hP hK hD hS dX2_bestWithout_11
set_option maxHeartbeats 4000000 in
set_option maxRecDepth 100000 in
theorem mX2_between (l : Launch) (D : va_G) (d : ClassId) (ad : Nat → Nat) (E O G : Nat → Int32) (n m w : Nat) (a b : Nat → Nat) (g : Nat → Int) (hR : Rep n m w a b g E O G) (x y : Int32) : MI_ l yX2_between (ws_ yX2_between cX2_between 4 (some .int)) rq3 D d (wM ad d E O G (nI n) (nI m) (nI w)) (fun u : Unit => (wM ad d E O G (nI n) (nI m) (nI w))) [.ref (ad 0), .int x, .int y] (fun (r : Int32) u => BetR n m a b g x y r) := by
  have hR0 := hR
  obtain ⟨⟨⟨hn2, hn7, hm12, hw7⟩, hok⟩, hE⟩ := hR0
  refine MI_mk (lv := [(0, .ref (ad 0)), (1, .int x), (2, .int y)]) (by decide) (Nat.le_of_ble_eq_true rfl) rfl fun pg en s mm below meth cd A ls hx hb hr hlocks hml hown hts hA hP hK hD hS hl => ?_
  have hown : s.vm.findClass RX2 = some mm.cls := hown
  refine w_start fun H locs hH hL => ?_
  rw [← hH] at hP
  replace hS : va_S A s.heap H locs := by rw [hL, hH]; exact va_S.rf
  refine lv_aload_n hx hb dX2_between_0 rfl (lv_at hl 0 rfl) ?_
  refine lv_iload_n hx hb dX2_between_1 rfl (lv_at hl 1 rfl) ?_
  refine w_mi (As := [.int x]) (rest := []) ⟨hx, hb, hml, hown, hts⟩ (mX2_bad l D d ad E O G n m w a b g hR x) (cwV 1 hts (lw_V q221 q223 qs13 q23 q224) rfl rfl rfl (by decide +kernel) ⟨Nat.le_of_ble_eq_true rfl, Nat.le_of_ble_eq_true rfl⟩) hP hK hD hS hA rfl hl.1 rfl (Nat.le_of_ble_eq_true rfl) dX2_between_2 (fun r1 _ H locs hw1 hP hD hS => ?_)
  have hP : va_P D vwCl (wM ad d E O G (nI n) (nI m) (nI w)) H := hP
  have hD : va_D A (wM ad d E O G (nI n) (nI m) (nI w)) := hD
  refine lv_if_ne (tgt := 16) hx hb dX2_between_5 (by decide) (fun c_5 => ?_) (fun c_5 => ?_)
  · have hbad := or_t hw1 c_5
    refine lv_sipush (v := (-2000)) hx hb dX2_between_16 (by decide) ?_
    exact w_iret hx hb hr hlocks () (Or.inl ⟨by first | exact fun q => hbad q.1 | exact fun q => or_t hw2 c_13 q.2, rfl⟩) hP hK hD hS dX2_between_19
  · have hx1 := or_f hw1 c_5
    refine lv_aload_n hx hb dX2_between_8 rfl (lv_at hl 0 rfl) ?_
    refine lv_iload_n hx hb dX2_between_9 rfl (lv_at hl 2 rfl) ?_
    refine w_mi (As := [.int y]) (rest := []) ⟨hx, hb, hml, hown, hts⟩ (mX2_bad l D d ad E O G n m w a b g hR y) (cwV 1 hts (lw_V q221 q223 qs13 q23 q224) rfl rfl rfl (by decide +kernel) ⟨Nat.le_of_ble_eq_true rfl, Nat.le_of_ble_eq_true rfl⟩) hP hK hD hS hA rfl hl.1 rfl (Nat.le_of_ble_eq_true rfl) dX2_between_10 (fun r2 _ H locs hw2 hP hD hS => ?_)
    have hP : va_P D vwCl (wM ad d E O G (nI n) (nI m) (nI w)) H := hP
    have hD : va_D A (wM ad d E O G (nI n) (nI m) (nI w)) := hD
    refine lv_if_eq (tgt := 20) hx hb dX2_between_13 (by decide) (fun c_13 => ?_) (fun c_13 => ?_)
    · obtain ⟨i, hi, rfl⟩ := hx1
      obtain ⟨j, hj, rfl⟩ := or_f hw2 c_13
      refine lv_aload_n hx hb dX2_between_20 rfl (lv_at hl 0 rfl) ?_
      refine lv_iconst (v := 1) hx hb dX2_between_21 (by decide) ?_
      refine lv_iload_n hx hb dX2_between_22 rfl (lv_at hl 1 rfl) ?_
      refine lv_ishl hx hb dX2_between_23 ?_
      refine w_top (y := nI (2 ^ i)) (b_shl1 _ (by omega)) ?_
      refine lv_iconst (v := 1) hx hb dX2_between_24 (by decide) ?_
      refine lv_iload_n hx hb dX2_between_25 rfl (lv_at hl 2 rfl) ?_
      refine lv_ishl hx hb dX2_between_26 ?_
      refine w_top (y := nI (2 ^ j)) (b_shl1 _ (by omega)) ?_
      refine lv_ixor hx hb dX2_between_27 ?_
      refine w_top (y := nI (2 ^ i ^^^ 2 ^ j)) (nx_xor _ _) ?_
      refine lv_iconst (v := nI 0) hx hb dX2_between_28 (by decide) ?_
      refine lv_iconst (v := nI 0) hx hb dX2_between_29 (by decide) ?_
      refine w_mi (As := [.int (nI (2 ^ i ^^^ 2 ^ j)), .int (nI 0), .int (nI 0)]) (rest := []) ⟨hx, hb, hml, hown, hts⟩ (mX2_search l D d ad E O G n m w a b g hR (2 ^ i ^^^ 2 ^ j) (0) (0) (Nat.xor_lt_two_pow (n := 7) (two7 (by omega)) (two7 (by omega))) (by decide) (by decide)) (cwV 3 hts (lw_V q265 q267 qs17 q23 q268) rfl rfl rfl (by decide +kernel) ⟨Nat.le_of_ble_eq_true rfl, Nat.le_of_ble_eq_true rfl⟩) hP hK hD hS hA rfl hl.1 rfl (Nat.le_of_ble_eq_true rfl) dX2_between_30 (fun r _ H locs hw hP hD hS => ?_)
      subst hw
      have hP : va_P D vwCl (wM ad d E O G (nI n) (nI m) (nI w)) H := hP
      have hD : va_D A (wM ad d E O G (nI n) (nI m) (nI w)) := hD
      refine lv_istore_n (lv' := [(3, .int (sI (beN a b g m (2 ^ i ^^^ 2 ^ j) (0) (0)))), (0, .ref (ad 0)), (1, .int (nI i)), (2, .int (nI j))]) hx hb dX2_between_33 rfl hl (by decide) rfl (fun ls hl => ?_)
      refine lv_aload_n hx hb dX2_between_34 rfl (lv_at hl 1 rfl) ?_
      refine lv_iload_n hx hb dX2_between_35 rfl (lv_at hl 0 rfl) ?_
      refine w_mi (As := [.int (sI (beN a b g m (2 ^ i ^^^ 2 ^ j) (0) (0)))]) (rest := []) ⟨hx, hb, hml, hown, hts⟩ (mX2_weightOf l D d ad E O G n m w a b g hR (beN a b g m (2 ^ i ^^^ 2 ^ j) (0) (0)) (fun j h => be_lt hm12 h)) (cwV 1 hts (lw_V q281 q283 qs19 q23 q284) rfl rfl rfl (by decide +kernel) ⟨Nat.le_of_ble_eq_true rfl, Nat.le_of_ble_eq_true rfl⟩) hP hK hD hS hA rfl hl.1 rfl (Nat.le_of_ble_eq_true rfl) dX2_between_36 (fun r _ H locs hw hP hD hS => ?_)
      subst hw
      have hP : va_P D vwCl (wM ad d E O G (nI n) (nI m) (nI w)) H := hP
      have hD : va_D A (wM ad d E O G (nI n) (nI m) (nI w)) := hD
      exact w_iret hx hb hr hlocks () (Or.inr ⟨i, j, hi, hj, rfl, rfl, rfl⟩) hP hK hD hS dX2_between_39
    · refine lv_sipush (v := (-2000)) hx hb dX2_between_16 (by decide) ?_
      exact w_iret hx hb hr hlocks () (Or.inl ⟨by first | exact fun q => hbad q.1 | exact fun q => or_t hw2 c_13 q.2, rfl⟩) hP hK hD hS dX2_between_19
set_option maxHeartbeats 4000000 in
set_option maxRecDepth 100000 in
theorem mX2_oddPlaces (l : Launch) (D : va_G) (d : ClassId) (ad : Nat → Nat) (E O G : Nat → Int32) (n m w : Nat) (a b : Nat → Nat) (g : Nat → Int) (hR : Rep n m w a b g E O G) : MI_ l yX2_oddPlaces (ws_ yX2_oddPlaces cX2_oddPlaces 1 (some .int)) rq3 D d (wM ad d E O G (nI n) (nI m) (nI w)) (fun u : Unit => (wM ad d E O G (nI n) (nI m) (nI w))) [.ref (ad 0)] (fun (r : Int32) u => r = nI (oddN a b (2 ^ m - 1) m)) := by
  have hR0 := hR
  obtain ⟨⟨⟨hn2, hn7, hm12, hw7⟩, hok⟩, hE⟩ := hR0
  have h2m : 2 ^ m ≤ 4096 := Nat.pow_le_pow_right (n := 2) (by decide) hm12
  refine MI_mk (lv := [(0, .ref (ad 0))]) (by decide) (Nat.le_of_ble_eq_true rfl) rfl fun pg en s mm below meth cd A ls hx hb hr hlocks hml hown hts hA hP hK hD hS hl => ?_
  have hown : s.vm.findClass RX2 = some mm.cls := hown
  refine w_start fun H locs hH hL => ?_
  rw [← hH] at hP
  replace hS : va_S A s.heap H locs := by rw [hL, hH]; exact va_S.rf
  refine lv_aload_n hx hb dX2_oddPlaces_0 rfl (lv_at hl 0 rfl) ?_
  refine lv_iconst (v := 1) hx hb dX2_oddPlaces_1 (by decide) ?_
  refine lv_aload_n hx hb dX2_oddPlaces_2 rfl (lv_at hl 0 rfl) ?_
  refine va_get (D := D) (ci := 1) (v := .int (nI m)) (C := RX2) (T := TX2) (N := 6) hx hb hts in_X2 hown hK hP 0 rfl rfl 1 (by decide) (hts _ q199) (fun _ h9 => h9) rfl dX2_oddPlaces_3 ?_
  refine lv_ishl hx hb dX2_oddPlaces_6 ?_
  refine w_top (y := nI (2 ^ m)) (b_shl1 _ (by omega)) ?_
  refine lv_iconst (v := 1) hx hb dX2_oddPlaces_7 (by decide) ?_
  refine lv_isub hx hb dX2_oddPlaces_8 ?_
  refine w_top (y := nI (2 ^ m - 1)) (pk_sub (a := 2 ^ m) (b := 1) (Nat.two_pow_pos m)) ?_
  refine w_mi (As := [.int (nI (2 ^ m - 1))]) (rest := []) ⟨hx, hb, hml, hown, hts⟩ (mX2_odd l D d ad E O G n m w a b g hR (2 ^ m - 1) (by omega)) (cwV 1 hts (lw_V q257 q259 qs16 q23 q260) rfl rfl rfl (by decide +kernel) ⟨Nat.le_of_ble_eq_true rfl, Nat.le_of_ble_eq_true rfl⟩) hP hK hD hS hA rfl hl.1 rfl (Nat.le_of_ble_eq_true rfl) dX2_oddPlaces_9 (fun r _ H locs hw hP hD hS => ?_)
  subst hw
  have hP : va_P D vwCl (wM ad d E O G (nI n) (nI m) (nI w)) H := hP
  have hD : va_D A (wM ad d E O G (nI n) (nI m) (nI w)) := hD
  exact w_iret hx hb hr hlocks () rfl hP hK hD hS dX2_oddPlaces_12
set_option maxHeartbeats 4000000 in
set_option maxRecDepth 100000 in
theorem mX2_whole (l : Launch) (D : va_G) (d : ClassId) (ad : Nat → Nat) (E O G : Nat → Int32) (n m w : Nat) (a b : Nat → Nat) (g : Nat → Int) (hR : Rep n m w a b g E O G) (hm0 : 0 < m) : MI_ l yX2_whole (ws_ yX2_whole cX2_whole 5 (some .boolean)) rq0 D d (wM ad d E O G (nI n) (nI m) (nI w)) (fun u : Unit => (wM ad d E O G (nI n) (nI m) (nI w))) [.ref (ad 0)] (fun (r : Int32) u => orI r (whN a b m) (¬ whN a b m)) := by
  have hR0 := hR
  obtain ⟨⟨⟨hn2, hn7, hm12, hw7⟩, hok⟩, hE⟩ := hR0
  have hab : ∀ e, e < m → a e < 7 ∧ b e < 7 := fun e he => ⟨Nat.lt_of_lt_of_le (hok e he).1 hn7, Nat.lt_of_lt_of_le (hok e he).2.1 hn7⟩
  refine MI_mk (lv := [(0, .ref (ad 0))]) (by decide) (Nat.le_of_ble_eq_true rfl) rfl fun pg en s mm below meth cd A ls hx hb hr hlocks hml hown hts hA hP hK hD hS hl => ?_
  have hown : s.vm.findClass RX2 = some mm.cls := hown
  refine w_start fun H locs hH hL => ?_
  rw [← hH] at hP
  replace hS : va_S A s.heap H locs := by rw [hL, hH]; exact va_S.rf
  refine lv_iconst (v := 1) hx hb dX2_whole_0 (by decide) ?_
  refine lv_aload_n hx hb dX2_whole_1 rfl (lv_at hl 0 rfl) ?_
  refine va_get (D := D) (ci := 1) (v := .ref (ad 1)) (C := RX2) (T := TX2) (N := 6) hx hb hts in_X2 hown hK hP 0 rfl rfl 2 (by decide) (hts _ q200) (fun _ h9 => h9) rfl dX2_whole_2 ?_
  refine lv_iconst (v := nI 0) hx hb dX2_whole_5 (by decide) ?_
  refine w_iald (v := (nI (a 0))) hx hb hK hP 1 0 rfl rfl (by omega) (by decide) (hE 0 hm0).1 dX2_whole_6 ?_
  refine lv_ishl hx hb dX2_whole_7 ?_
  refine w_top (y := nI (2 ^ a 0)) (b_shl1 _ (by have := hab 0 hm0; omega)) ?_
  refine lv_istore_n (lv' := [(1, .int (nI (2 ^ a 0))), (0, .ref (ad 0))]) hx hb dX2_whole_8 rfl hl (by decide) rfl (fun ls hl => ?_)
  refine lv_iconst (v := nI 0) hx hb dX2_whole_9 (by decide) ?_
  refine lv_istore_n (lv' := [(2, .int (nI 0)), (1, .int (nI (2 ^ a 0))), (0, .ref (ad 0))]) hx hb dX2_whole_10 rfl hl (by decide) rfl (fun ls hl => ?_)
  refine w_for (σ := Unit) (7) (fun u => (wM ad d E O G (nI n) (nI m) (nI w))) (fun k u => [(0, .ref (ad 0)), (1, .int (nI (rrN a b m k))), (2, .int (nI k))]) (fun k u => True) (fun k hi_k IH_k u H locs ls hI_k hP hD hS hl => ?_) (i0 := 0) (Nat.zero_le _) () trivial hP hD hS (lv_sub hl [2, 1, 0] rfl)
  have hP : va_P D vwCl (wM ad d E O G (nI n) (nI m) (nI w)) H := hP
  have hD : va_D A (wM ad d E O G (nI n) (nI m) (nI w)) := hD
  have hl : lv_has ls 5 [(0, .ref (ad 0)), (1, .int (nI (rrN a b m k))), (2, .int (nI k))] := hl
  refine lv_iload_n hx hb dX2_whole_11 rfl (lv_at hl 2 rfl) ?_
  refine lv_bipush (v := nI 7) hx hb dX2_whole_12 (by decide) ?_
  refine lv_icmp_ge (tgt := 76) hx hb dX2_whole_14 (by decide) (fun c_14 => ?_) (fun c_14 => ?_)
  · have him_k : k = 7 := by have := le_c c_14; omega
    rw [him_k] at hl
    refine lv_iconst (v := nI 0) hx hb dX2_whole_76 (by decide) ?_
    refine lv_istore_n (lv' := [(2, .int (nI 0)), (0, .ref (ad 0)), (1, .int (nI (rrN a b m 7)))]) hx hb dX2_whole_77 rfl hl (by decide) rfl (fun ls hl => ?_)
    refine w_for (σ := Unit) (m) (fun u => (wM ad d E O G (nI n) (nI m) (nI w))) (fun i u => [(0, .ref (ad 0)), (1, .int (nI (rrN a b m 7))), (2, .int (nI i))]) (fun i u => ∀ e, e < i → (rrN a b m 7).testBit (a e) = true) (fun i hi_i IH_i u H locs ls hI_i hP hD hS hl => ?_) (i0 := 0) (Nat.zero_le _) () (fun e h => absurd h (by omega)) hP hD hS (lv_sub hl [1, 2, 0] rfl)
    have hP : va_P D vwCl (wM ad d E O G (nI n) (nI m) (nI w)) H := hP
    have hD : va_D A (wM ad d E O G (nI n) (nI m) (nI w)) := hD
    have hl : lv_has ls 5 [(0, .ref (ad 0)), (1, .int (nI (rrN a b m 7))), (2, .int (nI i))] := hl
    have hI_i : ∀ e, e < i → (rrN a b m 7).testBit (a e) = true := hI_i
    refine lv_iload_n hx hb dX2_whole_78 rfl (lv_at hl 2 rfl) ?_
    refine lv_aload_n hx hb dX2_whole_79 rfl (lv_at hl 0 rfl) ?_
    refine va_get (D := D) (ci := 1) (v := .int (nI m)) (C := RX2) (T := TX2) (N := 6) hx hb hts in_X2 hown hK hP 0 rfl rfl 1 (by decide) (hts _ q199) (fun _ h9 => h9) rfl dX2_whole_80 ?_
    refine lv_icmp_ge (tgt := 113) hx hb dX2_whole_83 (by decide) (fun c_83 => ?_) (fun c_83 => ?_)
    · have him_i : i = m := by have := le_c c_83; omega
      refine lv_iconst (v := 1) hx hb dX2_whole_113 (by decide) ?_
      exact w_zret hx hb hr hlocks rfl () (Or.inl ⟨rfl, fun e he => hI_i e (by omega)⟩) hP hK hD hS dX2_whole_114
    · have hlt_i : i < m := nle_c c_83
      obtain ⟨hai, hbi, hg1i, hg2i⟩ := hok i hlt_i
      obtain ⟨hEi, hOi, hGi⟩ := hE i hlt_i
      refine lv_iload_n hx hb dX2_whole_86 rfl (lv_at hl 2 rfl) ?_
      refine lv_bipush (v := nI 12) hx hb dX2_whole_87 (by decide) ?_
      refine lv_icmp_ge (tgt := 113) hx hb dX2_whole_89 (by decide) (fun c_89 => ?_) (fun c_89 => ?_)
      · exact absurd (le_c c_89) (by omega)
      · refine lv_iload_n hx hb dX2_whole_92 rfl (lv_at hl 1 rfl) ?_
        refine lv_aload_n hx hb dX2_whole_93 rfl (lv_at hl 0 rfl) ?_
        refine va_get (D := D) (ci := 1) (v := .ref (ad 1)) (C := RX2) (T := TX2) (N := 6) hx hb hts in_X2 hown hK hP 0 rfl rfl 2 (by decide) (hts _ q200) (fun _ h9 => h9) rfl dX2_whole_94 ?_
        refine lv_iload_n hx hb dX2_whole_97 rfl (lv_at hl 2 rfl) ?_
        refine w_iald (v := (nI (a i))) hx hb hK hP 1 0 rfl rfl (by omega) (by decide) hEi dX2_whole_98 ?_
        refine lv_ishr hx hb dX2_whole_99 ?_
        refine lv_iconst (v := 1) hx hb dX2_whole_100 (by decide) ?_
        refine lv_iand hx hb dX2_whole_101 ?_
        refine w_top (y := bI ((rrN a b m 7).testBit (a i))) (b_bit (Nat.lt_trans (rrN_lt hab (hab 0 hm0).1 7) (by decide)) (by omega)) ?_
        refine lv_if_ne (tgt := 107) hx hb dX2_whole_102 (by decide) (fun c_102 => ?_) (fun c_102 => ?_)
        · refine lv_iinc (v := (nI (i + 1))) (lv' := [(2, .int (nI (i + 1))), (0, .ref (ad 0)), (1, .int (nI (rrN a b m 7)))]) hx hb dX2_whole_107 hl (k := 2) rfl (nI_1 i) (by decide) rfl (fun ls hl => ?_)
          refine lv_goto (tgt := 78) hx hb dX2_whole_110 (by decide) ?_
          have hl : lv_has ls 5 [(0, .ref (ad 0)), (1, .int (nI (rrN a b m 7))), (2, .int (nI (i + 1)))] := by exact lv_sub hl [1, 2, 0] rfl
          exact IH_i () _ _ _ hlt_i (lt_s hI_i (bI_n0.mp c_102)) hP hD hS hl
        · refine lv_iconst (v := 0) hx hb dX2_whole_105 (by decide) ?_
          exact w_zret hx hb hr hlocks rfl () (Or.inr ⟨rfl, fun h => absurd (h i hlt_i) (by rw [bI_0.mp c_102]; decide)⟩) hP hK hD hS dX2_whole_106
  · have hlt_k : k < 7 := nle_c c_14
    refine lv_iconst (v := nI 0) hx hb dX2_whole_17 (by decide) ?_
    refine lv_istore_n (lv' := [(3, .int (nI 0)), (0, .ref (ad 0)), (1, .int (nI (rrN a b m k))), (2, .int (nI k))]) hx hb dX2_whole_18 rfl hl (by decide) rfl (fun ls hl => ?_)
    refine w_for (σ := Unit) (m) (fun u => (wM ad d E O G (nI n) (nI m) (nI w))) (fun j u => [(0, .ref (ad 0)), (1, .int (nI (reN a b (rrN a b m k) j))), (2, .int (nI k)), (3, .int (nI j))]) (fun j u => True) (fun j hi_j IH_j u H locs ls hI_j hP hD hS hl => ?_) (i0 := 0) (Nat.zero_le _) () trivial hP hD hS (lv_sub hl [1, 2, 3, 0] rfl)
    have hP : va_P D vwCl (wM ad d E O G (nI n) (nI m) (nI w)) H := hP
    have hD : va_D A (wM ad d E O G (nI n) (nI m) (nI w)) := hD
    have hl : lv_has ls 5 [(0, .ref (ad 0)), (1, .int (nI (reN a b (rrN a b m k) j))), (2, .int (nI k)), (3, .int (nI j))] := hl
    refine lv_iload_n hx hb dX2_whole_19 rfl (lv_at hl 3 rfl) ?_
    refine lv_aload_n hx hb dX2_whole_20 rfl (lv_at hl 0 rfl) ?_
    refine va_get (D := D) (ci := 1) (v := .int (nI m)) (C := RX2) (T := TX2) (N := 6) hx hb hts in_X2 hown hK hP 0 rfl rfl 1 (by decide) (hts _ q199) (fun _ h9 => h9) rfl dX2_whole_21 ?_
    refine lv_icmp_ge (tgt := 70) hx hb dX2_whole_24 (by decide) (fun c_24 => ?_) (fun c_24 => ?_)
    · have him_j : j = m := by have := le_c c_24; omega
      have hstepk : rrN a b m (k + 1) = reN a b (rrN a b m k) j := by rw [him_j]; rfl
      refine lv_iinc (v := (nI (k + 1))) (lv' := [(2, .int (nI (k + 1))), (0, .ref (ad 0)), (1, .int (nI (reN a b (rrN a b m k) j))), (3, .int (nI j))]) hx hb dX2_whole_70 hl (k := 2) rfl (nI_1 k) (by decide) rfl (fun ls hl => ?_)
      refine lv_goto (tgt := 11) hx hb dX2_whole_73 (by decide) ?_
      have hl : lv_has ls 5 [(0, .ref (ad 0)), (1, .int (nI (rrN a b m (k + 1)))), (2, .int (nI (k + 1)))] := by rw [hstepk]; exact lv_sub hl [1, 2, 0] rfl
      exact IH_k () _ _ _ hlt_k trivial hP hD hS hl
    · have hlt_j : j < m := nle_c c_24
      obtain ⟨haj, hbj, hg1j, hg2j⟩ := hok j hlt_j
      obtain ⟨hEj, hOj, hGj⟩ := hE j hlt_j
      refine lv_iload_n hx hb dX2_whole_27 rfl (lv_at hl 3 rfl) ?_
      refine lv_bipush (v := nI 12) hx hb dX2_whole_28 (by decide) ?_
      refine lv_icmp_ge (tgt := 70) hx hb dX2_whole_30 (by decide) (fun c_30 => ?_) (fun c_30 => ?_)
      · exact absurd (le_c c_30) (by omega)
      · refine lv_iconst (v := 1) hx hb dX2_whole_33 (by decide) ?_
        refine lv_aload_n hx hb dX2_whole_34 rfl (lv_at hl 0 rfl) ?_
        refine va_get (D := D) (ci := 1) (v := .ref (ad 1)) (C := RX2) (T := TX2) (N := 6) hx hb hts in_X2 hown hK hP 0 rfl rfl 2 (by decide) (hts _ q200) (fun _ h9 => h9) rfl dX2_whole_35 ?_
        refine lv_iload_n hx hb dX2_whole_38 rfl (lv_at hl 3 rfl) ?_
        refine w_iald (v := (nI (a j))) hx hb hK hP 1 0 rfl rfl (by omega) (by decide) hEj dX2_whole_39 ?_
        refine lv_ishl hx hb dX2_whole_40 ?_
        refine w_top (y := nI (2 ^ a j)) (b_shl1 _ (by omega)) ?_
        refine lv_iconst (v := 1) hx hb dX2_whole_41 (by decide) ?_
        refine lv_aload_n hx hb dX2_whole_42 rfl (lv_at hl 0 rfl) ?_
        refine va_get (D := D) (ci := 1) (v := .ref (ad 2)) (C := RX2) (T := TX2) (N := 6) hx hb hts in_X2 hown hK hP 0 rfl rfl 3 (by decide) (hts _ q201) (fun _ h9 => h9) rfl dX2_whole_43 ?_
        refine lv_iload_n hx hb dX2_whole_46 rfl (lv_at hl 3 rfl) ?_
        refine w_iald (v := (nI (b j))) hx hb hK hP 2 0 rfl rfl (by omega) (by decide) hOj dX2_whole_47 ?_
        refine lv_ishl hx hb dX2_whole_48 ?_
        refine w_top (y := nI (2 ^ b j)) (b_shl1 _ (by omega)) ?_
        refine lv_ior hx hb dX2_whole_49 ?_
        refine w_top (y := nI (2 ^ a j ||| 2 ^ b j)) (nx_or _ _) ?_
        refine lv_istore (lv' := [(4, .int (nI (2 ^ a j ||| 2 ^ b j))), (0, .ref (ad 0)), (1, .int (nI (reN a b (rrN a b m k) j))), (2, .int (nI k)), (3, .int (nI j))]) hx hb dX2_whole_50 hl (by decide) rfl (fun ls hl => ?_)
        refine lv_iload_n hx hb dX2_whole_52 rfl (lv_at hl 2 rfl) ?_
        refine lv_iload hx hb dX2_whole_53 (lv_at hl 0 rfl) ?_
        refine lv_iand hx hb dX2_whole_55 ?_
        refine w_top (y := nI (reN a b (rrN a b m k) j &&& (2 ^ a j ||| 2 ^ b j))) (nx_and _ _) ?_
        refine lv_if_eq (tgt := 64) hx hb dX2_whole_56 (by decide) (fun c_56 => ?_) (fun c_56 => ?_)
        · have hstep : reN a b (rrN a b m k) (j + 1) = reN a b (rrN a b m k) j := if_pos (eq_c (show nI _ = nI 0 from c_56) (Nat.lt_of_le_of_lt Nat.and_le_right (Nat.lt_trans (Nat.or_lt_two_pow (n := 7) (two7 (by omega)) (two7 (by omega))) (by decide))) (by omega))
          refine lv_iinc (v := (nI (j + 1))) (lv' := [(3, .int (nI (j + 1))), (4, .int (nI (2 ^ a j ||| 2 ^ b j))), (0, .ref (ad 0)), (1, .int (nI (reN a b (rrN a b m k) j))), (2, .int (nI k))]) hx hb dX2_whole_64 hl (k := 4) rfl (nI_1 j) (by decide) rfl (fun ls hl => ?_)
          refine lv_goto (tgt := 19) hx hb dX2_whole_67 (by decide) ?_
          have hl : lv_has ls 5 [(0, .ref (ad 0)), (1, .int (nI (reN a b (rrN a b m k) (j + 1)))), (2, .int (nI k)), (3, .int (nI (j + 1)))] := by rw [hstep]; exact lv_sub hl [2, 3, 4, 0] rfl
          exact IH_j () _ _ _ hlt_j trivial hP hD hS hl
        · have hstep : reN a b (rrN a b m k) (j + 1) = reN a b (rrN a b m k) j ||| (2 ^ a j ||| 2 ^ b j) := if_neg (fun h => c_56 (by rw [h]; rfl))
          refine lv_iload_n hx hb dX2_whole_59 rfl (lv_at hl 2 rfl) ?_
          refine lv_iload hx hb dX2_whole_60 (lv_at hl 0 rfl) ?_
          refine lv_ior hx hb dX2_whole_62 ?_
          refine w_top (y := nI (reN a b (rrN a b m k) j ||| (2 ^ a j ||| 2 ^ b j))) (nx_or _ _) ?_
          refine lv_istore_n (lv' := [(1, .int (nI (reN a b (rrN a b m k) j ||| (2 ^ a j ||| 2 ^ b j)))), (4, .int (nI (2 ^ a j ||| 2 ^ b j))), (0, .ref (ad 0)), (2, .int (nI k)), (3, .int (nI j))]) hx hb dX2_whole_63 rfl hl (by decide) rfl (fun ls hl => ?_)
          refine lv_iinc (v := (nI (j + 1))) (lv' := [(3, .int (nI (j + 1))), (1, .int (nI (reN a b (rrN a b m k) j ||| (2 ^ a j ||| 2 ^ b j)))), (4, .int (nI (2 ^ a j ||| 2 ^ b j))), (0, .ref (ad 0)), (2, .int (nI k))]) hx hb dX2_whole_64 hl (k := 4) rfl (nI_1 j) (by decide) rfl (fun ls hl => ?_)
          refine lv_goto (tgt := 19) hx hb dX2_whole_67 (by decide) ?_
          have hl : lv_has ls 5 [(0, .ref (ad 0)), (1, .int (nI (reN a b (rrN a b m k) (j + 1)))), (2, .int (nI k)), (3, .int (nI (j + 1)))] := by rw [hstep]; exact lv_sub hl [3, 1, 4, 0] rfl
          exact IH_j () _ _ _ hlt_j trivial hP hD hS hl
set_option maxHeartbeats 4000000 in
set_option maxRecDepth 100000 in
theorem mX2_postman (l : Launch) (D : va_G) (d : ClassId) (ad : Nat → Nat) (E O G : Nat → Int32) (n m w : Nat) (a b : Nat → Nat) (g : Nat → Int) (hR : Rep n m w a b g E O G) : MI_ l yX2_postman (ws_ yX2_postman cX2_postman 3 (some .int)) rq3 D d (wM ad d E O G (nI n) (nI m) (nI w)) (fun u : Unit => (wM ad d E O G (nI n) (nI m) (nI w))) [.ref (ad 0)] (fun (r : Int32) u => PosR m a b g r) := by
  have hR0 := hR
  obtain ⟨⟨⟨hn2, hn7, hm12, hw7⟩, hok⟩, hE⟩ := hR0
  have h2m : 2 ^ m ≤ 4096 := Nat.pow_le_pow_right (n := 2) (by decide) hm12
  have hokg := hR.1
  refine MI_mk (lv := [(0, .ref (ad 0))]) (by decide) (Nat.le_of_ble_eq_true rfl) rfl fun pg en s mm below meth cd A ls hx hb hr hlocks hml hown hts hA hP hK hD hS hl => ?_
  have hown : s.vm.findClass RX2 = some mm.cls := hown
  refine w_start fun H locs hH hL => ?_
  rw [← hH] at hP
  replace hS : va_S A s.heap H locs := by rw [hL, hH]; exact va_S.rf
  refine lv_iconst (v := nI 0) hx hb dX2_postman_0 (by decide) ?_
  refine lv_istore_n (lv' := [(1, .int (nI 0)), (0, .ref (ad 0))]) hx hb dX2_postman_1 rfl hl (by decide) rfl (fun ls hl => ?_)
  refine w_for (σ := Unit) (m) (fun u => (wM ad d E O G (nI n) (nI m) (nI w))) (fun i u => [(0, .ref (ad 0)), (1, .int (nI i))]) (fun i u => ∀ e, e < i → 0 ≤ g e) (fun i hi_i IH_i u H locs ls hI_i hP hD hS hl => ?_) (i0 := 0) (Nat.zero_le _) () (fun e h => absurd h (by omega)) hP hD hS (lv_sub hl [1, 0] rfl)
  have hP : va_P D vwCl (wM ad d E O G (nI n) (nI m) (nI w)) H := hP
  have hD : va_D A (wM ad d E O G (nI n) (nI m) (nI w)) := hD
  have hl : lv_has ls 3 [(0, .ref (ad 0)), (1, .int (nI i))] := hl
  have hI_i : ∀ e, e < i → 0 ≤ g e := hI_i
  refine lv_iload_n hx hb dX2_postman_2 rfl (lv_at hl 1 rfl) ?_
  refine lv_aload_n hx hb dX2_postman_3 rfl (lv_at hl 0 rfl) ?_
  refine va_get (D := D) (ci := 1) (v := .int (nI m)) (C := RX2) (T := TX2) (N := 6) hx hb hts in_X2 hown hK hP 0 rfl rfl 1 (by decide) (hts _ q199) (fun _ h9 => h9) rfl dX2_postman_4 ?_
  refine lv_icmp_ge (tgt := 33) hx hb dX2_postman_7 (by decide) (fun c_7 => ?_) (fun c_7 => ?_)
  · have him_i : i = m := by have := le_c c_7; omega
    have hpos : ∀ e, e < m → 0 ≤ g e := fun e he => hI_i e (by omega)
    refine lv_aload_n hx hb dX2_postman_33 rfl (lv_at hl 0 rfl) ?_
    refine va_get (D := D) (ci := 1) (v := .int (nI m)) (C := RX2) (T := TX2) (N := 6) hx hb hts in_X2 hown hK hP 0 rfl rfl 1 (by decide) (hts _ q199) (fun _ h9 => h9) rfl dX2_postman_34 ?_
    refine lv_if_ne (tgt := 42) hx hb dX2_postman_37 (by decide) (fun c_37 => ?_) (fun c_37 => ?_)
    · have hm0 : 0 < m := Nat.pos_of_ne_zero (fun h => c_37 (by rw [h]; rfl))
      refine lv_aload_n hx hb dX2_postman_42 rfl (lv_at hl 0 rfl) ?_
      refine w_mi (As := []) (rest := []) ⟨hx, hb, hml, hown, hts⟩ (mX2_whole l D d ad E O G n m w a b g hR hm0) (cwV 0 hts (lw_V q305 q307 qs20 q23 q308) rfl rfl rfl (by decide +kernel) ⟨Nat.le_of_ble_eq_true rfl, Nat.le_of_ble_eq_true rfl⟩) hP hK hD hS hA rfl hl.1 rfl (Nat.le_of_ble_eq_true rfl) dX2_postman_43 (fun r1 _ H locs hw1 hP hD hS => ?_)
      have hP : va_P D vwCl (wM ad d E O G (nI n) (nI m) (nI w)) H := hP
      have hD : va_D A (wM ad d E O G (nI n) (nI m) (nI w)) := hD
      refine lv_if_ne (tgt := 52) hx hb dX2_postman_46 (by decide) (fun c_46 => ?_) (fun c_46 => ?_)
      · refine lv_aload_n hx hb dX2_postman_52 rfl (lv_at hl 0 rfl) ?_
        refine lv_iconst (v := 1) hx hb dX2_postman_53 (by decide) ?_
        refine lv_aload_n hx hb dX2_postman_54 rfl (lv_at hl 0 rfl) ?_
        refine va_get (D := D) (ci := 1) (v := .int (nI m)) (C := RX2) (T := TX2) (N := 6) hx hb hts in_X2 hown hK hP 0 rfl rfl 1 (by decide) (hts _ q199) (fun _ h9 => h9) rfl dX2_postman_55 ?_
        refine lv_ishl hx hb dX2_postman_58 ?_
        refine w_top (y := nI (2 ^ m)) (b_shl1 _ (by omega)) ?_
        refine lv_iconst (v := 1) hx hb dX2_postman_59 (by decide) ?_
        refine lv_isub hx hb dX2_postman_60 ?_
        refine w_top (y := nI (2 ^ m - 1)) (pk_sub (a := 2 ^ m) (b := 1) (Nat.two_pow_pos m)) ?_
        refine w_mi (As := [.int (nI (2 ^ m - 1))]) (rest := []) ⟨hx, hb, hml, hown, hts⟩ (mX2_odd l D d ad E O G n m w a b g hR (2 ^ m - 1) (by omega)) (cwV 1 hts (lw_V q257 q259 qs16 q23 q260) rfl rfl rfl (by decide +kernel) ⟨Nat.le_of_ble_eq_true rfl, Nat.le_of_ble_eq_true rfl⟩) hP hK hD hS hA rfl hl.1 rfl (Nat.le_of_ble_eq_true rfl) dX2_postman_61 (fun r _ H locs hw hP hD hS => ?_)
        subst hw
        have hP : va_P D vwCl (wM ad d E O G (nI n) (nI m) (nI w)) H := hP
        have hD : va_D A (wM ad d E O G (nI n) (nI m) (nI w)) := hD
        refine lv_istore_n (lv' := [(1, .int (nI (oddN a b (2 ^ m - 1) m))), (0, .ref (ad 0))]) hx hb dX2_postman_64 rfl hl (by decide) rfl (fun ls hl => ?_)
        refine lv_aload_n hx hb dX2_postman_65 rfl (lv_at hl 1 rfl) ?_
        refine lv_iload_n hx hb dX2_postman_66 rfl (lv_at hl 0 rfl) ?_
        refine lv_iconst (v := nI 0) hx hb dX2_postman_67 (by decide) ?_
        refine lv_iconst (v := nI 0) hx hb dX2_postman_68 (by decide) ?_
        refine w_mi (As := [.int (nI (oddN a b (2 ^ m - 1) m)), .int (nI 0), .int (nI 0)]) (rest := []) ⟨hx, hb, hml, hown, hts⟩ (mX2_search l D d ad E O G n m w a b g hR (oddN a b (2 ^ m - 1) m) (0) (0) (odd128 hokg) (by decide) (by decide)) (cwV 3 hts (lw_V q265 q267 qs17 q23 q268) rfl rfl rfl (by decide +kernel) ⟨Nat.le_of_ble_eq_true rfl, Nat.le_of_ble_eq_true rfl⟩) hP hK hD hS hA rfl hl.1 rfl (Nat.le_of_ble_eq_true rfl) dX2_postman_69 (fun r _ H locs hw hP hD hS => ?_)
        subst hw
        have hP : va_P D vwCl (wM ad d E O G (nI n) (nI m) (nI w)) H := hP
        have hD : va_D A (wM ad d E O G (nI n) (nI m) (nI w)) := hD
        refine lv_istore_n (lv' := [(2, .int (sI (beN a b g m (oddN a b (2 ^ m - 1) m) (0) (0)))), (1, .int (nI (oddN a b (2 ^ m - 1) m))), (0, .ref (ad 0))]) hx hb dX2_postman_72 rfl hl (by decide) rfl (fun ls hl => ?_)
        refine lv_aload_n hx hb dX2_postman_73 rfl (lv_at hl 2 rfl) ?_
        refine lv_iload_n hx hb dX2_postman_74 rfl (lv_at hl 0 rfl) ?_
        refine w_mi (As := [.int (sI (beN a b g m (oddN a b (2 ^ m - 1) m) (0) (0)))]) (rest := []) ⟨hx, hb, hml, hown, hts⟩ (mX2_weightOf l D d ad E O G n m w a b g hR (beN a b g m (oddN a b (2 ^ m - 1) m) (0) (0)) (fun j h => be_lt hm12 h)) (cwV 1 hts (lw_V q281 q283 qs19 q23 q284) rfl rfl rfl (by decide +kernel) ⟨Nat.le_of_ble_eq_true rfl, Nat.le_of_ble_eq_true rfl⟩) hP hK hD hS hA rfl hl.1 rfl (Nat.le_of_ble_eq_true rfl) dX2_postman_75 (fun r _ H locs hw hP hD hS => ?_)
        subst hw
        have hP : va_P D vwCl (wM ad d E O G (nI n) (nI m) (nI w)) H := hP
        have hD : va_D A (wM ad d E O G (nI n) (nI m) (nI w)) := hD
        exact w_iret hx hb hr hlocks () (Or.inr (Or.inr (Or.inr ⟨hpos, hm0, or_t hw1 c_46, rfl⟩))) hP hK hD hS dX2_postman_78
      · refine lv_bipush (v := (-2)) hx hb dX2_postman_49 (by decide) ?_
        exact w_iret hx hb hr hlocks () (Or.inr (Or.inr (Or.inl ⟨hpos, hm0, or_f hw1 c_46, rfl⟩))) hP hK hD hS dX2_postman_51
    · have hm0 : m = 0 := eq_c (show nI m = nI 0 from c_37)
      refine lv_iconst (v := 0) hx hb dX2_postman_40 (by decide) ?_
      exact w_iret hx hb hr hlocks () (Or.inr (Or.inl ⟨hpos, hm0, rfl⟩)) hP hK hD hS dX2_postman_41
  · have hlt_i : i < m := nle_c c_7
    obtain ⟨hai, hbi, hg1i, hg2i⟩ := hok i hlt_i
    obtain ⟨hEi, hOi, hGi⟩ := hE i hlt_i
    refine lv_iload_n hx hb dX2_postman_10 rfl (lv_at hl 1 rfl) ?_
    refine lv_bipush (v := nI 12) hx hb dX2_postman_11 (by decide) ?_
    refine lv_icmp_ge (tgt := 33) hx hb dX2_postman_13 (by decide) (fun c_13 => ?_) (fun c_13 => ?_)
    · exact absurd (le_c c_13) (by omega)
    · refine lv_aload_n hx hb dX2_postman_16 rfl (lv_at hl 0 rfl) ?_
      refine va_get (D := D) (ci := 1) (v := .ref (ad 3)) (C := RX2) (T := TX2) (N := 6) hx hb hts in_X2 hown hK hP 0 rfl rfl 4 (by decide) (hts _ q202) (fun _ h9 => h9) rfl dX2_postman_17 ?_
      refine lv_iload_n hx hb dX2_postman_20 rfl (lv_at hl 1 rfl) ?_
      refine w_iald (v := (zI (g i))) hx hb hK hP 3 0 rfl rfl (by omega) (by decide) hGi dX2_postman_21 ?_
      refine lv_if_ge (tgt := 27) hx hb dX2_postman_22 (by decide) (fun c_22 => ?_) (fun c_22 => ?_)
      · refine lv_iinc (v := (nI (i + 1))) (lv' := [(1, .int (nI (i + 1))), (0, .ref (ad 0))]) hx hb dX2_postman_27 hl (k := 1) rfl (nI_1 i) (by decide) rfl (fun ls hl => ?_)
        refine lv_goto (tgt := 2) hx hb dX2_postman_30 (by decide) ?_
        have hl : lv_has ls 3 [(0, .ref (ad 0)), (1, .int (nI (i + 1)))] := by exact lv_sub hl [1, 0] rfl
        exact IH_i () _ _ _ hlt_i (lt_s hI_i ((zI_ge0 ⟨by omega, by omega⟩).mp c_22)) hP hD hS hl
      · refine lv_iconst (v := (-1)) hx hb dX2_postman_25 (by decide) ?_
        exact w_iret hx hb hr hlocks () (Or.inl ⟨⟨i, hlt_i, Int.lt_of_not_ge (fun h => c_22 ((zI_ge0 ⟨by omega, by omega⟩).mpr h))⟩, rfl⟩) hP hK hD hS dX2_postman_26
end
section
set_option maxHeartbeats 4000000 in
set_option maxRecDepth 100000 in
theorem mX2_roads (l : Launch) (D : va_G) (d : ClassId) (ad : Nat → Nat) (E O G : Nat → Int32) (n m w : Nat) (a b : Nat → Nat) (g : Nat → Int) (hR : Rep n m w a b g E O G) : MI_ l yX2_roads (ws_ yX2_roads cX2_roads 1 (some .int)) rq3 D d (wM ad d E O G (nI n) (nI m) (nI w)) (fun u : Unit => (wM ad d E O G (nI n) (nI m) (nI w))) [.ref (ad 0)] (fun (r : Int32) u => r = nI m) := by
  have hR0 := hR
  obtain ⟨⟨⟨hn2, hn7, hm12, hw7⟩, hok⟩, hE⟩ := hR0
  refine MI_mk (lv := [(0, .ref (ad 0))]) (by decide) (Nat.le_of_ble_eq_true rfl) rfl fun pg en s mm below meth cd A ls hx hb hr hlocks hml hown hts hA hP hK hD hS hl => ?_
  have hown : s.vm.findClass RX2 = some mm.cls := hown
  refine w_start fun H locs hH hL => ?_
  rw [← hH] at hP
  replace hS : va_S A s.heap H locs := by rw [hL, hH]; exact va_S.rf
  refine lv_aload_n hx hb dX2_roads_0 rfl (lv_at hl 0 rfl) ?_
  refine va_get (D := D) (ci := 1) (v := .int (nI m)) (C := RX2) (T := TX2) (N := 6) hx hb hts in_X2 hown hK hP 0 rfl rfl 1 (by decide) (hts _ q199) (fun _ h9 => h9) rfl dX2_roads_1 ?_
  exact w_iret hx hb hr hlocks () rfl hP hK hD hS dX2_roads_4
set_option maxHeartbeats 4000000 in
set_option maxRecDepth 100000 in
theorem mX2_road (l : Launch) (D : va_G) (d : ClassId) (ad : Nat → Nat) (E O G : Nat → Int32) (n m w : Nat) (a b : Nat → Nat) (g : Nat → Int) (hR : Rep n m w a b g E O G) (x y t : Int32) : MI_ l yX2_road (ws_ yX2_road cX2_road 5 (some .int)) rq3 D d (wM ad d E O G (nI n) (nI m) (nI w)) (fun u : (Nat → Int32) × (Nat → Int32) × (Nat → Int32) × (Nat) => (wM ad d u.1 u.2.1 u.2.2.1 (nI n) (nI u.2.2.2) (nI w))) [.ref (ad 0), .int x, .int y, .int t] (fun (r : Int32) u => RoadR n m w a b g x y t r u.2.2.2 u.1 u.2.1 u.2.2.1) := by
  have hR0 := hR
  obtain ⟨⟨⟨hn2, hn7, hm12, hw7⟩, hok⟩, hE⟩ := hR0
  refine MI_mk (lv := [(0, .ref (ad 0)), (1, .int x), (2, .int y), (3, .int t)]) (by decide) (Nat.le_of_ble_eq_true rfl) rfl fun pg en s mm below meth cd A ls hx hb hr hlocks hml hown hts hA hP hK hD hS hl => ?_
  have hown : s.vm.findClass RX2 = some mm.cls := hown
  refine w_start fun H locs hH hL => ?_
  rw [← hH] at hP
  replace hS : va_S A s.heap H locs := by rw [hL, hH]; exact va_S.rf
  refine lv_aload_n hx hb dX2_road_0 rfl (lv_at hl 0 rfl) ?_
  refine lv_iload_n hx hb dX2_road_1 rfl (lv_at hl 1 rfl) ?_
  refine w_mi (As := [.int x]) (rest := []) ⟨hx, hb, hml, hown, hts⟩ (mX2_bad l D d ad E O G n m w a b g hR x) (cwV 1 hts (lw_V q221 q223 qs13 q23 q224) rfl rfl rfl (by decide +kernel) ⟨Nat.le_of_ble_eq_true rfl, Nat.le_of_ble_eq_true rfl⟩) hP hK hD hS hA rfl hl.1 rfl (Nat.le_of_ble_eq_true rfl) dX2_road_2 (fun r1 _ H locs hw1 hP hD hS => ?_)
  have hP : va_P D vwCl (wM ad d E O G (nI n) (nI m) (nI w)) H := hP
  have hD : va_D A (wM ad d E O G (nI n) (nI m) (nI w)) := hD
  refine lv_if_ne (tgt := 16) hx hb dX2_road_5 (by decide) (fun c_5 => ?_) (fun c_5 => ?_)
  · have hbad := or_t hw1 c_5
    refine lv_iconst (v := (-1)) hx hb dX2_road_16 (by decide) ?_
    exact w_iret hx hb hr hlocks (E, O, G, m) (Or.inl ⟨by first | exact fun q => hbad q.1 | exact fun q => or_t hw2 c_13 q.2, rfl, rfl, hR⟩) hP hK hD hS dX2_road_17
  · have hx1 := or_f hw1 c_5
    refine lv_aload_n hx hb dX2_road_8 rfl (lv_at hl 0 rfl) ?_
    refine lv_iload_n hx hb dX2_road_9 rfl (lv_at hl 2 rfl) ?_
    refine w_mi (As := [.int y]) (rest := []) ⟨hx, hb, hml, hown, hts⟩ (mX2_bad l D d ad E O G n m w a b g hR y) (cwV 1 hts (lw_V q221 q223 qs13 q23 q224) rfl rfl rfl (by decide +kernel) ⟨Nat.le_of_ble_eq_true rfl, Nat.le_of_ble_eq_true rfl⟩) hP hK hD hS hA rfl hl.1 rfl (Nat.le_of_ble_eq_true rfl) dX2_road_10 (fun r2 _ H locs hw2 hP hD hS => ?_)
    have hP : va_P D vwCl (wM ad d E O G (nI n) (nI m) (nI w)) H := hP
    have hD : va_D A (wM ad d E O G (nI n) (nI m) (nI w)) := hD
    refine lv_if_eq (tgt := 18) hx hb dX2_road_13 (by decide) (fun c_13 => ?_) (fun c_13 => ?_)
    · have hy1 := or_f hw2 c_13
      refine lv_aload_n hx hb dX2_road_18 rfl (lv_at hl 0 rfl) ?_
      refine lv_iload_n hx hb dX2_road_19 rfl (lv_at hl 3 rfl) ?_
      refine w_mi (As := [.int t]) (rest := []) ⟨hx, hb, hml, hown, hts⟩ (mX2_far l D d ad E O G n m w a b g hR t) (cwV 1 hts (lw_V q225 q227 qs14 q23 q228) rfl rfl rfl (by decide +kernel) ⟨Nat.le_of_ble_eq_true rfl, Nat.le_of_ble_eq_true rfl⟩) hP hK hD hS hA rfl hl.1 rfl (Nat.le_of_ble_eq_true rfl) dX2_road_20 (fun r3 _ H locs hw3 hP hD hS => ?_)
      have hP : va_P D vwCl (wM ad d E O G (nI n) (nI m) (nI w)) H := hP
      have hD : va_D A (wM ad d E O G (nI n) (nI m) (nI w)) := hD
      refine lv_if_eq (tgt := 29) hx hb dX2_road_23 (by decide) (fun c_23 => ?_) (fun c_23 => ?_)
      · have ht1 := or_f hw3 c_23
        refine lv_aload_n hx hb dX2_road_29 rfl (lv_at hl 0 rfl) ?_
        refine va_get (D := D) (ci := 1) (v := .int (nI m)) (C := RX2) (T := TX2) (N := 6) hx hb hts in_X2 hown hK hP 0 rfl rfl 1 (by decide) (hts _ q199) (fun _ h9 => h9) rfl dX2_road_30 ?_
        refine lv_istore (lv' := [(4, .int (nI m)), (0, .ref (ad 0)), (1, .int x), (2, .int y), (3, .int t)]) hx hb dX2_road_33 hl (by decide) rfl (fun ls hl => ?_)
        refine lv_iload hx hb dX2_road_35 (lv_at hl 0 rfl) ?_
        refine lv_bipush (v := nI 11) hx hb dX2_road_37 (by decide) ?_
        refine lv_icmp_le (tgt := 45) hx hb dX2_road_39 (by decide) (fun c_39 => ?_) (fun c_39 => ?_)
        · have hm11 : m ≤ 11 := le_c c_39
          refine lv_aload_n hx hb dX2_road_45 rfl (lv_at hl 1 rfl) ?_
          refine va_get (D := D) (ci := 1) (v := .ref (ad 1)) (C := RX2) (T := TX2) (N := 6) hx hb hts in_X2 hown hK hP 0 rfl rfl 2 (by decide) (hts _ q200) (fun _ h9 => h9) rfl dX2_road_46 ?_
          refine lv_iload hx hb dX2_road_49 (lv_at hl 0 rfl) ?_
          refine lv_iload_n hx hb dX2_road_51 rfl (lv_at hl 2 rfl) ?_
          refine w_iast hx hb hK hP hD hS 1 0 rfl rfl (by omega) (by decide) dX2_road_52 (fun H locs hP hD hS => ?_)
          have hP : va_P D vwCl (wM ad d (upd E m x) O G (nI n) (nI m) (nI w)) H := hP
          have hD : va_D A (wM ad d (upd E m x) O G (nI n) (nI m) (nI w)) := hD
          refine lv_aload_n hx hb dX2_road_53 rfl (lv_at hl 1 rfl) ?_
          refine va_get (D := D) (ci := 1) (v := .ref (ad 2)) (C := RX2) (T := TX2) (N := 6) hx hb hts in_X2 hown hK hP 0 rfl rfl 3 (by decide) (hts _ q201) (fun _ h9 => h9) rfl dX2_road_54 ?_
          refine lv_iload hx hb dX2_road_57 (lv_at hl 0 rfl) ?_
          refine lv_iload_n hx hb dX2_road_59 rfl (lv_at hl 3 rfl) ?_
          refine w_iast hx hb hK hP hD hS 2 0 rfl rfl (by omega) (by decide) dX2_road_60 (fun H locs hP hD hS => ?_)
          have hP : va_P D vwCl (wM ad d (upd E m x) (upd O m y) G (nI n) (nI m) (nI w)) H := hP
          have hD : va_D A (wM ad d (upd E m x) (upd O m y) G (nI n) (nI m) (nI w)) := hD
          refine lv_aload_n hx hb dX2_road_61 rfl (lv_at hl 1 rfl) ?_
          refine va_get (D := D) (ci := 1) (v := .ref (ad 3)) (C := RX2) (T := TX2) (N := 6) hx hb hts in_X2 hown hK hP 0 rfl rfl 4 (by decide) (hts _ q202) (fun _ h9 => h9) rfl dX2_road_62 ?_
          refine lv_iload hx hb dX2_road_65 (lv_at hl 0 rfl) ?_
          refine lv_iload_n hx hb dX2_road_67 rfl (lv_at hl 4 rfl) ?_
          refine w_iast hx hb hK hP hD hS 3 0 rfl rfl (by omega) (by decide) dX2_road_68 (fun H locs hP hD hS => ?_)
          have hP : va_P D vwCl (wM ad d (upd E m x) (upd O m y) (upd G m t) (nI n) (nI m) (nI w)) H := hP
          have hD : va_D A (wM ad d (upd E m x) (upd O m y) (upd G m t) (nI n) (nI m) (nI w)) := hD
          refine lv_aload_n hx hb dX2_road_69 rfl (lv_at hl 1 rfl) ?_
          refine lv_iload hx hb dX2_road_70 (lv_at hl 0 rfl) ?_
          refine lv_iconst (v := 1) hx hb dX2_road_72 (by decide) ?_
          refine lv_iadd hx hb dX2_road_73 ?_
          refine w_top (y := nI (m + 1)) (nI_1 m) ?_
          refine va_put (D := D) (ci := 1) (v := .int (nI (m + 1))) (ty := .int) (C := RX2) (T := TX2) (N := 6) hx hb hts in_X2 tyX2 tyX2_ok nmX2 hown hK hP hD hS 0 rfl rfl 1 (by decide) (hts _ q199) (fun _ h9 => h9) rfl (by decide +kernel) rfl rfl (Nat.le_of_ble_eq_true rfl) dX2_road_74 (fun H locs hP hD hS => ?_)
          have hP : va_P D vwCl (wM ad d (upd E m x) (upd O m y) (upd G m t) (nI n) ((nI (m + 1))) (nI w)) H := hP
          have hD : va_D A (wM ad d (upd E m x) (upd O m y) (upd G m t) (nI n) ((nI (m + 1))) (nI w)) := hD
          refine lv_iload hx hb dX2_road_77 (lv_at hl 0 rfl) ?_
          exact w_iret hx hb hr hlocks (upd E m x, upd O m y, upd G m t, m + 1) (Or.inr (Or.inr (Or.inr ⟨⟨hx1, hy1⟩, ht1, by omega, rfl, rfl, rep_road hR hx1 hy1 ht1 (by omega)⟩))) hP hK hD hS dX2_road_79
        · have hm11 : m = 12 := by
            have h11 : ¬ m ≤ 11 := fun h => c_39 (nI_le h (by omega))
            omega
          refine lv_bipush (v := (-3)) hx hb dX2_road_42 (by decide) ?_
          exact w_iret hx hb hr hlocks (E, O, G, m) (Or.inr (Or.inr (Or.inl ⟨⟨hx1, hy1⟩, ht1, hm11, rfl, rfl, hR⟩))) hP hK hD hS dX2_road_44
      · refine lv_bipush (v := (-2)) hx hb dX2_road_26 (by decide) ?_
        exact w_iret hx hb hr hlocks (E, O, G, m) (Or.inr (Or.inl ⟨⟨hx1, hy1⟩, or_t hw3 c_23, rfl, rfl, hR⟩)) hP hK hD hS dX2_road_28
    · refine lv_iconst (v := (-1)) hx hb dX2_road_16 (by decide) ?_
      exact w_iret hx hb hr hlocks (E, O, G, m) (Or.inl ⟨by first | exact fun q => hbad q.1 | exact fun q => or_t hw2 c_13 q.2, rfl, rfl, hR⟩) hP hK hD hS dX2_road_17
set_option maxHeartbeats 4000000 in
set_option maxRecDepth 100000 in
theorem mX2_remove (l : Launch) (D : va_G) (d : ClassId) (ad : Nat → Nat) (E O G : Nat → Int32) (n m w : Nat) (a b : Nat → Nat) (g : Nat → Int) (hR : Rep n m w a b g E O G) (x : Int32) : MI_ l yX2_remove (ws_ yX2_remove cX2_remove 3 (some .int)) rq3 D d (wM ad d E O G (nI n) (nI m) (nI w)) (fun u : (Nat → Int32) × (Nat → Int32) × (Nat → Int32) × (Nat) => (wM ad d u.1 u.2.1 u.2.2.1 (nI n) (nI u.2.2.2) (nI w))) [.ref (ad 0), .int x] (fun (r : Int32) u => RemR n m w a b g x r u.2.2.2 u.1 u.2.1 u.2.2.1) := by
  have hR0 := hR
  obtain ⟨⟨⟨hn2, hn7, hm12, hw7⟩, hok⟩, hE⟩ := hR0
  refine MI_mk (lv := [(0, .ref (ad 0)), (1, .int x)]) (by decide) (Nat.le_of_ble_eq_true rfl) rfl fun pg en s mm below meth cd A ls hx hb hr hlocks hml hown hts hA hP hK hD hS hl => ?_
  have hown : s.vm.findClass RX2 = some mm.cls := hown
  refine w_start fun H locs hH hL => ?_
  rw [← hH] at hP
  replace hS : va_S A s.heap H locs := by rw [hL, hH]; exact va_S.rf
  refine lv_aload_n hx hb dX2_remove_0 rfl (lv_at hl 0 rfl) ?_
  refine lv_iload_n hx hb dX2_remove_1 rfl (lv_at hl 1 rfl) ?_
  refine w_mi (As := [.int x]) (rest := []) ⟨hx, hb, hml, hown, hts⟩ (mX2_badRoad l D d ad E O G n m w a b g hR x) (cwV 1 hts (lw_V q233 q235 qs15 q23 q236) rfl rfl rfl (by decide +kernel) ⟨Nat.le_of_ble_eq_true rfl, Nat.le_of_ble_eq_true rfl⟩) hP hK hD hS hA rfl hl.1 rfl (Nat.le_of_ble_eq_true rfl) dX2_remove_2 (fun r1 _ H locs hw1 hP hD hS => ?_)
  have hP : va_P D vwCl (wM ad d E O G (nI n) (nI m) (nI w)) H := hP
  have hD : va_D A (wM ad d E O G (nI n) (nI m) (nI w)) := hD
  refine lv_if_eq (tgt := 10) hx hb dX2_remove_5 (by decide) (fun c_5 => ?_) (fun c_5 => ?_)
  · obtain ⟨j, hj, rfl⟩ := or_f hw1 c_5
    refine lv_iload_n hx hb dX2_remove_10 rfl (lv_at hl 1 rfl) ?_
    refine lv_istore_n (lv' := [(2, .int (nI j)), (0, .ref (ad 0)), (1, .int (nI j))]) hx hb dX2_remove_11 rfl hl (by decide) rfl (fun ls hl => ?_)
    refine w_for (σ := (Nat → Int32) × (Nat → Int32) × (Nat → Int32)) (m - 1) (fun u => (wM ad d u.1 u.2.1 u.2.2 (nI n) (nI m) (nI w))) (fun i u => [(0, .ref (ad 0)), (1, .int (nI j)), (2, .int (nI i))]) (fun i u => j ≤ i ∧ u.1 = shI E j i ∧ u.2.1 = shI O j i ∧ u.2.2 = shI G j i) (fun i hi_i IH_i u H locs ls hI_i hP hD hS hl => ?_) (i0 := j) (by omega) (E, O, G) ⟨Nat.le_refl _, (shI_0 _ _).symm, (shI_0 _ _).symm, (shI_0 _ _).symm⟩ hP hD hS (lv_sub hl [1, 2, 0] rfl)
    obtain ⟨E1, O1, G1⟩ := u
    have hP : va_P D vwCl (wM ad d E1 O1 G1 (nI n) (nI m) (nI w)) H := hP
    have hD : va_D A (wM ad d E1 O1 G1 (nI n) (nI m) (nI w)) := hD
    have hl : lv_has ls 3 [(0, .ref (ad 0)), (1, .int (nI j)), (2, .int (nI i))] := hl
    have hI_i : j ≤ i ∧ E1 = shI E j i ∧ O1 = shI O j i ∧ G1 = shI G j i := hI_i
    obtain ⟨hji, rfl, rfl, rfl⟩ := hI_i
    have hP : va_P D vwCl (wM ad d (shI E j i) (shI O j i) (shI G j i) (nI n) (nI m) (nI w)) H := hP
    have hD : va_D A (wM ad d (shI E j i) (shI O j i) (shI G j i) (nI n) (nI m) (nI w)) := hD
    refine lv_iload_n hx hb dX2_remove_12 rfl (lv_at hl 2 rfl) ?_
    refine lv_aload_n hx hb dX2_remove_13 rfl (lv_at hl 0 rfl) ?_
    refine va_get (D := D) (ci := 1) (v := .int (nI m)) (C := RX2) (T := TX2) (N := 6) hx hb hts in_X2 hown hK hP 0 rfl rfl 1 (by decide) (hts _ q199) (fun _ h9 => h9) rfl dX2_remove_14 ?_
    refine lv_iconst (v := 1) hx hb dX2_remove_17 (by decide) ?_
    refine lv_isub hx hb dX2_remove_18 ?_
    refine w_top (y := nI (m - 1)) (pk_sub (a := m) (b := 1) (by omega)) ?_
    refine lv_icmp_ge (tgt := 76) hx hb dX2_remove_19 (by decide) (fun c_19 => ?_) (fun c_19 => ?_)
    · have him_i : i = m - 1 := by have := le_c c_19; omega
      refine lv_aload_n hx hb dX2_remove_76 rfl (lv_at hl 0 rfl) ?_
      refine lv_dup hx hb dX2_remove_77 rfl ?_
      refine va_get (D := D) (ci := 1) (v := .int (nI m)) (C := RX2) (T := TX2) (N := 6) hx hb hts in_X2 hown hK hP 0 rfl rfl 1 (by decide) (hts _ q199) (fun _ h9 => h9) rfl dX2_remove_78 ?_
      refine lv_iconst (v := 1) hx hb dX2_remove_81 (by decide) ?_
      refine lv_isub hx hb dX2_remove_82 ?_
      refine w_top (y := nI (m - 1)) (pk_sub (a := m) (b := 1) (by omega)) ?_
      refine va_put (D := D) (ci := 1) (v := .int (nI (m - 1))) (ty := .int) (C := RX2) (T := TX2) (N := 6) hx hb hts in_X2 tyX2 tyX2_ok nmX2 hown hK hP hD hS 0 rfl rfl 1 (by decide) (hts _ q199) (fun _ h9 => h9) rfl (by decide +kernel) rfl rfl (Nat.le_of_ble_eq_true rfl) dX2_remove_83 (fun H locs hP hD hS => ?_)
      have hP : va_P D vwCl (wM ad d (shI E j i) (shI O j i) (shI G j i) (nI n) ((nI (m - 1))) (nI w)) H := hP
      have hD : va_D A (wM ad d (shI E j i) (shI O j i) (shI G j i) (nI n) ((nI (m - 1))) (nI w)) := hD
      refine lv_aload_n hx hb dX2_remove_86 rfl (lv_at hl 0 rfl) ?_
      refine va_get (D := D) (ci := 1) (v := .int ((nI (m - 1)))) (C := RX2) (T := TX2) (N := 6) hx hb hts in_X2 hown hK hP 0 rfl rfl 1 (by decide) (hts _ q199) (fun _ h9 => h9) rfl dX2_remove_87 ?_
      exact w_iret hx hb hr hlocks (shI E j i, shI O j i, shI G j i, m - 1) (Or.inr ⟨j, hj, rfl, rfl, rfl, by rw [him_i]; exact rep_rem hR hj⟩) hP hK hD hS dX2_remove_90
    · have hlt_i : i < m - 1 := nle_c c_19
      refine lv_iload_n hx hb dX2_remove_22 rfl (lv_at hl 2 rfl) ?_
      refine lv_bipush (v := nI 11) hx hb dX2_remove_23 (by decide) ?_
      refine lv_icmp_ge (tgt := 76) hx hb dX2_remove_25 (by decide) (fun c_25 => ?_) (fun c_25 => ?_)
      · exact absurd (le_c c_25) (by omega)
      · refine lv_aload_n hx hb dX2_remove_28 rfl (lv_at hl 0 rfl) ?_
        refine va_get (D := D) (ci := 1) (v := .ref (ad 1)) (C := RX2) (T := TX2) (N := 6) hx hb hts in_X2 hown hK hP 0 rfl rfl 2 (by decide) (hts _ q200) (fun _ h9 => h9) rfl dX2_remove_29 ?_
        refine lv_iload_n hx hb dX2_remove_32 rfl (lv_at hl 2 rfl) ?_
        refine lv_aload_n hx hb dX2_remove_33 rfl (lv_at hl 0 rfl) ?_
        refine va_get (D := D) (ci := 1) (v := .ref (ad 1)) (C := RX2) (T := TX2) (N := 6) hx hb hts in_X2 hown hK hP 0 rfl rfl 2 (by decide) (hts _ q200) (fun _ h9 => h9) rfl dX2_remove_34 ?_
        refine lv_iload_n hx hb dX2_remove_37 rfl (lv_at hl 2 rfl) ?_
        refine lv_iconst (v := 1) hx hb dX2_remove_38 (by decide) ?_
        refine lv_iadd hx hb dX2_remove_39 ?_
        refine w_top (y := nI (i + 1)) (nI_1 i) ?_
        refine w_iald (v := ((shI E j i) (i + 1))) hx hb hK hP 1 0 rfl rfl (by omega) (by decide) rfl dX2_remove_40 ?_
        refine w_iast hx hb hK hP hD hS 1 0 rfl rfl (by omega) (by decide) dX2_remove_41 (fun H locs hP hD hS => ?_)
        have hP : va_P D vwCl (wM ad d (upd (shI E j i) i ((shI E j i) (i + 1))) (shI O j i) (shI G j i) (nI n) (nI m) (nI w)) H := hP
        have hD : va_D A (wM ad d (upd (shI E j i) i ((shI E j i) (i + 1))) (shI O j i) (shI G j i) (nI n) (nI m) (nI w)) := hD
        refine lv_aload_n hx hb dX2_remove_42 rfl (lv_at hl 0 rfl) ?_
        refine va_get (D := D) (ci := 1) (v := .ref (ad 2)) (C := RX2) (T := TX2) (N := 6) hx hb hts in_X2 hown hK hP 0 rfl rfl 3 (by decide) (hts _ q201) (fun _ h9 => h9) rfl dX2_remove_43 ?_
        refine lv_iload_n hx hb dX2_remove_46 rfl (lv_at hl 2 rfl) ?_
        refine lv_aload_n hx hb dX2_remove_47 rfl (lv_at hl 0 rfl) ?_
        refine va_get (D := D) (ci := 1) (v := .ref (ad 2)) (C := RX2) (T := TX2) (N := 6) hx hb hts in_X2 hown hK hP 0 rfl rfl 3 (by decide) (hts _ q201) (fun _ h9 => h9) rfl dX2_remove_48 ?_
        refine lv_iload_n hx hb dX2_remove_51 rfl (lv_at hl 2 rfl) ?_
        refine lv_iconst (v := 1) hx hb dX2_remove_52 (by decide) ?_
        refine lv_iadd hx hb dX2_remove_53 ?_
        refine w_top (y := nI (i + 1)) (nI_1 i) ?_
        refine w_iald (v := ((shI O j i) (i + 1))) hx hb hK hP 2 0 rfl rfl (by omega) (by decide) rfl dX2_remove_54 ?_
        refine w_iast hx hb hK hP hD hS 2 0 rfl rfl (by omega) (by decide) dX2_remove_55 (fun H locs hP hD hS => ?_)
        have hP : va_P D vwCl (wM ad d (upd (shI E j i) i ((shI E j i) (i + 1))) (upd (shI O j i) i ((shI O j i) (i + 1))) (shI G j i) (nI n) (nI m) (nI w)) H := hP
        have hD : va_D A (wM ad d (upd (shI E j i) i ((shI E j i) (i + 1))) (upd (shI O j i) i ((shI O j i) (i + 1))) (shI G j i) (nI n) (nI m) (nI w)) := hD
        refine lv_aload_n hx hb dX2_remove_56 rfl (lv_at hl 0 rfl) ?_
        refine va_get (D := D) (ci := 1) (v := .ref (ad 3)) (C := RX2) (T := TX2) (N := 6) hx hb hts in_X2 hown hK hP 0 rfl rfl 4 (by decide) (hts _ q202) (fun _ h9 => h9) rfl dX2_remove_57 ?_
        refine lv_iload_n hx hb dX2_remove_60 rfl (lv_at hl 2 rfl) ?_
        refine lv_aload_n hx hb dX2_remove_61 rfl (lv_at hl 0 rfl) ?_
        refine va_get (D := D) (ci := 1) (v := .ref (ad 3)) (C := RX2) (T := TX2) (N := 6) hx hb hts in_X2 hown hK hP 0 rfl rfl 4 (by decide) (hts _ q202) (fun _ h9 => h9) rfl dX2_remove_62 ?_
        refine lv_iload_n hx hb dX2_remove_65 rfl (lv_at hl 2 rfl) ?_
        refine lv_iconst (v := 1) hx hb dX2_remove_66 (by decide) ?_
        refine lv_iadd hx hb dX2_remove_67 ?_
        refine w_top (y := nI (i + 1)) (nI_1 i) ?_
        refine w_iald (v := ((shI G j i) (i + 1))) hx hb hK hP 3 0 rfl rfl (by omega) (by decide) rfl dX2_remove_68 ?_
        refine w_iast hx hb hK hP hD hS 3 0 rfl rfl (by omega) (by decide) dX2_remove_69 (fun H locs hP hD hS => ?_)
        have hP : va_P D vwCl (wM ad d (upd (shI E j i) i ((shI E j i) (i + 1))) (upd (shI O j i) i ((shI O j i) (i + 1))) (upd (shI G j i) i ((shI G j i) (i + 1))) (nI n) (nI m) (nI w)) H := hP
        have hD : va_D A (wM ad d (upd (shI E j i) i ((shI E j i) (i + 1))) (upd (shI O j i) i ((shI O j i) (i + 1))) (upd (shI G j i) i ((shI G j i) (i + 1))) (nI n) (nI m) (nI w)) := hD
        refine lv_iinc (v := (nI (i + 1))) (lv' := [(2, .int (nI (i + 1))), (0, .ref (ad 0)), (1, .int (nI j))]) hx hb dX2_remove_70 hl (k := 2) rfl (nI_1 i) (by decide) rfl (fun ls hl => ?_)
        refine lv_goto (tgt := 12) hx hb dX2_remove_73 (by decide) ?_
        have hl : lv_has ls 3 [(0, .ref (ad 0)), (1, .int (nI j)), (2, .int (nI (i + 1)))] := by exact lv_sub hl [1, 2, 0] rfl
        exact IH_i (upd (shI E j i) i ((shI E j i) (i + 1)), upd (shI O j i) i ((shI O j i) (i + 1)), upd (shI G j i) i ((shI G j i) (i + 1))) _ _ _ hlt_i ⟨by omega, shI_s hji, shI_s hji, shI_s hji⟩ hP hD hS hl
  · refine lv_iconst (v := (-1)) hx hb dX2_remove_8 (by decide) ?_
    exact w_iret hx hb hr hlocks (E, O, G, m) (Or.inl ⟨or_t hw1 c_5, rfl, rfl, hR⟩) hP hK hD hS dX2_remove_9
set_option maxHeartbeats 4000000 in
set_option maxRecDepth 100000 in
theorem mX2_weigh (l : Launch) (D : va_G) (d : ClassId) (ad : Nat → Nat) (E O G : Nat → Int32) (n m w : Nat) (a b : Nat → Nat) (g : Nat → Int) (hR : Rep n m w a b g E O G) (x t : Int32) : MI_ l yX2_weigh (ws_ yX2_weigh cX2_weigh 4 (some .int)) rq3 D d (wM ad d E O G (nI n) (nI m) (nI w)) (fun u : Nat → Int32 => (wM ad d E O u (nI n) (nI m) (nI w))) [.ref (ad 0), .int x, .int t] (fun (r : Int32) u => WeiR n m w a b g x t r E O u) := by
  have hR0 := hR
  obtain ⟨⟨⟨hn2, hn7, hm12, hw7⟩, hok⟩, hE⟩ := hR0
  refine MI_mk (lv := [(0, .ref (ad 0)), (1, .int x), (2, .int t)]) (by decide) (Nat.le_of_ble_eq_true rfl) rfl fun pg en s mm below meth cd A ls hx hb hr hlocks hml hown hts hA hP hK hD hS hl => ?_
  have hown : s.vm.findClass RX2 = some mm.cls := hown
  refine w_start fun H locs hH hL => ?_
  rw [← hH] at hP
  replace hS : va_S A s.heap H locs := by rw [hL, hH]; exact va_S.rf
  refine lv_aload_n hx hb dX2_weigh_0 rfl (lv_at hl 0 rfl) ?_
  refine lv_iload_n hx hb dX2_weigh_1 rfl (lv_at hl 1 rfl) ?_
  refine w_mi (As := [.int x]) (rest := []) ⟨hx, hb, hml, hown, hts⟩ (mX2_badRoad l D d ad E O G n m w a b g hR x) (cwV 1 hts (lw_V q233 q235 qs15 q23 q236) rfl rfl rfl (by decide +kernel) ⟨Nat.le_of_ble_eq_true rfl, Nat.le_of_ble_eq_true rfl⟩) hP hK hD hS hA rfl hl.1 rfl (Nat.le_of_ble_eq_true rfl) dX2_weigh_2 (fun r1 _ H locs hw1 hP hD hS => ?_)
  have hP : va_P D vwCl (wM ad d E O G (nI n) (nI m) (nI w)) H := hP
  have hD : va_D A (wM ad d E O G (nI n) (nI m) (nI w)) := hD
  refine lv_if_eq (tgt := 10) hx hb dX2_weigh_5 (by decide) (fun c_5 => ?_) (fun c_5 => ?_)
  · obtain ⟨j, hj, rfl⟩ := or_f hw1 c_5
    refine lv_aload_n hx hb dX2_weigh_10 rfl (lv_at hl 0 rfl) ?_
    refine lv_iload_n hx hb dX2_weigh_11 rfl (lv_at hl 2 rfl) ?_
    refine w_mi (As := [.int t]) (rest := []) ⟨hx, hb, hml, hown, hts⟩ (mX2_far l D d ad E O G n m w a b g hR t) (cwV 1 hts (lw_V q225 q227 qs14 q23 q228) rfl rfl rfl (by decide +kernel) ⟨Nat.le_of_ble_eq_true rfl, Nat.le_of_ble_eq_true rfl⟩) hP hK hD hS hA rfl hl.1 rfl (Nat.le_of_ble_eq_true rfl) dX2_weigh_12 (fun r3 _ H locs hw3 hP hD hS => ?_)
    have hP : va_P D vwCl (wM ad d E O G (nI n) (nI m) (nI w)) H := hP
    have hD : va_D A (wM ad d E O G (nI n) (nI m) (nI w)) := hD
    refine lv_if_eq (tgt := 21) hx hb dX2_weigh_15 (by decide) (fun c_15 => ?_) (fun c_15 => ?_)
    · refine lv_aload_n hx hb dX2_weigh_21 rfl (lv_at hl 0 rfl) ?_
      refine va_get (D := D) (ci := 1) (v := .ref (ad 3)) (C := RX2) (T := TX2) (N := 6) hx hb hts in_X2 hown hK hP 0 rfl rfl 4 (by decide) (hts _ q202) (fun _ h9 => h9) rfl dX2_weigh_22 ?_
      refine lv_iload_n hx hb dX2_weigh_25 rfl (lv_at hl 1 rfl) ?_
      refine w_iald (v := (zI (g j))) hx hb hK hP 3 0 rfl rfl (by omega) (by decide) (hE j hj).2.2 dX2_weigh_26 ?_
      refine lv_istore_n (lv' := [(3, .int (zI (g j))), (0, .ref (ad 0)), (1, .int (nI j)), (2, .int t)]) hx hb dX2_weigh_27 rfl hl (by decide) rfl (fun ls hl => ?_)
      refine lv_aload_n hx hb dX2_weigh_28 rfl (lv_at hl 1 rfl) ?_
      refine va_get (D := D) (ci := 1) (v := .ref (ad 3)) (C := RX2) (T := TX2) (N := 6) hx hb hts in_X2 hown hK hP 0 rfl rfl 4 (by decide) (hts _ q202) (fun _ h9 => h9) rfl dX2_weigh_29 ?_
      refine lv_iload_n hx hb dX2_weigh_32 rfl (lv_at hl 2 rfl) ?_
      refine lv_iload_n hx hb dX2_weigh_33 rfl (lv_at hl 3 rfl) ?_
      refine w_iast hx hb hK hP hD hS 3 0 rfl rfl (by omega) (by decide) dX2_weigh_34 (fun H locs hP hD hS => ?_)
      have hP : va_P D vwCl (wM ad d E O (upd G j t) (nI n) (nI m) (nI w)) H := hP
      have hD : va_D A (wM ad d E O (upd G j t) (nI n) (nI m) (nI w)) := hD
      refine lv_iload_n hx hb dX2_weigh_35 rfl (lv_at hl 0 rfl) ?_
      exact w_iret hx hb hr hlocks (upd G j t) (Or.inr (Or.inr ⟨j, hj, rfl, or_f hw3 c_15, rfl, rep_wei hR (or_f hw3 c_15)⟩)) hP hK hD hS dX2_weigh_36
    · refine lv_bipush (v := (-2)) hx hb dX2_weigh_18 (by decide) ?_
      exact w_iret hx hb hr hlocks G (Or.inr (Or.inl ⟨j, hj, rfl, or_t hw3 c_15, rfl, hR⟩)) hP hK hD hS dX2_weigh_20
  · refine lv_iconst (v := (-1)) hx hb dX2_weigh_8 (by decide) ?_
    exact w_iret hx hb hr hlocks G (Or.inl ⟨or_t hw1 c_5, rfl, hR⟩) hP hK hD hS dX2_weigh_9
set_option maxHeartbeats 4000000 in
set_option maxRecDepth 100000 in
theorem mX2_want (l : Launch) (D : va_G) (d : ClassId) (ad : Nat → Nat) (E O G : Nat → Int32) (n m w : Nat) (a b : Nat → Nat) (g : Nat → Int) (hR : Rep n m w a b g E O G) (x : Int32) : MI_ l yX2_want (ws_ yX2_want cX2_want 3 (some .int)) rq3 D d (wM ad d E O G (nI n) (nI m) (nI w)) (fun u : Nat => (wM ad d E O G (nI n) (nI m) (nI u))) [.ref (ad 0), .int x] (fun (r : Int32) u => WanR n w x r u) := by
  have hR0 := hR
  obtain ⟨⟨⟨hn2, hn7, hm12, hw7⟩, hok⟩, hE⟩ := hR0
  have h2n : 2 ^ n ≤ 128 := Nat.pow_le_pow_right (n := 2) (by decide) hn7
  refine MI_mk (lv := [(0, .ref (ad 0)), (1, .int x)]) (by decide) (Nat.le_of_ble_eq_true rfl) rfl fun pg en s mm below meth cd A ls hx hb hr hlocks hml hown hts hA hP hK hD hS hl => ?_
  have hown : s.vm.findClass RX2 = some mm.cls := hown
  refine w_start fun H locs hH hL => ?_
  rw [← hH] at hP
  replace hS : va_S A s.heap H locs := by rw [hL, hH]; exact va_S.rf
  refine lv_iload_n hx hb dX2_want_0 rfl (lv_at hl 1 rfl) ?_
  refine lv_if_lt (tgt := 14) hx hb dX2_want_1 (by decide) (fun c_1 => ?_) (fun c_1 => ?_)
  · refine lv_iconst (v := (-1)) hx hb dX2_want_14 (by decide) ?_
    exact w_iret hx hb hr hlocks w (Or.inl ⟨by first | exact inI_neg c_1 (by omega) | exact inI_big (Int32.not_lt.mp c_11) (by omega), rfl, rfl⟩) hP hK hD hS dX2_want_15
  · refine lv_iload_n hx hb dX2_want_4 rfl (lv_at hl 1 rfl) ?_
    refine lv_iconst (v := 1) hx hb dX2_want_5 (by decide) ?_
    refine lv_aload_n hx hb dX2_want_6 rfl (lv_at hl 0 rfl) ?_
    refine va_get (D := D) (ci := 1) (v := .int (nI n)) (C := RX2) (T := TX2) (N := 6) hx hb hts in_X2 hown hK hP 0 rfl rfl 0 (by decide) (hts _ q198) (fun _ h9 => h9) rfl dX2_want_7 ?_
    refine lv_ishl hx hb dX2_want_10 ?_
    refine w_top (y := nI (2 ^ n)) (b_shl1 _ (by omega)) ?_
    refine lv_icmp_lt (tgt := 16) hx hb dX2_want_11 (by decide) (fun c_11 => ?_) (fun c_11 => ?_)
    · obtain ⟨j, hj, rfl⟩ : inI x (2 ^ n) := inI_of c_1 (Int32.not_le.mpr c_11) (by omega)
      refine lv_aload_n hx hb dX2_want_16 rfl (lv_at hl 0 rfl) ?_
      refine va_get (D := D) (ci := 1) (v := .int (nI w)) (C := RX2) (T := TX2) (N := 6) hx hb hts in_X2 hown hK hP 0 rfl rfl 5 (by decide) (hts _ q203) (fun _ h9 => h9) rfl dX2_want_17 ?_
      refine lv_istore_n (lv' := [(2, .int (nI w)), (0, .ref (ad 0)), (1, .int (nI j))]) hx hb dX2_want_20 rfl hl (by decide) rfl (fun ls hl => ?_)
      refine lv_aload_n hx hb dX2_want_21 rfl (lv_at hl 1 rfl) ?_
      refine lv_iload_n hx hb dX2_want_22 rfl (lv_at hl 2 rfl) ?_
      refine va_put (D := D) (ci := 1) (v := .int (nI j)) (ty := .int) (C := RX2) (T := TX2) (N := 6) hx hb hts in_X2 tyX2 tyX2_ok nmX2 hown hK hP hD hS 0 rfl rfl 5 (by decide) (hts _ q203) (fun _ h9 => h9) rfl (by decide +kernel) rfl rfl (Nat.le_of_ble_eq_true rfl) dX2_want_23 (fun H locs hP hD hS => ?_)
      have hP : va_P D vwCl (wM ad d E O G (nI n) (nI m) ((nI j))) H := hP
      have hD : va_D A (wM ad d E O G (nI n) (nI m) ((nI j))) := hD
      refine lv_iload_n hx hb dX2_want_26 rfl (lv_at hl 0 rfl) ?_
      exact w_iret hx hb hr hlocks j (Or.inr ⟨j, hj, rfl, rfl, rfl⟩) hP hK hD hS dX2_want_27
    · refine lv_iconst (v := (-1)) hx hb dX2_want_14 (by decide) ?_
      exact w_iret hx hb hr hlocks w (Or.inl ⟨by first | exact inI_neg c_1 (by omega) | exact inI_big (Int32.not_lt.mp c_11) (by omega), rfl, rfl⟩) hP hK hD hS dX2_want_15
set_option maxHeartbeats 4000000 in
set_option maxRecDepth 100000 in
theorem mX2_turn (l : Launch) (D : va_G) (d : ClassId) (ad : Nat → Nat) (E O G : Nat → Int32) (n m w : Nat) (a b : Nat → Nat) (g : Nat → Int) (hR : Rep n m w a b g E O G) (x : Int32) : MI_ l yX2_turn (ws_ yX2_turn cX2_turn 2 (some .int)) rq3 D d (wM ad d E O G (nI n) (nI m) (nI w)) (fun u : Nat => (wM ad d E O G (nI n) (nI m) (nI u))) [.ref (ad 0), .int x] (fun (r : Int32) u => TurR n w x r u) := by
  have hR0 := hR
  obtain ⟨⟨⟨hn2, hn7, hm12, hw7⟩, hok⟩, hE⟩ := hR0
  refine MI_mk (lv := [(0, .ref (ad 0)), (1, .int x)]) (by decide) (Nat.le_of_ble_eq_true rfl) rfl fun pg en s mm below meth cd A ls hx hb hr hlocks hml hown hts hA hP hK hD hS hl => ?_
  have hown : s.vm.findClass RX2 = some mm.cls := hown
  refine w_start fun H locs hH hL => ?_
  rw [← hH] at hP
  replace hS : va_S A s.heap H locs := by rw [hL, hH]; exact va_S.rf
  refine lv_aload_n hx hb dX2_turn_0 rfl (lv_at hl 0 rfl) ?_
  refine lv_iload_n hx hb dX2_turn_1 rfl (lv_at hl 1 rfl) ?_
  refine w_mi (As := [.int x]) (rest := []) ⟨hx, hb, hml, hown, hts⟩ (mX2_bad l D d ad E O G n m w a b g hR x) (cwV 1 hts (lw_V q221 q223 qs13 q23 q224) rfl rfl rfl (by decide +kernel) ⟨Nat.le_of_ble_eq_true rfl, Nat.le_of_ble_eq_true rfl⟩) hP hK hD hS hA rfl hl.1 rfl (Nat.le_of_ble_eq_true rfl) dX2_turn_2 (fun r1 _ H locs hw1 hP hD hS => ?_)
  have hP : va_P D vwCl (wM ad d E O G (nI n) (nI m) (nI w)) H := hP
  have hD : va_D A (wM ad d E O G (nI n) (nI m) (nI w)) := hD
  refine lv_if_eq (tgt := 10) hx hb dX2_turn_5 (by decide) (fun c_5 => ?_) (fun c_5 => ?_)
  · obtain ⟨j, hj, rfl⟩ := or_f hw1 c_5
    refine lv_aload_n hx hb dX2_turn_10 rfl (lv_at hl 0 rfl) ?_
    refine lv_aload_n hx hb dX2_turn_11 rfl (lv_at hl 0 rfl) ?_
    refine va_get (D := D) (ci := 1) (v := .int (nI w)) (C := RX2) (T := TX2) (N := 6) hx hb hts in_X2 hown hK hP 0 rfl rfl 5 (by decide) (hts _ q203) (fun _ h9 => h9) rfl dX2_turn_12 ?_
    refine lv_iconst (v := 1) hx hb dX2_turn_15 (by decide) ?_
    refine lv_iload_n hx hb dX2_turn_16 rfl (lv_at hl 1 rfl) ?_
    refine lv_ishl hx hb dX2_turn_17 ?_
    refine w_top (y := nI (2 ^ j)) (b_shl1 _ (by omega)) ?_
    refine lv_ixor hx hb dX2_turn_18 ?_
    refine w_top (y := nI (w ^^^ 2 ^ j)) (nx_xor _ _) ?_
    refine va_put (D := D) (ci := 1) (v := .int (nI (w ^^^ 2 ^ j))) (ty := .int) (C := RX2) (T := TX2) (N := 6) hx hb hts in_X2 tyX2 tyX2_ok nmX2 hown hK hP hD hS 0 rfl rfl 5 (by decide) (hts _ q203) (fun _ h9 => h9) rfl (by decide +kernel) rfl rfl (Nat.le_of_ble_eq_true rfl) dX2_turn_19 (fun H locs hP hD hS => ?_)
    have hP : va_P D vwCl (wM ad d E O G (nI n) (nI m) ((nI (w ^^^ 2 ^ j)))) H := hP
    have hD : va_D A (wM ad d E O G (nI n) (nI m) ((nI (w ^^^ 2 ^ j)))) := hD
    refine lv_aload_n hx hb dX2_turn_22 rfl (lv_at hl 0 rfl) ?_
    refine va_get (D := D) (ci := 1) (v := .int ((nI (w ^^^ 2 ^ j)))) (C := RX2) (T := TX2) (N := 6) hx hb hts in_X2 hown hK hP 0 rfl rfl 5 (by decide) (hts _ q203) (fun _ h9 => h9) rfl dX2_turn_23 ?_
    exact w_iret hx hb hr hlocks (w ^^^ 2 ^ j) (Or.inr ⟨j, hj, rfl, rfl, rfl⟩) hP hK hD hS dX2_turn_26
  · refine lv_iconst (v := (-1)) hx hb dX2_turn_8 (by decide) ?_
    exact w_iret hx hb hr hlocks w (Or.inl ⟨or_t hw1 c_5, rfl, rfl⟩) hP hK hD hS dX2_turn_9
end
section
/-! THE PLAIN LAW, 1: sets of roads as numbers; odd places are linear; sums -/
theorem xr_pair (p q A B : Nat) : (p ^^^ A ^^^ B) ^^^ (q ^^^ A ^^^ B) = p ^^^ q := by
  apply Nat.eq_of_testBit_eq; intro i
  simp only [Nat.testBit_xor]
  cases p.testBit i <;> cases q.testBit i <;> cases A.testBit i <;> cases B.testBit i <;> rfl
theorem xr_l (p q A B : Nat) : (p ^^^ A ^^^ B) ^^^ q = (p ^^^ q) ^^^ A ^^^ B := by
  apply Nat.eq_of_testBit_eq; intro i
  simp only [Nat.testBit_xor]
  cases p.testBit i <;> cases q.testBit i <;> cases A.testBit i <;> cases B.testBit i <;> rfl
theorem xr_r (p q A B : Nat) : p ^^^ (q ^^^ A ^^^ B) = (p ^^^ q) ^^^ A ^^^ B := by
  apply Nat.eq_of_testBit_eq; intro i
  simp only [Nat.testBit_xor]
  cases p.testBit i <;> cases q.testBit i <;> cases A.testBit i <;> cases B.testBit i <;> rfl
theorem xr_b (p A : Nat) : p ^^^ A ^^^ A = p := by
  rw [Nat.xor_assoc, Nat.xor_self, Nat.xor_zero]
theorem xr_m (A B C : Nat) : (A ^^^ B) ^^^ (B ^^^ C) = A ^^^ C := by
  apply Nat.eq_of_testBit_eq; intro i
  simp only [Nat.testBit_xor]
  cases A.testBit i <;> cases B.testBit i <;> cases C.testBit i <;> rfl
theorem oddN_xor (a b : Nat → Nat) (J K : Nat) : ∀ m, oddN a b (J ^^^ K) m = oddN a b J m ^^^ oddN a b K m
  | 0 => by simp [oddN]
  | m + 1 => by
    have ih := oddN_xor a b J K m
    show (if _ then _ else _) = (if _ then _ else _) ^^^ (if _ then _ else _)
    rw [Nat.testBit_xor, ih]
    cases J.testBit m <;> cases K.testBit m
    · simp
    · simp [xr_r]
    · simp [xr_l]
    · simp [xr_pair]
theorem oddN_0 (a b : Nat → Nat) : ∀ m, oddN a b 0 m = 0
  | 0 => rfl
  | m + 1 => by
    show (if _ then _ else _) = _
    rw [Nat.zero_testBit, if_neg (by decide)]
    exact oddN_0 a b m
/-- roads at and above m don't count -/
theorem oddN_hi (a b : Nat → Nat) {e : Nat} : ∀ {m : Nat}, m ≤ e → oddN a b (2 ^ e) m = 0
  | 0, _ => rfl
  | m + 1, h => by
    show (if _ then _ else _) = _
    rw [Nat.testBit_two_pow_of_ne (by omega), if_neg (by decide)]
    exact oddN_hi a b (by omega)
theorem oddN_one (a b : Nat → Nat) {e : Nat} : ∀ {m : Nat}, e < m → oddN a b (2 ^ e) m = 2 ^ a e ^^^ 2 ^ b e
  | 0, h => absurd h (by omega)
  | m + 1, h => by
    show (if _ then _ else _) = _
    by_cases he : e = m
    · subst he
      rw [Nat.testBit_two_pow_self, if_pos rfl, oddN_hi a b (Nat.le_refl _), Nat.zero_xor]
    · rw [Nat.testBit_two_pow_of_ne he, if_neg (by decide)]
      exact oddN_one a b (by omega)
/-- sums of costs without signs -/
def suA (h : Nat → Nat) (J : Nat) : Nat → Nat
  | 0 => 0
  | k + 1 => if J.testBit k = true then suA h J k + h k else suA h J k
theorem suA_0 (h : Nat → Nat) : ∀ m, suA h 0 m = 0
  | 0 => rfl
  | m + 1 => by
    show (if _ then _ else _) = _
    rw [Nat.zero_testBit, if_neg (by decide)]
    exact suA_0 h m
theorem suA_hi (h : Nat → Nat) {e : Nat} : ∀ {m : Nat}, m ≤ e → suA h (2 ^ e) m = 0
  | 0, _ => rfl
  | m + 1, hh => by
    show (if _ then _ else _) = _
    rw [Nat.testBit_two_pow_of_ne (by omega), if_neg (by decide)]
    exact suA_hi h (by omega)
theorem suA_one (h : Nat → Nat) {e : Nat} : ∀ {m : Nat}, e < m → suA h (2 ^ e) m = h e
  | 0, hh => absurd hh (by omega)
  | m + 1, hh => by
    show (if _ then _ else _) = _
    by_cases he : e = m
    · subst he
      rw [Nat.testBit_two_pow_self, if_pos rfl, suA_hi h (Nat.le_refl _), Nat.zero_add]
    · rw [Nat.testBit_two_pow_of_ne he, if_neg (by decide)]
      exact suA_one h (by omega)
theorem suA_xor (h : Nat → Nat) (J K : Nat) : ∀ m, suA h (J ^^^ K) m ≤ suA h J m + suA h K m
  | 0 => Nat.le_refl _
  | m + 1 => by
    have ih := suA_xor h J K m
    show (if _ then _ else _) ≤ (if _ then _ else _) + (if _ then _ else _)
    rw [Nat.testBit_xor]
    cases J.testBit m <;> cases K.testBit m <;> simp <;> omega
theorem suA_del (h : Nat → Nat) {J e : Nat} (hJ : J.testBit e = true) : ∀ {m : Nat}, e < m → suA h J m = suA h (J ^^^ 2 ^ e) m + h e
  | 0, hh => absurd hh (by omega)
  | m + 1, hh => by
    unfold suA
    by_cases he : e = m
    · subst he
      have key : ∀ k, k ≤ e → suA h (J ^^^ 2 ^ e) k = suA h J k := by
        intro k
        induction k with
        | zero => exact fun _ => rfl
        | succ k ih =>
          intro hk
          show (if _ then _ else _) = (if _ then _ else _)
          rw [bit_x2 (by omega), ih (by omega)]
      rw [hJ, Nat.testBit_xor, hJ, Nat.testBit_two_pow_self, key e (Nat.le_refl e)]
      simp
    · have ih := suA_del h hJ (m := m) (by omega)
      rw [bit_x2 (show m ≠ e by omega), ih]
      split <;> omega
theorem suA_bd (h : Nat → Nat) (J B : Nat) : ∀ {m : Nat}, (∀ e, e < m → h e ≤ B) → suA h J m ≤ m * B
  | 0, _ => by simp [suA]
  | m + 1, hh => by
    have ih := suA_bd h J B (m := m) (fun e he => hh e (by omega))
    have := hh m (by omega)
    rw [Nat.succ_mul]
    unfold suA
    split <;> omega
theorem ngN_bit (c : Nat → Int) (e : Nat) : ∀ m, (ngN c m).testBit e = (decide (e < m) && decide (c e < 0))
  | 0 => by show (0 : Nat).testBit e = _; simp
  | m + 1 => by
    have ih := ngN_bit c e m
    show (if _ then _ else _ : Nat).testBit e = _
    by_cases he : e = m
    · subst he
      by_cases hc : c e < 0
      · rw [if_pos hc, Nat.testBit_or, Nat.testBit_two_pow_self]; simp [hc]
      · rw [if_neg hc, ih]; simp [hc]
    · have h1 : decide (e < m + 1) = decide (e < m) := by simp; omega
      by_cases hc : c m < 0
      · rw [if_pos hc, Nat.testBit_or, Nat.testBit_two_pow_of_ne (fun q => he q.symm), ih, h1]; simp
      · rw [if_neg hc, ih, h1]
/-- costs with signs out of costs without: what is taken, and the negative ones -/
theorem sum_neg (c : Nat → Int) (K M : Nat) : ∀ m, m ≤ M → sumN c (K ^^^ ngN c M) m = sumN c (ngN c M) m + ((suA (fun e => (c e).natAbs) K m : Nat) : Int)
  | 0, _ => rfl
  | m + 1, h => by
    have ih := sum_neg c K M m (by omega)
    show (if _ then _ else _) = (if _ then _ else _) + (((if _ then _ else _ : Nat) : Nat) : Int)
    rw [Nat.testBit_xor, ngN_bit, decide_eq_true (show m < M by omega), ih]
    by_cases hc : c m < 0
    · rw [decide_eq_true hc]
      cases K.testBit m <;> simp <;> omega
    · rw [decide_eq_false hc]
      cases K.testBit m <;> simp <;> omega
end
section
/-! THE PLAIN LAW, 2: the shortest ways -/
def Val (a b h : Nat → Nat) (m k r len : Nat) : Prop := r < 2 ^ m ∧ oddN a b r m = 2 ^ (k / 7) ^^^ 2 ^ (k % 7) ∧ suA h r m ≤ len
def ValF (a b h : Nat → Nat) (m : Nat) (z : FV) : Prop := ∀ k, k < 49 → z.1 k < 268435456 → Val a b h m k (z.2 k) (z.1 k)
def BdF (z : FV) : Prop := ∀ k, k < 49 → z.1 k ≤ 268435456
def DiF (z : FV) : Prop := ∀ k, k < 49 → k / 7 = k % 7 → z.1 k = 0
def EdF (a b h : Nat → Nat) (e : Nat) (z : FV) : Prop := ∀ i, i < e → z.1 (7 * a i + b i) ≤ h i ∧ z.1 (7 * b i + a i) ≤ h i
def TrF (o : Nat) (z : FV) : Prop := ∀ q, q < o → ∀ i, i < 7 → ∀ j, j < 7 → z.1 (7 * i + j) ≤ z.1 (7 * i + q) + z.1 (7 * q + j)
theorem tk_eq (z : FV) (k len r j : Nat) : (tkN z k len r).1 j = if j = k then min (z.1 k) len else z.1 j := by
  unfold tkN
  by_cases h : len < z.1 k
  · rw [if_pos h]
    show (if _ then _ else _) = _
    by_cases e : j = k
    · rw [if_pos e, if_pos e]; omega
    · rw [if_neg e, if_neg e]
  · rw [if_neg h]
    by_cases e : j = k
    · rw [if_pos e, e]; omega
    · rw [if_neg e]
theorem tk_le (z : FV) (k len r j : Nat) : (tkN z k len r).1 j ≤ z.1 j := by
  rw [tk_eq]
  split
  · next h => rw [h]; omega
  · exact Nat.le_refl _
section FW
variable {a b h : Nat → Nat} {m : Nat} {z : FV}
theorem val_tk {k len r : Nat} (hz : ValF a b h m z) (hb : BdF z) (hv : len < 268435456 → Val a b h m k r len) : ValF a b h m (tkN z k len r) ∧ BdF (tkN z k len r) := by
  constructor
  · unfold tkN
    by_cases hl : len < z.1 k
    · rw [if_pos hl]
      intro j hj hlt
      by_cases e : j = k
      · subst e
        have h1 : (updN z.1 j len) j = len := updN_s
        have h2 : (updN z.2 j r) j = r := updN_s
        show Val a b h m j (updN z.2 j r j) (updN z.1 j len j)
        rw [h1, h2]
        exact hv (by have : updN z.1 j len j < 268435456 := hlt; rw [h1] at this; exact this)
      · have h1 : (updN z.1 k len) j = z.1 j := updN_n e
        have h2 : (updN z.2 k r) j = z.2 j := updN_n e
        show Val a b h m j (updN z.2 k r j) (updN z.1 k len j)
        rw [h1, h2]
        exact hz j hj (by have : updN z.1 k len j < 268435456 := hlt; rw [h1] at this; exact this)
    · rw [if_neg hl]; exact hz
  · intro j hj
    exact Nat.le_trans (tk_le z k len r j) (hb j hj)
theorem di_tk {k len r : Nat} (hz : DiF z) : DiF (tkN z k len r) := by
  intro j hj e
  have := tk_le z k len r j
  rw [hz j hj e] at this
  omega
theorem f0_all : ValF a b h m f0N ∧ BdF f0N ∧ DiF f0N := by
  refine ⟨fun k hk hlt => ?_, fun k hk => ?_, fun k hk e => ?_⟩
  · have hlt : (if k / 7 = k % 7 then 0 else 268435456) < 268435456 := hlt
    have e : k / 7 = k % 7 := by
      rcases Decidable.em (k / 7 = k % 7) with q | q
      · exact q
      · rw [if_neg q] at hlt; omega
    refine ⟨Nat.two_pow_pos m, ?_, ?_⟩
    · show oddN a b 0 m = _
      rw [oddN_0, e, Nat.xor_self]
    · show suA h 0 m ≤ _
      rw [suA_0]; exact Nat.zero_le _
  · show (if _ then _ else _) ≤ _
    split <;> omega
  · exact if_pos e
theorem fe_all {c : Nat → Int} (hh : ∀ e, h e = (c e).natAbs) (hab : ∀ e, e < m → a e < 7 ∧ b e < 7) : ∀ e, e ≤ m → ValF a b h m (feN a b c e) ∧ BdF (feN a b c e) ∧ DiF (feN a b c e) ∧ EdF a b h e (feN a b c e)
  | 0, _ => by
    obtain ⟨h1, h2, h3⟩ := f0_all (a := a) (b := b) (h := h) (m := m)
    exact ⟨h1, h2, h3, fun i hi => absurd hi (by omega)⟩
  | e + 1, he => by
    obtain ⟨h1, h2, h3, h4⟩ := fe_all hh hab e (by omega)
    obtain ⟨ha, hb⟩ := hab e (by omega)
    have hp : (2 : Nat) ^ e < 2 ^ m := Nat.pow_lt_pow_right (by decide) (by omega)
    have v1 : Val a b h m (7 * a e + b e) (2 ^ e) (c e).natAbs := by
      refine ⟨hp, ?_, ?_⟩
      · rw [oddN_one a b (by omega), show (7 * a e + b e) / 7 = a e by omega, show (7 * a e + b e) % 7 = b e by omega]
      · rw [suA_one h (by omega), hh e]; exact Nat.le_refl _
    have v2 : Val a b h m (7 * b e + a e) (2 ^ e) (c e).natAbs := by
      refine ⟨hp, ?_, ?_⟩
      · rw [oddN_one a b (by omega), show (7 * b e + a e) / 7 = b e by omega, show (7 * b e + a e) % 7 = a e by omega, Nat.xor_comm]
      · rw [suA_one h (by omega), hh e]; exact Nat.le_refl _
    obtain ⟨g1, g2⟩ := val_tk h1 h2 (fun _ => v1)
    obtain ⟨k1, k2⟩ := val_tk g1 g2 (fun _ => v2)
    refine ⟨k1, k2, di_tk (di_tk h3), fun i hi => ?_⟩
    show (tkN (tkN (feN a b c e) (7 * a e + b e) (c e).natAbs (2 ^ e)) (7 * b e + a e) (c e).natAbs (2 ^ e)).1 _ ≤ _ ∧ (tkN (tkN (feN a b c e) (7 * a e + b e) (c e).natAbs (2 ^ e)) (7 * b e + a e) (c e).natAbs (2 ^ e)).1 _ ≤ _
    by_cases q : i = e
    · subst q
      rw [hh i]
      constructor
      · refine Nat.le_trans (tk_le _ _ _ _ _) ?_
        rw [tk_eq, if_pos rfl]; omega
      · rw [tk_eq, if_pos rfl]; omega
    · obtain ⟨q1, q2⟩ := h4 i (by omega)
      exact ⟨Nat.le_trans (tk_le _ _ _ _ _) (Nat.le_trans (tk_le _ _ _ _ _) q1), Nat.le_trans (tk_le _ _ _ _ _) (Nat.le_trans (tk_le _ _ _ _ _) q2)⟩
theorem fk_eq {o : Nat} (ho : o < 7) (hd : z.1 (7 * o + o) = 0) : ∀ K, K ≤ 49 → ∀ k, k < 49 → (fkN z o K).1 k = if k < K then min (z.1 k) (z.1 (7 * (k / 7) + o) + z.1 (7 * o + k % 7)) else z.1 k
  | 0, _, k, _ => by rw [if_neg (by omega)]; rfl
  | K + 1, hK, k, hk => by
    have ih := fk_eq ho hd K (by omega)
    have h1 : (fkN z o K).1 (7 * (K / 7) + o) = z.1 (7 * (K / 7) + o) := by
      rw [ih _ (by omega), show (7 * (K / 7) + o) / 7 = K / 7 by omega, show (7 * (K / 7) + o) % 7 = o by omega, hd]
      split <;> omega
    have h2 : (fkN z o K).1 (7 * o + K % 7) = z.1 (7 * o + K % 7) := by
      rw [ih _ (by omega), show (7 * o + K % 7) / 7 = o by omega, show (7 * o + K % 7) % 7 = K % 7 by omega, hd]
      split <;> omega
    show (tkN (fkN z o K) K _ _).1 k = _
    rw [tk_eq, h1, h2]
    by_cases e : k = K
    · subst e
      rw [if_pos rfl, if_pos (by omega), ih k hk, if_neg (by omega)]
    · rw [if_neg e, ih k hk]
      by_cases q : k < K
      · rw [if_pos q, if_pos (by omega)]
      · rw [if_neg q, if_neg (by omega)]
theorem fk_ij {o i j : Nat} (ho : o < 7) (hd : DiF z) (hi : i < 7) (hj : j < 7) : (fkN z o 49).1 (7 * i + j) = min (z.1 (7 * i + j)) (z.1 (7 * i + o) + z.1 (7 * o + j)) := by
  rw [fk_eq ho (hd _ (by omega) (by omega)) 49 (Nat.le_refl _) _ (by omega), if_pos (by omega), show (7 * i + j) / 7 = i by omega, show (7 * i + j) % 7 = j by omega]
theorem fk_val {o : Nat} (ho : o < 7) (hv : ValF a b h m z) (hb : BdF z) : ∀ K, K ≤ 49 → ValF a b h m (fkN z o K) ∧ BdF (fkN z o K)
  | 0, _ => ⟨hv, hb⟩
  | K + 1, hK => by
    obtain ⟨h1, h2⟩ := fk_val ho hv hb K (by omega)
    refine val_tk h1 h2 (fun hl => ?_)
    obtain ⟨p1, p2, p3⟩ := h1 (7 * (K / 7) + o) (by omega) (by omega)
    obtain ⟨q1, q2, q3⟩ := h1 (7 * o + K % 7) (by omega) (by omega)
    rw [show (7 * (K / 7) + o) / 7 = K / 7 by omega, show (7 * (K / 7) + o) % 7 = o by omega] at p2
    rw [show (7 * o + K % 7) / 7 = o by omega, show (7 * o + K % 7) % 7 = K % 7 by omega] at q2
    refine ⟨Nat.xor_lt_two_pow p1 q1, ?_, ?_⟩
    · rw [oddN_xor, p2, q2, xr_m]
    · exact Nat.le_trans (suA_xor h _ _ m) (by omega)
theorem foN_s (z : FV) (o : Nat) : foN z (o + 1) = fkN (foN z o) o 49 := rfl
theorem fo_all {E : Nat} (hab : ∀ e, e < E → a e < 7 ∧ b e < 7) (hv : ValF a b h m z) (hb : BdF z) (hd : DiF z) (he : EdF a b h E z) : ∀ o, o ≤ 7 → ValF a b h m (foN z o) ∧ BdF (foN z o) ∧ DiF (foN z o) ∧ EdF a b h E (foN z o) ∧ TrF o (foN z o)
  | 0, _ => ⟨hv, hb, hd, he, fun q hq => absurd hq (by omega)⟩
  | o + 1, ho => by
    obtain ⟨h1, h2, h3, h4, h5⟩ := fo_all hab hv hb hd he o (by omega)
    have ho7 : o < 7 := by omega
    obtain ⟨k1, k2⟩ := fk_val (K := 49) ho7 h1 h2 (Nat.le_refl _)
    have hij : ∀ {i j : Nat}, i < 7 → j < 7 → (foN z (o + 1)).1 (7 * i + j) = min ((foN z o).1 (7 * i + j)) ((foN z o).1 (7 * i + o) + (foN z o).1 (7 * o + j)) := fun hi hj => by rw [foN_s]; exact fk_ij ho7 h3 hi hj
    have hoo : (foN z o).1 (7 * o + o) = 0 := h3 _ (by omega) (by omega)
    refine ⟨by rw [foN_s]; exact k1, by rw [foN_s]; exact k2, fun k hk e => ?_, fun i hi => ?_, fun q hq i hi j hj => ?_⟩
    · have := hij (i := k / 7) (j := k % 7) (by omega) (by omega)
      rw [show 7 * (k / 7) + k % 7 = k by omega] at this
      rw [this, h3 k hk e]; omega
    · obtain ⟨ha, hb'⟩ := hab i hi
      obtain ⟨q1, q2⟩ := h4 i hi
      rw [hij ha hb', hij hb' ha]
      constructor <;> omega
    · rw [hij hi hj, hij hi (by omega), hij (by omega) hj]
      by_cases e : q = o
      · subst e
        rw [hoo]; omega
      · have t1 := h5 q (by omega) i hi j hj
        have t2 := h5 q (by omega) o ho7 j hj
        have t3 := h5 q (by omega) i hi o ho7
        omega
end FW
/-- what the shortest ways are -/
def FwOk (a b h : Nat → Nat) (m n : Nat) (z : FV) : Prop := ValF a b h m z ∧ BdF z ∧ DiF z ∧ EdF a b h m z ∧ TrF n z
theorem fw_all {a b : Nat → Nat} {c : Nat → Int} {n m : Nat} (hab : ∀ e, e < m → a e < 7 ∧ b e < 7) (hn : n ≤ 7) : FwOk a b (fun e => (c e).natAbs) m n (fwN a b c n m) := by
  obtain ⟨h1, h2, h3, h4⟩ := fe_all (h := fun e => (c e).natAbs) (fun _ => rfl) hab m (Nat.le_refl m)
  exact fo_all hab h1 h2 h3 h4 n hn
end
section
/-! THE PLAIN LAW, 3: every join holds ways between its odd places; the pairs; the best join by costs -/
theorem odd_inc {a b : Nat → Nat} {J v : Nat} : ∀ {m : Nat}, (oddN a b J m).testBit v = true → ∃ e, e < m ∧ J.testBit e = true ∧ (2 ^ a e ^^^ 2 ^ b e).testBit v = true
  | 0, h => by
    have h : (0 : Nat).testBit v = true := h
    rw [Nat.zero_testBit] at h; cases h
  | m + 1, h => by
    unfold oddN at h
    by_cases hJ : J.testBit m = true
    · rw [if_pos hJ, Nat.xor_assoc, Nat.testBit_xor] at h
      by_cases hv : (2 ^ a m ^^^ 2 ^ b m).testBit v = true
      · exact ⟨m, by omega, hJ, hv⟩
      · have hv : (2 ^ a m ^^^ 2 ^ b m).testBit v = false := by simpa using hv
        rw [hv, Bool.xor_false] at h
        obtain ⟨e, h1, h2⟩ := odd_inc h
        exact ⟨e, by omega, h2⟩
    · rw [if_neg hJ] at h
      obtain ⟨e, h1, h2⟩ := odd_inc h
      exact ⟨e, by omega, h2⟩
theorem two_bits {x y v : Nat} (h : (2 ^ x ^^^ 2 ^ y).testBit v = true) : (x = v ∧ y ≠ v) ∨ (x ≠ v ∧ y = v) := by
  rw [Nat.testBit_xor, Nat.testBit_two_pow, Nat.testBit_two_pow] at h
  by_cases h1 : x = v <;> by_cases h2 : y = v <;> simp_all
theorem xr_way (o V U P : Nat) : (o ^^^ (V ^^^ U)) ^^^ U ^^^ P = o ^^^ V ^^^ P := by
  apply Nat.eq_of_testBit_eq; intro i
  simp only [Nat.testBit_xor]
  cases o.testBit i <;> cases V.testBit i <;> cases U.testBit i <;> cases P.testBit i <;> rfl
theorem bit_vu {o v u : Nat} (h : u ≠ v) : (o ^^^ (2 ^ v ^^^ 2 ^ u)).testBit v = !o.testBit v ∧ (o ^^^ (2 ^ v ^^^ 2 ^ u)).testBit u = !o.testBit u ∧ ∀ p, p ≠ v → p ≠ u → (o ^^^ (2 ^ v ^^^ 2 ^ u)).testBit p = o.testBit p := by
  refine ⟨?_, ?_, fun p h1 h2 => ?_⟩
  · rw [Nat.testBit_xor, Nat.testBit_xor, Nat.testBit_two_pow_self, Nat.testBit_two_pow_of_ne h]
    cases o.testBit v <;> rfl
  · rw [Nat.testBit_xor, Nat.testBit_xor, Nat.testBit_two_pow_self, Nat.testBit_two_pow_of_ne (fun q => h q.symm)]
    cases o.testBit u <;> rfl
  · rw [Nat.testBit_xor, Nat.testBit_xor, Nat.testBit_two_pow_of_ne (fun q => h1 q.symm), Nat.testBit_two_pow_of_ne (fun q => h2 q.symm)]
    cases o.testBit p <;> rfl
/-- a join has a way from any odd place v to another, and a join without both is left -/
theorem low_way {a b h : Nat → Nat} {m n : Nat} {z : FV} (hz : FwOk a b h m n z) (hab : ∀ e, e < m → a e < n ∧ b e < n) (hn : n ≤ 7) : ∀ N J : Nat, suA (fun _ => 1) J m < N → J < 2 ^ m → ∀ v, (oddN a b J m).testBit v = true →
    ∃ p, p ≠ v ∧ (oddN a b J m).testBit p = true ∧ p < n ∧ v < n ∧ ∃ K, K < 2 ^ m ∧ oddN a b K m = oddN a b J m ^^^ 2 ^ v ^^^ 2 ^ p ∧ z.1 (7 * v + p) + suA h K m ≤ suA h J m
  | 0, J, hN, _, _, _ => absurd hN (by omega)
  | N + 1, J, hN, hJ, v, hv => by
    obtain ⟨-, -, -, hed, htr⟩ := id hz
    obtain ⟨e, he, hJe, hev⟩ := odd_inc hv
    obtain ⟨hae, hbe⟩ := hab e he
    obtain ⟨hd1, hd2⟩ := hed e he
    obtain ⟨u, huv, hun, hvn, hdu, hx⟩ : ∃ u, u ≠ v ∧ u < n ∧ v < n ∧ z.1 (7 * v + u) ≤ h e ∧ 2 ^ a e ^^^ 2 ^ b e = 2 ^ v ^^^ 2 ^ u := by
      rcases two_bits hev with ⟨h1, h2⟩ | ⟨h1, h2⟩
      · subst h1; exact ⟨b e, h2, hbe, hae, hd1, rfl⟩
      · subst h2; exact ⟨a e, h1, hae, hbe, hd2, Nat.xor_comm _ _⟩
    have hK1 : oddN a b (J ^^^ 2 ^ e) m = oddN a b J m ^^^ (2 ^ v ^^^ 2 ^ u) := by rw [oddN_xor, oddN_one a b he, hx]
    have hKl : J ^^^ 2 ^ e < 2 ^ m := Nat.xor_lt_two_pow hJ (Nat.pow_lt_pow_right (by decide) he)
    have hs := suA_del h hJe he
    have hs1 := suA_del (fun _ => 1) hJe he
    obtain ⟨b1, b2, b3⟩ := bit_vu (o := oddN a b J m) huv
    by_cases hu : (oddN a b J m).testBit u = true
    · exact ⟨u, huv, hu, hun, hvn, J ^^^ 2 ^ e, hKl, by rw [hK1, Nat.xor_assoc], by omega⟩
    · have hu : (oddN a b J m).testBit u = false := by simpa using hu
      have hs1 : suA (fun _ => 1) J m = suA (fun _ => 1) (J ^^^ 2 ^ e) m + 1 := hs1
      obtain ⟨p, hpu, hp, hpn, -, K, hK, hKo, hKs⟩ := low_way hz hab hn N (J ^^^ 2 ^ e) (by omega) hKl u (by rw [hK1, b2, hu]; rfl)
      have hpv : p ≠ v := by
        intro q
        rw [q, hK1, b1, hv] at hp
        exact absurd hp (by decide)
      refine ⟨p, hpv, by rw [hK1, b3 p hpv hpu] at hp; exact hp, hpn, hvn, K, hK, by rw [hKo, hK1, xr_way], ?_⟩
      have := htr u hun v (by omega) p (by omega)
      omega
def PVal (a b h : Nat → Nat) (m : Nat) (y : FV) (S : Nat) : Prop := y.1 S < 268435456 → y.2 S < 2 ^ m ∧ oddN a b (y.2 S) m = S ∧ suA h (y.2 S) m ≤ y.1 S
def PLow (a b h : Nat → Nat) (m : Nat) (y : FV) (S : Nat) : Prop := ∀ J, J < 2 ^ m → oddN a b J m = S → suA h J m < 268435456 → y.1 S ≤ suA h J m
theorem pr_ne {z y : FV} {S t p R : Nat} (h : R ≠ S) : (prN z y S t p).1 R = y.1 R ∧ (prN z y S t p).2 R = y.2 R := by
  unfold prN
  split
  · exact ⟨updN_n h, updN_n h⟩
  · exact ⟨rfl, rfl⟩
theorem pr_le {z y : FV} {S t p : Nat} : (prN z y S t p).1 S ≤ y.1 S := by
  unfold prN
  split
  · next hc =>
    have : (updN y.1 S (y.1 (S ^^^ 2 ^ t ^^^ 2 ^ p) + z.1 (7 * t + p))) S = y.1 (S ^^^ 2 ^ t ^^^ 2 ^ p) + z.1 (7 * t + p) := updN_s
    show (updN y.1 S (y.1 (S ^^^ 2 ^ t ^^^ 2 ^ p) + z.1 (7 * t + p))) S ≤ _
    rw [this]; omega
  · exact Nat.le_refl _
theorem pr_low {z y : FV} {S t p : Nat} (h1 : z.1 (7 * t + p) < 268435456) (h2 : y.1 (S ^^^ 2 ^ t ^^^ 2 ^ p) < 268435456) : (prN z y S t p).1 S ≤ y.1 (S ^^^ 2 ^ t ^^^ 2 ^ p) + z.1 (7 * t + p) := by
  unfold prN
  split
  · have : (updN y.1 S (y.1 (S ^^^ 2 ^ t ^^^ 2 ^ p) + z.1 (7 * t + p))) S = y.1 (S ^^^ 2 ^ t ^^^ 2 ^ p) + z.1 (7 * t + p) := updN_s
    show (updN y.1 S (y.1 (S ^^^ 2 ^ t ^^^ 2 ^ p) + z.1 (7 * t + p))) S ≤ _
    rw [this]; exact Nat.le_refl _
  · next hc => omega
theorem xr_back (S A B : Nat) : (S ^^^ A ^^^ B) ^^^ (A ^^^ B) = S := by
  apply Nat.eq_of_testBit_eq; intro i
  simp only [Nat.testBit_xor]
  cases S.testBit i <;> cases A.testBit i <;> cases B.testBit i <;> rfl
section PA
variable {a b h : Nat → Nat} {m : Nat} {z : FV}
theorem pr_val {y : FV} {S t p : Nat} (hz : ValF a b h m z) (ht : t < 7) (hp : p < 7) (hR : PVal a b h m y (S ^^^ 2 ^ t ^^^ 2 ^ p)) (hS : PVal a b h m y S) : PVal a b h m (prN z y S t p) S := by
  unfold prN
  split
  · next hc =>
    intro _
    obtain ⟨c1, c2, c3⟩ := hc
    obtain ⟨r1, r2, r3⟩ := hR c2
    obtain ⟨q1, q2, q3⟩ := hz (7 * t + p) (by omega) c1
    rw [show (7 * t + p) / 7 = t by omega, show (7 * t + p) % 7 = p by omega] at q2
    have e1 : (updN y.1 S (y.1 (S ^^^ 2 ^ t ^^^ 2 ^ p) + z.1 (7 * t + p))) S = y.1 (S ^^^ 2 ^ t ^^^ 2 ^ p) + z.1 (7 * t + p) := updN_s
    have e2 : (updN y.2 S (y.2 (S ^^^ 2 ^ t ^^^ 2 ^ p) ^^^ z.2 (7 * t + p))) S = y.2 (S ^^^ 2 ^ t ^^^ 2 ^ p) ^^^ z.2 (7 * t + p) := updN_s
    show (updN y.2 S (y.2 (S ^^^ 2 ^ t ^^^ 2 ^ p) ^^^ z.2 (7 * t + p))) S < _ ∧ oddN a b ((updN y.2 S (y.2 (S ^^^ 2 ^ t ^^^ 2 ^ p) ^^^ z.2 (7 * t + p))) S) m = S ∧ suA h ((updN y.2 S (y.2 (S ^^^ 2 ^ t ^^^ 2 ^ p) ^^^ z.2 (7 * t + p))) S) m ≤ (updN y.1 S (y.1 (S ^^^ 2 ^ t ^^^ 2 ^ p) + z.1 (7 * t + p))) S
    rw [e1, e2]
    refine ⟨Nat.xor_lt_two_pow r1 q1, ?_, Nat.le_trans (suA_xor h _ _ m) (by omega)⟩
    rw [oddN_xor, r2, q2, xr_back]
  · exact hS
theorem rest_ne {S t p : Nat} (h : p ≠ t) : S ^^^ 2 ^ t ^^^ 2 ^ p ≠ S := by
  intro e
  have : (S ^^^ 2 ^ t ^^^ 2 ^ p).testBit t = S.testBit t := by rw [e]
  rw [bit_x2 (fun q => h q.symm), Nat.testBit_xor, Nat.testBit_two_pow_self] at this
  cases hq : S.testBit t <;> rw [hq] at this <;> exact absurd this (by decide)
theorem pi_ne {z y : FV} {S t R : Nat} (h : R ≠ S) : ∀ P, (piN z y S t P).1 R = y.1 R ∧ (piN z y S t P).2 R = y.2 R
  | 0 => ⟨rfl, rfl⟩
  | P + 1 => by
    have ih := pi_ne (z := z) (y := y) (t := t) h P
    unfold piN
    split
    · have := pr_ne (z := z) (y := piN z y S t P) (t := t) (p := P) h
      exact ⟨this.1.trans ih.1, this.2.trans ih.2⟩
    · exact ih
theorem pval_eq {y y' : FV} {S : Nat} (h1 : y'.1 S = y.1 S) (h2 : y'.2 S = y.2 S) (hq : PVal a b h m y S) : PVal a b h m y' S := by
  unfold PVal
  rw [h1, h2]
  exact hq
theorem pi_val {y : FV} {S t : Nat} (hz : ValF a b h m z) (ht : t < 7) (hS : PVal a b h m y S) : ∀ P, P ≤ t → (∀ p, p < P → S.testBit p = true → PVal a b h m y (S ^^^ 2 ^ t ^^^ 2 ^ p)) → PVal a b h m (piN z y S t P) S
  | 0, _, _ => hS
  | P + 1, hP, hR => by
    have ih := pi_val hz ht hS P (by omega) (fun p hp => hR p (by omega))
    unfold piN
    split
    · next hb =>
      have hne := pi_ne (z := z) (y := y) (S := S) (t := t) (rest_ne (S := S) (show P ≠ t by omega)) P
      exact pr_val hz ht (by omega) (pval_eq hne.1 hne.2 (hR P (by omega) hb)) ih
    · exact ih
theorem pi_low {y : FV} {S t p : Nat} (hpt : p < t) (hb : S.testBit p = true) (h1 : z.1 (7 * t + p) < 268435456) (h2 : y.1 (S ^^^ 2 ^ t ^^^ 2 ^ p) < 268435456) : ∀ P, p < P → (piN z y S t P).1 S ≤ y.1 (S ^^^ 2 ^ t ^^^ 2 ^ p) + z.1 (7 * t + p)
  | 0, hp => absurd hp (by omega)
  | P + 1, hp => by
    by_cases e : p = P
    · subst e
      unfold piN
      rw [if_pos hb]
      have hne := (pi_ne (z := z) (y := y) (S := S) (t := t) (rest_ne (S := S) (show p ≠ t by omega)) p).1
      have := pr_low (z := z) (y := piN z y S t p) (S := S) (t := t) (p := p) h1 (by rw [hne]; exact h2)
      rw [hne] at this
      exact this
    · have ih := pi_low hpt hb h1 h2 P (by omega)
      unfold piN
      split
      · exact Nat.le_trans pr_le ih
      · exact ih
theorem to_fact : ∀ J, J < 128 → 0 < J → J.testBit (toN J 6) = true ∧ ∀ q, q < 7 → J.testBit q = true → q ≤ toN J 6 := by decide +kernel
theorem rest_sub {S goal t p : Nat} (hs : S &&& goal = S) (hpt : p < t) (ht : S.testBit t = true) (hp : S.testBit p = true) : (S ^^^ 2 ^ t ^^^ 2 ^ p) &&& goal = S ^^^ 2 ^ t ^^^ 2 ^ p := by
  apply Nat.eq_of_testBit_eq; intro i
  have hi : (S &&& goal).testBit i = S.testBit i := by rw [hs]
  rw [Nat.testBit_and] at hi
  rw [Nat.testBit_and, Nat.testBit_xor, Nat.testBit_xor, Nat.testBit_two_pow, Nat.testBit_two_pow]
  by_cases e1 : t = i
  · subst e1; rw [ht, decide_eq_true rfl, decide_eq_false (by omega)]; simp
  · by_cases e2 : p = i
    · subst e2; rw [hp, decide_eq_false e1, decide_eq_true rfl]; simp
    · rw [decide_eq_false e1, decide_eq_false e2]
      cases hS : S.testBit i <;> rw [hS] at hi <;> simp_all
theorem p1_ne {y : FV} {S R : Nat} (h : R ≠ S) : (p1N y S).1 R = y.1 R ∧ (p1N y S).2 R = y.2 R := ⟨updN_n h, updN_n h⟩
theorem p1_at {y : FV} {S : Nat} : (p1N y S).1 S = 268435456 := updN_s
theorem pu_all {n goal : Nat} (hz : FwOk a b h m n z) (hab : ∀ e, e < m → a e < n ∧ b e < n) (hn : n ≤ 7) (hg : goal < 128) (y0 : FV) : ∀ k, k ≤ goal → ∀ S, S ≤ k → PVal a b h m (puN z y0 goal k) S ∧ (S &&& goal = S → PLow a b h m (puN z y0 goal k) S)
  | 0, _, S, hS => by
    have hS0 : S = 0 := by omega
    subst hS0
    have e1 : (puN z y0 goal 0).1 0 = 0 := (updN_s : updN y0.1 0 0 0 = 0)
    have e2 : (puN z y0 goal 0).2 0 = 0 := (updN_s : updN y0.2 0 0 0 = 0)
    refine ⟨fun _ => ?_, fun _ J _ _ _ => by rw [e1]; exact Nat.zero_le _⟩
    rw [e1, e2, oddN_0, suA_0]
    exact ⟨Nat.two_pow_pos m, rfl, Nat.le_refl _⟩
  | k + 1, hk, S, hS => by
    have ih := pu_all hz hab hn hg y0 k (by omega)
    have hvz : ValF a b h m z := hz.1
    unfold puN
    by_cases hsu : (k + 1) &&& goal = k + 1
    · rw [if_pos hsu]
      by_cases e : S = k + 1
      · subst e
        obtain ⟨ht, htm⟩ := to_fact (k + 1) (by omega) (by omega)
        have ht7 : toN (k + 1) 6 < 7 := by have := toN_le (J := k + 1) 6; omega
        generalize toN (k + 1) 6 = t at ht htm ht7 ⊢
        have hrest : ∀ p, p < t → (k + 1).testBit p = true → (k + 1) ^^^ 2 ^ t ^^^ 2 ^ p ≤ k := fun p hp hb => by
          have := pr_lt (J := k + 1) (by omega) ht7 hp ht hb
          omega
        have hy1 : ∀ R, R ≤ k → (p1N (puN z y0 goal k) (k + 1)).1 R = (puN z y0 goal k).1 R ∧ (p1N (puN z y0 goal k) (k + 1)).2 R = (puN z y0 goal k).2 R := fun R hR => p1_ne (by omega)
        constructor
        · refine pi_val hvz ht7 (fun hlt => absurd hlt (by rw [p1_at]; omega)) t (Nat.le_refl t) (fun p hp hb => ?_)
          have hR := hrest p hp hb
          exact pval_eq (hy1 _ hR).1 (hy1 _ hR).2 (ih _ hR).1
        · intro _ J hJ hJo hJs
          obtain ⟨p, hpt, hpb, hpn, -, K, hK, hKo, hKs⟩ := low_way hz hab hn (suA (fun _ => 1) J m + 1) J (by omega) hJ t (by rw [hJo]; exact ht)
          rw [hJo] at hpb hKo
          have hpt' : p < t := by have := htm p (by omega) hpb; omega
          have hR := hrest p hpt' hpb
          have hlow := (ih _ hR).2 (rest_sub hsu hpt' ht hpb) K hK hKo (by omega)
          have := pi_low (z := z) (y := p1N (puN z y0 goal k) (k + 1)) (S := k + 1) hpt' hpb (by omega) (by rw [(hy1 _ hR).1]; omega) t hpt'
          rw [(hy1 _ hR).1] at this
          omega
      · have hne := pi_ne (z := z) (y := p1N (puN z y0 goal k) (k + 1)) (S := k + 1) (t := toN (k + 1) 6) e (toN (k + 1) 6)
        have h1 := p1_ne (y := puN z y0 goal k) e
        obtain ⟨i1, i2⟩ := ih S (by omega)
        refine ⟨pval_eq (hne.1.trans h1.1) (hne.2.trans h1.2) i1, fun hs J hJ hJo hJs => ?_⟩
        rw [hne.1, h1.1]
        exact i2 hs J hJ hJo hJs
    · rw [if_neg hsu]
      by_cases e : S = k + 1
      · subst e
        exact ⟨fun hlt => absurd hlt (by rw [p1_at]; omega), fun hs => absurd hs hsu⟩
      · have h1 := p1_ne (y := puN z y0 goal k) e
        obtain ⟨i1, i2⟩ := ih S (by omega)
        refine ⟨pval_eq h1.1 h1.2 i1, fun hs J hJ hJo hJs => ?_⟩
        rw [h1.1]
        exact i2 hs J hJ hJo hJs
end PA
theorem xr_c (A B : Nat) : A ^^^ B ^^^ B = A := xr_b A B
/-- solve answers a join of the least cost -/
theorem so_opt {a b : Nat → Nat} {c : Nat → Int} {n m J : Nat} (hab : ∀ e, e < m → a e < n ∧ b e < n) (hn : n ≤ 7) (hm : m ≤ 12) (hc : ∀ e, e < m → (c e).natAbs < 16777216) (hJ : J < 128) (hex : ∃ K, K < 2 ^ m ∧ oddN a b K m = J) :
    soJ a b c n m J < 2 ^ m ∧ oddN a b (soJ a b c n m J) m = J ∧ ∀ K, K < 2 ^ m → oddN a b K m = J → sumN c (soJ a b c n m J) m ≤ sumN c K m := by
  have hab7 : ∀ e, e < m → a e < 7 ∧ b e < 7 := fun e he => ⟨Nat.lt_of_lt_of_le (hab e he).1 hn, Nat.lt_of_lt_of_le (hab e he).2 hn⟩
  have hz := fw_all (c := c) hab7 hn
  have hg : goN a b c m J < 128 := Nat.xor_lt_two_pow (n := 7) hJ (oddN_lt (N := 7) hab7)
  obtain ⟨hv, hl⟩ := pu_all hz hab hn hg (fun _ => 0, fun _ => 0) (goN a b c m J) (Nat.le_refl _) (goN a b c m J) (Nat.le_refl _)
  have hl := hl (Nat.and_self _)
  have hN : ngN c m < 2 ^ m := ngN_lt (Nat.le_refl m)
  have hfar : ∀ K, suA (fun e => (c e).natAbs) K m < 268435456 := fun K => by
    have := suA_bd (fun e => (c e).natAbs) K 16777215 (m := m) (fun e he => by have := hc e he; show (c e).natAbs ≤ _; omega)
    have h2 : m * 16777215 ≤ 12 * 16777215 := Nat.mul_le_mul_right _ hm
    omega
  have hmove : ∀ K, oddN a b K m = J → oddN a b (K ^^^ ngN c m) m = goN a b c m J := fun K hK => by rw [oddN_xor, hK]; rfl
  unfold soJ
  generalize hy : puN (fwN a b c n m) (fun _ => 0, fun _ => 0) (goN a b c m J) (goN a b c m J) = y at hv hl ⊢
  obtain ⟨K0, hK0, hK0o⟩ := hex
  have hlow : ∀ K, K < 2 ^ m → oddN a b K m = J → y.1 (goN a b c m J) ≤ suA (fun e => (c e).natAbs) (K ^^^ ngN c m) m := fun K hK hKo => hl _ (Nat.xor_lt_two_pow hK hN) (hmove K hKo) (hfar _)
  obtain ⟨v1, v2, v3⟩ := hv (Nat.lt_of_le_of_lt (hlow K0 hK0 hK0o) (hfar _))
  refine ⟨Nat.xor_lt_two_pow v1 hN, ?_, fun K hK hKo => ?_⟩
  · rw [oddN_xor, v2]
    exact xr_c _ _
  · have h1 := sum_neg c (y.2 (goN a b c m J)) m m (Nat.le_refl m)
    have h2 := sum_neg c (K ^^^ ngN c m) m m (Nat.le_refl m)
    rw [xr_c] at h2
    have h3 := hlow K hK hKo
    rw [h1, h2]
    omega
end
section
/-! THE PLAIN LAW, 4: parts of joined places; how many joins there are -/
def cntB (f : Nat → Bool) : Nat → Nat
  | 0 => 0
  | k + 1 => cntB f k + (if f k = true then 1 else 0)
theorem cnt_congr {f g : Nat → Bool} : ∀ {N : Nat}, (∀ q, q < N → f q = g q) → cntB f N = cntB g N
  | 0, _ => rfl
  | N + 1, h => by
    unfold cntB
    rw [cnt_congr (fun q hq => h q (by omega)), h N (by omega)]
theorem cnt_upd {f g : Nat → Bool} {x : Nat} (h : ∀ q, q ≠ x → g q = f q) (hf : f x = false) (hg : g x = true) : ∀ {N : Nat}, x < N → cntB g N = cntB f N + 1
  | 0, hx => absurd hx (by omega)
  | N + 1, hx => by
    unfold cntB
    by_cases e : x = N
    · subst e
      rw [cnt_congr (f := g) (g := f) (fun q hq => h q (by omega)), hf, hg]
      simp
    · rw [cnt_upd h hf hg (N := N) (by omega), h N (by omega)]
      omega
theorem cnt_0 : ∀ N, cntB (fun _ => false) N = 0
  | 0 => rfl
  | N + 1 => by unfold cntB; rw [cnt_0 N]; rfl
theorem cnt_le (f : Nat → Bool) : ∀ N, cntB f N ≤ N
  | 0 => Nat.le_refl 0
  | N + 1 => by
    have := cnt_le f N
    unfold cntB
    split <;> omega
theorem cnt_mono {f g : Nat → Bool} : ∀ {N : Nat}, (∀ q, q < N → f q = true → g q = true) → cntB f N ≤ cntB g N
  | 0, _ => Nat.le_refl 0
  | N + 1, h => by
    have ih := cnt_mono (f := f) (g := g) (N := N) (fun q hq => h q (by omega))
    unfold cntB
    by_cases hf : f N = true
    · rw [if_pos hf, if_pos (h N (by omega) hf)]; omega
    · rw [if_neg hf]; omega
theorem cnt_less {f g : Nat → Bool} {x : Nat} : ∀ {N : Nat}, (∀ q, q < N → f q = true → g q = true) → x < N → f x = false → g x = true → cntB f N < cntB g N
  | 0, _, hx, _, _ => absurd hx (by omega)
  | N + 1, h, hx, hf, hg => by
    unfold cntB
    by_cases e : x = N
    · subst e
      have := cnt_mono (f := f) (g := g) (N := x) (fun q hq => h q (by omega))
      rw [hf, hg]; simp; omega
    · have ih := cnt_less (f := f) (g := g) (N := N) (fun q hq => h q (by omega)) (by omega) hf hg
      by_cases hfN : f N = true
      · rw [if_pos hfN, if_pos (h N (by omega) hfN)]; omega
      · rw [if_neg hfN]; omega
/-- a label is in use below k -/
def usB (pt : Nat → Nat) : Nat → Nat → Bool
  | 0, _ => false
  | k + 1, q => usB pt k q || decide (pt k = q)
theorem us_iff {pt : Nat → Nat} {q : Nat} : ∀ {k : Nat}, usB pt k q = true ↔ ∃ p, p < k ∧ pt p = q
  | 0 => by
    constructor
    · intro h; exact absurd h (by simp [usB])
    · rintro ⟨p, hp, -⟩; omega
  | k + 1 => by
    unfold usB
    rw [Bool.or_eq_true, us_iff, decide_eq_true_iff]
    constructor
    · rintro (⟨p, h1, h2⟩ | h)
      · exact ⟨p, by omega, h2⟩
      · exact ⟨k, by omega, h⟩
    · rintro ⟨p, h1, h2⟩
      by_cases e : p = k
      · subst e; exact Or.inr h2
      · exact Or.inl ⟨p, by omega, h2⟩
theorem fi_us {pt : Nat → Nat} {p : Nat} : ∀ k, fiN pt p k = !usB pt k (pt p)
  | 0 => rfl
  | k + 1 => by
    unfold fiN usB
    rw [fi_us k, Bool.not_or]
theorem cp_us {pt : Nat → Nat} {N : Nat} : ∀ {k : Nat}, (∀ p, p < k → pt p < N) → cpN pt k = cntB (usB pt k) N
  | 0, _ => (cnt_0 N).symm
  | k + 1, h => by
    have ih := cp_us (pt := pt) (N := N) (k := k) (fun p hp => h p (by omega))
    unfold cpN
    rw [fi_us, ih]
    cases hu : usB pt k (pt k) with
    | true =>
      have : cntB (usB pt (k + 1)) N = cntB (usB pt k) N := cnt_congr (fun q _ => by
        show (usB pt k q || decide (pt k = q)) = _
        by_cases e : pt k = q
        · rw [← e, hu]; simp
        · rw [decide_eq_false e, Bool.or_false])
      rw [this]; rfl
    | false =>
      have : cntB (usB pt (k + 1)) N = cntB (usB pt k) N + 1 := cnt_upd (x := pt k) (fun q hq => by
        show (usB pt k q || decide (pt k = q)) = _
        rw [decide_eq_false (fun e => hq e.symm), Bool.or_false]) hu (by
        show (usB pt k (pt k) || decide (pt k = pt k)) = true
        simp) (h k (by omega))
      rw [this]; rfl
theorem us_merge {pt pt' : Nat → Nat} {A B n N x y : Nat} (hp : ∀ j, pt' j = if pt j = B then A else pt j) (hx : x < n) (hy : y < n) (hA : pt x = A) (hB : pt y = B) (hne : A ≠ B) (hBN : B < N) : cntB (usB pt n) N = cntB (usB pt' n) N + 1 := by
  refine cnt_upd (x := B) (fun q hq => ?_) ?_ (us_iff.mpr ⟨y, hy, hB⟩) hBN
  · rw [Bool.eq_iff_iff, us_iff, us_iff]
    constructor
    · rintro ⟨p, h1, h2⟩
      exact ⟨p, h1, by rw [hp, if_neg (by rw [h2]; exact hq), h2]⟩
    · rintro ⟨p, h1, h2⟩
      rw [hp] at h2
      by_cases e : pt p = B
      · rw [if_pos e] at h2; exact ⟨x, hx, by rw [hA]; exact h2⟩
      · rw [if_neg e] at h2; exact ⟨p, h1, h2⟩
  · cases hu : usB pt' n B with
    | false => rfl
    | true =>
      obtain ⟨p, h1, h2⟩ := us_iff.mp hu
      rw [hp] at h2
      by_cases e : pt p = B
      · rw [if_pos e] at h2; exact absurd h2 hne
      · rw [if_neg e] at h2; exact absurd h2 e
theorem pa_xor {pt : Nat → Nat} {S S' q : Nat} : ∀ k, paN pt (S ^^^ S') q k = (paN pt S q k ^^ paN pt S' q k)
  | 0 => rfl
  | k + 1 => by
    unfold paN
    rw [pa_xor k, Nat.testBit_xor]
    cases paN pt S q k <;> cases paN pt S' q k <;> cases decide (pt k = q) <;> cases S.testBit k <;> cases S'.testBit k <;> rfl
theorem pa_two_lo {pt : Nat → Nat} {x q : Nat} : ∀ {k : Nat}, k ≤ x → paN pt (2 ^ x) q k = false
  | 0, _ => rfl
  | k + 1, h => by
    unfold paN
    rw [pa_two_lo (by omega), Nat.testBit_two_pow_of_ne (by omega), Bool.and_false]; rfl
theorem pa_two {pt : Nat → Nat} {x q : Nat} : ∀ {k : Nat}, x < k → paN pt (2 ^ x) q k = decide (pt x = q)
  | 0, h => absurd h (by omega)
  | k + 1, h => by
    unfold paN
    by_cases e : x = k
    · subst e
      rw [pa_two_lo (Nat.le_refl x), Nat.testBit_two_pow_self, Bool.and_true, Bool.false_xor]
    · rw [pa_two (by omega), Nat.testBit_two_pow_of_ne e, Bool.and_false, Bool.xor_false]
theorem pa_merge {pt pt' : Nat → Nat} {A B S : Nat} (hp : ∀ j, pt' j = if pt j = B then A else pt j) (hne : A ≠ B) : ∀ k, paN pt' S A k = (paN pt S A k ^^ paN pt S B k) ∧ paN pt' S B k = false ∧ ∀ q, q ≠ A → q ≠ B → paN pt' S q k = paN pt S q k
  | 0 => ⟨rfl, rfl, fun _ _ _ => rfl⟩
  | k + 1 => by
    obtain ⟨h1, h2, h3⟩ := pa_merge hp hne k
    refine ⟨?_, ?_, fun q hA hB => ?_⟩
    · unfold paN
      rw [h1, hp k]
      by_cases e : pt k = B
      · rw [if_pos e, e, decide_eq_true rfl, decide_eq_false (show ¬ B = A from fun q => hne q.symm), decide_eq_true rfl]
        cases paN pt S A k <;> cases paN pt S B k <;> cases S.testBit k <;> rfl
      · rw [if_neg e, decide_eq_false e]
        cases paN pt S A k <;> cases paN pt S B k <;> cases S.testBit k <;> cases decide (pt k = A) <;> rfl
    · unfold paN
      rw [h2, hp k]
      by_cases e : pt k = B
      · rw [if_pos e, decide_eq_false hne]; rfl
      · rw [if_neg e, decide_eq_false e]; rfl
    · unfold paN
      rw [h3 q hA hB, hp k]
      by_cases e : pt k = B
      · rw [if_pos e, e, decide_eq_false (show ¬ A = q from fun r => hA r.symm), decide_eq_false (show ¬ B = q from fun r => hB r.symm)]
      · rw [if_neg e]
theorem odd_congr {a b : Nat → Nat} {J K : Nat} : ∀ {m : Nat}, (∀ j, j < m → J.testBit j = K.testBit j) → oddN a b J m = oddN a b K m
  | 0, _ => rfl
  | m + 1, h => by
    unfold oddN
    rw [odd_congr (fun j hj => h j (by omega)), h m (by omega)]
theorem cj_lo {a b : Nat → Nat} {m T : Nat} : ∀ {K : Nat}, K ≤ 2 ^ m → cjN a b (m + 1) T K = cjN a b m T K
  | 0, _ => rfl
  | K + 1, h => by
    have : oddN a b K (m + 1) = oddN a b K m := if_neg (by rw [Nat.testBit_lt_two_pow (show K < 2 ^ m by omega)]; decide)
    unfold cjN
    rw [this, cj_lo (by omega)]
theorem xr_eq {o T A B : Nat} : o ^^^ A ^^^ B = T ↔ o = T ^^^ A ^^^ B := by
  constructor
  · intro h
    rw [← h]
    apply Nat.eq_of_testBit_eq; intro i
    simp only [Nat.testBit_xor]
    cases o.testBit i <;> cases A.testBit i <;> cases B.testBit i <;> rfl
  · intro h
    rw [h]
    apply Nat.eq_of_testBit_eq; intro i
    simp only [Nat.testBit_xor]
    cases T.testBit i <;> cases A.testBit i <;> cases B.testBit i <;> rfl
theorem cjN_s {a b : Nat → Nat} {m T k : Nat} : cjN a b m T (k + 1) = if oddN a b k m = T then cjN a b m T k + 1 else cjN a b m T k := rfl
theorem cj_hi {a b : Nat → Nat} {m T : Nat} : ∀ {K : Nat}, K ≤ 2 ^ m → cjN a b (m + 1) T (2 ^ m + K) = cjN a b m T (2 ^ m) + cjN a b m (T ^^^ 2 ^ a m ^^^ 2 ^ b m) K
  | 0, _ => cj_lo (Nat.le_refl _)
  | K + 1, h => by
    have hb : (2 ^ m + K).testBit m = true := by rw [Nat.testBit_two_pow_add_eq, Nat.testBit_lt_two_pow (show K < 2 ^ m by omega)]; rfl
    have ho : oddN a b (2 ^ m + K) (m + 1) = oddN a b K m ^^^ 2 ^ a m ^^^ 2 ^ b m := by
      have : oddN a b (2 ^ m + K) m = oddN a b K m := odd_congr (fun j hj => Nat.testBit_two_pow_add_gt hj K)
      rw [← this]
      exact if_pos hb
    show cjN a b (m + 1) T ((2 ^ m + K) + 1) = _
    have ih := cj_hi (a := a) (b := b) (m := m) (T := T) (K := K) (by omega)
    rw [cjN_s, cjN_s, ho, ih]
    by_cases e : oddN a b K m = T ^^^ 2 ^ a m ^^^ 2 ^ b m
    · rw [if_pos e, if_pos (xr_eq.mpr e)]; omega
    · rw [if_neg e, if_neg (fun q => e (xr_eq.mp q))]
theorem cj_rec {a b : Nat → Nat} {m T : Nat} : cjN a b (m + 1) T (2 ^ (m + 1)) = cjN a b m T (2 ^ m) + cjN a b m (T ^^^ 2 ^ a m ^^^ 2 ^ b m) (2 ^ m) := by
  rw [show 2 ^ (m + 1) = 2 ^ m + 2 ^ m by rw [Nat.pow_succ]; omega]
  exact cj_hi (Nat.le_refl _)
theorem cj_pos {a b : Nat → Nat} {m T : Nat} : ∀ {K : Nat}, 0 < cjN a b m T K ↔ ∃ J, J < K ∧ oddN a b J m = T
  | 0 => by
    constructor
    · intro h; exact absurd h (by simp [cjN])
    · rintro ⟨J, h, -⟩; omega
  | K + 1 => by
    have ih := cj_pos (a := a) (b := b) (m := m) (T := T) (K := K)
    unfold cjN
    by_cases e : oddN a b K m = T
    · rw [if_pos e]
      exact ⟨fun _ => ⟨K, by omega, e⟩, fun _ => by omega⟩
    · rw [if_neg e, ih]
      constructor
      · rintro ⟨J, h1, h2⟩; exact ⟨J, by omega, h2⟩
      · rintro ⟨J, h1, h2⟩
        by_cases q : J = K
        · subst q; exact absurd h2 e
        · exact ⟨J, by omega, h2⟩
theorem pa_id_lo {a b : Nat → Nat} {T q : Nat} : ∀ {k : Nat}, k ≤ q → paN (ptN a b 0) T q k = false
  | 0, _ => rfl
  | k + 1, h => by
    unfold paN
    rw [pa_id_lo (by omega), decide_eq_false (show ¬ ptN a b 0 k = q from fun e => by have e : k = q := e; omega)]; rfl
theorem pa_id {a b : Nat → Nat} {T q : Nat} : ∀ {k : Nat}, q < k → paN (ptN a b 0) T q k = T.testBit q
  | 0, h => absurd h (by omega)
  | k + 1, h => by
    unfold paN
    by_cases e : q = k
    · subst e
      rw [pa_id_lo (Nat.le_refl q), decide_eq_true (show ptN a b 0 q = q from rfl), Bool.true_and, Bool.false_xor]
    · rw [pa_id (by omega), decide_eq_false (show ¬ ptN a b 0 k = q from fun r => by have r : k = q := r; omega), Bool.false_and, Bool.xor_false]
theorem cp_id {a b : Nat → Nat} : ∀ k, cpN (ptN a b 0) k = k
  | 0 => rfl
  | k + 1 => by
    have hf : fiN (ptN a b 0) k k = true := by
      rw [fi_us]
      cases hu : usB (ptN a b 0) k (ptN a b 0 k) with
      | false => rfl
      | true =>
        obtain ⟨p, h1, h2⟩ := us_iff.mp hu
        have h2 : p = k := h2
        omega
    unfold cpN
    rw [cp_id k, hf]; rfl
theorem cp_le (pt : Nat → Nat) : ∀ k, cpN pt k ≤ k
  | 0 => Nat.le_refl 0
  | k + 1 => by
    have := cp_le pt k
    unfold cpN
    split <;> omega
/-- how many joins: 2 to the roads, less the places, more the parts; none if an odd number is wanted in a part -/
theorem cj_main {a b : Nat → Nat} {n : Nat} : ∀ m, (∀ e, e < m → a e < n ∧ b e < n) → ∀ T, T < 2 ^ n → (posN a b n m T → cjN a b m T (2 ^ m) * 2 ^ n = 2 ^ (m + cpN (ptN a b m) n)) ∧ (¬ posN a b n m T → cjN a b m T (2 ^ m) = 0)
  | 0, _, T, hT => by
    have hpos : posN a b n 0 T ↔ T = 0 := by
      constructor
      · intro h
        apply Nat.eq_of_testBit_eq; intro i
        rw [Nat.zero_testBit]
        rcases Nat.lt_or_ge i n with q | q
        · rw [← pa_id (a := a) (b := b) (T := T) q]; exact h i q
        · exact Nat.testBit_lt_two_pow (Nat.lt_of_lt_of_le hT (Nat.pow_le_pow_right (by decide) q))
      · intro h q hq
        rw [pa_id hq, h, Nat.zero_testBit]
    have hc : cjN a b 0 T (2 ^ 0) = if 0 = T then 0 + 1 else 0 := rfl
    rw [hpos, hc, cp_id]
    constructor
    · intro h
      rw [if_pos h.symm]; simp
    · intro h
      exact if_neg (fun q => h q.symm)
  | m + 1, hab, T, hT => by
    have ih := cj_main (a := a) (b := b) (n := n) m (fun e he => hab e (by omega))
    obtain ⟨ha, hb⟩ := hab m (by omega)
    have hab' : ∀ e, e < m → a e < n ∧ b e < n := fun e he => hab e (by omega)
    have hA : ptN a b m (a m) < n := ptN_lt hab' ha
    have hB : ptN a b m (b m) < n := ptN_lt hab' hb
    have hT2 : T ^^^ 2 ^ a m ^^^ 2 ^ b m < 2 ^ n := Nat.xor_lt_two_pow (Nat.xor_lt_two_pow hT (Nat.pow_lt_pow_right (by decide) ha)) (Nat.pow_lt_pow_right (by decide) hb)
    obtain ⟨i1, i2⟩ := ih T hT
    obtain ⟨j1, j2⟩ := ih (T ^^^ 2 ^ a m ^^^ 2 ^ b m) hT2
    have hpt : ∀ j, ptN a b (m + 1) j = if ptN a b m j = ptN a b m (b m) then ptN a b m (a m) else ptN a b m j := fun j => rfl
    have hpa : ∀ q, paN (ptN a b m) (T ^^^ 2 ^ a m ^^^ 2 ^ b m) q n = (paN (ptN a b m) T q n ^^ decide (ptN a b m (a m) = q) ^^ decide (ptN a b m (b m) = q)) := fun q => by
      rw [pa_xor, pa_xor, pa_two ha, pa_two hb]
    rw [cj_rec]
    by_cases hAB : ptN a b m (a m) = ptN a b m (b m)
    · have hfun : ptN a b (m + 1) = ptN a b m := by
        funext j
        rw [hpt]
        by_cases e : ptN a b m j = ptN a b m (b m)
        · rw [if_pos e, e, hAB]
        · rw [if_neg e]
      have h1 : posN a b n (m + 1) T ↔ posN a b n m T := by unfold posN; rw [hfun]
      have h2 : posN a b n m (T ^^^ 2 ^ a m ^^^ 2 ^ b m) ↔ posN a b n m T := by
        unfold posN
        constructor
        · intro h q hq
          have := h q hq
          rw [hpa, hAB, Bool.xor_assoc, Bool.xor_self, Bool.xor_false] at this
          exact this
        · intro h q hq
          rw [hpa, hAB, Bool.xor_assoc, Bool.xor_self, Bool.xor_false]
          exact h q hq
      rw [h1, hfun]
      constructor
      · intro h
        rw [Nat.add_mul, i1 h, j1 (h2.mpr h), show m + 1 + cpN (ptN a b m) n = (m + cpN (ptN a b m) n) + 1 by omega, Nat.pow_succ]
        omega
      · intro h
        rw [i2 h, j2 (fun q => h (h2.mp q))]
    · obtain ⟨m1, m2, m3⟩ := pa_merge (S := T) hpt hAB n
      have hcp : cpN (ptN a b m) n = cpN (ptN a b (m + 1)) n + 1 := by
        rw [cp_us (N := n) (fun p hp => ptN_lt hab' hp), cp_us (N := n) (fun p hp => ptN_lt hab hp)]
        exact us_merge hpt ha hb rfl rfl hAB hB
      have hBA : ¬ ptN a b m (b m) = ptN a b m (a m) := fun e => hAB e.symm
      have pA : paN (ptN a b m) (T ^^^ 2 ^ a m ^^^ 2 ^ b m) (ptN a b m (a m)) n = !paN (ptN a b m) T (ptN a b m (a m)) n := by
        rw [hpa, decide_eq_true rfl, decide_eq_false hBA, Bool.xor_false, Bool.xor_true]
      have pB : paN (ptN a b m) (T ^^^ 2 ^ a m ^^^ 2 ^ b m) (ptN a b m (b m)) n = !paN (ptN a b m) T (ptN a b m (b m)) n := by
        rw [hpa, decide_eq_true rfl, decide_eq_false hAB, Bool.xor_false, Bool.xor_true]
      have pq : ∀ q, q ≠ ptN a b m (a m) → q ≠ ptN a b m (b m) → paN (ptN a b m) (T ^^^ 2 ^ a m ^^^ 2 ^ b m) q n = paN (ptN a b m) T q n := fun q h1 h2 => by
        rw [hpa, decide_eq_false (fun e => h1 e.symm), decide_eq_false (fun e => h2 e.symm), Bool.xor_false, Bool.xor_false]
      have hex : posN a b n (m + 1) T → (posN a b n m T ∧ ¬ posN a b n m (T ^^^ 2 ^ a m ^^^ 2 ^ b m)) ∨ (¬ posN a b n m T ∧ posN a b n m (T ^^^ 2 ^ a m ^^^ 2 ^ b m)) := by
        intro h
        have hs := h _ hA
        rw [m1] at hs
        cases hq : paN (ptN a b m) T (ptN a b m (a m)) n with
        | false =>
          refine Or.inl ⟨fun q hqn => ?_, fun hp => ?_⟩
          · by_cases e1 : q = ptN a b m (a m)
            · rw [e1]; exact hq
            · by_cases e2 : q = ptN a b m (b m)
              · rw [e2]; rw [hq, Bool.false_xor] at hs; exact hs
              · rw [← m3 q e1 e2]; exact h q hqn
          · have := hp _ hA
            rw [pA, hq] at this
            exact absurd this (by decide)
        | true =>
          refine Or.inr ⟨fun hp => ?_, fun q hqn => ?_⟩
          · have := hp _ hA
            rw [hq] at this
            exact absurd this (by decide)
          · by_cases e1 : q = ptN a b m (a m)
            · rw [e1, pA, hq]; rfl
            · by_cases e2 : q = ptN a b m (b m)
              · rw [e2, pB]; rw [hq] at hs
                cases hb2 : paN (ptN a b m) T (ptN a b m (b m)) n with
                | true => rfl
                | false => rw [hb2] at hs; exact absurd hs (by decide)
              · rw [pq q e1 e2, ← m3 q e1 e2]; exact h q hqn
      have hin1 : posN a b n m T → posN a b n (m + 1) T := by
        intro h q hq
        by_cases e1 : q = ptN a b m (a m)
        · rw [e1, m1, h _ hA, h _ hB]; rfl
        · by_cases e2 : q = ptN a b m (b m)
          · rw [e2]; exact m2
          · rw [m3 q e1 e2]; exact h q hq
      have hin2 : posN a b n m (T ^^^ 2 ^ a m ^^^ 2 ^ b m) → posN a b n (m + 1) T := by
        intro h q hq
        have hA1 := h _ hA
        have hB1 := h _ hB
        rw [pA] at hA1
        rw [pB] at hB1
        by_cases e1 : q = ptN a b m (a m)
        · rw [e1, m1]
          cases h1 : paN (ptN a b m) T (ptN a b m (a m)) n <;> cases h2 : paN (ptN a b m) T (ptN a b m (b m)) n <;> rw [h1] at hA1 <;> rw [h2] at hB1 <;> simp_all
        · by_cases e2 : q = ptN a b m (b m)
          · rw [e2]; exact m2
          · rw [m3 q e1 e2, ← pq q e1 e2]; exact h q hq
      constructor
      · intro h
        rw [show m + 1 + cpN (ptN a b (m + 1)) n = m + cpN (ptN a b m) n by omega]
        rcases hex h with ⟨h1, h2⟩ | ⟨h1, h2⟩
        · rw [j2 h2, Nat.add_zero, i1 h1]
        · rw [i2 h1, Nat.zero_add, j1 h2]
      · intro h
        rw [i2 (fun q => h (hin1 q)), j2 (fun q => h (hin2 q))]
theorem pos_iff {a b : Nat → Nat} {n m T : Nat} (hab : ∀ e, e < m → a e < n ∧ b e < n) (hT : T < 2 ^ n) : posN a b n m T ↔ ∃ K, K < 2 ^ m ∧ oddN a b K m = T := by
  obtain ⟨h1, h2⟩ := cj_main m hab T hT
  rw [← cj_pos]
  constructor
  · intro h
    have := h1 h
    rcases Nat.eq_zero_or_pos (cjN a b m T (2 ^ m)) with q | q
    · rw [q, Nat.zero_mul] at this
      have := Nat.two_pow_pos (m + cpN (ptN a b m) n)
      omega
    · exact q
  · intro h
    rcases Classical.em (posN a b n m T) with q | q
    · exact q
    · rw [h2 q] at h; omega
theorem joins_eq {a b : Nat → Nat} {n m T : Nat} (hab : ∀ e, e < m → a e < n ∧ b e < n) (hT : T < 2 ^ n) (hp : posN a b n m T) : n ≤ m + cpN (ptN a b m) n ∧ cjN a b m T (2 ^ m) = 2 ^ (m + cpN (ptN a b m) n - n) := by
  have h1 := (cj_main m hab T hT).1 hp
  have h2 : 0 < cjN a b m T (2 ^ m) := cj_pos.mpr ((pos_iff hab hT).mp hp)
  have hle : n ≤ m + cpN (ptN a b m) n := by
    have h3 : 2 ^ n ≤ 2 ^ (m + cpN (ptN a b m) n) := by
      rw [← h1]
      exact Nat.le_mul_of_pos_left _ h2
    exact (Nat.pow_le_pow_iff_right (by decide)).mp h3
  refine ⟨hle, Nat.eq_of_mul_eq_mul_right (Nat.two_pow_pos n) ?_⟩
  rw [h1, ← Nat.pow_add]
  congr 1
  omega
end
section
/-! THE PLAIN LAW, 5: the reference's search finds what solve finds; whole and parts -/
section SE
variable {a b : Nat → Nat} {g : Nat → Int} {m pl mu no : Nat}
def lexN (g : Nat → Int) (m j k : Nat) : Prop := sumN g j m < sumN g k m ∨ (sumN g j m = sumN g k m ∧ j ≤ k)
theorem sr_spec : ∀ K, (srN a b g m pl mu no K = none → ∀ k, k < K → ¬ vaN a b m pl mu no k) ∧ ∀ j, srN a b g m pl mu no K = some j → vaN a b m pl mu no j ∧ j < K ∧ ∀ k, k < K → vaN a b m pl mu no k → lexN g m j k
  | 0 => ⟨fun _ k hk => absurd hk (by omega), fun j h => by cases h⟩
  | K + 1 => by
    obtain ⟨i1, i2⟩ := sr_spec K
    rcases Classical.em (vaN a b m pl mu no K) with hv | hv
    · cases hs : srN a b g m pl mu no K with
      | none =>
        have hn := i1 hs
        rw [srN_first hv hs]
        refine ⟨fun h => (by cases h), fun j hj => ?_⟩
        cases hj
        refine ⟨hv, by omega, fun k hk hk2 => ?_⟩
        by_cases e : k = K
        · subst e; exact Or.inr ⟨rfl, Nat.le_refl _⟩
        · exact absurd hk2 (hn k (by omega))
      | some i =>
        obtain ⟨v1, v2, v3⟩ := i2 i hs
        by_cases hl : sumN g K m < sumN g i m
        · rw [srN_less hv hs hl]
          refine ⟨fun h => (by cases h), fun j hj => ?_⟩
          cases hj
          refine ⟨hv, by omega, fun k hk hk2 => ?_⟩
          by_cases e : k = K
          · subst e; exact Or.inr ⟨rfl, Nat.le_refl _⟩
          · rcases v3 k (by omega) hk2 with q | q
            · exact Or.inl (by omega)
            · exact Or.inl (by omega)
        · rw [srN_keep hv hs hl, hs]
          refine ⟨fun h => (by cases h), fun j hj => ?_⟩
          cases hj
          refine ⟨v1, by omega, fun k hk hk2 => ?_⟩
          by_cases e : k = K
          · subst e
            rcases Int.lt_or_le (sumN g i m) (sumN g k m) with q | q
            · exact Or.inl q
            · exact Or.inr ⟨by omega, by omega⟩
          · exact v3 k (by omega) hk2
    · rw [srN_no hv]
      refine ⟨fun h k hk => ?_, fun j hj => ?_⟩
      · by_cases e : k = K
        · subst e; exact hv
        · exact i1 h k (by omega)
      · obtain ⟨v1, v2, v3⟩ := i2 j hj
        refine ⟨v1, by omega, fun k hk hk2 => ?_⟩
        by_cases e : k = K
        · subst e; exact absurd hk2 hv
        · exact v3 k (by omega) hk2
theorem sr_is {K j : Nat} (hj : j < K) (hv : vaN a b m pl mu no j) (hl : ∀ k, k < K → vaN a b m pl mu no k → lexN g m j k) : srN a b g m pl mu no K = some j := by
  obtain ⟨i1, i2⟩ := sr_spec (a := a) (b := b) (g := g) (m := m) (pl := pl) (mu := mu) (no := no) K
  cases hs : srN a b g m pl mu no K with
  | none => exact absurd hv (i1 hs j hj)
  | some i =>
    obtain ⟨v1, v2, v3⟩ := i2 i hs
    have h1 := hl i v2 v1
    have h2 := v3 j hj hv
    have : i = j := by
      rcases h1 with q | q <;> rcases h2 with r | r <;> omega
    rw [this]
theorem sr_none {K : Nat} (h : ∀ k, k < K → ¬ vaN a b m pl mu no k) : srN a b g m pl mu no K = none := by
  cases hs : srN a b g m pl mu no K with
  | none => rfl
  | some i =>
    obtain ⟨v1, v2, -⟩ := (sr_spec (a := a) (b := b) (g := g) (m := m) (pl := pl) (mu := mu) (no := no) K).2 i hs
    exact absurd v1 (h i v2)
end SE
theorem co_sum (g : Nat → Int) (J : Nat) : ∀ m, sumN (coN g) J m = 4096 * sumN g J m + ((J % 2 ^ m : Nat) : Int)
  | 0 => by simp [sumN, Nat.mod_one]
  | m + 1 => by
    have ih := co_sum g J m
    unfold sumN
    rw [ih, Nat.mod_pow_succ]
    have hd := Nat.testBit_eq_decide_div_mod_eq (x := J) (i := m)
    cases hb : J.testBit m with
    | true =>
      rw [hb] at hd
      rw [if_pos rfl, if_pos rfl, of_decide_eq_true hd.symm]
      unfold coN
      rw [Nat.mul_one]
      omega
    | false =>
      rw [hb] at hd
      have h0 : J / 2 ^ m % 2 = 0 := by
        have := of_decide_eq_false hd.symm
        omega
      rw [if_neg (by decide), if_neg (by decide), h0, Nat.mul_zero, Nat.add_zero]
theorem co_lex {g : Nat → Int} {m j k : Nat} (hm : m ≤ 12) (hj : j < 2 ^ m) (hk : k < 2 ^ m) (h : sumN (coN g) j m ≤ sumN (coN g) k m) : lexN g m j k := by
  rw [co_sum, co_sum, Nat.mod_eq_of_lt hj, Nat.mod_eq_of_lt hk] at h
  have h2 : 2 ^ m ≤ 4096 := Nat.pow_le_pow_right (n := 2) (by decide) hm
  unfold lexN
  omega
theorem co_bd {n m w : Nat} {a b : Nat → Nat} {g : Nat → Int} (h : Okg n m w a b g) {e : Nat} (he : e < m) : -36864 ≤ coN g e ∧ coN g e ≤ 83968 := by
  obtain ⟨⟨-, -, hm, -⟩, hok⟩ := h
  obtain ⟨-, -, h1, h2⟩ := hok e he
  have h3 : 2 ^ e ≤ 2 ^ 11 := Nat.pow_le_pow_right (by decide) (by omega)
  have h4 : 0 < 2 ^ e := Nat.two_pow_pos e
  unfold coN
  omega
theorem sum_upd {c : Nat → Int} {j J : Nat} {d : Int} : ∀ m, sumN (updZ c j (c j + d)) J m = sumN c J m + (if j < m ∧ J.testBit j = true then d else 0)
  | 0 => by simp [sumN]
  | m + 1 => by
    have ih := sum_upd (c := c) (j := j) (J := J) (d := d) m
    unfold sumN
    rw [ih]
    by_cases e : j = m
    · subst e
      rw [updZ_s]
      cases hb : J.testBit j <;> simp
      omega
    · rw [updZ_n (fun q => e q.symm)]
      by_cases h1 : j < m
      · have h2 : j < m + 1 := by omega
        cases hb : J.testBit m <;> cases hj : J.testBit j <;> simp [h1, h2] <;> omega
      · have h2 : ¬ j < m + 1 := by omega
        cases hb : J.testBit m <;> simp [h1, h2]
theorem and_bit {k j : Nat} : k &&& 2 ^ j = if k.testBit j = true then 2 ^ j else 0 := by
  apply Nat.eq_of_testBit_eq; intro i
  rw [Nat.testBit_and, Nat.testBit_two_pow]
  by_cases e : j = i
  · subst e
    cases hb : k.testBit j
    · simp
    · simp
  · rw [decide_eq_false e, Bool.and_false]
    split
    · rw [Nat.testBit_two_pow_of_ne e]
    · rw [Nat.zero_testBit]
theorem and_bit1 {k j : Nat} : k &&& 2 ^ j = 2 ^ j ↔ k.testBit j = true := by
  rw [and_bit]
  have := Nat.two_pow_pos j
  cases k.testBit j <;> simp
  omega
theorem and_bit0 {k j : Nat} : k &&& 2 ^ j = 0 ↔ k.testBit j = false := by
  rw [and_bit]
  have := Nat.two_pow_pos j
  cases k.testBit j <;> simp
section BE
variable {n m w : Nat} {a b : Nat → Nat} {g : Nat → Int}
theorem ok_ab (h : Okg n m w a b g) : ∀ e, e < m → a e < n ∧ b e < n := fun e he => ⟨(h.2 e he).1, (h.2 e he).2.1⟩
theorem t128 (h : Okg n m w a b g) {T : Nat} (hT : T < 2 ^ n) : T < 128 := Nat.lt_of_lt_of_le hT (Nat.pow_le_pow_right (n := 2) (by decide) h.1.2.1)
/-- no join: the search finds none, whatever it must and must not take -/
theorem be_none (h : Okg n m w a b g) {T mu no : Nat} (hT : T < 2 ^ n) (hp : ¬ posN a b n m T) : beN a b g m T mu no = none :=
  sr_none (fun k hk hv => hp ((pos_iff (ok_ab h) hT).mpr ⟨k, hk, hv.2.2⟩))
theorem so_all (h : Okg n m w a b g) {c : Nat → Int} (hc : ∀ e, e < m → (c e).natAbs < 16777216) {T : Nat} (hT : T < 2 ^ n) (hp : posN a b n m T) :
    soJ a b c n m T < 2 ^ m ∧ oddN a b (soJ a b c n m T) m = T ∧ ∀ K, K < 2 ^ m → oddN a b K m = T → sumN c (soJ a b c n m T) m ≤ sumN c K m :=
  so_opt (ok_ab h) h.1.2.1 h.1.2.2.1 hc (t128 h hT) ((pos_iff (ok_ab h) hT).mp hp)
theorem be_best (h : Okg n m w a b g) {T : Nat} (hT : T < 2 ^ n) (hp : posN a b n m T) : beN a b g m T 0 0 = some (soJ a b (coN g) n m T) := by
  obtain ⟨h1, h2, h3⟩ := so_all h (c := coN g) (fun e he => by have := co_bd h he; omega) hT hp
  exact sr_is h1 ⟨Nat.and_zero _, Nat.and_zero _, h2⟩ (fun k hk hv => co_lex h.1.2.2.1 h1 hk (h3 k hk hv.2.2))
theorem co_rng (h : Okg n m w a b g) {J : Nat} : -442368 ≤ sumN (coN g) J m ∧ sumN (coN g) J m ≤ 1007616 := by
  have h1 := sumN_bd (g := g) (J := J) (m := m) (fun e he => ⟨(h.2 e he).2.2.1, (h.2 e he).2.2.2⟩)
  have h2 := co_sum g J m
  have h3 : 2 ^ m ≤ 4096 := Nat.pow_le_pow_right (n := 2) (by decide) h.1.2.2.1
  have h4 : J % 2 ^ m < 2 ^ m := Nat.mod_lt _ (Nat.two_pow_pos m)
  have hm := h.1.2.2.1
  omega
/-- the cost of road j, moved by d -/
abbrev cdN (g : Nat → Int) (j : Nat) (d : Int) : Nat → Int := updZ (coN g) j (coN g j + d)
theorem cd_ok (h : Okg n m w a b g) {j : Nat} {d : Int} (hj : j < m) (hd : d = 4194304 ∨ d = -4194304) : ∀ e, e < m → (cdN g j d e).natAbs < 16777216 := by
  intro e he
  have h1 := co_bd h he
  have h2 := co_bd h hj
  show (updZ (coN g) j (coN g j + d) e).natAbs < _
  unfold updZ
  split <;> rcases hd with q | q <;> omega
theorem be_with (h : Okg n m w a b g) {T j : Nat} (hT : T < 2 ^ n) (hj : j < m) (hp : posN a b n m T) :
    beN a b g m T (2 ^ j) 0 = if (soJ a b (cdN g j (-4194304)) n m T).testBit j = true then some (soJ a b (cdN g j (-4194304)) n m T) else none := by
  obtain ⟨h1, h2, h3⟩ := so_all h (c := cdN g j (-4194304)) (cd_ok h hj (Or.inr rfl)) hT hp
  generalize soJ a b (cdN g j (-4194304)) n m T = X at h1 h2 h3 ⊢
  have hs : ∀ K, sumN (cdN g j (-4194304)) K m = sumN (coN g) K m + (if j < m ∧ K.testBit j = true then (-4194304) else 0) := fun K => sum_upd m
  by_cases hX : X.testBit j = true
  · rw [if_pos hX]
    refine sr_is h1 ⟨and_bit1.mpr hX, Nat.and_zero _, h2⟩ (fun k hk hv => co_lex h.1.2.2.1 h1 hk ?_)
    have h4 := h3 k hk hv.2.2
    rw [hs, hs, if_pos ⟨hj, hX⟩, if_pos ⟨hj, and_bit1.mp hv.1⟩] at h4
    omega
  · rw [if_neg hX]
    refine sr_none (fun k hk hv => ?_)
    have h4 := h3 k hk hv.2.2
    rw [hs, hs, if_neg (fun q => hX q.2), if_pos ⟨hj, and_bit1.mp hv.1⟩] at h4
    have h5 := co_rng h (J := X)
    have h6 := co_rng h (J := k)
    omega
theorem be_wout (h : Okg n m w a b g) {T j : Nat} (hT : T < 2 ^ n) (hj : j < m) (hp : posN a b n m T) :
    beN a b g m T 0 (2 ^ j) = if (soJ a b (cdN g j 4194304) n m T).testBit j = true then none else some (soJ a b (cdN g j 4194304) n m T) := by
  obtain ⟨h1, h2, h3⟩ := so_all h (c := cdN g j 4194304) (cd_ok h hj (Or.inl rfl)) hT hp
  generalize soJ a b (cdN g j 4194304) n m T = X at h1 h2 h3 ⊢
  have hs : ∀ K, sumN (cdN g j 4194304) K m = sumN (coN g) K m + (if j < m ∧ K.testBit j = true then 4194304 else 0) := fun K => sum_upd m
  by_cases hX : X.testBit j = true
  · rw [if_pos hX]
    refine sr_none (fun k hk hv => ?_)
    have h4 := h3 k hk hv.2.2
    rw [hs, hs, if_pos ⟨hj, hX⟩, if_neg (fun q => absurd q.2 (by rw [and_bit0.mp hv.2.1]; decide))] at h4
    have h5 := co_rng h (J := X)
    have h6 := co_rng h (J := k)
    omega
  · rw [if_neg hX]
    refine sr_is h1 ⟨Nat.and_zero _, and_bit0.mpr (by simpa using hX), h2⟩ (fun k hk hv => co_lex h.1.2.2.1 h1 hk ?_)
    have h4 := h3 k hk hv.2.2
    rw [hs, hs, if_neg (fun q => hX q.2), if_neg (fun q => absurd q.2 (by rw [and_bit0.mp hv.2.1]; decide))] at h4
    omega
end BE
/-! whole -/
theorem pt_edge {a b : Nat → Nat} {e : Nat} : ∀ {m : Nat}, e < m → ptN a b m (a e) = ptN a b m (b e)
  | 0, h => absurd h (by omega)
  | m + 1, h => by
    unfold ptN
    by_cases q : e = m
    · subst q
      rw [if_pos (show ptN a b e (b e) = ptN a b e (b e) from rfl)]
      split <;> rfl
    · rw [pt_edge (m := m) (by omega)]
def Clo (a b : Nat → Nat) (m R : Nat) : Prop := ∀ e, e < m → R.testBit (a e) = R.testBit (b e)
theorem or2_bit {x y v : Nat} : (2 ^ x ||| 2 ^ y).testBit v = (decide (x = v) || decide (y = v)) := by
  rw [Nat.testBit_or, Nat.testBit_two_pow, Nat.testBit_two_pow]
theorem and2_0 {R x y : Nat} : R &&& (2 ^ x ||| 2 ^ y) = 0 ↔ R.testBit x = false ∧ R.testBit y = false := by
  constructor
  · intro h
    have hx : (R &&& (2 ^ x ||| 2 ^ y)).testBit x = false := by rw [h, Nat.zero_testBit]
    have hy : (R &&& (2 ^ x ||| 2 ^ y)).testBit y = false := by rw [h, Nat.zero_testBit]
    rw [Nat.testBit_and, or2_bit] at hx hy
    simp at hx hy
    exact ⟨hx, hy⟩
  · rintro ⟨h1, h2⟩
    apply Nat.eq_of_testBit_eq; intro i
    rw [Nat.testBit_and, or2_bit, Nat.zero_testBit]
    by_cases e1 : x = i
    · subst e1; rw [h1]; rfl
    · by_cases e2 : y = i
      · subst e2; rw [h2]; rfl
      · rw [decide_eq_false e1, decide_eq_false e2]; simp
section WH
variable {a b : Nat → Nat} {R : Nat}
theorem re_up {v k : Nat} (h : (reN a b R k).testBit v = true) : (reN a b R (k + 1)).testBit v = true := by
  unfold reN
  split
  · exact h
  · rw [Nat.testBit_or, h, Bool.true_or]
theorem re_mono {v k : Nat} (h : (reN a b R k).testBit v = true) : ∀ d, (reN a b R (k + d)).testBit v = true
  | 0 => h
  | d + 1 => re_up (re_mono h d)
theorem re_both {e : Nat} (h : (reN a b R e).testBit (a e) = true ∨ (reN a b R e).testBit (b e) = true) : (reN a b R (e + 1)).testBit (a e) = true ∧ (reN a b R (e + 1)).testBit (b e) = true := by
  unfold reN
  rw [if_neg (fun q => by
    obtain ⟨h1, h2⟩ := and2_0.mp q
    rcases h with r | r
    · rw [h1] at r; cases r
    · rw [h2] at r; cases r)]
  exact ⟨by rw [Nat.testBit_or, or2_bit]; simp, by rw [Nat.testBit_or, or2_bit]; simp⟩
theorem re_clo {m : Nat} (hc : Clo a b m R) : ∀ k, k ≤ m → reN a b R k = R
  | 0, _ => rfl
  | k + 1, hk => by
    unfold reN
    rw [re_clo hc k (by omega)]
    split
    · rfl
    · next hne =>
      have hk1 := hc k (by omega)
      have hak : R.testBit (a k) = true := by
        cases hq : R.testBit (a k) with
        | true => rfl
        | false => exact absurd (and2_0.mpr ⟨hq, by rw [← hk1]; exact hq⟩) hne
      apply Nat.eq_of_testBit_eq; intro i
      rw [Nat.testBit_or, or2_bit]
      by_cases e1 : a k = i
      · rw [← e1, hak]; rfl
      · by_cases e2 : b k = i
        · rw [← e2, ← hk1, hak]; rfl
        · rw [decide_eq_false e1, decide_eq_false e2]; simp
theorem re_lab {pt : Nat → Nat} {L m : Nat} (hpt : ∀ e, e < m → pt (a e) = pt (b e)) (hR : ∀ v, R.testBit v = true → pt v = L) : ∀ k, k ≤ m → ∀ v, (reN a b R k).testBit v = true → pt v = L
  | 0, _, v, hv => hR v hv
  | k + 1, hk, v, hv => by
    have ih := re_lab hpt hR k (by omega)
    unfold reN at hv
    split at hv
    · exact ih v hv
    · next hne =>
      have hL : pt (a k) = L := by
        cases hq : (reN a b R k).testBit (a k) with
        | true => exact ih _ hq
        | false =>
          cases hr : (reN a b R k).testBit (b k) with
          | true => rw [hpt k (by omega)]; exact ih _ hr
          | false => exact absurd (and2_0.mpr ⟨hq, hr⟩) hne
      rw [Nat.testBit_or, or2_bit] at hv
      by_cases e1 : a k = v
      · rw [← e1]; exact hL
      · by_cases e2 : b k = v
        · rw [← e2, ← hpt k (by omega)]; exact hL
        · rw [decide_eq_false e1, decide_eq_false e2] at hv
          simp at hv
          exact ih v hv
theorem rr_grow {m : Nat} (hab : ∀ e, e < m → a e < 7 ∧ b e < 7) (h0 : a 0 < 7) : ∀ k, Clo a b m (rrN a b m k) ∨ k + 1 ≤ cntB (fun v => (rrN a b m k).testBit v) 7
  | 0 => Or.inr (by
      have := cnt_less (f := fun _ => false) (g := fun v => (rrN a b m 0).testBit v) (x := a 0) (N := 7) (fun q _ h => by cases h) h0 rfl (by show (2 ^ a 0).testBit (a 0) = true; exact Nat.testBit_two_pow_self)
      omega)
  | k + 1 => by
    have ih := rr_grow hab h0 k
    rcases Classical.em (Clo a b m (rrN a b m k)) with hc | hc
    · left
      show Clo a b m (reN a b (rrN a b m k) m)
      rw [re_clo hc m (Nat.le_refl m)]
      exact hc
    · right
      have ih := ih.resolve_left hc
      obtain ⟨e, he, hne⟩ : ∃ e, e < m ∧ (rrN a b m k).testBit (a e) ≠ (rrN a b m k).testBit (b e) := by
        refine Classical.byContradiction fun q => hc fun e he => ?_
        exact Classical.byContradiction fun r => q ⟨e, he, r⟩
      have hm0 : ∀ v, (rrN a b m k).testBit v = true → ∀ d, (reN a b (rrN a b m k) d).testBit v = true := fun v hv d => by
        have := re_mono (a := a) (b := b) (R := rrN a b m k) (v := v) (k := 0) hv d
        rw [Nat.zero_add] at this
        exact this
      have hone : (reN a b (rrN a b m k) e).testBit (a e) = true ∨ (reN a b (rrN a b m k) e).testBit (b e) = true := by
        cases h1 : (rrN a b m k).testBit (a e) with
        | true => exact Or.inl (hm0 _ h1 e)
        | false =>
          cases h2 : (rrN a b m k).testBit (b e) with
          | true => exact Or.inr (hm0 _ h2 e)
          | false => exact absurd (h1.trans h2.symm) hne
      obtain ⟨g1, g2⟩ := re_both hone
      have f1 : (rrN a b m (k + 1)).testBit (a e) = true := by
        have := re_mono g1 (m - (e + 1))
        rw [show e + 1 + (m - (e + 1)) = m by omega] at this
        exact this
      have f2 : (rrN a b m (k + 1)).testBit (b e) = true := by
        have := re_mono g2 (m - (e + 1))
        rw [show e + 1 + (m - (e + 1)) = m by omega] at this
        exact this
      have hsub : ∀ q, q < 7 → (fun v => (rrN a b m k).testBit v) q = true → (fun v => (rrN a b m (k + 1)).testBit v) q = true := fun q _ hq => hm0 q hq m
      obtain ⟨ha7, hb7⟩ := hab e he
      cases h1 : (rrN a b m k).testBit (a e) with
      | false =>
        have := cnt_less (x := a e) hsub ha7 h1 f1
        omega
      | true =>
        have h2 : (rrN a b m k).testBit (b e) = false := by
          cases h2 : (rrN a b m k).testBit (b e) with
          | false => rfl
          | true => exact absurd (h1.trans h2.symm) hne
        have := cnt_less (x := b e) hsub hb7 h2 f2
        omega
theorem clo_pt {m n : Nat} (hc : Clo a b m R) (hab : ∀ e, e < m → a e < n ∧ b e < n) : ∀ k, k ≤ m → ∀ j, j < n → R.testBit (ptN a b k j) = R.testBit j
  | 0, _, j, _ => rfl
  | k + 1, hk, j, hj => by
    have ih := clo_pt hc hab k (by omega)
    unfold ptN
    by_cases e : ptN a b k j = ptN a b k (b k)
    · rw [if_pos e, ih _ (hab k (by omega)).1, hc k (by omega), ← ih _ (hab k (by omega)).2, ← e, ih j hj]
    · rw [if_neg e]; exact ih j hj
end WH
theorem rr_lab {a b : Nat → Nat} {m : Nat} : ∀ k v, (rrN a b m k).testBit v = true → ptN a b m v = ptN a b m (a 0)
  | 0, v, hv => by
    have hv : (2 ^ a 0).testBit v = true := hv
    rw [Nat.testBit_two_pow] at hv
    rw [of_decide_eq_true hv]
  | k + 1, v, hv => re_lab (pt := ptN a b m) (fun e he => pt_edge he) (rr_lab k) m (Nat.le_refl m) v hv
theorem wh_iff {n m w : Nat} {a b : Nat → Nat} {g : Nat → Int} (h : Okg n m w a b g) (hm : 0 < m) : whN a b m ↔ ∀ e, e < m → ptN a b m (a e) = ptN a b m (a 0) := by
  have hab := ok_ab h
  have hab7 : ∀ e, e < m → a e < 7 ∧ b e < 7 := fun e he => ⟨Nat.lt_of_lt_of_le (hab e he).1 h.1.2.1, Nat.lt_of_lt_of_le (hab e he).2 h.1.2.1⟩
  have hc : Clo a b m (rrN a b m 7) := by
    rcases rr_grow hab7 (hab7 0 hm).1 7 with q | q
    · exact q
    · have := cnt_le (fun v => (rrN a b m 7).testBit v) 7
      omega
  constructor
  · intro hw e he
    exact rr_lab 7 _ (hw e he)
  · intro hp e he
    have h0 : (rrN a b m 7).testBit (a 0) = true := by
      have : ∀ k, (rrN a b m k).testBit (a 0) = true := by
        intro k
        induction k with
        | zero => exact Nat.testBit_two_pow_self
        | succ k ih =>
          have := re_mono (a := a) (b := b) (R := rrN a b m k) (v := a 0) (k := 0) ih m
          rw [Nat.zero_add] at this
          exact this
      exact this 7
    rw [← clo_pt hc hab m (Nat.le_refl m) (a e) (hab e he).1, hp e he, clo_pt hc hab m (Nat.le_refl m) (a 0) (hab 0 hm).1]
    exact h0
end
section
set_option maxHeartbeats 4000000 in
set_option maxRecDepth 100000 in
theorem mX1_isPlace (l : Launch) (D : va_G) (d : ClassId) (ad : Nat → Nat) (E O G C F V S T P : Nat → Int32) (n m w : Nat) (a b : Nat → Nat) (g : Nat → Int) (hR : Rep n m w a b g E O G) (x : Int32) : MI_ l yX1_isPlace (ws_ yX1_isPlace cX1_isPlace 2 (some .boolean)) rq0 D d (wX ad d E O G C F V S T P (nI n) (nI m) (nI w)) (fun u : Unit => (wX ad d E O G C F V S T P (nI n) (nI m) (nI w))) [.ref (ad 0), .int x] (fun (r : Int32) u => orI r (inI x n) (¬ inI x n)) := by
  have hR0 := hR
  obtain ⟨⟨⟨hn2, hn7, hm12, hw7⟩, hok⟩, hE⟩ := hR0
  refine MI_mk (lv := [(0, .ref (ad 0)), (1, .int x)]) (by decide) (Nat.le_of_ble_eq_true rfl) rfl fun pg en s mm below meth cd A ls hx hb hr hlocks hml hown hts hA hP hK hD hS hl => ?_
  have hown : s.vm.findClass RX1 = some mm.cls := hown
  refine w_start fun H locs hH hL => ?_
  rw [← hH] at hP
  replace hS : va_S A s.heap H locs := by rw [hL, hH]; exact va_S.rf
  refine lv_iload_n hx hb dX1_isPlace_0 rfl (lv_at hl 1 rfl) ?_
  refine lv_if_lt (tgt := 16) hx hb dX1_isPlace_1 (by decide) (fun c_1 => ?_) (fun c_1 => ?_)
  · refine lv_iconst (v := 0) hx hb dX1_isPlace_16 (by decide) ?_
    exact w_zret hx hb hr hlocks rfl () (Or.inr ⟨rfl, by first | exact inI_neg c_1 (by omega) | exact inI_big c_9 (by omega)⟩) hP hK hD hS dX1_isPlace_17
  · refine lv_iload_n hx hb dX1_isPlace_4 rfl (lv_at hl 1 rfl) ?_
    refine lv_aload_n hx hb dX1_isPlace_5 rfl (lv_at hl 0 rfl) ?_
    refine va_get (D := D) (ci := 0) (v := .int (nI n)) (C := RX1) (T := TX1) (N := 12) hx hb hts in_X1 hown hK hP 0 rfl rfl 9 (by decide) (hts _ q41) (fun _ h9 => h9) rfl dX1_isPlace_6 ?_
    refine lv_icmp_ge (tgt := 16) hx hb dX1_isPlace_9 (by decide) (fun c_9 => ?_) (fun c_9 => ?_)
    · refine lv_iconst (v := 0) hx hb dX1_isPlace_16 (by decide) ?_
      exact w_zret hx hb hr hlocks rfl () (Or.inr ⟨rfl, by first | exact inI_neg c_1 (by omega) | exact inI_big c_9 (by omega)⟩) hP hK hD hS dX1_isPlace_17
    · refine lv_iconst (v := 1) hx hb dX1_isPlace_12 (by decide) ?_
      refine lv_goto (tgt := 17) hx hb dX1_isPlace_13 (by decide) ?_
      exact w_zret hx hb hr hlocks rfl () (Or.inl ⟨rfl, inI_of c_1 c_9 (by omega)⟩) hP hK hD hS dX1_isPlace_17
set_option maxHeartbeats 4000000 in
set_option maxRecDepth 100000 in
theorem mX1_isRoad (l : Launch) (D : va_G) (d : ClassId) (ad : Nat → Nat) (E O G C F V S T P : Nat → Int32) (n m w : Nat) (a b : Nat → Nat) (g : Nat → Int) (hR : Rep n m w a b g E O G) (x : Int32) : MI_ l yX1_isRoad (ws_ yX1_isRoad cX1_isRoad 2 (some .boolean)) rq0 D d (wX ad d E O G C F V S T P (nI n) (nI m) (nI w)) (fun u : Unit => (wX ad d E O G C F V S T P (nI n) (nI m) (nI w))) [.ref (ad 0), .int x] (fun (r : Int32) u => orI r (inI x m) (¬ inI x m)) := by
  have hR0 := hR
  obtain ⟨⟨⟨hn2, hn7, hm12, hw7⟩, hok⟩, hE⟩ := hR0
  refine MI_mk (lv := [(0, .ref (ad 0)), (1, .int x)]) (by decide) (Nat.le_of_ble_eq_true rfl) rfl fun pg en s mm below meth cd A ls hx hb hr hlocks hml hown hts hA hP hK hD hS hl => ?_
  have hown : s.vm.findClass RX1 = some mm.cls := hown
  refine w_start fun H locs hH hL => ?_
  rw [← hH] at hP
  replace hS : va_S A s.heap H locs := by rw [hL, hH]; exact va_S.rf
  refine lv_iload_n hx hb dX1_isRoad_0 rfl (lv_at hl 1 rfl) ?_
  refine lv_if_lt (tgt := 16) hx hb dX1_isRoad_1 (by decide) (fun c_1 => ?_) (fun c_1 => ?_)
  · refine lv_iconst (v := 0) hx hb dX1_isRoad_16 (by decide) ?_
    exact w_zret hx hb hr hlocks rfl () (Or.inr ⟨rfl, by first | exact inI_neg c_1 (by omega) | exact inI_big c_9 (by omega)⟩) hP hK hD hS dX1_isRoad_17
  · refine lv_iload_n hx hb dX1_isRoad_4 rfl (lv_at hl 1 rfl) ?_
    refine lv_aload_n hx hb dX1_isRoad_5 rfl (lv_at hl 0 rfl) ?_
    refine va_get (D := D) (ci := 0) (v := .int (nI m)) (C := RX1) (T := TX1) (N := 12) hx hb hts in_X1 hown hK hP 0 rfl rfl 10 (by decide) (hts _ q42) (fun _ h9 => h9) rfl dX1_isRoad_6 ?_
    refine lv_icmp_ge (tgt := 16) hx hb dX1_isRoad_9 (by decide) (fun c_9 => ?_) (fun c_9 => ?_)
    · refine lv_iconst (v := 0) hx hb dX1_isRoad_16 (by decide) ?_
      exact w_zret hx hb hr hlocks rfl () (Or.inr ⟨rfl, by first | exact inI_neg c_1 (by omega) | exact inI_big c_9 (by omega)⟩) hP hK hD hS dX1_isRoad_17
    · refine lv_iconst (v := 1) hx hb dX1_isRoad_12 (by decide) ?_
      refine lv_goto (tgt := 17) hx hb dX1_isRoad_13 (by decide) ?_
      exact w_zret hx hb hr hlocks rfl () (Or.inl ⟨rfl, inI_of c_1 c_9 (by omega)⟩) hP hK hD hS dX1_isRoad_17
set_option maxHeartbeats 4000000 in
set_option maxRecDepth 100000 in
theorem mX1_oddOf (l : Launch) (D : va_G) (d : ClassId) (ad : Nat → Nat) (E O G C F V S T P : Nat → Int32) (n m w : Nat) (a b : Nat → Nat) (g : Nat → Int) (hR : Rep n m w a b g E O G) (J : Nat) (hJ : J < 4096) : MI_ l yX1_oddOf (ws_ yX1_oddOf cX1_oddOf 4 (some .int)) rq0 D d (wX ad d E O G C F V S T P (nI n) (nI m) (nI w)) (fun u : Unit => (wX ad d E O G C F V S T P (nI n) (nI m) (nI w))) [.ref (ad 0), .int (nI J)] (fun (r : Int32) u => r = nI (oddN a b J m)) := by
  have hR0 := hR
  obtain ⟨⟨⟨hn2, hn7, hm12, hw7⟩, hok⟩, hE⟩ := hR0
  refine MI_mk (lv := [(0, .ref (ad 0)), (1, .int (nI J))]) (by decide) (Nat.le_of_ble_eq_true rfl) rfl fun pg en s mm below meth cd A ls hx hb hr hlocks hml hown hts hA hP hK hD hS hl => ?_
  have hown : s.vm.findClass RX1 = some mm.cls := hown
  refine w_start fun H locs hH hL => ?_
  rw [← hH] at hP
  replace hS : va_S A s.heap H locs := by rw [hL, hH]; exact va_S.rf
  refine lv_iconst (v := nI 0) hx hb dX1_oddOf_0 (by decide) ?_
  refine lv_istore_n (lv' := [(2, .int (nI 0)), (0, .ref (ad 0)), (1, .int (nI J))]) hx hb dX1_oddOf_1 rfl hl (by decide) rfl (fun ls hl => ?_)
  refine lv_iconst (v := nI 0) hx hb dX1_oddOf_2 (by decide) ?_
  refine lv_istore_n (lv' := [(3, .int (nI 0)), (2, .int (nI 0)), (0, .ref (ad 0)), (1, .int (nI J))]) hx hb dX1_oddOf_3 rfl hl (by decide) rfl (fun ls hl => ?_)
  refine w_for (σ := Unit) (m) (fun u => (wX ad d E O G C F V S T P (nI n) (nI m) (nI w))) (fun i u => [(0, .ref (ad 0)), (1, .int (nI J)), (2, .int (nI (oddN a b J i))), (3, .int (nI i))]) (fun i u => True) (fun i hi_i IH_i u H locs ls hI_i hP hD hS hl => ?_) (i0 := 0) (Nat.zero_le _) () trivial hP hD hS (lv_sub hl [2, 3, 1, 0] rfl)
  have hP : va_P D vwCl (wX ad d E O G C F V S T P (nI n) (nI m) (nI w)) H := hP
  have hD : va_D A (wX ad d E O G C F V S T P (nI n) (nI m) (nI w)) := hD
  have hl : lv_has ls 4 [(0, .ref (ad 0)), (1, .int (nI J)), (2, .int (nI (oddN a b J i))), (3, .int (nI i))] := hl
  refine lv_iload_n hx hb dX1_oddOf_4 rfl (lv_at hl 3 rfl) ?_
  refine lv_aload_n hx hb dX1_oddOf_5 rfl (lv_at hl 0 rfl) ?_
  refine va_get (D := D) (ci := 0) (v := .int (nI m)) (C := RX1) (T := TX1) (N := 12) hx hb hts in_X1 hown hK hP 0 rfl rfl 10 (by decide) (hts _ q42) (fun _ h9 => h9) rfl dX1_oddOf_6 ?_
  refine lv_icmp_ge (tgt := 47) hx hb dX1_oddOf_9 (by decide) (fun c_9 => ?_) (fun c_9 => ?_)
  · have him_i : i = m := by have := le_c c_9; omega
    refine lv_iload_n hx hb dX1_oddOf_47 rfl (lv_at hl 2 rfl) ?_
    exact w_iret hx hb hr hlocks () (by rw [him_i]) hP hK hD hS dX1_oddOf_48
  · have hlt_i : i < m := nle_c c_9
    obtain ⟨hai, hbi, hg1i, hg2i⟩ := hok i hlt_i
    obtain ⟨hEi, hOi, hGi⟩ := hE i hlt_i
    refine lv_iload_n hx hb dX1_oddOf_12 rfl (lv_at hl 1 rfl) ?_
    refine lv_iload_n hx hb dX1_oddOf_13 rfl (lv_at hl 3 rfl) ?_
    refine lv_ishr hx hb dX1_oddOf_14 ?_
    refine lv_iconst (v := 1) hx hb dX1_oddOf_15 (by decide) ?_
    refine lv_iand hx hb dX1_oddOf_16 ?_
    refine w_top (y := bI (J.testBit i)) (b_bit (by omega) (by omega)) ?_
    refine lv_iconst (v := 1) hx hb dX1_oddOf_17 (by decide) ?_
    refine lv_icmp_ne (tgt := 41) hx hb dX1_oddOf_18 (by decide) (fun c_18 => ?_) (fun c_18 => ?_)
    · have hstep : oddN a b J (i + 1) = oddN a b J i := if_neg (by rw [bI_n1.mp c_18]; decide)
      refine lv_iinc (v := (nI (i + 1))) (lv' := [(3, .int (nI (i + 1))), (0, .ref (ad 0)), (1, .int (nI J)), (2, .int (nI (oddN a b J i)))]) hx hb dX1_oddOf_41 hl (k := 3) rfl (nI_1 i) (by decide) rfl (fun ls hl => ?_)
      refine lv_goto (tgt := 4) hx hb dX1_oddOf_44 (by decide) ?_
      have hl : lv_has ls 4 [(0, .ref (ad 0)), (1, .int (nI J)), (2, .int (nI (oddN a b J (i + 1)))), (3, .int (nI (i + 1)))] := by rw [hstep]; exact lv_sub hl [1, 2, 3, 0] rfl
      exact IH_i () _ _ _ hlt_i trivial hP hD hS hl
    · have hstep : oddN a b J (i + 1) = oddN a b J i ^^^ 2 ^ a i ^^^ 2 ^ b i := if_pos (bI_1.mp c_18)
      refine lv_iload_n hx hb dX1_oddOf_21 rfl (lv_at hl 2 rfl) ?_
      refine lv_iconst (v := 1) hx hb dX1_oddOf_22 (by decide) ?_
      refine lv_aload_n hx hb dX1_oddOf_23 rfl (lv_at hl 0 rfl) ?_
      refine va_get (D := D) (ci := 0) (v := .ref (ad 1)) (C := RX1) (T := TX1) (N := 12) hx hb hts in_X1 hown hK hP 0 rfl rfl 0 (by decide) (hts _ q32) (fun _ h9 => h9) rfl dX1_oddOf_24 ?_
      refine lv_iload_n hx hb dX1_oddOf_27 rfl (lv_at hl 3 rfl) ?_
      refine w_iald (v := (nI (a i))) hx hb hK hP 1 0 rfl rfl (by omega) (by decide) hEi dX1_oddOf_28 ?_
      refine lv_ishl hx hb dX1_oddOf_29 ?_
      refine w_top (y := nI (2 ^ a i)) (b_shl1 _ (by omega)) ?_
      refine lv_ixor hx hb dX1_oddOf_30 ?_
      refine w_top (y := nI (oddN a b J i ^^^ 2 ^ a i)) (nx_xor _ _) ?_
      refine lv_iconst (v := 1) hx hb dX1_oddOf_31 (by decide) ?_
      refine lv_aload_n hx hb dX1_oddOf_32 rfl (lv_at hl 0 rfl) ?_
      refine va_get (D := D) (ci := 0) (v := .ref (ad 2)) (C := RX1) (T := TX1) (N := 12) hx hb hts in_X1 hown hK hP 0 rfl rfl 1 (by decide) (hts _ q33) (fun _ h9 => h9) rfl dX1_oddOf_33 ?_
      refine lv_iload_n hx hb dX1_oddOf_36 rfl (lv_at hl 3 rfl) ?_
      refine w_iald (v := (nI (b i))) hx hb hK hP 2 0 rfl rfl (by omega) (by decide) hOi dX1_oddOf_37 ?_
      refine lv_ishl hx hb dX1_oddOf_38 ?_
      refine w_top (y := nI (2 ^ b i)) (b_shl1 _ (by omega)) ?_
      refine lv_ixor hx hb dX1_oddOf_39 ?_
      refine w_top (y := nI (oddN a b J i ^^^ 2 ^ a i ^^^ 2 ^ b i)) (nx_xor _ _) ?_
      refine lv_istore_n (lv' := [(2, .int (nI (oddN a b J i ^^^ 2 ^ a i ^^^ 2 ^ b i))), (0, .ref (ad 0)), (1, .int (nI J)), (3, .int (nI i))]) hx hb dX1_oddOf_40 rfl hl (by decide) rfl (fun ls hl => ?_)
      refine lv_iinc (v := (nI (i + 1))) (lv' := [(3, .int (nI (i + 1))), (2, .int (nI (oddN a b J i ^^^ 2 ^ a i ^^^ 2 ^ b i))), (0, .ref (ad 0)), (1, .int (nI J))]) hx hb dX1_oddOf_41 hl (k := 3) rfl (nI_1 i) (by decide) rfl (fun ls hl => ?_)
      refine lv_goto (tgt := 4) hx hb dX1_oddOf_44 (by decide) ?_
      have hl : lv_has ls 4 [(0, .ref (ad 0)), (1, .int (nI J)), (2, .int (nI (oddN a b J (i + 1)))), (3, .int (nI (i + 1)))] := by rw [hstep]; exact lv_sub hl [2, 3, 1, 0] rfl
      exact IH_i () _ _ _ hlt_i trivial hP hD hS hl
set_option maxHeartbeats 4000000 in
set_option maxRecDepth 100000 in
theorem mX1_weightOf (l : Launch) (D : va_G) (d : ClassId) (ad : Nat → Nat) (E O G C F V S T P : Nat → Int32) (n m w : Nat) (a b : Nat → Nat) (g : Nat → Int) (hR : Rep n m w a b g E O G) (J : Nat) (hJ : J < 4096) : MI_ l yX1_weightOf (ws_ yX1_weightOf cX1_weightOf 4 (some .int)) rq0 D d (wX ad d E O G C F V S T P (nI n) (nI m) (nI w)) (fun u : Unit => (wX ad d E O G C F V S T P (nI n) (nI m) (nI w))) [.ref (ad 0), .int (nI J)] (fun (r : Int32) u => r = zI (sumN g J m)) := by
  have hR0 := hR
  obtain ⟨⟨⟨hn2, hn7, hm12, hw7⟩, hok⟩, hE⟩ := hR0
  refine MI_mk (lv := [(0, .ref (ad 0)), (1, .int (nI J))]) (by decide) (Nat.le_of_ble_eq_true rfl) rfl fun pg en s mm below meth cd A ls hx hb hr hlocks hml hown hts hA hP hK hD hS hl => ?_
  have hown : s.vm.findClass RX1 = some mm.cls := hown
  refine w_start fun H locs hH hL => ?_
  rw [← hH] at hP
  replace hS : va_S A s.heap H locs := by rw [hL, hH]; exact va_S.rf
  refine lv_iconst (v := zI 0) hx hb dX1_weightOf_0 (by decide) ?_
  refine lv_istore_n (lv' := [(2, .int (zI 0)), (0, .ref (ad 0)), (1, .int (nI J))]) hx hb dX1_weightOf_1 rfl hl (by decide) rfl (fun ls hl => ?_)
  refine lv_iconst (v := nI 0) hx hb dX1_weightOf_2 (by decide) ?_
  refine lv_istore_n (lv' := [(3, .int (nI 0)), (2, .int (zI 0)), (0, .ref (ad 0)), (1, .int (nI J))]) hx hb dX1_weightOf_3 rfl hl (by decide) rfl (fun ls hl => ?_)
  refine w_for (σ := Unit) (m) (fun u => (wX ad d E O G C F V S T P (nI n) (nI m) (nI w))) (fun i u => [(0, .ref (ad 0)), (1, .int (nI J)), (2, .int (zI (sumN g J i))), (3, .int (nI i))]) (fun i u => True) (fun i hi_i IH_i u H locs ls hI_i hP hD hS hl => ?_) (i0 := 0) (Nat.zero_le _) () trivial hP hD hS (lv_sub hl [2, 3, 1, 0] rfl)
  have hP : va_P D vwCl (wX ad d E O G C F V S T P (nI n) (nI m) (nI w)) H := hP
  have hD : va_D A (wX ad d E O G C F V S T P (nI n) (nI m) (nI w)) := hD
  have hl : lv_has ls 4 [(0, .ref (ad 0)), (1, .int (nI J)), (2, .int (zI (sumN g J i))), (3, .int (nI i))] := hl
  refine lv_iload_n hx hb dX1_weightOf_4 rfl (lv_at hl 3 rfl) ?_
  refine lv_aload_n hx hb dX1_weightOf_5 rfl (lv_at hl 0 rfl) ?_
  refine va_get (D := D) (ci := 0) (v := .int (nI m)) (C := RX1) (T := TX1) (N := 12) hx hb hts in_X1 hown hK hP 0 rfl rfl 10 (by decide) (hts _ q42) (fun _ h9 => h9) rfl dX1_weightOf_6 ?_
  refine lv_icmp_ge (tgt := 40) hx hb dX1_weightOf_9 (by decide) (fun c_9 => ?_) (fun c_9 => ?_)
  · have him_i : i = m := by have := le_c c_9; omega
    refine lv_iload_n hx hb dX1_weightOf_40 rfl (lv_at hl 2 rfl) ?_
    exact w_iret hx hb hr hlocks () (by rw [him_i]) hP hK hD hS dX1_weightOf_41
  · have hlt_i : i < m := nle_c c_9
    obtain ⟨hai, hbi, hg1i, hg2i⟩ := hok i hlt_i
    obtain ⟨hEi, hOi, hGi⟩ := hE i hlt_i
    refine lv_iload_n hx hb dX1_weightOf_12 rfl (lv_at hl 2 rfl) ?_
    refine lv_iload_n hx hb dX1_weightOf_13 rfl (lv_at hl 1 rfl) ?_
    refine lv_iload_n hx hb dX1_weightOf_14 rfl (lv_at hl 3 rfl) ?_
    refine lv_ishr hx hb dX1_weightOf_15 ?_
    refine lv_iconst (v := 1) hx hb dX1_weightOf_16 (by decide) ?_
    refine lv_iand hx hb dX1_weightOf_17 ?_
    refine w_top (y := bI (J.testBit i)) (b_bit (by omega) (by omega)) ?_
    refine lv_iconst (v := 1) hx hb dX1_weightOf_18 (by decide) ?_
    refine lv_icmp_ne (tgt := 31) hx hb dX1_weightOf_19 (by decide) (fun c_19 => ?_) (fun c_19 => ?_)
    · have hstep : sumN g J (i + 1) = sumN g J i + 0 := by rw [Int.add_zero]; exact if_neg (by rw [bI_n1.mp c_19]; decide)
      refine lv_iconst (v := zI 0) hx hb dX1_weightOf_31 (by decide) ?_
      refine lv_iadd hx hb dX1_weightOf_32 ?_
      refine w_top (y := zI (sumN g J (i + 1))) (by rw [hstep]; exact zI_add _ _) ?_
      refine lv_istore_n (lv' := [(2, .int (zI (sumN g J (i + 1)))), (0, .ref (ad 0)), (1, .int (nI J)), (3, .int (nI i))]) hx hb dX1_weightOf_33 rfl hl (by decide) rfl (fun ls hl => ?_)
      refine lv_iinc (v := (nI (i + 1))) (lv' := [(3, .int (nI (i + 1))), (2, .int (zI (sumN g J (i + 1)))), (0, .ref (ad 0)), (1, .int (nI J))]) hx hb dX1_weightOf_34 hl (k := 3) rfl (nI_1 i) (by decide) rfl (fun ls hl => ?_)
      refine lv_goto (tgt := 4) hx hb dX1_weightOf_37 (by decide) ?_
      have hl : lv_has ls 4 [(0, .ref (ad 0)), (1, .int (nI J)), (2, .int (zI (sumN g J (i + 1)))), (3, .int (nI (i + 1)))] := by exact lv_sub hl [2, 3, 1, 0] rfl
      exact IH_i () _ _ _ hlt_i trivial hP hD hS hl
    · have hstep : sumN g J (i + 1) = sumN g J i + g i := if_pos (bI_1.mp c_19)
      refine lv_aload_n hx hb dX1_weightOf_22 rfl (lv_at hl 0 rfl) ?_
      refine va_get (D := D) (ci := 0) (v := .ref (ad 3)) (C := RX1) (T := TX1) (N := 12) hx hb hts in_X1 hown hK hP 0 rfl rfl 2 (by decide) (hts _ q34) (fun _ h9 => h9) rfl dX1_weightOf_23 ?_
      refine lv_iload_n hx hb dX1_weightOf_26 rfl (lv_at hl 3 rfl) ?_
      refine w_iald (v := (zI (g i))) hx hb hK hP 3 0 rfl rfl (by omega) (by decide) hGi dX1_weightOf_27 ?_
      refine lv_goto (tgt := 32) hx hb dX1_weightOf_28 (by decide) ?_
      refine lv_iadd hx hb dX1_weightOf_32 ?_
      refine w_top (y := zI (sumN g J (i + 1))) (by rw [hstep]; exact zI_add _ _) ?_
      refine lv_istore_n (lv' := [(2, .int (zI (sumN g J (i + 1)))), (0, .ref (ad 0)), (1, .int (nI J)), (3, .int (nI i))]) hx hb dX1_weightOf_33 rfl hl (by decide) rfl (fun ls hl => ?_)
      refine lv_iinc (v := (nI (i + 1))) (lv' := [(3, .int (nI (i + 1))), (2, .int (zI (sumN g J (i + 1)))), (0, .ref (ad 0)), (1, .int (nI J))]) hx hb dX1_weightOf_34 hl (k := 3) rfl (nI_1 i) (by decide) rfl (fun ls hl => ?_)
      refine lv_goto (tgt := 4) hx hb dX1_weightOf_37 (by decide) ?_
      have hl : lv_has ls 4 [(0, .ref (ad 0)), (1, .int (nI J)), (2, .int (zI (sumN g J (i + 1)))), (3, .int (nI (i + 1)))] := by exact lv_sub hl [2, 3, 1, 0] rfl
      exact IH_i () _ _ _ hlt_i trivial hP hD hS hl
set_option maxHeartbeats 4000000 in
set_option maxRecDepth 100000 in
theorem mX1_findParts (l : Launch) (D : va_G) (d : ClassId) (ad : Nat → Nat) (E O G C F V S T P : Nat → Int32) (n m w : Nat) (a b : Nat → Nat) (g : Nat → Int) (hR : Rep n m w a b g E O G) : MV_ l yX1_findParts (ws_ yX1_findParts cX1_findParts 5 none) rq0 D d (wX ad d E O G C F V S T P (nI n) (nI m) (nI w)) (fun u : Nat → Int32 => (wX ad d E O G C F V S T u (nI n) (nI m) (nI w))) [.ref (ad 0)] (fun u => ∀ j, j < n → u j = nI (ptN a b m j)) := by
  have hR0 := hR
  obtain ⟨⟨⟨hn2, hn7, hm12, hw7⟩, hok⟩, hE⟩ := hR0
  refine MV_mk (lv := [(0, .ref (ad 0))]) (by decide) (Nat.le_of_ble_eq_true rfl) rfl fun pg en s mm below meth cd A ls hx hb hr hlocks hml hown hts hA hP hK hD hS hl => ?_
  have hown : s.vm.findClass RX1 = some mm.cls := hown
  refine w_start fun H locs hH hL => ?_
  rw [← hH] at hP
  replace hS : va_S A s.heap H locs := by rw [hL, hH]; exact va_S.rf
  refine lv_iconst (v := nI 0) hx hb dX1_findParts_0 (by decide) ?_
  refine lv_istore_n (lv' := [(1, .int (nI 0)), (0, .ref (ad 0))]) hx hb dX1_findParts_1 rfl hl (by decide) rfl (fun ls hl => ?_)
  refine w_for (σ := Nat → Int32) (n) (fun u => (wX ad d E O G C F V S T u (nI n) (nI m) (nI w))) (fun i u => [(0, .ref (ad 0)), (1, .int (nI i))]) (fun i u => ∀ j, j < i → u j = nI j) (fun i hi_i IH_i u H locs ls hI_i hP hD hS hl => ?_) (i0 := 0) (Nat.zero_le _) P (fun j h => absurd h (by omega)) hP hD hS (lv_sub hl [1, 0] rfl)
  obtain ⟨P1, rfl⟩ : ∃ z, z = u := ⟨_, rfl⟩
  have hP : va_P D vwCl (wX ad d E O G C F V S T P1 (nI n) (nI m) (nI w)) H := hP
  have hD : va_D A (wX ad d E O G C F V S T P1 (nI n) (nI m) (nI w)) := hD
  have hl : lv_has ls 5 [(0, .ref (ad 0)), (1, .int (nI i))] := hl
  have hI_i : ∀ j, j < i → P1 j = nI j := hI_i
  refine lv_iload_n hx hb dX1_findParts_2 rfl (lv_at hl 1 rfl) ?_
  refine lv_aload_n hx hb dX1_findParts_3 rfl (lv_at hl 0 rfl) ?_
  refine va_get (D := D) (ci := 0) (v := .int (nI n)) (C := RX1) (T := TX1) (N := 12) hx hb hts in_X1 hown hK hP 0 rfl rfl 9 (by decide) (hts _ q41) (fun _ h9 => h9) rfl dX1_findParts_4 ?_
  refine lv_icmp_ge (tgt := 23) hx hb dX1_findParts_7 (by decide) (fun c_7 => ?_) (fun c_7 => ?_)
  · have him_i : i = n := by have := le_c c_7; omega
    refine lv_iconst (v := nI 0) hx hb dX1_findParts_23 (by decide) ?_
    refine lv_istore_n (lv' := [(1, .int (nI 0)), (0, .ref (ad 0))]) hx hb dX1_findParts_24 rfl hl (by decide) rfl (fun ls hl => ?_)
    refine w_for (σ := Nat → Int32) (m) (fun u => (wX ad d E O G C F V S T u (nI n) (nI m) (nI w))) (fun i u => [(0, .ref (ad 0)), (1, .int (nI i))]) (fun i u => ∀ j, j < n → u j = nI (ptN a b i j)) (fun i hi_i IH_i u H locs ls hI_i hP hD hS hl => ?_) (i0 := 0) (Nat.zero_le _) P1 (fun j h => hI_i j (by omega)) hP hD hS (lv_sub hl [1, 0] rfl)
    obtain ⟨P2, rfl⟩ : ∃ z, z = u := ⟨_, rfl⟩
    have hP : va_P D vwCl (wX ad d E O G C F V S T P2 (nI n) (nI m) (nI w)) H := hP
    have hD : va_D A (wX ad d E O G C F V S T P2 (nI n) (nI m) (nI w)) := hD
    have hl : lv_has ls 5 [(0, .ref (ad 0)), (1, .int (nI i))] := hl
    have hI_i : ∀ j, j < n → P2 j = nI (ptN a b i j) := hI_i
    refine lv_iload_n hx hb dX1_findParts_25 rfl (lv_at hl 1 rfl) ?_
    refine lv_aload_n hx hb dX1_findParts_26 rfl (lv_at hl 0 rfl) ?_
    refine va_get (D := D) (ci := 0) (v := .int (nI m)) (C := RX1) (T := TX1) (N := 12) hx hb hts in_X1 hown hK hP 0 rfl rfl 10 (by decide) (hts _ q42) (fun _ h9 => h9) rfl dX1_findParts_27 ?_
    refine lv_icmp_ge (tgt := 110) hx hb dX1_findParts_30 (by decide) (fun c_30 => ?_) (fun c_30 => ?_)
    · have him_i : i = m := by have := le_c c_30; omega
      exact w_vret hx hb hr hlocks P2 (by rw [← him_i]; exact hI_i) hP hK hD hS dX1_findParts_110
    · have hlt_i : i < m := nle_c c_30
      obtain ⟨hai, hbi, hg1i, hg2i⟩ := hok i hlt_i
      obtain ⟨hEi, hOi, hGi⟩ := hE i hlt_i
      have hab : ∀ e, e < i → a e < n ∧ b e < n := fun e he => ⟨(hok e (by omega)).1, (hok e (by omega)).2.1⟩
      refine lv_aload_n hx hb dX1_findParts_33 rfl (lv_at hl 0 rfl) ?_
      refine va_get (D := D) (ci := 0) (v := .ref (ad 9)) (C := RX1) (T := TX1) (N := 12) hx hb hts in_X1 hown hK hP 0 rfl rfl 8 (by decide) (hts _ q40) (fun _ h9 => h9) rfl dX1_findParts_34 ?_
      refine lv_aload_n hx hb dX1_findParts_37 rfl (lv_at hl 0 rfl) ?_
      refine va_get (D := D) (ci := 0) (v := .ref (ad 1)) (C := RX1) (T := TX1) (N := 12) hx hb hts in_X1 hown hK hP 0 rfl rfl 0 (by decide) (hts _ q32) (fun _ h9 => h9) rfl dX1_findParts_38 ?_
      refine lv_iload_n hx hb dX1_findParts_41 rfl (lv_at hl 1 rfl) ?_
      refine w_iald (v := (nI (a i))) hx hb hK hP 1 0 rfl rfl (by omega) (by decide) hEi dX1_findParts_42 ?_
      refine w_iald (v := (nI (ptN a b i (a i)))) hx hb hK hP 9 0 rfl rfl (by omega) (by decide) (hI_i _ hai) dX1_findParts_43 ?_
      refine lv_istore_n (lv' := [(2, .int (nI (ptN a b i (a i)))), (0, .ref (ad 0)), (1, .int (nI i))]) hx hb dX1_findParts_44 rfl hl (by decide) rfl (fun ls hl => ?_)
      refine lv_aload_n hx hb dX1_findParts_45 rfl (lv_at hl 1 rfl) ?_
      refine va_get (D := D) (ci := 0) (v := .ref (ad 9)) (C := RX1) (T := TX1) (N := 12) hx hb hts in_X1 hown hK hP 0 rfl rfl 8 (by decide) (hts _ q40) (fun _ h9 => h9) rfl dX1_findParts_46 ?_
      refine lv_aload_n hx hb dX1_findParts_49 rfl (lv_at hl 1 rfl) ?_
      refine va_get (D := D) (ci := 0) (v := .ref (ad 2)) (C := RX1) (T := TX1) (N := 12) hx hb hts in_X1 hown hK hP 0 rfl rfl 1 (by decide) (hts _ q33) (fun _ h9 => h9) rfl dX1_findParts_50 ?_
      refine lv_iload_n hx hb dX1_findParts_53 rfl (lv_at hl 2 rfl) ?_
      refine w_iald (v := (nI (b i))) hx hb hK hP 2 0 rfl rfl (by omega) (by decide) hOi dX1_findParts_54 ?_
      refine w_iald (v := (nI (ptN a b i (b i)))) hx hb hK hP 9 0 rfl rfl (by omega) (by decide) (hI_i _ hbi) dX1_findParts_55 ?_
      refine lv_istore_n (lv' := [(3, .int (nI (ptN a b i (b i)))), (2, .int (nI (ptN a b i (a i)))), (0, .ref (ad 0)), (1, .int (nI i))]) hx hb dX1_findParts_56 rfl hl (by decide) rfl (fun ls hl => ?_)
      refine lv_iconst (v := nI 0) hx hb dX1_findParts_57 (by decide) ?_
      refine lv_istore (lv' := [(4, .int (nI 0)), (3, .int (nI (ptN a b i (b i)))), (2, .int (nI (ptN a b i (a i)))), (0, .ref (ad 0)), (1, .int (nI i))]) hx hb dX1_findParts_58 hl (by decide) rfl (fun ls hl => ?_)
      refine w_for (σ := Nat → Int32) (n) (fun u => (wX ad d E O G C F V S T u (nI n) (nI m) (nI w))) (fun k u => [(0, .ref (ad 0)), (1, .int (nI i)), (2, .int (nI (ptN a b i (a i)))), (3, .int (nI (ptN a b i (b i)))), (4, .int (nI k))]) (fun k u => ∀ j, j < n → u j = nI (if j < k then ptN a b (i + 1) j else ptN a b i j)) (fun k hi_k IH_k u H locs ls hI_k hP hD hS hl => ?_) (i0 := 0) (Nat.zero_le _) P2 (fun j hj => by rw [if_neg (by omega)]; exact hI_i j hj) hP hD hS (lv_sub hl [3, 4, 2, 1, 0] rfl)
      obtain ⟨P3, rfl⟩ : ∃ z, z = u := ⟨_, rfl⟩
      have hP : va_P D vwCl (wX ad d E O G C F V S T P3 (nI n) (nI m) (nI w)) H := hP
      have hD : va_D A (wX ad d E O G C F V S T P3 (nI n) (nI m) (nI w)) := hD
      have hl : lv_has ls 5 [(0, .ref (ad 0)), (1, .int (nI i)), (2, .int (nI (ptN a b i (a i)))), (3, .int (nI (ptN a b i (b i)))), (4, .int (nI k))] := hl
      have hI_k : ∀ j, j < n → P3 j = nI (if j < k then ptN a b (i + 1) j else ptN a b i j) := hI_k
      have hpk : k < n → P3 k = nI (ptN a b i k) := fun h => by rw [hI_k k h, if_neg (Nat.lt_irrefl k)]
      have hP : va_P D vwCl (wX ad d E O G C F V S T P3 (nI n) (nI m) (nI w)) H := hP
      have hD : va_D A (wX ad d E O G C F V S T P3 (nI n) (nI m) (nI w)) := hD
      refine lv_iload hx hb dX1_findParts_60 (lv_at hl 4 rfl) ?_
      refine lv_aload_n hx hb dX1_findParts_62 rfl (lv_at hl 0 rfl) ?_
      refine va_get (D := D) (ci := 0) (v := .int (nI n)) (C := RX1) (T := TX1) (N := 12) hx hb hts in_X1 hown hK hP 0 rfl rfl 9 (by decide) (hts _ q41) (fun _ h9 => h9) rfl dX1_findParts_63 ?_
      refine lv_icmp_ge (tgt := 104) hx hb dX1_findParts_66 (by decide) (fun c_66 => ?_) (fun c_66 => ?_)
      · have him_k : k = n := by have := le_c c_66; omega
        refine lv_iinc (v := (nI (i + 1))) (lv' := [(1, .int (nI (i + 1))), (0, .ref (ad 0)), (2, .int (nI (ptN a b i (a i)))), (3, .int (nI (ptN a b i (b i)))), (4, .int (nI k))]) hx hb dX1_findParts_104 hl (k := 1) rfl (nI_1 i) (by decide) rfl (fun ls hl => ?_)
        refine lv_goto (tgt := 25) hx hb dX1_findParts_107 (by decide) ?_
        have hl : lv_has ls 5 [(0, .ref (ad 0)), (1, .int (nI (i + 1)))] := by exact lv_sub hl [1, 0] rfl
        exact IH_i P3 _ _ _ hlt_i (fun j hj => by have := hI_k j hj; rw [if_pos (by omega)] at this; exact this) hP hD hS hl
      · have hlt_k : k < n := nle_c c_66
        refine lv_aload_n hx hb dX1_findParts_69 rfl (lv_at hl 0 rfl) ?_
        refine va_get (D := D) (ci := 0) (v := .ref (ad 9)) (C := RX1) (T := TX1) (N := 12) hx hb hts in_X1 hown hK hP 0 rfl rfl 8 (by decide) (hts _ q40) (fun _ h9 => h9) rfl dX1_findParts_70 ?_
        refine lv_iload hx hb dX1_findParts_73 (lv_at hl 4 rfl) ?_
        refine lv_aload_n hx hb dX1_findParts_75 rfl (lv_at hl 0 rfl) ?_
        refine va_get (D := D) (ci := 0) (v := .ref (ad 9)) (C := RX1) (T := TX1) (N := 12) hx hb hts in_X1 hown hK hP 0 rfl rfl 8 (by decide) (hts _ q40) (fun _ h9 => h9) rfl dX1_findParts_76 ?_
        refine lv_iload hx hb dX1_findParts_79 (lv_at hl 4 rfl) ?_
        refine w_iald (v := (nI (ptN a b i k))) hx hb hK hP 9 0 rfl rfl (by omega) (by decide) (hpk hlt_k) dX1_findParts_81 ?_
        refine lv_iload_n hx hb dX1_findParts_82 rfl (lv_at hl 3 rfl) ?_
        refine lv_icmp_ne (tgt := 90) hx hb dX1_findParts_83 (by decide) (fun c_83 => ?_) (fun c_83 => ?_)
        · have hstep : ptN a b i k = ptN a b (i + 1) k := (if_neg (ne_c c_83)).symm
          refine lv_aload_n hx hb dX1_findParts_90 rfl (lv_at hl 0 rfl) ?_
          refine va_get (D := D) (ci := 0) (v := .ref (ad 9)) (C := RX1) (T := TX1) (N := 12) hx hb hts in_X1 hown hK hP 0 rfl rfl 8 (by decide) (hts _ q40) (fun _ h9 => h9) rfl dX1_findParts_91 ?_
          refine lv_iload hx hb dX1_findParts_94 (lv_at hl 4 rfl) ?_
          refine w_iald (v := (nI (ptN a b i k))) hx hb hK hP 9 0 rfl rfl (by omega) (by decide) (hpk hlt_k) dX1_findParts_96 ?_
          refine w_iast hx hb hK hP hD hS 9 0 rfl rfl (by omega) (by decide) dX1_findParts_97 (fun H locs hP hD hS => ?_)
          have hP : va_P D vwCl (wX ad d E O G C F V S T (upd P3 k (nI (ptN a b i k))) (nI n) (nI m) (nI w)) H := hP
          have hD : va_D A (wX ad d E O G C F V S T (upd P3 k (nI (ptN a b i k))) (nI n) (nI m) (nI w)) := hD
          refine lv_iinc (v := (nI (k + 1))) (lv' := [(4, .int (nI (k + 1))), (0, .ref (ad 0)), (1, .int (nI i)), (2, .int (nI (ptN a b i (a i)))), (3, .int (nI (ptN a b i (b i))))]) hx hb dX1_findParts_98 hl (k := 4) rfl (nI_1 k) (by decide) rfl (fun ls hl => ?_)
          refine lv_goto (tgt := 60) hx hb dX1_findParts_101 (by decide) ?_
          have hl : lv_has ls 5 [(0, .ref (ad 0)), (1, .int (nI i)), (2, .int (nI (ptN a b i (a i)))), (3, .int (nI (ptN a b i (b i)))), (4, .int (nI (k + 1)))] := by exact lv_sub hl [1, 2, 3, 4, 0] rfl
          exact IH_k (upd P3 k (nI (ptN a b i k))) _ _ _ hlt_k (pt_step hI_k hstep) hP hD hS hl
        · have hstep : ptN a b i (a i) = ptN a b (i + 1) k := (if_pos (eq_c c_83 (Nat.lt_trans (ptN_lt hab hlt_k) (by omega)) (Nat.lt_trans (ptN_lt hab hbi) (by omega)))).symm
          refine lv_iload_n hx hb dX1_findParts_86 rfl (lv_at hl 2 rfl) ?_
          refine lv_goto (tgt := 97) hx hb dX1_findParts_87 (by decide) ?_
          refine w_iast hx hb hK hP hD hS 9 0 rfl rfl (by omega) (by decide) dX1_findParts_97 (fun H locs hP hD hS => ?_)
          have hP : va_P D vwCl (wX ad d E O G C F V S T (upd P3 k (nI (ptN a b i (a i)))) (nI n) (nI m) (nI w)) H := hP
          have hD : va_D A (wX ad d E O G C F V S T (upd P3 k (nI (ptN a b i (a i)))) (nI n) (nI m) (nI w)) := hD
          refine lv_iinc (v := (nI (k + 1))) (lv' := [(4, .int (nI (k + 1))), (0, .ref (ad 0)), (1, .int (nI i)), (2, .int (nI (ptN a b i (a i)))), (3, .int (nI (ptN a b i (b i))))]) hx hb dX1_findParts_98 hl (k := 4) rfl (nI_1 k) (by decide) rfl (fun ls hl => ?_)
          refine lv_goto (tgt := 60) hx hb dX1_findParts_101 (by decide) ?_
          have hl : lv_has ls 5 [(0, .ref (ad 0)), (1, .int (nI i)), (2, .int (nI (ptN a b i (a i)))), (3, .int (nI (ptN a b i (b i)))), (4, .int (nI (k + 1)))] := by exact lv_sub hl [1, 2, 3, 4, 0] rfl
          exact IH_k (upd P3 k (nI (ptN a b i (a i)))) _ _ _ hlt_k (pt_step hI_k hstep) hP hD hS hl
  · have hlt_i : i < n := nle_c c_7
    refine lv_aload_n hx hb dX1_findParts_10 rfl (lv_at hl 0 rfl) ?_
    refine va_get (D := D) (ci := 0) (v := .ref (ad 9)) (C := RX1) (T := TX1) (N := 12) hx hb hts in_X1 hown hK hP 0 rfl rfl 8 (by decide) (hts _ q40) (fun _ h9 => h9) rfl dX1_findParts_11 ?_
    refine lv_iload_n hx hb dX1_findParts_14 rfl (lv_at hl 1 rfl) ?_
    refine lv_iload_n hx hb dX1_findParts_15 rfl (lv_at hl 1 rfl) ?_
    refine w_iast hx hb hK hP hD hS 9 0 rfl rfl (by omega) (by decide) dX1_findParts_16 (fun H locs hP hD hS => ?_)
    have hP : va_P D vwCl (wX ad d E O G C F V S T (upd P1 i (nI i)) (nI n) (nI m) (nI w)) H := hP
    have hD : va_D A (wX ad d E O G C F V S T (upd P1 i (nI i)) (nI n) (nI m) (nI w)) := hD
    refine lv_iinc (v := (nI (i + 1))) (lv' := [(1, .int (nI (i + 1))), (0, .ref (ad 0))]) hx hb dX1_findParts_17 hl (k := 1) rfl (nI_1 i) (by decide) rfl (fun ls hl => ?_)
    refine lv_goto (tgt := 2) hx hb dX1_findParts_20 (by decide) ?_
    have hl : lv_has ls 5 [(0, .ref (ad 0)), (1, .int (nI (i + 1)))] := by exact lv_sub hl [1, 0] rfl
    exact IH_i (upd P1 i (nI i)) _ _ _ hlt_i (upd_lt (h := nI) hI_i) hP hD hS hl
set_option maxHeartbeats 4000000 in
set_option maxRecDepth 100000 in
theorem mX1_countParts (l : Launch) (D : va_G) (d : ClassId) (ad : Nat → Nat) (E O G C F V S T P : Nat → Int32) (n m w : Nat) (a b : Nat → Nat) (g : Nat → Int) (hR : Rep n m w a b g E O G) : MI_ l yX1_countParts (ws_ yX1_countParts cX1_countParts 5 (some .int)) rq1 D d (wX ad d E O G C F V S T P (nI n) (nI m) (nI w)) (fun u : Nat → Int32 => (wX ad d E O G C F V S T u (nI n) (nI m) (nI w))) [.ref (ad 0)] (fun (r : Int32) u => r = nI (cpN (ptN a b m) n)) := by
  have hR0 := hR
  obtain ⟨⟨⟨hn2, hn7, hm12, hw7⟩, hok⟩, hE⟩ := hR0
  have hab : ∀ e, e < m → a e < n ∧ b e < n := fun e he => ⟨(hok e he).1, (hok e he).2.1⟩
  refine MI_mk (lv := [(0, .ref (ad 0))]) (by decide) (Nat.le_of_ble_eq_true rfl) rfl fun pg en s mm below meth cd A ls hx hb hr hlocks hml hown hts hA hP hK hD hS hl => ?_
  have hown : s.vm.findClass RX1 = some mm.cls := hown
  refine w_start fun H locs hH hL => ?_
  rw [← hH] at hP
  replace hS : va_S A s.heap H locs := by rw [hL, hH]; exact va_S.rf
  refine lv_aload_n hx hb dX1_countParts_0 rfl (lv_at hl 0 rfl) ?_
  refine w_xv (As := []) (rest := []) ⟨hx, hb, hml, hown, hts⟩ (mX1_findParts l D d ad E O G C F V S T P n m w a b g hR) (cwV 0 hts (lw_V q118 q120 qs4 q22 q121) rfl rfl rfl (by decide +kernel) ⟨Nat.le_of_ble_eq_true rfl, Nat.le_of_ble_eq_true rfl⟩) hP hK hD hS hA rfl hl.1 rfl (Nat.le_of_ble_eq_true rfl) dX1_countParts_1 (fun P1 H locs hp1 hP hD hS => ?_)
  have hP : va_P D vwCl (wX ad d E O G C F V S T P1 (nI n) (nI m) (nI w)) H := hP
  have hD : va_D A (wX ad d E O G C F V S T P1 (nI n) (nI m) (nI w)) := hD
  refine lv_iconst (v := nI 0) hx hb dX1_countParts_4 (by decide) ?_
  refine lv_istore_n (lv' := [(1, .int (nI 0)), (0, .ref (ad 0))]) hx hb dX1_countParts_5 rfl hl (by decide) rfl (fun ls hl => ?_)
  refine lv_iconst (v := nI 0) hx hb dX1_countParts_6 (by decide) ?_
  refine lv_istore_n (lv' := [(2, .int (nI 0)), (1, .int (nI 0)), (0, .ref (ad 0))]) hx hb dX1_countParts_7 rfl hl (by decide) rfl (fun ls hl => ?_)
  refine w_for (σ := Unit) (n) (fun u => (wX ad d E O G C F V S T P1 (nI n) (nI m) (nI w))) (fun i u => [(0, .ref (ad 0)), (1, .int (nI (cpN (ptN a b m) i))), (2, .int (nI i))]) (fun i u => True) (fun i hi_i IH_i u H locs ls hI_i hP hD hS hl => ?_) (i0 := 0) (Nat.zero_le _) () trivial hP hD hS (lv_sub hl [2, 1, 0] rfl)
  have hP : va_P D vwCl (wX ad d E O G C F V S T P1 (nI n) (nI m) (nI w)) H := hP
  have hD : va_D A (wX ad d E O G C F V S T P1 (nI n) (nI m) (nI w)) := hD
  have hl : lv_has ls 5 [(0, .ref (ad 0)), (1, .int (nI (cpN (ptN a b m) i))), (2, .int (nI i))] := hl
  refine lv_iload_n hx hb dX1_countParts_8 rfl (lv_at hl 2 rfl) ?_
  refine lv_aload_n hx hb dX1_countParts_9 rfl (lv_at hl 0 rfl) ?_
  refine va_get (D := D) (ci := 0) (v := .int (nI n)) (C := RX1) (T := TX1) (N := 12) hx hb hts in_X1 hown hK hP 0 rfl rfl 9 (by decide) (hts _ q41) (fun _ h9 => h9) rfl dX1_countParts_10 ?_
  refine lv_icmp_ge (tgt := 77) hx hb dX1_countParts_13 (by decide) (fun c_13 => ?_) (fun c_13 => ?_)
  · have him_i : i = n := by have := le_c c_13; omega
    refine lv_iload_n hx hb dX1_countParts_77 rfl (lv_at hl 1 rfl) ?_
    exact w_iret hx hb hr hlocks P1 (by rw [him_i]) hP hK hD hS dX1_countParts_78
  · have hlt_i : i < n := nle_c c_13
    refine lv_iconst (v := bI true) hx hb dX1_countParts_16 (by decide) ?_
    refine lv_istore_n (lv' := [(3, .int (bI true)), (0, .ref (ad 0)), (1, .int (nI (cpN (ptN a b m) i))), (2, .int (nI i))]) hx hb dX1_countParts_17 rfl hl (by decide) rfl (fun ls hl => ?_)
    refine lv_iconst (v := nI 0) hx hb dX1_countParts_18 (by decide) ?_
    refine lv_istore (lv' := [(4, .int (nI 0)), (3, .int (bI true)), (0, .ref (ad 0)), (1, .int (nI (cpN (ptN a b m) i))), (2, .int (nI i))]) hx hb dX1_countParts_19 hl (by decide) rfl (fun ls hl => ?_)
    refine w_for (σ := Unit) (i) (fun u => (wX ad d E O G C F V S T P1 (nI n) (nI m) (nI w))) (fun k u => [(0, .ref (ad 0)), (1, .int (nI (cpN (ptN a b m) i))), (2, .int (nI i)), (3, .int (bI (fiN (ptN a b m) i k))), (4, .int (nI k))]) (fun k u => True) (fun k hi_k IH_k u H locs ls hI_k hP hD hS hl => ?_) (i0 := 0) (Nat.zero_le _) () trivial hP hD hS (lv_sub hl [2, 3, 4, 1, 0] rfl)
    have hP : va_P D vwCl (wX ad d E O G C F V S T P1 (nI n) (nI m) (nI w)) H := hP
    have hD : va_D A (wX ad d E O G C F V S T P1 (nI n) (nI m) (nI w)) := hD
    have hl : lv_has ls 5 [(0, .ref (ad 0)), (1, .int (nI (cpN (ptN a b m) i))), (2, .int (nI i)), (3, .int (bI (fiN (ptN a b m) i k))), (4, .int (nI k))] := hl
    refine lv_iload hx hb dX1_countParts_21 (lv_at hl 4 rfl) ?_
    refine lv_iload_n hx hb dX1_countParts_23 rfl (lv_at hl 2 rfl) ?_
    refine lv_icmp_ge (tgt := 59) hx hb dX1_countParts_24 (by decide) (fun c_24 => ?_) (fun c_24 => ?_)
    · have him_k : k = i := by have := le_c c_24; omega
      refine lv_iload_n hx hb dX1_countParts_59 rfl (lv_at hl 1 rfl) ?_
      refine lv_iload_n hx hb dX1_countParts_60 rfl (lv_at hl 3 rfl) ?_
      refine lv_if_eq (tgt := 68) hx hb dX1_countParts_61 (by decide) (fun c_61 => ?_) (fun c_61 => ?_)
      · have hcp : cpN (ptN a b m) (i + 1) = cpN (ptN a b m) i + 0 := by show _ + _ = _; rw [him_k] at c_61; rw [bI_0.mp c_61]; rfl
        refine lv_iconst (v := nI 0) hx hb dX1_countParts_68 (by decide) ?_
        refine lv_iadd hx hb dX1_countParts_69 ?_
        refine w_top (y := nI (cpN (ptN a b m) (i + 1))) (by rw [hcp]; exact nI_add _ _) ?_
        refine lv_istore_n (lv' := [(1, .int (nI (cpN (ptN a b m) (i + 1)))), (0, .ref (ad 0)), (2, .int (nI i)), (3, .int (bI (fiN (ptN a b m) i k))), (4, .int (nI k))]) hx hb dX1_countParts_70 rfl hl (by decide) rfl (fun ls hl => ?_)
        refine lv_iinc (v := (nI (i + 1))) (lv' := [(2, .int (nI (i + 1))), (1, .int (nI (cpN (ptN a b m) (i + 1)))), (0, .ref (ad 0)), (3, .int (bI (fiN (ptN a b m) i k))), (4, .int (nI k))]) hx hb dX1_countParts_71 hl (k := 2) rfl (nI_1 i) (by decide) rfl (fun ls hl => ?_)
        refine lv_goto (tgt := 8) hx hb dX1_countParts_74 (by decide) ?_
        have hl : lv_has ls 5 [(0, .ref (ad 0)), (1, .int (nI (cpN (ptN a b m) (i + 1)))), (2, .int (nI (i + 1)))] := by exact lv_sub hl [2, 1, 0] rfl
        exact IH_i () _ _ _ hlt_i trivial hP hD hS hl
      · have hcp : cpN (ptN a b m) (i + 1) = cpN (ptN a b m) i + 1 := by show _ + _ = _; rw [him_k] at c_61; rw [bI_n0.mp c_61]; rfl
        refine lv_iconst (v := nI 1) hx hb dX1_countParts_64 (by decide) ?_
        refine lv_goto (tgt := 69) hx hb dX1_countParts_65 (by decide) ?_
        refine lv_iadd hx hb dX1_countParts_69 ?_
        refine w_top (y := nI (cpN (ptN a b m) (i + 1))) (by rw [hcp]; exact nI_add _ _) ?_
        refine lv_istore_n (lv' := [(1, .int (nI (cpN (ptN a b m) (i + 1)))), (0, .ref (ad 0)), (2, .int (nI i)), (3, .int (bI (fiN (ptN a b m) i k))), (4, .int (nI k))]) hx hb dX1_countParts_70 rfl hl (by decide) rfl (fun ls hl => ?_)
        refine lv_iinc (v := (nI (i + 1))) (lv' := [(2, .int (nI (i + 1))), (1, .int (nI (cpN (ptN a b m) (i + 1)))), (0, .ref (ad 0)), (3, .int (bI (fiN (ptN a b m) i k))), (4, .int (nI k))]) hx hb dX1_countParts_71 hl (k := 2) rfl (nI_1 i) (by decide) rfl (fun ls hl => ?_)
        refine lv_goto (tgt := 8) hx hb dX1_countParts_74 (by decide) ?_
        have hl : lv_has ls 5 [(0, .ref (ad 0)), (1, .int (nI (cpN (ptN a b m) (i + 1)))), (2, .int (nI (i + 1)))] := by exact lv_sub hl [2, 1, 0] rfl
        exact IH_i () _ _ _ hlt_i trivial hP hD hS hl
    · have hlt_k : k < i := nle_c c_24
      refine lv_iload_n hx hb dX1_countParts_27 rfl (lv_at hl 3 rfl) ?_
      refine lv_if_eq (tgt := 51) hx hb dX1_countParts_28 (by decide) (fun c_28 => ?_) (fun c_28 => ?_)
      · have hfi : fiN (ptN a b m) i (k + 1) = false := by show (_ && _) = _; rw [bI_0.mp c_28]; rfl
        refine lv_iconst (v := 0) hx hb dX1_countParts_51 (by decide) ?_
        refine w_top (y := bI (fiN (ptN a b m) i (k + 1))) (by rw [hfi]; rfl) ?_
        refine lv_istore_n (lv' := [(3, .int (bI (fiN (ptN a b m) i (k + 1)))), (0, .ref (ad 0)), (1, .int (nI (cpN (ptN a b m) i))), (2, .int (nI i)), (4, .int (nI k))]) hx hb dX1_countParts_52 rfl hl (by decide) rfl (fun ls hl => ?_)
        refine lv_iinc (v := (nI (k + 1))) (lv' := [(4, .int (nI (k + 1))), (3, .int (bI (fiN (ptN a b m) i (k + 1)))), (0, .ref (ad 0)), (1, .int (nI (cpN (ptN a b m) i))), (2, .int (nI i))]) hx hb dX1_countParts_53 hl (k := 4) rfl (nI_1 k) (by decide) rfl (fun ls hl => ?_)
        refine lv_goto (tgt := 21) hx hb dX1_countParts_56 (by decide) ?_
        have hl : lv_has ls 5 [(0, .ref (ad 0)), (1, .int (nI (cpN (ptN a b m) i))), (2, .int (nI i)), (3, .int (bI (fiN (ptN a b m) i (k + 1)))), (4, .int (nI (k + 1)))] := by exact lv_sub hl [2, 3, 4, 1, 0] rfl
        exact IH_k () _ _ _ hlt_k trivial hP hD hS hl
      · refine lv_aload_n hx hb dX1_countParts_31 rfl (lv_at hl 0 rfl) ?_
        refine va_get (D := D) (ci := 0) (v := .ref (ad 9)) (C := RX1) (T := TX1) (N := 12) hx hb hts in_X1 hown hK hP 0 rfl rfl 8 (by decide) (hts _ q40) (fun _ h9 => h9) rfl dX1_countParts_32 ?_
        refine lv_iload hx hb dX1_countParts_35 (lv_at hl 4 rfl) ?_
        refine w_iald (v := (nI (ptN a b m k))) hx hb hK hP 9 0 rfl rfl (by omega) (by decide) (hp1 k (by omega)) dX1_countParts_37 ?_
        refine lv_aload_n hx hb dX1_countParts_38 rfl (lv_at hl 0 rfl) ?_
        refine va_get (D := D) (ci := 0) (v := .ref (ad 9)) (C := RX1) (T := TX1) (N := 12) hx hb hts in_X1 hown hK hP 0 rfl rfl 8 (by decide) (hts _ q40) (fun _ h9 => h9) rfl dX1_countParts_39 ?_
        refine lv_iload_n hx hb dX1_countParts_42 rfl (lv_at hl 2 rfl) ?_
        refine w_iald (v := (nI (ptN a b m i))) hx hb hK hP 9 0 rfl rfl (by omega) (by decide) (hp1 i (by omega)) dX1_countParts_43 ?_
        refine lv_icmp_eq (tgt := 51) hx hb dX1_countParts_44 (by decide) (fun c_44 => ?_) (fun c_44 => ?_)
        · have hfi : fiN (ptN a b m) i (k + 1) = false := by show (_ && _) = _; rw [decide_eq_true (eq_c c_44 (Nat.lt_trans (ptN_lt hab (by omega)) (by omega)) (Nat.lt_trans (ptN_lt hab hlt_i) (by omega)))]; simp
          refine lv_iconst (v := 0) hx hb dX1_countParts_51 (by decide) ?_
          refine w_top (y := bI (fiN (ptN a b m) i (k + 1))) (by rw [hfi]; rfl) ?_
          refine lv_istore_n (lv' := [(3, .int (bI (fiN (ptN a b m) i (k + 1)))), (0, .ref (ad 0)), (1, .int (nI (cpN (ptN a b m) i))), (2, .int (nI i)), (4, .int (nI k))]) hx hb dX1_countParts_52 rfl hl (by decide) rfl (fun ls hl => ?_)
          refine lv_iinc (v := (nI (k + 1))) (lv' := [(4, .int (nI (k + 1))), (3, .int (bI (fiN (ptN a b m) i (k + 1)))), (0, .ref (ad 0)), (1, .int (nI (cpN (ptN a b m) i))), (2, .int (nI i))]) hx hb dX1_countParts_53 hl (k := 4) rfl (nI_1 k) (by decide) rfl (fun ls hl => ?_)
          refine lv_goto (tgt := 21) hx hb dX1_countParts_56 (by decide) ?_
          have hl : lv_has ls 5 [(0, .ref (ad 0)), (1, .int (nI (cpN (ptN a b m) i))), (2, .int (nI i)), (3, .int (bI (fiN (ptN a b m) i (k + 1)))), (4, .int (nI (k + 1)))] := by exact lv_sub hl [2, 3, 4, 1, 0] rfl
          exact IH_k () _ _ _ hlt_k trivial hP hD hS hl
        · have hfi : fiN (ptN a b m) i (k + 1) = true := by show (_ && _) = _; rw [bI_n0.mp c_28, decide_eq_false (ne_c c_44)]; rfl
          refine lv_iconst (v := 1) hx hb dX1_countParts_47 (by decide) ?_
          refine w_top (y := bI (fiN (ptN a b m) i (k + 1))) (by rw [hfi]; rfl) ?_
          refine lv_goto (tgt := 52) hx hb dX1_countParts_48 (by decide) ?_
          refine lv_istore_n (lv' := [(3, .int (bI (fiN (ptN a b m) i (k + 1)))), (0, .ref (ad 0)), (1, .int (nI (cpN (ptN a b m) i))), (2, .int (nI i)), (4, .int (nI k))]) hx hb dX1_countParts_52 rfl hl (by decide) rfl (fun ls hl => ?_)
          refine lv_iinc (v := (nI (k + 1))) (lv' := [(4, .int (nI (k + 1))), (3, .int (bI (fiN (ptN a b m) i (k + 1)))), (0, .ref (ad 0)), (1, .int (nI (cpN (ptN a b m) i))), (2, .int (nI i))]) hx hb dX1_countParts_53 hl (k := 4) rfl (nI_1 k) (by decide) rfl (fun ls hl => ?_)
          refine lv_goto (tgt := 21) hx hb dX1_countParts_56 (by decide) ?_
          have hl : lv_has ls 5 [(0, .ref (ad 0)), (1, .int (nI (cpN (ptN a b m) i))), (2, .int (nI i)), (3, .int (bI (fiN (ptN a b m) i (k + 1)))), (4, .int (nI (k + 1)))] := by exact lv_sub hl [2, 3, 4, 1, 0] rfl
          exact IH_k () _ _ _ hlt_k trivial hP hD hS hl
set_option maxHeartbeats 4000000 in
set_option maxRecDepth 100000 in
theorem mX1_isPossible (l : Launch) (D : va_G) (d : ClassId) (ad : Nat → Nat) (E O G C F V S T P : Nat → Int32) (n m w : Nat) (a b : Nat → Nat) (g : Nat → Int) (hR : Rep n m w a b g E O G) (J : Nat) (hJ : J < 128) : MI_ l yX1_isPossible (ws_ yX1_isPossible cX1_isPossible 5 (some .boolean)) rq1 D d (wX ad d E O G C F V S T P (nI n) (nI m) (nI w)) (fun u : Nat → Int32 => (wX ad d E O G C F V S T u (nI n) (nI m) (nI w))) [.ref (ad 0), .int (nI J)] (fun (r : Int32) u => orI r (posN a b n m J) (¬ posN a b n m J)) := by
  have hR0 := hR
  obtain ⟨⟨⟨hn2, hn7, hm12, hw7⟩, hok⟩, hE⟩ := hR0
  have hab : ∀ e, e < m → a e < n ∧ b e < n := fun e he => ⟨(hok e he).1, (hok e he).2.1⟩
  refine MI_mk (lv := [(0, .ref (ad 0)), (1, .int (nI J))]) (by decide) (Nat.le_of_ble_eq_true rfl) rfl fun pg en s mm below meth cd A ls hx hb hr hlocks hml hown hts hA hP hK hD hS hl => ?_
  have hown : s.vm.findClass RX1 = some mm.cls := hown
  refine w_start fun H locs hH hL => ?_
  rw [← hH] at hP
  replace hS : va_S A s.heap H locs := by rw [hL, hH]; exact va_S.rf
  refine lv_aload_n hx hb dX1_isPossible_0 rfl (lv_at hl 0 rfl) ?_
  refine w_xv (As := []) (rest := []) ⟨hx, hb, hml, hown, hts⟩ (mX1_findParts l D d ad E O G C F V S T P n m w a b g hR) (cwV 0 hts (lw_V q118 q120 qs4 q22 q121) rfl rfl rfl (by decide +kernel) ⟨Nat.le_of_ble_eq_true rfl, Nat.le_of_ble_eq_true rfl⟩) hP hK hD hS hA rfl hl.1 rfl (Nat.le_of_ble_eq_true rfl) dX1_isPossible_1 (fun P1 H locs hp1 hP hD hS => ?_)
  have hP : va_P D vwCl (wX ad d E O G C F V S T P1 (nI n) (nI m) (nI w)) H := hP
  have hD : va_D A (wX ad d E O G C F V S T P1 (nI n) (nI m) (nI w)) := hD
  refine lv_iconst (v := nI 0) hx hb dX1_isPossible_4 (by decide) ?_
  refine lv_istore_n (lv' := [(2, .int (nI 0)), (0, .ref (ad 0)), (1, .int (nI J))]) hx hb dX1_isPossible_5 rfl hl (by decide) rfl (fun ls hl => ?_)
  refine w_for (σ := Unit) (n) (fun u => (wX ad d E O G C F V S T P1 (nI n) (nI m) (nI w))) (fun i u => [(0, .ref (ad 0)), (1, .int (nI J)), (2, .int (nI i))]) (fun i u => ∀ q, q < i → paN (ptN a b m) J q n = false) (fun i hi_i IH_i u H locs ls hI_i hP hD hS hl => ?_) (i0 := 0) (Nat.zero_le _) () (fun q h => absurd h (by omega)) hP hD hS (lv_sub hl [1, 2, 0] rfl)
  have hP : va_P D vwCl (wX ad d E O G C F V S T P1 (nI n) (nI m) (nI w)) H := hP
  have hD : va_D A (wX ad d E O G C F V S T P1 (nI n) (nI m) (nI w)) := hD
  have hl : lv_has ls 5 [(0, .ref (ad 0)), (1, .int (nI J)), (2, .int (nI i))] := hl
  have hI_i : ∀ q, q < i → paN (ptN a b m) J q n = false := hI_i
  refine lv_iload_n hx hb dX1_isPossible_6 rfl (lv_at hl 2 rfl) ?_
  refine lv_aload_n hx hb dX1_isPossible_7 rfl (lv_at hl 0 rfl) ?_
  refine va_get (D := D) (ci := 0) (v := .int (nI n)) (C := RX1) (T := TX1) (N := 12) hx hb hts in_X1 hown hK hP 0 rfl rfl 9 (by decide) (hts _ q41) (fun _ h9 => h9) rfl dX1_isPossible_8 ?_
  refine lv_icmp_ge (tgt := 71) hx hb dX1_isPossible_11 (by decide) (fun c_11 => ?_) (fun c_11 => ?_)
  · have him_i : i = n := by have := le_c c_11; omega
    refine lv_iconst (v := 1) hx hb dX1_isPossible_71 (by decide) ?_
    exact w_zret hx hb hr hlocks rfl P1 (Or.inl ⟨rfl, fun q hq => hI_i q (by omega)⟩) hP hK hD hS dX1_isPossible_72
  · have hlt_i : i < n := nle_c c_11
    refine lv_iconst (v := bI false) hx hb dX1_isPossible_14 (by decide) ?_
    refine lv_istore_n (lv' := [(3, .int (bI false)), (0, .ref (ad 0)), (1, .int (nI J)), (2, .int (nI i))]) hx hb dX1_isPossible_15 rfl hl (by decide) rfl (fun ls hl => ?_)
    refine lv_iconst (v := nI 0) hx hb dX1_isPossible_16 (by decide) ?_
    refine lv_istore (lv' := [(4, .int (nI 0)), (3, .int (bI false)), (0, .ref (ad 0)), (1, .int (nI J)), (2, .int (nI i))]) hx hb dX1_isPossible_17 hl (by decide) rfl (fun ls hl => ?_)
    refine w_for (σ := Unit) (n) (fun u => (wX ad d E O G C F V S T P1 (nI n) (nI m) (nI w))) (fun k u => [(0, .ref (ad 0)), (1, .int (nI J)), (2, .int (nI i)), (3, .int (bI (paN (ptN a b m) J i k))), (4, .int (nI k))]) (fun k u => True) (fun k hi_k IH_k u H locs ls hI_k hP hD hS hl => ?_) (i0 := 0) (Nat.zero_le _) () trivial hP hD hS (lv_sub hl [2, 3, 4, 1, 0] rfl)
    have hP : va_P D vwCl (wX ad d E O G C F V S T P1 (nI n) (nI m) (nI w)) H := hP
    have hD : va_D A (wX ad d E O G C F V S T P1 (nI n) (nI m) (nI w)) := hD
    have hl : lv_has ls 5 [(0, .ref (ad 0)), (1, .int (nI J)), (2, .int (nI i)), (3, .int (bI (paN (ptN a b m) J i k))), (4, .int (nI k))] := hl
    refine lv_iload hx hb dX1_isPossible_19 (lv_at hl 4 rfl) ?_
    refine lv_aload_n hx hb dX1_isPossible_21 rfl (lv_at hl 0 rfl) ?_
    refine va_get (D := D) (ci := 0) (v := .int (nI n)) (C := RX1) (T := TX1) (N := 12) hx hb hts in_X1 hown hK hP 0 rfl rfl 9 (by decide) (hts _ q41) (fun _ h9 => h9) rfl dX1_isPossible_22 ?_
    refine lv_icmp_ge (tgt := 58) hx hb dX1_isPossible_25 (by decide) (fun c_25 => ?_) (fun c_25 => ?_)
    · have him_k : k = n := by have := le_c c_25; omega
      refine lv_iload_n hx hb dX1_isPossible_58 rfl (lv_at hl 3 rfl) ?_
      refine lv_iconst (v := 1) hx hb dX1_isPossible_59 (by decide) ?_
      refine lv_icmp_ne (tgt := 65) hx hb dX1_isPossible_60 (by decide) (fun c_60 => ?_) (fun c_60 => ?_)
      · refine lv_iinc (v := (nI (i + 1))) (lv' := [(2, .int (nI (i + 1))), (0, .ref (ad 0)), (1, .int (nI J)), (3, .int (bI (paN (ptN a b m) J i k))), (4, .int (nI k))]) hx hb dX1_isPossible_65 hl (k := 2) rfl (nI_1 i) (by decide) rfl (fun ls hl => ?_)
        refine lv_goto (tgt := 6) hx hb dX1_isPossible_68 (by decide) ?_
        have hl : lv_has ls 5 [(0, .ref (ad 0)), (1, .int (nI J)), (2, .int (nI (i + 1)))] := by exact lv_sub hl [1, 2, 0] rfl
        exact IH_i () _ _ _ hlt_i (lt_s hI_i (by rw [← him_k]; exact bI_n1.mp c_60)) hP hD hS hl
      · refine lv_iconst (v := 0) hx hb dX1_isPossible_63 (by decide) ?_
        exact w_zret hx hb hr hlocks rfl P1 (Or.inr ⟨rfl, fun h => absurd (h i hlt_i) (by rw [← him_k, bI_1.mp c_60]; decide)⟩) hP hK hD hS dX1_isPossible_64
    · have hlt_k : k < n := nle_c c_25
      refine lv_iload_n hx hb dX1_isPossible_28 rfl (lv_at hl 3 rfl) ?_
      refine lv_aload_n hx hb dX1_isPossible_29 rfl (lv_at hl 0 rfl) ?_
      refine va_get (D := D) (ci := 0) (v := .ref (ad 9)) (C := RX1) (T := TX1) (N := 12) hx hb hts in_X1 hown hK hP 0 rfl rfl 8 (by decide) (hts _ q40) (fun _ h9 => h9) rfl dX1_isPossible_30 ?_
      refine lv_iload hx hb dX1_isPossible_33 (lv_at hl 4 rfl) ?_
      refine w_iald (v := (nI (ptN a b m k))) hx hb hK hP 9 0 rfl rfl (by omega) (by decide) (hp1 k (by omega)) dX1_isPossible_35 ?_
      refine lv_iload_n hx hb dX1_isPossible_36 rfl (lv_at hl 2 rfl) ?_
      refine lv_icmp_ne (tgt := 49) hx hb dX1_isPossible_37 (by decide) (fun c_37 => ?_) (fun c_37 => ?_)
      · have hpa : paN (ptN a b m) J i (k + 1) = (paN (ptN a b m) J i k ^^ false) := by show (_ ^^ _) = _; rw [decide_eq_false (ne_c c_37)]; rfl
        refine lv_iconst (v := bI false) hx hb dX1_isPossible_49 (by decide) ?_
        refine lv_ixor hx hb dX1_isPossible_50 ?_
        refine w_top (y := bI (paN (ptN a b m) J i (k + 1))) (by rw [hpa]; exact bI_xor _ _) ?_
        refine lv_istore_n (lv' := [(3, .int (bI (paN (ptN a b m) J i (k + 1)))), (0, .ref (ad 0)), (1, .int (nI J)), (2, .int (nI i)), (4, .int (nI k))]) hx hb dX1_isPossible_51 rfl hl (by decide) rfl (fun ls hl => ?_)
        refine lv_iinc (v := (nI (k + 1))) (lv' := [(4, .int (nI (k + 1))), (3, .int (bI (paN (ptN a b m) J i (k + 1)))), (0, .ref (ad 0)), (1, .int (nI J)), (2, .int (nI i))]) hx hb dX1_isPossible_52 hl (k := 4) rfl (nI_1 k) (by decide) rfl (fun ls hl => ?_)
        refine lv_goto (tgt := 19) hx hb dX1_isPossible_55 (by decide) ?_
        have hl : lv_has ls 5 [(0, .ref (ad 0)), (1, .int (nI J)), (2, .int (nI i)), (3, .int (bI (paN (ptN a b m) J i (k + 1)))), (4, .int (nI (k + 1)))] := by exact lv_sub hl [2, 3, 4, 1, 0] rfl
        exact IH_k () _ _ _ hlt_k trivial hP hD hS hl
      · have hpa : paN (ptN a b m) J i (k + 1) = (paN (ptN a b m) J i k ^^ J.testBit k) := by show (_ ^^ _) = _; rw [decide_eq_true (eq_c c_37 (Nat.lt_trans (ptN_lt hab hlt_k) (by omega)) (by omega))]; rfl
        refine lv_iload_n hx hb dX1_isPossible_40 rfl (lv_at hl 1 rfl) ?_
        refine lv_iload hx hb dX1_isPossible_41 (lv_at hl 4 rfl) ?_
        refine lv_ishr hx hb dX1_isPossible_43 ?_
        refine lv_iconst (v := 1) hx hb dX1_isPossible_44 (by decide) ?_
        refine lv_iand hx hb dX1_isPossible_45 ?_
        refine w_top (y := bI (J.testBit k)) (b_bit (by omega) (by omega)) ?_
        refine lv_goto (tgt := 50) hx hb dX1_isPossible_46 (by decide) ?_
        refine lv_ixor hx hb dX1_isPossible_50 ?_
        refine w_top (y := bI (paN (ptN a b m) J i (k + 1))) (by rw [hpa]; exact bI_xor _ _) ?_
        refine lv_istore_n (lv' := [(3, .int (bI (paN (ptN a b m) J i (k + 1)))), (0, .ref (ad 0)), (1, .int (nI J)), (2, .int (nI i)), (4, .int (nI k))]) hx hb dX1_isPossible_51 rfl hl (by decide) rfl (fun ls hl => ?_)
        refine lv_iinc (v := (nI (k + 1))) (lv' := [(4, .int (nI (k + 1))), (3, .int (bI (paN (ptN a b m) J i (k + 1)))), (0, .ref (ad 0)), (1, .int (nI J)), (2, .int (nI i))]) hx hb dX1_isPossible_52 hl (k := 4) rfl (nI_1 k) (by decide) rfl (fun ls hl => ?_)
        refine lv_goto (tgt := 19) hx hb dX1_isPossible_55 (by decide) ?_
        have hl : lv_has ls 5 [(0, .ref (ad 0)), (1, .int (nI J)), (2, .int (nI i)), (3, .int (bI (paN (ptN a b m) J i (k + 1)))), (4, .int (nI (k + 1)))] := by exact lv_sub hl [2, 3, 4, 1, 0] rfl
        exact IH_k () _ _ _ hlt_k trivial hP hD hS hl
set_option maxHeartbeats 4000000 in
set_option maxRecDepth 100000 in
theorem mX1_takeCosts (l : Launch) (D : va_G) (d : ClassId) (ad : Nat → Nat) (E O G C F V S T P : Nat → Int32) (n m w : Nat) (a b : Nat → Nat) (g : Nat → Int) (hR : Rep n m w a b g E O G) : MV_ l yX1_takeCosts (ws_ yX1_takeCosts cX1_takeCosts 2 none) rq0 D d (wX ad d E O G C F V S T P (nI n) (nI m) (nI w)) (fun u : Nat → Int32 => (wX ad d E O G u F V S T P (nI n) (nI m) (nI w))) [.ref (ad 0)] (fun u => ∀ e, e < m → u e = zI (coN g e)) := by
  have hR0 := hR
  obtain ⟨⟨⟨hn2, hn7, hm12, hw7⟩, hok⟩, hE⟩ := hR0
  refine MV_mk (lv := [(0, .ref (ad 0))]) (by decide) (Nat.le_of_ble_eq_true rfl) rfl fun pg en s mm below meth cd A ls hx hb hr hlocks hml hown hts hA hP hK hD hS hl => ?_
  have hown : s.vm.findClass RX1 = some mm.cls := hown
  refine w_start fun H locs hH hL => ?_
  rw [← hH] at hP
  replace hS : va_S A s.heap H locs := by rw [hL, hH]; exact va_S.rf
  refine lv_iconst (v := nI 0) hx hb dX1_takeCosts_0 (by decide) ?_
  refine lv_istore_n (lv' := [(1, .int (nI 0)), (0, .ref (ad 0))]) hx hb dX1_takeCosts_1 rfl hl (by decide) rfl (fun ls hl => ?_)
  refine w_for (σ := Nat → Int32) (m) (fun u => (wX ad d E O G u F V S T P (nI n) (nI m) (nI w))) (fun i u => [(0, .ref (ad 0)), (1, .int (nI i))]) (fun i u => ∀ e, e < i → u e = zI (coN g e)) (fun i hi_i IH_i u H locs ls hI_i hP hD hS hl => ?_) (i0 := 0) (Nat.zero_le _) C (fun j h => absurd h (by omega)) hP hD hS (lv_sub hl [1, 0] rfl)
  obtain ⟨C1, rfl⟩ : ∃ z, z = u := ⟨_, rfl⟩
  have hP : va_P D vwCl (wX ad d E O G C1 F V S T P (nI n) (nI m) (nI w)) H := hP
  have hD : va_D A (wX ad d E O G C1 F V S T P (nI n) (nI m) (nI w)) := hD
  have hl : lv_has ls 2 [(0, .ref (ad 0)), (1, .int (nI i))] := hl
  have hI_i : ∀ e, e < i → C1 e = zI (coN g e) := hI_i
  refine lv_iload_n hx hb dX1_takeCosts_2 rfl (lv_at hl 1 rfl) ?_
  refine lv_aload_n hx hb dX1_takeCosts_3 rfl (lv_at hl 0 rfl) ?_
  refine va_get (D := D) (ci := 0) (v := .int (nI m)) (C := RX1) (T := TX1) (N := 12) hx hb hts in_X1 hown hK hP 0 rfl rfl 10 (by decide) (hts _ q42) (fun _ h9 => h9) rfl dX1_takeCosts_4 ?_
  refine lv_icmp_ge (tgt := 36) hx hb dX1_takeCosts_7 (by decide) (fun c_7 => ?_) (fun c_7 => ?_)
  · have him_i : i = m := by have := le_c c_7; omega
    exact w_vret hx hb hr hlocks C1 (by rw [← him_i]; exact hI_i) hP hK hD hS dX1_takeCosts_36
  · have hlt_i : i < m := nle_c c_7
    obtain ⟨hai, hbi, hg1i, hg2i⟩ := hok i hlt_i
    obtain ⟨hEi, hOi, hGi⟩ := hE i hlt_i
    refine lv_aload_n hx hb dX1_takeCosts_10 rfl (lv_at hl 0 rfl) ?_
    refine va_get (D := D) (ci := 0) (v := .ref (ad 4)) (C := RX1) (T := TX1) (N := 12) hx hb hts in_X1 hown hK hP 0 rfl rfl 3 (by decide) (hts _ q35) (fun _ h9 => h9) rfl dX1_takeCosts_11 ?_
    refine lv_iload_n hx hb dX1_takeCosts_14 rfl (lv_at hl 1 rfl) ?_
    refine lv_sipush (v := zI 4096) hx hb dX1_takeCosts_15 (by decide) ?_
    refine lv_aload_n hx hb dX1_takeCosts_18 rfl (lv_at hl 0 rfl) ?_
    refine va_get (D := D) (ci := 0) (v := .ref (ad 3)) (C := RX1) (T := TX1) (N := 12) hx hb hts in_X1 hown hK hP 0 rfl rfl 2 (by decide) (hts _ q34) (fun _ h9 => h9) rfl dX1_takeCosts_19 ?_
    refine lv_iload_n hx hb dX1_takeCosts_22 rfl (lv_at hl 1 rfl) ?_
    refine w_iald (v := (zI (g i))) hx hb hK hP 3 0 rfl rfl (by omega) (by decide) hGi dX1_takeCosts_23 ?_
    refine lv_imul hx hb dX1_takeCosts_24 ?_
    refine w_top (y := zI (4096 * g i)) (zI_mul _ _) ?_
    refine lv_iconst (v := 1) hx hb dX1_takeCosts_25 (by decide) ?_
    refine lv_iload_n hx hb dX1_takeCosts_26 rfl (lv_at hl 1 rfl) ?_
    refine lv_ishl hx hb dX1_takeCosts_27 ?_
    refine w_top (y := zI ((2 ^ i : Nat) : Int)) (by rw [b_shl1 _ (by omega), zI_nat]) ?_
    refine lv_iadd hx hb dX1_takeCosts_28 ?_
    refine w_top (y := zI (coN g i)) (zI_add _ _) ?_
    refine w_iast hx hb hK hP hD hS 4 0 rfl rfl (by omega) (by decide) dX1_takeCosts_29 (fun H locs hP hD hS => ?_)
    have hP : va_P D vwCl (wX ad d E O G (upd C1 i (zI (coN g i))) F V S T P (nI n) (nI m) (nI w)) H := hP
    have hD : va_D A (wX ad d E O G (upd C1 i (zI (coN g i))) F V S T P (nI n) (nI m) (nI w)) := hD
    refine lv_iinc (v := (nI (i + 1))) (lv' := [(1, .int (nI (i + 1))), (0, .ref (ad 0))]) hx hb dX1_takeCosts_30 hl (k := 1) rfl (nI_1 i) (by decide) rfl (fun ls hl => ?_)
    refine lv_goto (tgt := 2) hx hb dX1_takeCosts_33 (by decide) ?_
    have hl : lv_has ls 2 [(0, .ref (ad 0)), (1, .int (nI (i + 1)))] := by exact lv_sub hl [1, 0] rfl
    exact IH_i (upd C1 i (zI (coN g i))) _ _ _ hlt_i (upd_lt (h := fun e => zI (coN g e)) hI_i) hP hD hS hl
end
section
set_option maxHeartbeats 4000000 in
set_option maxRecDepth 100000 in
theorem mX1_take (l : Launch) (D : va_G) (d : ClassId) (ad : Nat → Nat) (E O G C F V S T P : Nat → Int32) (n m w : Nat) (a b : Nat → Nat) (g : Nat → Int) (hR : Rep n m w a b g E O G) (z : FV) (hz : RepF 49 z F V) (k len rr : Nat) (hk : k < 49) (hlen : len < 2 ^ 31) : MV_ l yX1_take (ws_ yX1_take cX1_take 4 none) rq0 D d (wX ad d E O G C F V S T P (nI n) (nI m) (nI w)) (fun u : (Nat → Int32) × (Nat → Int32) => (wX ad d E O G C u.1 u.2 S T P (nI n) (nI m) (nI w))) [.ref (ad 0), .int (nI k), .int (nI len), .int (nI rr)] (fun u => RepF 49 (tkN z k len rr) u.1 u.2) := by
  have hR0 := hR
  obtain ⟨⟨⟨hn2, hn7, hm12, hw7⟩, hok⟩, hE⟩ := hR0
  refine MV_mk (lv := [(0, .ref (ad 0)), (1, .int (nI k)), (2, .int (nI len)), (3, .int (nI rr))]) (by decide) (Nat.le_of_ble_eq_true rfl) rfl fun pg en s mm below meth cd A ls hx hb hr hlocks hml hown hts hA hP hK hD hS hl => ?_
  have hown : s.vm.findClass RX1 = some mm.cls := hown
  refine w_start fun H locs hH hL => ?_
  rw [← hH] at hP
  replace hS : va_S A s.heap H locs := by rw [hL, hH]; exact va_S.rf
  refine lv_iload_n hx hb dX1_take_0 rfl (lv_at hl 2 rfl) ?_
  refine lv_aload_n hx hb dX1_take_1 rfl (lv_at hl 0 rfl) ?_
  refine va_get (D := D) (ci := 0) (v := .ref (ad 5)) (C := RX1) (T := TX1) (N := 12) hx hb hts in_X1 hown hK hP 0 rfl rfl 4 (by decide) (hts _ q36) (fun _ h9 => h9) rfl dX1_take_2 ?_
  refine lv_iload_n hx hb dX1_take_5 rfl (lv_at hl 1 rfl) ?_
  refine w_iald (v := (nI (z.1 k))) hx hb hK hP 5 0 rfl rfl (by omega) (by decide) (hz k hk).1 dX1_take_6 ?_
  refine lv_icmp_ge (tgt := 24) hx hb dX1_take_7 (by decide) (fun c_7 => ?_) (fun c_7 => ?_)
  · have hno : ¬ len < z.1 k := Nat.not_lt.mpr (le_c c_7 (by have := (hz k hk).2.2; omega))
    exact w_vret hx hb hr hlocks (F, V) (by rw [tkN_no hno]; exact hz) hP hK hD hS dX1_take_24
  · have hyes : len < z.1 k := nle_c c_7 (by have := (hz k hk).2.2; omega)
    refine lv_aload_n hx hb dX1_take_10 rfl (lv_at hl 0 rfl) ?_
    refine va_get (D := D) (ci := 0) (v := .ref (ad 5)) (C := RX1) (T := TX1) (N := 12) hx hb hts in_X1 hown hK hP 0 rfl rfl 4 (by decide) (hts _ q36) (fun _ h9 => h9) rfl dX1_take_11 ?_
    refine lv_iload_n hx hb dX1_take_14 rfl (lv_at hl 1 rfl) ?_
    refine lv_iload_n hx hb dX1_take_15 rfl (lv_at hl 2 rfl) ?_
    refine w_iast hx hb hK hP hD hS 5 0 rfl rfl (by omega) (by decide) dX1_take_16 (fun H locs hP hD hS => ?_)
    have hP : va_P D vwCl (wX ad d E O G C (upd F k (nI len)) V S T P (nI n) (nI m) (nI w)) H := hP
    have hD : va_D A (wX ad d E O G C (upd F k (nI len)) V S T P (nI n) (nI m) (nI w)) := hD
    refine lv_aload_n hx hb dX1_take_17 rfl (lv_at hl 0 rfl) ?_
    refine va_get (D := D) (ci := 0) (v := .ref (ad 6)) (C := RX1) (T := TX1) (N := 12) hx hb hts in_X1 hown hK hP 0 rfl rfl 5 (by decide) (hts _ q37) (fun _ h9 => h9) rfl dX1_take_18 ?_
    refine lv_iload_n hx hb dX1_take_21 rfl (lv_at hl 1 rfl) ?_
    refine lv_iload_n hx hb dX1_take_22 rfl (lv_at hl 3 rfl) ?_
    refine w_iast hx hb hK hP hD hS 6 0 rfl rfl (by omega) (by decide) dX1_take_23 (fun H locs hP hD hS => ?_)
    have hP : va_P D vwCl (wX ad d E O G C (upd F k (nI len)) (upd V k (nI rr)) S T P (nI n) (nI m) (nI w)) H := hP
    have hD : va_D A (wX ad d E O G C (upd F k (nI len)) (upd V k (nI rr)) S T P (nI n) (nI m) (nI w)) := hD
    exact w_vret hx hb hr hlocks (upd F k (nI len), upd V k (nI rr)) (repF_tk hz hk hyes) hP hK hD hS dX1_take_24
set_option maxHeartbeats 4000000 in
set_option maxRecDepth 100000 in
theorem mX1_findWays (l : Launch) (D : va_G) (d : ClassId) (ad : Nat → Nat) (E O G C F V S T P : Nat → Int32) (n m w : Nat) (a b : Nat → Nat) (g : Nat → Int) (hR : Rep n m w a b g E O G) (c : Nat → Int) (hc : RepC m c C) : MV_ l yX1_findWays (ws_ yX1_findWays cX1_findWays 5 none) rq1 D d (wX ad d E O G C F V S T P (nI n) (nI m) (nI w)) (fun u : (Nat → Int32) × (Nat → Int32) => (wX ad d E O G C u.1 u.2 S T P (nI n) (nI m) (nI w))) [.ref (ad 0)] (fun u => RepF 49 (fwN a b c n m) u.1 u.2) := by
  have hR0 := hR
  obtain ⟨⟨⟨hn2, hn7, hm12, hw7⟩, hok⟩, hE⟩ := hR0
  refine MV_mk (lv := [(0, .ref (ad 0))]) (by decide) (Nat.le_of_ble_eq_true rfl) rfl fun pg en s mm below meth cd A ls hx hb hr hlocks hml hown hts hA hP hK hD hS hl => ?_
  have hown : s.vm.findClass RX1 = some mm.cls := hown
  refine w_start fun H locs hH hL => ?_
  rw [← hH] at hP
  replace hS : va_S A s.heap H locs := by rw [hL, hH]; exact va_S.rf
  refine lv_iconst (v := nI 0) hx hb dX1_findWays_0 (by decide) ?_
  refine lv_istore_n (lv' := [(1, .int (nI 0)), (0, .ref (ad 0))]) hx hb dX1_findWays_1 rfl hl (by decide) rfl (fun ls hl => ?_)
  refine w_for (σ := (Nat → Int32) × (Nat → Int32)) (49) (fun u => (wX ad d E O G C u.1 u.2 S T P (nI n) (nI m) (nI w))) (fun i u => [(0, .ref (ad 0)), (1, .int (nI i))]) (fun i u => ∀ j, j < i → u.1 j = nI (f0N.1 j) ∧ u.2 j = nI (f0N.2 j)) (fun i hi_i IH_i u H locs ls hI_i hP hD hS hl => ?_) (i0 := 0) (Nat.zero_le _) (F, V) (fun j h => absurd h (by omega)) hP hD hS (lv_sub hl [1, 0] rfl)
  obtain ⟨F2, V2⟩ := u
  have hP : va_P D vwCl (wX ad d E O G C F2 V2 S T P (nI n) (nI m) (nI w)) H := hP
  have hD : va_D A (wX ad d E O G C F2 V2 S T P (nI n) (nI m) (nI w)) := hD
  have hl : lv_has ls 5 [(0, .ref (ad 0)), (1, .int (nI i))] := hl
  have hI_i : ∀ j, j < i → F2 j = nI (f0N.1 j) ∧ V2 j = nI (f0N.2 j) := hI_i
  refine lv_iload_n hx hb dX1_findWays_2 rfl (lv_at hl 1 rfl) ?_
  refine lv_bipush (v := nI 49) hx hb dX1_findWays_3 (by decide) ?_
  refine lv_icmp_ge (tgt := 44) hx hb dX1_findWays_5 (by decide) (fun c_5 => ?_) (fun c_5 => ?_)
  · have him_i : i = 49 := by have := le_c c_5; omega
    refine lv_iconst (v := nI 0) hx hb dX1_findWays_44 (by decide) ?_
    refine lv_istore_n (lv' := [(1, .int (nI 0)), (0, .ref (ad 0))]) hx hb dX1_findWays_45 rfl hl (by decide) rfl (fun ls hl => ?_)
    refine w_for (σ := (Nat → Int32) × (Nat → Int32)) (m) (fun u => (wX ad d E O G C u.1 u.2 S T P (nI n) (nI m) (nI w))) (fun i u => [(0, .ref (ad 0)), (1, .int (nI i))]) (fun i u => RepF 49 (feN a b c i) u.1 u.2) (fun i hi_i IH_i u H locs ls hI_i hP hD hS hl => ?_) (i0 := 0) (Nat.zero_le _) (F2, V2) (repF_0 (by rw [← him_i]; exact hI_i)) hP hD hS (lv_sub hl [1, 0] rfl)
    obtain ⟨F3, V3⟩ := u
    have hP : va_P D vwCl (wX ad d E O G C F3 V3 S T P (nI n) (nI m) (nI w)) H := hP
    have hD : va_D A (wX ad d E O G C F3 V3 S T P (nI n) (nI m) (nI w)) := hD
    have hl : lv_has ls 5 [(0, .ref (ad 0)), (1, .int (nI i))] := hl
    have hI_i : RepF 49 (feN a b c i) F3 V3 := hI_i
    refine lv_iload_n hx hb dX1_findWays_46 rfl (lv_at hl 1 rfl) ?_
    refine lv_aload_n hx hb dX1_findWays_47 rfl (lv_at hl 0 rfl) ?_
    refine va_get (D := D) (ci := 0) (v := .int (nI m)) (C := RX1) (T := TX1) (N := 12) hx hb hts in_X1 hown hK hP 0 rfl rfl 10 (by decide) (hts _ q42) (fun _ h9 => h9) rfl dX1_findWays_48 ?_
    refine lv_icmp_ge (tgt := 134) hx hb dX1_findWays_51 (by decide) (fun c_51 => ?_) (fun c_51 => ?_)
    · have him_i : i = m := by have := le_c c_51; omega
      refine lv_iconst (v := nI 0) hx hb dX1_findWays_134 (by decide) ?_
      refine lv_istore_n (lv' := [(1, .int (nI 0)), (0, .ref (ad 0))]) hx hb dX1_findWays_135 rfl hl (by decide) rfl (fun ls hl => ?_)
      refine w_for (σ := (Nat → Int32) × (Nat → Int32)) (n) (fun u => (wX ad d E O G C u.1 u.2 S T P (nI n) (nI m) (nI w))) (fun i u => [(0, .ref (ad 0)), (1, .int (nI i))]) (fun i u => RepF 49 (foN (feN a b c m) i) u.1 u.2) (fun i hi_i IH_i u H locs ls hI_i hP hD hS hl => ?_) (i0 := 0) (Nat.zero_le _) (F3, V3) (by rw [← him_i]; exact hI_i) hP hD hS (lv_sub hl [1, 0] rfl)
      obtain ⟨F6, V6⟩ := u
      have hP : va_P D vwCl (wX ad d E O G C F6 V6 S T P (nI n) (nI m) (nI w)) H := hP
      have hD : va_D A (wX ad d E O G C F6 V6 S T P (nI n) (nI m) (nI w)) := hD
      have hl : lv_has ls 5 [(0, .ref (ad 0)), (1, .int (nI i))] := hl
      have hI_i : RepF 49 (foN (feN a b c m) i) F6 V6 := hI_i
      refine lv_iload_n hx hb dX1_findWays_136 rfl (lv_at hl 1 rfl) ?_
      refine lv_aload_n hx hb dX1_findWays_137 rfl (lv_at hl 0 rfl) ?_
      refine va_get (D := D) (ci := 0) (v := .int (nI n)) (C := RX1) (T := TX1) (N := 12) hx hb hts in_X1 hown hK hP 0 rfl rfl 9 (by decide) (hts _ q41) (fun _ h9 => h9) rfl dX1_findWays_138 ?_
      refine lv_icmp_ge (tgt := 218) hx hb dX1_findWays_141 (by decide) (fun c_141 => ?_) (fun c_141 => ?_)
      · have him_i : i = n := by have := le_c c_141; omega
        exact w_vret hx hb hr hlocks (F6, V6) (by rw [him_i] at hI_i; exact hI_i) hP hK hD hS dX1_findWays_218
      · have hlt_i : i < n := nle_c c_141
        refine lv_iconst (v := nI 0) hx hb dX1_findWays_144 (by decide) ?_
        refine lv_istore_n (lv' := [(2, .int (nI 0)), (0, .ref (ad 0)), (1, .int (nI i))]) hx hb dX1_findWays_145 rfl hl (by decide) rfl (fun ls hl => ?_)
        refine w_for (σ := (Nat → Int32) × (Nat → Int32)) (49) (fun u => (wX ad d E O G C u.1 u.2 S T P (nI n) (nI m) (nI w))) (fun k u => [(0, .ref (ad 0)), (1, .int (nI i)), (2, .int (nI k))]) (fun k u => RepF 49 (fkN (foN (feN a b c m) i) i k) u.1 u.2) (fun k hi_k IH_k u H locs ls hI_k hP hD hS hl => ?_) (i0 := 0) (Nat.zero_le _) (F6, V6) hI_i hP hD hS (lv_sub hl [1, 2, 0] rfl)
        obtain ⟨F7, V7⟩ := u
        have hP : va_P D vwCl (wX ad d E O G C F7 V7 S T P (nI n) (nI m) (nI w)) H := hP
        have hD : va_D A (wX ad d E O G C F7 V7 S T P (nI n) (nI m) (nI w)) := hD
        have hl : lv_has ls 5 [(0, .ref (ad 0)), (1, .int (nI i)), (2, .int (nI k))] := hl
        have hI_k : RepF 49 (fkN (foN (feN a b c m) i) i k) F7 V7 := hI_k
        refine lv_iload_n hx hb dX1_findWays_146 rfl (lv_at hl 2 rfl) ?_
        refine lv_bipush (v := nI 49) hx hb dX1_findWays_147 (by decide) ?_
        refine lv_icmp_ge (tgt := 212) hx hb dX1_findWays_149 (by decide) (fun c_149 => ?_) (fun c_149 => ?_)
        · have him_k : k = 49 := by have := le_c c_149; omega
          refine lv_iinc (v := (nI (i + 1))) (lv' := [(1, .int (nI (i + 1))), (0, .ref (ad 0)), (2, .int (nI k))]) hx hb dX1_findWays_212 hl (k := 1) rfl (nI_1 i) (by decide) rfl (fun ls hl => ?_)
          refine lv_goto (tgt := 136) hx hb dX1_findWays_215 (by decide) ?_
          have hl : lv_has ls 5 [(0, .ref (ad 0)), (1, .int (nI (i + 1)))] := by exact lv_sub hl [1, 0] rfl
          exact IH_i (F7, V7) _ _ _ hlt_i (by rw [him_k] at hI_k; exact hI_k) hP hD hS hl
        · have hlt_k : k < 49 := nle_c c_149
          have hk1 : 7 * (k / 7) + i < 49 := by omega
          have hk2 : 7 * i + k % 7 < 49 := by omega
          obtain ⟨hF1, hV1, hb1⟩ := hI_k _ hk1
          obtain ⟨hF2, hV2, hb2⟩ := hI_k _ hk2
          refine lv_bipush (v := nI 7) hx hb dX1_findWays_152 (by decide) ?_
          refine lv_iload_n hx hb dX1_findWays_154 rfl (lv_at hl 2 rfl) ?_
          refine lv_bipush (v := nI 7) hx hb dX1_findWays_155 (by decide) ?_
          refine lv_idiv hx hb dX1_findWays_157 (by decide) ?_
          refine w_top (y := nI (k / 7)) (pk_div (by omega) (by decide) (by decide)) ?_
          refine lv_imul hx hb dX1_findWays_158 ?_
          refine w_top (y := nI (7 * (k / 7))) (pk_mul _ _) ?_
          refine lv_iload_n hx hb dX1_findWays_159 rfl (lv_at hl 1 rfl) ?_
          refine lv_iadd hx hb dX1_findWays_160 ?_
          refine w_top (y := nI (7 * (k / 7) + i)) (nI_add _ _) ?_
          refine lv_istore_n (lv' := [(3, .int (nI (7 * (k / 7) + i))), (0, .ref (ad 0)), (1, .int (nI i)), (2, .int (nI k))]) hx hb dX1_findWays_161 rfl hl (by decide) rfl (fun ls hl => ?_)
          refine lv_bipush (v := nI 7) hx hb dX1_findWays_162 (by decide) ?_
          refine lv_iload_n hx hb dX1_findWays_164 rfl (lv_at hl 2 rfl) ?_
          refine lv_imul hx hb dX1_findWays_165 ?_
          refine w_top (y := nI (7 * i)) (pk_mul _ _) ?_
          refine lv_iload_n hx hb dX1_findWays_166 rfl (lv_at hl 3 rfl) ?_
          refine lv_bipush (v := nI 7) hx hb dX1_findWays_167 (by decide) ?_
          refine lv_irem hx hb dX1_findWays_169 (by decide) ?_
          refine w_top (y := nI (k % 7)) (pk_rem (by omega) (by decide) (by decide)) ?_
          refine lv_iadd hx hb dX1_findWays_170 ?_
          refine w_top (y := nI (7 * i + k % 7)) (nI_add _ _) ?_
          refine lv_istore (lv' := [(4, .int (nI (7 * i + k % 7))), (3, .int (nI (7 * (k / 7) + i))), (0, .ref (ad 0)), (1, .int (nI i)), (2, .int (nI k))]) hx hb dX1_findWays_171 hl (by decide) rfl (fun ls hl => ?_)
          refine lv_aload_n hx hb dX1_findWays_173 rfl (lv_at hl 2 rfl) ?_
          refine lv_iload_n hx hb dX1_findWays_174 rfl (lv_at hl 4 rfl) ?_
          refine lv_aload_n hx hb dX1_findWays_175 rfl (lv_at hl 2 rfl) ?_
          refine va_get (D := D) (ci := 0) (v := .ref (ad 5)) (C := RX1) (T := TX1) (N := 12) hx hb hts in_X1 hown hK hP 0 rfl rfl 4 (by decide) (hts _ q36) (fun _ h9 => h9) rfl dX1_findWays_176 ?_
          refine lv_iload_n hx hb dX1_findWays_179 rfl (lv_at hl 1 rfl) ?_
          refine w_iald (v := (nI ((fkN (foN (feN a b c m) i) i k).1 (7 * (k / 7) + i)))) hx hb hK hP 5 0 rfl rfl hk1 (by decide) hF1 dX1_findWays_180 ?_
          refine lv_aload_n hx hb dX1_findWays_181 rfl (lv_at hl 2 rfl) ?_
          refine va_get (D := D) (ci := 0) (v := .ref (ad 5)) (C := RX1) (T := TX1) (N := 12) hx hb hts in_X1 hown hK hP 0 rfl rfl 4 (by decide) (hts _ q36) (fun _ h9 => h9) rfl dX1_findWays_182 ?_
          refine lv_iload hx hb dX1_findWays_185 (lv_at hl 0 rfl) ?_
          refine w_iald (v := (nI ((fkN (foN (feN a b c m) i) i k).1 (7 * i + k % 7)))) hx hb hK hP 5 0 rfl rfl hk2 (by decide) hF2 dX1_findWays_187 ?_
          refine lv_iadd hx hb dX1_findWays_188 ?_
          refine w_top (y := nI ((fkN (foN (feN a b c m) i) i k).1 (7 * (k / 7) + i) + (fkN (foN (feN a b c m) i) i k).1 (7 * i + k % 7))) (nI_add _ _) ?_
          refine lv_aload_n hx hb dX1_findWays_189 rfl (lv_at hl 2 rfl) ?_
          refine va_get (D := D) (ci := 0) (v := .ref (ad 6)) (C := RX1) (T := TX1) (N := 12) hx hb hts in_X1 hown hK hP 0 rfl rfl 5 (by decide) (hts _ q37) (fun _ h9 => h9) rfl dX1_findWays_190 ?_
          refine lv_iload_n hx hb dX1_findWays_193 rfl (lv_at hl 1 rfl) ?_
          refine w_iald (v := (nI ((fkN (foN (feN a b c m) i) i k).2 (7 * (k / 7) + i)))) hx hb hK hP 6 0 rfl rfl hk1 (by decide) hV1 dX1_findWays_194 ?_
          refine lv_aload_n hx hb dX1_findWays_195 rfl (lv_at hl 2 rfl) ?_
          refine va_get (D := D) (ci := 0) (v := .ref (ad 6)) (C := RX1) (T := TX1) (N := 12) hx hb hts in_X1 hown hK hP 0 rfl rfl 5 (by decide) (hts _ q37) (fun _ h9 => h9) rfl dX1_findWays_196 ?_
          refine lv_iload hx hb dX1_findWays_199 (lv_at hl 0 rfl) ?_
          refine w_iald (v := (nI ((fkN (foN (feN a b c m) i) i k).2 (7 * i + k % 7)))) hx hb hK hP 6 0 rfl rfl hk2 (by decide) hV2 dX1_findWays_201 ?_
          refine lv_ixor hx hb dX1_findWays_202 ?_
          refine w_top (y := nI ((fkN (foN (feN a b c m) i) i k).2 (7 * (k / 7) + i) ^^^ (fkN (foN (feN a b c m) i) i k).2 (7 * i + k % 7))) (nx_xor _ _) ?_
          refine w_xv (As := [.int (nI k), .int (nI ((fkN (foN (feN a b c m) i) i k).1 (7 * (k / 7) + i) + (fkN (foN (feN a b c m) i) i k).1 (7 * i + k % 7))), .int (nI ((fkN (foN (feN a b c m) i) i k).2 (7 * (k / 7) + i) ^^^ (fkN (foN (feN a b c m) i) i k).2 (7 * i + k % 7)))]) (rest := []) ⟨hx, hb, hml, hown, hts⟩ (mX1_take l D d ad E O G C F7 V7 S T P n m w a b g hR (fkN (foN (feN a b c m) i) i k) hI_k (k) ((fkN (foN (feN a b c m) i) i k).1 (7 * (k / 7) + i) + (fkN (foN (feN a b c m) i) i k).1 (7 * i + k % 7)) ((fkN (foN (feN a b c m) i) i k).2 (7 * (k / 7) + i) ^^^ (fkN (foN (feN a b c m) i) i k).2 (7 * i + k % 7)) hlt_k (by omega)) (cwV 3 hts (lw_V q147 q149 qs9 q22 q150) rfl rfl rfl (by decide +kernel) ⟨Nat.le_of_ble_eq_true rfl, Nat.le_of_ble_eq_true rfl⟩) hP hK hD hS hA rfl hl.1 rfl (Nat.le_of_ble_eq_true rfl) dX1_findWays_203 (fun u8 H locs hw8 hP hD hS => ?_)
          obtain ⟨F8, V8⟩ := u8
          have hP : va_P D vwCl (wX ad d E O G C F8 V8 S T P (nI n) (nI m) (nI w)) H := hP
          have hD : va_D A (wX ad d E O G C F8 V8 S T P (nI n) (nI m) (nI w)) := hD
          refine lv_iinc (v := (nI (k + 1))) (lv' := [(2, .int (nI (k + 1))), (4, .int (nI (7 * i + k % 7))), (3, .int (nI (7 * (k / 7) + i))), (0, .ref (ad 0)), (1, .int (nI i))]) hx hb dX1_findWays_206 hl (k := 4) rfl (nI_1 k) (by decide) rfl (fun ls hl => ?_)
          refine lv_goto (tgt := 146) hx hb dX1_findWays_209 (by decide) ?_
          have hl : lv_has ls 5 [(0, .ref (ad 0)), (1, .int (nI i)), (2, .int (nI (k + 1)))] := by exact lv_sub hl [3, 4, 0] rfl
          exact IH_k (F8, V8) _ _ _ hlt_k hw8 hP hD hS hl
    · have hlt_i : i < m := nle_c c_51
      obtain ⟨hai, hbi, hg1i, hg2i⟩ := hok i hlt_i
      obtain ⟨hEi, hOi, hGi⟩ := hE i hlt_i
      obtain ⟨hCi, hcb⟩ := hc i hlt_i
      refine lv_aload_n hx hb dX1_findWays_54 rfl (lv_at hl 0 rfl) ?_
      refine va_get (D := D) (ci := 0) (v := .ref (ad 4)) (C := RX1) (T := TX1) (N := 12) hx hb hts in_X1 hown hK hP 0 rfl rfl 3 (by decide) (hts _ q35) (fun _ h9 => h9) rfl dX1_findWays_55 ?_
      refine lv_iload_n hx hb dX1_findWays_58 rfl (lv_at hl 1 rfl) ?_
      refine w_iald (v := (zI (c i))) hx hb hK hP 4 0 rfl rfl (by omega) (by decide) hCi dX1_findWays_59 ?_
      refine lv_if_ge (tgt := 73) hx hb dX1_findWays_60 (by decide) (fun c_60 => ?_) (fun c_60 => ?_)
      · have hge := (zI_ge0 ⟨by omega, by omega⟩).mp c_60
        have hna : (((c i).natAbs : Nat) : Int) = c i := by omega
        refine lv_aload_n hx hb dX1_findWays_73 rfl (lv_at hl 0 rfl) ?_
        refine va_get (D := D) (ci := 0) (v := .ref (ad 4)) (C := RX1) (T := TX1) (N := 12) hx hb hts in_X1 hown hK hP 0 rfl rfl 3 (by decide) (hts _ q35) (fun _ h9 => h9) rfl dX1_findWays_74 ?_
        refine lv_iload_n hx hb dX1_findWays_77 rfl (lv_at hl 1 rfl) ?_
        refine w_iald (v := (zI (c i))) hx hb hK hP 4 0 rfl rfl (by omega) (by decide) hCi dX1_findWays_78 ?_
        refine w_top (y := nI (c i).natAbs) (by rw [zI_nat, hna]) ?_
        refine lv_istore_n (lv' := [(2, .int (nI (c i).natAbs)), (0, .ref (ad 0)), (1, .int (nI i))]) hx hb dX1_findWays_79 rfl hl (by decide) rfl (fun ls hl => ?_)
        refine lv_aload_n hx hb dX1_findWays_80 rfl (lv_at hl 1 rfl) ?_
        refine lv_bipush (v := nI 7) hx hb dX1_findWays_81 (by decide) ?_
        refine lv_aload_n hx hb dX1_findWays_83 rfl (lv_at hl 1 rfl) ?_
        refine va_get (D := D) (ci := 0) (v := .ref (ad 1)) (C := RX1) (T := TX1) (N := 12) hx hb hts in_X1 hown hK hP 0 rfl rfl 0 (by decide) (hts _ q32) (fun _ h9 => h9) rfl dX1_findWays_84 ?_
        refine lv_iload_n hx hb dX1_findWays_87 rfl (lv_at hl 2 rfl) ?_
        refine w_iald (v := (nI (a i))) hx hb hK hP 1 0 rfl rfl (by omega) (by decide) hEi dX1_findWays_88 ?_
        refine lv_imul hx hb dX1_findWays_89 ?_
        refine w_top (y := nI (7 * a i)) (pk_mul _ _) ?_
        refine lv_aload_n hx hb dX1_findWays_90 rfl (lv_at hl 1 rfl) ?_
        refine va_get (D := D) (ci := 0) (v := .ref (ad 2)) (C := RX1) (T := TX1) (N := 12) hx hb hts in_X1 hown hK hP 0 rfl rfl 1 (by decide) (hts _ q33) (fun _ h9 => h9) rfl dX1_findWays_91 ?_
        refine lv_iload_n hx hb dX1_findWays_94 rfl (lv_at hl 2 rfl) ?_
        refine w_iald (v := (nI (b i))) hx hb hK hP 2 0 rfl rfl (by omega) (by decide) hOi dX1_findWays_95 ?_
        refine lv_iadd hx hb dX1_findWays_96 ?_
        refine w_top (y := nI (7 * a i + b i)) (nI_add _ _) ?_
        refine lv_iload_n hx hb dX1_findWays_97 rfl (lv_at hl 0 rfl) ?_
        refine lv_iconst (v := 1) hx hb dX1_findWays_98 (by decide) ?_
        refine lv_iload_n hx hb dX1_findWays_99 rfl (lv_at hl 2 rfl) ?_
        refine lv_ishl hx hb dX1_findWays_100 ?_
        refine w_top (y := nI (2 ^ i)) (b_shl1 _ (by omega)) ?_
        refine w_xv (As := [.int (nI (7 * a i + b i)), .int (nI (c i).natAbs), .int (nI (2 ^ i))]) (rest := []) ⟨hx, hb, hml, hown, hts⟩ (mX1_take l D d ad E O G C F3 V3 S T P n m w a b g hR (feN a b c i) hI_i (7 * a i + b i) ((c i).natAbs) (2 ^ i) (by omega) (by omega)) (cwV 3 hts (lw_V q147 q149 qs9 q22 q150) rfl rfl rfl (by decide +kernel) ⟨Nat.le_of_ble_eq_true rfl, Nat.le_of_ble_eq_true rfl⟩) hP hK hD hS hA rfl hl.1 rfl (Nat.le_of_ble_eq_true rfl) dX1_findWays_101 (fun u4 H locs hw4 hP hD hS => ?_)
        obtain ⟨F4, V4⟩ := u4
        have hP : va_P D vwCl (wX ad d E O G C F4 V4 S T P (nI n) (nI m) (nI w)) H := hP
        have hD : va_D A (wX ad d E O G C F4 V4 S T P (nI n) (nI m) (nI w)) := hD
        refine lv_aload_n hx hb dX1_findWays_104 rfl (lv_at hl 1 rfl) ?_
        refine lv_bipush (v := nI 7) hx hb dX1_findWays_105 (by decide) ?_
        refine lv_aload_n hx hb dX1_findWays_107 rfl (lv_at hl 1 rfl) ?_
        refine va_get (D := D) (ci := 0) (v := .ref (ad 2)) (C := RX1) (T := TX1) (N := 12) hx hb hts in_X1 hown hK hP 0 rfl rfl 1 (by decide) (hts _ q33) (fun _ h9 => h9) rfl dX1_findWays_108 ?_
        refine lv_iload_n hx hb dX1_findWays_111 rfl (lv_at hl 2 rfl) ?_
        refine w_iald (v := (nI (b i))) hx hb hK hP 2 0 rfl rfl (by omega) (by decide) hOi dX1_findWays_112 ?_
        refine lv_imul hx hb dX1_findWays_113 ?_
        refine w_top (y := nI (7 * b i)) (pk_mul _ _) ?_
        refine lv_aload_n hx hb dX1_findWays_114 rfl (lv_at hl 1 rfl) ?_
        refine va_get (D := D) (ci := 0) (v := .ref (ad 1)) (C := RX1) (T := TX1) (N := 12) hx hb hts in_X1 hown hK hP 0 rfl rfl 0 (by decide) (hts _ q32) (fun _ h9 => h9) rfl dX1_findWays_115 ?_
        refine lv_iload_n hx hb dX1_findWays_118 rfl (lv_at hl 2 rfl) ?_
        refine w_iald (v := (nI (a i))) hx hb hK hP 1 0 rfl rfl (by omega) (by decide) hEi dX1_findWays_119 ?_
        refine lv_iadd hx hb dX1_findWays_120 ?_
        refine w_top (y := nI (7 * b i + a i)) (nI_add _ _) ?_
        refine lv_iload_n hx hb dX1_findWays_121 rfl (lv_at hl 0 rfl) ?_
        refine lv_iconst (v := 1) hx hb dX1_findWays_122 (by decide) ?_
        refine lv_iload_n hx hb dX1_findWays_123 rfl (lv_at hl 2 rfl) ?_
        refine lv_ishl hx hb dX1_findWays_124 ?_
        refine w_top (y := nI (2 ^ i)) (b_shl1 _ (by omega)) ?_
        refine w_xv (As := [.int (nI (7 * b i + a i)), .int (nI (c i).natAbs), .int (nI (2 ^ i))]) (rest := []) ⟨hx, hb, hml, hown, hts⟩ (mX1_take l D d ad E O G C F4 V4 S T P n m w a b g hR (tkN (feN a b c i) (7 * a i + b i) (c i).natAbs (2 ^ i)) hw4 (7 * b i + a i) ((c i).natAbs) (2 ^ i) (by omega) (by omega)) (cwV 3 hts (lw_V q147 q149 qs9 q22 q150) rfl rfl rfl (by decide +kernel) ⟨Nat.le_of_ble_eq_true rfl, Nat.le_of_ble_eq_true rfl⟩) hP hK hD hS hA rfl hl.1 rfl (Nat.le_of_ble_eq_true rfl) dX1_findWays_125 (fun u5 H locs hw5 hP hD hS => ?_)
        obtain ⟨F5, V5⟩ := u5
        have hP : va_P D vwCl (wX ad d E O G C F5 V5 S T P (nI n) (nI m) (nI w)) H := hP
        have hD : va_D A (wX ad d E O G C F5 V5 S T P (nI n) (nI m) (nI w)) := hD
        refine lv_iinc (v := (nI (i + 1))) (lv' := [(1, .int (nI (i + 1))), (2, .int (nI (c i).natAbs)), (0, .ref (ad 0))]) hx hb dX1_findWays_128 hl (k := 2) rfl (nI_1 i) (by decide) rfl (fun ls hl => ?_)
        refine lv_goto (tgt := 46) hx hb dX1_findWays_131 (by decide) ?_
        have hl : lv_has ls 5 [(0, .ref (ad 0)), (1, .int (nI (i + 1)))] := by exact lv_sub hl [2, 0] rfl
        exact IH_i (F5, V5) _ _ _ hlt_i hw5 hP hD hS hl
      · have hge : c i < 0 := Int.lt_of_not_ge (fun h => c_60 ((zI_ge0 ⟨by omega, by omega⟩).mpr h))
        have hna : (((c i).natAbs : Nat) : Int) = -c i := by omega
        refine lv_aload_n hx hb dX1_findWays_63 rfl (lv_at hl 0 rfl) ?_
        refine va_get (D := D) (ci := 0) (v := .ref (ad 4)) (C := RX1) (T := TX1) (N := 12) hx hb hts in_X1 hown hK hP 0 rfl rfl 3 (by decide) (hts _ q35) (fun _ h9 => h9) rfl dX1_findWays_64 ?_
        refine lv_iload_n hx hb dX1_findWays_67 rfl (lv_at hl 1 rfl) ?_
        refine w_iald (v := (zI (c i))) hx hb hK hP 4 0 rfl rfl (by omega) (by decide) hCi dX1_findWays_68 ?_
        refine lv_ineg hx hb dX1_findWays_69 ?_
        refine w_top (y := nI (c i).natAbs) (by rw [zI_neg, zI_nat, hna]) ?_
        refine lv_goto (tgt := 79) hx hb dX1_findWays_70 (by decide) ?_
        refine lv_istore_n (lv' := [(2, .int (nI (c i).natAbs)), (0, .ref (ad 0)), (1, .int (nI i))]) hx hb dX1_findWays_79 rfl hl (by decide) rfl (fun ls hl => ?_)
        refine lv_aload_n hx hb dX1_findWays_80 rfl (lv_at hl 1 rfl) ?_
        refine lv_bipush (v := nI 7) hx hb dX1_findWays_81 (by decide) ?_
        refine lv_aload_n hx hb dX1_findWays_83 rfl (lv_at hl 1 rfl) ?_
        refine va_get (D := D) (ci := 0) (v := .ref (ad 1)) (C := RX1) (T := TX1) (N := 12) hx hb hts in_X1 hown hK hP 0 rfl rfl 0 (by decide) (hts _ q32) (fun _ h9 => h9) rfl dX1_findWays_84 ?_
        refine lv_iload_n hx hb dX1_findWays_87 rfl (lv_at hl 2 rfl) ?_
        refine w_iald (v := (nI (a i))) hx hb hK hP 1 0 rfl rfl (by omega) (by decide) hEi dX1_findWays_88 ?_
        refine lv_imul hx hb dX1_findWays_89 ?_
        refine w_top (y := nI (7 * a i)) (pk_mul _ _) ?_
        refine lv_aload_n hx hb dX1_findWays_90 rfl (lv_at hl 1 rfl) ?_
        refine va_get (D := D) (ci := 0) (v := .ref (ad 2)) (C := RX1) (T := TX1) (N := 12) hx hb hts in_X1 hown hK hP 0 rfl rfl 1 (by decide) (hts _ q33) (fun _ h9 => h9) rfl dX1_findWays_91 ?_
        refine lv_iload_n hx hb dX1_findWays_94 rfl (lv_at hl 2 rfl) ?_
        refine w_iald (v := (nI (b i))) hx hb hK hP 2 0 rfl rfl (by omega) (by decide) hOi dX1_findWays_95 ?_
        refine lv_iadd hx hb dX1_findWays_96 ?_
        refine w_top (y := nI (7 * a i + b i)) (nI_add _ _) ?_
        refine lv_iload_n hx hb dX1_findWays_97 rfl (lv_at hl 0 rfl) ?_
        refine lv_iconst (v := 1) hx hb dX1_findWays_98 (by decide) ?_
        refine lv_iload_n hx hb dX1_findWays_99 rfl (lv_at hl 2 rfl) ?_
        refine lv_ishl hx hb dX1_findWays_100 ?_
        refine w_top (y := nI (2 ^ i)) (b_shl1 _ (by omega)) ?_
        refine w_xv (As := [.int (nI (7 * a i + b i)), .int (nI (c i).natAbs), .int (nI (2 ^ i))]) (rest := []) ⟨hx, hb, hml, hown, hts⟩ (mX1_take l D d ad E O G C F3 V3 S T P n m w a b g hR (feN a b c i) hI_i (7 * a i + b i) ((c i).natAbs) (2 ^ i) (by omega) (by omega)) (cwV 3 hts (lw_V q147 q149 qs9 q22 q150) rfl rfl rfl (by decide +kernel) ⟨Nat.le_of_ble_eq_true rfl, Nat.le_of_ble_eq_true rfl⟩) hP hK hD hS hA rfl hl.1 rfl (Nat.le_of_ble_eq_true rfl) dX1_findWays_101 (fun u4 H locs hw4 hP hD hS => ?_)
        obtain ⟨F4, V4⟩ := u4
        have hP : va_P D vwCl (wX ad d E O G C F4 V4 S T P (nI n) (nI m) (nI w)) H := hP
        have hD : va_D A (wX ad d E O G C F4 V4 S T P (nI n) (nI m) (nI w)) := hD
        refine lv_aload_n hx hb dX1_findWays_104 rfl (lv_at hl 1 rfl) ?_
        refine lv_bipush (v := nI 7) hx hb dX1_findWays_105 (by decide) ?_
        refine lv_aload_n hx hb dX1_findWays_107 rfl (lv_at hl 1 rfl) ?_
        refine va_get (D := D) (ci := 0) (v := .ref (ad 2)) (C := RX1) (T := TX1) (N := 12) hx hb hts in_X1 hown hK hP 0 rfl rfl 1 (by decide) (hts _ q33) (fun _ h9 => h9) rfl dX1_findWays_108 ?_
        refine lv_iload_n hx hb dX1_findWays_111 rfl (lv_at hl 2 rfl) ?_
        refine w_iald (v := (nI (b i))) hx hb hK hP 2 0 rfl rfl (by omega) (by decide) hOi dX1_findWays_112 ?_
        refine lv_imul hx hb dX1_findWays_113 ?_
        refine w_top (y := nI (7 * b i)) (pk_mul _ _) ?_
        refine lv_aload_n hx hb dX1_findWays_114 rfl (lv_at hl 1 rfl) ?_
        refine va_get (D := D) (ci := 0) (v := .ref (ad 1)) (C := RX1) (T := TX1) (N := 12) hx hb hts in_X1 hown hK hP 0 rfl rfl 0 (by decide) (hts _ q32) (fun _ h9 => h9) rfl dX1_findWays_115 ?_
        refine lv_iload_n hx hb dX1_findWays_118 rfl (lv_at hl 2 rfl) ?_
        refine w_iald (v := (nI (a i))) hx hb hK hP 1 0 rfl rfl (by omega) (by decide) hEi dX1_findWays_119 ?_
        refine lv_iadd hx hb dX1_findWays_120 ?_
        refine w_top (y := nI (7 * b i + a i)) (nI_add _ _) ?_
        refine lv_iload_n hx hb dX1_findWays_121 rfl (lv_at hl 0 rfl) ?_
        refine lv_iconst (v := 1) hx hb dX1_findWays_122 (by decide) ?_
        refine lv_iload_n hx hb dX1_findWays_123 rfl (lv_at hl 2 rfl) ?_
        refine lv_ishl hx hb dX1_findWays_124 ?_
        refine w_top (y := nI (2 ^ i)) (b_shl1 _ (by omega)) ?_
        refine w_xv (As := [.int (nI (7 * b i + a i)), .int (nI (c i).natAbs), .int (nI (2 ^ i))]) (rest := []) ⟨hx, hb, hml, hown, hts⟩ (mX1_take l D d ad E O G C F4 V4 S T P n m w a b g hR (tkN (feN a b c i) (7 * a i + b i) (c i).natAbs (2 ^ i)) hw4 (7 * b i + a i) ((c i).natAbs) (2 ^ i) (by omega) (by omega)) (cwV 3 hts (lw_V q147 q149 qs9 q22 q150) rfl rfl rfl (by decide +kernel) ⟨Nat.le_of_ble_eq_true rfl, Nat.le_of_ble_eq_true rfl⟩) hP hK hD hS hA rfl hl.1 rfl (Nat.le_of_ble_eq_true rfl) dX1_findWays_125 (fun u5 H locs hw5 hP hD hS => ?_)
        obtain ⟨F5, V5⟩ := u5
        have hP : va_P D vwCl (wX ad d E O G C F5 V5 S T P (nI n) (nI m) (nI w)) H := hP
        have hD : va_D A (wX ad d E O G C F5 V5 S T P (nI n) (nI m) (nI w)) := hD
        refine lv_iinc (v := (nI (i + 1))) (lv' := [(1, .int (nI (i + 1))), (2, .int (nI (c i).natAbs)), (0, .ref (ad 0))]) hx hb dX1_findWays_128 hl (k := 2) rfl (nI_1 i) (by decide) rfl (fun ls hl => ?_)
        refine lv_goto (tgt := 46) hx hb dX1_findWays_131 (by decide) ?_
        have hl : lv_has ls 5 [(0, .ref (ad 0)), (1, .int (nI (i + 1)))] := by exact lv_sub hl [2, 0] rfl
        exact IH_i (F5, V5) _ _ _ hlt_i hw5 hP hD hS hl
  · have hlt_i : i < 49 := nle_c c_5
    refine lv_aload_n hx hb dX1_findWays_8 rfl (lv_at hl 0 rfl) ?_
    refine va_get (D := D) (ci := 0) (v := .ref (ad 5)) (C := RX1) (T := TX1) (N := 12) hx hb hts in_X1 hown hK hP 0 rfl rfl 4 (by decide) (hts _ q36) (fun _ h9 => h9) rfl dX1_findWays_9 ?_
    refine lv_iload_n hx hb dX1_findWays_12 rfl (lv_at hl 1 rfl) ?_
    refine lv_iload_n hx hb dX1_findWays_13 rfl (lv_at hl 1 rfl) ?_
    refine lv_bipush (v := nI 7) hx hb dX1_findWays_14 (by decide) ?_
    refine lv_idiv hx hb dX1_findWays_16 (by decide) ?_
    refine w_top (y := nI (i / 7)) (pk_div (by omega) (by decide) (by decide)) ?_
    refine lv_iload_n hx hb dX1_findWays_17 rfl (lv_at hl 1 rfl) ?_
    refine lv_bipush (v := nI 7) hx hb dX1_findWays_18 (by decide) ?_
    refine lv_irem hx hb dX1_findWays_20 (by decide) ?_
    refine w_top (y := nI (i % 7)) (pk_rem (by omega) (by decide) (by decide)) ?_
    refine lv_icmp_ne (tgt := 28) hx hb dX1_findWays_21 (by decide) (fun c_21 => ?_) (fun c_21 => ?_)
    · have hf0 : f0N.1 i = 268435456 := if_neg (ne_c c_21)
      refine lv_ldc (v := 268435456) hx hb hown (hts _ q146) dX1_findWays_28 ?_
      refine w_top (y := nI (f0N.1 i)) (by rw [hf0]; rfl) ?_
      refine w_iast hx hb hK hP hD hS 5 0 rfl rfl (by omega) (by decide) dX1_findWays_30 (fun H locs hP hD hS => ?_)
      have hP : va_P D vwCl (wX ad d E O G C (upd F2 i (nI (f0N.1 i))) V2 S T P (nI n) (nI m) (nI w)) H := hP
      have hD : va_D A (wX ad d E O G C (upd F2 i (nI (f0N.1 i))) V2 S T P (nI n) (nI m) (nI w)) := hD
      refine lv_aload_n hx hb dX1_findWays_31 rfl (lv_at hl 0 rfl) ?_
      refine va_get (D := D) (ci := 0) (v := .ref (ad 6)) (C := RX1) (T := TX1) (N := 12) hx hb hts in_X1 hown hK hP 0 rfl rfl 5 (by decide) (hts _ q37) (fun _ h9 => h9) rfl dX1_findWays_32 ?_
      refine lv_iload_n hx hb dX1_findWays_35 rfl (lv_at hl 1 rfl) ?_
      refine lv_iconst (v := nI 0) hx hb dX1_findWays_36 (by decide) ?_
      refine w_iast hx hb hK hP hD hS 6 0 rfl rfl (by omega) (by decide) dX1_findWays_37 (fun H locs hP hD hS => ?_)
      have hP : va_P D vwCl (wX ad d E O G C (upd F2 i (nI (f0N.1 i))) (upd V2 i (nI 0)) S T P (nI n) (nI m) (nI w)) H := hP
      have hD : va_D A (wX ad d E O G C (upd F2 i (nI (f0N.1 i))) (upd V2 i (nI 0)) S T P (nI n) (nI m) (nI w)) := hD
      refine lv_iinc (v := (nI (i + 1))) (lv' := [(1, .int (nI (i + 1))), (0, .ref (ad 0))]) hx hb dX1_findWays_38 hl (k := 1) rfl (nI_1 i) (by decide) rfl (fun ls hl => ?_)
      refine lv_goto (tgt := 2) hx hb dX1_findWays_41 (by decide) ?_
      have hl : lv_has ls 5 [(0, .ref (ad 0)), (1, .int (nI (i + 1)))] := by exact lv_sub hl [1, 0] rfl
      exact IH_i (upd F2 i (nI (f0N.1 i)), upd V2 i (nI 0)) _ _ _ hlt_i (f0_step hI_i rfl rfl) hP hD hS hl
    · have hf0 : f0N.1 i = 0 := if_pos (eq_c c_21)
      refine lv_iconst (v := nI 0) hx hb dX1_findWays_24 (by decide) ?_
      refine w_top (y := nI (f0N.1 i)) (by rw [hf0]) ?_
      refine lv_goto (tgt := 30) hx hb dX1_findWays_25 (by decide) ?_
      refine w_iast hx hb hK hP hD hS 5 0 rfl rfl (by omega) (by decide) dX1_findWays_30 (fun H locs hP hD hS => ?_)
      have hP : va_P D vwCl (wX ad d E O G C (upd F2 i (nI (f0N.1 i))) V2 S T P (nI n) (nI m) (nI w)) H := hP
      have hD : va_D A (wX ad d E O G C (upd F2 i (nI (f0N.1 i))) V2 S T P (nI n) (nI m) (nI w)) := hD
      refine lv_aload_n hx hb dX1_findWays_31 rfl (lv_at hl 0 rfl) ?_
      refine va_get (D := D) (ci := 0) (v := .ref (ad 6)) (C := RX1) (T := TX1) (N := 12) hx hb hts in_X1 hown hK hP 0 rfl rfl 5 (by decide) (hts _ q37) (fun _ h9 => h9) rfl dX1_findWays_32 ?_
      refine lv_iload_n hx hb dX1_findWays_35 rfl (lv_at hl 1 rfl) ?_
      refine lv_iconst (v := nI 0) hx hb dX1_findWays_36 (by decide) ?_
      refine w_iast hx hb hK hP hD hS 6 0 rfl rfl (by omega) (by decide) dX1_findWays_37 (fun H locs hP hD hS => ?_)
      have hP : va_P D vwCl (wX ad d E O G C (upd F2 i (nI (f0N.1 i))) (upd V2 i (nI 0)) S T P (nI n) (nI m) (nI w)) H := hP
      have hD : va_D A (wX ad d E O G C (upd F2 i (nI (f0N.1 i))) (upd V2 i (nI 0)) S T P (nI n) (nI m) (nI w)) := hD
      refine lv_iinc (v := (nI (i + 1))) (lv' := [(1, .int (nI (i + 1))), (0, .ref (ad 0))]) hx hb dX1_findWays_38 hl (k := 1) rfl (nI_1 i) (by decide) rfl (fun ls hl => ?_)
      refine lv_goto (tgt := 2) hx hb dX1_findWays_41 (by decide) ?_
      have hl : lv_has ls 5 [(0, .ref (ad 0)), (1, .int (nI (i + 1)))] := by exact lv_sub hl [1, 0] rfl
      exact IH_i (upd F2 i (nI (f0N.1 i)), upd V2 i (nI 0)) _ _ _ hlt_i (f0_step hI_i rfl rfl) hP hD hS hl
set_option maxHeartbeats 4000000 in
set_option maxRecDepth 100000 in
theorem mX1_pair (l : Launch) (D : va_G) (d : ClassId) (ad : Nat → Nat) (E O G C F V S T P : Nat → Int32) (n m w : Nat) (a b : Nat → Nat) (g : Nat → Int) (hR : Rep n m w a b g E O G) (z y : FV) (N J t q : Nat) (hz : RepF 49 z F V) (hy : RepF N y S T) (hN : N ≤ 128) (hJ : J < N) (ht : t < 7) (hq : q < t) (ht1 : J.testBit t = true) (hq1 : J.testBit q = true) : MV_ l yX1_pair (ws_ yX1_pair cX1_pair 6 none) rq0 D d (wX ad d E O G C F V S T P (nI n) (nI m) (nI w)) (fun u : (Nat → Int32) × (Nat → Int32) => (wX ad d E O G C F V u.1 u.2 P (nI n) (nI m) (nI w))) [.ref (ad 0), .int (nI J), .int (nI t), .int (nI q)] (fun u => RepF N (prN z y J t q) u.1 u.2) := by
  have hR0 := hR
  obtain ⟨⟨⟨hn2, hn7, hm12, hw7⟩, hok⟩, hE⟩ := hR0
  have hJ128 : J < 128 := by omega
  have hrl := pr_lt hJ128 ht hq ht1 hq1
  obtain ⟨hF1, hV1, hb1⟩ := hz (7 * t + q) (by omega)
  obtain ⟨hS1, hT1, hb2⟩ := hy (J ^^^ 2 ^ t ^^^ 2 ^ q) (by omega)
  obtain ⟨hS2, hT2, hb3⟩ := hy J hJ
  refine MV_mk (lv := [(0, .ref (ad 0)), (1, .int (nI J)), (2, .int (nI t)), (3, .int (nI q))]) (by decide) (Nat.le_of_ble_eq_true rfl) rfl fun pg en s mm below meth cd A ls hx hb hr hlocks hml hown hts hA hP hK hD hS hl => ?_
  have hown : s.vm.findClass RX1 = some mm.cls := hown
  refine w_start fun H locs hH hL => ?_
  rw [← hH] at hP
  replace hS : va_S A s.heap H locs := by rw [hL, hH]; exact va_S.rf
  refine lv_iload_n hx hb dX1_pair_0 rfl (lv_at hl 1 rfl) ?_
  refine lv_iconst (v := 1) hx hb dX1_pair_1 (by decide) ?_
  refine lv_iload_n hx hb dX1_pair_2 rfl (lv_at hl 2 rfl) ?_
  refine lv_ishl hx hb dX1_pair_3 ?_
  refine w_top (y := nI (2 ^ t)) (b_shl1 _ (by omega)) ?_
  refine lv_iconst (v := (-1)) hx hb dX1_pair_4 (by decide) ?_
  refine lv_ixor hx hb dX1_pair_5 ?_
  refine lv_iand hx hb dX1_pair_6 ?_
  refine lv_iconst (v := 1) hx hb dX1_pair_7 (by decide) ?_
  refine lv_iload_n hx hb dX1_pair_8 rfl (lv_at hl 3 rfl) ?_
  refine lv_ishl hx hb dX1_pair_9 ?_
  refine w_top (y := nI (2 ^ q)) (b_shl1 _ (by omega)) ?_
  refine lv_iconst (v := (-1)) hx hb dX1_pair_10 (by decide) ?_
  refine lv_ixor hx hb dX1_pair_11 ?_
  refine lv_iand hx hb dX1_pair_12 ?_
  refine w_top (y := nI (J ^^^ 2 ^ t ^^^ 2 ^ q)) (pr_rest hq ht1 hq1) ?_
  refine lv_istore (lv' := [(4, .int (nI (J ^^^ 2 ^ t ^^^ 2 ^ q))), (0, .ref (ad 0)), (1, .int (nI J)), (2, .int (nI t)), (3, .int (nI q))]) hx hb dX1_pair_13 hl (by decide) rfl (fun ls hl => ?_)
  refine lv_bipush (v := nI 7) hx hb dX1_pair_15 (by decide) ?_
  refine lv_iload_n hx hb dX1_pair_17 rfl (lv_at hl 3 rfl) ?_
  refine lv_imul hx hb dX1_pair_18 ?_
  refine w_top (y := nI (7 * t)) (pk_mul _ _) ?_
  refine lv_iload_n hx hb dX1_pair_19 rfl (lv_at hl 4 rfl) ?_
  refine lv_iadd hx hb dX1_pair_20 ?_
  refine w_top (y := nI (7 * t + q)) (nI_add _ _) ?_
  refine lv_istore (lv' := [(5, .int (nI (7 * t + q))), (4, .int (nI (J ^^^ 2 ^ t ^^^ 2 ^ q))), (0, .ref (ad 0)), (1, .int (nI J)), (2, .int (nI t)), (3, .int (nI q))]) hx hb dX1_pair_21 hl (by decide) rfl (fun ls hl => ?_)
  refine lv_aload_n hx hb dX1_pair_23 rfl (lv_at hl 2 rfl) ?_
  refine va_get (D := D) (ci := 0) (v := .ref (ad 5)) (C := RX1) (T := TX1) (N := 12) hx hb hts in_X1 hown hK hP 0 rfl rfl 4 (by decide) (hts _ q36) (fun _ h9 => h9) rfl dX1_pair_24 ?_
  refine lv_iload hx hb dX1_pair_27 (lv_at hl 0 rfl) ?_
  refine w_iald (v := (nI (z.1 (7 * t + q)))) hx hb hK hP 5 0 rfl rfl (by omega) (by decide) hF1 dX1_pair_29 ?_
  refine lv_ldc (v := 268435456) hx hb hown (hts _ q146) dX1_pair_30 ?_
  refine w_top (y := nI 268435456) rfl ?_
  refine lv_icmp_ge (tgt := 113) hx hb dX1_pair_32 (by decide) (fun c_32 => ?_) (fun c_32 => ?_)
  · have hno : ¬ (z.1 (7 * t + q) < 268435456 ∧ y.1 (J ^^^ 2 ^ t ^^^ 2 ^ q) < 268435456 ∧ y.1 (J ^^^ 2 ^ t ^^^ 2 ^ q) + z.1 (7 * t + q) < y.1 J) := fun h => absurd (le_c c_32) (by omega)
    exact w_vret hx hb hr hlocks (S, T) (by rw [prN_no hno]; exact hy) hP hK hD hS dX1_pair_113
  · have h1 := nle_c c_32
    refine lv_aload_n hx hb dX1_pair_35 rfl (lv_at hl 2 rfl) ?_
    refine va_get (D := D) (ci := 0) (v := .ref (ad 7)) (C := RX1) (T := TX1) (N := 12) hx hb hts in_X1 hown hK hP 0 rfl rfl 6 (by decide) (hts _ q38) (fun _ h9 => h9) rfl dX1_pair_36 ?_
    refine lv_iload hx hb dX1_pair_39 (lv_at hl 1 rfl) ?_
    refine w_iald (v := (nI (y.1 (J ^^^ 2 ^ t ^^^ 2 ^ q)))) hx hb hK hP 7 0 rfl rfl (by omega) (by decide) hS1 dX1_pair_41 ?_
    refine lv_ldc (v := 268435456) hx hb hown (hts _ q146) dX1_pair_42 ?_
    refine w_top (y := nI 268435456) rfl ?_
    refine lv_icmp_ge (tgt := 113) hx hb dX1_pair_44 (by decide) (fun c_44 => ?_) (fun c_44 => ?_)
    · have hno : ¬ (z.1 (7 * t + q) < 268435456 ∧ y.1 (J ^^^ 2 ^ t ^^^ 2 ^ q) < 268435456 ∧ y.1 (J ^^^ 2 ^ t ^^^ 2 ^ q) + z.1 (7 * t + q) < y.1 J) := fun h => absurd (le_c c_44) (by omega)
      exact w_vret hx hb hr hlocks (S, T) (by rw [prN_no hno]; exact hy) hP hK hD hS dX1_pair_113
    · have h2 := nle_c c_44
      refine lv_aload_n hx hb dX1_pair_47 rfl (lv_at hl 2 rfl) ?_
      refine va_get (D := D) (ci := 0) (v := .ref (ad 7)) (C := RX1) (T := TX1) (N := 12) hx hb hts in_X1 hown hK hP 0 rfl rfl 6 (by decide) (hts _ q38) (fun _ h9 => h9) rfl dX1_pair_48 ?_
      refine lv_iload hx hb dX1_pair_51 (lv_at hl 1 rfl) ?_
      refine w_iald (v := (nI (y.1 (J ^^^ 2 ^ t ^^^ 2 ^ q)))) hx hb hK hP 7 0 rfl rfl (by omega) (by decide) hS1 dX1_pair_53 ?_
      refine lv_aload_n hx hb dX1_pair_54 rfl (lv_at hl 2 rfl) ?_
      refine va_get (D := D) (ci := 0) (v := .ref (ad 5)) (C := RX1) (T := TX1) (N := 12) hx hb hts in_X1 hown hK hP 0 rfl rfl 4 (by decide) (hts _ q36) (fun _ h9 => h9) rfl dX1_pair_55 ?_
      refine lv_iload hx hb dX1_pair_58 (lv_at hl 0 rfl) ?_
      refine w_iald (v := (nI (z.1 (7 * t + q)))) hx hb hK hP 5 0 rfl rfl (by omega) (by decide) hF1 dX1_pair_60 ?_
      refine lv_iadd hx hb dX1_pair_61 ?_
      refine w_top (y := nI (y.1 (J ^^^ 2 ^ t ^^^ 2 ^ q) + z.1 (7 * t + q))) (nI_add _ _) ?_
      refine lv_aload_n hx hb dX1_pair_62 rfl (lv_at hl 2 rfl) ?_
      refine va_get (D := D) (ci := 0) (v := .ref (ad 7)) (C := RX1) (T := TX1) (N := 12) hx hb hts in_X1 hown hK hP 0 rfl rfl 6 (by decide) (hts _ q38) (fun _ h9 => h9) rfl dX1_pair_63 ?_
      refine lv_iload_n hx hb dX1_pair_66 rfl (lv_at hl 3 rfl) ?_
      refine w_iald (v := (nI (y.1 J))) hx hb hK hP 7 0 rfl rfl (by omega) (by decide) hS2 dX1_pair_67 ?_
      refine lv_icmp_ge (tgt := 113) hx hb dX1_pair_68 (by decide) (fun c_68 => ?_) (fun c_68 => ?_)
      · have hno : ¬ (z.1 (7 * t + q) < 268435456 ∧ y.1 (J ^^^ 2 ^ t ^^^ 2 ^ q) < 268435456 ∧ y.1 (J ^^^ 2 ^ t ^^^ 2 ^ q) + z.1 (7 * t + q) < y.1 J) := fun h => absurd (le_c c_68) (by omega)
        exact w_vret hx hb hr hlocks (S, T) (by rw [prN_no hno]; exact hy) hP hK hD hS dX1_pair_113
      · have h3 := nle_c c_68
        refine lv_aload_n hx hb dX1_pair_71 rfl (lv_at hl 2 rfl) ?_
        refine va_get (D := D) (ci := 0) (v := .ref (ad 7)) (C := RX1) (T := TX1) (N := 12) hx hb hts in_X1 hown hK hP 0 rfl rfl 6 (by decide) (hts _ q38) (fun _ h9 => h9) rfl dX1_pair_72 ?_
        refine lv_iload_n hx hb dX1_pair_75 rfl (lv_at hl 3 rfl) ?_
        refine lv_aload_n hx hb dX1_pair_76 rfl (lv_at hl 2 rfl) ?_
        refine va_get (D := D) (ci := 0) (v := .ref (ad 7)) (C := RX1) (T := TX1) (N := 12) hx hb hts in_X1 hown hK hP 0 rfl rfl 6 (by decide) (hts _ q38) (fun _ h9 => h9) rfl dX1_pair_77 ?_
        refine lv_iload hx hb dX1_pair_80 (lv_at hl 1 rfl) ?_
        refine w_iald (v := (nI (y.1 (J ^^^ 2 ^ t ^^^ 2 ^ q)))) hx hb hK hP 7 0 rfl rfl (by omega) (by decide) hS1 dX1_pair_82 ?_
        refine lv_aload_n hx hb dX1_pair_83 rfl (lv_at hl 2 rfl) ?_
        refine va_get (D := D) (ci := 0) (v := .ref (ad 5)) (C := RX1) (T := TX1) (N := 12) hx hb hts in_X1 hown hK hP 0 rfl rfl 4 (by decide) (hts _ q36) (fun _ h9 => h9) rfl dX1_pair_84 ?_
        refine lv_iload hx hb dX1_pair_87 (lv_at hl 0 rfl) ?_
        refine w_iald (v := (nI (z.1 (7 * t + q)))) hx hb hK hP 5 0 rfl rfl (by omega) (by decide) hF1 dX1_pair_89 ?_
        refine lv_iadd hx hb dX1_pair_90 ?_
        refine w_top (y := nI (y.1 (J ^^^ 2 ^ t ^^^ 2 ^ q) + z.1 (7 * t + q))) (nI_add _ _) ?_
        refine w_iast hx hb hK hP hD hS 7 0 rfl rfl (by omega) (by decide) dX1_pair_91 (fun H locs hP hD hS => ?_)
        have hP : va_P D vwCl (wX ad d E O G C F V (upd S J (nI (y.1 (J ^^^ 2 ^ t ^^^ 2 ^ q) + z.1 (7 * t + q)))) T P (nI n) (nI m) (nI w)) H := hP
        have hD : va_D A (wX ad d E O G C F V (upd S J (nI (y.1 (J ^^^ 2 ^ t ^^^ 2 ^ q) + z.1 (7 * t + q)))) T P (nI n) (nI m) (nI w)) := hD
        refine lv_aload_n hx hb dX1_pair_92 rfl (lv_at hl 2 rfl) ?_
        refine va_get (D := D) (ci := 0) (v := .ref (ad 8)) (C := RX1) (T := TX1) (N := 12) hx hb hts in_X1 hown hK hP 0 rfl rfl 7 (by decide) (hts _ q39) (fun _ h9 => h9) rfl dX1_pair_93 ?_
        refine lv_iload_n hx hb dX1_pair_96 rfl (lv_at hl 3 rfl) ?_
        refine lv_aload_n hx hb dX1_pair_97 rfl (lv_at hl 2 rfl) ?_
        refine va_get (D := D) (ci := 0) (v := .ref (ad 8)) (C := RX1) (T := TX1) (N := 12) hx hb hts in_X1 hown hK hP 0 rfl rfl 7 (by decide) (hts _ q39) (fun _ h9 => h9) rfl dX1_pair_98 ?_
        refine lv_iload hx hb dX1_pair_101 (lv_at hl 1 rfl) ?_
        refine w_iald (v := (nI (y.2 (J ^^^ 2 ^ t ^^^ 2 ^ q)))) hx hb hK hP 8 0 rfl rfl (by omega) (by decide) hT1 dX1_pair_103 ?_
        refine lv_aload_n hx hb dX1_pair_104 rfl (lv_at hl 2 rfl) ?_
        refine va_get (D := D) (ci := 0) (v := .ref (ad 6)) (C := RX1) (T := TX1) (N := 12) hx hb hts in_X1 hown hK hP 0 rfl rfl 5 (by decide) (hts _ q37) (fun _ h9 => h9) rfl dX1_pair_105 ?_
        refine lv_iload hx hb dX1_pair_108 (lv_at hl 0 rfl) ?_
        refine w_iald (v := (nI (z.2 (7 * t + q)))) hx hb hK hP 6 0 rfl rfl (by omega) (by decide) hV1 dX1_pair_110 ?_
        refine lv_ixor hx hb dX1_pair_111 ?_
        refine w_top (y := nI (y.2 (J ^^^ 2 ^ t ^^^ 2 ^ q) ^^^ z.2 (7 * t + q))) (nx_xor _ _) ?_
        refine w_iast hx hb hK hP hD hS 8 0 rfl rfl (by omega) (by decide) dX1_pair_112 (fun H locs hP hD hS => ?_)
        have hP : va_P D vwCl (wX ad d E O G C F V (upd S J (nI (y.1 (J ^^^ 2 ^ t ^^^ 2 ^ q) + z.1 (7 * t + q)))) (upd T J (nI (y.2 (J ^^^ 2 ^ t ^^^ 2 ^ q) ^^^ z.2 (7 * t + q)))) P (nI n) (nI m) (nI w)) H := hP
        have hD : va_D A (wX ad d E O G C F V (upd S J (nI (y.1 (J ^^^ 2 ^ t ^^^ 2 ^ q) + z.1 (7 * t + q)))) (upd T J (nI (y.2 (J ^^^ 2 ^ t ^^^ 2 ^ q) ^^^ z.2 (7 * t + q)))) P (nI n) (nI m) (nI w)) := hD
        exact w_vret hx hb hr hlocks (upd S J (nI (y.1 (J ^^^ 2 ^ t ^^^ 2 ^ q) + z.1 (7 * t + q))), upd T J (nI (y.2 (J ^^^ 2 ^ t ^^^ 2 ^ q) ^^^ z.2 (7 * t + q)))) (repF_pr hy hJ ⟨h1, h2, h3⟩) hP hK hD hS dX1_pair_113
set_option maxHeartbeats 4000000 in
set_option maxRecDepth 100000 in
theorem mX1_pairUp (l : Launch) (D : va_G) (d : ClassId) (ad : Nat → Nat) (E O G C F V S T P : Nat → Int32) (n m w : Nat) (a b : Nat → Nat) (g : Nat → Int) (hR : Rep n m w a b g E O G) (z : FV) (hz : RepF 49 z F V) (gl : Nat) (hgl : gl < 128) : MV_ l yX1_pairUp (ws_ yX1_pairUp cX1_pairUp 5 none) rq1 D d (wX ad d E O G C F V S T P (nI n) (nI m) (nI w)) (fun u : (Nat → Int32) × (Nat → Int32) => (wX ad d E O G C F V u.1 u.2 P (nI n) (nI m) (nI w))) [.ref (ad 0), .int (nI gl)] (fun u => RepF (gl + 1) (puN z (fun _ => 0, fun _ => 0) gl gl) u.1 u.2) := by
  have hR0 := hR
  obtain ⟨⟨⟨hn2, hn7, hm12, hw7⟩, hok⟩, hE⟩ := hR0
  refine MV_mk (lv := [(0, .ref (ad 0)), (1, .int (nI gl))]) (by decide) (Nat.le_of_ble_eq_true rfl) rfl fun pg en s mm below meth cd A ls hx hb hr hlocks hml hown hts hA hP hK hD hS hl => ?_
  have hown : s.vm.findClass RX1 = some mm.cls := hown
  refine w_start fun H locs hH hL => ?_
  rw [← hH] at hP
  replace hS : va_S A s.heap H locs := by rw [hL, hH]; exact va_S.rf
  refine lv_aload_n hx hb dX1_pairUp_0 rfl (lv_at hl 0 rfl) ?_
  refine va_get (D := D) (ci := 0) (v := .ref (ad 7)) (C := RX1) (T := TX1) (N := 12) hx hb hts in_X1 hown hK hP 0 rfl rfl 6 (by decide) (hts _ q38) (fun _ h9 => h9) rfl dX1_pairUp_1 ?_
  refine lv_iconst (v := nI 0) hx hb dX1_pairUp_4 (by decide) ?_
  refine lv_iconst (v := nI 0) hx hb dX1_pairUp_5 (by decide) ?_
  refine w_iast hx hb hK hP hD hS 7 0 rfl rfl (by omega) (by decide) dX1_pairUp_6 (fun H locs hP hD hS => ?_)
  have hP : va_P D vwCl (wX ad d E O G C F V (upd S 0 (nI 0)) T P (nI n) (nI m) (nI w)) H := hP
  have hD : va_D A (wX ad d E O G C F V (upd S 0 (nI 0)) T P (nI n) (nI m) (nI w)) := hD
  refine lv_aload_n hx hb dX1_pairUp_7 rfl (lv_at hl 0 rfl) ?_
  refine va_get (D := D) (ci := 0) (v := .ref (ad 8)) (C := RX1) (T := TX1) (N := 12) hx hb hts in_X1 hown hK hP 0 rfl rfl 7 (by decide) (hts _ q39) (fun _ h9 => h9) rfl dX1_pairUp_8 ?_
  refine lv_iconst (v := nI 0) hx hb dX1_pairUp_11 (by decide) ?_
  refine lv_iconst (v := nI 0) hx hb dX1_pairUp_12 (by decide) ?_
  refine w_iast hx hb hK hP hD hS 8 0 rfl rfl (by omega) (by decide) dX1_pairUp_13 (fun H locs hP hD hS => ?_)
  have hP : va_P D vwCl (wX ad d E O G C F V (upd S 0 (nI 0)) (upd T 0 (nI 0)) P (nI n) (nI m) (nI w)) H := hP
  have hD : va_D A (wX ad d E O G C F V (upd S 0 (nI 0)) (upd T 0 (nI 0)) P (nI n) (nI m) (nI w)) := hD
  refine lv_iconst (v := nI 1) hx hb dX1_pairUp_14 (by decide) ?_
  refine lv_istore_n (lv' := [(2, .int (nI 1)), (0, .ref (ad 0)), (1, .int (nI gl))]) hx hb dX1_pairUp_15 rfl hl (by decide) rfl (fun ls hl => ?_)
  refine w_for (σ := (Nat → Int32) × (Nat → Int32)) (gl) (fun u => (wX ad d E O G C F V u.1 u.2 P (nI n) (nI m) (nI w))) (fun i u => [(0, .ref (ad 0)), (1, .int (nI gl)), (2, .int (nI (i + 1)))]) (fun i u => RepF (i + 1) (puN z (fun _ => 0, fun _ => 0) gl i) u.1 u.2) (fun i hi_i IH_i u H locs ls hI_i hP hD hS hl => ?_) (i0 := 0) (Nat.zero_le _) (upd S 0 (nI 0), upd T 0 (nI 0)) repF_p0 hP hD hS (lv_sub hl [1, 2, 0] rfl)
  obtain ⟨S2, T2⟩ := u
  have hP : va_P D vwCl (wX ad d E O G C F V S2 T2 P (nI n) (nI m) (nI w)) H := hP
  have hD : va_D A (wX ad d E O G C F V S2 T2 P (nI n) (nI m) (nI w)) := hD
  have hl : lv_has ls 5 [(0, .ref (ad 0)), (1, .int (nI gl)), (2, .int (nI (i + 1)))] := hl
  have hI_i : RepF (i + 1) (puN z (fun _ => 0, fun _ => 0) gl i) S2 T2 := hI_i
  refine lv_iload_n hx hb dX1_pairUp_16 rfl (lv_at hl 2 rfl) ?_
  refine lv_iload_n hx hb dX1_pairUp_17 rfl (lv_at hl 1 rfl) ?_
  refine lv_icmp_gt (tgt := 100) hx hb dX1_pairUp_18 (by decide) (fun c_18 => ?_) (fun c_18 => ?_)
  · have him_i : i = gl := by have := lt_c c_18; omega
    exact w_vret hx hb hr hlocks (S2, T2) (by rw [him_i] at hI_i; exact hI_i) hP hK hD hS dX1_pairUp_100
  · have hlt_i : i < gl := by have := nlt_c c_18; omega
    refine lv_aload_n hx hb dX1_pairUp_21 rfl (lv_at hl 0 rfl) ?_
    refine va_get (D := D) (ci := 0) (v := .ref (ad 7)) (C := RX1) (T := TX1) (N := 12) hx hb hts in_X1 hown hK hP 0 rfl rfl 6 (by decide) (hts _ q38) (fun _ h9 => h9) rfl dX1_pairUp_22 ?_
    refine lv_iload_n hx hb dX1_pairUp_25 rfl (lv_at hl 2 rfl) ?_
    refine lv_ldc (v := 268435456) hx hb hown (hts _ q146) dX1_pairUp_26 ?_
    refine w_top (y := nI 268435456) rfl ?_
    refine w_iast hx hb hK hP hD hS 7 0 rfl rfl (by omega) (by decide) dX1_pairUp_28 (fun H locs hP hD hS => ?_)
    have hP : va_P D vwCl (wX ad d E O G C F V (upd S2 (i + 1) (nI 268435456)) T2 P (nI n) (nI m) (nI w)) H := hP
    have hD : va_D A (wX ad d E O G C F V (upd S2 (i + 1) (nI 268435456)) T2 P (nI n) (nI m) (nI w)) := hD
    refine lv_aload_n hx hb dX1_pairUp_29 rfl (lv_at hl 0 rfl) ?_
    refine va_get (D := D) (ci := 0) (v := .ref (ad 8)) (C := RX1) (T := TX1) (N := 12) hx hb hts in_X1 hown hK hP 0 rfl rfl 7 (by decide) (hts _ q39) (fun _ h9 => h9) rfl dX1_pairUp_30 ?_
    refine lv_iload_n hx hb dX1_pairUp_33 rfl (lv_at hl 2 rfl) ?_
    refine lv_iconst (v := nI 0) hx hb dX1_pairUp_34 (by decide) ?_
    refine w_iast hx hb hK hP hD hS 8 0 rfl rfl (by omega) (by decide) dX1_pairUp_35 (fun H locs hP hD hS => ?_)
    have hP : va_P D vwCl (wX ad d E O G C F V (upd S2 (i + 1) (nI 268435456)) (upd T2 (i + 1) (nI 0)) P (nI n) (nI m) (nI w)) H := hP
    have hD : va_D A (wX ad d E O G C F V (upd S2 (i + 1) (nI 268435456)) (upd T2 (i + 1) (nI 0)) P (nI n) (nI m) (nI w)) := hD
    refine lv_iload_n hx hb dX1_pairUp_36 rfl (lv_at hl 2 rfl) ?_
    refine lv_iload_n hx hb dX1_pairUp_37 rfl (lv_at hl 1 rfl) ?_
    refine lv_iconst (v := (-1)) hx hb dX1_pairUp_38 (by decide) ?_
    refine lv_ixor hx hb dX1_pairUp_39 ?_
    refine lv_iand hx hb dX1_pairUp_40 ?_
    refine lv_if_ne (tgt := 94) hx hb dX1_pairUp_41 (by decide) (fun c_41 => ?_) (fun c_41 => ?_)
    · have hsu : ¬ (i + 1) &&& gl = i + 1 := fun h => c_41 ((su_b (i + 1) (by omega) gl hgl).mpr h)
      have hpu : RepF (i + 2) (puN z (fun _ => 0, fun _ => 0) gl (i + 1)) (upd S2 (i + 1) (nI 268435456)) (upd T2 (i + 1) (nI 0)) := by
        show RepF (i + 2) (if _ then _ else _) _ _
        rw [if_neg hsu]; exact repF_p1 hI_i
      refine lv_iinc (v := (nI ((i + 1) + 1))) (lv' := [(2, .int (nI ((i + 1) + 1))), (0, .ref (ad 0)), (1, .int (nI gl))]) hx hb dX1_pairUp_94 hl (k := 2) rfl (nI_1 (i + 1)) (by decide) rfl (fun ls hl => ?_)
      refine lv_goto (tgt := 16) hx hb dX1_pairUp_97 (by decide) ?_
      have hl : lv_has ls 5 [(0, .ref (ad 0)), (1, .int (nI gl)), (2, .int (nI ((i + 1) + 1)))] := by exact lv_sub hl [1, 2, 0] rfl
      exact IH_i (upd S2 (i + 1) (nI 268435456), upd T2 (i + 1) (nI 0)) _ _ _ hlt_i hpu hP hD hS hl
    · have hsu : (i + 1) &&& gl = i + 1 := (su_b (i + 1) (by omega) gl hgl).mp c_41
      refine lv_bipush (v := nI 6) hx hb dX1_pairUp_44 (by decide) ?_
      refine lv_istore_n (lv' := [(3, .int (nI 6)), (0, .ref (ad 0)), (1, .int (nI gl)), (2, .int (nI (i + 1)))]) hx hb dX1_pairUp_46 rfl hl (by decide) rfl (fun ls hl => ?_)
      refine w_down (σ := Unit) (fun _ => (wX ad d E O G C F V (upd S2 (i + 1) (nI 268435456)) (upd T2 (i + 1) (nI 0)) P (nI n) (nI m) (nI w))) (fun t _ => [(0, .ref (ad 0)), (1, .int (nI gl)), (2, .int (nI (i + 1))), (3, .int (nI t))]) (fun t _ => t < 7 ∧ toN (i + 1) t = toN (i + 1) 6 ∧ ∃ j, j ≤ t ∧ (i + 1).testBit j = true) (fun t IH_t u H locs ls hI_t hP hD hS hl => ?_) 6 () ⟨by decide, rfl, by obtain ⟨j, h1, h2⟩ := to_ex (i + 1) (by omega) (by omega); exact ⟨j, by omega, h2⟩⟩ hP hD hS (lv_sub hl [1, 2, 3, 0] rfl)
      have hP : va_P D vwCl (wX ad d E O G C F V (upd S2 (i + 1) (nI 268435456)) (upd T2 (i + 1) (nI 0)) P (nI n) (nI m) (nI w)) H := hP
      have hD : va_D A (wX ad d E O G C F V (upd S2 (i + 1) (nI 268435456)) (upd T2 (i + 1) (nI 0)) P (nI n) (nI m) (nI w)) := hD
      have hl : lv_has ls 5 [(0, .ref (ad 0)), (1, .int (nI gl)), (2, .int (nI (i + 1))), (3, .int (nI t))] := hl
      obtain ⟨ht7, hto, j0, hj0, hb0⟩ := hI_t
      refine lv_iload_n hx hb dX1_pairUp_47 rfl (lv_at hl 2 rfl) ?_
      refine lv_iload_n hx hb dX1_pairUp_48 rfl (lv_at hl 3 rfl) ?_
      refine lv_ishr hx hb dX1_pairUp_49 ?_
      refine lv_iconst (v := 1) hx hb dX1_pairUp_50 (by decide) ?_
      refine lv_iand hx hb dX1_pairUp_51 ?_
      refine w_top (y := bI ((i + 1).testBit t)) (b_bit (by omega) (by omega)) ?_
      refine lv_if_ne (tgt := 61) hx hb dX1_pairUp_52 (by decide) (fun c_52 => ?_) (fun c_52 => ?_)
      · have hbt : (i + 1).testBit t = true := bI_n0.mp c_52
        have htt : toN (i + 1) 6 = t := by rw [← hto]; exact toN_at hbt
        refine lv_iconst (v := nI 0) hx hb dX1_pairUp_61 (by decide) ?_
        refine lv_istore (lv' := [(4, .int (nI 0)), (0, .ref (ad 0)), (1, .int (nI gl)), (2, .int (nI (i + 1))), (3, .int (nI t))]) hx hb dX1_pairUp_62 hl (by decide) rfl (fun ls hl => ?_)
        refine w_for (σ := (Nat → Int32) × (Nat → Int32)) (t) (fun u => (wX ad d E O G C F V u.1 u.2 P (nI n) (nI m) (nI w))) (fun k u => [(0, .ref (ad 0)), (1, .int (nI gl)), (2, .int (nI (i + 1))), (3, .int (nI t)), (4, .int (nI k))]) (fun k u => RepF (i + 2) (piN z (p1N (puN z (fun _ => 0, fun _ => 0) gl i) (i + 1)) (i + 1) t k) u.1 u.2) (fun k hi_k IH_k u H locs ls hI_k hP hD hS hl => ?_) (i0 := 0) (Nat.zero_le _) (upd S2 (i + 1) (nI 268435456), upd T2 (i + 1) (nI 0)) (repF_p1 hI_i) hP hD hS (lv_sub hl [1, 2, 3, 4, 0] rfl)
        obtain ⟨S4, T4⟩ := u
        have hP : va_P D vwCl (wX ad d E O G C F V S4 T4 P (nI n) (nI m) (nI w)) H := hP
        have hD : va_D A (wX ad d E O G C F V S4 T4 P (nI n) (nI m) (nI w)) := hD
        have hl : lv_has ls 5 [(0, .ref (ad 0)), (1, .int (nI gl)), (2, .int (nI (i + 1))), (3, .int (nI t)), (4, .int (nI k))] := hl
        have hI_k : RepF (i + 2) (piN z (p1N (puN z (fun _ => 0, fun _ => 0) gl i) (i + 1)) (i + 1) t k) S4 T4 := hI_k
        refine lv_iload hx hb dX1_pairUp_64 (lv_at hl 4 rfl) ?_
        refine lv_iload_n hx hb dX1_pairUp_66 rfl (lv_at hl 3 rfl) ?_
        refine lv_icmp_ge (tgt := 94) hx hb dX1_pairUp_67 (by decide) (fun c_67 => ?_) (fun c_67 => ?_)
        · have him_k : k = t := by have := le_c c_67; omega
          have hpu : RepF (i + 2) (puN z (fun _ => 0, fun _ => 0) gl (i + 1)) S4 T4 := by
            show RepF (i + 2) (if _ then _ else _) _ _
            rw [if_pos hsu, htt, ← him_k]; rw [← him_k] at hI_k; exact hI_k
          refine lv_iinc (v := (nI ((i + 1) + 1))) (lv' := [(2, .int (nI ((i + 1) + 1))), (0, .ref (ad 0)), (1, .int (nI gl)), (3, .int (nI t)), (4, .int (nI k))]) hx hb dX1_pairUp_94 hl (k := 2) rfl (nI_1 (i + 1)) (by decide) rfl (fun ls hl => ?_)
          refine lv_goto (tgt := 16) hx hb dX1_pairUp_97 (by decide) ?_
          have hl : lv_has ls 5 [(0, .ref (ad 0)), (1, .int (nI gl)), (2, .int (nI ((i + 1) + 1)))] := by exact lv_sub hl [1, 2, 0] rfl
          exact IH_i (S4, T4) _ _ _ hlt_i hpu hP hD hS hl
        · have hlt_k : k < t := nle_c c_67
          refine lv_iload_n hx hb dX1_pairUp_70 rfl (lv_at hl 2 rfl) ?_
          refine lv_iload hx hb dX1_pairUp_71 (lv_at hl 4 rfl) ?_
          refine lv_ishr hx hb dX1_pairUp_73 ?_
          refine lv_iconst (v := 1) hx hb dX1_pairUp_74 (by decide) ?_
          refine lv_iand hx hb dX1_pairUp_75 ?_
          refine w_top (y := bI ((i + 1).testBit k)) (b_bit (by omega) (by omega)) ?_
          refine lv_iconst (v := 1) hx hb dX1_pairUp_76 (by decide) ?_
          refine lv_icmp_ne (tgt := 88) hx hb dX1_pairUp_77 (by decide) (fun c_77 => ?_) (fun c_77 => ?_)
          · have hpi : RepF (i + 2) (piN z (p1N (puN z (fun _ => 0, fun _ => 0) gl i) (i + 1)) (i + 1) t (k + 1)) S4 T4 := by
              show RepF (i + 2) (if _ then _ else _) _ _
              rw [if_neg (by rw [bI_n1.mp c_77]; decide)]; exact hI_k
            refine lv_iinc (v := (nI (k + 1))) (lv' := [(4, .int (nI (k + 1))), (0, .ref (ad 0)), (1, .int (nI gl)), (2, .int (nI (i + 1))), (3, .int (nI t))]) hx hb dX1_pairUp_88 hl (k := 4) rfl (nI_1 k) (by decide) rfl (fun ls hl => ?_)
            refine lv_goto (tgt := 64) hx hb dX1_pairUp_91 (by decide) ?_
            have hl : lv_has ls 5 [(0, .ref (ad 0)), (1, .int (nI gl)), (2, .int (nI (i + 1))), (3, .int (nI t)), (4, .int (nI (k + 1)))] := by exact lv_sub hl [1, 2, 3, 4, 0] rfl
            exact IH_k (S4, T4) _ _ _ hlt_k hpi hP hD hS hl
          · have hbk : (i + 1).testBit k = true := bI_1.mp c_77
            refine lv_aload_n hx hb dX1_pairUp_80 rfl (lv_at hl 0 rfl) ?_
            refine lv_iload_n hx hb dX1_pairUp_81 rfl (lv_at hl 2 rfl) ?_
            refine lv_iload_n hx hb dX1_pairUp_82 rfl (lv_at hl 3 rfl) ?_
            refine lv_iload hx hb dX1_pairUp_83 (lv_at hl 4 rfl) ?_
            refine w_xv (As := [.int (nI (i + 1)), .int (nI t), .int (nI k)]) (rest := []) ⟨hx, hb, hml, hown, hts⟩ (mX1_pair l D d ad E O G C F V S4 T4 P n m w a b g hR z (piN z (p1N (puN z (fun _ => 0, fun _ => 0) gl i) (i + 1)) (i + 1) t k) (i + 2) (i + 1) t k hz hI_k (by omega) (by omega) ht7 hlt_k hbt hbk) (cwV 3 hts (lw_V q155 q157 qs11 q22 q158) rfl rfl rfl (by decide +kernel) ⟨Nat.le_of_ble_eq_true rfl, Nat.le_of_ble_eq_true rfl⟩) hP hK hD hS hA rfl hl.1 rfl (Nat.le_of_ble_eq_true rfl) dX1_pairUp_85 (fun u5 H locs hw5 hP hD hS => ?_)
            obtain ⟨S5, T5⟩ := u5
            have hpi : RepF (i + 2) (piN z (p1N (puN z (fun _ => 0, fun _ => 0) gl i) (i + 1)) (i + 1) t (k + 1)) S5 T5 := by
              show RepF (i + 2) (if _ then _ else _) _ _
              rw [if_pos hbk]; exact hw5
            have hP : va_P D vwCl (wX ad d E O G C F V S5 T5 P (nI n) (nI m) (nI w)) H := hP
            have hD : va_D A (wX ad d E O G C F V S5 T5 P (nI n) (nI m) (nI w)) := hD
            refine lv_iinc (v := (nI (k + 1))) (lv' := [(4, .int (nI (k + 1))), (0, .ref (ad 0)), (1, .int (nI gl)), (2, .int (nI (i + 1))), (3, .int (nI t))]) hx hb dX1_pairUp_88 hl (k := 4) rfl (nI_1 k) (by decide) rfl (fun ls hl => ?_)
            refine lv_goto (tgt := 64) hx hb dX1_pairUp_91 (by decide) ?_
            have hl : lv_has ls 5 [(0, .ref (ad 0)), (1, .int (nI gl)), (2, .int (nI (i + 1))), (3, .int (nI t)), (4, .int (nI (k + 1)))] := by exact lv_sub hl [1, 2, 3, 4, 0] rfl
            exact IH_k (S5, T5) _ _ _ hlt_k hpi hP hD hS hl
      · have hbf : (i + 1).testBit t = false := bI_0.mp c_52
        obtain ⟨t', rfl⟩ : ∃ t', t = t' + 1 := by
          rcases t with _ | t'
          · exact absurd hb0 (by rw [show j0 = 0 by omega, hbf]; decide)
          · exact ⟨t', rfl⟩
        refine lv_iinc (v := (nI t')) (lv' := [(3, .int (nI t')), (0, .ref (ad 0)), (1, .int (nI gl)), (2, .int (nI (i + 1)))]) hx hb dX1_pairUp_55 hl (k := 3) rfl (pk_m1 t') (by decide) rfl (fun ls hl => ?_)
        refine lv_goto (tgt := 47) hx hb dX1_pairUp_58 (by decide) ?_
        have hj1 : j0 ≤ t' := by
          rcases Nat.lt_or_ge t' j0 with q | q
          · exact absurd hb0 (by rw [show j0 = t' + 1 by omega, hbf]; decide)
          · exact q
        exact IH_t () _ _ _ t' (by omega) ⟨by omega, by rw [← toN_no hbf]; exact hto, j0, hj1, hb0⟩ hP hD hS (lv_sub hl [1, 2, 3, 0] rfl)
set_option maxHeartbeats 4000000 in
set_option maxRecDepth 100000 in
theorem mX1_solve (l : Launch) (D : va_G) (d : ClassId) (ad : Nat → Nat) (E O G C F V S T P : Nat → Int32) (n m w : Nat) (a b : Nat → Nat) (g : Nat → Int) (hR : Rep n m w a b g E O G) (c : Nat → Int) (hc : RepC m c C) (J : Nat) (hJ : J < 128) : MI_ l yX1_solve (ws_ yX1_solve cX1_solve 4 (some .int)) rq2 D d (wX ad d E O G C F V S T P (nI n) (nI m) (nI w)) (fun u : (Nat → Int32) × (Nat → Int32) × (Nat → Int32) × (Nat → Int32) × (Nat → Int32) => (wX ad d E O G C u.2.1 u.2.2.1 u.2.2.2.1 u.2.2.2.2 u.1 (nI n) (nI m) (nI w))) [.ref (ad 0), .int (nI J)] (fun (r : Int32) u => (posN a b n m J ∧ r = nI (soJ a b c n m J)) ∨ (¬ posN a b n m J ∧ r = -1)) := by
  have hR0 := hR
  obtain ⟨⟨⟨hn2, hn7, hm12, hw7⟩, hok⟩, hE⟩ := hR0
  have hgo : (goN a b c m J) < 128 := Nat.xor_lt_two_pow (n := 7) hJ (odd128 hR.1)
  refine MI_mk (lv := [(0, .ref (ad 0)), (1, .int (nI J))]) (by decide) (Nat.le_of_ble_eq_true rfl) rfl fun pg en s mm below meth cd A ls hx hb hr hlocks hml hown hts hA hP hK hD hS hl => ?_
  have hown : s.vm.findClass RX1 = some mm.cls := hown
  refine w_start fun H locs hH hL => ?_
  rw [← hH] at hP
  replace hS : va_S A s.heap H locs := by rw [hL, hH]; exact va_S.rf
  refine lv_aload_n hx hb dX1_solve_0 rfl (lv_at hl 0 rfl) ?_
  refine lv_iload_n hx hb dX1_solve_1 rfl (lv_at hl 1 rfl) ?_
  refine w_xi (As := [.int (nI J)]) (rest := []) ⟨hx, hb, hml, hown, hts⟩ (mX1_isPossible l D d ad E O G C F V S T P n m w a b g hR J hJ) (cwV 1 hts (lw_V q114 q116 qs3 q22 q117) rfl rfl rfl (by decide +kernel) ⟨Nat.le_of_ble_eq_true rfl, Nat.le_of_ble_eq_true rfl⟩) hP hK hD hS hA rfl hl.1 rfl (Nat.le_of_ble_eq_true rfl) dX1_solve_2 (fun r1 P1 H locs hw1 hP hD hS => ?_)
  have hP : va_P D vwCl (wX ad d E O G C F V S T P1 (nI n) (nI m) (nI w)) H := hP
  have hD : va_D A (wX ad d E O G C F V S T P1 (nI n) (nI m) (nI w)) := hD
  refine lv_if_ne (tgt := 10) hx hb dX1_solve_5 (by decide) (fun c_5 => ?_) (fun c_5 => ?_)
  · have hpos := or_t hw1 c_5
    refine lv_iconst (v := nI 0) hx hb dX1_solve_10 (by decide) ?_
    refine lv_istore_n (lv' := [(2, .int (nI 0)), (0, .ref (ad 0)), (1, .int (nI J))]) hx hb dX1_solve_11 rfl hl (by decide) rfl (fun ls hl => ?_)
    refine lv_iconst (v := nI 0) hx hb dX1_solve_12 (by decide) ?_
    refine lv_istore_n (lv' := [(3, .int (nI 0)), (2, .int (nI 0)), (0, .ref (ad 0)), (1, .int (nI J))]) hx hb dX1_solve_13 rfl hl (by decide) rfl (fun ls hl => ?_)
    refine w_for (σ := Unit) (m) (fun u => (wX ad d E O G C F V S T P1 (nI n) (nI m) (nI w))) (fun i u => [(0, .ref (ad 0)), (1, .int (nI J)), (2, .int (nI (ngN c i))), (3, .int (nI i))]) (fun i u => True) (fun i hi_i IH_i u H locs ls hI_i hP hD hS hl => ?_) (i0 := 0) (Nat.zero_le _) () trivial hP hD hS (lv_sub hl [2, 3, 1, 0] rfl)
    have hP : va_P D vwCl (wX ad d E O G C F V S T P1 (nI n) (nI m) (nI w)) H := hP
    have hD : va_D A (wX ad d E O G C F V S T P1 (nI n) (nI m) (nI w)) := hD
    have hl : lv_has ls 4 [(0, .ref (ad 0)), (1, .int (nI J)), (2, .int (nI (ngN c i))), (3, .int (nI i))] := hl
    refine lv_iload_n hx hb dX1_solve_14 rfl (lv_at hl 3 rfl) ?_
    refine lv_aload_n hx hb dX1_solve_15 rfl (lv_at hl 0 rfl) ?_
    refine va_get (D := D) (ci := 0) (v := .int (nI m)) (C := RX1) (T := TX1) (N := 12) hx hb hts in_X1 hown hK hP 0 rfl rfl 10 (by decide) (hts _ q42) (fun _ h9 => h9) rfl dX1_solve_16 ?_
    refine lv_icmp_ge (tgt := 47) hx hb dX1_solve_19 (by decide) (fun c_19 => ?_) (fun c_19 => ?_)
    · have him_i : i = m := by have := le_c c_19; omega
      rw [him_i] at hl
      refine lv_aload_n hx hb dX1_solve_47 rfl (lv_at hl 0 rfl) ?_
      refine w_xv (As := []) (rest := []) ⟨hx, hb, hml, hown, hts⟩ (mX1_findWays l D d ad E O G C F V S T P1 n m w a b g hR c hc) (cwV 0 hts (lw_V q142 q144 qs8 q22 q145) rfl rfl rfl (by decide +kernel) ⟨Nat.le_of_ble_eq_true rfl, Nat.le_of_ble_eq_true rfl⟩) hP hK hD hS hA rfl hl.1 rfl (Nat.le_of_ble_eq_true rfl) dX1_solve_48 (fun u2 H locs hw2 hP hD hS => ?_)
      obtain ⟨F2, V2⟩ := u2
      have hP : va_P D vwCl (wX ad d E O G C F2 V2 S T P1 (nI n) (nI m) (nI w)) H := hP
      have hD : va_D A (wX ad d E O G C F2 V2 S T P1 (nI n) (nI m) (nI w)) := hD
      refine lv_iload_n hx hb dX1_solve_51 rfl (lv_at hl 1 rfl) ?_
      refine lv_aload_n hx hb dX1_solve_52 rfl (lv_at hl 0 rfl) ?_
      refine lv_iload_n hx hb dX1_solve_53 rfl (lv_at hl 2 rfl) ?_
      refine w_xi (As := [.int (nI (ngN c m))]) (rest := [.int (nI J)]) ⟨hx, hb, hml, hown, hts⟩ (mX1_oddOf l D d ad E O G C F2 V2 S T P1 n m w a b g hR (ngN c m) (ngN_lt (N := 12) hm12)) (cwV 1 hts (lw_V q106 q108 qs2 q22 q109) rfl rfl rfl (by decide +kernel) ⟨Nat.le_of_ble_eq_true rfl, Nat.le_of_ble_eq_true rfl⟩) hP hK hD hS hA rfl hl.1 rfl (Nat.le_of_ble_eq_true rfl) dX1_solve_54 (fun r _ H locs hw hP hD hS => ?_)
      subst hw
      have hP : va_P D vwCl (wX ad d E O G C F2 V2 S T P1 (nI n) (nI m) (nI w)) H := hP
      have hD : va_D A (wX ad d E O G C F2 V2 S T P1 (nI n) (nI m) (nI w)) := hD
      refine lv_ixor hx hb dX1_solve_57 ?_
      refine w_top (y := nI (goN a b c m J)) (nx_xor _ _) ?_
      refine lv_istore_n (lv' := [(3, .int (nI (goN a b c m J))), (0, .ref (ad 0)), (1, .int (nI J)), (2, .int (nI (ngN c m)))]) hx hb dX1_solve_58 rfl hl (by decide) rfl (fun ls hl => ?_)
      refine lv_aload_n hx hb dX1_solve_59 rfl (lv_at hl 1 rfl) ?_
      refine lv_iload_n hx hb dX1_solve_60 rfl (lv_at hl 0 rfl) ?_
      refine w_xv (As := [.int (nI (goN a b c m J))]) (rest := []) ⟨hx, hb, hml, hown, hts⟩ (mX1_pairUp l D d ad E O G C F2 V2 S T P1 n m w a b g hR (fwN a b c n m) hw2 (goN a b c m J) hgo) (cwV 1 hts (lw_V q151 q153 qs10 q22 q154) rfl rfl rfl (by decide +kernel) ⟨Nat.le_of_ble_eq_true rfl, Nat.le_of_ble_eq_true rfl⟩) hP hK hD hS hA rfl hl.1 rfl (Nat.le_of_ble_eq_true rfl) dX1_solve_61 (fun u3 H locs hw3 hP hD hS => ?_)
      obtain ⟨S3, T3⟩ := u3
      have hP : va_P D vwCl (wX ad d E O G C F2 V2 S3 T3 P1 (nI n) (nI m) (nI w)) H := hP
      have hD : va_D A (wX ad d E O G C F2 V2 S3 T3 P1 (nI n) (nI m) (nI w)) := hD
      refine lv_aload_n hx hb dX1_solve_64 rfl (lv_at hl 1 rfl) ?_
      refine va_get (D := D) (ci := 0) (v := .ref (ad 8)) (C := RX1) (T := TX1) (N := 12) hx hb hts in_X1 hown hK hP 0 rfl rfl 7 (by decide) (hts _ q39) (fun _ h9 => h9) rfl dX1_solve_65 ?_
      refine lv_iload_n hx hb dX1_solve_68 rfl (lv_at hl 0 rfl) ?_
      refine w_iald (v := (nI ((puN (fwN a b c n m) (fun _ => 0, fun _ => 0) (goN a b c m J) (goN a b c m J)).2 (goN a b c m J)))) hx hb hK hP 8 0 rfl rfl (by omega) (by decide) (hw3 _ (by omega)).2.1 dX1_solve_69 ?_
      refine lv_iload_n hx hb dX1_solve_70 rfl (lv_at hl 3 rfl) ?_
      refine lv_ixor hx hb dX1_solve_71 ?_
      refine w_top (y := nI (soJ a b c n m J)) (nx_xor _ _) ?_
      exact w_iret hx hb hr hlocks (P1, F2, V2, S3, T3) (Or.inl ⟨hpos, rfl⟩) hP hK hD hS dX1_solve_72
    · have hlt_i : i < m := nle_c c_19
      obtain ⟨hCi, hcb⟩ := hc i hlt_i
      refine lv_iload_n hx hb dX1_solve_22 rfl (lv_at hl 2 rfl) ?_
      refine lv_aload_n hx hb dX1_solve_23 rfl (lv_at hl 0 rfl) ?_
      refine va_get (D := D) (ci := 0) (v := .ref (ad 4)) (C := RX1) (T := TX1) (N := 12) hx hb hts in_X1 hown hK hP 0 rfl rfl 3 (by decide) (hts _ q35) (fun _ h9 => h9) rfl dX1_solve_24 ?_
      refine lv_iload_n hx hb dX1_solve_27 rfl (lv_at hl 3 rfl) ?_
      refine w_iald (v := (zI (c i))) hx hb hK hP 4 0 rfl rfl (by omega) (by decide) hCi dX1_solve_28 ?_
      refine lv_if_ge (tgt := 38) hx hb dX1_solve_29 (by decide) (fun c_29 => ?_) (fun c_29 => ?_)
      · have hng : ngN c (i + 1) = ngN c i ||| 0 := by rw [Nat.or_zero]; exact if_neg (Int.not_lt.mpr ((zI_ge0 ⟨by omega, by omega⟩).mp c_29))
        refine lv_iconst (v := nI 0) hx hb dX1_solve_38 (by decide) ?_
        refine lv_ior hx hb dX1_solve_39 ?_
        refine w_top (y := nI (ngN c (i + 1))) (by rw [hng]; exact nx_or _ _) ?_
        refine lv_istore_n (lv' := [(2, .int (nI (ngN c (i + 1)))), (0, .ref (ad 0)), (1, .int (nI J)), (3, .int (nI i))]) hx hb dX1_solve_40 rfl hl (by decide) rfl (fun ls hl => ?_)
        refine lv_iinc (v := (nI (i + 1))) (lv' := [(3, .int (nI (i + 1))), (2, .int (nI (ngN c (i + 1)))), (0, .ref (ad 0)), (1, .int (nI J))]) hx hb dX1_solve_41 hl (k := 3) rfl (nI_1 i) (by decide) rfl (fun ls hl => ?_)
        refine lv_goto (tgt := 14) hx hb dX1_solve_44 (by decide) ?_
        have hl : lv_has ls 4 [(0, .ref (ad 0)), (1, .int (nI J)), (2, .int (nI (ngN c (i + 1)))), (3, .int (nI (i + 1)))] := by exact lv_sub hl [2, 3, 1, 0] rfl
        exact IH_i () _ _ _ hlt_i trivial hP hD hS hl
      · have hng : ngN c (i + 1) = ngN c i ||| 2 ^ i := if_pos (Int.lt_of_not_ge (fun h => c_29 ((zI_ge0 ⟨by omega, by omega⟩).mpr h)))
        refine lv_iconst (v := 1) hx hb dX1_solve_32 (by decide) ?_
        refine lv_iload_n hx hb dX1_solve_33 rfl (lv_at hl 3 rfl) ?_
        refine lv_ishl hx hb dX1_solve_34 ?_
        refine w_top (y := nI (2 ^ i)) (b_shl1 _ (by omega)) ?_
        refine lv_goto (tgt := 39) hx hb dX1_solve_35 (by decide) ?_
        refine lv_ior hx hb dX1_solve_39 ?_
        refine w_top (y := nI (ngN c (i + 1))) (by rw [hng]; exact nx_or _ _) ?_
        refine lv_istore_n (lv' := [(2, .int (nI (ngN c (i + 1)))), (0, .ref (ad 0)), (1, .int (nI J)), (3, .int (nI i))]) hx hb dX1_solve_40 rfl hl (by decide) rfl (fun ls hl => ?_)
        refine lv_iinc (v := (nI (i + 1))) (lv' := [(3, .int (nI (i + 1))), (2, .int (nI (ngN c (i + 1)))), (0, .ref (ad 0)), (1, .int (nI J))]) hx hb dX1_solve_41 hl (k := 3) rfl (nI_1 i) (by decide) rfl (fun ls hl => ?_)
        refine lv_goto (tgt := 14) hx hb dX1_solve_44 (by decide) ?_
        have hl : lv_has ls 4 [(0, .ref (ad 0)), (1, .int (nI J)), (2, .int (nI (ngN c (i + 1)))), (3, .int (nI (i + 1)))] := by exact lv_sub hl [2, 3, 1, 0] rfl
        exact IH_i () _ _ _ hlt_i trivial hP hD hS hl
  · have hpos := or_f hw1 c_5
    refine lv_iconst (v := (-1)) hx hb dX1_solve_8 (by decide) ?_
    exact w_iret hx hb hr hlocks (P1, F, V, S, T) (Or.inr ⟨hpos, rfl⟩) hP hK hD hS dX1_solve_9
end
section
theorem repC_cd {n m w : Nat} {a b : Nat → Nat} {g : Nat → Int} (h : Okg n m w a b g) {j : Nat} {d : Int} (hj : j < m) (hd : d = 4194304 ∨ d = -4194304) {C : Nat → Int32} (hC : ∀ e, e < m → C e = zI (coN g e)) : RepC m (cdN g j d) (upd C j (zI (coN g j + d))) := by
  intro e he
  refine ⟨?_, cd_ok h hj hd e he⟩
  show (if _ then _ else _) = zI (if _ then _ else _)
  by_cases q : e = j
  · rw [if_pos q, if_pos q]
  · rw [if_neg q, if_neg q]; exact hC e he
set_option maxHeartbeats 4000000 in
set_option maxRecDepth 100000 in
theorem mX1_roads (l : Launch) (D : va_G) (d : ClassId) (ad : Nat → Nat) (E O G C F V S T P : Nat → Int32) (n m w : Nat) (a b : Nat → Nat) (g : Nat → Int) (hR : Rep n m w a b g E O G) : MI_ l yX1_roads (ws_ yX1_roads cX1_roads 1 (some .int)) rq3 D d (wX ad d E O G C F V S T P (nI n) (nI m) (nI w)) (fun u : Unit => (wX ad d E O G C F V S T P (nI n) (nI m) (nI w))) [.ref (ad 0)] (fun (r : Int32) u => r = nI m) := by
  have hR0 := hR
  obtain ⟨⟨⟨hn2, hn7, hm12, hw7⟩, hok⟩, hE⟩ := hR0
  refine MI_mk (lv := [(0, .ref (ad 0))]) (by decide) (Nat.le_of_ble_eq_true rfl) rfl fun pg en s mm below meth cd A ls hx hb hr hlocks hml hown hts hA hP hK hD hS hl => ?_
  have hown : s.vm.findClass RX1 = some mm.cls := hown
  refine w_start fun H locs hH hL => ?_
  rw [← hH] at hP
  replace hS : va_S A s.heap H locs := by rw [hL, hH]; exact va_S.rf
  refine lv_aload_n hx hb dX1_roads_0 rfl (lv_at hl 0 rfl) ?_
  refine va_get (D := D) (ci := 0) (v := .int (nI m)) (C := RX1) (T := TX1) (N := 12) hx hb hts in_X1 hown hK hP 0 rfl rfl 10 (by decide) (hts _ q42) (fun _ h9 => h9) rfl dX1_roads_1 ?_
  exact w_iret hx hb hr hlocks () rfl hP hK hD hS dX1_roads_4
set_option maxHeartbeats 4000000 in
set_option maxRecDepth 100000 in
theorem mX1_road (l : Launch) (D : va_G) (d : ClassId) (ad : Nat → Nat) (E O G C F V S T P : Nat → Int32) (n m w : Nat) (a b : Nat → Nat) (g : Nat → Int) (hR : Rep n m w a b g E O G) (x y t : Int32) : MI_ l yX1_road (ws_ yX1_road cX1_road 4 (some .int)) rq3 D d (wX ad d E O G C F V S T P (nI n) (nI m) (nI w)) (fun u : (Nat → Int32) × (Nat → Int32) × (Nat → Int32) × (Nat) => (wX ad d u.1 u.2.1 u.2.2.1 C F V S T P (nI n) (nI u.2.2.2) (nI w))) [.ref (ad 0), .int x, .int y, .int t] (fun (r : Int32) u => RoadR n m w a b g x y t r u.2.2.2 u.1 u.2.1 u.2.2.1) := by
  have hR0 := hR
  obtain ⟨⟨⟨hn2, hn7, hm12, hw7⟩, hok⟩, hE⟩ := hR0
  refine MI_mk (lv := [(0, .ref (ad 0)), (1, .int x), (2, .int y), (3, .int t)]) (by decide) (Nat.le_of_ble_eq_true rfl) rfl fun pg en s mm below meth cd A ls hx hb hr hlocks hml hown hts hA hP hK hD hS hl => ?_
  have hown : s.vm.findClass RX1 = some mm.cls := hown
  refine w_start fun H locs hH hL => ?_
  rw [← hH] at hP
  replace hS : va_S A s.heap H locs := by rw [hL, hH]; exact va_S.rf
  refine lv_aload_n hx hb dX1_road_0 rfl (lv_at hl 0 rfl) ?_
  refine lv_iload_n hx hb dX1_road_1 rfl (lv_at hl 1 rfl) ?_
  refine w_xi (As := [.int x]) (rest := []) ⟨hx, hb, hml, hown, hts⟩ (mX1_isPlace l D d ad E O G C F V S T P n m w a b g hR x) (cwV 1 hts (lw_V q74 q76 qs0 q22 q77) rfl rfl rfl (by decide +kernel) ⟨Nat.le_of_ble_eq_true rfl, Nat.le_of_ble_eq_true rfl⟩) hP hK hD hS hA rfl hl.1 rfl (Nat.le_of_ble_eq_true rfl) dX1_road_2 (fun r1 _ H locs hw1 hP hD hS => ?_)
  have hP : va_P D vwCl (wX ad d E O G C F V S T P (nI n) (nI m) (nI w)) H := hP
  have hD : va_D A (wX ad d E O G C F V S T P (nI n) (nI m) (nI w)) := hD
  refine lv_if_eq (tgt := 16) hx hb dX1_road_5 (by decide) (fun c_5 => ?_) (fun c_5 => ?_)
  · have hbad := or_f hw1 c_5
    refine lv_iconst (v := (-1)) hx hb dX1_road_16 (by decide) ?_
    exact w_iret hx hb hr hlocks (E, O, G, m) (Or.inl ⟨by first | exact fun q => hbad q.1 | exact fun q => or_f hw2 c_13 q.2, rfl, rfl, hR⟩) hP hK hD hS dX1_road_17
  · have hx1 := or_t hw1 c_5
    refine lv_aload_n hx hb dX1_road_8 rfl (lv_at hl 0 rfl) ?_
    refine lv_iload_n hx hb dX1_road_9 rfl (lv_at hl 2 rfl) ?_
    refine w_xi (As := [.int y]) (rest := []) ⟨hx, hb, hml, hown, hts⟩ (mX1_isPlace l D d ad E O G C F V S T P n m w a b g hR y) (cwV 1 hts (lw_V q74 q76 qs0 q22 q77) rfl rfl rfl (by decide +kernel) ⟨Nat.le_of_ble_eq_true rfl, Nat.le_of_ble_eq_true rfl⟩) hP hK hD hS hA rfl hl.1 rfl (Nat.le_of_ble_eq_true rfl) dX1_road_10 (fun r2 _ H locs hw2 hP hD hS => ?_)
    have hP : va_P D vwCl (wX ad d E O G C F V S T P (nI n) (nI m) (nI w)) H := hP
    have hD : va_D A (wX ad d E O G C F V S T P (nI n) (nI m) (nI w)) := hD
    refine lv_if_ne (tgt := 18) hx hb dX1_road_13 (by decide) (fun c_13 => ?_) (fun c_13 => ?_)
    · have hy1 := or_t hw2 c_13
      refine lv_iload_n hx hb dX1_road_18 rfl (lv_at hl 3 rfl) ?_
      refine lv_bipush (v := (-9)) hx hb dX1_road_19 (by decide) ?_
      refine lv_icmp_lt (tgt := 30) hx hb dX1_road_21 (by decide) (fun c_21 => ?_) (fun c_21 => ?_)
      · refine lv_bipush (v := (-2)) hx hb dX1_road_30 (by decide) ?_
        exact w_iret hx hb hr hlocks (E, O, G, m) (Or.inr (Or.inl ⟨⟨hx1, hy1⟩, by first | exact tok_lo c_21 | exact tok_hi c_27, rfl, rfl, hR⟩)) hP hK hD hS dX1_road_32
      · refine lv_iload_n hx hb dX1_road_24 rfl (lv_at hl 3 rfl) ?_
        refine lv_bipush (v := 20) hx hb dX1_road_25 (by decide) ?_
        refine lv_icmp_le (tgt := 33) hx hb dX1_road_27 (by decide) (fun c_27 => ?_) (fun c_27 => ?_)
        · have ht1 := tok_of c_21 c_27
          refine lv_aload_n hx hb dX1_road_33 rfl (lv_at hl 0 rfl) ?_
          refine va_get (D := D) (ci := 0) (v := .int (nI m)) (C := RX1) (T := TX1) (N := 12) hx hb hts in_X1 hown hK hP 0 rfl rfl 10 (by decide) (hts _ q42) (fun _ h9 => h9) rfl dX1_road_34 ?_
          refine lv_bipush (v := nI 12) hx hb dX1_road_37 (by decide) ?_
          refine lv_icmp_ne (tgt := 45) hx hb dX1_road_39 (by decide) (fun c_39 => ?_) (fun c_39 => ?_)
          · have hm11 : m < 12 := by have := ne_c c_39; omega
            refine lv_aload_n hx hb dX1_road_45 rfl (lv_at hl 0 rfl) ?_
            refine va_get (D := D) (ci := 0) (v := .ref (ad 1)) (C := RX1) (T := TX1) (N := 12) hx hb hts in_X1 hown hK hP 0 rfl rfl 0 (by decide) (hts _ q32) (fun _ h9 => h9) rfl dX1_road_46 ?_
            refine lv_aload_n hx hb dX1_road_49 rfl (lv_at hl 0 rfl) ?_
            refine va_get (D := D) (ci := 0) (v := .int (nI m)) (C := RX1) (T := TX1) (N := 12) hx hb hts in_X1 hown hK hP 0 rfl rfl 10 (by decide) (hts _ q42) (fun _ h9 => h9) rfl dX1_road_50 ?_
            refine lv_iload_n hx hb dX1_road_53 rfl (lv_at hl 1 rfl) ?_
            refine w_iast hx hb hK hP hD hS 1 0 rfl rfl (by omega) (by decide) dX1_road_54 (fun H locs hP hD hS => ?_)
            have hP : va_P D vwCl (wX ad d (upd E m x) O G C F V S T P (nI n) (nI m) (nI w)) H := hP
            have hD : va_D A (wX ad d (upd E m x) O G C F V S T P (nI n) (nI m) (nI w)) := hD
            refine lv_aload_n hx hb dX1_road_55 rfl (lv_at hl 0 rfl) ?_
            refine va_get (D := D) (ci := 0) (v := .ref (ad 2)) (C := RX1) (T := TX1) (N := 12) hx hb hts in_X1 hown hK hP 0 rfl rfl 1 (by decide) (hts _ q33) (fun _ h9 => h9) rfl dX1_road_56 ?_
            refine lv_aload_n hx hb dX1_road_59 rfl (lv_at hl 0 rfl) ?_
            refine va_get (D := D) (ci := 0) (v := .int (nI m)) (C := RX1) (T := TX1) (N := 12) hx hb hts in_X1 hown hK hP 0 rfl rfl 10 (by decide) (hts _ q42) (fun _ h9 => h9) rfl dX1_road_60 ?_
            refine lv_iload_n hx hb dX1_road_63 rfl (lv_at hl 2 rfl) ?_
            refine w_iast hx hb hK hP hD hS 2 0 rfl rfl (by omega) (by decide) dX1_road_64 (fun H locs hP hD hS => ?_)
            have hP : va_P D vwCl (wX ad d (upd E m x) (upd O m y) G C F V S T P (nI n) (nI m) (nI w)) H := hP
            have hD : va_D A (wX ad d (upd E m x) (upd O m y) G C F V S T P (nI n) (nI m) (nI w)) := hD
            refine lv_aload_n hx hb dX1_road_65 rfl (lv_at hl 0 rfl) ?_
            refine va_get (D := D) (ci := 0) (v := .ref (ad 3)) (C := RX1) (T := TX1) (N := 12) hx hb hts in_X1 hown hK hP 0 rfl rfl 2 (by decide) (hts _ q34) (fun _ h9 => h9) rfl dX1_road_66 ?_
            refine lv_aload_n hx hb dX1_road_69 rfl (lv_at hl 0 rfl) ?_
            refine va_get (D := D) (ci := 0) (v := .int (nI m)) (C := RX1) (T := TX1) (N := 12) hx hb hts in_X1 hown hK hP 0 rfl rfl 10 (by decide) (hts _ q42) (fun _ h9 => h9) rfl dX1_road_70 ?_
            refine lv_iload_n hx hb dX1_road_73 rfl (lv_at hl 3 rfl) ?_
            refine w_iast hx hb hK hP hD hS 3 0 rfl rfl (by omega) (by decide) dX1_road_74 (fun H locs hP hD hS => ?_)
            have hP : va_P D vwCl (wX ad d (upd E m x) (upd O m y) (upd G m t) C F V S T P (nI n) (nI m) (nI w)) H := hP
            have hD : va_D A (wX ad d (upd E m x) (upd O m y) (upd G m t) C F V S T P (nI n) (nI m) (nI w)) := hD
            refine lv_aload_n hx hb dX1_road_75 rfl (lv_at hl 0 rfl) ?_
            refine lv_dup hx hb dX1_road_76 rfl ?_
            refine va_get (D := D) (ci := 0) (v := .int (nI m)) (C := RX1) (T := TX1) (N := 12) hx hb hts in_X1 hown hK hP 0 rfl rfl 10 (by decide) (hts _ q42) (fun _ h9 => h9) rfl dX1_road_77 ?_
            refine lv_iconst (v := 1) hx hb dX1_road_80 (by decide) ?_
            refine lv_iadd hx hb dX1_road_81 ?_
            refine w_top (y := nI (m + 1)) (nI_1 m) ?_
            refine va_put (D := D) (ci := 0) (v := .int (nI (m + 1))) (ty := .int) (C := RX1) (T := TX1) (N := 12) hx hb hts in_X1 tyX1 tyX1_ok nmX1 hown hK hP hD hS 0 rfl rfl 10 (by decide) (hts _ q42) (fun _ h9 => h9) rfl (by decide +kernel) rfl rfl (Nat.le_of_ble_eq_true rfl) dX1_road_82 (fun H locs hP hD hS => ?_)
            have hP : va_P D vwCl (wX ad d (upd E m x) (upd O m y) (upd G m t) C F V S T P (nI n) ((nI (m + 1))) (nI w)) H := hP
            have hD : va_D A (wX ad d (upd E m x) (upd O m y) (upd G m t) C F V S T P (nI n) ((nI (m + 1))) (nI w)) := hD
            refine lv_aload_n hx hb dX1_road_85 rfl (lv_at hl 0 rfl) ?_
            refine va_get (D := D) (ci := 0) (v := .int ((nI (m + 1)))) (C := RX1) (T := TX1) (N := 12) hx hb hts in_X1 hown hK hP 0 rfl rfl 10 (by decide) (hts _ q42) (fun _ h9 => h9) rfl dX1_road_86 ?_
            refine lv_iconst (v := 1) hx hb dX1_road_89 (by decide) ?_
            refine lv_isub hx hb dX1_road_90 ?_
            refine w_top (y := nI m) (nI_pred m) ?_
            exact w_iret hx hb hr hlocks (upd E m x, upd O m y, upd G m t, m + 1) (Or.inr (Or.inr (Or.inr ⟨⟨hx1, hy1⟩, ht1, hm11, rfl, rfl, rep_road hR hx1 hy1 ht1 hm11⟩))) hP hK hD hS dX1_road_91
          · have hm11 : m = 12 := eq_c c_39
            refine lv_bipush (v := (-3)) hx hb dX1_road_42 (by decide) ?_
            exact w_iret hx hb hr hlocks (E, O, G, m) (Or.inr (Or.inr (Or.inl ⟨⟨hx1, hy1⟩, ht1, hm11, rfl, rfl, hR⟩))) hP hK hD hS dX1_road_44
        · refine lv_bipush (v := (-2)) hx hb dX1_road_30 (by decide) ?_
          exact w_iret hx hb hr hlocks (E, O, G, m) (Or.inr (Or.inl ⟨⟨hx1, hy1⟩, by first | exact tok_lo c_21 | exact tok_hi c_27, rfl, rfl, hR⟩)) hP hK hD hS dX1_road_32
    · refine lv_iconst (v := (-1)) hx hb dX1_road_16 (by decide) ?_
      exact w_iret hx hb hr hlocks (E, O, G, m) (Or.inl ⟨by first | exact fun q => hbad q.1 | exact fun q => or_f hw2 c_13 q.2, rfl, rfl, hR⟩) hP hK hD hS dX1_road_17
set_option maxHeartbeats 4000000 in
set_option maxRecDepth 100000 in
theorem mX1_remove (l : Launch) (D : va_G) (d : ClassId) (ad : Nat → Nat) (E O G C F V S T P : Nat → Int32) (n m w : Nat) (a b : Nat → Nat) (g : Nat → Int) (hR : Rep n m w a b g E O G) (x : Int32) : MI_ l yX1_remove (ws_ yX1_remove cX1_remove 3 (some .int)) rq3 D d (wX ad d E O G C F V S T P (nI n) (nI m) (nI w)) (fun u : (Nat → Int32) × (Nat → Int32) × (Nat → Int32) × (Nat) => (wX ad d u.1 u.2.1 u.2.2.1 C F V S T P (nI n) (nI u.2.2.2) (nI w))) [.ref (ad 0), .int x] (fun (r : Int32) u => RemR n m w a b g x r u.2.2.2 u.1 u.2.1 u.2.2.1) := by
  have hR0 := hR
  obtain ⟨⟨⟨hn2, hn7, hm12, hw7⟩, hok⟩, hE⟩ := hR0
  refine MI_mk (lv := [(0, .ref (ad 0)), (1, .int x)]) (by decide) (Nat.le_of_ble_eq_true rfl) rfl fun pg en s mm below meth cd A ls hx hb hr hlocks hml hown hts hA hP hK hD hS hl => ?_
  have hown : s.vm.findClass RX1 = some mm.cls := hown
  refine w_start fun H locs hH hL => ?_
  rw [← hH] at hP
  replace hS : va_S A s.heap H locs := by rw [hL, hH]; exact va_S.rf
  refine lv_aload_n hx hb dX1_remove_0 rfl (lv_at hl 0 rfl) ?_
  refine lv_iload_n hx hb dX1_remove_1 rfl (lv_at hl 1 rfl) ?_
  refine w_xi (As := [.int x]) (rest := []) ⟨hx, hb, hml, hown, hts⟩ (mX1_isRoad l D d ad E O G C F V S T P n m w a b g hR x) (cwV 1 hts (lw_V q82 q84 qs1 q22 q85) rfl rfl rfl (by decide +kernel) ⟨Nat.le_of_ble_eq_true rfl, Nat.le_of_ble_eq_true rfl⟩) hP hK hD hS hA rfl hl.1 rfl (Nat.le_of_ble_eq_true rfl) dX1_remove_2 (fun r1 _ H locs hw1 hP hD hS => ?_)
  have hP : va_P D vwCl (wX ad d E O G C F V S T P (nI n) (nI m) (nI w)) H := hP
  have hD : va_D A (wX ad d E O G C F V S T P (nI n) (nI m) (nI w)) := hD
  refine lv_if_ne (tgt := 10) hx hb dX1_remove_5 (by decide) (fun c_5 => ?_) (fun c_5 => ?_)
  · obtain ⟨j, hj, rfl⟩ := or_t hw1 c_5
    refine lv_iload_n hx hb dX1_remove_10 rfl (lv_at hl 1 rfl) ?_
    refine lv_iconst (v := 1) hx hb dX1_remove_11 (by decide) ?_
    refine lv_iadd hx hb dX1_remove_12 ?_
    refine w_top (y := nI (j + 1)) (nI_1 j) ?_
    refine lv_istore_n (lv' := [(2, .int (nI (j + 1))), (0, .ref (ad 0)), (1, .int (nI j))]) hx hb dX1_remove_13 rfl hl (by decide) rfl (fun ls hl => ?_)
    refine w_for (σ := (Nat → Int32) × (Nat → Int32) × (Nat → Int32)) (m - 1) (fun u => (wX ad d u.1 u.2.1 u.2.2 C F V S T P (nI n) (nI m) (nI w))) (fun i u => [(0, .ref (ad 0)), (1, .int (nI j)), (2, .int (nI (i + 1)))]) (fun i u => j ≤ i ∧ u.1 = shI E j i ∧ u.2.1 = shI O j i ∧ u.2.2 = shI G j i) (fun i hi_i IH_i u H locs ls hI_i hP hD hS hl => ?_) (i0 := j) (by omega) (E, O, G) ⟨Nat.le_refl _, (shI_0 _ _).symm, (shI_0 _ _).symm, (shI_0 _ _).symm⟩ hP hD hS (lv_sub hl [1, 2, 0] rfl)
    obtain ⟨E1, O1, G1⟩ := u
    have hP : va_P D vwCl (wX ad d E1 O1 G1 C F V S T P (nI n) (nI m) (nI w)) H := hP
    have hD : va_D A (wX ad d E1 O1 G1 C F V S T P (nI n) (nI m) (nI w)) := hD
    have hl : lv_has ls 3 [(0, .ref (ad 0)), (1, .int (nI j)), (2, .int (nI (i + 1)))] := hl
    have hI_i : j ≤ i ∧ E1 = shI E j i ∧ O1 = shI O j i ∧ G1 = shI G j i := hI_i
    obtain ⟨hji, rfl, rfl, rfl⟩ := hI_i
    have hP : va_P D vwCl (wX ad d (shI E j i) (shI O j i) (shI G j i) C F V S T P (nI n) (nI m) (nI w)) H := hP
    have hD : va_D A (wX ad d (shI E j i) (shI O j i) (shI G j i) C F V S T P (nI n) (nI m) (nI w)) := hD
    refine lv_iload_n hx hb dX1_remove_14 rfl (lv_at hl 2 rfl) ?_
    refine lv_aload_n hx hb dX1_remove_15 rfl (lv_at hl 0 rfl) ?_
    refine va_get (D := D) (ci := 0) (v := .int (nI m)) (C := RX1) (T := TX1) (N := 12) hx hb hts in_X1 hown hK hP 0 rfl rfl 10 (by decide) (hts _ q42) (fun _ h9 => h9) rfl dX1_remove_16 ?_
    refine lv_icmp_ge (tgt := 70) hx hb dX1_remove_19 (by decide) (fun c_19 => ?_) (fun c_19 => ?_)
    · have him_i : i = m - 1 := by have := le_c c_19; omega
      refine lv_aload_n hx hb dX1_remove_70 rfl (lv_at hl 0 rfl) ?_
      refine lv_dup hx hb dX1_remove_71 rfl ?_
      refine va_get (D := D) (ci := 0) (v := .int (nI m)) (C := RX1) (T := TX1) (N := 12) hx hb hts in_X1 hown hK hP 0 rfl rfl 10 (by decide) (hts _ q42) (fun _ h9 => h9) rfl dX1_remove_72 ?_
      refine lv_iconst (v := 1) hx hb dX1_remove_75 (by decide) ?_
      refine lv_isub hx hb dX1_remove_76 ?_
      refine w_top (y := nI (m - 1)) (pk_sub (a := m) (b := 1) (by omega)) ?_
      refine va_put (D := D) (ci := 0) (v := .int (nI (m - 1))) (ty := .int) (C := RX1) (T := TX1) (N := 12) hx hb hts in_X1 tyX1 tyX1_ok nmX1 hown hK hP hD hS 0 rfl rfl 10 (by decide) (hts _ q42) (fun _ h9 => h9) rfl (by decide +kernel) rfl rfl (Nat.le_of_ble_eq_true rfl) dX1_remove_77 (fun H locs hP hD hS => ?_)
      have hP : va_P D vwCl (wX ad d (shI E j i) (shI O j i) (shI G j i) C F V S T P (nI n) ((nI (m - 1))) (nI w)) H := hP
      have hD : va_D A (wX ad d (shI E j i) (shI O j i) (shI G j i) C F V S T P (nI n) ((nI (m - 1))) (nI w)) := hD
      refine lv_aload_n hx hb dX1_remove_80 rfl (lv_at hl 0 rfl) ?_
      refine va_get (D := D) (ci := 0) (v := .int ((nI (m - 1)))) (C := RX1) (T := TX1) (N := 12) hx hb hts in_X1 hown hK hP 0 rfl rfl 10 (by decide) (hts _ q42) (fun _ h9 => h9) rfl dX1_remove_81 ?_
      exact w_iret hx hb hr hlocks (shI E j i, shI O j i, shI G j i, m - 1) (Or.inr ⟨j, hj, rfl, rfl, rfl, by rw [him_i]; exact rep_rem hR hj⟩) hP hK hD hS dX1_remove_84
    · have hlt_i : i < m - 1 := by have := nle_c c_19; omega
      refine lv_aload_n hx hb dX1_remove_22 rfl (lv_at hl 0 rfl) ?_
      refine va_get (D := D) (ci := 0) (v := .ref (ad 1)) (C := RX1) (T := TX1) (N := 12) hx hb hts in_X1 hown hK hP 0 rfl rfl 0 (by decide) (hts _ q32) (fun _ h9 => h9) rfl dX1_remove_23 ?_
      refine lv_iload_n hx hb dX1_remove_26 rfl (lv_at hl 2 rfl) ?_
      refine lv_iconst (v := 1) hx hb dX1_remove_27 (by decide) ?_
      refine lv_isub hx hb dX1_remove_28 ?_
      refine w_top (y := nI i) (nI_pred i) ?_
      refine lv_aload_n hx hb dX1_remove_29 rfl (lv_at hl 0 rfl) ?_
      refine va_get (D := D) (ci := 0) (v := .ref (ad 1)) (C := RX1) (T := TX1) (N := 12) hx hb hts in_X1 hown hK hP 0 rfl rfl 0 (by decide) (hts _ q32) (fun _ h9 => h9) rfl dX1_remove_30 ?_
      refine lv_iload_n hx hb dX1_remove_33 rfl (lv_at hl 2 rfl) ?_
      refine w_iald (v := ((shI E j i) (i + 1))) hx hb hK hP 1 0 rfl rfl (by omega) (by decide) rfl dX1_remove_34 ?_
      refine w_iast hx hb hK hP hD hS 1 0 rfl rfl (by omega) (by decide) dX1_remove_35 (fun H locs hP hD hS => ?_)
      have hP : va_P D vwCl (wX ad d (upd (shI E j i) i ((shI E j i) (i + 1))) (shI O j i) (shI G j i) C F V S T P (nI n) (nI m) (nI w)) H := hP
      have hD : va_D A (wX ad d (upd (shI E j i) i ((shI E j i) (i + 1))) (shI O j i) (shI G j i) C F V S T P (nI n) (nI m) (nI w)) := hD
      refine lv_aload_n hx hb dX1_remove_36 rfl (lv_at hl 0 rfl) ?_
      refine va_get (D := D) (ci := 0) (v := .ref (ad 2)) (C := RX1) (T := TX1) (N := 12) hx hb hts in_X1 hown hK hP 0 rfl rfl 1 (by decide) (hts _ q33) (fun _ h9 => h9) rfl dX1_remove_37 ?_
      refine lv_iload_n hx hb dX1_remove_40 rfl (lv_at hl 2 rfl) ?_
      refine lv_iconst (v := 1) hx hb dX1_remove_41 (by decide) ?_
      refine lv_isub hx hb dX1_remove_42 ?_
      refine w_top (y := nI i) (nI_pred i) ?_
      refine lv_aload_n hx hb dX1_remove_43 rfl (lv_at hl 0 rfl) ?_
      refine va_get (D := D) (ci := 0) (v := .ref (ad 2)) (C := RX1) (T := TX1) (N := 12) hx hb hts in_X1 hown hK hP 0 rfl rfl 1 (by decide) (hts _ q33) (fun _ h9 => h9) rfl dX1_remove_44 ?_
      refine lv_iload_n hx hb dX1_remove_47 rfl (lv_at hl 2 rfl) ?_
      refine w_iald (v := ((shI O j i) (i + 1))) hx hb hK hP 2 0 rfl rfl (by omega) (by decide) rfl dX1_remove_48 ?_
      refine w_iast hx hb hK hP hD hS 2 0 rfl rfl (by omega) (by decide) dX1_remove_49 (fun H locs hP hD hS => ?_)
      have hP : va_P D vwCl (wX ad d (upd (shI E j i) i ((shI E j i) (i + 1))) (upd (shI O j i) i ((shI O j i) (i + 1))) (shI G j i) C F V S T P (nI n) (nI m) (nI w)) H := hP
      have hD : va_D A (wX ad d (upd (shI E j i) i ((shI E j i) (i + 1))) (upd (shI O j i) i ((shI O j i) (i + 1))) (shI G j i) C F V S T P (nI n) (nI m) (nI w)) := hD
      refine lv_aload_n hx hb dX1_remove_50 rfl (lv_at hl 0 rfl) ?_
      refine va_get (D := D) (ci := 0) (v := .ref (ad 3)) (C := RX1) (T := TX1) (N := 12) hx hb hts in_X1 hown hK hP 0 rfl rfl 2 (by decide) (hts _ q34) (fun _ h9 => h9) rfl dX1_remove_51 ?_
      refine lv_iload_n hx hb dX1_remove_54 rfl (lv_at hl 2 rfl) ?_
      refine lv_iconst (v := 1) hx hb dX1_remove_55 (by decide) ?_
      refine lv_isub hx hb dX1_remove_56 ?_
      refine w_top (y := nI i) (nI_pred i) ?_
      refine lv_aload_n hx hb dX1_remove_57 rfl (lv_at hl 0 rfl) ?_
      refine va_get (D := D) (ci := 0) (v := .ref (ad 3)) (C := RX1) (T := TX1) (N := 12) hx hb hts in_X1 hown hK hP 0 rfl rfl 2 (by decide) (hts _ q34) (fun _ h9 => h9) rfl dX1_remove_58 ?_
      refine lv_iload_n hx hb dX1_remove_61 rfl (lv_at hl 2 rfl) ?_
      refine w_iald (v := ((shI G j i) (i + 1))) hx hb hK hP 3 0 rfl rfl (by omega) (by decide) rfl dX1_remove_62 ?_
      refine w_iast hx hb hK hP hD hS 3 0 rfl rfl (by omega) (by decide) dX1_remove_63 (fun H locs hP hD hS => ?_)
      have hP : va_P D vwCl (wX ad d (upd (shI E j i) i ((shI E j i) (i + 1))) (upd (shI O j i) i ((shI O j i) (i + 1))) (upd (shI G j i) i ((shI G j i) (i + 1))) C F V S T P (nI n) (nI m) (nI w)) H := hP
      have hD : va_D A (wX ad d (upd (shI E j i) i ((shI E j i) (i + 1))) (upd (shI O j i) i ((shI O j i) (i + 1))) (upd (shI G j i) i ((shI G j i) (i + 1))) C F V S T P (nI n) (nI m) (nI w)) := hD
      refine lv_iinc (v := (nI ((i + 1) + 1))) (lv' := [(2, .int (nI ((i + 1) + 1))), (0, .ref (ad 0)), (1, .int (nI j))]) hx hb dX1_remove_64 hl (k := 2) rfl (nI_1 (i + 1)) (by decide) rfl (fun ls hl => ?_)
      refine lv_goto (tgt := 14) hx hb dX1_remove_67 (by decide) ?_
      have hl : lv_has ls 3 [(0, .ref (ad 0)), (1, .int (nI j)), (2, .int (nI ((i + 1) + 1)))] := by exact lv_sub hl [1, 2, 0] rfl
      exact IH_i (upd (shI E j i) i ((shI E j i) (i + 1)), upd (shI O j i) i ((shI O j i) (i + 1)), upd (shI G j i) i ((shI G j i) (i + 1))) _ _ _ hlt_i ⟨by omega, shI_s hji, shI_s hji, shI_s hji⟩ hP hD hS hl
  · refine lv_iconst (v := (-1)) hx hb dX1_remove_8 (by decide) ?_
    exact w_iret hx hb hr hlocks (E, O, G, m) (Or.inl ⟨or_f hw1 c_5, rfl, rfl, hR⟩) hP hK hD hS dX1_remove_9
set_option maxHeartbeats 4000000 in
set_option maxRecDepth 100000 in
theorem mX1_weigh (l : Launch) (D : va_G) (d : ClassId) (ad : Nat → Nat) (E O G C F V S T P : Nat → Int32) (n m w : Nat) (a b : Nat → Nat) (g : Nat → Int) (hR : Rep n m w a b g E O G) (x t : Int32) : MI_ l yX1_weigh (ws_ yX1_weigh cX1_weigh 4 (some .int)) rq3 D d (wX ad d E O G C F V S T P (nI n) (nI m) (nI w)) (fun u : Nat → Int32 => (wX ad d E O u C F V S T P (nI n) (nI m) (nI w))) [.ref (ad 0), .int x, .int t] (fun (r : Int32) u => WeiR n m w a b g x t r E O u) := by
  have hR0 := hR
  obtain ⟨⟨⟨hn2, hn7, hm12, hw7⟩, hok⟩, hE⟩ := hR0
  refine MI_mk (lv := [(0, .ref (ad 0)), (1, .int x), (2, .int t)]) (by decide) (Nat.le_of_ble_eq_true rfl) rfl fun pg en s mm below meth cd A ls hx hb hr hlocks hml hown hts hA hP hK hD hS hl => ?_
  have hown : s.vm.findClass RX1 = some mm.cls := hown
  refine w_start fun H locs hH hL => ?_
  rw [← hH] at hP
  replace hS : va_S A s.heap H locs := by rw [hL, hH]; exact va_S.rf
  refine lv_aload_n hx hb dX1_weigh_0 rfl (lv_at hl 0 rfl) ?_
  refine lv_iload_n hx hb dX1_weigh_1 rfl (lv_at hl 1 rfl) ?_
  refine w_xi (As := [.int x]) (rest := []) ⟨hx, hb, hml, hown, hts⟩ (mX1_isRoad l D d ad E O G C F V S T P n m w a b g hR x) (cwV 1 hts (lw_V q82 q84 qs1 q22 q85) rfl rfl rfl (by decide +kernel) ⟨Nat.le_of_ble_eq_true rfl, Nat.le_of_ble_eq_true rfl⟩) hP hK hD hS hA rfl hl.1 rfl (Nat.le_of_ble_eq_true rfl) dX1_weigh_2 (fun r1 _ H locs hw1 hP hD hS => ?_)
  have hP : va_P D vwCl (wX ad d E O G C F V S T P (nI n) (nI m) (nI w)) H := hP
  have hD : va_D A (wX ad d E O G C F V S T P (nI n) (nI m) (nI w)) := hD
  refine lv_if_ne (tgt := 10) hx hb dX1_weigh_5 (by decide) (fun c_5 => ?_) (fun c_5 => ?_)
  · obtain ⟨j, hj, rfl⟩ := or_t hw1 c_5
    refine lv_iload_n hx hb dX1_weigh_10 rfl (lv_at hl 2 rfl) ?_
    refine lv_bipush (v := (-9)) hx hb dX1_weigh_11 (by decide) ?_
    refine lv_icmp_lt (tgt := 22) hx hb dX1_weigh_13 (by decide) (fun c_13 => ?_) (fun c_13 => ?_)
    · refine lv_bipush (v := (-2)) hx hb dX1_weigh_22 (by decide) ?_
      exact w_iret hx hb hr hlocks G (Or.inr (Or.inl ⟨j, hj, rfl, by first | exact tok_lo c_13 | exact tok_hi c_19, rfl, hR⟩)) hP hK hD hS dX1_weigh_24
    · refine lv_iload_n hx hb dX1_weigh_16 rfl (lv_at hl 2 rfl) ?_
      refine lv_bipush (v := 20) hx hb dX1_weigh_17 (by decide) ?_
      refine lv_icmp_le (tgt := 25) hx hb dX1_weigh_19 (by decide) (fun c_19 => ?_) (fun c_19 => ?_)
      · have ht1 := tok_of c_13 c_19
        refine lv_aload_n hx hb dX1_weigh_25 rfl (lv_at hl 0 rfl) ?_
        refine va_get (D := D) (ci := 0) (v := .ref (ad 3)) (C := RX1) (T := TX1) (N := 12) hx hb hts in_X1 hown hK hP 0 rfl rfl 2 (by decide) (hts _ q34) (fun _ h9 => h9) rfl dX1_weigh_26 ?_
        refine lv_iload_n hx hb dX1_weigh_29 rfl (lv_at hl 1 rfl) ?_
        refine w_iald (v := (zI (g j))) hx hb hK hP 3 0 rfl rfl (by omega) (by decide) (hE j hj).2.2 dX1_weigh_30 ?_
        refine lv_istore_n (lv' := [(3, .int (zI (g j))), (0, .ref (ad 0)), (1, .int (nI j)), (2, .int t)]) hx hb dX1_weigh_31 rfl hl (by decide) rfl (fun ls hl => ?_)
        refine lv_aload_n hx hb dX1_weigh_32 rfl (lv_at hl 1 rfl) ?_
        refine va_get (D := D) (ci := 0) (v := .ref (ad 3)) (C := RX1) (T := TX1) (N := 12) hx hb hts in_X1 hown hK hP 0 rfl rfl 2 (by decide) (hts _ q34) (fun _ h9 => h9) rfl dX1_weigh_33 ?_
        refine lv_iload_n hx hb dX1_weigh_36 rfl (lv_at hl 2 rfl) ?_
        refine lv_iload_n hx hb dX1_weigh_37 rfl (lv_at hl 3 rfl) ?_
        refine w_iast hx hb hK hP hD hS 3 0 rfl rfl (by omega) (by decide) dX1_weigh_38 (fun H locs hP hD hS => ?_)
        have hP : va_P D vwCl (wX ad d E O (upd G j t) C F V S T P (nI n) (nI m) (nI w)) H := hP
        have hD : va_D A (wX ad d E O (upd G j t) C F V S T P (nI n) (nI m) (nI w)) := hD
        refine lv_iload_n hx hb dX1_weigh_39 rfl (lv_at hl 0 rfl) ?_
        exact w_iret hx hb hr hlocks (upd G j t) (Or.inr (Or.inr ⟨j, hj, rfl, ht1, rfl, rep_wei hR ht1⟩)) hP hK hD hS dX1_weigh_40
      · refine lv_bipush (v := (-2)) hx hb dX1_weigh_22 (by decide) ?_
        exact w_iret hx hb hr hlocks G (Or.inr (Or.inl ⟨j, hj, rfl, by first | exact tok_lo c_13 | exact tok_hi c_19, rfl, hR⟩)) hP hK hD hS dX1_weigh_24
  · refine lv_iconst (v := (-1)) hx hb dX1_weigh_8 (by decide) ?_
    exact w_iret hx hb hr hlocks G (Or.inl ⟨or_f hw1 c_5, rfl, hR⟩) hP hK hD hS dX1_weigh_9
set_option maxHeartbeats 4000000 in
set_option maxRecDepth 100000 in
theorem mX1_want (l : Launch) (D : va_G) (d : ClassId) (ad : Nat → Nat) (E O G C F V S T P : Nat → Int32) (n m w : Nat) (a b : Nat → Nat) (g : Nat → Int) (hR : Rep n m w a b g E O G) (x : Int32) : MI_ l yX1_want (ws_ yX1_want cX1_want 3 (some .int)) rq3 D d (wX ad d E O G C F V S T P (nI n) (nI m) (nI w)) (fun u : Nat => (wX ad d E O G C F V S T P (nI n) (nI m) (nI u))) [.ref (ad 0), .int x] (fun (r : Int32) u => WanR n w x r u) := by
  have hR0 := hR
  obtain ⟨⟨⟨hn2, hn7, hm12, hw7⟩, hok⟩, hE⟩ := hR0
  have h2n : 2 ^ n ≤ 128 := Nat.pow_le_pow_right (n := 2) (by decide) hn7
  refine MI_mk (lv := [(0, .ref (ad 0)), (1, .int x)]) (by decide) (Nat.le_of_ble_eq_true rfl) rfl fun pg en s mm below meth cd A ls hx hb hr hlocks hml hown hts hA hP hK hD hS hl => ?_
  have hown : s.vm.findClass RX1 = some mm.cls := hown
  refine w_start fun H locs hH hL => ?_
  rw [← hH] at hP
  replace hS : va_S A s.heap H locs := by rw [hL, hH]; exact va_S.rf
  refine lv_iload_n hx hb dX1_want_0 rfl (lv_at hl 1 rfl) ?_
  refine lv_if_lt (tgt := 14) hx hb dX1_want_1 (by decide) (fun c_1 => ?_) (fun c_1 => ?_)
  · refine lv_iconst (v := (-1)) hx hb dX1_want_14 (by decide) ?_
    exact w_iret hx hb hr hlocks w (Or.inl ⟨by first | exact inI_neg c_1 (by omega) | exact inI_big (Int32.not_lt.mp c_11) (by omega), rfl, rfl⟩) hP hK hD hS dX1_want_15
  · refine lv_iload_n hx hb dX1_want_4 rfl (lv_at hl 1 rfl) ?_
    refine lv_iconst (v := 1) hx hb dX1_want_5 (by decide) ?_
    refine lv_aload_n hx hb dX1_want_6 rfl (lv_at hl 0 rfl) ?_
    refine va_get (D := D) (ci := 0) (v := .int (nI n)) (C := RX1) (T := TX1) (N := 12) hx hb hts in_X1 hown hK hP 0 rfl rfl 9 (by decide) (hts _ q41) (fun _ h9 => h9) rfl dX1_want_7 ?_
    refine lv_ishl hx hb dX1_want_10 ?_
    refine w_top (y := nI (2 ^ n)) (b_shl1 _ (by omega)) ?_
    refine lv_icmp_lt (tgt := 16) hx hb dX1_want_11 (by decide) (fun c_11 => ?_) (fun c_11 => ?_)
    · obtain ⟨j, hj, rfl⟩ : inI x (2 ^ n) := inI_of c_1 (Int32.not_le.mpr c_11) (by omega)
      refine lv_aload_n hx hb dX1_want_16 rfl (lv_at hl 0 rfl) ?_
      refine va_get (D := D) (ci := 0) (v := .int (nI w)) (C := RX1) (T := TX1) (N := 12) hx hb hts in_X1 hown hK hP 0 rfl rfl 11 (by decide) (hts _ q43) (fun _ h9 => h9) rfl dX1_want_17 ?_
      refine lv_istore_n (lv' := [(2, .int (nI w)), (0, .ref (ad 0)), (1, .int (nI j))]) hx hb dX1_want_20 rfl hl (by decide) rfl (fun ls hl => ?_)
      refine lv_aload_n hx hb dX1_want_21 rfl (lv_at hl 1 rfl) ?_
      refine lv_iload_n hx hb dX1_want_22 rfl (lv_at hl 2 rfl) ?_
      refine va_put (D := D) (ci := 0) (v := .int (nI j)) (ty := .int) (C := RX1) (T := TX1) (N := 12) hx hb hts in_X1 tyX1 tyX1_ok nmX1 hown hK hP hD hS 0 rfl rfl 11 (by decide) (hts _ q43) (fun _ h9 => h9) rfl (by decide +kernel) rfl rfl (Nat.le_of_ble_eq_true rfl) dX1_want_23 (fun H locs hP hD hS => ?_)
      have hP : va_P D vwCl (wX ad d E O G C F V S T P (nI n) (nI m) ((nI j))) H := hP
      have hD : va_D A (wX ad d E O G C F V S T P (nI n) (nI m) ((nI j))) := hD
      refine lv_iload_n hx hb dX1_want_26 rfl (lv_at hl 0 rfl) ?_
      exact w_iret hx hb hr hlocks j (Or.inr ⟨j, hj, rfl, rfl, rfl⟩) hP hK hD hS dX1_want_27
    · refine lv_iconst (v := (-1)) hx hb dX1_want_14 (by decide) ?_
      exact w_iret hx hb hr hlocks w (Or.inl ⟨by first | exact inI_neg c_1 (by omega) | exact inI_big (Int32.not_lt.mp c_11) (by omega), rfl, rfl⟩) hP hK hD hS dX1_want_15
set_option maxHeartbeats 4000000 in
set_option maxRecDepth 100000 in
theorem mX1_turn (l : Launch) (D : va_G) (d : ClassId) (ad : Nat → Nat) (E O G C F V S T P : Nat → Int32) (n m w : Nat) (a b : Nat → Nat) (g : Nat → Int) (hR : Rep n m w a b g E O G) (x : Int32) : MI_ l yX1_turn (ws_ yX1_turn cX1_turn 2 (some .int)) rq3 D d (wX ad d E O G C F V S T P (nI n) (nI m) (nI w)) (fun u : Nat => (wX ad d E O G C F V S T P (nI n) (nI m) (nI u))) [.ref (ad 0), .int x] (fun (r : Int32) u => TurR n w x r u) := by
  have hR0 := hR
  obtain ⟨⟨⟨hn2, hn7, hm12, hw7⟩, hok⟩, hE⟩ := hR0
  refine MI_mk (lv := [(0, .ref (ad 0)), (1, .int x)]) (by decide) (Nat.le_of_ble_eq_true rfl) rfl fun pg en s mm below meth cd A ls hx hb hr hlocks hml hown hts hA hP hK hD hS hl => ?_
  have hown : s.vm.findClass RX1 = some mm.cls := hown
  refine w_start fun H locs hH hL => ?_
  rw [← hH] at hP
  replace hS : va_S A s.heap H locs := by rw [hL, hH]; exact va_S.rf
  refine lv_aload_n hx hb dX1_turn_0 rfl (lv_at hl 0 rfl) ?_
  refine lv_iload_n hx hb dX1_turn_1 rfl (lv_at hl 1 rfl) ?_
  refine w_xi (As := [.int x]) (rest := []) ⟨hx, hb, hml, hown, hts⟩ (mX1_isPlace l D d ad E O G C F V S T P n m w a b g hR x) (cwV 1 hts (lw_V q74 q76 qs0 q22 q77) rfl rfl rfl (by decide +kernel) ⟨Nat.le_of_ble_eq_true rfl, Nat.le_of_ble_eq_true rfl⟩) hP hK hD hS hA rfl hl.1 rfl (Nat.le_of_ble_eq_true rfl) dX1_turn_2 (fun r1 _ H locs hw1 hP hD hS => ?_)
  have hP : va_P D vwCl (wX ad d E O G C F V S T P (nI n) (nI m) (nI w)) H := hP
  have hD : va_D A (wX ad d E O G C F V S T P (nI n) (nI m) (nI w)) := hD
  refine lv_if_ne (tgt := 10) hx hb dX1_turn_5 (by decide) (fun c_5 => ?_) (fun c_5 => ?_)
  · obtain ⟨j, hj, rfl⟩ := or_t hw1 c_5
    refine lv_aload_n hx hb dX1_turn_10 rfl (lv_at hl 0 rfl) ?_
    refine lv_aload_n hx hb dX1_turn_11 rfl (lv_at hl 0 rfl) ?_
    refine va_get (D := D) (ci := 0) (v := .int (nI w)) (C := RX1) (T := TX1) (N := 12) hx hb hts in_X1 hown hK hP 0 rfl rfl 11 (by decide) (hts _ q43) (fun _ h9 => h9) rfl dX1_turn_12 ?_
    refine lv_iconst (v := 1) hx hb dX1_turn_15 (by decide) ?_
    refine lv_iload_n hx hb dX1_turn_16 rfl (lv_at hl 1 rfl) ?_
    refine lv_ishl hx hb dX1_turn_17 ?_
    refine w_top (y := nI (2 ^ j)) (b_shl1 _ (by omega)) ?_
    refine lv_ixor hx hb dX1_turn_18 ?_
    refine w_top (y := nI (w ^^^ 2 ^ j)) (nx_xor _ _) ?_
    refine va_put (D := D) (ci := 0) (v := .int (nI (w ^^^ 2 ^ j))) (ty := .int) (C := RX1) (T := TX1) (N := 12) hx hb hts in_X1 tyX1 tyX1_ok nmX1 hown hK hP hD hS 0 rfl rfl 11 (by decide) (hts _ q43) (fun _ h9 => h9) rfl (by decide +kernel) rfl rfl (Nat.le_of_ble_eq_true rfl) dX1_turn_19 (fun H locs hP hD hS => ?_)
    have hP : va_P D vwCl (wX ad d E O G C F V S T P (nI n) (nI m) ((nI (w ^^^ 2 ^ j)))) H := hP
    have hD : va_D A (wX ad d E O G C F V S T P (nI n) (nI m) ((nI (w ^^^ 2 ^ j)))) := hD
    refine lv_aload_n hx hb dX1_turn_22 rfl (lv_at hl 0 rfl) ?_
    refine va_get (D := D) (ci := 0) (v := .int ((nI (w ^^^ 2 ^ j)))) (C := RX1) (T := TX1) (N := 12) hx hb hts in_X1 hown hK hP 0 rfl rfl 11 (by decide) (hts _ q43) (fun _ h9 => h9) rfl dX1_turn_23 ?_
    exact w_iret hx hb hr hlocks (w ^^^ 2 ^ j) (Or.inr ⟨j, hj, rfl, rfl, rfl⟩) hP hK hD hS dX1_turn_26
  · refine lv_iconst (v := (-1)) hx hb dX1_turn_8 (by decide) ?_
    exact w_iret hx hb hr hlocks w (Or.inl ⟨or_f hw1 c_5, rfl, rfl⟩) hP hK hD hS dX1_turn_9
set_option maxHeartbeats 4000000 in
set_option maxRecDepth 100000 in
theorem mX1_isJoin (l : Launch) (D : va_G) (d : ClassId) (ad : Nat → Nat) (E O G C F V S T P : Nat → Int32) (n m w : Nat) (a b : Nat → Nat) (g : Nat → Int) (hR : Rep n m w a b g E O G) (x : Int32) : MI_ l yX1_isJoin (ws_ yX1_isJoin cX1_isJoin 2 (some .int)) rq3 D d (wX ad d E O G C F V S T P (nI n) (nI m) (nI w)) (fun u : Unit => (wX ad d E O G C F V S T P (nI n) (nI m) (nI w))) [.ref (ad 0), .int x] (fun (r : Int32) u => IsjR m w a b x r) := by
  have hR0 := hR
  obtain ⟨⟨⟨hn2, hn7, hm12, hw7⟩, hok⟩, hE⟩ := hR0
  have h2m : 2 ^ m ≤ 4096 := Nat.pow_le_pow_right (n := 2) (by decide) hm12
  have hokg := hR.1
  have hw128 : w < 128 := Nat.lt_of_lt_of_le hw7 (Nat.pow_le_pow_right (n := 2) (by decide) hn7)
  refine MI_mk (lv := [(0, .ref (ad 0)), (1, .int x)]) (by decide) (Nat.le_of_ble_eq_true rfl) rfl fun pg en s mm below meth cd A ls hx hb hr hlocks hml hown hts hA hP hK hD hS hl => ?_
  have hown : s.vm.findClass RX1 = some mm.cls := hown
  refine w_start fun H locs hH hL => ?_
  rw [← hH] at hP
  replace hS : va_S A s.heap H locs := by rw [hL, hH]; exact va_S.rf
  refine lv_iload_n hx hb dX1_isJoin_0 rfl (lv_at hl 1 rfl) ?_
  refine lv_if_lt (tgt := 14) hx hb dX1_isJoin_1 (by decide) (fun c_1 => ?_) (fun c_1 => ?_)
  · refine lv_iconst (v := (-1)) hx hb dX1_isJoin_14 (by decide) ?_
    exact w_iret hx hb hr hlocks () (Or.inl ⟨by first | exact inI_neg c_1 (by omega) | exact inI_big (Int32.not_lt.mp c_11) (by omega), rfl⟩) hP hK hD hS dX1_isJoin_15
  · refine lv_iload_n hx hb dX1_isJoin_4 rfl (lv_at hl 1 rfl) ?_
    refine lv_iconst (v := 1) hx hb dX1_isJoin_5 (by decide) ?_
    refine lv_aload_n hx hb dX1_isJoin_6 rfl (lv_at hl 0 rfl) ?_
    refine va_get (D := D) (ci := 0) (v := .int (nI m)) (C := RX1) (T := TX1) (N := 12) hx hb hts in_X1 hown hK hP 0 rfl rfl 10 (by decide) (hts _ q42) (fun _ h9 => h9) rfl dX1_isJoin_7 ?_
    refine lv_ishl hx hb dX1_isJoin_10 ?_
    refine w_top (y := nI (2 ^ m)) (b_shl1 _ (by omega)) ?_
    refine lv_icmp_lt (tgt := 16) hx hb dX1_isJoin_11 (by decide) (fun c_11 => ?_) (fun c_11 => ?_)
    · obtain ⟨j, hj, rfl⟩ : inI x (2 ^ m) := inI_of c_1 (Int32.not_le.mpr c_11) (by omega)
      refine lv_aload_n hx hb dX1_isJoin_16 rfl (lv_at hl 0 rfl) ?_
      refine lv_iload_n hx hb dX1_isJoin_17 rfl (lv_at hl 1 rfl) ?_
      refine w_xi (As := [.int (nI j)]) (rest := []) ⟨hx, hb, hml, hown, hts⟩ (mX1_oddOf l D d ad E O G C F V S T P n m w a b g hR j (by omega)) (cwV 1 hts (lw_V q106 q108 qs2 q22 q109) rfl rfl rfl (by decide +kernel) ⟨Nat.le_of_ble_eq_true rfl, Nat.le_of_ble_eq_true rfl⟩) hP hK hD hS hA rfl hl.1 rfl (Nat.le_of_ble_eq_true rfl) dX1_isJoin_18 (fun r _ H locs hw hP hD hS => ?_)
      subst hw
      have hP : va_P D vwCl (wX ad d E O G C F V S T P (nI n) (nI m) (nI w)) H := hP
      have hD : va_D A (wX ad d E O G C F V S T P (nI n) (nI m) (nI w)) := hD
      refine lv_aload_n hx hb dX1_isJoin_21 rfl (lv_at hl 0 rfl) ?_
      refine va_get (D := D) (ci := 0) (v := .int (nI w)) (C := RX1) (T := TX1) (N := 12) hx hb hts in_X1 hown hK hP 0 rfl rfl 11 (by decide) (hts _ q43) (fun _ h9 => h9) rfl dX1_isJoin_22 ?_
      refine lv_icmp_ne (tgt := 32) hx hb dX1_isJoin_25 (by decide) (fun c_25 => ?_) (fun c_25 => ?_)
      · refine lv_iconst (v := 0) hx hb dX1_isJoin_32 (by decide) ?_
        exact w_iret hx hb hr hlocks () (Or.inr ⟨j, hj, rfl, by rw [decide_eq_false (ne_c c_25)]; rfl⟩) hP hK hD hS dX1_isJoin_33
      · refine lv_iconst (v := 1) hx hb dX1_isJoin_28 (by decide) ?_
        refine lv_goto (tgt := 33) hx hb dX1_isJoin_29 (by decide) ?_
        exact w_iret hx hb hr hlocks () (Or.inr ⟨j, hj, rfl, by rw [decide_eq_true (eq_c c_25 (Nat.lt_trans (odd128 hokg) (by decide)) (by omega))]; rfl⟩) hP hK hD hS dX1_isJoin_33
    · refine lv_iconst (v := (-1)) hx hb dX1_isJoin_14 (by decide) ?_
      exact w_iret hx hb hr hlocks () (Or.inl ⟨by first | exact inI_neg c_1 (by omega) | exact inI_big (Int32.not_lt.mp c_11) (by omega), rfl⟩) hP hK hD hS dX1_isJoin_15
set_option maxHeartbeats 4000000 in
set_option maxRecDepth 100000 in
theorem mX1_oddPlaces (l : Launch) (D : va_G) (d : ClassId) (ad : Nat → Nat) (E O G C F V S T P : Nat → Int32) (n m w : Nat) (a b : Nat → Nat) (g : Nat → Int) (hR : Rep n m w a b g E O G) : MI_ l yX1_oddPlaces (ws_ yX1_oddPlaces cX1_oddPlaces 1 (some .int)) rq1 D d (wX ad d E O G C F V S T P (nI n) (nI m) (nI w)) (fun u : Unit => (wX ad d E O G C F V S T P (nI n) (nI m) (nI w))) [.ref (ad 0)] (fun (r : Int32) u => r = nI (oddN a b (2 ^ m - 1) m)) := by
  have hR0 := hR
  obtain ⟨⟨⟨hn2, hn7, hm12, hw7⟩, hok⟩, hE⟩ := hR0
  have h2m : 2 ^ m ≤ 4096 := Nat.pow_le_pow_right (n := 2) (by decide) hm12
  refine MI_mk (lv := [(0, .ref (ad 0))]) (by decide) (Nat.le_of_ble_eq_true rfl) rfl fun pg en s mm below meth cd A ls hx hb hr hlocks hml hown hts hA hP hK hD hS hl => ?_
  have hown : s.vm.findClass RX1 = some mm.cls := hown
  refine w_start fun H locs hH hL => ?_
  rw [← hH] at hP
  replace hS : va_S A s.heap H locs := by rw [hL, hH]; exact va_S.rf
  refine lv_aload_n hx hb dX1_oddPlaces_0 rfl (lv_at hl 0 rfl) ?_
  refine lv_iconst (v := 1) hx hb dX1_oddPlaces_1 (by decide) ?_
  refine lv_aload_n hx hb dX1_oddPlaces_2 rfl (lv_at hl 0 rfl) ?_
  refine va_get (D := D) (ci := 0) (v := .int (nI m)) (C := RX1) (T := TX1) (N := 12) hx hb hts in_X1 hown hK hP 0 rfl rfl 10 (by decide) (hts _ q42) (fun _ h9 => h9) rfl dX1_oddPlaces_3 ?_
  refine lv_ishl hx hb dX1_oddPlaces_6 ?_
  refine w_top (y := nI (2 ^ m)) (b_shl1 _ (by omega)) ?_
  refine lv_iconst (v := 1) hx hb dX1_oddPlaces_7 (by decide) ?_
  refine lv_isub hx hb dX1_oddPlaces_8 ?_
  refine w_top (y := nI (2 ^ m - 1)) (pk_sub (a := 2 ^ m) (b := 1) (Nat.two_pow_pos m)) ?_
  refine w_xi (As := [.int (nI (2 ^ m - 1))]) (rest := []) ⟨hx, hb, hml, hown, hts⟩ (mX1_oddOf l D d ad E O G C F V S T P n m w a b g hR (2 ^ m - 1) (by omega)) (cwV 1 hts (lw_V q106 q108 qs2 q22 q109) rfl rfl rfl (by decide +kernel) ⟨Nat.le_of_ble_eq_true rfl, Nat.le_of_ble_eq_true rfl⟩) hP hK hD hS hA rfl hl.1 rfl (Nat.le_of_ble_eq_true rfl) dX1_oddPlaces_9 (fun r _ H locs hw hP hD hS => ?_)
  subst hw
  have hP : va_P D vwCl (wX ad d E O G C F V S T P (nI n) (nI m) (nI w)) H := hP
  have hD : va_D A (wX ad d E O G C F V S T P (nI n) (nI m) (nI w)) := hD
  exact w_iret hx hb hr hlocks () rfl hP hK hD hS dX1_oddPlaces_12
set_option maxHeartbeats 4000000 in
set_option maxRecDepth 100000 in
theorem mX1_possible (l : Launch) (D : va_G) (d : ClassId) (ad : Nat → Nat) (E O G C F V S T P : Nat → Int32) (n m w : Nat) (a b : Nat → Nat) (g : Nat → Int) (hR : Rep n m w a b g E O G) : MI_ l yX1_possible (ws_ yX1_possible cX1_possible 1 (some .int)) rq3 D d (wX ad d E O G C F V S T P (nI n) (nI m) (nI w)) (fun u : Nat → Int32 => (wX ad d E O G C F V S T u (nI n) (nI m) (nI w))) [.ref (ad 0)] (fun (r : Int32) u => r = bI (beN a b g m w 0 0).isSome) := by
  have hR0 := hR
  obtain ⟨⟨⟨hn2, hn7, hm12, hw7⟩, hok⟩, hE⟩ := hR0
  have hokg := hR.1
  have hw128 : w < 128 := Nat.lt_of_lt_of_le hw7 (Nat.pow_le_pow_right (n := 2) (by decide) hn7)
  refine MI_mk (lv := [(0, .ref (ad 0))]) (by decide) (Nat.le_of_ble_eq_true rfl) rfl fun pg en s mm below meth cd A ls hx hb hr hlocks hml hown hts hA hP hK hD hS hl => ?_
  have hown : s.vm.findClass RX1 = some mm.cls := hown
  refine w_start fun H locs hH hL => ?_
  rw [← hH] at hP
  replace hS : va_S A s.heap H locs := by rw [hL, hH]; exact va_S.rf
  refine lv_aload_n hx hb dX1_possible_0 rfl (lv_at hl 0 rfl) ?_
  refine lv_aload_n hx hb dX1_possible_1 rfl (lv_at hl 0 rfl) ?_
  refine va_get (D := D) (ci := 0) (v := .int (nI w)) (C := RX1) (T := TX1) (N := 12) hx hb hts in_X1 hown hK hP 0 rfl rfl 11 (by decide) (hts _ q43) (fun _ h9 => h9) rfl dX1_possible_2 ?_
  refine w_xi (As := [.int (nI w)]) (rest := []) ⟨hx, hb, hml, hown, hts⟩ (mX1_isPossible l D d ad E O G C F V S T P n m w a b g hR w hw128) (cwV 1 hts (lw_V q114 q116 qs3 q22 q117) rfl rfl rfl (by decide +kernel) ⟨Nat.le_of_ble_eq_true rfl, Nat.le_of_ble_eq_true rfl⟩) hP hK hD hS hA rfl hl.1 rfl (Nat.le_of_ble_eq_true rfl) dX1_possible_5 (fun r1 P1 H locs hw1 hP hD hS => ?_)
  have hP : va_P D vwCl (wX ad d E O G C F V S T P1 (nI n) (nI m) (nI w)) H := hP
  have hD : va_D A (wX ad d E O G C F V S T P1 (nI n) (nI m) (nI w)) := hD
  refine lv_if_eq (tgt := 15) hx hb dX1_possible_8 (by decide) (fun c_8 => ?_) (fun c_8 => ?_)
  · have hp := or_f hw1 c_8
    refine lv_iconst (v := 0) hx hb dX1_possible_15 (by decide) ?_
    exact w_iret hx hb hr hlocks P1 (by rw [be_none hokg hw7 hp]; rfl) hP hK hD hS dX1_possible_16
  · have hp := or_t hw1 c_8
    refine lv_iconst (v := 1) hx hb dX1_possible_11 (by decide) ?_
    refine lv_goto (tgt := 16) hx hb dX1_possible_12 (by decide) ?_
    exact w_iret hx hb hr hlocks P1 (by rw [be_best hokg hw7 hp]; rfl) hP hK hD hS dX1_possible_16
set_option maxHeartbeats 4000000 in
set_option maxRecDepth 100000 in
theorem mX1_joins (l : Launch) (D : va_G) (d : ClassId) (ad : Nat → Nat) (E O G C F V S T P : Nat → Int32) (n m w : Nat) (a b : Nat → Nat) (g : Nat → Int) (hR : Rep n m w a b g E O G) : MI_ l yX1_joins (ws_ yX1_joins cX1_joins 1 (some .int)) rq3 D d (wX ad d E O G C F V S T P (nI n) (nI m) (nI w)) (fun u : Nat → Int32 => (wX ad d E O G C F V S T u (nI n) (nI m) (nI w))) [.ref (ad 0)] (fun (r : Int32) u => r = nI (cjN a b m w (2 ^ m))) := by
  have hR0 := hR
  obtain ⟨⟨⟨hn2, hn7, hm12, hw7⟩, hok⟩, hE⟩ := hR0
  have hokg := hR.1
  have hw128 : w < 128 := Nat.lt_of_lt_of_le hw7 (Nat.pow_le_pow_right (n := 2) (by decide) hn7)
  have hab : ∀ e, e < m → a e < n ∧ b e < n := fun e he => ⟨(hok e he).1, (hok e he).2.1⟩
  refine MI_mk (lv := [(0, .ref (ad 0))]) (by decide) (Nat.le_of_ble_eq_true rfl) rfl fun pg en s mm below meth cd A ls hx hb hr hlocks hml hown hts hA hP hK hD hS hl => ?_
  have hown : s.vm.findClass RX1 = some mm.cls := hown
  refine w_start fun H locs hH hL => ?_
  rw [← hH] at hP
  replace hS : va_S A s.heap H locs := by rw [hL, hH]; exact va_S.rf
  refine lv_aload_n hx hb dX1_joins_0 rfl (lv_at hl 0 rfl) ?_
  refine lv_aload_n hx hb dX1_joins_1 rfl (lv_at hl 0 rfl) ?_
  refine va_get (D := D) (ci := 0) (v := .int (nI w)) (C := RX1) (T := TX1) (N := 12) hx hb hts in_X1 hown hK hP 0 rfl rfl 11 (by decide) (hts _ q43) (fun _ h9 => h9) rfl dX1_joins_2 ?_
  refine w_xi (As := [.int (nI w)]) (rest := []) ⟨hx, hb, hml, hown, hts⟩ (mX1_isPossible l D d ad E O G C F V S T P n m w a b g hR w hw128) (cwV 1 hts (lw_V q114 q116 qs3 q22 q117) rfl rfl rfl (by decide +kernel) ⟨Nat.le_of_ble_eq_true rfl, Nat.le_of_ble_eq_true rfl⟩) hP hK hD hS hA rfl hl.1 rfl (Nat.le_of_ble_eq_true rfl) dX1_joins_5 (fun r1 P1 H locs hw1 hP hD hS => ?_)
  have hP : va_P D vwCl (wX ad d E O G C F V S T P1 (nI n) (nI m) (nI w)) H := hP
  have hD : va_D A (wX ad d E O G C F V S T P1 (nI n) (nI m) (nI w)) := hD
  refine lv_if_ne (tgt := 13) hx hb dX1_joins_8 (by decide) (fun c_8 => ?_) (fun c_8 => ?_)
  · have hp := or_t hw1 c_8
    obtain ⟨hle, hcj⟩ := joins_eq hab hw7 hp
    have hcp := cp_le (ptN a b m) n
    refine lv_iconst (v := 1) hx hb dX1_joins_13 (by decide) ?_
    refine lv_aload_n hx hb dX1_joins_14 rfl (lv_at hl 0 rfl) ?_
    refine va_get (D := D) (ci := 0) (v := .int (nI m)) (C := RX1) (T := TX1) (N := 12) hx hb hts in_X1 hown hK hP 0 rfl rfl 10 (by decide) (hts _ q42) (fun _ h9 => h9) rfl dX1_joins_15 ?_
    refine lv_aload_n hx hb dX1_joins_18 rfl (lv_at hl 0 rfl) ?_
    refine va_get (D := D) (ci := 0) (v := .int (nI n)) (C := RX1) (T := TX1) (N := 12) hx hb hts in_X1 hown hK hP 0 rfl rfl 9 (by decide) (hts _ q41) (fun _ h9 => h9) rfl dX1_joins_19 ?_
    refine lv_isub hx hb dX1_joins_22 ?_
    refine lv_aload_n hx hb dX1_joins_23 rfl (lv_at hl 0 rfl) ?_
    refine w_xi (As := []) (rest := [.int ((nI m) - (nI n)), .int 1]) ⟨hx, hb, hml, hown, hts⟩ (mX1_countParts l D d ad E O G C F V S T P1 n m w a b g hR) (cwV 0 hts (lw_V q126 q128 qs5 q22 q129) rfl rfl rfl (by decide +kernel) ⟨Nat.le_of_ble_eq_true rfl, Nat.le_of_ble_eq_true rfl⟩) hP hK hD hS hA rfl hl.1 rfl (Nat.le_of_ble_eq_true rfl) dX1_joins_24 (fun r2 P2 H locs hw2 hP hD hS => ?_)
    subst hw2
    have hP : va_P D vwCl (wX ad d E O G C F V S T P2 (nI n) (nI m) (nI w)) H := hP
    have hD : va_D A (wX ad d E O G C F V S T P2 (nI n) (nI m) (nI w)) := hD
    refine lv_iadd hx hb dX1_joins_27 ?_
    refine w_top (y := nI (m + cpN (ptN a b m) n - n)) (by rw [← pk_sub hle, ← nI_add]; grind) ?_
    refine lv_ishl hx hb dX1_joins_28 ?_
    refine w_top (y := nI (2 ^ (m + cpN (ptN a b m) n - n))) (b_shl1 _ (by omega)) ?_
    exact w_iret hx hb hr hlocks P2 (by rw [hcj]) hP hK hD hS dX1_joins_29
  · have hp := or_f hw1 c_8
    refine lv_iconst (v := 0) hx hb dX1_joins_11 (by decide) ?_
    exact w_iret hx hb hr hlocks P1 (by rw [(cj_main m hab w hw7).2 hp]; rfl) hP hK hD hS dX1_joins_12
set_option maxHeartbeats 4000000 in
set_option maxRecDepth 100000 in
theorem mX1_best (l : Launch) (D : va_G) (d : ClassId) (ad : Nat → Nat) (E O G C F V S T P : Nat → Int32) (n m w : Nat) (a b : Nat → Nat) (g : Nat → Int) (hR : Rep n m w a b g E O G) : MI_ l yX1_best (ws_ yX1_best cX1_best 2 (some .int)) rq3 D d (wX ad d E O G C F V S T P (nI n) (nI m) (nI w)) (fun u : (Nat → Int32) × (Nat → Int32) × (Nat → Int32) × (Nat → Int32) × (Nat → Int32) × (Nat → Int32) => (wX ad d E O G u.1 u.2.1 u.2.2.1 u.2.2.2.1 u.2.2.2.2.1 u.2.2.2.2.2 (nI n) (nI m) (nI w))) [.ref (ad 0)] (fun (r : Int32) u => r = wI g m (beN a b g m w 0 0)) := by
  have hR0 := hR
  obtain ⟨⟨⟨hn2, hn7, hm12, hw7⟩, hok⟩, hE⟩ := hR0
  have hokg := hR.1
  have hw128 : w < 128 := Nat.lt_of_lt_of_le hw7 (Nat.pow_le_pow_right (n := 2) (by decide) hn7)
  have h2m : 2 ^ m ≤ 4096 := Nat.pow_le_pow_right (n := 2) (by decide) hm12
  refine MI_mk (lv := [(0, .ref (ad 0))]) (by decide) (Nat.le_of_ble_eq_true rfl) rfl fun pg en s mm below meth cd A ls hx hb hr hlocks hml hown hts hA hP hK hD hS hl => ?_
  have hown : s.vm.findClass RX1 = some mm.cls := hown
  refine w_start fun H locs hH hL => ?_
  rw [← hH] at hP
  replace hS : va_S A s.heap H locs := by rw [hL, hH]; exact va_S.rf
  refine lv_aload_n hx hb dX1_best_0 rfl (lv_at hl 0 rfl) ?_
  refine w_xv (As := []) (rest := []) ⟨hx, hb, hml, hown, hts⟩ (mX1_takeCosts l D d ad E O G C F V S T P n m w a b g hR) (cwV 0 hts (lw_V q134 q136 qs6 q22 q137) rfl rfl rfl (by decide +kernel) ⟨Nat.le_of_ble_eq_true rfl, Nat.le_of_ble_eq_true rfl⟩) hP hK hD hS hA rfl hl.1 rfl (Nat.le_of_ble_eq_true rfl) dX1_best_1 (fun C1 H locs hc1 hP hD hS => ?_)
  have hP : va_P D vwCl (wX ad d E O G C1 F V S T P (nI n) (nI m) (nI w)) H := hP
  have hD : va_D A (wX ad d E O G C1 F V S T P (nI n) (nI m) (nI w)) := hD
  have hrc : RepC m (coN g) C1 := fun e he => ⟨hc1 e he, by have := co_bd hokg he; omega⟩
  refine lv_aload_n hx hb dX1_best_4 rfl (lv_at hl 0 rfl) ?_
  refine lv_aload_n hx hb dX1_best_5 rfl (lv_at hl 0 rfl) ?_
  refine va_get (D := D) (ci := 0) (v := .int (nI w)) (C := RX1) (T := TX1) (N := 12) hx hb hts in_X1 hown hK hP 0 rfl rfl 11 (by decide) (hts _ q43) (fun _ h9 => h9) rfl dX1_best_6 ?_
  refine w_xi (As := [.int (nI w)]) (rest := []) ⟨hx, hb, hml, hown, hts⟩ (mX1_solve l D d ad E O G C1 F V S T P n m w a b g hR (coN g) hrc (w) hw128) (cwV 1 hts (lw_V q138 q140 qs7 q22 q141) rfl rfl rfl (by decide +kernel) ⟨Nat.le_of_ble_eq_true rfl, Nat.le_of_ble_eq_true rfl⟩) hP hK hD hS hA rfl hl.1 rfl (Nat.le_of_ble_eq_true rfl) dX1_best_9 (fun r2 u2 H locs hw2 hP hD hS => ?_)
  obtain ⟨P2, F2, V2, S2, T2⟩ := u2
  have hP : va_P D vwCl (wX ad d E O G C1 F2 V2 S2 T2 P2 (nI n) (nI m) (nI w)) H := hP
  have hD : va_D A (wX ad d E O G C1 F2 V2 S2 T2 P2 (nI n) (nI m) (nI w)) := hD
  rcases hw2 with ⟨hp, hr2⟩ | ⟨hp, hr2⟩
  · subst hr2
    obtain ⟨hX1, hX2, hX3⟩ := so_all hokg (c := coN g) (fun e he => by have := co_bd hokg he; omega) hw7 hp
    have hX : soJ a b (coN g) n m (w) < 4096 := Nat.lt_of_lt_of_le hX1 h2m
    refine lv_istore_n (lv' := [(1, .int (nI (soJ a b (coN g) n m (w)))), (0, .ref (ad 0))]) hx hb dX1_best_12 rfl hl (by decide) rfl (fun ls hl => ?_)
    refine lv_iload_n hx hb dX1_best_13 rfl (lv_at hl 0 rfl) ?_
    refine lv_if_ge (tgt := 23) hx hb dX1_best_14 (by decide) (fun c_14 => ?_) (fun c_14 => ?_)
    · refine lv_aload_n hx hb dX1_best_23 rfl (lv_at hl 1 rfl) ?_
      refine lv_iload_n hx hb dX1_best_24 rfl (lv_at hl 0 rfl) ?_
      refine w_xi (As := [.int (nI (soJ a b (coN g) n m (w)))]) (rest := []) ⟨hx, hb, hml, hown, hts⟩ (mX1_weightOf l D d ad E O G C1 F2 V2 S2 T2 P2 n m w a b g hR (soJ a b (coN g) n m (w)) hX) (cwV 1 hts (lw_V q159 q161 qs12 q22 q162) rfl rfl rfl (by decide +kernel) ⟨Nat.le_of_ble_eq_true rfl, Nat.le_of_ble_eq_true rfl⟩) hP hK hD hS hA rfl hl.1 rfl (Nat.le_of_ble_eq_true rfl) dX1_best_25 (fun r _ H locs hw hP hD hS => ?_)
      subst hw
      have hP : va_P D vwCl (wX ad d E O G C1 F2 V2 S2 T2 P2 (nI n) (nI m) (nI w)) H := hP
      have hD : va_D A (wX ad d E O G C1 F2 V2 S2 T2 P2 (nI n) (nI m) (nI w)) := hD
      exact w_iret hx hb hr hlocks (C1, F2, V2, S2, T2, P2) (by rw [be_best hokg hw7 hp]; rfl) hP hK hD hS dX1_best_28
    · exact absurd (nI_pos' (by omega)) c_14
  · subst hr2
    refine lv_istore_n (lv' := [(1, .int (-1)), (0, .ref (ad 0))]) hx hb dX1_best_12 rfl hl (by decide) rfl (fun ls hl => ?_)
    refine lv_iload_n hx hb dX1_best_13 rfl (lv_at hl 0 rfl) ?_
    refine lv_if_ge (tgt := 23) hx hb dX1_best_14 (by decide) (fun c_14 => ?_) (fun c_14 => ?_)
    · exact absurd c_14 (by decide)
    · refine lv_sipush (v := (-1000)) hx hb dX1_best_17 (by decide) ?_
      refine lv_goto (tgt := 28) hx hb dX1_best_20 (by decide) ?_
      exact w_iret hx hb hr hlocks (C1, F2, V2, S2, T2, P2) (by rw [be_none hokg hw7 hp]; rfl) hP hK hD hS dX1_best_28
set_option maxHeartbeats 4000000 in
set_option maxRecDepth 100000 in
theorem mX1_bestSet (l : Launch) (D : va_G) (d : ClassId) (ad : Nat → Nat) (E O G C F V S T P : Nat → Int32) (n m w : Nat) (a b : Nat → Nat) (g : Nat → Int) (hR : Rep n m w a b g E O G) : MI_ l yX1_bestSet (ws_ yX1_bestSet cX1_bestSet 1 (some .int)) rq3 D d (wX ad d E O G C F V S T P (nI n) (nI m) (nI w)) (fun u : (Nat → Int32) × (Nat → Int32) × (Nat → Int32) × (Nat → Int32) × (Nat → Int32) × (Nat → Int32) => (wX ad d E O G u.1 u.2.1 u.2.2.1 u.2.2.2.1 u.2.2.2.2.1 u.2.2.2.2.2 (nI n) (nI m) (nI w))) [.ref (ad 0)] (fun (r : Int32) u => r = sI (beN a b g m w 0 0)) := by
  have hR0 := hR
  obtain ⟨⟨⟨hn2, hn7, hm12, hw7⟩, hok⟩, hE⟩ := hR0
  have hokg := hR.1
  have hw128 : w < 128 := Nat.lt_of_lt_of_le hw7 (Nat.pow_le_pow_right (n := 2) (by decide) hn7)
  have h2m : 2 ^ m ≤ 4096 := Nat.pow_le_pow_right (n := 2) (by decide) hm12
  refine MI_mk (lv := [(0, .ref (ad 0))]) (by decide) (Nat.le_of_ble_eq_true rfl) rfl fun pg en s mm below meth cd A ls hx hb hr hlocks hml hown hts hA hP hK hD hS hl => ?_
  have hown : s.vm.findClass RX1 = some mm.cls := hown
  refine w_start fun H locs hH hL => ?_
  rw [← hH] at hP
  replace hS : va_S A s.heap H locs := by rw [hL, hH]; exact va_S.rf
  refine lv_aload_n hx hb dX1_bestSet_0 rfl (lv_at hl 0 rfl) ?_
  refine w_xv (As := []) (rest := []) ⟨hx, hb, hml, hown, hts⟩ (mX1_takeCosts l D d ad E O G C F V S T P n m w a b g hR) (cwV 0 hts (lw_V q134 q136 qs6 q22 q137) rfl rfl rfl (by decide +kernel) ⟨Nat.le_of_ble_eq_true rfl, Nat.le_of_ble_eq_true rfl⟩) hP hK hD hS hA rfl hl.1 rfl (Nat.le_of_ble_eq_true rfl) dX1_bestSet_1 (fun C1 H locs hc1 hP hD hS => ?_)
  have hP : va_P D vwCl (wX ad d E O G C1 F V S T P (nI n) (nI m) (nI w)) H := hP
  have hD : va_D A (wX ad d E O G C1 F V S T P (nI n) (nI m) (nI w)) := hD
  have hrc : RepC m (coN g) C1 := fun e he => ⟨hc1 e he, by have := co_bd hokg he; omega⟩
  refine lv_aload_n hx hb dX1_bestSet_4 rfl (lv_at hl 0 rfl) ?_
  refine lv_aload_n hx hb dX1_bestSet_5 rfl (lv_at hl 0 rfl) ?_
  refine va_get (D := D) (ci := 0) (v := .int (nI w)) (C := RX1) (T := TX1) (N := 12) hx hb hts in_X1 hown hK hP 0 rfl rfl 11 (by decide) (hts _ q43) (fun _ h9 => h9) rfl dX1_bestSet_6 ?_
  refine w_xi (As := [.int (nI w)]) (rest := []) ⟨hx, hb, hml, hown, hts⟩ (mX1_solve l D d ad E O G C1 F V S T P n m w a b g hR (coN g) hrc (w) hw128) (cwV 1 hts (lw_V q138 q140 qs7 q22 q141) rfl rfl rfl (by decide +kernel) ⟨Nat.le_of_ble_eq_true rfl, Nat.le_of_ble_eq_true rfl⟩) hP hK hD hS hA rfl hl.1 rfl (Nat.le_of_ble_eq_true rfl) dX1_bestSet_9 (fun r2 u2 H locs hw2 hP hD hS => ?_)
  obtain ⟨P2, F2, V2, S2, T2⟩ := u2
  have hP : va_P D vwCl (wX ad d E O G C1 F2 V2 S2 T2 P2 (nI n) (nI m) (nI w)) H := hP
  have hD : va_D A (wX ad d E O G C1 F2 V2 S2 T2 P2 (nI n) (nI m) (nI w)) := hD
  rcases hw2 with ⟨hp, hr2⟩ | ⟨hp, hr2⟩
  · subst hr2
    obtain ⟨hX1, hX2, hX3⟩ := so_all hokg (c := coN g) (fun e he => by have := co_bd hokg he; omega) hw7 hp
    have hX : soJ a b (coN g) n m (w) < 4096 := Nat.lt_of_lt_of_le hX1 h2m
    exact w_iret hx hb hr hlocks (C1, F2, V2, S2, T2, P2) (by rw [be_best hokg hw7 hp]; rfl) hP hK hD hS dX1_bestSet_12
  · subst hr2
    exact w_iret hx hb hr hlocks (C1, F2, V2, S2, T2, P2) (by rw [be_none hokg hw7 hp]; rfl) hP hK hD hS dX1_bestSet_12
set_option maxHeartbeats 4000000 in
set_option maxRecDepth 100000 in
theorem mX1_bestWith (l : Launch) (D : va_G) (d : ClassId) (ad : Nat → Nat) (E O G C F V S T P : Nat → Int32) (n m w : Nat) (a b : Nat → Nat) (g : Nat → Int) (hR : Rep n m w a b g E O G) (x : Int32) : MI_ l yX1_bestWith (ws_ yX1_bestWith cX1_bestWith 3 (some .int)) rq3 D d (wX ad d E O G C F V S T P (nI n) (nI m) (nI w)) (fun u : (Nat → Int32) × (Nat → Int32) × (Nat → Int32) × (Nat → Int32) × (Nat → Int32) × (Nat → Int32) => (wX ad d E O G u.1 u.2.1 u.2.2.1 u.2.2.2.1 u.2.2.2.2.1 u.2.2.2.2.2 (nI n) (nI m) (nI w))) [.ref (ad 0), .int x] (fun (r : Int32) u => WitR m w a b g x r) := by
  have hR0 := hR
  obtain ⟨⟨⟨hn2, hn7, hm12, hw7⟩, hok⟩, hE⟩ := hR0
  have hokg := hR.1
  have hw128 : w < 128 := Nat.lt_of_lt_of_le hw7 (Nat.pow_le_pow_right (n := 2) (by decide) hn7)
  have h2m : 2 ^ m ≤ 4096 := Nat.pow_le_pow_right (n := 2) (by decide) hm12
  refine MI_mk (lv := [(0, .ref (ad 0)), (1, .int x)]) (by decide) (Nat.le_of_ble_eq_true rfl) rfl fun pg en s mm below meth cd A ls hx hb hr hlocks hml hown hts hA hP hK hD hS hl => ?_
  have hown : s.vm.findClass RX1 = some mm.cls := hown
  refine w_start fun H locs hH hL => ?_
  rw [← hH] at hP
  replace hS : va_S A s.heap H locs := by rw [hL, hH]; exact va_S.rf
  refine lv_aload_n hx hb dX1_bestWith_0 rfl (lv_at hl 0 rfl) ?_
  refine lv_iload_n hx hb dX1_bestWith_1 rfl (lv_at hl 1 rfl) ?_
  refine w_xi (As := [.int x]) (rest := []) ⟨hx, hb, hml, hown, hts⟩ (mX1_isRoad l D d ad E O G C F V S T P n m w a b g hR x) (cwV 1 hts (lw_V q82 q84 qs1 q22 q85) rfl rfl rfl (by decide +kernel) ⟨Nat.le_of_ble_eq_true rfl, Nat.le_of_ble_eq_true rfl⟩) hP hK hD hS hA rfl hl.1 rfl (Nat.le_of_ble_eq_true rfl) dX1_bestWith_2 (fun r1 _ H locs hw1 hP hD hS => ?_)
  have hP : va_P D vwCl (wX ad d E O G C F V S T P (nI n) (nI m) (nI w)) H := hP
  have hD : va_D A (wX ad d E O G C F V S T P (nI n) (nI m) (nI w)) := hD
  refine lv_if_ne (tgt := 12) hx hb dX1_bestWith_5 (by decide) (fun c_5 => ?_) (fun c_5 => ?_)
  · obtain ⟨j, hj, rfl⟩ := or_t hw1 c_5
    refine lv_aload_n hx hb dX1_bestWith_12 rfl (lv_at hl 0 rfl) ?_
    refine w_xv (As := []) (rest := []) ⟨hx, hb, hml, hown, hts⟩ (mX1_takeCosts l D d ad E O G C F V S T P n m w a b g hR) (cwV 0 hts (lw_V q134 q136 qs6 q22 q137) rfl rfl rfl (by decide +kernel) ⟨Nat.le_of_ble_eq_true rfl, Nat.le_of_ble_eq_true rfl⟩) hP hK hD hS hA rfl hl.1 rfl (Nat.le_of_ble_eq_true rfl) dX1_bestWith_13 (fun C1 H locs hc1 hP hD hS => ?_)
    have hP : va_P D vwCl (wX ad d E O G C1 F V S T P (nI n) (nI m) (nI w)) H := hP
    have hD : va_D A (wX ad d E O G C1 F V S T P (nI n) (nI m) (nI w)) := hD
    refine lv_aload_n hx hb dX1_bestWith_16 rfl (lv_at hl 0 rfl) ?_
    refine va_get (D := D) (ci := 0) (v := .ref (ad 4)) (C := RX1) (T := TX1) (N := 12) hx hb hts in_X1 hown hK hP 0 rfl rfl 3 (by decide) (hts _ q35) (fun _ h9 => h9) rfl dX1_bestWith_17 ?_
    refine lv_iload_n hx hb dX1_bestWith_20 rfl (lv_at hl 1 rfl) ?_
    refine lv_dup2_11 hx hb dX1_bestWith_21 rfl rfl ?_
    refine w_iald (v := (zI (coN g j))) hx hb hK hP 4 0 rfl rfl (by omega) (by decide) (hc1 j hj) dX1_bestWith_22 ?_
    refine lv_ldc (v := 4194304) hx hb hown (hts _ q171) dX1_bestWith_23 ?_
    refine lv_isub hx hb dX1_bestWith_25 ?_
    refine w_top (y := zI (coN g j + (-4194304))) (by rw [show (4194304 : Int32) = zI 4194304 by decide, zI_sub, Int.sub_eq_add_neg]) ?_
    refine w_iast hx hb hK hP hD hS 4 0 rfl rfl (by omega) (by decide) dX1_bestWith_26 (fun H locs hP hD hS => ?_)
    have hP : va_P D vwCl (wX ad d E O G (upd C1 j (zI (coN g j + (-4194304)))) F V S T P (nI n) (nI m) (nI w)) H := hP
    have hD : va_D A (wX ad d E O G (upd C1 j (zI (coN g j + (-4194304)))) F V S T P (nI n) (nI m) (nI w)) := hD
    have hrc : RepC m (cdN g j (-4194304)) (upd C1 j (zI (coN g j + (-4194304)))) := repC_cd hokg hj (by omega) hc1
    refine lv_aload_n hx hb dX1_bestWith_27 rfl (lv_at hl 0 rfl) ?_
    refine lv_aload_n hx hb dX1_bestWith_28 rfl (lv_at hl 0 rfl) ?_
    refine va_get (D := D) (ci := 0) (v := .int (nI w)) (C := RX1) (T := TX1) (N := 12) hx hb hts in_X1 hown hK hP 0 rfl rfl 11 (by decide) (hts _ q43) (fun _ h9 => h9) rfl dX1_bestWith_29 ?_
    refine w_xi (As := [.int (nI w)]) (rest := []) ⟨hx, hb, hml, hown, hts⟩ (mX1_solve l D d ad E O G (upd C1 j (zI (coN g j + (-4194304)))) F V S T P n m w a b g hR (cdN g j (-4194304)) hrc (w) hw128) (cwV 1 hts (lw_V q138 q140 qs7 q22 q141) rfl rfl rfl (by decide +kernel) ⟨Nat.le_of_ble_eq_true rfl, Nat.le_of_ble_eq_true rfl⟩) hP hK hD hS hA rfl hl.1 rfl (Nat.le_of_ble_eq_true rfl) dX1_bestWith_32 (fun r2 u2 H locs hw2 hP hD hS => ?_)
    obtain ⟨P2, F2, V2, S2, T2⟩ := u2
    have hP : va_P D vwCl (wX ad d E O G (upd C1 j (zI (coN g j + (-4194304)))) F2 V2 S2 T2 P2 (nI n) (nI m) (nI w)) H := hP
    have hD : va_D A (wX ad d E O G (upd C1 j (zI (coN g j + (-4194304)))) F2 V2 S2 T2 P2 (nI n) (nI m) (nI w)) := hD
    rcases hw2 with ⟨hp, hr2⟩ | ⟨hp, hr2⟩
    · subst hr2
      obtain ⟨hX1, hX2, hX3⟩ := so_all hokg (c := (cdN g j (-4194304))) (cd_ok hokg hj (by omega)) hw7 hp
      have hX : soJ a b (cdN g j (-4194304)) n m (w) < 4096 := Nat.lt_of_lt_of_le hX1 h2m
      refine lv_istore_n (lv' := [(2, .int (nI (soJ a b (cdN g j (-4194304)) n m (w)))), (0, .ref (ad 0)), (1, .int (nI j))]) hx hb dX1_bestWith_35 rfl hl (by decide) rfl (fun ls hl => ?_)
      refine lv_iload_n hx hb dX1_bestWith_36 rfl (lv_at hl 0 rfl) ?_
      refine lv_if_lt (tgt := 48) hx hb dX1_bestWith_37 (by decide) (fun c_37 => ?_) (fun c_37 => ?_)
      · exact absurd c_37 (nI_pos (by omega))
      · refine lv_iload_n hx hb dX1_bestWith_40 rfl (lv_at hl 0 rfl) ?_
        refine lv_iload_n hx hb dX1_bestWith_41 rfl (lv_at hl 2 rfl) ?_
        refine lv_ishr hx hb dX1_bestWith_42 ?_
        refine lv_iconst (v := 1) hx hb dX1_bestWith_43 (by decide) ?_
        refine lv_iand hx hb dX1_bestWith_44 ?_
        refine w_top (y := bI ((soJ a b (cdN g j (-4194304)) n m (w)).testBit j)) (b_bit (by omega) (by omega)) ?_
        refine lv_if_ne (tgt := 54) hx hb dX1_bestWith_45 (by decide) (fun c_45 => ?_) (fun c_45 => ?_)
        · have hbt := bI_n0.mp c_45
          refine lv_aload_n hx hb dX1_bestWith_54 rfl (lv_at hl 1 rfl) ?_
          refine lv_iload_n hx hb dX1_bestWith_55 rfl (lv_at hl 0 rfl) ?_
          refine w_xi (As := [.int (nI (soJ a b (cdN g j (-4194304)) n m (w)))]) (rest := []) ⟨hx, hb, hml, hown, hts⟩ (mX1_weightOf l D d ad E O G (upd C1 j (zI (coN g j + (-4194304)))) F2 V2 S2 T2 P2 n m w a b g hR (soJ a b (cdN g j (-4194304)) n m (w)) hX) (cwV 1 hts (lw_V q159 q161 qs12 q22 q162) rfl rfl rfl (by decide +kernel) ⟨Nat.le_of_ble_eq_true rfl, Nat.le_of_ble_eq_true rfl⟩) hP hK hD hS hA rfl hl.1 rfl (Nat.le_of_ble_eq_true rfl) dX1_bestWith_56 (fun r _ H locs hw hP hD hS => ?_)
          subst hw
          have hP : va_P D vwCl (wX ad d E O G (upd C1 j (zI (coN g j + (-4194304)))) F2 V2 S2 T2 P2 (nI n) (nI m) (nI w)) H := hP
          have hD : va_D A (wX ad d E O G (upd C1 j (zI (coN g j + (-4194304)))) F2 V2 S2 T2 P2 (nI n) (nI m) (nI w)) := hD
          exact w_iret hx hb hr hlocks (upd C1 j (zI (coN g j + (-4194304))), F2, V2, S2, T2, P2) (Or.inr ⟨j, hj, rfl, by rw [be_with hokg hw7 hj hp, if_pos hbt]; rfl⟩) hP hK hD hS dX1_bestWith_59
        · have hbt := bI_0.mp c_45
          refine lv_sipush (v := (-1000)) hx hb dX1_bestWith_48 (by decide) ?_
          refine lv_goto (tgt := 59) hx hb dX1_bestWith_51 (by decide) ?_
          exact w_iret hx hb hr hlocks (upd C1 j (zI (coN g j + (-4194304))), F2, V2, S2, T2, P2) (Or.inr ⟨j, hj, rfl, by rw [be_with hokg hw7 hj hp, if_neg (by rw [hbt]; decide)]; rfl⟩) hP hK hD hS dX1_bestWith_59
    · subst hr2
      refine lv_istore_n (lv' := [(2, .int (-1)), (0, .ref (ad 0)), (1, .int (nI j))]) hx hb dX1_bestWith_35 rfl hl (by decide) rfl (fun ls hl => ?_)
      refine lv_iload_n hx hb dX1_bestWith_36 rfl (lv_at hl 0 rfl) ?_
      refine lv_if_lt (tgt := 48) hx hb dX1_bestWith_37 (by decide) (fun c_37 => ?_) (fun c_37 => ?_)
      · refine lv_sipush (v := (-1000)) hx hb dX1_bestWith_48 (by decide) ?_
        refine lv_goto (tgt := 59) hx hb dX1_bestWith_51 (by decide) ?_
        exact w_iret hx hb hr hlocks (upd C1 j (zI (coN g j + (-4194304))), F2, V2, S2, T2, P2) (Or.inr ⟨j, hj, rfl, by rw [be_none hokg hw7 hp]; rfl⟩) hP hK hD hS dX1_bestWith_59
      · exact absurd (by decide) c_37
  · refine lv_sipush (v := (-2000)) hx hb dX1_bestWith_8 (by decide) ?_
    exact w_iret hx hb hr hlocks (C, F, V, S, T, P) (Or.inl ⟨or_f hw1 c_5, rfl⟩) hP hK hD hS dX1_bestWith_11
set_option maxHeartbeats 4000000 in
set_option maxRecDepth 100000 in
theorem mX1_bestWithout (l : Launch) (D : va_G) (d : ClassId) (ad : Nat → Nat) (E O G C F V S T P : Nat → Int32) (n m w : Nat) (a b : Nat → Nat) (g : Nat → Int) (hR : Rep n m w a b g E O G) (x : Int32) : MI_ l yX1_bestWithout (ws_ yX1_bestWithout cX1_bestWithout 3 (some .int)) rq3 D d (wX ad d E O G C F V S T P (nI n) (nI m) (nI w)) (fun u : (Nat → Int32) × (Nat → Int32) × (Nat → Int32) × (Nat → Int32) × (Nat → Int32) × (Nat → Int32) => (wX ad d E O G u.1 u.2.1 u.2.2.1 u.2.2.2.1 u.2.2.2.2.1 u.2.2.2.2.2 (nI n) (nI m) (nI w))) [.ref (ad 0), .int x] (fun (r : Int32) u => WoutR m w a b g x r) := by
  have hR0 := hR
  obtain ⟨⟨⟨hn2, hn7, hm12, hw7⟩, hok⟩, hE⟩ := hR0
  have hokg := hR.1
  have hw128 : w < 128 := Nat.lt_of_lt_of_le hw7 (Nat.pow_le_pow_right (n := 2) (by decide) hn7)
  have h2m : 2 ^ m ≤ 4096 := Nat.pow_le_pow_right (n := 2) (by decide) hm12
  refine MI_mk (lv := [(0, .ref (ad 0)), (1, .int x)]) (by decide) (Nat.le_of_ble_eq_true rfl) rfl fun pg en s mm below meth cd A ls hx hb hr hlocks hml hown hts hA hP hK hD hS hl => ?_
  have hown : s.vm.findClass RX1 = some mm.cls := hown
  refine w_start fun H locs hH hL => ?_
  rw [← hH] at hP
  replace hS : va_S A s.heap H locs := by rw [hL, hH]; exact va_S.rf
  refine lv_aload_n hx hb dX1_bestWithout_0 rfl (lv_at hl 0 rfl) ?_
  refine lv_iload_n hx hb dX1_bestWithout_1 rfl (lv_at hl 1 rfl) ?_
  refine w_xi (As := [.int x]) (rest := []) ⟨hx, hb, hml, hown, hts⟩ (mX1_isRoad l D d ad E O G C F V S T P n m w a b g hR x) (cwV 1 hts (lw_V q82 q84 qs1 q22 q85) rfl rfl rfl (by decide +kernel) ⟨Nat.le_of_ble_eq_true rfl, Nat.le_of_ble_eq_true rfl⟩) hP hK hD hS hA rfl hl.1 rfl (Nat.le_of_ble_eq_true rfl) dX1_bestWithout_2 (fun r1 _ H locs hw1 hP hD hS => ?_)
  have hP : va_P D vwCl (wX ad d E O G C F V S T P (nI n) (nI m) (nI w)) H := hP
  have hD : va_D A (wX ad d E O G C F V S T P (nI n) (nI m) (nI w)) := hD
  refine lv_if_ne (tgt := 12) hx hb dX1_bestWithout_5 (by decide) (fun c_5 => ?_) (fun c_5 => ?_)
  · obtain ⟨j, hj, rfl⟩ := or_t hw1 c_5
    refine lv_aload_n hx hb dX1_bestWithout_12 rfl (lv_at hl 0 rfl) ?_
    refine w_xv (As := []) (rest := []) ⟨hx, hb, hml, hown, hts⟩ (mX1_takeCosts l D d ad E O G C F V S T P n m w a b g hR) (cwV 0 hts (lw_V q134 q136 qs6 q22 q137) rfl rfl rfl (by decide +kernel) ⟨Nat.le_of_ble_eq_true rfl, Nat.le_of_ble_eq_true rfl⟩) hP hK hD hS hA rfl hl.1 rfl (Nat.le_of_ble_eq_true rfl) dX1_bestWithout_13 (fun C1 H locs hc1 hP hD hS => ?_)
    have hP : va_P D vwCl (wX ad d E O G C1 F V S T P (nI n) (nI m) (nI w)) H := hP
    have hD : va_D A (wX ad d E O G C1 F V S T P (nI n) (nI m) (nI w)) := hD
    refine lv_aload_n hx hb dX1_bestWithout_16 rfl (lv_at hl 0 rfl) ?_
    refine va_get (D := D) (ci := 0) (v := .ref (ad 4)) (C := RX1) (T := TX1) (N := 12) hx hb hts in_X1 hown hK hP 0 rfl rfl 3 (by decide) (hts _ q35) (fun _ h9 => h9) rfl dX1_bestWithout_17 ?_
    refine lv_iload_n hx hb dX1_bestWithout_20 rfl (lv_at hl 1 rfl) ?_
    refine lv_dup2_11 hx hb dX1_bestWithout_21 rfl rfl ?_
    refine w_iald (v := (zI (coN g j))) hx hb hK hP 4 0 rfl rfl (by omega) (by decide) (hc1 j hj) dX1_bestWithout_22 ?_
    refine lv_ldc (v := 4194304) hx hb hown (hts _ q171) dX1_bestWithout_23 ?_
    refine lv_iadd hx hb dX1_bestWithout_25 ?_
    refine w_top (y := zI (coN g j + 4194304)) (by rw [show (4194304 : Int32) = zI 4194304 by decide, zI_add]) ?_
    refine w_iast hx hb hK hP hD hS 4 0 rfl rfl (by omega) (by decide) dX1_bestWithout_26 (fun H locs hP hD hS => ?_)
    have hP : va_P D vwCl (wX ad d E O G (upd C1 j (zI (coN g j + 4194304))) F V S T P (nI n) (nI m) (nI w)) H := hP
    have hD : va_D A (wX ad d E O G (upd C1 j (zI (coN g j + 4194304))) F V S T P (nI n) (nI m) (nI w)) := hD
    have hrc : RepC m (cdN g j 4194304) (upd C1 j (zI (coN g j + 4194304))) := repC_cd hokg hj (by omega) hc1
    refine lv_aload_n hx hb dX1_bestWithout_27 rfl (lv_at hl 0 rfl) ?_
    refine lv_aload_n hx hb dX1_bestWithout_28 rfl (lv_at hl 0 rfl) ?_
    refine va_get (D := D) (ci := 0) (v := .int (nI w)) (C := RX1) (T := TX1) (N := 12) hx hb hts in_X1 hown hK hP 0 rfl rfl 11 (by decide) (hts _ q43) (fun _ h9 => h9) rfl dX1_bestWithout_29 ?_
    refine w_xi (As := [.int (nI w)]) (rest := []) ⟨hx, hb, hml, hown, hts⟩ (mX1_solve l D d ad E O G (upd C1 j (zI (coN g j + 4194304))) F V S T P n m w a b g hR (cdN g j 4194304) hrc (w) hw128) (cwV 1 hts (lw_V q138 q140 qs7 q22 q141) rfl rfl rfl (by decide +kernel) ⟨Nat.le_of_ble_eq_true rfl, Nat.le_of_ble_eq_true rfl⟩) hP hK hD hS hA rfl hl.1 rfl (Nat.le_of_ble_eq_true rfl) dX1_bestWithout_32 (fun r2 u2 H locs hw2 hP hD hS => ?_)
    obtain ⟨P2, F2, V2, S2, T2⟩ := u2
    have hP : va_P D vwCl (wX ad d E O G (upd C1 j (zI (coN g j + 4194304))) F2 V2 S2 T2 P2 (nI n) (nI m) (nI w)) H := hP
    have hD : va_D A (wX ad d E O G (upd C1 j (zI (coN g j + 4194304))) F2 V2 S2 T2 P2 (nI n) (nI m) (nI w)) := hD
    rcases hw2 with ⟨hp, hr2⟩ | ⟨hp, hr2⟩
    · subst hr2
      obtain ⟨hX1, hX2, hX3⟩ := so_all hokg (c := (cdN g j 4194304)) (cd_ok hokg hj (by omega)) hw7 hp
      have hX : soJ a b (cdN g j 4194304) n m (w) < 4096 := Nat.lt_of_lt_of_le hX1 h2m
      refine lv_istore_n (lv' := [(2, .int (nI (soJ a b (cdN g j 4194304) n m (w)))), (0, .ref (ad 0)), (1, .int (nI j))]) hx hb dX1_bestWithout_35 rfl hl (by decide) rfl (fun ls hl => ?_)
      refine lv_iload_n hx hb dX1_bestWithout_36 rfl (lv_at hl 0 rfl) ?_
      refine lv_if_lt (tgt := 49) hx hb dX1_bestWithout_37 (by decide) (fun c_37 => ?_) (fun c_37 => ?_)
      · exact absurd c_37 (nI_pos (by omega))
      · refine lv_iload_n hx hb dX1_bestWithout_40 rfl (lv_at hl 0 rfl) ?_
        refine lv_iload_n hx hb dX1_bestWithout_41 rfl (lv_at hl 2 rfl) ?_
        refine lv_ishr hx hb dX1_bestWithout_42 ?_
        refine lv_iconst (v := 1) hx hb dX1_bestWithout_43 (by decide) ?_
        refine lv_iand hx hb dX1_bestWithout_44 ?_
        refine w_top (y := bI ((soJ a b (cdN g j 4194304) n m (w)).testBit j)) (b_bit (by omega) (by omega)) ?_
        refine lv_iconst (v := 1) hx hb dX1_bestWithout_45 (by decide) ?_
        refine lv_icmp_ne (tgt := 55) hx hb dX1_bestWithout_46 (by decide) (fun c_46 => ?_) (fun c_46 => ?_)
        · have hbt := bI_n1.mp c_46
          refine lv_aload_n hx hb dX1_bestWithout_55 rfl (lv_at hl 1 rfl) ?_
          refine lv_iload_n hx hb dX1_bestWithout_56 rfl (lv_at hl 0 rfl) ?_
          refine w_xi (As := [.int (nI (soJ a b (cdN g j 4194304) n m (w)))]) (rest := []) ⟨hx, hb, hml, hown, hts⟩ (mX1_weightOf l D d ad E O G (upd C1 j (zI (coN g j + 4194304))) F2 V2 S2 T2 P2 n m w a b g hR (soJ a b (cdN g j 4194304) n m (w)) hX) (cwV 1 hts (lw_V q159 q161 qs12 q22 q162) rfl rfl rfl (by decide +kernel) ⟨Nat.le_of_ble_eq_true rfl, Nat.le_of_ble_eq_true rfl⟩) hP hK hD hS hA rfl hl.1 rfl (Nat.le_of_ble_eq_true rfl) dX1_bestWithout_57 (fun r _ H locs hw hP hD hS => ?_)
          subst hw
          have hP : va_P D vwCl (wX ad d E O G (upd C1 j (zI (coN g j + 4194304))) F2 V2 S2 T2 P2 (nI n) (nI m) (nI w)) H := hP
          have hD : va_D A (wX ad d E O G (upd C1 j (zI (coN g j + 4194304))) F2 V2 S2 T2 P2 (nI n) (nI m) (nI w)) := hD
          exact w_iret hx hb hr hlocks (upd C1 j (zI (coN g j + 4194304)), F2, V2, S2, T2, P2) (Or.inr ⟨j, hj, rfl, by rw [be_wout hokg hw7 hj hp, if_neg (by rw [hbt]; decide)]; rfl⟩) hP hK hD hS dX1_bestWithout_60
        · have hbt := bI_1.mp c_46
          refine lv_sipush (v := (-1000)) hx hb dX1_bestWithout_49 (by decide) ?_
          refine lv_goto (tgt := 60) hx hb dX1_bestWithout_52 (by decide) ?_
          exact w_iret hx hb hr hlocks (upd C1 j (zI (coN g j + 4194304)), F2, V2, S2, T2, P2) (Or.inr ⟨j, hj, rfl, by rw [be_wout hokg hw7 hj hp, if_pos hbt]; rfl⟩) hP hK hD hS dX1_bestWithout_60
    · subst hr2
      refine lv_istore_n (lv' := [(2, .int (-1)), (0, .ref (ad 0)), (1, .int (nI j))]) hx hb dX1_bestWithout_35 rfl hl (by decide) rfl (fun ls hl => ?_)
      refine lv_iload_n hx hb dX1_bestWithout_36 rfl (lv_at hl 0 rfl) ?_
      refine lv_if_lt (tgt := 49) hx hb dX1_bestWithout_37 (by decide) (fun c_37 => ?_) (fun c_37 => ?_)
      · refine lv_sipush (v := (-1000)) hx hb dX1_bestWithout_49 (by decide) ?_
        refine lv_goto (tgt := 60) hx hb dX1_bestWithout_52 (by decide) ?_
        exact w_iret hx hb hr hlocks (upd C1 j (zI (coN g j + 4194304)), F2, V2, S2, T2, P2) (Or.inr ⟨j, hj, rfl, by rw [be_none hokg hw7 hp]; rfl⟩) hP hK hD hS dX1_bestWithout_60
      · exact absurd (by decide) c_37
  · refine lv_sipush (v := (-2000)) hx hb dX1_bestWithout_8 (by decide) ?_
    exact w_iret hx hb hr hlocks (C, F, V, S, T, P) (Or.inl ⟨or_f hw1 c_5, rfl⟩) hP hK hD hS dX1_bestWithout_11
set_option maxHeartbeats 4000000 in
set_option maxRecDepth 100000 in
theorem mX1_between (l : Launch) (D : va_G) (d : ClassId) (ad : Nat → Nat) (E O G C F V S T P : Nat → Int32) (n m w : Nat) (a b : Nat → Nat) (g : Nat → Int) (hR : Rep n m w a b g E O G) (x y : Int32) : MI_ l yX1_between (ws_ yX1_between cX1_between 4 (some .int)) rq3 D d (wX ad d E O G C F V S T P (nI n) (nI m) (nI w)) (fun u : (Nat → Int32) × (Nat → Int32) × (Nat → Int32) × (Nat → Int32) × (Nat → Int32) × (Nat → Int32) => (wX ad d E O G u.1 u.2.1 u.2.2.1 u.2.2.2.1 u.2.2.2.2.1 u.2.2.2.2.2 (nI n) (nI m) (nI w))) [.ref (ad 0), .int x, .int y] (fun (r : Int32) u => BetR n m a b g x y r) := by
  have hR0 := hR
  obtain ⟨⟨⟨hn2, hn7, hm12, hw7⟩, hok⟩, hE⟩ := hR0
  have hokg := hR.1
  have h2m : 2 ^ m ≤ 4096 := Nat.pow_le_pow_right (n := 2) (by decide) hm12
  refine MI_mk (lv := [(0, .ref (ad 0)), (1, .int x), (2, .int y)]) (by decide) (Nat.le_of_ble_eq_true rfl) rfl fun pg en s mm below meth cd A ls hx hb hr hlocks hml hown hts hA hP hK hD hS hl => ?_
  have hown : s.vm.findClass RX1 = some mm.cls := hown
  refine w_start fun H locs hH hL => ?_
  rw [← hH] at hP
  replace hS : va_S A s.heap H locs := by rw [hL, hH]; exact va_S.rf
  refine lv_aload_n hx hb dX1_between_0 rfl (lv_at hl 0 rfl) ?_
  refine lv_iload_n hx hb dX1_between_1 rfl (lv_at hl 1 rfl) ?_
  refine w_xi (As := [.int x]) (rest := []) ⟨hx, hb, hml, hown, hts⟩ (mX1_isPlace l D d ad E O G C F V S T P n m w a b g hR x) (cwV 1 hts (lw_V q74 q76 qs0 q22 q77) rfl rfl rfl (by decide +kernel) ⟨Nat.le_of_ble_eq_true rfl, Nat.le_of_ble_eq_true rfl⟩) hP hK hD hS hA rfl hl.1 rfl (Nat.le_of_ble_eq_true rfl) dX1_between_2 (fun r1 _ H locs hw1 hP hD hS => ?_)
  have hP : va_P D vwCl (wX ad d E O G C F V S T P (nI n) (nI m) (nI w)) H := hP
  have hD : va_D A (wX ad d E O G C F V S T P (nI n) (nI m) (nI w)) := hD
  refine lv_if_eq (tgt := 16) hx hb dX1_between_5 (by decide) (fun c_5 => ?_) (fun c_5 => ?_)
  · have hbad := or_f hw1 c_5
    refine lv_sipush (v := (-2000)) hx hb dX1_between_16 (by decide) ?_
    exact w_iret hx hb hr hlocks (C, F, V, S, T, P) (Or.inl ⟨by first | exact fun q => hbad q.1 | exact fun q => or_f hw3 c_13 q.2, rfl⟩) hP hK hD hS dX1_between_19
  · have hx1 := or_t hw1 c_5
    refine lv_aload_n hx hb dX1_between_8 rfl (lv_at hl 0 rfl) ?_
    refine lv_iload_n hx hb dX1_between_9 rfl (lv_at hl 2 rfl) ?_
    refine w_xi (As := [.int y]) (rest := []) ⟨hx, hb, hml, hown, hts⟩ (mX1_isPlace l D d ad E O G C F V S T P n m w a b g hR y) (cwV 1 hts (lw_V q74 q76 qs0 q22 q77) rfl rfl rfl (by decide +kernel) ⟨Nat.le_of_ble_eq_true rfl, Nat.le_of_ble_eq_true rfl⟩) hP hK hD hS hA rfl hl.1 rfl (Nat.le_of_ble_eq_true rfl) dX1_between_10 (fun r3 _ H locs hw3 hP hD hS => ?_)
    have hP : va_P D vwCl (wX ad d E O G C F V S T P (nI n) (nI m) (nI w)) H := hP
    have hD : va_D A (wX ad d E O G C F V S T P (nI n) (nI m) (nI w)) := hD
    refine lv_if_ne (tgt := 20) hx hb dX1_between_13 (by decide) (fun c_13 => ?_) (fun c_13 => ?_)
    · obtain ⟨i, hi, rfl⟩ := hx1
      obtain ⟨j, hj, rfl⟩ := or_t hw3 c_13
      have hJJ : 2 ^ i ^^^ 2 ^ j < 2 ^ n := Nat.xor_lt_two_pow (Nat.pow_lt_pow_right (by decide) hi) (Nat.pow_lt_pow_right (by decide) hj)
      refine lv_aload_n hx hb dX1_between_20 rfl (lv_at hl 0 rfl) ?_
      refine w_xv (As := []) (rest := []) ⟨hx, hb, hml, hown, hts⟩ (mX1_takeCosts l D d ad E O G C F V S T P n m w a b g hR) (cwV 0 hts (lw_V q134 q136 qs6 q22 q137) rfl rfl rfl (by decide +kernel) ⟨Nat.le_of_ble_eq_true rfl, Nat.le_of_ble_eq_true rfl⟩) hP hK hD hS hA rfl hl.1 rfl (Nat.le_of_ble_eq_true rfl) dX1_between_21 (fun C1 H locs hc1 hP hD hS => ?_)
      have hP : va_P D vwCl (wX ad d E O G C1 F V S T P (nI n) (nI m) (nI w)) H := hP
      have hD : va_D A (wX ad d E O G C1 F V S T P (nI n) (nI m) (nI w)) := hD
      have hrc : RepC m (coN g) C1 := fun e he => ⟨hc1 e he, by have := co_bd hokg he; omega⟩
      refine lv_aload_n hx hb dX1_between_24 rfl (lv_at hl 0 rfl) ?_
      refine lv_iconst (v := 1) hx hb dX1_between_25 (by decide) ?_
      refine lv_iload_n hx hb dX1_between_26 rfl (lv_at hl 1 rfl) ?_
      refine lv_ishl hx hb dX1_between_27 ?_
      refine w_top (y := nI (2 ^ i)) (b_shl1 _ (by omega)) ?_
      refine lv_iconst (v := 1) hx hb dX1_between_28 (by decide) ?_
      refine lv_iload_n hx hb dX1_between_29 rfl (lv_at hl 2 rfl) ?_
      refine lv_ishl hx hb dX1_between_30 ?_
      refine w_top (y := nI (2 ^ j)) (b_shl1 _ (by omega)) ?_
      refine lv_ixor hx hb dX1_between_31 ?_
      refine w_top (y := nI (2 ^ i ^^^ 2 ^ j)) (nx_xor _ _) ?_
      refine w_xi (As := [.int (nI (2 ^ i ^^^ 2 ^ j))]) (rest := []) ⟨hx, hb, hml, hown, hts⟩ (mX1_solve l D d ad E O G C1 F V S T P n m w a b g hR (coN g) hrc (2 ^ i ^^^ 2 ^ j) (t128 hokg hJJ)) (cwV 1 hts (lw_V q138 q140 qs7 q22 q141) rfl rfl rfl (by decide +kernel) ⟨Nat.le_of_ble_eq_true rfl, Nat.le_of_ble_eq_true rfl⟩) hP hK hD hS hA rfl hl.1 rfl (Nat.le_of_ble_eq_true rfl) dX1_between_32 (fun r2 u2 H locs hw2 hP hD hS => ?_)
      obtain ⟨P2, F2, V2, S2, T2⟩ := u2
      have hP : va_P D vwCl (wX ad d E O G C1 F2 V2 S2 T2 P2 (nI n) (nI m) (nI w)) H := hP
      have hD : va_D A (wX ad d E O G C1 F2 V2 S2 T2 P2 (nI n) (nI m) (nI w)) := hD
      rcases hw2 with ⟨hp, hr2⟩ | ⟨hp, hr2⟩
      · subst hr2
        obtain ⟨hX1, hX2, hX3⟩ := so_all hokg (c := coN g) (fun e he => by have := co_bd hokg he; omega) hJJ hp
        have hX : soJ a b (coN g) n m (2 ^ i ^^^ 2 ^ j) < 4096 := Nat.lt_of_lt_of_le hX1 h2m
        refine lv_istore_n (lv' := [(3, .int (nI (soJ a b (coN g) n m (2 ^ i ^^^ 2 ^ j)))), (0, .ref (ad 0)), (1, .int (nI i)), (2, .int (nI j))]) hx hb dX1_between_35 rfl hl (by decide) rfl (fun ls hl => ?_)
        refine lv_iload_n hx hb dX1_between_36 rfl (lv_at hl 0 rfl) ?_
        refine lv_if_ge (tgt := 46) hx hb dX1_between_37 (by decide) (fun c_37 => ?_) (fun c_37 => ?_)
        · refine lv_aload_n hx hb dX1_between_46 rfl (lv_at hl 1 rfl) ?_
          refine lv_iload_n hx hb dX1_between_47 rfl (lv_at hl 0 rfl) ?_
          refine w_xi (As := [.int (nI (soJ a b (coN g) n m (2 ^ i ^^^ 2 ^ j)))]) (rest := []) ⟨hx, hb, hml, hown, hts⟩ (mX1_weightOf l D d ad E O G C1 F2 V2 S2 T2 P2 n m w a b g hR (soJ a b (coN g) n m (2 ^ i ^^^ 2 ^ j)) hX) (cwV 1 hts (lw_V q159 q161 qs12 q22 q162) rfl rfl rfl (by decide +kernel) ⟨Nat.le_of_ble_eq_true rfl, Nat.le_of_ble_eq_true rfl⟩) hP hK hD hS hA rfl hl.1 rfl (Nat.le_of_ble_eq_true rfl) dX1_between_48 (fun r _ H locs hw hP hD hS => ?_)
          subst hw
          have hP : va_P D vwCl (wX ad d E O G C1 F2 V2 S2 T2 P2 (nI n) (nI m) (nI w)) H := hP
          have hD : va_D A (wX ad d E O G C1 F2 V2 S2 T2 P2 (nI n) (nI m) (nI w)) := hD
          exact w_iret hx hb hr hlocks (C1, F2, V2, S2, T2, P2) (Or.inr ⟨i, j, hi, hj, rfl, rfl, by rw [be_best hokg hJJ hp]; rfl⟩) hP hK hD hS dX1_between_51
        · exact absurd (nI_pos' (by omega)) c_37
      · subst hr2
        refine lv_istore_n (lv' := [(3, .int (-1)), (0, .ref (ad 0)), (1, .int (nI i)), (2, .int (nI j))]) hx hb dX1_between_35 rfl hl (by decide) rfl (fun ls hl => ?_)
        refine lv_iload_n hx hb dX1_between_36 rfl (lv_at hl 0 rfl) ?_
        refine lv_if_ge (tgt := 46) hx hb dX1_between_37 (by decide) (fun c_37 => ?_) (fun c_37 => ?_)
        · exact absurd c_37 (by decide)
        · refine lv_sipush (v := (-1000)) hx hb dX1_between_40 (by decide) ?_
          refine lv_goto (tgt := 51) hx hb dX1_between_43 (by decide) ?_
          exact w_iret hx hb hr hlocks (C1, F2, V2, S2, T2, P2) (Or.inr ⟨i, j, hi, hj, rfl, rfl, by rw [be_none hokg hJJ hp]; rfl⟩) hP hK hD hS dX1_between_51
    · refine lv_sipush (v := (-2000)) hx hb dX1_between_16 (by decide) ?_
      exact w_iret hx hb hr hlocks (C, F, V, S, T, P) (Or.inl ⟨by first | exact fun q => hbad q.1 | exact fun q => or_f hw3 c_13 q.2, rfl⟩) hP hK hD hS dX1_between_19
set_option maxHeartbeats 4000000 in
set_option maxRecDepth 100000 in
theorem mX1_postman (l : Launch) (D : va_G) (d : ClassId) (ad : Nat → Nat) (E O G C F V S T P : Nat → Int32) (n m w : Nat) (a b : Nat → Nat) (g : Nat → Int) (hR : Rep n m w a b g E O G) : MI_ l yX1_postman (ws_ yX1_postman cX1_postman 3 (some .int)) rq3 D d (wX ad d E O G C F V S T P (nI n) (nI m) (nI w)) (fun u : (Nat → Int32) × (Nat → Int32) × (Nat → Int32) × (Nat → Int32) × (Nat → Int32) × (Nat → Int32) => (wX ad d E O G u.1 u.2.1 u.2.2.1 u.2.2.2.1 u.2.2.2.2.1 u.2.2.2.2.2 (nI n) (nI m) (nI w))) [.ref (ad 0)] (fun (r : Int32) u => PosR m a b g r) := by
  have hR0 := hR
  obtain ⟨⟨⟨hn2, hn7, hm12, hw7⟩, hok⟩, hE⟩ := hR0
  have hokg := hR.1
  have h2m : 2 ^ m ≤ 4096 := Nat.pow_le_pow_right (n := 2) (by decide) hm12
  have hab : ∀ e, e < m → a e < n ∧ b e < n := fun e he => ⟨(hok e he).1, (hok e he).2.1⟩
  have hJJ : oddN a b (2 ^ m - 1) m < 2 ^ n := oddN_lt hab
  refine MI_mk (lv := [(0, .ref (ad 0))]) (by decide) (Nat.le_of_ble_eq_true rfl) rfl fun pg en s mm below meth cd A ls hx hb hr hlocks hml hown hts hA hP hK hD hS hl => ?_
  have hown : s.vm.findClass RX1 = some mm.cls := hown
  refine w_start fun H locs hH hL => ?_
  rw [← hH] at hP
  replace hS : va_S A s.heap H locs := by rw [hL, hH]; exact va_S.rf
  refine lv_iconst (v := nI 0) hx hb dX1_postman_0 (by decide) ?_
  refine lv_istore_n (lv' := [(1, .int (nI 0)), (0, .ref (ad 0))]) hx hb dX1_postman_1 rfl hl (by decide) rfl (fun ls hl => ?_)
  refine w_for (σ := Unit) (m) (fun u => (wX ad d E O G C F V S T P (nI n) (nI m) (nI w))) (fun i u => [(0, .ref (ad 0)), (1, .int (nI i))]) (fun i u => ∀ e, e < i → 0 ≤ g e) (fun i hi_i IH_i u H locs ls hI_i hP hD hS hl => ?_) (i0 := 0) (Nat.zero_le _) () (fun e h => absurd h (by omega)) hP hD hS (lv_sub hl [1, 0] rfl)
  have hP : va_P D vwCl (wX ad d E O G C F V S T P (nI n) (nI m) (nI w)) H := hP
  have hD : va_D A (wX ad d E O G C F V S T P (nI n) (nI m) (nI w)) := hD
  have hl : lv_has ls 3 [(0, .ref (ad 0)), (1, .int (nI i))] := hl
  have hI_i : ∀ e, e < i → 0 ≤ g e := hI_i
  refine lv_iload_n hx hb dX1_postman_2 rfl (lv_at hl 1 rfl) ?_
  refine lv_aload_n hx hb dX1_postman_3 rfl (lv_at hl 0 rfl) ?_
  refine va_get (D := D) (ci := 0) (v := .int (nI m)) (C := RX1) (T := TX1) (N := 12) hx hb hts in_X1 hown hK hP 0 rfl rfl 10 (by decide) (hts _ q42) (fun _ h9 => h9) rfl dX1_postman_4 ?_
  refine lv_icmp_ge (tgt := 27) hx hb dX1_postman_7 (by decide) (fun c_7 => ?_) (fun c_7 => ?_)
  · have him_i : i = m := by have := le_c c_7; omega
    have hpos : ∀ e, e < m → 0 ≤ g e := fun e he => hI_i e (by omega)
    refine lv_aload_n hx hb dX1_postman_27 rfl (lv_at hl 0 rfl) ?_
    refine va_get (D := D) (ci := 0) (v := .int (nI m)) (C := RX1) (T := TX1) (N := 12) hx hb hts in_X1 hown hK hP 0 rfl rfl 10 (by decide) (hts _ q42) (fun _ h9 => h9) rfl dX1_postman_28 ?_
    refine lv_if_ne (tgt := 36) hx hb dX1_postman_31 (by decide) (fun c_31 => ?_) (fun c_31 => ?_)
    · have hm0 : 0 < m := Nat.pos_of_ne_zero (fun h => c_31 (by rw [h]; rfl))
      refine lv_aload_n hx hb dX1_postman_36 rfl (lv_at hl 0 rfl) ?_
      refine w_xv (As := []) (rest := []) ⟨hx, hb, hml, hown, hts⟩ (mX1_findParts l D d ad E O G C F V S T P n m w a b g hR) (cwV 0 hts (lw_V q118 q120 qs4 q22 q121) rfl rfl rfl (by decide +kernel) ⟨Nat.le_of_ble_eq_true rfl, Nat.le_of_ble_eq_true rfl⟩) hP hK hD hS hA rfl hl.1 rfl (Nat.le_of_ble_eq_true rfl) dX1_postman_37 (fun P1 H locs hp1 hP hD hS => ?_)
      have hP : va_P D vwCl (wX ad d E O G C F V S T P1 (nI n) (nI m) (nI w)) H := hP
      have hD : va_D A (wX ad d E O G C F V S T P1 (nI n) (nI m) (nI w)) := hD
      refine lv_iconst (v := nI 1) hx hb dX1_postman_40 (by decide) ?_
      refine lv_istore_n (lv' := [(1, .int (nI 1)), (0, .ref (ad 0))]) hx hb dX1_postman_41 rfl hl (by decide) rfl (fun ls hl => ?_)
      refine w_for (σ := Unit) (m) (fun u => (wX ad d E O G C F V S T P1 (nI n) (nI m) (nI w))) (fun i u => [(0, .ref (ad 0)), (1, .int (nI i))]) (fun i u => ∀ e, e < i → ptN a b m (a e) = ptN a b m (a 0)) (fun i hi_i IH_i u H locs ls hI_i hP hD hS hl => ?_) (i0 := 1) hm0 () (fun e h => by rw [show e = 0 by omega]) hP hD hS (lv_sub hl [1, 0] rfl)
      have hP : va_P D vwCl (wX ad d E O G C F V S T P1 (nI n) (nI m) (nI w)) H := hP
      have hD : va_D A (wX ad d E O G C F V S T P1 (nI n) (nI m) (nI w)) := hD
      have hl : lv_has ls 3 [(0, .ref (ad 0)), (1, .int (nI i))] := hl
      have hI_i : ∀ e, e < i → ptN a b m (a e) = ptN a b m (a 0) := hI_i
      refine lv_iload_n hx hb dX1_postman_42 rfl (lv_at hl 1 rfl) ?_
      refine lv_aload_n hx hb dX1_postman_43 rfl (lv_at hl 0 rfl) ?_
      refine va_get (D := D) (ci := 0) (v := .int (nI m)) (C := RX1) (T := TX1) (N := 12) hx hb hts in_X1 hown hK hP 0 rfl rfl 10 (by decide) (hts _ q42) (fun _ h9 => h9) rfl dX1_postman_44 ?_
      refine lv_icmp_ge (tgt := 84) hx hb dX1_postman_47 (by decide) (fun c_47 => ?_) (fun c_47 => ?_)
      · have him_i : i = m := by have := le_c c_47; omega
        have hwh : whN a b m := (wh_iff hokg hm0).mpr (fun e he => hI_i e (by omega))
        refine lv_aload_n hx hb dX1_postman_84 rfl (lv_at hl 0 rfl) ?_
        refine w_xv (As := []) (rest := []) ⟨hx, hb, hml, hown, hts⟩ (mX1_takeCosts l D d ad E O G C F V S T P1 n m w a b g hR) (cwV 0 hts (lw_V q134 q136 qs6 q22 q137) rfl rfl rfl (by decide +kernel) ⟨Nat.le_of_ble_eq_true rfl, Nat.le_of_ble_eq_true rfl⟩) hP hK hD hS hA rfl hl.1 rfl (Nat.le_of_ble_eq_true rfl) dX1_postman_85 (fun C1 H locs hc1 hP hD hS => ?_)
        have hP : va_P D vwCl (wX ad d E O G C1 F V S T P1 (nI n) (nI m) (nI w)) H := hP
        have hD : va_D A (wX ad d E O G C1 F V S T P1 (nI n) (nI m) (nI w)) := hD
        have hrc : RepC m (coN g) C1 := fun e he => ⟨hc1 e he, by have := co_bd hokg he; omega⟩
        refine lv_aload_n hx hb dX1_postman_88 rfl (lv_at hl 0 rfl) ?_
        refine w_xi (As := []) (rest := []) ⟨hx, hb, hml, hown, hts⟩ (mX1_oddPlaces l D d ad E O G C1 F V S T P1 n m w a b g hR) (cwV 0 hts (lw_V q184 q185 q186 q22 q187) rfl rfl rfl (by decide +kernel) ⟨Nat.le_of_ble_eq_true rfl, Nat.le_of_ble_eq_true rfl⟩) hP hK hD hS hA rfl hl.1 rfl (Nat.le_of_ble_eq_true rfl) dX1_postman_89 (fun r _ H locs hw hP hD hS => ?_)
        subst hw
        have hP : va_P D vwCl (wX ad d E O G C1 F V S T P1 (nI n) (nI m) (nI w)) H := hP
        have hD : va_D A (wX ad d E O G C1 F V S T P1 (nI n) (nI m) (nI w)) := hD
        refine lv_istore_n (lv' := [(1, .int (nI (oddN a b (2 ^ m - 1) m))), (0, .ref (ad 0))]) hx hb dX1_postman_92 rfl hl (by decide) rfl (fun ls hl => ?_)
        refine lv_aload_n hx hb dX1_postman_93 rfl (lv_at hl 1 rfl) ?_
        refine lv_iload_n hx hb dX1_postman_94 rfl (lv_at hl 0 rfl) ?_
        refine w_xi (As := [.int (nI (oddN a b (2 ^ m - 1) m))]) (rest := []) ⟨hx, hb, hml, hown, hts⟩ (mX1_solve l D d ad E O G C1 F V S T P1 n m w a b g hR (coN g) hrc (oddN a b (2 ^ m - 1) m) (odd128 hokg)) (cwV 1 hts (lw_V q138 q140 qs7 q22 q141) rfl rfl rfl (by decide +kernel) ⟨Nat.le_of_ble_eq_true rfl, Nat.le_of_ble_eq_true rfl⟩) hP hK hD hS hA rfl hl.1 rfl (Nat.le_of_ble_eq_true rfl) dX1_postman_95 (fun r2 u2 H locs hw2 hP hD hS => ?_)
        obtain ⟨P2, F2, V2, S2, T2⟩ := u2
        have hP : va_P D vwCl (wX ad d E O G C1 F2 V2 S2 T2 P2 (nI n) (nI m) (nI w)) H := hP
        have hD : va_D A (wX ad d E O G C1 F2 V2 S2 T2 P2 (nI n) (nI m) (nI w)) := hD
        rcases hw2 with ⟨hp, hr2⟩ | ⟨hp, hr2⟩
        · subst hr2
          obtain ⟨hX1, hX2, hX3⟩ := so_all hokg (c := coN g) (fun e he => by have := co_bd hokg he; omega) hJJ hp
          have hX : soJ a b (coN g) n m (oddN a b (2 ^ m - 1) m) < 4096 := Nat.lt_of_lt_of_le hX1 h2m
          refine lv_istore_n (lv' := [(2, .int (nI (soJ a b (coN g) n m (oddN a b (2 ^ m - 1) m)))), (1, .int (nI (oddN a b (2 ^ m - 1) m))), (0, .ref (ad 0))]) hx hb dX1_postman_98 rfl hl (by decide) rfl (fun ls hl => ?_)
          refine lv_aload_n hx hb dX1_postman_99 rfl (lv_at hl 2 rfl) ?_
          refine lv_iload_n hx hb dX1_postman_100 rfl (lv_at hl 0 rfl) ?_
          refine w_xi (As := [.int (nI (soJ a b (coN g) n m (oddN a b (2 ^ m - 1) m)))]) (rest := []) ⟨hx, hb, hml, hown, hts⟩ (mX1_weightOf l D d ad E O G C1 F2 V2 S2 T2 P2 n m w a b g hR (soJ a b (coN g) n m (oddN a b (2 ^ m - 1) m)) hX) (cwV 1 hts (lw_V q159 q161 qs12 q22 q162) rfl rfl rfl (by decide +kernel) ⟨Nat.le_of_ble_eq_true rfl, Nat.le_of_ble_eq_true rfl⟩) hP hK hD hS hA rfl hl.1 rfl (Nat.le_of_ble_eq_true rfl) dX1_postman_101 (fun r _ H locs hw hP hD hS => ?_)
          subst hw
          have hP : va_P D vwCl (wX ad d E O G C1 F2 V2 S2 T2 P2 (nI n) (nI m) (nI w)) H := hP
          have hD : va_D A (wX ad d E O G C1 F2 V2 S2 T2 P2 (nI n) (nI m) (nI w)) := hD
          exact w_iret hx hb hr hlocks (C1, F2, V2, S2, T2, P2) (Or.inr (Or.inr (Or.inr ⟨hpos, hm0, hwh, by rw [be_best hokg hJJ hp]; rfl⟩))) hP hK hD hS dX1_postman_104
        · exact absurd ((pos_iff hab hJJ).mpr ⟨2 ^ m - 1, by have := Nat.two_pow_pos m; omega, rfl⟩) hp
      · have hlt_i : i < m := nle_c c_47
        obtain ⟨hai, hbi, hg1i, hg2i⟩ := hok i hlt_i
        obtain ⟨hEi, hOi, hGi⟩ := hE i hlt_i
        refine lv_aload_n hx hb dX1_postman_50 rfl (lv_at hl 0 rfl) ?_
        refine va_get (D := D) (ci := 0) (v := .ref (ad 9)) (C := RX1) (T := TX1) (N := 12) hx hb hts in_X1 hown hK hP 0 rfl rfl 8 (by decide) (hts _ q40) (fun _ h9 => h9) rfl dX1_postman_51 ?_
        refine lv_aload_n hx hb dX1_postman_54 rfl (lv_at hl 0 rfl) ?_
        refine va_get (D := D) (ci := 0) (v := .ref (ad 1)) (C := RX1) (T := TX1) (N := 12) hx hb hts in_X1 hown hK hP 0 rfl rfl 0 (by decide) (hts _ q32) (fun _ h9 => h9) rfl dX1_postman_55 ?_
        refine lv_iload_n hx hb dX1_postman_58 rfl (lv_at hl 1 rfl) ?_
        refine w_iald (v := (nI (a i))) hx hb hK hP 1 0 rfl rfl (by omega) (by decide) hEi dX1_postman_59 ?_
        refine w_iald (v := (nI (ptN a b m (a i)))) hx hb hK hP 9 0 rfl rfl (by omega) (by decide) (hp1 _ hai) dX1_postman_60 ?_
        refine lv_aload_n hx hb dX1_postman_61 rfl (lv_at hl 0 rfl) ?_
        refine va_get (D := D) (ci := 0) (v := .ref (ad 9)) (C := RX1) (T := TX1) (N := 12) hx hb hts in_X1 hown hK hP 0 rfl rfl 8 (by decide) (hts _ q40) (fun _ h9 => h9) rfl dX1_postman_62 ?_
        refine lv_aload_n hx hb dX1_postman_65 rfl (lv_at hl 0 rfl) ?_
        refine va_get (D := D) (ci := 0) (v := .ref (ad 1)) (C := RX1) (T := TX1) (N := 12) hx hb hts in_X1 hown hK hP 0 rfl rfl 0 (by decide) (hts _ q32) (fun _ h9 => h9) rfl dX1_postman_66 ?_
        refine lv_iconst (v := nI 0) hx hb dX1_postman_69 (by decide) ?_
        refine w_iald (v := (nI (a 0))) hx hb hK hP 1 0 rfl rfl (by omega) (by decide) (hE 0 hm0).1 dX1_postman_70 ?_
        refine w_iald (v := (nI (ptN a b m (a 0)))) hx hb hK hP 9 0 rfl rfl (by have := (hok 0 hm0).1; omega) (by decide) (hp1 _ (hok 0 hm0).1) dX1_postman_71 ?_
        refine lv_icmp_eq (tgt := 78) hx hb dX1_postman_72 (by decide) (fun c_72 => ?_) (fun c_72 => ?_)
        · refine lv_iinc (v := (nI (i + 1))) (lv' := [(1, .int (nI (i + 1))), (0, .ref (ad 0))]) hx hb dX1_postman_78 hl (k := 1) rfl (nI_1 i) (by decide) rfl (fun ls hl => ?_)
          refine lv_goto (tgt := 42) hx hb dX1_postman_81 (by decide) ?_
          have hl : lv_has ls 3 [(0, .ref (ad 0)), (1, .int (nI (i + 1)))] := by exact lv_sub hl [1, 0] rfl
          exact IH_i () _ _ _ hlt_i (lt_s hI_i (eq_c c_72 (Nat.lt_trans (ptN_lt hab hai) (by omega)) (Nat.lt_trans (ptN_lt hab (hok 0 hm0).1) (by omega)))) hP hD hS hl
        · refine lv_bipush (v := (-2)) hx hb dX1_postman_75 (by decide) ?_
          exact w_iret hx hb hr hlocks (C, F, V, S, T, P1) (Or.inr (Or.inr (Or.inl ⟨hpos, hm0, fun h => c_72 (by rw [(wh_iff hokg hm0).mp h i hlt_i]), rfl⟩))) hP hK hD hS dX1_postman_77
    · have hm0 : m = 0 := eq_c (show nI m = nI 0 from c_31)
      refine lv_iconst (v := 0) hx hb dX1_postman_34 (by decide) ?_
      exact w_iret hx hb hr hlocks (C, F, V, S, T, P) (Or.inr (Or.inl ⟨hpos, hm0, rfl⟩)) hP hK hD hS dX1_postman_35
  · have hlt_i : i < m := nle_c c_7
    obtain ⟨hai, hbi, hg1i, hg2i⟩ := hok i hlt_i
    obtain ⟨hEi, hOi, hGi⟩ := hE i hlt_i
    refine lv_aload_n hx hb dX1_postman_10 rfl (lv_at hl 0 rfl) ?_
    refine va_get (D := D) (ci := 0) (v := .ref (ad 3)) (C := RX1) (T := TX1) (N := 12) hx hb hts in_X1 hown hK hP 0 rfl rfl 2 (by decide) (hts _ q34) (fun _ h9 => h9) rfl dX1_postman_11 ?_
    refine lv_iload_n hx hb dX1_postman_14 rfl (lv_at hl 1 rfl) ?_
    refine w_iald (v := (zI (g i))) hx hb hK hP 3 0 rfl rfl (by omega) (by decide) hGi dX1_postman_15 ?_
    refine lv_if_ge (tgt := 21) hx hb dX1_postman_16 (by decide) (fun c_16 => ?_) (fun c_16 => ?_)
    · refine lv_iinc (v := (nI (i + 1))) (lv' := [(1, .int (nI (i + 1))), (0, .ref (ad 0))]) hx hb dX1_postman_21 hl (k := 1) rfl (nI_1 i) (by decide) rfl (fun ls hl => ?_)
      refine lv_goto (tgt := 2) hx hb dX1_postman_24 (by decide) ?_
      have hl : lv_has ls 3 [(0, .ref (ad 0)), (1, .int (nI (i + 1)))] := by exact lv_sub hl [1, 0] rfl
      exact IH_i () _ _ _ hlt_i (lt_s hI_i ((zI_ge0 ⟨by omega, by omega⟩).mp c_16)) hP hD hS hl
    · refine lv_iconst (v := (-1)) hx hb dX1_postman_19 (by decide) ?_
      exact w_iret hx hb hr hlocks (C, F, V, S, T, P) (Or.inl ⟨⟨i, hlt_i, Int.lt_of_not_ge (fun h => c_16 ((zI_ge0 ⟨by omega, by omega⟩).mpr h))⟩, rfl⟩) hP hK hD hS dX1_postman_20
end
section
/-! the constructors, and the law's cell -/
def MC_ {S : Type} (l : Launch) (y : MethodName) (ws : List Cond) (rm : Room) (D : va_G) (d : ClassId) (w : va_W) (wf : S → va_W) (av : List Value) (post : S → Prop) (mc ms : Nat) : Prop :=
  ∀ sz : Nat, Met l y ws rm (Pre_ D d w sz av) (va_Qv post (Bw_ D d wf (va_A w sz)) (va_A w sz)) mc ms (va_A w sz)
theorem MC_mk {S : Type} {l : Launch} {y : MethodName} {rm : Room} {D : va_G} {d : ClassId} {w : va_W} {wf : S → va_W} {av : List Value} {post : S → Prop} {mc ms : Nat} {cc : ByteArray} {nL : Nat} {lv : List (Nat × Value)}
    (hy : plainName y.cls = true) (hav : (lg_sl av).length ≤ nL) (hlv : lv_args 0 av = lv)
    (body : ∀ (p : Program) (e : Env) (s : State) (mm : MethodId) (below : List Frame) (meth : Method) (c : Code) (A : Nat → Prop) (ls : Array Slot), p.tables.exec = Jvm.exec → c.code = cc → meth.sig.returnType = none → meth.locks = false → meth.name = y.name → c.maxLocals = nL → s.vm.findClass y.cls = some mm.cls → (∀ w ∈ lw_all, w.before av.toArray s = true) → (∀ q : Nat, s.heap.size ≤ q → A q) → va_P D vwCl w s.heap → va_K D vwCl [(d, .int)] s → va_D A w → va_S A s.heap s.heap [] → lv_has ls nL lv →
      W p l e rm s mm av.toArray below meth c s.heap [] 0 0 (MQ below (va_Qv post (Bw_ D d wf A) A) av.toArray s mc ms A) (F0 mm 0 ls [])) :
    MC_ l y (ws_ y cc nL none) rm D d w wf av post mc ms := by
  intro sz
  refine Met.ofW (cc := cc) (maxL := nL) (ret := none) hy rfl ?_
  intro p e s m args below meth c s₁ B hml hv
  obtain ⟨rfl, hsz, hP, hK, hD0⟩ := hv
  have hts := atoms_spec (ws := ws_ y cc nL none) B.pre
  have hts : ∀ w ∈ lw_all, w.before _ s = true := fun w h => hts w (List.mem_cons_of_mem _ h)
  subst hsz
  have hD := hD0.self (sz := s.heap.size)
  generalize hAe : va_A w s.heap.size = A at hD ⊢
  have hA : ∀ q : Nat, s.heap.size ≤ q → A q := fun q h => by rw [← hAe]; exact Or.inr h
  have hl := lv_entry av (n := nL) hav
  rw [lg_entry_eq]
  generalize (lg_sl av ++ List.replicate (nL - (lg_sl av).length) Slot.unset).toArray = ls at hl ⊢
  rw [hlv] at hl
  exact body p e s m below meth c A ls B.exec B.bytes B.returns B.notSynchronized (name_of_methodNamed B.named B.method).1 hml (findClass_of_methodNamed B.named) hts hA hP hK hD va_S.rf hl
section WN
variable {p : Program} {l : Launch} {e : Env} {R : Room} {s : State} {m : MethodId} {args : Array Value} {below : List Frame} {meth : Method} {c : Code} {H : Heap} {locs : List Loc} {cells slots : Nat} {Q : State → Prop}
variable {cc : ByteArray} {pc : Nat} {ls : Array Slot} {rest : List Value} {D : va_G} {A : Nat → Prop} {ws : va_W} {H0 : Heap} {d : ClassId}
theorem d_same {d' : ClassId} (h : va_K D vwCl ([(d, .int)] ++ [(d', .int)]) s) : d' = d := by
  have h1 : s.vm.findClass ("[" ++ FieldType.int.toString) = some d := (h.2 0 (d, .int) rfl).2
  have h2 : s.vm.findClass ("[" ++ FieldType.int.toString) = some d' := (h.2 1 (d', .int) rfl).2
  exact Option.some.inj (h2.symm.trans h1)
theorem w_newa (hx : p.tables.exec = Jvm.exec) (hb : c.code = cc) (harr : (Cond.arrayClass FieldType.int).before args s = true) (hK : va_K D vwCl [(d, .int)] s) (hP : va_P D vwCl ws H) (hD : va_D A ws) (hS : va_S A H0 H locs) (hA : ∀ q, H0.size ≤ q → A q)
    {n : Int32} {N : Nat} (hn : ¬ n < 0) (hN : n.toNatClampNeg = N) (hbytes : N * componentBytes .int ≤ 536870912) (hcells : cells + 1 ≤ R.cells) (hslots : slots + N ≤ R.slots) (hdg : decode cc pc = .ok (.newarray .int, 2))
    (kk : ∀ (q : Nat) (H1 : Heap), va_P D vwCl (ws ++ [(q, .inl (d, N, .inl (fun _ => 0)))]) H1 → va_D A (ws ++ [(q, .inl (d, N, .inl (fun _ => 0)))]) → va_S A H0 H1 locs →
      W p l e R s m args below meth c H1 locs (cells + 1) (slots + N) Q (F0 m (pc + 2) ls (.ref q :: rest))) : W p l e R s m args below meth c H locs cells slots Q (F0 m pc ls (.int n :: rest)) := by
  refine va_newa (atype := .int) (ty := .int) (a0 := (N, .inl (fun _ => 0))) hx hb harr rfl hK hP hD hS hA (fun cA => rfl) hn hN hbytes hcells hslots hdg (fun q cA H1 hK1 hP1 hD1 hS1 => ?_)
  have e := d_same hK1
  subst e
  exact kk q H1 hP1 hD1 hS1
variable {S : Type} {postv : S → Prop} {wf : S → va_W} {mc ms : Nat}
theorem w_cret (hx : p.tables.exec = Jvm.exec) (hb : c.code = cc) (hr : meth.sig.returnType = none) (hlocks : meth.locks = false) (u : S) (hpost : postv u) (hP : va_P D vwCl (wf u) H) (hK : va_K D vwCl [(d, .int)] s) (hD : va_D A (wf u)) (hS : va_S A s.heap H locs) (hdg : decode cc pc = .ok (.return_, 1)) :
    W p l e R s m args below meth c H locs mc ms (MQ below (va_Qv postv (Bw_ D d wf A) A) args s mc ms A) (F0 m pc ls []) :=
  W.vret hx hb hr (fun t ht hW => ⟨⟨u, rfl, hpost, by rw [ht]; exact hP, va_K.moved hW.alike hK, hD⟩, hS.F ht⟩) hS.2.2 hdg hlocks
end WN
/-- the number of places that a constructor makes of x -/
def PlR (x : Int32) (n : Nat) : Prop := (¬ 2 ≤ x ∧ n = 2) ∨ (2 ≤ x ∧ ¬ x ≤ 7 ∧ n = 7) ∨ (2 ≤ x ∧ x ≤ 7 ∧ x = nI n)
theorem pl_of8 {x : Int32} (h1 : 2 ≤ x) (h2 : x ≤ 7) : ∃ n, n < 8 ∧ x = nI n := by
  obtain ⟨j, hj, h⟩ := nI_of2 (M := 7) (n := 7) (by decide) (fun h => by
    have q1 := Int32.lt_iff_toInt_lt.mp h
    have q2 := Int32.le_iff_toInt_le.mp h1
    have e1 : (2 : Int32).toInt = 2 := by decide
    have e2 : (0 : Int32).toInt = 0 := by decide
    rw [e1] at q2
    rw [e2] at q1
    omega) h2
  exact ⟨j, by omega, h⟩
theorem pl_bd {x : Int32} {n : Nat} (h : PlR x n) (hn : n < 2 ^ 31) : 2 ≤ n ∧ n ≤ 7 := by
  rcases h with h | h | h
  · omega
  · omega
  · obtain ⟨h1, h2, h3⟩ := h
    rw [h3] at h1 h2
    exact ⟨le_c (show nI 2 ≤ nI n from h1), le_c (show nI n ≤ nI 7 from h2)⟩
theorem pl_fun {x : Int32} {n n' : Nat} (h : PlR x n) (h' : PlR x n') (hn : n < 2 ^ 31) (hn' : n' < 2 ^ 31) : n = n' := by
  rcases h with h | h | h <;> rcases h' with h' | h' | h'
  · omega
  · exact absurd h'.1 h.1
  · exact absurd h'.1 h.1
  · exact absurd h.1 h'.1
  · omega
  · exact absurd h'.2.1 h.2.1
  · exact absurd h.1 h'.1
  · exact absurd h.2.1 h'.2.1
  · exact eq_c (h.2.2.symm.trans h'.2.2) hn hn'
set_option maxHeartbeats 4000000 in
set_option maxRecDepth 100000 in
theorem mX1_init (l : Launch) (D : va_G) (d : ClassId) (h0 : Nat) (x : Int32) : MC_ l yX1_init (ws_ yX1_init cX1_init 2 none) { frames := 1, cells := 9, slots := 409, locals := 32 } D d [(h0, .inr (0, [.null, .null, .null, .null, .null, .null, .null, .null, .null, .int 0, .int 0, .int 0]))] (fun u : (Nat → Nat) × Nat => wX u.1 d (fun _ => 0) (fun _ => 0) (fun _ => 0) (fun _ => 0) (fun _ => 0) (fun _ => 0) (fun _ => 0) (fun _ => 0) (fun _ => 0) (nI u.2) 0 0) [.ref h0, .int x] (fun u => u.1 0 = h0 ∧ PlR x u.2 ∧ u.2 < 8) 9 409 := by
  refine MC_mk (lv := [(0, .ref h0), (1, .int x)]) (by decide) (Nat.le_of_ble_eq_true rfl) rfl fun pg en s mm below meth cd A ls hx hb hr hlocks hin hml hown hts hA hP hK hD hS hl => ?_
  have hown : s.vm.findClass RX1 = some mm.cls := hown
  have hin : meth.name = "<init>" := hin
  refine w_start fun H locs hH hL => ?_
  rw [← hH] at hP
  replace hS : va_S A s.heap H locs := by rw [hL, hH]; exact va_S.rf
  refine lv_aload_n hx hb dX1_init_0 rfl (lv_at hl 0 rfl) ?_
  refine W.objInit hx hb hown (hts _ q29) (hts _ q30) (hts _ q31) rfl (by rw [hml]; exact hl.1) rfl dX1_init_1 (Nat.le_of_ble_eq_true rfl) (Nat.le_of_ble_eq_true rfl) ?_
  refine W.eq (g2 := F0 mm 4 ls []) rfl ?_
  refine lv_aload_n hx hb dX1_init_4 rfl (lv_at hl 0 rfl) ?_
  refine lv_bipush (v := 12) hx hb dX1_init_5 (by decide) ?_
  refine w_newa (d := d) (N := 12) hx hb (hts _ q69) hK hP hD hS hA (by decide) (by decide) (by decide) (by decide) (by decide) dX1_init_7 (fun q1 H hP hD hS => ?_)
  have hP : va_P D vwCl [(h0, .inr (0, [.null, .null, .null, .null, .null, .null, .null, .null, .null, .int 0, .int 0, .int 0])), (q1, .inl (d, 12, .inl (fun _ => 0)))] H := hP
  have hD : va_D A [(h0, .inr (0, [.null, .null, .null, .null, .null, .null, .null, .null, .null, .int 0, .int 0, .int 0])), (q1, .inl (d, 12, .inl (fun _ => 0)))] := hD
  refine W.widen (k := 1) (n := 12) (by decide) (by decide) ?_
  refine va_putF (D := D) (ci := 0) (v := .ref q1) (ty := .array .int) (C := RX1) (T := TX1) (N := 12) hx hb hts in_X1 tyX1 tyX1_ok nmX1 hown hK hP hD hS 0 rfl rfl 0 (by decide) (hts _ q32) (fun _ h9 => h9) rfl hin rfl (by decide +kernel) rfl rfl (Nat.le_of_ble_eq_true rfl) dX1_init_9 (fun H locs hP hD hS => ?_)
  have hP : va_P D vwCl [(h0, .inr (0, [.ref q1, .null, .null, .null, .null, .null, .null, .null, .null, .int 0, .int 0, .int 0])), (q1, .inl (d, 12, .inl (fun _ => 0)))] H := hP
  have hD : va_D A [(h0, .inr (0, [.ref q1, .null, .null, .null, .null, .null, .null, .null, .null, .int 0, .int 0, .int 0])), (q1, .inl (d, 12, .inl (fun _ => 0)))] := hD
  refine lv_aload_n hx hb dX1_init_12 rfl (lv_at hl 0 rfl) ?_
  refine lv_bipush (v := 12) hx hb dX1_init_13 (by decide) ?_
  refine w_newa (d := d) (N := 12) hx hb (hts _ q69) hK hP hD hS hA (by decide) (by decide) (by decide) (by decide) (by decide) dX1_init_15 (fun q2 H hP hD hS => ?_)
  have hP : va_P D vwCl [(h0, .inr (0, [.ref q1, .null, .null, .null, .null, .null, .null, .null, .null, .int 0, .int 0, .int 0])), (q1, .inl (d, 12, .inl (fun _ => 0))), (q2, .inl (d, 12, .inl (fun _ => 0)))] H := hP
  have hD : va_D A [(h0, .inr (0, [.ref q1, .null, .null, .null, .null, .null, .null, .null, .null, .int 0, .int 0, .int 0])), (q1, .inl (d, 12, .inl (fun _ => 0))), (q2, .inl (d, 12, .inl (fun _ => 0)))] := hD
  refine W.widen (k := 2) (n := 24) (by decide) (by decide) ?_
  refine va_putF (D := D) (ci := 0) (v := .ref q2) (ty := .array .int) (C := RX1) (T := TX1) (N := 12) hx hb hts in_X1 tyX1 tyX1_ok nmX1 hown hK hP hD hS 0 rfl rfl 1 (by decide) (hts _ q33) (fun _ h9 => h9) rfl hin rfl (by decide +kernel) rfl rfl (Nat.le_of_ble_eq_true rfl) dX1_init_17 (fun H locs hP hD hS => ?_)
  have hP : va_P D vwCl [(h0, .inr (0, [.ref q1, .ref q2, .null, .null, .null, .null, .null, .null, .null, .int 0, .int 0, .int 0])), (q1, .inl (d, 12, .inl (fun _ => 0))), (q2, .inl (d, 12, .inl (fun _ => 0)))] H := hP
  have hD : va_D A [(h0, .inr (0, [.ref q1, .ref q2, .null, .null, .null, .null, .null, .null, .null, .int 0, .int 0, .int 0])), (q1, .inl (d, 12, .inl (fun _ => 0))), (q2, .inl (d, 12, .inl (fun _ => 0)))] := hD
  refine lv_aload_n hx hb dX1_init_20 rfl (lv_at hl 0 rfl) ?_
  refine lv_bipush (v := 12) hx hb dX1_init_21 (by decide) ?_
  refine w_newa (d := d) (N := 12) hx hb (hts _ q69) hK hP hD hS hA (by decide) (by decide) (by decide) (by decide) (by decide) dX1_init_23 (fun q3 H hP hD hS => ?_)
  have hP : va_P D vwCl [(h0, .inr (0, [.ref q1, .ref q2, .null, .null, .null, .null, .null, .null, .null, .int 0, .int 0, .int 0])), (q1, .inl (d, 12, .inl (fun _ => 0))), (q2, .inl (d, 12, .inl (fun _ => 0))), (q3, .inl (d, 12, .inl (fun _ => 0)))] H := hP
  have hD : va_D A [(h0, .inr (0, [.ref q1, .ref q2, .null, .null, .null, .null, .null, .null, .null, .int 0, .int 0, .int 0])), (q1, .inl (d, 12, .inl (fun _ => 0))), (q2, .inl (d, 12, .inl (fun _ => 0))), (q3, .inl (d, 12, .inl (fun _ => 0)))] := hD
  refine W.widen (k := 3) (n := 36) (by decide) (by decide) ?_
  refine va_putF (D := D) (ci := 0) (v := .ref q3) (ty := .array .int) (C := RX1) (T := TX1) (N := 12) hx hb hts in_X1 tyX1 tyX1_ok nmX1 hown hK hP hD hS 0 rfl rfl 2 (by decide) (hts _ q34) (fun _ h9 => h9) rfl hin rfl (by decide +kernel) rfl rfl (Nat.le_of_ble_eq_true rfl) dX1_init_25 (fun H locs hP hD hS => ?_)
  have hP : va_P D vwCl [(h0, .inr (0, [.ref q1, .ref q2, .ref q3, .null, .null, .null, .null, .null, .null, .int 0, .int 0, .int 0])), (q1, .inl (d, 12, .inl (fun _ => 0))), (q2, .inl (d, 12, .inl (fun _ => 0))), (q3, .inl (d, 12, .inl (fun _ => 0)))] H := hP
  have hD : va_D A [(h0, .inr (0, [.ref q1, .ref q2, .ref q3, .null, .null, .null, .null, .null, .null, .int 0, .int 0, .int 0])), (q1, .inl (d, 12, .inl (fun _ => 0))), (q2, .inl (d, 12, .inl (fun _ => 0))), (q3, .inl (d, 12, .inl (fun _ => 0)))] := hD
  refine lv_aload_n hx hb dX1_init_28 rfl (lv_at hl 0 rfl) ?_
  refine lv_bipush (v := 12) hx hb dX1_init_29 (by decide) ?_
  refine w_newa (d := d) (N := 12) hx hb (hts _ q69) hK hP hD hS hA (by decide) (by decide) (by decide) (by decide) (by decide) dX1_init_31 (fun q4 H hP hD hS => ?_)
  have hP : va_P D vwCl [(h0, .inr (0, [.ref q1, .ref q2, .ref q3, .null, .null, .null, .null, .null, .null, .int 0, .int 0, .int 0])), (q1, .inl (d, 12, .inl (fun _ => 0))), (q2, .inl (d, 12, .inl (fun _ => 0))), (q3, .inl (d, 12, .inl (fun _ => 0))), (q4, .inl (d, 12, .inl (fun _ => 0)))] H := hP
  have hD : va_D A [(h0, .inr (0, [.ref q1, .ref q2, .ref q3, .null, .null, .null, .null, .null, .null, .int 0, .int 0, .int 0])), (q1, .inl (d, 12, .inl (fun _ => 0))), (q2, .inl (d, 12, .inl (fun _ => 0))), (q3, .inl (d, 12, .inl (fun _ => 0))), (q4, .inl (d, 12, .inl (fun _ => 0)))] := hD
  refine W.widen (k := 4) (n := 48) (by decide) (by decide) ?_
  refine va_putF (D := D) (ci := 0) (v := .ref q4) (ty := .array .int) (C := RX1) (T := TX1) (N := 12) hx hb hts in_X1 tyX1 tyX1_ok nmX1 hown hK hP hD hS 0 rfl rfl 3 (by decide) (hts _ q35) (fun _ h9 => h9) rfl hin rfl (by decide +kernel) rfl rfl (Nat.le_of_ble_eq_true rfl) dX1_init_33 (fun H locs hP hD hS => ?_)
  have hP : va_P D vwCl [(h0, .inr (0, [.ref q1, .ref q2, .ref q3, .ref q4, .null, .null, .null, .null, .null, .int 0, .int 0, .int 0])), (q1, .inl (d, 12, .inl (fun _ => 0))), (q2, .inl (d, 12, .inl (fun _ => 0))), (q3, .inl (d, 12, .inl (fun _ => 0))), (q4, .inl (d, 12, .inl (fun _ => 0)))] H := hP
  have hD : va_D A [(h0, .inr (0, [.ref q1, .ref q2, .ref q3, .ref q4, .null, .null, .null, .null, .null, .int 0, .int 0, .int 0])), (q1, .inl (d, 12, .inl (fun _ => 0))), (q2, .inl (d, 12, .inl (fun _ => 0))), (q3, .inl (d, 12, .inl (fun _ => 0))), (q4, .inl (d, 12, .inl (fun _ => 0)))] := hD
  refine lv_aload_n hx hb dX1_init_36 rfl (lv_at hl 0 rfl) ?_
  refine lv_bipush (v := 49) hx hb dX1_init_37 (by decide) ?_
  refine w_newa (d := d) (N := 49) hx hb (hts _ q69) hK hP hD hS hA (by decide) (by decide) (by decide) (by decide) (by decide) dX1_init_39 (fun q5 H hP hD hS => ?_)
  have hP : va_P D vwCl [(h0, .inr (0, [.ref q1, .ref q2, .ref q3, .ref q4, .null, .null, .null, .null, .null, .int 0, .int 0, .int 0])), (q1, .inl (d, 12, .inl (fun _ => 0))), (q2, .inl (d, 12, .inl (fun _ => 0))), (q3, .inl (d, 12, .inl (fun _ => 0))), (q4, .inl (d, 12, .inl (fun _ => 0))), (q5, .inl (d, 49, .inl (fun _ => 0)))] H := hP
  have hD : va_D A [(h0, .inr (0, [.ref q1, .ref q2, .ref q3, .ref q4, .null, .null, .null, .null, .null, .int 0, .int 0, .int 0])), (q1, .inl (d, 12, .inl (fun _ => 0))), (q2, .inl (d, 12, .inl (fun _ => 0))), (q3, .inl (d, 12, .inl (fun _ => 0))), (q4, .inl (d, 12, .inl (fun _ => 0))), (q5, .inl (d, 49, .inl (fun _ => 0)))] := hD
  refine W.widen (k := 5) (n := 97) (by decide) (by decide) ?_
  refine va_putF (D := D) (ci := 0) (v := .ref q5) (ty := .array .int) (C := RX1) (T := TX1) (N := 12) hx hb hts in_X1 tyX1 tyX1_ok nmX1 hown hK hP hD hS 0 rfl rfl 4 (by decide) (hts _ q36) (fun _ h9 => h9) rfl hin rfl (by decide +kernel) rfl rfl (Nat.le_of_ble_eq_true rfl) dX1_init_41 (fun H locs hP hD hS => ?_)
  have hP : va_P D vwCl [(h0, .inr (0, [.ref q1, .ref q2, .ref q3, .ref q4, .ref q5, .null, .null, .null, .null, .int 0, .int 0, .int 0])), (q1, .inl (d, 12, .inl (fun _ => 0))), (q2, .inl (d, 12, .inl (fun _ => 0))), (q3, .inl (d, 12, .inl (fun _ => 0))), (q4, .inl (d, 12, .inl (fun _ => 0))), (q5, .inl (d, 49, .inl (fun _ => 0)))] H := hP
  have hD : va_D A [(h0, .inr (0, [.ref q1, .ref q2, .ref q3, .ref q4, .ref q5, .null, .null, .null, .null, .int 0, .int 0, .int 0])), (q1, .inl (d, 12, .inl (fun _ => 0))), (q2, .inl (d, 12, .inl (fun _ => 0))), (q3, .inl (d, 12, .inl (fun _ => 0))), (q4, .inl (d, 12, .inl (fun _ => 0))), (q5, .inl (d, 49, .inl (fun _ => 0)))] := hD
  refine lv_aload_n hx hb dX1_init_44 rfl (lv_at hl 0 rfl) ?_
  refine lv_bipush (v := 49) hx hb dX1_init_45 (by decide) ?_
  refine w_newa (d := d) (N := 49) hx hb (hts _ q69) hK hP hD hS hA (by decide) (by decide) (by decide) (by decide) (by decide) dX1_init_47 (fun q6 H hP hD hS => ?_)
  have hP : va_P D vwCl [(h0, .inr (0, [.ref q1, .ref q2, .ref q3, .ref q4, .ref q5, .null, .null, .null, .null, .int 0, .int 0, .int 0])), (q1, .inl (d, 12, .inl (fun _ => 0))), (q2, .inl (d, 12, .inl (fun _ => 0))), (q3, .inl (d, 12, .inl (fun _ => 0))), (q4, .inl (d, 12, .inl (fun _ => 0))), (q5, .inl (d, 49, .inl (fun _ => 0))), (q6, .inl (d, 49, .inl (fun _ => 0)))] H := hP
  have hD : va_D A [(h0, .inr (0, [.ref q1, .ref q2, .ref q3, .ref q4, .ref q5, .null, .null, .null, .null, .int 0, .int 0, .int 0])), (q1, .inl (d, 12, .inl (fun _ => 0))), (q2, .inl (d, 12, .inl (fun _ => 0))), (q3, .inl (d, 12, .inl (fun _ => 0))), (q4, .inl (d, 12, .inl (fun _ => 0))), (q5, .inl (d, 49, .inl (fun _ => 0))), (q6, .inl (d, 49, .inl (fun _ => 0)))] := hD
  refine W.widen (k := 6) (n := 146) (by decide) (by decide) ?_
  refine va_putF (D := D) (ci := 0) (v := .ref q6) (ty := .array .int) (C := RX1) (T := TX1) (N := 12) hx hb hts in_X1 tyX1 tyX1_ok nmX1 hown hK hP hD hS 0 rfl rfl 5 (by decide) (hts _ q37) (fun _ h9 => h9) rfl hin rfl (by decide +kernel) rfl rfl (Nat.le_of_ble_eq_true rfl) dX1_init_49 (fun H locs hP hD hS => ?_)
  have hP : va_P D vwCl [(h0, .inr (0, [.ref q1, .ref q2, .ref q3, .ref q4, .ref q5, .ref q6, .null, .null, .null, .int 0, .int 0, .int 0])), (q1, .inl (d, 12, .inl (fun _ => 0))), (q2, .inl (d, 12, .inl (fun _ => 0))), (q3, .inl (d, 12, .inl (fun _ => 0))), (q4, .inl (d, 12, .inl (fun _ => 0))), (q5, .inl (d, 49, .inl (fun _ => 0))), (q6, .inl (d, 49, .inl (fun _ => 0)))] H := hP
  have hD : va_D A [(h0, .inr (0, [.ref q1, .ref q2, .ref q3, .ref q4, .ref q5, .ref q6, .null, .null, .null, .int 0, .int 0, .int 0])), (q1, .inl (d, 12, .inl (fun _ => 0))), (q2, .inl (d, 12, .inl (fun _ => 0))), (q3, .inl (d, 12, .inl (fun _ => 0))), (q4, .inl (d, 12, .inl (fun _ => 0))), (q5, .inl (d, 49, .inl (fun _ => 0))), (q6, .inl (d, 49, .inl (fun _ => 0)))] := hD
  refine lv_aload_n hx hb dX1_init_52 rfl (lv_at hl 0 rfl) ?_
  refine lv_sipush (v := 128) hx hb dX1_init_53 (by decide) ?_
  refine w_newa (d := d) (N := 128) hx hb (hts _ q69) hK hP hD hS hA (by decide) (by decide) (by decide) (by decide) (by decide) dX1_init_56 (fun q7 H hP hD hS => ?_)
  have hP : va_P D vwCl [(h0, .inr (0, [.ref q1, .ref q2, .ref q3, .ref q4, .ref q5, .ref q6, .null, .null, .null, .int 0, .int 0, .int 0])), (q1, .inl (d, 12, .inl (fun _ => 0))), (q2, .inl (d, 12, .inl (fun _ => 0))), (q3, .inl (d, 12, .inl (fun _ => 0))), (q4, .inl (d, 12, .inl (fun _ => 0))), (q5, .inl (d, 49, .inl (fun _ => 0))), (q6, .inl (d, 49, .inl (fun _ => 0))), (q7, .inl (d, 128, .inl (fun _ => 0)))] H := hP
  have hD : va_D A [(h0, .inr (0, [.ref q1, .ref q2, .ref q3, .ref q4, .ref q5, .ref q6, .null, .null, .null, .int 0, .int 0, .int 0])), (q1, .inl (d, 12, .inl (fun _ => 0))), (q2, .inl (d, 12, .inl (fun _ => 0))), (q3, .inl (d, 12, .inl (fun _ => 0))), (q4, .inl (d, 12, .inl (fun _ => 0))), (q5, .inl (d, 49, .inl (fun _ => 0))), (q6, .inl (d, 49, .inl (fun _ => 0))), (q7, .inl (d, 128, .inl (fun _ => 0)))] := hD
  refine W.widen (k := 7) (n := 274) (by decide) (by decide) ?_
  refine va_putF (D := D) (ci := 0) (v := .ref q7) (ty := .array .int) (C := RX1) (T := TX1) (N := 12) hx hb hts in_X1 tyX1 tyX1_ok nmX1 hown hK hP hD hS 0 rfl rfl 6 (by decide) (hts _ q38) (fun _ h9 => h9) rfl hin rfl (by decide +kernel) rfl rfl (Nat.le_of_ble_eq_true rfl) dX1_init_58 (fun H locs hP hD hS => ?_)
  have hP : va_P D vwCl [(h0, .inr (0, [.ref q1, .ref q2, .ref q3, .ref q4, .ref q5, .ref q6, .ref q7, .null, .null, .int 0, .int 0, .int 0])), (q1, .inl (d, 12, .inl (fun _ => 0))), (q2, .inl (d, 12, .inl (fun _ => 0))), (q3, .inl (d, 12, .inl (fun _ => 0))), (q4, .inl (d, 12, .inl (fun _ => 0))), (q5, .inl (d, 49, .inl (fun _ => 0))), (q6, .inl (d, 49, .inl (fun _ => 0))), (q7, .inl (d, 128, .inl (fun _ => 0)))] H := hP
  have hD : va_D A [(h0, .inr (0, [.ref q1, .ref q2, .ref q3, .ref q4, .ref q5, .ref q6, .ref q7, .null, .null, .int 0, .int 0, .int 0])), (q1, .inl (d, 12, .inl (fun _ => 0))), (q2, .inl (d, 12, .inl (fun _ => 0))), (q3, .inl (d, 12, .inl (fun _ => 0))), (q4, .inl (d, 12, .inl (fun _ => 0))), (q5, .inl (d, 49, .inl (fun _ => 0))), (q6, .inl (d, 49, .inl (fun _ => 0))), (q7, .inl (d, 128, .inl (fun _ => 0)))] := hD
  refine lv_aload_n hx hb dX1_init_61 rfl (lv_at hl 0 rfl) ?_
  refine lv_sipush (v := 128) hx hb dX1_init_62 (by decide) ?_
  refine w_newa (d := d) (N := 128) hx hb (hts _ q69) hK hP hD hS hA (by decide) (by decide) (by decide) (by decide) (by decide) dX1_init_65 (fun q8 H hP hD hS => ?_)
  have hP : va_P D vwCl [(h0, .inr (0, [.ref q1, .ref q2, .ref q3, .ref q4, .ref q5, .ref q6, .ref q7, .null, .null, .int 0, .int 0, .int 0])), (q1, .inl (d, 12, .inl (fun _ => 0))), (q2, .inl (d, 12, .inl (fun _ => 0))), (q3, .inl (d, 12, .inl (fun _ => 0))), (q4, .inl (d, 12, .inl (fun _ => 0))), (q5, .inl (d, 49, .inl (fun _ => 0))), (q6, .inl (d, 49, .inl (fun _ => 0))), (q7, .inl (d, 128, .inl (fun _ => 0))), (q8, .inl (d, 128, .inl (fun _ => 0)))] H := hP
  have hD : va_D A [(h0, .inr (0, [.ref q1, .ref q2, .ref q3, .ref q4, .ref q5, .ref q6, .ref q7, .null, .null, .int 0, .int 0, .int 0])), (q1, .inl (d, 12, .inl (fun _ => 0))), (q2, .inl (d, 12, .inl (fun _ => 0))), (q3, .inl (d, 12, .inl (fun _ => 0))), (q4, .inl (d, 12, .inl (fun _ => 0))), (q5, .inl (d, 49, .inl (fun _ => 0))), (q6, .inl (d, 49, .inl (fun _ => 0))), (q7, .inl (d, 128, .inl (fun _ => 0))), (q8, .inl (d, 128, .inl (fun _ => 0)))] := hD
  refine W.widen (k := 8) (n := 402) (by decide) (by decide) ?_
  refine va_putF (D := D) (ci := 0) (v := .ref q8) (ty := .array .int) (C := RX1) (T := TX1) (N := 12) hx hb hts in_X1 tyX1 tyX1_ok nmX1 hown hK hP hD hS 0 rfl rfl 7 (by decide) (hts _ q39) (fun _ h9 => h9) rfl hin rfl (by decide +kernel) rfl rfl (Nat.le_of_ble_eq_true rfl) dX1_init_67 (fun H locs hP hD hS => ?_)
  have hP : va_P D vwCl [(h0, .inr (0, [.ref q1, .ref q2, .ref q3, .ref q4, .ref q5, .ref q6, .ref q7, .ref q8, .null, .int 0, .int 0, .int 0])), (q1, .inl (d, 12, .inl (fun _ => 0))), (q2, .inl (d, 12, .inl (fun _ => 0))), (q3, .inl (d, 12, .inl (fun _ => 0))), (q4, .inl (d, 12, .inl (fun _ => 0))), (q5, .inl (d, 49, .inl (fun _ => 0))), (q6, .inl (d, 49, .inl (fun _ => 0))), (q7, .inl (d, 128, .inl (fun _ => 0))), (q8, .inl (d, 128, .inl (fun _ => 0)))] H := hP
  have hD : va_D A [(h0, .inr (0, [.ref q1, .ref q2, .ref q3, .ref q4, .ref q5, .ref q6, .ref q7, .ref q8, .null, .int 0, .int 0, .int 0])), (q1, .inl (d, 12, .inl (fun _ => 0))), (q2, .inl (d, 12, .inl (fun _ => 0))), (q3, .inl (d, 12, .inl (fun _ => 0))), (q4, .inl (d, 12, .inl (fun _ => 0))), (q5, .inl (d, 49, .inl (fun _ => 0))), (q6, .inl (d, 49, .inl (fun _ => 0))), (q7, .inl (d, 128, .inl (fun _ => 0))), (q8, .inl (d, 128, .inl (fun _ => 0)))] := hD
  refine lv_aload_n hx hb dX1_init_70 rfl (lv_at hl 0 rfl) ?_
  refine lv_bipush (v := 7) hx hb dX1_init_71 (by decide) ?_
  refine w_newa (d := d) (N := 7) hx hb (hts _ q69) hK hP hD hS hA (by decide) (by decide) (by decide) (by decide) (by decide) dX1_init_73 (fun q9 H hP hD hS => ?_)
  have hP : va_P D vwCl [(h0, .inr (0, [.ref q1, .ref q2, .ref q3, .ref q4, .ref q5, .ref q6, .ref q7, .ref q8, .null, .int 0, .int 0, .int 0])), (q1, .inl (d, 12, .inl (fun _ => 0))), (q2, .inl (d, 12, .inl (fun _ => 0))), (q3, .inl (d, 12, .inl (fun _ => 0))), (q4, .inl (d, 12, .inl (fun _ => 0))), (q5, .inl (d, 49, .inl (fun _ => 0))), (q6, .inl (d, 49, .inl (fun _ => 0))), (q7, .inl (d, 128, .inl (fun _ => 0))), (q8, .inl (d, 128, .inl (fun _ => 0))), (q9, .inl (d, 7, .inl (fun _ => 0)))] H := hP
  have hD : va_D A [(h0, .inr (0, [.ref q1, .ref q2, .ref q3, .ref q4, .ref q5, .ref q6, .ref q7, .ref q8, .null, .int 0, .int 0, .int 0])), (q1, .inl (d, 12, .inl (fun _ => 0))), (q2, .inl (d, 12, .inl (fun _ => 0))), (q3, .inl (d, 12, .inl (fun _ => 0))), (q4, .inl (d, 12, .inl (fun _ => 0))), (q5, .inl (d, 49, .inl (fun _ => 0))), (q6, .inl (d, 49, .inl (fun _ => 0))), (q7, .inl (d, 128, .inl (fun _ => 0))), (q8, .inl (d, 128, .inl (fun _ => 0))), (q9, .inl (d, 7, .inl (fun _ => 0)))] := hD
  refine W.widen (k := 9) (n := 409) (by decide) (by decide) ?_
  refine va_putF (D := D) (ci := 0) (v := .ref q9) (ty := .array .int) (C := RX1) (T := TX1) (N := 12) hx hb hts in_X1 tyX1 tyX1_ok nmX1 hown hK hP hD hS 0 rfl rfl 8 (by decide) (hts _ q40) (fun _ h9 => h9) rfl hin rfl (by decide +kernel) rfl rfl (Nat.le_of_ble_eq_true rfl) dX1_init_75 (fun H locs hP hD hS => ?_)
  have hP : va_P D vwCl [(h0, .inr (0, [.ref q1, .ref q2, .ref q3, .ref q4, .ref q5, .ref q6, .ref q7, .ref q8, .ref q9, .int 0, .int 0, .int 0])), (q1, .inl (d, 12, .inl (fun _ => 0))), (q2, .inl (d, 12, .inl (fun _ => 0))), (q3, .inl (d, 12, .inl (fun _ => 0))), (q4, .inl (d, 12, .inl (fun _ => 0))), (q5, .inl (d, 49, .inl (fun _ => 0))), (q6, .inl (d, 49, .inl (fun _ => 0))), (q7, .inl (d, 128, .inl (fun _ => 0))), (q8, .inl (d, 128, .inl (fun _ => 0))), (q9, .inl (d, 7, .inl (fun _ => 0)))] H := hP
  have hD : va_D A [(h0, .inr (0, [.ref q1, .ref q2, .ref q3, .ref q4, .ref q5, .ref q6, .ref q7, .ref q8, .ref q9, .int 0, .int 0, .int 0])), (q1, .inl (d, 12, .inl (fun _ => 0))), (q2, .inl (d, 12, .inl (fun _ => 0))), (q3, .inl (d, 12, .inl (fun _ => 0))), (q4, .inl (d, 12, .inl (fun _ => 0))), (q5, .inl (d, 49, .inl (fun _ => 0))), (q6, .inl (d, 49, .inl (fun _ => 0))), (q7, .inl (d, 128, .inl (fun _ => 0))), (q8, .inl (d, 128, .inl (fun _ => 0))), (q9, .inl (d, 7, .inl (fun _ => 0)))] := hD
  refine lv_aload_n hx hb dX1_init_78 rfl (lv_at hl 0 rfl) ?_
  refine lv_iload_n hx hb dX1_init_79 rfl (lv_at hl 1 rfl) ?_
  refine lv_iconst (v := 2) hx hb dX1_init_80 (by decide) ?_
  refine lv_icmp_ge (tgt := 88) hx hb dX1_init_81 (by decide) (fun c1 => ?_) (fun c1 => ?_)
  · refine lv_iload_n hx hb dX1_init_88 rfl (lv_at hl 1 rfl) ?_
    refine va_put (D := D) (ci := 0) (v := .int x) (ty := .int) (C := RX1) (T := TX1) (N := 12) hx hb hts in_X1 tyX1 tyX1_ok nmX1 hown hK hP hD hS 0 rfl rfl 9 (by decide) (hts _ q41) (fun _ h9 => h9) rfl (by decide +kernel) rfl rfl (Nat.le_of_ble_eq_true rfl) dX1_init_89 (fun H locs hP hD hS => ?_)
    have hP : va_P D vwCl [(h0, .inr (0, [.ref q1, .ref q2, .ref q3, .ref q4, .ref q5, .ref q6, .ref q7, .ref q8, .ref q9, .int x, .int 0, .int 0])), (q1, .inl (d, 12, .inl (fun _ => 0))), (q2, .inl (d, 12, .inl (fun _ => 0))), (q3, .inl (d, 12, .inl (fun _ => 0))), (q4, .inl (d, 12, .inl (fun _ => 0))), (q5, .inl (d, 49, .inl (fun _ => 0))), (q6, .inl (d, 49, .inl (fun _ => 0))), (q7, .inl (d, 128, .inl (fun _ => 0))), (q8, .inl (d, 128, .inl (fun _ => 0))), (q9, .inl (d, 7, .inl (fun _ => 0)))] H := hP
    have hD : va_D A [(h0, .inr (0, [.ref q1, .ref q2, .ref q3, .ref q4, .ref q5, .ref q6, .ref q7, .ref q8, .ref q9, .int x, .int 0, .int 0])), (q1, .inl (d, 12, .inl (fun _ => 0))), (q2, .inl (d, 12, .inl (fun _ => 0))), (q3, .inl (d, 12, .inl (fun _ => 0))), (q4, .inl (d, 12, .inl (fun _ => 0))), (q5, .inl (d, 49, .inl (fun _ => 0))), (q6, .inl (d, 49, .inl (fun _ => 0))), (q7, .inl (d, 128, .inl (fun _ => 0))), (q8, .inl (d, 128, .inl (fun _ => 0))), (q9, .inl (d, 7, .inl (fun _ => 0)))] := hD
    refine lv_aload_n hx hb dX1_init_92 rfl (lv_at hl 0 rfl) ?_
    refine va_get (D := D) (ci := 0) (v := .int x) (C := RX1) (T := TX1) (N := 12) hx hb hts in_X1 hown hK hP 0 rfl rfl 9 (by decide) (hts _ q41) (fun _ h9 => h9) rfl dX1_init_93 ?_
    refine lv_bipush (v := 7) hx hb dX1_init_96 (by decide) ?_
    refine lv_icmp_le (tgt := 107) hx hb dX1_init_98 (by decide) (fun c2 => ?_) (fun c2 => ?_)
    · obtain ⟨n, hn8, rfl⟩ := pl_of8 c1 c2
      exact w_cret hx hb hr hlocks ((fun k => match k with | 0 => h0 | 1 => q1 | 2 => q2 | 3 => q3 | 4 => q4 | 5 => q5 | 6 => q6 | 7 => q7 | 8 => q8 | _ => q9), n) ⟨rfl, Or.inr (Or.inr ⟨c1, c2, rfl⟩), hn8⟩ hP hK hD hS dX1_init_107
    · refine lv_aload_n hx hb dX1_init_101 rfl (lv_at hl 0 rfl) ?_
      refine lv_bipush (v := nI 7) hx hb dX1_init_102 (by decide) ?_
      refine va_put (D := D) (ci := 0) (v := .int (nI 7)) (ty := .int) (C := RX1) (T := TX1) (N := 12) hx hb hts in_X1 tyX1 tyX1_ok nmX1 hown hK hP hD hS 0 rfl rfl 9 (by decide) (hts _ q41) (fun _ h9 => h9) rfl (by decide +kernel) rfl rfl (Nat.le_of_ble_eq_true rfl) dX1_init_104 (fun H locs hP hD hS => ?_)
      have hP : va_P D vwCl [(h0, .inr (0, [.ref q1, .ref q2, .ref q3, .ref q4, .ref q5, .ref q6, .ref q7, .ref q8, .ref q9, .int (nI 7), .int 0, .int 0])), (q1, .inl (d, 12, .inl (fun _ => 0))), (q2, .inl (d, 12, .inl (fun _ => 0))), (q3, .inl (d, 12, .inl (fun _ => 0))), (q4, .inl (d, 12, .inl (fun _ => 0))), (q5, .inl (d, 49, .inl (fun _ => 0))), (q6, .inl (d, 49, .inl (fun _ => 0))), (q7, .inl (d, 128, .inl (fun _ => 0))), (q8, .inl (d, 128, .inl (fun _ => 0))), (q9, .inl (d, 7, .inl (fun _ => 0)))] H := hP
      have hD : va_D A [(h0, .inr (0, [.ref q1, .ref q2, .ref q3, .ref q4, .ref q5, .ref q6, .ref q7, .ref q8, .ref q9, .int (nI 7), .int 0, .int 0])), (q1, .inl (d, 12, .inl (fun _ => 0))), (q2, .inl (d, 12, .inl (fun _ => 0))), (q3, .inl (d, 12, .inl (fun _ => 0))), (q4, .inl (d, 12, .inl (fun _ => 0))), (q5, .inl (d, 49, .inl (fun _ => 0))), (q6, .inl (d, 49, .inl (fun _ => 0))), (q7, .inl (d, 128, .inl (fun _ => 0))), (q8, .inl (d, 128, .inl (fun _ => 0))), (q9, .inl (d, 7, .inl (fun _ => 0)))] := hD
      exact w_cret hx hb hr hlocks ((fun k => match k with | 0 => h0 | 1 => q1 | 2 => q2 | 3 => q3 | 4 => q4 | 5 => q5 | 6 => q6 | 7 => q7 | 8 => q8 | _ => q9), 7) ⟨rfl, Or.inr (Or.inl ⟨c1, c2, rfl⟩), show (7 : Nat) < 8 by decide⟩ hP hK hD hS dX1_init_107
  · refine lv_iconst (v := nI 2) hx hb dX1_init_84 (by decide) ?_
    refine lv_goto (tgt := 89) hx hb dX1_init_85 (by decide) ?_
    refine va_put (D := D) (ci := 0) (v := .int (nI 2)) (ty := .int) (C := RX1) (T := TX1) (N := 12) hx hb hts in_X1 tyX1 tyX1_ok nmX1 hown hK hP hD hS 0 rfl rfl 9 (by decide) (hts _ q41) (fun _ h9 => h9) rfl (by decide +kernel) rfl rfl (Nat.le_of_ble_eq_true rfl) dX1_init_89 (fun H locs hP hD hS => ?_)
    have hP : va_P D vwCl [(h0, .inr (0, [.ref q1, .ref q2, .ref q3, .ref q4, .ref q5, .ref q6, .ref q7, .ref q8, .ref q9, .int (nI 2), .int 0, .int 0])), (q1, .inl (d, 12, .inl (fun _ => 0))), (q2, .inl (d, 12, .inl (fun _ => 0))), (q3, .inl (d, 12, .inl (fun _ => 0))), (q4, .inl (d, 12, .inl (fun _ => 0))), (q5, .inl (d, 49, .inl (fun _ => 0))), (q6, .inl (d, 49, .inl (fun _ => 0))), (q7, .inl (d, 128, .inl (fun _ => 0))), (q8, .inl (d, 128, .inl (fun _ => 0))), (q9, .inl (d, 7, .inl (fun _ => 0)))] H := hP
    have hD : va_D A [(h0, .inr (0, [.ref q1, .ref q2, .ref q3, .ref q4, .ref q5, .ref q6, .ref q7, .ref q8, .ref q9, .int (nI 2), .int 0, .int 0])), (q1, .inl (d, 12, .inl (fun _ => 0))), (q2, .inl (d, 12, .inl (fun _ => 0))), (q3, .inl (d, 12, .inl (fun _ => 0))), (q4, .inl (d, 12, .inl (fun _ => 0))), (q5, .inl (d, 49, .inl (fun _ => 0))), (q6, .inl (d, 49, .inl (fun _ => 0))), (q7, .inl (d, 128, .inl (fun _ => 0))), (q8, .inl (d, 128, .inl (fun _ => 0))), (q9, .inl (d, 7, .inl (fun _ => 0)))] := hD
    refine lv_aload_n hx hb dX1_init_92 rfl (lv_at hl 0 rfl) ?_
    refine va_get (D := D) (ci := 0) (v := .int (nI 2)) (C := RX1) (T := TX1) (N := 12) hx hb hts in_X1 hown hK hP 0 rfl rfl 9 (by decide) (hts _ q41) (fun _ h9 => h9) rfl dX1_init_93 ?_
    refine lv_bipush (v := 7) hx hb dX1_init_96 (by decide) ?_
    refine lv_icmp_le (tgt := 107) hx hb dX1_init_98 (by decide) (fun c2 => ?_) (fun c2 => ?_)
    · skip
      exact w_cret hx hb hr hlocks ((fun k => match k with | 0 => h0 | 1 => q1 | 2 => q2 | 3 => q3 | 4 => q4 | 5 => q5 | 6 => q6 | 7 => q7 | 8 => q8 | _ => q9), 2) ⟨rfl, Or.inl ⟨c1, rfl⟩, show (2 : Nat) < 8 by decide⟩ hP hK hD hS dX1_init_107
    · exact absurd (by decide) c2
set_option maxHeartbeats 4000000 in
set_option maxRecDepth 100000 in
theorem mX2_init (l : Launch) (D : va_G) (d : ClassId) (h0 : Nat) (x : Int32) : MC_ l yX2_init (ws_ yX2_init cX2_init 2 none) { frames := 1, cells := 3, slots := 36, locals := 32 } D d [(h0, .inr (1, [.int 0, .int 0, .null, .null, .null, .int 0]))] (fun u : (Nat → Nat) × Nat => wM u.1 d (fun _ => 0) (fun _ => 0) (fun _ => 0) (nI u.2) 0 0) [.ref h0, .int x] (fun u => u.1 0 = h0 ∧ PlR x u.2 ∧ u.2 < 8) 3 36 := by
  refine MC_mk (lv := [(0, .ref h0), (1, .int x)]) (by decide) (Nat.le_of_ble_eq_true rfl) rfl fun pg en s mm below meth cd A ls hx hb hr hlocks hin hml hown hts hA hP hK hD hS hl => ?_
  have hown : s.vm.findClass RX2 = some mm.cls := hown
  have hin : meth.name = "<init>" := hin
  refine w_start fun H locs hH hL => ?_
  rw [← hH] at hP
  replace hS : va_S A s.heap H locs := by rw [hL, hH]; exact va_S.rf
  refine lv_aload_n hx hb dX2_init_0 rfl (lv_at hl 0 rfl) ?_
  refine W.objInit hx hb hown (hts _ q197) (hts _ q30) (hts _ q31) rfl (by rw [hml]; exact hl.1) rfl dX2_init_1 (Nat.le_of_ble_eq_true rfl) (Nat.le_of_ble_eq_true rfl) ?_
  refine W.eq (g2 := F0 mm 4 ls []) rfl ?_
  refine lv_aload_n hx hb dX2_init_4 rfl (lv_at hl 0 rfl) ?_
  refine lv_bipush (v := 12) hx hb dX2_init_5 (by decide) ?_
  refine w_newa (d := d) (N := 12) hx hb (hts _ q69) hK hP hD hS hA (by decide) (by decide) (by decide) (by decide) (by decide) dX2_init_7 (fun q1 H hP hD hS => ?_)
  have hP : va_P D vwCl [(h0, .inr (1, [.int 0, .int 0, .null, .null, .null, .int 0])), (q1, .inl (d, 12, .inl (fun _ => 0)))] H := hP
  have hD : va_D A [(h0, .inr (1, [.int 0, .int 0, .null, .null, .null, .int 0])), (q1, .inl (d, 12, .inl (fun _ => 0)))] := hD
  refine W.widen (k := 1) (n := 12) (by decide) (by decide) ?_
  refine va_put (D := D) (ci := 1) (v := .ref q1) (ty := .array .int) (C := RX2) (T := TX2) (N := 6) hx hb hts in_X2 tyX2 tyX2_ok nmX2 hown hK hP hD hS 0 rfl rfl 2 (by decide) (hts _ q200) (fun _ h9 => h9) rfl (by decide +kernel) rfl rfl (Nat.le_of_ble_eq_true rfl) dX2_init_9 (fun H locs hP hD hS => ?_)
  have hP : va_P D vwCl [(h0, .inr (1, [.int 0, .int 0, .ref q1, .null, .null, .int 0])), (q1, .inl (d, 12, .inl (fun _ => 0)))] H := hP
  have hD : va_D A [(h0, .inr (1, [.int 0, .int 0, .ref q1, .null, .null, .int 0])), (q1, .inl (d, 12, .inl (fun _ => 0)))] := hD
  refine lv_aload_n hx hb dX2_init_12 rfl (lv_at hl 0 rfl) ?_
  refine lv_bipush (v := 12) hx hb dX2_init_13 (by decide) ?_
  refine w_newa (d := d) (N := 12) hx hb (hts _ q69) hK hP hD hS hA (by decide) (by decide) (by decide) (by decide) (by decide) dX2_init_15 (fun q2 H hP hD hS => ?_)
  have hP : va_P D vwCl [(h0, .inr (1, [.int 0, .int 0, .ref q1, .null, .null, .int 0])), (q1, .inl (d, 12, .inl (fun _ => 0))), (q2, .inl (d, 12, .inl (fun _ => 0)))] H := hP
  have hD : va_D A [(h0, .inr (1, [.int 0, .int 0, .ref q1, .null, .null, .int 0])), (q1, .inl (d, 12, .inl (fun _ => 0))), (q2, .inl (d, 12, .inl (fun _ => 0)))] := hD
  refine W.widen (k := 2) (n := 24) (by decide) (by decide) ?_
  refine va_put (D := D) (ci := 1) (v := .ref q2) (ty := .array .int) (C := RX2) (T := TX2) (N := 6) hx hb hts in_X2 tyX2 tyX2_ok nmX2 hown hK hP hD hS 0 rfl rfl 3 (by decide) (hts _ q201) (fun _ h9 => h9) rfl (by decide +kernel) rfl rfl (Nat.le_of_ble_eq_true rfl) dX2_init_17 (fun H locs hP hD hS => ?_)
  have hP : va_P D vwCl [(h0, .inr (1, [.int 0, .int 0, .ref q1, .ref q2, .null, .int 0])), (q1, .inl (d, 12, .inl (fun _ => 0))), (q2, .inl (d, 12, .inl (fun _ => 0)))] H := hP
  have hD : va_D A [(h0, .inr (1, [.int 0, .int 0, .ref q1, .ref q2, .null, .int 0])), (q1, .inl (d, 12, .inl (fun _ => 0))), (q2, .inl (d, 12, .inl (fun _ => 0)))] := hD
  refine lv_aload_n hx hb dX2_init_20 rfl (lv_at hl 0 rfl) ?_
  refine lv_bipush (v := 12) hx hb dX2_init_21 (by decide) ?_
  refine w_newa (d := d) (N := 12) hx hb (hts _ q69) hK hP hD hS hA (by decide) (by decide) (by decide) (by decide) (by decide) dX2_init_23 (fun q3 H hP hD hS => ?_)
  have hP : va_P D vwCl [(h0, .inr (1, [.int 0, .int 0, .ref q1, .ref q2, .null, .int 0])), (q1, .inl (d, 12, .inl (fun _ => 0))), (q2, .inl (d, 12, .inl (fun _ => 0))), (q3, .inl (d, 12, .inl (fun _ => 0)))] H := hP
  have hD : va_D A [(h0, .inr (1, [.int 0, .int 0, .ref q1, .ref q2, .null, .int 0])), (q1, .inl (d, 12, .inl (fun _ => 0))), (q2, .inl (d, 12, .inl (fun _ => 0))), (q3, .inl (d, 12, .inl (fun _ => 0)))] := hD
  refine W.widen (k := 3) (n := 36) (by decide) (by decide) ?_
  refine va_put (D := D) (ci := 1) (v := .ref q3) (ty := .array .int) (C := RX2) (T := TX2) (N := 6) hx hb hts in_X2 tyX2 tyX2_ok nmX2 hown hK hP hD hS 0 rfl rfl 4 (by decide) (hts _ q202) (fun _ h9 => h9) rfl (by decide +kernel) rfl rfl (Nat.le_of_ble_eq_true rfl) dX2_init_25 (fun H locs hP hD hS => ?_)
  have hP : va_P D vwCl [(h0, .inr (1, [.int 0, .int 0, .ref q1, .ref q2, .ref q3, .int 0])), (q1, .inl (d, 12, .inl (fun _ => 0))), (q2, .inl (d, 12, .inl (fun _ => 0))), (q3, .inl (d, 12, .inl (fun _ => 0)))] H := hP
  have hD : va_D A [(h0, .inr (1, [.int 0, .int 0, .ref q1, .ref q2, .ref q3, .int 0])), (q1, .inl (d, 12, .inl (fun _ => 0))), (q2, .inl (d, 12, .inl (fun _ => 0))), (q3, .inl (d, 12, .inl (fun _ => 0)))] := hD
  refine lv_aload_n hx hb dX2_init_28 rfl (lv_at hl 0 rfl) ?_
  refine lv_iload_n hx hb dX2_init_29 rfl (lv_at hl 1 rfl) ?_
  refine lv_iconst (v := 2) hx hb dX2_init_30 (by decide) ?_
  refine lv_icmp_ge (tgt := 38) hx hb dX2_init_31 (by decide) (fun c1 => ?_) (fun c1 => ?_)
  · refine lv_iload_n hx hb dX2_init_38 rfl (lv_at hl 1 rfl) ?_
    refine lv_bipush (v := 7) hx hb dX2_init_39 (by decide) ?_
    refine lv_icmp_le (tgt := 49) hx hb dX2_init_41 (by decide) (fun c2 => ?_) (fun c2 => ?_)
    · refine lv_iload_n hx hb dX2_init_49 rfl (lv_at hl 1 rfl) ?_
      refine va_put (D := D) (ci := 1) (v := .int x) (ty := .int) (C := RX2) (T := TX2) (N := 6) hx hb hts in_X2 tyX2 tyX2_ok nmX2 hown hK hP hD hS 0 rfl rfl 0 (by decide) (hts _ q198) (fun _ h9 => h9) rfl (by decide +kernel) rfl rfl (Nat.le_of_ble_eq_true rfl) dX2_init_50 (fun H locs hP hD hS => ?_)
      have hP : va_P D vwCl [(h0, .inr (1, [.int x, .int 0, .ref q1, .ref q2, .ref q3, .int 0])), (q1, .inl (d, 12, .inl (fun _ => 0))), (q2, .inl (d, 12, .inl (fun _ => 0))), (q3, .inl (d, 12, .inl (fun _ => 0)))] H := hP
      have hD : va_D A [(h0, .inr (1, [.int x, .int 0, .ref q1, .ref q2, .ref q3, .int 0])), (q1, .inl (d, 12, .inl (fun _ => 0))), (q2, .inl (d, 12, .inl (fun _ => 0))), (q3, .inl (d, 12, .inl (fun _ => 0)))] := hD
      obtain ⟨n, hn8, rfl⟩ := pl_of8 c1 c2
      exact w_cret hx hb hr hlocks ((fun k => match k with | 0 => h0 | 1 => q1 | 2 => q2 | _ => q3), n) ⟨rfl, Or.inr (Or.inr ⟨c1, c2, rfl⟩), hn8⟩ hP hK hD hS dX2_init_53
    · refine lv_bipush (v := nI 7) hx hb dX2_init_44 (by decide) ?_
      refine lv_goto (tgt := 50) hx hb dX2_init_46 (by decide) ?_
      refine va_put (D := D) (ci := 1) (v := .int (nI 7)) (ty := .int) (C := RX2) (T := TX2) (N := 6) hx hb hts in_X2 tyX2 tyX2_ok nmX2 hown hK hP hD hS 0 rfl rfl 0 (by decide) (hts _ q198) (fun _ h9 => h9) rfl (by decide +kernel) rfl rfl (Nat.le_of_ble_eq_true rfl) dX2_init_50 (fun H locs hP hD hS => ?_)
      have hP : va_P D vwCl [(h0, .inr (1, [.int (nI 7), .int 0, .ref q1, .ref q2, .ref q3, .int 0])), (q1, .inl (d, 12, .inl (fun _ => 0))), (q2, .inl (d, 12, .inl (fun _ => 0))), (q3, .inl (d, 12, .inl (fun _ => 0)))] H := hP
      have hD : va_D A [(h0, .inr (1, [.int (nI 7), .int 0, .ref q1, .ref q2, .ref q3, .int 0])), (q1, .inl (d, 12, .inl (fun _ => 0))), (q2, .inl (d, 12, .inl (fun _ => 0))), (q3, .inl (d, 12, .inl (fun _ => 0)))] := hD
      exact w_cret hx hb hr hlocks ((fun k => match k with | 0 => h0 | 1 => q1 | 2 => q2 | _ => q3), 7) ⟨rfl, Or.inr (Or.inl ⟨c1, c2, rfl⟩), show (7 : Nat) < 8 by decide⟩ hP hK hD hS dX2_init_53
  · refine lv_iconst (v := nI 2) hx hb dX2_init_34 (by decide) ?_
    refine lv_goto (tgt := 50) hx hb dX2_init_35 (by decide) ?_
    refine va_put (D := D) (ci := 1) (v := .int (nI 2)) (ty := .int) (C := RX2) (T := TX2) (N := 6) hx hb hts in_X2 tyX2 tyX2_ok nmX2 hown hK hP hD hS 0 rfl rfl 0 (by decide) (hts _ q198) (fun _ h9 => h9) rfl (by decide +kernel) rfl rfl (Nat.le_of_ble_eq_true rfl) dX2_init_50 (fun H locs hP hD hS => ?_)
    have hP : va_P D vwCl [(h0, .inr (1, [.int (nI 2), .int 0, .ref q1, .ref q2, .ref q3, .int 0])), (q1, .inl (d, 12, .inl (fun _ => 0))), (q2, .inl (d, 12, .inl (fun _ => 0))), (q3, .inl (d, 12, .inl (fun _ => 0)))] H := hP
    have hD : va_D A [(h0, .inr (1, [.int (nI 2), .int 0, .ref q1, .ref q2, .ref q3, .int 0])), (q1, .inl (d, 12, .inl (fun _ => 0))), (q2, .inl (d, 12, .inl (fun _ => 0))), (q3, .inl (d, 12, .inl (fun _ => 0)))] := hD
    exact w_cret hx hb hr hlocks ((fun k => match k with | 0 => h0 | 1 => q1 | 2 => q2 | _ => q3), 2) ⟨rfl, Or.inl ⟨c1, rfl⟩, show (2 : Nat) < 8 by decide⟩ hP hK hD hS dX2_init_53
/-- the law's cell: the script's int at 0, or 0 -/
def ceN (L : Nat) (xs : Nat → Int32) : Int32 := if 0 < L then xs 0 else 0
set_option maxHeartbeats 4000000 in
set_option maxRecDepth 100000 in
theorem mX0_cell (l : Launch) (b L : Nat) (xs : Nat → Int32) (hL : L ≤ 257) : Met l yX0_cell (ws_ yX0_cell cX0_cell 2 (some .int)) rq0 (va_Pc [.ref b, .int 0] (fun U => va_X b L xs U U.heap ∧ b < U.heap.size)) (va_Qi (fun (r : Int32) (_ : Unit) => r = ceN L xs) (fun _ _ => True) (fun _ => False)) 0 0 (fun _ => False) := by
  refine Met.ofW (cc := cX0_cell) (maxL := 2) (ret := some .int) (by decide) rfl ?_
  intro p e s m args below meth c s₁ B hml hv
  obtain ⟨rfl, hX, hbl⟩ := hv
  have hx := B.exec
  have hb := B.bytes
  have hr := B.returns
  have hS : va_S (fun q : Nat => s.heap.size ≤ q) s.heap s.heap [] := va_S.rf
  have hS0 : va_S (fun _ : Nat => False) s.heap s.heap [] := va_S.rf
  have hbA : ¬ (fun q : Nat => s.heap.size ≤ q) b := Nat.not_le.mpr hbl
  have hl := lv_entry ([.ref b, .int 0]) (n := 2) (Nat.le_of_ble_eq_true rfl)
  rw [lg_entry_eq]
  generalize (lg_sl ([.ref b, .int 0]) ++ List.replicate (2 - (lg_sl ([.ref b, .int 0])).length) Slot.unset).toArray = ls at hl ⊢
  have hl : lv_has ls 2 [(0, .ref b), (1, .int 0)] := hl
  refine lv_iload_n hx hb dX0_cell_0 rfl (lv_at hl 1 rfl) ?_
  refine lv_aload_n hx hb dX0_cell_1 rfl (lv_at hl 0 rfl) ?_
  refine va_slen hx hb hX hbl hbA hS dX0_cell_2 ?_
  refine lv_icmp_ge (tgt := 12) hx hb dX0_cell_3 (by decide) (fun c1 => ?_) (fun c1 => ?_)
  · have hL0 : L = 0 := by have := le_c (show nI L ≤ nI 0 from c1); omega
    refine lv_iconst (v := 0) hx hb dX0_cell_12 (by decide) ?_
    exact W.iret (v := 0) hx hb hr (fun t ht hW => ⟨⟨0, (), rfl, by unfold ceN; rw [if_neg (by omega)], trivial⟩, hS0.F ht⟩) hS0.2.2 dX0_cell_13
  · have hL0 : 0 < L := nle_c (show ¬ nI L ≤ nI 0 from c1)
    refine lv_aload_n hx hb dX0_cell_6 rfl (lv_at hl 0 rfl) ?_
    refine lv_iload_n hx hb dX0_cell_7 rfl (lv_at hl 1 rfl) ?_
    refine va_sld hx hb hX hbl hbA hS (show vp_in 0 L from vp_in_nI (n := 0) hL0 (by omega)) dX0_cell_8 ?_
    refine lv_goto (tgt := 13) hx hb dX0_cell_9 (by decide) ?_
    exact W.iret (v := xs 0) hx hb hr (fun t ht hW => ⟨⟨xs 0, (), rfl, by unfold ceN; rw [if_pos hL0], trivial⟩, hS0.F ht⟩) hS0.2.2 dX0_cell_13
end
section
/-! both sides answer alike: what the words say of an answer, they say of one answer only -/
theorem rep_w {n m w w' : Nat} {a b : Nat → Nat} {g : Nat → Int} {E O G : Nat → Int32} (h : Rep n m w a b g E O G) (hw : w' < 2 ^ n) : Rep n m w' a b g E O G := by
  obtain ⟨⟨⟨h1, h2, h3, -⟩, h4⟩, h5⟩ := h
  exact ⟨⟨⟨h1, h2, h3, hw⟩, h4⟩, h5⟩
section FN
variable {n m w : Nat} {a b : Nat → Nat} {g : Nat → Int} {x y t r r' : Int32}
theorem road_fun {m1 m2 : Nat} {E O G E' O' G' : Nat → Int32} (h : RoadR n m w a b g x y t r m1 E O G) (h' : RoadR n m w a b g x y t r' m2 E' O' G') : r = r' ∧ m2 = m1 ∧ ∃ a b g, Rep n m1 w a b g E O G ∧ Rep n m1 w a b g E' O' G' := by
  rcases h with ⟨p1, e1, f1, R1⟩ | ⟨p1, t1, e1, f1, R1⟩ | ⟨p1, t1, k1, e1, f1, R1⟩ | ⟨p1, t1, k1, e1, f1, R1⟩ <;> rcases h' with ⟨p2, e2, f2, R2⟩ | ⟨p2, t2, e2, f2, R2⟩ | ⟨p2, t2, k2, e2, f2, R2⟩ | ⟨p2, t2, k2, e2, f2, R2⟩
  all_goals first
    | exact ⟨e1.trans e2.symm, f2.trans f1.symm, _, _, _, by rw [f1]; exact R1, by rw [f1]; exact R2⟩
    | contradiction
    | omega
theorem rem_fun {m1 m2 : Nat} {E O G E' O' G' : Nat → Int32} (hm : m ≤ 12) (h : RemR n m w a b g x r m1 E O G) (h' : RemR n m w a b g x r' m2 E' O' G') : r = r' ∧ m2 = m1 ∧ ∃ a b g, Rep n m1 w a b g E O G ∧ Rep n m1 w a b g E' O' G' := by
  rcases h with ⟨p1, e1, f1, R1⟩ | ⟨j, hj, hx, e1, f1, R1⟩ <;> rcases h' with ⟨p2, e2, f2, R2⟩ | ⟨j', hj', hx', e2, f2, R2⟩
  · exact ⟨e1.trans e2.symm, f2.trans f1.symm, _, _, _, by rw [f1]; exact R1, by rw [f1]; exact R2⟩
  · exact absurd ⟨j', hj', hx'⟩ p1
  · exact absurd ⟨j, hj, hx⟩ p2
  · have e := eq_c (hx.symm.trans hx')
    subst e
    exact ⟨e1.trans e2.symm, f2.trans f1.symm, _, _, _, by rw [f1]; exact R1, by rw [f1]; exact R2⟩
theorem wei_fun {E O G E' O' G' : Nat → Int32} (hm : m ≤ 12) (h : WeiR n m w a b g x t r E O G) (h' : WeiR n m w a b g x t r' E' O' G') : r = r' ∧ ∃ a b g, Rep n m w a b g E O G ∧ Rep n m w a b g E' O' G' := by
  rcases h with ⟨p1, e1, R1⟩ | ⟨j, hj, hx, t1, e1, R1⟩ | ⟨j, hj, hx, t1, e1, R1⟩ <;> rcases h' with ⟨p2, e2, R2⟩ | ⟨j', hj', hx', t2, e2, R2⟩ | ⟨j', hj', hx', t2, e2, R2⟩
  · exact ⟨e1.trans e2.symm, _, _, _, R1, R2⟩
  · exact absurd ⟨j', hj', hx'⟩ p1
  · exact absurd ⟨j', hj', hx'⟩ p1
  · exact absurd ⟨j, hj, hx⟩ p2
  · exact ⟨e1.trans e2.symm, _, _, _, R1, R2⟩
  · exact absurd t2 t1
  · exact absurd ⟨j, hj, hx⟩ p2
  · exact absurd t1 t2
  · have e := eq_c (hx.symm.trans hx')
    subst e
    exact ⟨e1.trans e2.symm, _, _, _, R1, R2⟩
theorem wan_fun {w1 w2 : Nat} (hn : n ≤ 7) (hw : w < 2 ^ n) (h : WanR n w x r w1) (h' : WanR n w x r' w2) : r = r' ∧ w2 = w1 ∧ w1 < 2 ^ n := by
  have h2n : 2 ^ n ≤ 128 := Nat.pow_le_pow_right (n := 2) (by decide) hn
  rcases h with ⟨p1, e1, f1⟩ | ⟨j, hj, hx, e1, f1⟩ <;> rcases h' with ⟨p2, e2, f2⟩ | ⟨j', hj', hx', e2, f2⟩
  · exact ⟨e1.trans e2.symm, f2.trans f1.symm, by rw [f1]; exact hw⟩
  · exact absurd ⟨j', hj', hx'⟩ p1
  · exact absurd ⟨j, hj, hx⟩ p2
  · have e := eq_c (hx.symm.trans hx')
    subst e
    exact ⟨e1.trans e2.symm, f2.trans f1.symm, by rw [f1]; exact hj⟩
theorem tur_fun {w1 w2 : Nat} (hn : n ≤ 7) (hw : w < 2 ^ n) (h : TurR n w x r w1) (h' : TurR n w x r' w2) : r = r' ∧ w2 = w1 ∧ w1 < 2 ^ n := by
  rcases h with ⟨p1, e1, f1⟩ | ⟨j, hj, hx, e1, f1⟩ <;> rcases h' with ⟨p2, e2, f2⟩ | ⟨j', hj', hx', e2, f2⟩
  · exact ⟨e1.trans e2.symm, f2.trans f1.symm, by rw [f1]; exact hw⟩
  · exact absurd ⟨j', hj', hx'⟩ p1
  · exact absurd ⟨j, hj, hx⟩ p2
  · have e := eq_c (hx.symm.trans hx')
    subst e
    exact ⟨e1.trans e2.symm, f2.trans f1.symm, by rw [f1]; exact Nat.xor_lt_two_pow hw (Nat.pow_lt_pow_right (by decide) hj)⟩
theorem isj_fun (hm : m ≤ 12) (h : IsjR m w a b x r) (h' : IsjR m w a b x r') : r = r' := by
  have h2m : 2 ^ m ≤ 4096 := Nat.pow_le_pow_right (n := 2) (by decide) hm
  rcases h with ⟨p1, e1⟩ | ⟨j, hj, hx, e1⟩ <;> rcases h' with ⟨p2, e2⟩ | ⟨j', hj', hx', e2⟩
  · exact e1.trans e2.symm
  · exact absurd ⟨j', hj', hx'⟩ p1
  · exact absurd ⟨j, hj, hx⟩ p2
  · have e := eq_c (hx.symm.trans hx')
    subst e
    exact e1.trans e2.symm
theorem wit_fun (hm : m ≤ 12) (h : WitR m w a b g x r) (h' : WitR m w a b g x r') : r = r' := by
  rcases h with ⟨p1, e1⟩ | ⟨j, hj, hx, e1⟩ <;> rcases h' with ⟨p2, e2⟩ | ⟨j', hj', hx', e2⟩
  · exact e1.trans e2.symm
  · exact absurd ⟨j', hj', hx'⟩ p1
  · exact absurd ⟨j, hj, hx⟩ p2
  · have e := eq_c (hx.symm.trans hx')
    subst e
    exact e1.trans e2.symm
theorem wout_fun (hm : m ≤ 12) (h : WoutR m w a b g x r) (h' : WoutR m w a b g x r') : r = r' := by
  rcases h with ⟨p1, e1⟩ | ⟨j, hj, hx, e1⟩ <;> rcases h' with ⟨p2, e2⟩ | ⟨j', hj', hx', e2⟩
  · exact e1.trans e2.symm
  · exact absurd ⟨j', hj', hx'⟩ p1
  · exact absurd ⟨j, hj, hx⟩ p2
  · have e := eq_c (hx.symm.trans hx')
    subst e
    exact e1.trans e2.symm
theorem bet_fun (hn : n ≤ 7) (h : BetR n m a b g x y r) (h' : BetR n m a b g x y r') : r = r' := by
  rcases h with ⟨p1, e1⟩ | ⟨i, j, hi, hj, hx, hy, e1⟩ <;> rcases h' with ⟨p2, e2⟩ | ⟨i', j', hi', hj', hx', hy', e2⟩
  · exact e1.trans e2.symm
  · exact absurd ⟨⟨i', hi', hx'⟩, ⟨j', hj', hy'⟩⟩ p1
  · exact absurd ⟨⟨i, hi, hx⟩, ⟨j, hj, hy⟩⟩ p2
  · have e := eq_c (hx.symm.trans hx')
    have f := eq_c (hy.symm.trans hy')
    subst e
    subst f
    exact e1.trans e2.symm
theorem posm_fun (h : PosR m a b g r) (h' : PosR m a b g r') : r = r' := by
  rcases h with ⟨⟨e, he, p1⟩, e1⟩ | ⟨p1, k1, e1⟩ | ⟨p1, k1, q1, e1⟩ | ⟨p1, k1, q1, e1⟩ <;> rcases h' with ⟨⟨e', he', p2⟩, e2⟩ | ⟨p2, k2, e2⟩ | ⟨p2, k2, q2, e2⟩ | ⟨p2, k2, q2, e2⟩
  all_goals first
    | exact e1.trans e2.symm
    | contradiction
    | omega
    | exact absurd p1 (by have := p2 e he; omega)
    | exact absurd p2 (by have := p1 e' he'; omega)
end FN
end
section
/-! THE CLAIM OUT OF ONE WALK OF THE LAW'S BODY. Your part is whole_start (and what it stands on); all else here is the same for every law, but numbers. -/
def R_law : String := "TJoinsLaw"
def lw_P (b : Addr) (xs : List Int32) (args : Array Value) (s : State) : Prop := args = #[.ref b] ∧ s.IntsAt b xs ∧ xs.length ≤ 257 ∧ (Jvm.Cond.and given_1 narrow_1).before args s = true
def lw_Q (_ : Array Value) (s : State) (o : Outcome) (t : State) : Prop := o = .returned (some (.int 1)) ∧ Framed s o t [] 600000 7290000
def lw_Z (below : List Frame) (a : Array Value) (s : State) : State → Prop := fun t => ∃ o, t.status = .running ∧ Ended t below o ∧ lw_Q a s o t
/-- the law's own end, with 1 on the stack, nothing written that was there before, its room as the claim has it -/
theorem lw_ret {p : Program} {l : Launch} {e : Env} {s : State} {m : MethodId} {below : List Frame} {meth : Method} {c : Code} {b : Nat} (hx : p.tables.exec = Jvm.exec) (hb : c.code = code) (hr : meth.sig.returnType = ret) (hlocks : meth.locks = false) {pc : Nat} {H : Heap} {ls : Array Slot} (hdg : decode code pc = .ok (.ireturn, 1)) : W p l e room_1 s m #[Value.ref b] below meth c H [] 600000 7290000 (lw_Z below #[Value.ref b] s) (F0 m pc ls [.int 1]) := by
  intro T hT X
  obtain ⟨fs, hret, hrun, hended, hW, hframe⟩ := X.leave (v := some (.int 1)) (hlocks := hlocks) (fun h => by rw [hr] at h; cases h)
  have hmeth' : T.vm.method? m = some meth := X.method'
  refine ⟨T.setFrames fs, ?_, .returned (some (.int 1)), hrun, hended, rfl, ⟨_, rfl⟩, hW, hframe⟩
  jvm_step X.here [X.here.top, hx, hb, hdg, hmeth', hr, ret, narrow_b1]
  (try refine ⟨rfl, ?_⟩); (try refine ⟨rfl, ?_⟩)
  first | (intro acts; rw [hret _ acts rfl rfl rfl]) | rw [hret _ _ rfl rfl rfl]
  exact Steps.refl _
/-- what holds at the law's entry: the machine, the code, the tables' words (any of lw_tbl by 'hts w (by decide +kernel)'), the script of L ints xs at the cell b, what the Statement gives of the start (any of its parts by flat_of_before) -/
def lw_At (p : Program) (s : State) (m : MethodId) (meth : Method) (c : Code) (b L : Nat) (xs : Nat → Int32) : Prop :=
  p.tables.exec = Jvm.exec ∧ c.code = code ∧ meth.sig.returnType = ret ∧ c.maxLocals = 4 ∧ s.vm.findClass R_law = some m.cls ∧ (∀ w ∈ lw_tbl, w.before #[Value.ref b] s = true) ∧ va_X b L xs s s.heap ∧ b < s.heap.size ∧ meth.locks = false ∧ (Jvm.Cond.and given_1 narrow_1).before #[Value.ref b] s = true
section WL
variable {p : Program} {l : Launch} {e : Env} {R : Room} {s : State} {mm : MethodId} {args : Array Value} {below : List Frame} {meth : Method} {c : Code} {H : Heap} {locs : List Loc} {cells slots : Nat} {Q : State → Prop}
variable {cc : ByteArray} {pc : Nat} {ls : Array Slot} {rest : List Value} {D : va_G} {A : Nat → Prop} {H0 : Heap}
variable {U : Type} {post : Int32 → U → Prop} {wf : U → va_W} {d : ClassId}
variable {y : MethodName} {bytes : ByteArray} {maxL nL k index : Nat} {ret0 : Option FieldType} {wsc : List Cond} {rm : Room} {Ts : List Cond} {own : String} {As st0 : List Value}
variable {ad am : Nat → Nat} {E O G C F V S T P E2 O2 G2 : Nat → Int32} {n m w n2 m2 w2 : Int32}
theorem w_sld (hx : p.tables.exec = Jvm.exec) (hb : c.code = cc) {b L : Nat} {xs : Nat → Int32} (hX : va_X b L xs s H0) (hbl : b < H0.size) (hbA : ¬ A b) (hS : va_S A H0 H locs) {x : Nat} (hlt : x < L) (hL : L < 2 ^ 31) (hdg : decode cc pc = .ok (.iaload, 1))
    (kk : W p l e R s mm args below meth c H locs cells slots Q (F0 mm (pc + 1) ls (.int (xs x) :: rest))) : W p l e R s mm args below meth c H locs cells slots Q (F0 mm pc ls (.int (nI x) :: .ref b :: rest)) := by
  refine va_sld hx hb hX hbl hbA hS (vp_in_nI hlt hL) hdg ?_
  rw [nI_clamp (Nat.lt_trans hlt hL)]
  exact kk
/-- the law calls TJoins: its cells stand first -/
theorem w_lx (F0' : CallFix p mm c cc nL s args Ts own) (hM : MI_ l y wsc rm D d (wX ad d E O G C F V S T P n m w) wf (.ref (ad 0) :: As) post) (cw : CallW R s args own RX1 index y bytes maxL ret0 wsc rm 0 0 k)
    (hP : va_P D vwCl (wX ad d E O G C F V S T P n m w ++ wM am d E2 O2 G2 n2 m2 w2) H) (hK : va_K D vwCl [(d, .int)] s) (hD : va_D A (wX ad d E O G C F V S T P n m w ++ wM am d E2 O2 G2 n2 m2 w2)) (hS : va_S A s.heap H locs) (hA : ∀ q : Nat, s.heap.size ≤ q → A q)
    (hn : As.length = k) (hsize : ls.size = nL) (hstack : st0 = As.reverse ++ .ref (ad 0) :: rest) (hW : (rest.map fun v => v.category).sum ≤ 8) (hdg : decode cc pc = .ok (.invokevirtual index, 3)) (hf : cells ≤ R.cells ∧ slots ≤ R.slots)
    (kk : ∀ (r : Int32) (u : U) (H1 : Heap) (locs1 : List Loc), post r u → va_P D vwCl (wM am d E2 O2 G2 n2 m2 w2 ++ wf u) H1 → va_D A (wM am d E2 O2 G2 n2 m2 w2 ++ wf u) → va_S A s.heap H1 locs1 → W p l e R s mm args below meth c H1 locs1 cells slots Q (F0 mm (pc + 3) ls (.int r :: rest))) :
    W p l e R s mm args below meth c H locs cells slots Q (F0 mm pc ls st0) :=
  w_calli (q0 := 0) (ci := 0) (T := TX1) (N := 12) (wr := wM am d E2 O2 G2 n2 m2 w2) F0' hM cw hP hK hD hS hA [0, 1, 2, 3, 4, 5, 6, 7, 8, 9] [10, 11, 12, 13] rfl rfl rfl (by decide) (by decide) (by decide) rfl rfl hn hsize hstack hW hdg hf kk
/-- the law calls TJoinsModel: its cells stand first -/
theorem w_lm (F0' : CallFix p mm c cc nL s args Ts own) (hM : MI_ l y wsc rm D d (wM am d E2 O2 G2 n2 m2 w2) wf (.ref (am 0) :: As) post) (cw : CallW R s args own RX2 index y bytes maxL ret0 wsc rm 0 0 k)
    (hP : va_P D vwCl (wM am d E2 O2 G2 n2 m2 w2 ++ wX ad d E O G C F V S T P n m w) H) (hK : va_K D vwCl [(d, .int)] s) (hD : va_D A (wM am d E2 O2 G2 n2 m2 w2 ++ wX ad d E O G C F V S T P n m w)) (hS : va_S A s.heap H locs) (hA : ∀ q : Nat, s.heap.size ≤ q → A q)
    (hn : As.length = k) (hsize : ls.size = nL) (hstack : st0 = As.reverse ++ .ref (am 0) :: rest) (hW : (rest.map fun v => v.category).sum ≤ 8) (hdg : decode cc pc = .ok (.invokevirtual index, 3)) (hf : cells ≤ R.cells ∧ slots ≤ R.slots)
    (kk : ∀ (r : Int32) (u : U) (H1 : Heap) (locs1 : List Loc), post r u → va_P D vwCl (wX ad d E O G C F V S T P n m w ++ wf u) H1 → va_D A (wX ad d E O G C F V S T P n m w ++ wf u) → va_S A s.heap H1 locs1 → W p l e R s mm args below meth c H1 locs1 cells slots Q (F0 mm (pc + 3) ls (.int r :: rest))) :
    W p l e R s mm args below meth c H locs cells slots Q (F0 mm pc ls st0) :=
  w_calli (q0 := 0) (ci := 1) (T := TX2) (N := 6) (wr := wX ad d E O G C F V S T P n m w) F0' hM cw hP hK hD hS hA [0, 1, 2, 3] [4, 5, 6, 7, 8, 9, 10, 11, 12, 13] rfl rfl rfl (by decide) (by decide) (by decide) rfl rfl hn hsize hstack hW hdg hf kk
end WL
end
section
set_option maxHeartbeats 8000000 in
set_option maxRecDepth 100000 in
/-- the law's loop: both sides hold one state, and every call is answered alike -/
theorem law_loop {p : Program} {e : Env} {s : State} {mm : MethodId} {below : List Frame} {meth : Method} {cd : Code} (l : Launch) {b L : Nat} {xs : Nat → Int32} (hL : L ≤ 257) (C0 : lw_At p s mm meth cd b L xs) (D : va_G) (d : ClassId) (ad am : Nat → Nat) (n : Nat) (hK : va_K D vwCl [(d, .int)] s)
    (E O G C F V S T P E2 O2 G2 : Nat → Int32) (m w : Nat) (hrep0 : ∃ a b g, Rep n m w a b g E O G ∧ Rep n m w a b g E2 O2 G2) (H : Heap) (locs : List Loc) (ls : Array Slot) (hP : va_P D vwCl (wX ad d E O G C F V S T P (nI n) (nI m) (nI w) ++ wM am d E2 O2 G2 (nI n) (nI m) (nI w)) H) (hD : va_D (fun q : Nat => s.heap.size ≤ q) (wX ad d E O G C F V S T P (nI n) (nI m) (nI w) ++ wM am d E2 O2 G2 (nI n) (nI m) (nI w))) (hS : va_S (fun q : Nat => s.heap.size ≤ q) s.heap H locs)
    (hl : lv_has ls 4 [(0, .ref b), (1, .ref (ad 0)), (2, .ref (am 0)), (3, .int (nI 1))]) : W p l e room_1 s mm #[Value.ref b] below meth cd H locs 600000 7290000 (lw_Z below #[Value.ref b] s) (F0 mm 28 ls []) := by
  obtain ⟨hx, hb, hr, hml, hown, hts0, hX, hbl, hlocks, hgv⟩ := id C0
  have hts : ∀ w ∈ lw_all, w.before #[Value.ref b] s = true := fun w h => hts0 w (lw_all_tbl h)
  have hown : s.vm.findClass RX0 = some mm.cls := hown
  have hA : ∀ q : Nat, s.heap.size ≤ q → (fun q : Nat => s.heap.size ≤ q) q := fun _ h => h
  have hbA : ¬ (fun q : Nat => s.heap.size ≤ q) b := Nat.not_le.mpr hbl
  refine w_for (σ := (Nat → Int32) × (Nat → Int32) × (Nat → Int32) × (Nat → Int32) × (Nat → Int32) × (Nat → Int32) × (Nat → Int32) × (Nat → Int32) × (Nat → Int32) × (Nat → Int32) × (Nat → Int32) × (Nat → Int32) × (Nat) × (Nat)) (64) (fun u => (wX ad d u.1 u.2.1 u.2.2.1 u.2.2.2.1 u.2.2.2.2.1 u.2.2.2.2.2.1 u.2.2.2.2.2.2.1 u.2.2.2.2.2.2.2.1 u.2.2.2.2.2.2.2.2.1 (nI n) (nI u.2.2.2.2.2.2.2.2.2.2.2.2.1) (nI u.2.2.2.2.2.2.2.2.2.2.2.2.2) ++ wM am d u.2.2.2.2.2.2.2.2.2.1 u.2.2.2.2.2.2.2.2.2.2.1 u.2.2.2.2.2.2.2.2.2.2.2.1 (nI n) (nI u.2.2.2.2.2.2.2.2.2.2.2.2.1) (nI u.2.2.2.2.2.2.2.2.2.2.2.2.2))) (fun k u => [(0, .ref b), (1, .ref (ad 0)), (2, .ref (am 0)), (3, .int (nI (4 * k + 1)))]) (fun k u => ∃ a b g, Rep n u.2.2.2.2.2.2.2.2.2.2.2.2.1 u.2.2.2.2.2.2.2.2.2.2.2.2.2 a b g u.1 u.2.1 u.2.2.1 ∧ Rep n u.2.2.2.2.2.2.2.2.2.2.2.2.1 u.2.2.2.2.2.2.2.2.2.2.2.2.2 a b g u.2.2.2.2.2.2.2.2.2.1 u.2.2.2.2.2.2.2.2.2.2.1 u.2.2.2.2.2.2.2.2.2.2.2.1) (fun k hi_k IH_k u H locs ls hI_k hP hD hS hl => ?_) (i0 := 0) (Nat.zero_le _) (E, O, G, C, F, V, S, T, P, E2, O2, G2, m, w) hrep0 hP hD hS (lv_sub hl [0, 1, 2, 3] rfl)
  obtain ⟨E, O, G, C, F, V, S, T, P, E2, O2, G2, m, w⟩ := u
  have hP : va_P D vwCl (wX ad d E O G C F V S T P (nI n) (nI m) (nI w) ++ wM am d E2 O2 G2 (nI n) (nI m) (nI w)) H := hP
  have hD : va_D (fun q : Nat => s.heap.size ≤ q) (wX ad d E O G C F V S T P (nI n) (nI m) (nI w) ++ wM am d E2 O2 G2 (nI n) (nI m) (nI w)) := hD
  have hl : lv_has ls 4 [(0, .ref b), (1, .ref (ad 0)), (2, .ref (am 0)), (3, .int (nI (4 * k + 1)))] := hl
  have hI_k : ∃ a b g, Rep n m w a b g E O G ∧ Rep n m w a b g E2 O2 G2 := hI_k
  obtain ⟨a, b0, g, hRX, hRM⟩ := hI_k
  have hP : va_P D vwCl (wX ad d E O G C F V S T P (nI n) (nI m) (nI w) ++ wM am d E2 O2 G2 (nI n) (nI m) (nI w)) H := hP
  have hD : va_D (fun q : Nat => s.heap.size ≤ q) (wX ad d E O G C F V S T P (nI n) (nI m) (nI w) ++ wM am d E2 O2 G2 (nI n) (nI m) (nI w)) := hD
  refine lv_iload_n hx hb dL_law_28 rfl (lv_at hl 3 rfl) ?_
  refine lv_aload_n hx hb dL_law_29 rfl (lv_at hl 0 rfl) ?_
  refine va_slen hx hb hX hbl hbA hS dL_law_30 ?_
  refine w_top (y := nI L) rfl ?_
  refine lv_iconst (v := 4) hx hb dL_law_31 (by decide) ?_
  refine lv_isub hx hb dL_law_32 ?_
  refine w_top (y := zI ((L : Int) - 4)) (by rw [zI_nat, show (4 : Int32) = zI 4 by decide, zI_sub]) ?_
  refine lv_icmp_gt (tgt := 464) hx hb dL_law_33 (by decide) (fun c_33 => ?_) (fun c_33 => ?_)
  · refine lv_iconst (v := 1) hx hb dL_law_464 (by decide) ?_
    refine va_forget hS.2.2 ?_
    exact lw_ret hx hb hr hlocks dL_law_465
  · have hk5 : 4 * k + 5 ≤ L := by
      have h1 : ¬ zI ((L : Int) - 4) < zI ((4 * k + 1 : Nat) : Int) := by rw [← zI_nat]; exact c_33
      rw [zI_lt ⟨by omega, by omega⟩ ⟨by omega, by omega⟩] at h1
      omega
    have hlt_k : k < 64 := by omega
    refine lv_aload_n hx hb dL_law_36 rfl (lv_at hl 0 rfl) ?_
    refine lv_iload_n hx hb dL_law_37 rfl (lv_at hl 3 rfl) ?_
    refine w_sld hx hb hX hbl hbA hS (x := (4 * k + 1)) (by omega) (by omega) dL_law_38 ?_
    refine lv_bipush (v := 15) hx hb dL_law_39 (by decide) ?_
    refine lv_iand hx hb dL_law_41 ?_
    obtain ⟨j, hj, hsw⟩ := pk_andE (xs (4 * k + 1)) (m := 15) 4 (by decide)
    refine w_top (y := nI j) hsw ?_
    rcases (show j = 0 ∨ j = 1 ∨ j = 2 ∨ j = 3 ∨ j = 4 ∨ j = 5 ∨ j = 6 ∨ j = 7 ∨ j = 8 ∨ j = 9 ∨ j = 10 ∨ j = 11 ∨ j = 12 ∨ j = 13 ∨ j = 14 ∨ j = 15 by omega) with rfl | rfl | rfl | rfl | rfl | rfl | rfl | rfl | rfl | rfl | rfl | rfl | rfl | rfl | rfl | rfl
    · refine lv_tableIn (off := 78) (tgt := 120) hx hb dL_law_42 (by decide) (by decide) (by decide) (by decide) ?_
      refine lv_aload_n hx hb dL_law_120 rfl (lv_at hl 1 rfl) ?_
      refine lv_aload_n hx hb dL_law_121 rfl (lv_at hl 0 rfl) ?_
      refine lv_iload_n hx hb dL_law_122 rfl (lv_at hl 3 rfl) ?_
      refine lv_iconst (v := nI 1) hx hb dL_law_123 (by decide) ?_
      refine lv_iadd hx hb dL_law_124 ?_
      refine w_top (y := nI (4 * k + 1 + 1)) (nI_add _ _) ?_
      refine w_sld hx hb hX hbl hbA hS (x := (4 * k + 1 + 1)) (by omega) (by omega) dL_law_125 ?_
      refine lv_aload_n hx hb dL_law_126 rfl (lv_at hl 0 rfl) ?_
      refine lv_iload_n hx hb dL_law_127 rfl (lv_at hl 3 rfl) ?_
      refine lv_iconst (v := nI 2) hx hb dL_law_128 (by decide) ?_
      refine lv_iadd hx hb dL_law_129 ?_
      refine w_top (y := nI (4 * k + 1 + 2)) (nI_add _ _) ?_
      refine w_sld hx hb hX hbl hbA hS (x := (4 * k + 1 + 2)) (by omega) (by omega) dL_law_130 ?_
      refine lv_aload_n hx hb dL_law_131 rfl (lv_at hl 0 rfl) ?_
      refine lv_iload_n hx hb dL_law_132 rfl (lv_at hl 3 rfl) ?_
      refine lv_iconst (v := nI 3) hx hb dL_law_133 (by decide) ?_
      refine lv_iadd hx hb dL_law_134 ?_
      refine w_top (y := nI (4 * k + 1 + 3)) (nI_add _ _) ?_
      refine w_sld hx hb hX hbl hbA hS (x := (4 * k + 1 + 3)) (by omega) (by omega) dL_law_135 ?_
      refine w_lx (As := [.int (xs (4 * k + 1 + 1)), .int (xs (4 * k + 1 + 2)), .int (xs (4 * k + 1 + 3))]) (rest := []) ⟨hx, hb, hml, hown, hts⟩ (mX1_road l D d ad E O G C F V S T P n m w a b0 g hRX (xs (4 * k + 1 + 1)) (xs (4 * k + 1 + 2)) (xs (4 * k + 1 + 3))) (cwV 3 hts (lw_V q70 q71 q72 q22 q73) rfl rfl rfl (by decide +kernel) ⟨Nat.le_of_ble_eq_true rfl, Nat.le_of_ble_eq_true rfl⟩) hP hK hD hS hA rfl hl.1 rfl (Nat.le_of_ble_eq_true rfl) dL_law_136 ⟨Nat.le_refl _, Nat.le_refl _⟩ (fun r1 u1 H locs hw1 hP hD hS => ?_)
      obtain ⟨E1, O1, G1, m1⟩ := u1
      have hP : va_P D vwCl (wM am d E2 O2 G2 (nI n) (nI m) (nI w) ++ wX ad d E1 O1 G1 C F V S T P (nI n) (nI m1) (nI w)) H := hP
      have hD : va_D (fun q : Nat => s.heap.size ≤ q) (wM am d E2 O2 G2 (nI n) (nI m) (nI w) ++ wX ad d E1 O1 G1 C F V S T P (nI n) (nI m1) (nI w)) := hD
      refine lv_aload_n hx hb dL_law_139 rfl (lv_at hl 2 rfl) ?_
      refine lv_aload_n hx hb dL_law_140 rfl (lv_at hl 0 rfl) ?_
      refine lv_iload_n hx hb dL_law_141 rfl (lv_at hl 3 rfl) ?_
      refine lv_iconst (v := nI 1) hx hb dL_law_142 (by decide) ?_
      refine lv_iadd hx hb dL_law_143 ?_
      refine w_top (y := nI (4 * k + 1 + 1)) (nI_add _ _) ?_
      refine w_sld hx hb hX hbl hbA hS (x := (4 * k + 1 + 1)) (by omega) (by omega) dL_law_144 ?_
      refine lv_aload_n hx hb dL_law_145 rfl (lv_at hl 0 rfl) ?_
      refine lv_iload_n hx hb dL_law_146 rfl (lv_at hl 3 rfl) ?_
      refine lv_iconst (v := nI 2) hx hb dL_law_147 (by decide) ?_
      refine lv_iadd hx hb dL_law_148 ?_
      refine w_top (y := nI (4 * k + 1 + 2)) (nI_add _ _) ?_
      refine w_sld hx hb hX hbl hbA hS (x := (4 * k + 1 + 2)) (by omega) (by omega) dL_law_149 ?_
      refine lv_aload_n hx hb dL_law_150 rfl (lv_at hl 0 rfl) ?_
      refine lv_iload_n hx hb dL_law_151 rfl (lv_at hl 3 rfl) ?_
      refine lv_iconst (v := nI 3) hx hb dL_law_152 (by decide) ?_
      refine lv_iadd hx hb dL_law_153 ?_
      refine w_top (y := nI (4 * k + 1 + 3)) (nI_add _ _) ?_
      refine w_sld hx hb hX hbl hbA hS (x := (4 * k + 1 + 3)) (by omega) (by omega) dL_law_154 ?_
      refine w_lm (As := [.int (xs (4 * k + 1 + 1)), .int (xs (4 * k + 1 + 2)), .int (xs (4 * k + 1 + 3))]) (rest := [.int r1]) ⟨hx, hb, hml, hown, hts⟩ (mX2_road l D d am E2 O2 G2 n m w a b0 g hRM (xs (4 * k + 1 + 1)) (xs (4 * k + 1 + 2)) (xs (4 * k + 1 + 3))) (cwV 3 hts (lw_V q217 q218 q219 q23 q220) rfl rfl rfl (by decide +kernel) ⟨Nat.le_of_ble_eq_true rfl, Nat.le_of_ble_eq_true rfl⟩) hP hK hD hS hA rfl hl.1 rfl (Nat.le_of_ble_eq_true rfl) dL_law_155 ⟨Nat.le_refl _, Nat.le_refl _⟩ (fun r2 u3 H locs hw2 hP hD hS => ?_)
      obtain ⟨E3, O3, G3, m3⟩ := u3
      have hP : va_P D vwCl (wX ad d E1 O1 G1 C F V S T P (nI n) (nI m1) (nI w) ++ wM am d E3 O3 G3 (nI n) (nI m3) (nI w)) H := hP
      have hD : va_D (fun q : Nat => s.heap.size ≤ q) (wX ad d E1 O1 G1 C F V S T P (nI n) (nI m1) (nI w) ++ wM am d E3 O3 G3 (nI n) (nI m3) (nI w)) := hD
      have hfun := road_fun hw1 hw2
      refine lv_icmp_eq (tgt := 458) hx hb dL_law_158 (by decide) (fun c_158 => ?_) (fun c_158 => ?_)
      · obtain ⟨-, hm3, hrep⟩ := hfun
        have hm3 : m3 = m1 := hm3
        rw [hm3] at hP hD
        refine lv_iinc (v := (nI (4 * (k + 1) + 1))) (lv' := [(3, .int (nI (4 * (k + 1) + 1))), (0, .ref b), (1, .ref (ad 0)), (2, .ref (am 0))]) hx hb dL_law_458 hl (k := 3) rfl (by rw [show Int32.ofInt 4 = nI 4 by decide, nI_add]; exact congrArg nI (by omega)) (by decide) rfl (fun ls hl => ?_)
        refine lv_goto (tgt := 28) hx hb dL_law_461 (by decide) ?_
        have hl : lv_has ls 4 [(0, .ref b), (1, .ref (ad 0)), (2, .ref (am 0)), (3, .int (nI (4 * (k + 1) + 1)))] := by exact lv_sub hl [1, 2, 3, 0] rfl
        exact IH_k (E1, O1, G1, C, F, V, S, T, P, E3, O3, G3, m1, w) _ _ _ hlt_k hrep hP hD hS hl
      · exact absurd hfun.1 c_158
    · refine lv_tableIn (off := 121) (tgt := 163) hx hb dL_law_42 (by decide) (by decide) (by decide) (by decide) ?_
      refine lv_aload_n hx hb dL_law_163 rfl (lv_at hl 1 rfl) ?_
      refine lv_aload_n hx hb dL_law_164 rfl (lv_at hl 0 rfl) ?_
      refine lv_iload_n hx hb dL_law_165 rfl (lv_at hl 3 rfl) ?_
      refine lv_iconst (v := nI 1) hx hb dL_law_166 (by decide) ?_
      refine lv_iadd hx hb dL_law_167 ?_
      refine w_top (y := nI (4 * k + 1 + 1)) (nI_add _ _) ?_
      refine w_sld hx hb hX hbl hbA hS (x := (4 * k + 1 + 1)) (by omega) (by omega) dL_law_168 ?_
      refine w_lx (As := [.int (xs (4 * k + 1 + 1))]) (rest := []) ⟨hx, hb, hml, hown, hts⟩ (mX1_remove l D d ad E O G C F V S T P n m w a b0 g hRX (xs (4 * k + 1 + 1))) (cwV 1 hts (lw_V q78 q79 q80 q22 q81) rfl rfl rfl (by decide +kernel) ⟨Nat.le_of_ble_eq_true rfl, Nat.le_of_ble_eq_true rfl⟩) hP hK hD hS hA rfl hl.1 rfl (Nat.le_of_ble_eq_true rfl) dL_law_169 ⟨Nat.le_refl _, Nat.le_refl _⟩ (fun r1 u1 H locs hw1 hP hD hS => ?_)
      obtain ⟨E1, O1, G1, m1⟩ := u1
      have hP : va_P D vwCl (wM am d E2 O2 G2 (nI n) (nI m) (nI w) ++ wX ad d E1 O1 G1 C F V S T P (nI n) (nI m1) (nI w)) H := hP
      have hD : va_D (fun q : Nat => s.heap.size ≤ q) (wM am d E2 O2 G2 (nI n) (nI m) (nI w) ++ wX ad d E1 O1 G1 C F V S T P (nI n) (nI m1) (nI w)) := hD
      refine lv_aload_n hx hb dL_law_172 rfl (lv_at hl 2 rfl) ?_
      refine lv_aload_n hx hb dL_law_173 rfl (lv_at hl 0 rfl) ?_
      refine lv_iload_n hx hb dL_law_174 rfl (lv_at hl 3 rfl) ?_
      refine lv_iconst (v := nI 1) hx hb dL_law_175 (by decide) ?_
      refine lv_iadd hx hb dL_law_176 ?_
      refine w_top (y := nI (4 * k + 1 + 1)) (nI_add _ _) ?_
      refine w_sld hx hb hX hbl hbA hS (x := (4 * k + 1 + 1)) (by omega) (by omega) dL_law_177 ?_
      refine w_lm (As := [.int (xs (4 * k + 1 + 1))]) (rest := [.int r1]) ⟨hx, hb, hml, hown, hts⟩ (mX2_remove l D d am E2 O2 G2 n m w a b0 g hRM (xs (4 * k + 1 + 1))) (cwV 1 hts (lw_V q229 q230 q231 q23 q232) rfl rfl rfl (by decide +kernel) ⟨Nat.le_of_ble_eq_true rfl, Nat.le_of_ble_eq_true rfl⟩) hP hK hD hS hA rfl hl.1 rfl (Nat.le_of_ble_eq_true rfl) dL_law_178 ⟨Nat.le_refl _, Nat.le_refl _⟩ (fun r2 u3 H locs hw2 hP hD hS => ?_)
      obtain ⟨E3, O3, G3, m3⟩ := u3
      have hP : va_P D vwCl (wX ad d E1 O1 G1 C F V S T P (nI n) (nI m1) (nI w) ++ wM am d E3 O3 G3 (nI n) (nI m3) (nI w)) H := hP
      have hD : va_D (fun q : Nat => s.heap.size ≤ q) (wX ad d E1 O1 G1 C F V S T P (nI n) (nI m1) (nI w) ++ wM am d E3 O3 G3 (nI n) (nI m3) (nI w)) := hD
      have hfun := rem_fun hRX.1.1.2.2.1 hw1 hw2
      refine lv_icmp_eq (tgt := 458) hx hb dL_law_181 (by decide) (fun c_181 => ?_) (fun c_181 => ?_)
      · obtain ⟨-, hm3, hrep⟩ := hfun
        have hm3 : m3 = m1 := hm3
        rw [hm3] at hP hD
        refine lv_iinc (v := (nI (4 * (k + 1) + 1))) (lv' := [(3, .int (nI (4 * (k + 1) + 1))), (0, .ref b), (1, .ref (ad 0)), (2, .ref (am 0))]) hx hb dL_law_458 hl (k := 3) rfl (by rw [show Int32.ofInt 4 = nI 4 by decide, nI_add]; exact congrArg nI (by omega)) (by decide) rfl (fun ls hl => ?_)
        refine lv_goto (tgt := 28) hx hb dL_law_461 (by decide) ?_
        have hl : lv_has ls 4 [(0, .ref b), (1, .ref (ad 0)), (2, .ref (am 0)), (3, .int (nI (4 * (k + 1) + 1)))] := by exact lv_sub hl [1, 2, 3, 0] rfl
        exact IH_k (E1, O1, G1, C, F, V, S, T, P, E3, O3, G3, m1, w) _ _ _ hlt_k hrep hP hD hS hl
      · exact absurd hfun.1 c_181
    · refine lv_tableIn (off := 144) (tgt := 186) hx hb dL_law_42 (by decide) (by decide) (by decide) (by decide) ?_
      refine lv_aload_n hx hb dL_law_186 rfl (lv_at hl 1 rfl) ?_
      refine lv_aload_n hx hb dL_law_187 rfl (lv_at hl 0 rfl) ?_
      refine lv_iload_n hx hb dL_law_188 rfl (lv_at hl 3 rfl) ?_
      refine lv_iconst (v := nI 1) hx hb dL_law_189 (by decide) ?_
      refine lv_iadd hx hb dL_law_190 ?_
      refine w_top (y := nI (4 * k + 1 + 1)) (nI_add _ _) ?_
      refine w_sld hx hb hX hbl hbA hS (x := (4 * k + 1 + 1)) (by omega) (by omega) dL_law_191 ?_
      refine lv_aload_n hx hb dL_law_192 rfl (lv_at hl 0 rfl) ?_
      refine lv_iload_n hx hb dL_law_193 rfl (lv_at hl 3 rfl) ?_
      refine lv_iconst (v := nI 2) hx hb dL_law_194 (by decide) ?_
      refine lv_iadd hx hb dL_law_195 ?_
      refine w_top (y := nI (4 * k + 1 + 2)) (nI_add _ _) ?_
      refine w_sld hx hb hX hbl hbA hS (x := (4 * k + 1 + 2)) (by omega) (by omega) dL_law_196 ?_
      refine w_lx (As := [.int (xs (4 * k + 1 + 1)), .int (xs (4 * k + 1 + 2))]) (rest := []) ⟨hx, hb, hml, hown, hts⟩ (mX1_weigh l D d ad E O G C F V S T P n m w a b0 g hRX (xs (4 * k + 1 + 1)) (xs (4 * k + 1 + 2))) (cwV 2 hts (lw_V q86 q87 q88 q22 q89) rfl rfl rfl (by decide +kernel) ⟨Nat.le_of_ble_eq_true rfl, Nat.le_of_ble_eq_true rfl⟩) hP hK hD hS hA rfl hl.1 rfl (Nat.le_of_ble_eq_true rfl) dL_law_197 ⟨Nat.le_refl _, Nat.le_refl _⟩ (fun r1 u1 H locs hw1 hP hD hS => ?_)
      obtain ⟨G1, rfl⟩ : ∃ z, z = u1 := ⟨_, rfl⟩
      have hP : va_P D vwCl (wM am d E2 O2 G2 (nI n) (nI m) (nI w) ++ wX ad d E O G1 C F V S T P (nI n) (nI m) (nI w)) H := hP
      have hD : va_D (fun q : Nat => s.heap.size ≤ q) (wM am d E2 O2 G2 (nI n) (nI m) (nI w) ++ wX ad d E O G1 C F V S T P (nI n) (nI m) (nI w)) := hD
      refine lv_aload_n hx hb dL_law_200 rfl (lv_at hl 2 rfl) ?_
      refine lv_aload_n hx hb dL_law_201 rfl (lv_at hl 0 rfl) ?_
      refine lv_iload_n hx hb dL_law_202 rfl (lv_at hl 3 rfl) ?_
      refine lv_iconst (v := nI 1) hx hb dL_law_203 (by decide) ?_
      refine lv_iadd hx hb dL_law_204 ?_
      refine w_top (y := nI (4 * k + 1 + 1)) (nI_add _ _) ?_
      refine w_sld hx hb hX hbl hbA hS (x := (4 * k + 1 + 1)) (by omega) (by omega) dL_law_205 ?_
      refine lv_aload_n hx hb dL_law_206 rfl (lv_at hl 0 rfl) ?_
      refine lv_iload_n hx hb dL_law_207 rfl (lv_at hl 3 rfl) ?_
      refine lv_iconst (v := nI 2) hx hb dL_law_208 (by decide) ?_
      refine lv_iadd hx hb dL_law_209 ?_
      refine w_top (y := nI (4 * k + 1 + 2)) (nI_add _ _) ?_
      refine w_sld hx hb hX hbl hbA hS (x := (4 * k + 1 + 2)) (by omega) (by omega) dL_law_210 ?_
      refine w_lm (As := [.int (xs (4 * k + 1 + 1)), .int (xs (4 * k + 1 + 2))]) (rest := [.int r1]) ⟨hx, hb, hml, hown, hts⟩ (mX2_weigh l D d am E2 O2 G2 n m w a b0 g hRM (xs (4 * k + 1 + 1)) (xs (4 * k + 1 + 2))) (cwV 2 hts (lw_V q237 q238 q239 q23 q240) rfl rfl rfl (by decide +kernel) ⟨Nat.le_of_ble_eq_true rfl, Nat.le_of_ble_eq_true rfl⟩) hP hK hD hS hA rfl hl.1 rfl (Nat.le_of_ble_eq_true rfl) dL_law_211 ⟨Nat.le_refl _, Nat.le_refl _⟩ (fun r2 u3 H locs hw2 hP hD hS => ?_)
      obtain ⟨G3, rfl⟩ : ∃ z, z = u3 := ⟨_, rfl⟩
      have hP : va_P D vwCl (wX ad d E O G1 C F V S T P (nI n) (nI m) (nI w) ++ wM am d E2 O2 G3 (nI n) (nI m) (nI w)) H := hP
      have hD : va_D (fun q : Nat => s.heap.size ≤ q) (wX ad d E O G1 C F V S T P (nI n) (nI m) (nI w) ++ wM am d E2 O2 G3 (nI n) (nI m) (nI w)) := hD
      have hfun := wei_fun hRX.1.1.2.2.1 hw1 hw2
      refine lv_icmp_eq (tgt := 458) hx hb dL_law_214 (by decide) (fun c_214 => ?_) (fun c_214 => ?_)
      · obtain ⟨-, hrep⟩ := hfun
        refine lv_iinc (v := (nI (4 * (k + 1) + 1))) (lv' := [(3, .int (nI (4 * (k + 1) + 1))), (0, .ref b), (1, .ref (ad 0)), (2, .ref (am 0))]) hx hb dL_law_458 hl (k := 3) rfl (by rw [show Int32.ofInt 4 = nI 4 by decide, nI_add]; exact congrArg nI (by omega)) (by decide) rfl (fun ls hl => ?_)
        refine lv_goto (tgt := 28) hx hb dL_law_461 (by decide) ?_
        have hl : lv_has ls 4 [(0, .ref b), (1, .ref (ad 0)), (2, .ref (am 0)), (3, .int (nI (4 * (k + 1) + 1)))] := by exact lv_sub hl [1, 2, 3, 0] rfl
        exact IH_k (E, O, G1, C, F, V, S, T, P, E2, O2, G3, m, w) _ _ _ hlt_k hrep hP hD hS hl
      · exact absurd hfun.1 c_214
    · refine lv_tableIn (off := 177) (tgt := 219) hx hb dL_law_42 (by decide) (by decide) (by decide) (by decide) ?_
      refine lv_aload_n hx hb dL_law_219 rfl (lv_at hl 1 rfl) ?_
      refine lv_aload_n hx hb dL_law_220 rfl (lv_at hl 0 rfl) ?_
      refine lv_iload_n hx hb dL_law_221 rfl (lv_at hl 3 rfl) ?_
      refine lv_iconst (v := nI 1) hx hb dL_law_222 (by decide) ?_
      refine lv_iadd hx hb dL_law_223 ?_
      refine w_top (y := nI (4 * k + 1 + 1)) (nI_add _ _) ?_
      refine w_sld hx hb hX hbl hbA hS (x := (4 * k + 1 + 1)) (by omega) (by omega) dL_law_224 ?_
      refine w_lx (As := [.int (xs (4 * k + 1 + 1))]) (rest := []) ⟨hx, hb, hml, hown, hts⟩ (mX1_want l D d ad E O G C F V S T P n m w a b0 g hRX (xs (4 * k + 1 + 1))) (cwV 1 hts (lw_V q90 q91 q92 q22 q93) rfl rfl rfl (by decide +kernel) ⟨Nat.le_of_ble_eq_true rfl, Nat.le_of_ble_eq_true rfl⟩) hP hK hD hS hA rfl hl.1 rfl (Nat.le_of_ble_eq_true rfl) dL_law_225 ⟨Nat.le_refl _, Nat.le_refl _⟩ (fun r1 u1 H locs hw1 hP hD hS => ?_)
      obtain ⟨w1, rfl⟩ : ∃ z, z = u1 := ⟨_, rfl⟩
      have hP : va_P D vwCl (wM am d E2 O2 G2 (nI n) (nI m) (nI w) ++ wX ad d E O G C F V S T P (nI n) (nI m) (nI w1)) H := hP
      have hD : va_D (fun q : Nat => s.heap.size ≤ q) (wM am d E2 O2 G2 (nI n) (nI m) (nI w) ++ wX ad d E O G C F V S T P (nI n) (nI m) (nI w1)) := hD
      refine lv_aload_n hx hb dL_law_228 rfl (lv_at hl 2 rfl) ?_
      refine lv_aload_n hx hb dL_law_229 rfl (lv_at hl 0 rfl) ?_
      refine lv_iload_n hx hb dL_law_230 rfl (lv_at hl 3 rfl) ?_
      refine lv_iconst (v := nI 1) hx hb dL_law_231 (by decide) ?_
      refine lv_iadd hx hb dL_law_232 ?_
      refine w_top (y := nI (4 * k + 1 + 1)) (nI_add _ _) ?_
      refine w_sld hx hb hX hbl hbA hS (x := (4 * k + 1 + 1)) (by omega) (by omega) dL_law_233 ?_
      refine w_lm (As := [.int (xs (4 * k + 1 + 1))]) (rest := [.int r1]) ⟨hx, hb, hml, hown, hts⟩ (mX2_want l D d am E2 O2 G2 n m w a b0 g hRM (xs (4 * k + 1 + 1))) (cwV 1 hts (lw_V q241 q242 q243 q23 q244) rfl rfl rfl (by decide +kernel) ⟨Nat.le_of_ble_eq_true rfl, Nat.le_of_ble_eq_true rfl⟩) hP hK hD hS hA rfl hl.1 rfl (Nat.le_of_ble_eq_true rfl) dL_law_234 ⟨Nat.le_refl _, Nat.le_refl _⟩ (fun r2 u3 H locs hw2 hP hD hS => ?_)
      obtain ⟨w3, rfl⟩ : ∃ z, z = u3 := ⟨_, rfl⟩
      have hP : va_P D vwCl (wX ad d E O G C F V S T P (nI n) (nI m) (nI w1) ++ wM am d E2 O2 G2 (nI n) (nI m) (nI w3)) H := hP
      have hD : va_D (fun q : Nat => s.heap.size ≤ q) (wX ad d E O G C F V S T P (nI n) (nI m) (nI w1) ++ wM am d E2 O2 G2 (nI n) (nI m) (nI w3)) := hD
      have hfun := wan_fun hRX.1.1.2.1 hRX.1.1.2.2.2 hw1 hw2
      refine lv_icmp_eq (tgt := 458) hx hb dL_law_237 (by decide) (fun c_237 => ?_) (fun c_237 => ?_)
      · obtain ⟨-, hm3, hw2n⟩ := hfun
        rw [hm3] at hP hD
        have hrep := (⟨a, b0, g, rep_w hRX hw2n, rep_w hRM hw2n⟩ : ∃ a b g, Rep n m w1 a b g E O G ∧ Rep n m w1 a b g E2 O2 G2)
        refine lv_iinc (v := (nI (4 * (k + 1) + 1))) (lv' := [(3, .int (nI (4 * (k + 1) + 1))), (0, .ref b), (1, .ref (ad 0)), (2, .ref (am 0))]) hx hb dL_law_458 hl (k := 3) rfl (by rw [show Int32.ofInt 4 = nI 4 by decide, nI_add]; exact congrArg nI (by omega)) (by decide) rfl (fun ls hl => ?_)
        refine lv_goto (tgt := 28) hx hb dL_law_461 (by decide) ?_
        have hl : lv_has ls 4 [(0, .ref b), (1, .ref (ad 0)), (2, .ref (am 0)), (3, .int (nI (4 * (k + 1) + 1)))] := by exact lv_sub hl [1, 2, 3, 0] rfl
        exact IH_k (E, O, G, C, F, V, S, T, P, E2, O2, G2, m, w1) _ _ _ hlt_k hrep hP hD hS hl
      · exact absurd hfun.1 c_237
    · refine lv_tableIn (off := 200) (tgt := 242) hx hb dL_law_42 (by decide) (by decide) (by decide) (by decide) ?_
      refine lv_aload_n hx hb dL_law_242 rfl (lv_at hl 1 rfl) ?_
      refine lv_aload_n hx hb dL_law_243 rfl (lv_at hl 0 rfl) ?_
      refine lv_iload_n hx hb dL_law_244 rfl (lv_at hl 3 rfl) ?_
      refine lv_iconst (v := nI 1) hx hb dL_law_245 (by decide) ?_
      refine lv_iadd hx hb dL_law_246 ?_
      refine w_top (y := nI (4 * k + 1 + 1)) (nI_add _ _) ?_
      refine w_sld hx hb hX hbl hbA hS (x := (4 * k + 1 + 1)) (by omega) (by omega) dL_law_247 ?_
      refine w_lx (As := [.int (xs (4 * k + 1 + 1))]) (rest := []) ⟨hx, hb, hml, hown, hts⟩ (mX1_turn l D d ad E O G C F V S T P n m w a b0 g hRX (xs (4 * k + 1 + 1))) (cwV 1 hts (lw_V q94 q95 q96 q22 q97) rfl rfl rfl (by decide +kernel) ⟨Nat.le_of_ble_eq_true rfl, Nat.le_of_ble_eq_true rfl⟩) hP hK hD hS hA rfl hl.1 rfl (Nat.le_of_ble_eq_true rfl) dL_law_248 ⟨Nat.le_refl _, Nat.le_refl _⟩ (fun r1 u1 H locs hw1 hP hD hS => ?_)
      obtain ⟨w1, rfl⟩ : ∃ z, z = u1 := ⟨_, rfl⟩
      have hP : va_P D vwCl (wM am d E2 O2 G2 (nI n) (nI m) (nI w) ++ wX ad d E O G C F V S T P (nI n) (nI m) (nI w1)) H := hP
      have hD : va_D (fun q : Nat => s.heap.size ≤ q) (wM am d E2 O2 G2 (nI n) (nI m) (nI w) ++ wX ad d E O G C F V S T P (nI n) (nI m) (nI w1)) := hD
      refine lv_aload_n hx hb dL_law_251 rfl (lv_at hl 2 rfl) ?_
      refine lv_aload_n hx hb dL_law_252 rfl (lv_at hl 0 rfl) ?_
      refine lv_iload_n hx hb dL_law_253 rfl (lv_at hl 3 rfl) ?_
      refine lv_iconst (v := nI 1) hx hb dL_law_254 (by decide) ?_
      refine lv_iadd hx hb dL_law_255 ?_
      refine w_top (y := nI (4 * k + 1 + 1)) (nI_add _ _) ?_
      refine w_sld hx hb hX hbl hbA hS (x := (4 * k + 1 + 1)) (by omega) (by omega) dL_law_256 ?_
      refine w_lm (As := [.int (xs (4 * k + 1 + 1))]) (rest := [.int r1]) ⟨hx, hb, hml, hown, hts⟩ (mX2_turn l D d am E2 O2 G2 n m w a b0 g hRM (xs (4 * k + 1 + 1))) (cwV 1 hts (lw_V q245 q246 q247 q23 q248) rfl rfl rfl (by decide +kernel) ⟨Nat.le_of_ble_eq_true rfl, Nat.le_of_ble_eq_true rfl⟩) hP hK hD hS hA rfl hl.1 rfl (Nat.le_of_ble_eq_true rfl) dL_law_257 ⟨Nat.le_refl _, Nat.le_refl _⟩ (fun r2 u3 H locs hw2 hP hD hS => ?_)
      obtain ⟨w3, rfl⟩ : ∃ z, z = u3 := ⟨_, rfl⟩
      have hP : va_P D vwCl (wX ad d E O G C F V S T P (nI n) (nI m) (nI w1) ++ wM am d E2 O2 G2 (nI n) (nI m) (nI w3)) H := hP
      have hD : va_D (fun q : Nat => s.heap.size ≤ q) (wX ad d E O G C F V S T P (nI n) (nI m) (nI w1) ++ wM am d E2 O2 G2 (nI n) (nI m) (nI w3)) := hD
      have hfun := tur_fun hRX.1.1.2.1 hRX.1.1.2.2.2 hw1 hw2
      refine lv_icmp_eq (tgt := 458) hx hb dL_law_260 (by decide) (fun c_260 => ?_) (fun c_260 => ?_)
      · obtain ⟨-, hm3, hw2n⟩ := hfun
        rw [hm3] at hP hD
        have hrep := (⟨a, b0, g, rep_w hRX hw2n, rep_w hRM hw2n⟩ : ∃ a b g, Rep n m w1 a b g E O G ∧ Rep n m w1 a b g E2 O2 G2)
        refine lv_iinc (v := (nI (4 * (k + 1) + 1))) (lv' := [(3, .int (nI (4 * (k + 1) + 1))), (0, .ref b), (1, .ref (ad 0)), (2, .ref (am 0))]) hx hb dL_law_458 hl (k := 3) rfl (by rw [show Int32.ofInt 4 = nI 4 by decide, nI_add]; exact congrArg nI (by omega)) (by decide) rfl (fun ls hl => ?_)
        refine lv_goto (tgt := 28) hx hb dL_law_461 (by decide) ?_
        have hl : lv_has ls 4 [(0, .ref b), (1, .ref (ad 0)), (2, .ref (am 0)), (3, .int (nI (4 * (k + 1) + 1)))] := by exact lv_sub hl [1, 2, 3, 0] rfl
        exact IH_k (E, O, G, C, F, V, S, T, P, E2, O2, G2, m, w1) _ _ _ hlt_k hrep hP hD hS hl
      · exact absurd hfun.1 c_260
    · refine lv_tableIn (off := 223) (tgt := 265) hx hb dL_law_42 (by decide) (by decide) (by decide) (by decide) ?_
      refine lv_aload_n hx hb dL_law_265 rfl (lv_at hl 1 rfl) ?_
      refine w_lx (As := []) (rest := []) ⟨hx, hb, hml, hown, hts⟩ (mX1_roads l D d ad E O G C F V S T P n m w a b0 g hRX) (cwV 0 hts (lw_V q98 q99 q100 q22 q101) rfl rfl rfl (by decide +kernel) ⟨Nat.le_of_ble_eq_true rfl, Nat.le_of_ble_eq_true rfl⟩) hP hK hD hS hA rfl hl.1 rfl (Nat.le_of_ble_eq_true rfl) dL_law_266 ⟨Nat.le_refl _, Nat.le_refl _⟩ (fun r1 _ H locs hw1 hP hD hS => ?_)
      have hP : va_P D vwCl (wM am d E2 O2 G2 (nI n) (nI m) (nI w) ++ wX ad d E O G C F V S T P (nI n) (nI m) (nI w)) H := hP
      have hD : va_D (fun q : Nat => s.heap.size ≤ q) (wM am d E2 O2 G2 (nI n) (nI m) (nI w) ++ wX ad d E O G C F V S T P (nI n) (nI m) (nI w)) := hD
      refine lv_aload_n hx hb dL_law_269 rfl (lv_at hl 2 rfl) ?_
      refine w_lm (As := []) (rest := [.int r1]) ⟨hx, hb, hml, hown, hts⟩ (mX2_roads l D d am E2 O2 G2 n m w a b0 g hRM) (cwV 0 hts (lw_V q249 q250 q251 q23 q252) rfl rfl rfl (by decide +kernel) ⟨Nat.le_of_ble_eq_true rfl, Nat.le_of_ble_eq_true rfl⟩) hP hK hD hS hA rfl hl.1 rfl (Nat.le_of_ble_eq_true rfl) dL_law_270 ⟨Nat.le_refl _, Nat.le_refl _⟩ (fun r2 _ H locs hw2 hP hD hS => ?_)
      have hP : va_P D vwCl (wX ad d E O G C F V S T P (nI n) (nI m) (nI w) ++ wM am d E2 O2 G2 (nI n) (nI m) (nI w)) H := hP
      have hD : va_D (fun q : Nat => s.heap.size ≤ q) (wX ad d E O G C F V S T P (nI n) (nI m) (nI w) ++ wM am d E2 O2 G2 (nI n) (nI m) (nI w)) := hD
      have hfun := hw1.trans hw2.symm
      refine lv_icmp_eq (tgt := 458) hx hb dL_law_273 (by decide) (fun c_273 => ?_) (fun c_273 => ?_)
      · have hrep := (⟨a, b0, g, hRX, hRM⟩ : ∃ a b g, Rep n m w a b g E O G ∧ Rep n m w a b g E2 O2 G2)
        refine lv_iinc (v := (nI (4 * (k + 1) + 1))) (lv' := [(3, .int (nI (4 * (k + 1) + 1))), (0, .ref b), (1, .ref (ad 0)), (2, .ref (am 0))]) hx hb dL_law_458 hl (k := 3) rfl (by rw [show Int32.ofInt 4 = nI 4 by decide, nI_add]; exact congrArg nI (by omega)) (by decide) rfl (fun ls hl => ?_)
        refine lv_goto (tgt := 28) hx hb dL_law_461 (by decide) ?_
        have hl : lv_has ls 4 [(0, .ref b), (1, .ref (ad 0)), (2, .ref (am 0)), (3, .int (nI (4 * (k + 1) + 1)))] := by exact lv_sub hl [1, 2, 3, 0] rfl
        exact IH_k (E, O, G, C, F, V, S, T, P, E2, O2, G2, m, w) _ _ _ hlt_k hrep hP hD hS hl
      · exact absurd hfun c_273
    · refine lv_tableIn (off := 236) (tgt := 278) hx hb dL_law_42 (by decide) (by decide) (by decide) (by decide) ?_
      refine lv_aload_n hx hb dL_law_278 rfl (lv_at hl 1 rfl) ?_
      refine lv_aload_n hx hb dL_law_279 rfl (lv_at hl 0 rfl) ?_
      refine lv_iload_n hx hb dL_law_280 rfl (lv_at hl 3 rfl) ?_
      refine lv_iconst (v := nI 1) hx hb dL_law_281 (by decide) ?_
      refine lv_iadd hx hb dL_law_282 ?_
      refine w_top (y := nI (4 * k + 1 + 1)) (nI_add _ _) ?_
      refine w_sld hx hb hX hbl hbA hS (x := (4 * k + 1 + 1)) (by omega) (by omega) dL_law_283 ?_
      refine w_lx (As := [.int (xs (4 * k + 1 + 1))]) (rest := []) ⟨hx, hb, hml, hown, hts⟩ (mX1_isJoin l D d ad E O G C F V S T P n m w a b0 g hRX (xs (4 * k + 1 + 1))) (cwV 1 hts (lw_V q102 q103 q104 q22 q105) rfl rfl rfl (by decide +kernel) ⟨Nat.le_of_ble_eq_true rfl, Nat.le_of_ble_eq_true rfl⟩) hP hK hD hS hA rfl hl.1 rfl (Nat.le_of_ble_eq_true rfl) dL_law_284 ⟨Nat.le_refl _, Nat.le_refl _⟩ (fun r1 _ H locs hw1 hP hD hS => ?_)
      have hP : va_P D vwCl (wM am d E2 O2 G2 (nI n) (nI m) (nI w) ++ wX ad d E O G C F V S T P (nI n) (nI m) (nI w)) H := hP
      have hD : va_D (fun q : Nat => s.heap.size ≤ q) (wM am d E2 O2 G2 (nI n) (nI m) (nI w) ++ wX ad d E O G C F V S T P (nI n) (nI m) (nI w)) := hD
      refine lv_aload_n hx hb dL_law_287 rfl (lv_at hl 2 rfl) ?_
      refine lv_aload_n hx hb dL_law_288 rfl (lv_at hl 0 rfl) ?_
      refine lv_iload_n hx hb dL_law_289 rfl (lv_at hl 3 rfl) ?_
      refine lv_iconst (v := nI 1) hx hb dL_law_290 (by decide) ?_
      refine lv_iadd hx hb dL_law_291 ?_
      refine w_top (y := nI (4 * k + 1 + 1)) (nI_add _ _) ?_
      refine w_sld hx hb hX hbl hbA hS (x := (4 * k + 1 + 1)) (by omega) (by omega) dL_law_292 ?_
      refine w_lm (As := [.int (xs (4 * k + 1 + 1))]) (rest := [.int r1]) ⟨hx, hb, hml, hown, hts⟩ (mX2_isJoin l D d am E2 O2 G2 n m w a b0 g hRM (xs (4 * k + 1 + 1))) (cwV 1 hts (lw_V q253 q254 q255 q23 q256) rfl rfl rfl (by decide +kernel) ⟨Nat.le_of_ble_eq_true rfl, Nat.le_of_ble_eq_true rfl⟩) hP hK hD hS hA rfl hl.1 rfl (Nat.le_of_ble_eq_true rfl) dL_law_293 ⟨Nat.le_refl _, Nat.le_refl _⟩ (fun r2 _ H locs hw2 hP hD hS => ?_)
      have hP : va_P D vwCl (wX ad d E O G C F V S T P (nI n) (nI m) (nI w) ++ wM am d E2 O2 G2 (nI n) (nI m) (nI w)) H := hP
      have hD : va_D (fun q : Nat => s.heap.size ≤ q) (wX ad d E O G C F V S T P (nI n) (nI m) (nI w) ++ wM am d E2 O2 G2 (nI n) (nI m) (nI w)) := hD
      have hfun := isj_fun hRX.1.1.2.2.1 hw1 hw2
      refine lv_icmp_eq (tgt := 458) hx hb dL_law_296 (by decide) (fun c_296 => ?_) (fun c_296 => ?_)
      · have hrep := (⟨a, b0, g, hRX, hRM⟩ : ∃ a b g, Rep n m w a b g E O G ∧ Rep n m w a b g E2 O2 G2)
        refine lv_iinc (v := (nI (4 * (k + 1) + 1))) (lv' := [(3, .int (nI (4 * (k + 1) + 1))), (0, .ref b), (1, .ref (ad 0)), (2, .ref (am 0))]) hx hb dL_law_458 hl (k := 3) rfl (by rw [show Int32.ofInt 4 = nI 4 by decide, nI_add]; exact congrArg nI (by omega)) (by decide) rfl (fun ls hl => ?_)
        refine lv_goto (tgt := 28) hx hb dL_law_461 (by decide) ?_
        have hl : lv_has ls 4 [(0, .ref b), (1, .ref (ad 0)), (2, .ref (am 0)), (3, .int (nI (4 * (k + 1) + 1)))] := by exact lv_sub hl [1, 2, 3, 0] rfl
        exact IH_k (E, O, G, C, F, V, S, T, P, E2, O2, G2, m, w) _ _ _ hlt_k hrep hP hD hS hl
      · exact absurd hfun c_296
    · refine lv_tableIn (off := 259) (tgt := 301) hx hb dL_law_42 (by decide) (by decide) (by decide) (by decide) ?_
      refine lv_aload_n hx hb dL_law_301 rfl (lv_at hl 1 rfl) ?_
      refine w_lx (As := []) (rest := []) ⟨hx, hb, hml, hown, hts⟩ (mX1_possible l D d ad E O G C F V S T P n m w a b0 g hRX) (cwV 0 hts (lw_V q110 q111 q112 q22 q113) rfl rfl rfl (by decide +kernel) ⟨Nat.le_of_ble_eq_true rfl, Nat.le_of_ble_eq_true rfl⟩) hP hK hD hS hA rfl hl.1 rfl (Nat.le_of_ble_eq_true rfl) dL_law_302 ⟨Nat.le_refl _, Nat.le_refl _⟩ (fun r1 u1 H locs hw1 hP hD hS => ?_)
      obtain ⟨P1, rfl⟩ : ∃ z, z = u1 := ⟨_, rfl⟩
      have hP : va_P D vwCl (wM am d E2 O2 G2 (nI n) (nI m) (nI w) ++ wX ad d E O G C F V S T P1 (nI n) (nI m) (nI w)) H := hP
      have hD : va_D (fun q : Nat => s.heap.size ≤ q) (wM am d E2 O2 G2 (nI n) (nI m) (nI w) ++ wX ad d E O G C F V S T P1 (nI n) (nI m) (nI w)) := hD
      refine lv_aload_n hx hb dL_law_305 rfl (lv_at hl 2 rfl) ?_
      refine w_lm (As := []) (rest := [.int r1]) ⟨hx, hb, hml, hown, hts⟩ (mX2_possible l D d am E2 O2 G2 n m w a b0 g hRM) (cwV 0 hts (lw_V q261 q262 q263 q23 q264) rfl rfl rfl (by decide +kernel) ⟨Nat.le_of_ble_eq_true rfl, Nat.le_of_ble_eq_true rfl⟩) hP hK hD hS hA rfl hl.1 rfl (Nat.le_of_ble_eq_true rfl) dL_law_306 ⟨Nat.le_refl _, Nat.le_refl _⟩ (fun r2 _ H locs hw2 hP hD hS => ?_)
      have hP : va_P D vwCl (wX ad d E O G C F V S T P1 (nI n) (nI m) (nI w) ++ wM am d E2 O2 G2 (nI n) (nI m) (nI w)) H := hP
      have hD : va_D (fun q : Nat => s.heap.size ≤ q) (wX ad d E O G C F V S T P1 (nI n) (nI m) (nI w) ++ wM am d E2 O2 G2 (nI n) (nI m) (nI w)) := hD
      have hfun := hw1.trans hw2.symm
      refine lv_icmp_eq (tgt := 458) hx hb dL_law_309 (by decide) (fun c_309 => ?_) (fun c_309 => ?_)
      · have hrep := (⟨a, b0, g, hRX, hRM⟩ : ∃ a b g, Rep n m w a b g E O G ∧ Rep n m w a b g E2 O2 G2)
        refine lv_iinc (v := (nI (4 * (k + 1) + 1))) (lv' := [(3, .int (nI (4 * (k + 1) + 1))), (0, .ref b), (1, .ref (ad 0)), (2, .ref (am 0))]) hx hb dL_law_458 hl (k := 3) rfl (by rw [show Int32.ofInt 4 = nI 4 by decide, nI_add]; exact congrArg nI (by omega)) (by decide) rfl (fun ls hl => ?_)
        refine lv_goto (tgt := 28) hx hb dL_law_461 (by decide) ?_
        have hl : lv_has ls 4 [(0, .ref b), (1, .ref (ad 0)), (2, .ref (am 0)), (3, .int (nI (4 * (k + 1) + 1)))] := by exact lv_sub hl [1, 2, 3, 0] rfl
        exact IH_k (E, O, G, C, F, V, S, T, P1, E2, O2, G2, m, w) _ _ _ hlt_k hrep hP hD hS hl
      · exact absurd hfun c_309
    · refine lv_tableIn (off := 272) (tgt := 314) hx hb dL_law_42 (by decide) (by decide) (by decide) (by decide) ?_
      refine lv_aload_n hx hb dL_law_314 rfl (lv_at hl 1 rfl) ?_
      refine w_lx (As := []) (rest := []) ⟨hx, hb, hml, hown, hts⟩ (mX1_joins l D d ad E O G C F V S T P n m w a b0 g hRX) (cwV 0 hts (lw_V q122 q123 q124 q22 q125) rfl rfl rfl (by decide +kernel) ⟨Nat.le_of_ble_eq_true rfl, Nat.le_of_ble_eq_true rfl⟩) hP hK hD hS hA rfl hl.1 rfl (Nat.le_of_ble_eq_true rfl) dL_law_315 ⟨Nat.le_refl _, Nat.le_refl _⟩ (fun r1 u1 H locs hw1 hP hD hS => ?_)
      obtain ⟨P1, rfl⟩ : ∃ z, z = u1 := ⟨_, rfl⟩
      have hP : va_P D vwCl (wM am d E2 O2 G2 (nI n) (nI m) (nI w) ++ wX ad d E O G C F V S T P1 (nI n) (nI m) (nI w)) H := hP
      have hD : va_D (fun q : Nat => s.heap.size ≤ q) (wM am d E2 O2 G2 (nI n) (nI m) (nI w) ++ wX ad d E O G C F V S T P1 (nI n) (nI m) (nI w)) := hD
      refine lv_aload_n hx hb dL_law_318 rfl (lv_at hl 2 rfl) ?_
      refine w_lm (As := []) (rest := [.int r1]) ⟨hx, hb, hml, hown, hts⟩ (mX2_joins l D d am E2 O2 G2 n m w a b0 g hRM) (cwV 0 hts (lw_V q273 q274 q275 q23 q276) rfl rfl rfl (by decide +kernel) ⟨Nat.le_of_ble_eq_true rfl, Nat.le_of_ble_eq_true rfl⟩) hP hK hD hS hA rfl hl.1 rfl (Nat.le_of_ble_eq_true rfl) dL_law_319 ⟨Nat.le_refl _, Nat.le_refl _⟩ (fun r2 _ H locs hw2 hP hD hS => ?_)
      have hP : va_P D vwCl (wX ad d E O G C F V S T P1 (nI n) (nI m) (nI w) ++ wM am d E2 O2 G2 (nI n) (nI m) (nI w)) H := hP
      have hD : va_D (fun q : Nat => s.heap.size ≤ q) (wX ad d E O G C F V S T P1 (nI n) (nI m) (nI w) ++ wM am d E2 O2 G2 (nI n) (nI m) (nI w)) := hD
      have hfun := hw1.trans hw2.symm
      refine lv_icmp_eq (tgt := 458) hx hb dL_law_322 (by decide) (fun c_322 => ?_) (fun c_322 => ?_)
      · have hrep := (⟨a, b0, g, hRX, hRM⟩ : ∃ a b g, Rep n m w a b g E O G ∧ Rep n m w a b g E2 O2 G2)
        refine lv_iinc (v := (nI (4 * (k + 1) + 1))) (lv' := [(3, .int (nI (4 * (k + 1) + 1))), (0, .ref b), (1, .ref (ad 0)), (2, .ref (am 0))]) hx hb dL_law_458 hl (k := 3) rfl (by rw [show Int32.ofInt 4 = nI 4 by decide, nI_add]; exact congrArg nI (by omega)) (by decide) rfl (fun ls hl => ?_)
        refine lv_goto (tgt := 28) hx hb dL_law_461 (by decide) ?_
        have hl : lv_has ls 4 [(0, .ref b), (1, .ref (ad 0)), (2, .ref (am 0)), (3, .int (nI (4 * (k + 1) + 1)))] := by exact lv_sub hl [1, 2, 3, 0] rfl
        exact IH_k (E, O, G, C, F, V, S, T, P1, E2, O2, G2, m, w) _ _ _ hlt_k hrep hP hD hS hl
      · exact absurd hfun c_322
    · refine lv_tableIn (off := 285) (tgt := 327) hx hb dL_law_42 (by decide) (by decide) (by decide) (by decide) ?_
      refine lv_aload_n hx hb dL_law_327 rfl (lv_at hl 1 rfl) ?_
      refine w_lx (As := []) (rest := []) ⟨hx, hb, hml, hown, hts⟩ (mX1_best l D d ad E O G C F V S T P n m w a b0 g hRX) (cwV 0 hts (lw_V q130 q131 q132 q22 q133) rfl rfl rfl (by decide +kernel) ⟨Nat.le_of_ble_eq_true rfl, Nat.le_of_ble_eq_true rfl⟩) hP hK hD hS hA rfl hl.1 rfl (Nat.le_of_ble_eq_true rfl) dL_law_328 ⟨Nat.le_refl _, Nat.le_refl _⟩ (fun r1 u1 H locs hw1 hP hD hS => ?_)
      obtain ⟨C1, F1, V1, S1, T1, P1⟩ := u1
      have hP : va_P D vwCl (wM am d E2 O2 G2 (nI n) (nI m) (nI w) ++ wX ad d E O G C1 F1 V1 S1 T1 P1 (nI n) (nI m) (nI w)) H := hP
      have hD : va_D (fun q : Nat => s.heap.size ≤ q) (wM am d E2 O2 G2 (nI n) (nI m) (nI w) ++ wX ad d E O G C1 F1 V1 S1 T1 P1 (nI n) (nI m) (nI w)) := hD
      refine lv_aload_n hx hb dL_law_331 rfl (lv_at hl 2 rfl) ?_
      refine w_lm (As := []) (rest := [.int r1]) ⟨hx, hb, hml, hown, hts⟩ (mX2_best l D d am E2 O2 G2 n m w a b0 g hRM) (cwV 0 hts (lw_V q277 q278 q279 q23 q280) rfl rfl rfl (by decide +kernel) ⟨Nat.le_of_ble_eq_true rfl, Nat.le_of_ble_eq_true rfl⟩) hP hK hD hS hA rfl hl.1 rfl (Nat.le_of_ble_eq_true rfl) dL_law_332 ⟨Nat.le_refl _, Nat.le_refl _⟩ (fun r2 _ H locs hw2 hP hD hS => ?_)
      have hP : va_P D vwCl (wX ad d E O G C1 F1 V1 S1 T1 P1 (nI n) (nI m) (nI w) ++ wM am d E2 O2 G2 (nI n) (nI m) (nI w)) H := hP
      have hD : va_D (fun q : Nat => s.heap.size ≤ q) (wX ad d E O G C1 F1 V1 S1 T1 P1 (nI n) (nI m) (nI w) ++ wM am d E2 O2 G2 (nI n) (nI m) (nI w)) := hD
      have hfun := hw1.trans hw2.symm
      refine lv_icmp_eq (tgt := 458) hx hb dL_law_335 (by decide) (fun c_335 => ?_) (fun c_335 => ?_)
      · have hrep := (⟨a, b0, g, hRX, hRM⟩ : ∃ a b g, Rep n m w a b g E O G ∧ Rep n m w a b g E2 O2 G2)
        refine lv_iinc (v := (nI (4 * (k + 1) + 1))) (lv' := [(3, .int (nI (4 * (k + 1) + 1))), (0, .ref b), (1, .ref (ad 0)), (2, .ref (am 0))]) hx hb dL_law_458 hl (k := 3) rfl (by rw [show Int32.ofInt 4 = nI 4 by decide, nI_add]; exact congrArg nI (by omega)) (by decide) rfl (fun ls hl => ?_)
        refine lv_goto (tgt := 28) hx hb dL_law_461 (by decide) ?_
        have hl : lv_has ls 4 [(0, .ref b), (1, .ref (ad 0)), (2, .ref (am 0)), (3, .int (nI (4 * (k + 1) + 1)))] := by exact lv_sub hl [1, 2, 3, 0] rfl
        exact IH_k (E, O, G, C1, F1, V1, S1, T1, P1, E2, O2, G2, m, w) _ _ _ hlt_k hrep hP hD hS hl
      · exact absurd hfun c_335
    · refine lv_tableIn (off := 298) (tgt := 340) hx hb dL_law_42 (by decide) (by decide) (by decide) (by decide) ?_
      refine lv_aload_n hx hb dL_law_340 rfl (lv_at hl 1 rfl) ?_
      refine w_lx (As := []) (rest := []) ⟨hx, hb, hml, hown, hts⟩ (mX1_bestSet l D d ad E O G C F V S T P n m w a b0 g hRX) (cwV 0 hts (lw_V q163 q164 q165 q22 q166) rfl rfl rfl (by decide +kernel) ⟨Nat.le_of_ble_eq_true rfl, Nat.le_of_ble_eq_true rfl⟩) hP hK hD hS hA rfl hl.1 rfl (Nat.le_of_ble_eq_true rfl) dL_law_341 ⟨Nat.le_refl _, Nat.le_refl _⟩ (fun r1 u1 H locs hw1 hP hD hS => ?_)
      obtain ⟨C1, F1, V1, S1, T1, P1⟩ := u1
      have hP : va_P D vwCl (wM am d E2 O2 G2 (nI n) (nI m) (nI w) ++ wX ad d E O G C1 F1 V1 S1 T1 P1 (nI n) (nI m) (nI w)) H := hP
      have hD : va_D (fun q : Nat => s.heap.size ≤ q) (wM am d E2 O2 G2 (nI n) (nI m) (nI w) ++ wX ad d E O G C1 F1 V1 S1 T1 P1 (nI n) (nI m) (nI w)) := hD
      refine lv_aload_n hx hb dL_law_344 rfl (lv_at hl 2 rfl) ?_
      refine w_lm (As := []) (rest := [.int r1]) ⟨hx, hb, hml, hown, hts⟩ (mX2_bestSet l D d am E2 O2 G2 n m w a b0 g hRM) (cwV 0 hts (lw_V q285 q286 q287 q23 q288) rfl rfl rfl (by decide +kernel) ⟨Nat.le_of_ble_eq_true rfl, Nat.le_of_ble_eq_true rfl⟩) hP hK hD hS hA rfl hl.1 rfl (Nat.le_of_ble_eq_true rfl) dL_law_345 ⟨Nat.le_refl _, Nat.le_refl _⟩ (fun r2 _ H locs hw2 hP hD hS => ?_)
      have hP : va_P D vwCl (wX ad d E O G C1 F1 V1 S1 T1 P1 (nI n) (nI m) (nI w) ++ wM am d E2 O2 G2 (nI n) (nI m) (nI w)) H := hP
      have hD : va_D (fun q : Nat => s.heap.size ≤ q) (wX ad d E O G C1 F1 V1 S1 T1 P1 (nI n) (nI m) (nI w) ++ wM am d E2 O2 G2 (nI n) (nI m) (nI w)) := hD
      have hfun := hw1.trans hw2.symm
      refine lv_icmp_eq (tgt := 458) hx hb dL_law_348 (by decide) (fun c_348 => ?_) (fun c_348 => ?_)
      · have hrep := (⟨a, b0, g, hRX, hRM⟩ : ∃ a b g, Rep n m w a b g E O G ∧ Rep n m w a b g E2 O2 G2)
        refine lv_iinc (v := (nI (4 * (k + 1) + 1))) (lv' := [(3, .int (nI (4 * (k + 1) + 1))), (0, .ref b), (1, .ref (ad 0)), (2, .ref (am 0))]) hx hb dL_law_458 hl (k := 3) rfl (by rw [show Int32.ofInt 4 = nI 4 by decide, nI_add]; exact congrArg nI (by omega)) (by decide) rfl (fun ls hl => ?_)
        refine lv_goto (tgt := 28) hx hb dL_law_461 (by decide) ?_
        have hl : lv_has ls 4 [(0, .ref b), (1, .ref (ad 0)), (2, .ref (am 0)), (3, .int (nI (4 * (k + 1) + 1)))] := by exact lv_sub hl [1, 2, 3, 0] rfl
        exact IH_k (E, O, G, C1, F1, V1, S1, T1, P1, E2, O2, G2, m, w) _ _ _ hlt_k hrep hP hD hS hl
      · exact absurd hfun c_348
    · refine lv_tableIn (off := 311) (tgt := 353) hx hb dL_law_42 (by decide) (by decide) (by decide) (by decide) ?_
      refine lv_aload_n hx hb dL_law_353 rfl (lv_at hl 1 rfl) ?_
      refine lv_aload_n hx hb dL_law_354 rfl (lv_at hl 0 rfl) ?_
      refine lv_iload_n hx hb dL_law_355 rfl (lv_at hl 3 rfl) ?_
      refine lv_iconst (v := nI 1) hx hb dL_law_356 (by decide) ?_
      refine lv_iadd hx hb dL_law_357 ?_
      refine w_top (y := nI (4 * k + 1 + 1)) (nI_add _ _) ?_
      refine w_sld hx hb hX hbl hbA hS (x := (4 * k + 1 + 1)) (by omega) (by omega) dL_law_358 ?_
      refine w_lx (As := [.int (xs (4 * k + 1 + 1))]) (rest := []) ⟨hx, hb, hml, hown, hts⟩ (mX1_bestWith l D d ad E O G C F V S T P n m w a b0 g hRX (xs (4 * k + 1 + 1))) (cwV 1 hts (lw_V q167 q168 q169 q22 q170) rfl rfl rfl (by decide +kernel) ⟨Nat.le_of_ble_eq_true rfl, Nat.le_of_ble_eq_true rfl⟩) hP hK hD hS hA rfl hl.1 rfl (Nat.le_of_ble_eq_true rfl) dL_law_359 ⟨Nat.le_refl _, Nat.le_refl _⟩ (fun r1 u1 H locs hw1 hP hD hS => ?_)
      obtain ⟨C1, F1, V1, S1, T1, P1⟩ := u1
      have hP : va_P D vwCl (wM am d E2 O2 G2 (nI n) (nI m) (nI w) ++ wX ad d E O G C1 F1 V1 S1 T1 P1 (nI n) (nI m) (nI w)) H := hP
      have hD : va_D (fun q : Nat => s.heap.size ≤ q) (wM am d E2 O2 G2 (nI n) (nI m) (nI w) ++ wX ad d E O G C1 F1 V1 S1 T1 P1 (nI n) (nI m) (nI w)) := hD
      refine lv_aload_n hx hb dL_law_362 rfl (lv_at hl 2 rfl) ?_
      refine lv_aload_n hx hb dL_law_363 rfl (lv_at hl 0 rfl) ?_
      refine lv_iload_n hx hb dL_law_364 rfl (lv_at hl 3 rfl) ?_
      refine lv_iconst (v := nI 1) hx hb dL_law_365 (by decide) ?_
      refine lv_iadd hx hb dL_law_366 ?_
      refine w_top (y := nI (4 * k + 1 + 1)) (nI_add _ _) ?_
      refine w_sld hx hb hX hbl hbA hS (x := (4 * k + 1 + 1)) (by omega) (by omega) dL_law_367 ?_
      refine w_lm (As := [.int (xs (4 * k + 1 + 1))]) (rest := [.int r1]) ⟨hx, hb, hml, hown, hts⟩ (mX2_bestWith l D d am E2 O2 G2 n m w a b0 g hRM (xs (4 * k + 1 + 1))) (cwV 1 hts (lw_V q289 q290 q291 q23 q292) rfl rfl rfl (by decide +kernel) ⟨Nat.le_of_ble_eq_true rfl, Nat.le_of_ble_eq_true rfl⟩) hP hK hD hS hA rfl hl.1 rfl (Nat.le_of_ble_eq_true rfl) dL_law_368 ⟨Nat.le_refl _, Nat.le_refl _⟩ (fun r2 _ H locs hw2 hP hD hS => ?_)
      have hP : va_P D vwCl (wX ad d E O G C1 F1 V1 S1 T1 P1 (nI n) (nI m) (nI w) ++ wM am d E2 O2 G2 (nI n) (nI m) (nI w)) H := hP
      have hD : va_D (fun q : Nat => s.heap.size ≤ q) (wX ad d E O G C1 F1 V1 S1 T1 P1 (nI n) (nI m) (nI w) ++ wM am d E2 O2 G2 (nI n) (nI m) (nI w)) := hD
      have hfun := wit_fun hRX.1.1.2.2.1 hw1 hw2
      refine lv_icmp_eq (tgt := 458) hx hb dL_law_371 (by decide) (fun c_371 => ?_) (fun c_371 => ?_)
      · have hrep := (⟨a, b0, g, hRX, hRM⟩ : ∃ a b g, Rep n m w a b g E O G ∧ Rep n m w a b g E2 O2 G2)
        refine lv_iinc (v := (nI (4 * (k + 1) + 1))) (lv' := [(3, .int (nI (4 * (k + 1) + 1))), (0, .ref b), (1, .ref (ad 0)), (2, .ref (am 0))]) hx hb dL_law_458 hl (k := 3) rfl (by rw [show Int32.ofInt 4 = nI 4 by decide, nI_add]; exact congrArg nI (by omega)) (by decide) rfl (fun ls hl => ?_)
        refine lv_goto (tgt := 28) hx hb dL_law_461 (by decide) ?_
        have hl : lv_has ls 4 [(0, .ref b), (1, .ref (ad 0)), (2, .ref (am 0)), (3, .int (nI (4 * (k + 1) + 1)))] := by exact lv_sub hl [1, 2, 3, 0] rfl
        exact IH_k (E, O, G, C1, F1, V1, S1, T1, P1, E2, O2, G2, m, w) _ _ _ hlt_k hrep hP hD hS hl
      · exact absurd hfun c_371
    · refine lv_tableIn (off := 334) (tgt := 376) hx hb dL_law_42 (by decide) (by decide) (by decide) (by decide) ?_
      refine lv_aload_n hx hb dL_law_376 rfl (lv_at hl 1 rfl) ?_
      refine lv_aload_n hx hb dL_law_377 rfl (lv_at hl 0 rfl) ?_
      refine lv_iload_n hx hb dL_law_378 rfl (lv_at hl 3 rfl) ?_
      refine lv_iconst (v := nI 1) hx hb dL_law_379 (by decide) ?_
      refine lv_iadd hx hb dL_law_380 ?_
      refine w_top (y := nI (4 * k + 1 + 1)) (nI_add _ _) ?_
      refine w_sld hx hb hX hbl hbA hS (x := (4 * k + 1 + 1)) (by omega) (by omega) dL_law_381 ?_
      refine w_lx (As := [.int (xs (4 * k + 1 + 1))]) (rest := []) ⟨hx, hb, hml, hown, hts⟩ (mX1_bestWithout l D d ad E O G C F V S T P n m w a b0 g hRX (xs (4 * k + 1 + 1))) (cwV 1 hts (lw_V q172 q173 q174 q22 q175) rfl rfl rfl (by decide +kernel) ⟨Nat.le_of_ble_eq_true rfl, Nat.le_of_ble_eq_true rfl⟩) hP hK hD hS hA rfl hl.1 rfl (Nat.le_of_ble_eq_true rfl) dL_law_382 ⟨Nat.le_refl _, Nat.le_refl _⟩ (fun r1 u1 H locs hw1 hP hD hS => ?_)
      obtain ⟨C1, F1, V1, S1, T1, P1⟩ := u1
      have hP : va_P D vwCl (wM am d E2 O2 G2 (nI n) (nI m) (nI w) ++ wX ad d E O G C1 F1 V1 S1 T1 P1 (nI n) (nI m) (nI w)) H := hP
      have hD : va_D (fun q : Nat => s.heap.size ≤ q) (wM am d E2 O2 G2 (nI n) (nI m) (nI w) ++ wX ad d E O G C1 F1 V1 S1 T1 P1 (nI n) (nI m) (nI w)) := hD
      refine lv_aload_n hx hb dL_law_385 rfl (lv_at hl 2 rfl) ?_
      refine lv_aload_n hx hb dL_law_386 rfl (lv_at hl 0 rfl) ?_
      refine lv_iload_n hx hb dL_law_387 rfl (lv_at hl 3 rfl) ?_
      refine lv_iconst (v := nI 1) hx hb dL_law_388 (by decide) ?_
      refine lv_iadd hx hb dL_law_389 ?_
      refine w_top (y := nI (4 * k + 1 + 1)) (nI_add _ _) ?_
      refine w_sld hx hb hX hbl hbA hS (x := (4 * k + 1 + 1)) (by omega) (by omega) dL_law_390 ?_
      refine w_lm (As := [.int (xs (4 * k + 1 + 1))]) (rest := [.int r1]) ⟨hx, hb, hml, hown, hts⟩ (mX2_bestWithout l D d am E2 O2 G2 n m w a b0 g hRM (xs (4 * k + 1 + 1))) (cwV 1 hts (lw_V q293 q294 q295 q23 q296) rfl rfl rfl (by decide +kernel) ⟨Nat.le_of_ble_eq_true rfl, Nat.le_of_ble_eq_true rfl⟩) hP hK hD hS hA rfl hl.1 rfl (Nat.le_of_ble_eq_true rfl) dL_law_391 ⟨Nat.le_refl _, Nat.le_refl _⟩ (fun r2 _ H locs hw2 hP hD hS => ?_)
      have hP : va_P D vwCl (wX ad d E O G C1 F1 V1 S1 T1 P1 (nI n) (nI m) (nI w) ++ wM am d E2 O2 G2 (nI n) (nI m) (nI w)) H := hP
      have hD : va_D (fun q : Nat => s.heap.size ≤ q) (wX ad d E O G C1 F1 V1 S1 T1 P1 (nI n) (nI m) (nI w) ++ wM am d E2 O2 G2 (nI n) (nI m) (nI w)) := hD
      have hfun := wout_fun hRX.1.1.2.2.1 hw1 hw2
      refine lv_icmp_eq (tgt := 458) hx hb dL_law_394 (by decide) (fun c_394 => ?_) (fun c_394 => ?_)
      · have hrep := (⟨a, b0, g, hRX, hRM⟩ : ∃ a b g, Rep n m w a b g E O G ∧ Rep n m w a b g E2 O2 G2)
        refine lv_iinc (v := (nI (4 * (k + 1) + 1))) (lv' := [(3, .int (nI (4 * (k + 1) + 1))), (0, .ref b), (1, .ref (ad 0)), (2, .ref (am 0))]) hx hb dL_law_458 hl (k := 3) rfl (by rw [show Int32.ofInt 4 = nI 4 by decide, nI_add]; exact congrArg nI (by omega)) (by decide) rfl (fun ls hl => ?_)
        refine lv_goto (tgt := 28) hx hb dL_law_461 (by decide) ?_
        have hl : lv_has ls 4 [(0, .ref b), (1, .ref (ad 0)), (2, .ref (am 0)), (3, .int (nI (4 * (k + 1) + 1)))] := by exact lv_sub hl [1, 2, 3, 0] rfl
        exact IH_k (E, O, G, C1, F1, V1, S1, T1, P1, E2, O2, G2, m, w) _ _ _ hlt_k hrep hP hD hS hl
      · exact absurd hfun c_394
    · refine lv_tableIn (off := 357) (tgt := 399) hx hb dL_law_42 (by decide) (by decide) (by decide) (by decide) ?_
      refine lv_aload_n hx hb dL_law_399 rfl (lv_at hl 1 rfl) ?_
      refine lv_aload_n hx hb dL_law_400 rfl (lv_at hl 0 rfl) ?_
      refine lv_iload_n hx hb dL_law_401 rfl (lv_at hl 3 rfl) ?_
      refine lv_iconst (v := nI 1) hx hb dL_law_402 (by decide) ?_
      refine lv_iadd hx hb dL_law_403 ?_
      refine w_top (y := nI (4 * k + 1 + 1)) (nI_add _ _) ?_
      refine w_sld hx hb hX hbl hbA hS (x := (4 * k + 1 + 1)) (by omega) (by omega) dL_law_404 ?_
      refine lv_aload_n hx hb dL_law_405 rfl (lv_at hl 0 rfl) ?_
      refine lv_iload_n hx hb dL_law_406 rfl (lv_at hl 3 rfl) ?_
      refine lv_iconst (v := nI 2) hx hb dL_law_407 (by decide) ?_
      refine lv_iadd hx hb dL_law_408 ?_
      refine w_top (y := nI (4 * k + 1 + 2)) (nI_add _ _) ?_
      refine w_sld hx hb hX hbl hbA hS (x := (4 * k + 1 + 2)) (by omega) (by omega) dL_law_409 ?_
      refine w_lx (As := [.int (xs (4 * k + 1 + 1)), .int (xs (4 * k + 1 + 2))]) (rest := []) ⟨hx, hb, hml, hown, hts⟩ (mX1_between l D d ad E O G C F V S T P n m w a b0 g hRX (xs (4 * k + 1 + 1)) (xs (4 * k + 1 + 2))) (cwV 2 hts (lw_V q176 q177 q178 q22 q179) rfl rfl rfl (by decide +kernel) ⟨Nat.le_of_ble_eq_true rfl, Nat.le_of_ble_eq_true rfl⟩) hP hK hD hS hA rfl hl.1 rfl (Nat.le_of_ble_eq_true rfl) dL_law_410 ⟨Nat.le_refl _, Nat.le_refl _⟩ (fun r1 u1 H locs hw1 hP hD hS => ?_)
      obtain ⟨C1, F1, V1, S1, T1, P1⟩ := u1
      have hP : va_P D vwCl (wM am d E2 O2 G2 (nI n) (nI m) (nI w) ++ wX ad d E O G C1 F1 V1 S1 T1 P1 (nI n) (nI m) (nI w)) H := hP
      have hD : va_D (fun q : Nat => s.heap.size ≤ q) (wM am d E2 O2 G2 (nI n) (nI m) (nI w) ++ wX ad d E O G C1 F1 V1 S1 T1 P1 (nI n) (nI m) (nI w)) := hD
      refine lv_aload_n hx hb dL_law_413 rfl (lv_at hl 2 rfl) ?_
      refine lv_aload_n hx hb dL_law_414 rfl (lv_at hl 0 rfl) ?_
      refine lv_iload_n hx hb dL_law_415 rfl (lv_at hl 3 rfl) ?_
      refine lv_iconst (v := nI 1) hx hb dL_law_416 (by decide) ?_
      refine lv_iadd hx hb dL_law_417 ?_
      refine w_top (y := nI (4 * k + 1 + 1)) (nI_add _ _) ?_
      refine w_sld hx hb hX hbl hbA hS (x := (4 * k + 1 + 1)) (by omega) (by omega) dL_law_418 ?_
      refine lv_aload_n hx hb dL_law_419 rfl (lv_at hl 0 rfl) ?_
      refine lv_iload_n hx hb dL_law_420 rfl (lv_at hl 3 rfl) ?_
      refine lv_iconst (v := nI 2) hx hb dL_law_421 (by decide) ?_
      refine lv_iadd hx hb dL_law_422 ?_
      refine w_top (y := nI (4 * k + 1 + 2)) (nI_add _ _) ?_
      refine w_sld hx hb hX hbl hbA hS (x := (4 * k + 1 + 2)) (by omega) (by omega) dL_law_423 ?_
      refine w_lm (As := [.int (xs (4 * k + 1 + 1)), .int (xs (4 * k + 1 + 2))]) (rest := [.int r1]) ⟨hx, hb, hml, hown, hts⟩ (mX2_between l D d am E2 O2 G2 n m w a b0 g hRM (xs (4 * k + 1 + 1)) (xs (4 * k + 1 + 2))) (cwV 2 hts (lw_V q297 q298 q299 q23 q300) rfl rfl rfl (by decide +kernel) ⟨Nat.le_of_ble_eq_true rfl, Nat.le_of_ble_eq_true rfl⟩) hP hK hD hS hA rfl hl.1 rfl (Nat.le_of_ble_eq_true rfl) dL_law_424 ⟨Nat.le_refl _, Nat.le_refl _⟩ (fun r2 _ H locs hw2 hP hD hS => ?_)
      have hP : va_P D vwCl (wX ad d E O G C1 F1 V1 S1 T1 P1 (nI n) (nI m) (nI w) ++ wM am d E2 O2 G2 (nI n) (nI m) (nI w)) H := hP
      have hD : va_D (fun q : Nat => s.heap.size ≤ q) (wX ad d E O G C1 F1 V1 S1 T1 P1 (nI n) (nI m) (nI w) ++ wM am d E2 O2 G2 (nI n) (nI m) (nI w)) := hD
      have hfun := bet_fun hRX.1.1.2.1 hw1 hw2
      refine lv_icmp_eq (tgt := 458) hx hb dL_law_427 (by decide) (fun c_427 => ?_) (fun c_427 => ?_)
      · have hrep := (⟨a, b0, g, hRX, hRM⟩ : ∃ a b g, Rep n m w a b g E O G ∧ Rep n m w a b g E2 O2 G2)
        refine lv_iinc (v := (nI (4 * (k + 1) + 1))) (lv' := [(3, .int (nI (4 * (k + 1) + 1))), (0, .ref b), (1, .ref (ad 0)), (2, .ref (am 0))]) hx hb dL_law_458 hl (k := 3) rfl (by rw [show Int32.ofInt 4 = nI 4 by decide, nI_add]; exact congrArg nI (by omega)) (by decide) rfl (fun ls hl => ?_)
        refine lv_goto (tgt := 28) hx hb dL_law_461 (by decide) ?_
        have hl : lv_has ls 4 [(0, .ref b), (1, .ref (ad 0)), (2, .ref (am 0)), (3, .int (nI (4 * (k + 1) + 1)))] := by exact lv_sub hl [1, 2, 3, 0] rfl
        exact IH_k (E, O, G, C1, F1, V1, S1, T1, P1, E2, O2, G2, m, w) _ _ _ hlt_k hrep hP hD hS hl
      · exact absurd hfun c_427
    · refine lv_tableIn (off := 390) (tgt := 432) hx hb dL_law_42 (by decide) (by decide) (by decide) (by decide) ?_
      refine lv_aload_n hx hb dL_law_432 rfl (lv_at hl 1 rfl) ?_
      refine w_lx (As := []) (rest := []) ⟨hx, hb, hml, hown, hts⟩ (mX1_postman l D d ad E O G C F V S T P n m w a b0 g hRX) (cwV 0 hts (lw_V q180 q181 q182 q22 q183) rfl rfl rfl (by decide +kernel) ⟨Nat.le_of_ble_eq_true rfl, Nat.le_of_ble_eq_true rfl⟩) hP hK hD hS hA rfl hl.1 rfl (Nat.le_of_ble_eq_true rfl) dL_law_433 ⟨Nat.le_refl _, Nat.le_refl _⟩ (fun r1 u1 H locs hw1 hP hD hS => ?_)
      obtain ⟨C1, F1, V1, S1, T1, P1⟩ := u1
      have hP : va_P D vwCl (wM am d E2 O2 G2 (nI n) (nI m) (nI w) ++ wX ad d E O G C1 F1 V1 S1 T1 P1 (nI n) (nI m) (nI w)) H := hP
      have hD : va_D (fun q : Nat => s.heap.size ≤ q) (wM am d E2 O2 G2 (nI n) (nI m) (nI w) ++ wX ad d E O G C1 F1 V1 S1 T1 P1 (nI n) (nI m) (nI w)) := hD
      refine lv_aload_n hx hb dL_law_436 rfl (lv_at hl 2 rfl) ?_
      refine w_lm (As := []) (rest := [.int r1]) ⟨hx, hb, hml, hown, hts⟩ (mX2_postman l D d am E2 O2 G2 n m w a b0 g hRM) (cwV 0 hts (lw_V q301 q302 q303 q23 q304) rfl rfl rfl (by decide +kernel) ⟨Nat.le_of_ble_eq_true rfl, Nat.le_of_ble_eq_true rfl⟩) hP hK hD hS hA rfl hl.1 rfl (Nat.le_of_ble_eq_true rfl) dL_law_437 ⟨Nat.le_refl _, Nat.le_refl _⟩ (fun r2 _ H locs hw2 hP hD hS => ?_)
      have hP : va_P D vwCl (wX ad d E O G C1 F1 V1 S1 T1 P1 (nI n) (nI m) (nI w) ++ wM am d E2 O2 G2 (nI n) (nI m) (nI w)) H := hP
      have hD : va_D (fun q : Nat => s.heap.size ≤ q) (wX ad d E O G C1 F1 V1 S1 T1 P1 (nI n) (nI m) (nI w) ++ wM am d E2 O2 G2 (nI n) (nI m) (nI w)) := hD
      have hfun := posm_fun hw1 hw2
      refine lv_icmp_eq (tgt := 458) hx hb dL_law_440 (by decide) (fun c_440 => ?_) (fun c_440 => ?_)
      · have hrep := (⟨a, b0, g, hRX, hRM⟩ : ∃ a b g, Rep n m w a b g E O G ∧ Rep n m w a b g E2 O2 G2)
        refine lv_iinc (v := (nI (4 * (k + 1) + 1))) (lv' := [(3, .int (nI (4 * (k + 1) + 1))), (0, .ref b), (1, .ref (ad 0)), (2, .ref (am 0))]) hx hb dL_law_458 hl (k := 3) rfl (by rw [show Int32.ofInt 4 = nI 4 by decide, nI_add]; exact congrArg nI (by omega)) (by decide) rfl (fun ls hl => ?_)
        refine lv_goto (tgt := 28) hx hb dL_law_461 (by decide) ?_
        have hl : lv_has ls 4 [(0, .ref b), (1, .ref (ad 0)), (2, .ref (am 0)), (3, .int (nI (4 * (k + 1) + 1)))] := by exact lv_sub hl [1, 2, 3, 0] rfl
        exact IH_k (E, O, G, C1, F1, V1, S1, T1, P1, E2, O2, G2, m, w) _ _ _ hlt_k hrep hP hD hS hl
      · exact absurd hfun c_440
    · refine lv_tableIn (off := 403) (tgt := 445) hx hb dL_law_42 (by decide) (by decide) (by decide) (by decide) ?_
      refine lv_aload_n hx hb dL_law_445 rfl (lv_at hl 1 rfl) ?_
      refine w_lx (As := []) (rest := []) ⟨hx, hb, hml, hown, hts⟩ (mX1_oddPlaces l D d ad E O G C F V S T P n m w a b0 g hRX) (cwV 0 hts (lw_V q188 q185 q186 q22 q187) rfl rfl rfl (by decide +kernel) ⟨Nat.le_of_ble_eq_true rfl, Nat.le_of_ble_eq_true rfl⟩) hP hK hD hS hA rfl hl.1 rfl (Nat.le_of_ble_eq_true rfl) dL_law_446 ⟨Nat.le_refl _, Nat.le_refl _⟩ (fun r1 _ H locs hw1 hP hD hS => ?_)
      have hP : va_P D vwCl (wM am d E2 O2 G2 (nI n) (nI m) (nI w) ++ wX ad d E O G C F V S T P (nI n) (nI m) (nI w)) H := hP
      have hD : va_D (fun q : Nat => s.heap.size ≤ q) (wM am d E2 O2 G2 (nI n) (nI m) (nI w) ++ wX ad d E O G C F V S T P (nI n) (nI m) (nI w)) := hD
      refine lv_aload_n hx hb dL_law_449 rfl (lv_at hl 2 rfl) ?_
      refine w_lm (As := []) (rest := [.int r1]) ⟨hx, hb, hml, hown, hts⟩ (mX2_oddPlaces l D d am E2 O2 G2 n m w a b0 g hRM) (cwV 0 hts (lw_V q309 q310 q311 q23 q312) rfl rfl rfl (by decide +kernel) ⟨Nat.le_of_ble_eq_true rfl, Nat.le_of_ble_eq_true rfl⟩) hP hK hD hS hA rfl hl.1 rfl (Nat.le_of_ble_eq_true rfl) dL_law_450 ⟨Nat.le_refl _, Nat.le_refl _⟩ (fun r2 _ H locs hw2 hP hD hS => ?_)
      have hP : va_P D vwCl (wX ad d E O G C F V S T P (nI n) (nI m) (nI w) ++ wM am d E2 O2 G2 (nI n) (nI m) (nI w)) H := hP
      have hD : va_D (fun q : Nat => s.heap.size ≤ q) (wX ad d E O G C F V S T P (nI n) (nI m) (nI w) ++ wM am d E2 O2 G2 (nI n) (nI m) (nI w)) := hD
      have hfun := hw1.trans hw2.symm
      refine lv_icmp_eq (tgt := 458) hx hb dL_law_453 (by decide) (fun c_453 => ?_) (fun c_453 => ?_)
      · have hrep := (⟨a, b0, g, hRX, hRM⟩ : ∃ a b g, Rep n m w a b g E O G ∧ Rep n m w a b g E2 O2 G2)
        refine lv_iinc (v := (nI (4 * (k + 1) + 1))) (lv' := [(3, .int (nI (4 * (k + 1) + 1))), (0, .ref b), (1, .ref (ad 0)), (2, .ref (am 0))]) hx hb dL_law_458 hl (k := 3) rfl (by rw [show Int32.ofInt 4 = nI 4 by decide, nI_add]; exact congrArg nI (by omega)) (by decide) rfl (fun ls hl => ?_)
        refine lv_goto (tgt := 28) hx hb dL_law_461 (by decide) ?_
        have hl : lv_has ls 4 [(0, .ref b), (1, .ref (ad 0)), (2, .ref (am 0)), (3, .int (nI (4 * (k + 1) + 1)))] := by exact lv_sub hl [1, 2, 3, 0] rfl
        exact IH_k (E, O, G, C, F, V, S, T, P, E2, O2, G2, m, w) _ _ _ hlt_k hrep hP hD hS hl
      · exact absurd hfun c_453
end
section
theorem rep_0 {n : Nat} (h2 : 2 ≤ n) (h7 : n ≤ 7) : Rep n 0 0 (fun _ => 0) (fun _ => 0) (fun _ => 0) (fun _ => 0) (fun _ => 0) (fun _ => 0) :=
  ⟨⟨⟨h2, h7, by decide, Nat.two_pow_pos n⟩, fun e he => absurd he (by omega)⟩, fun e he => absurd he (by omega)⟩
set_option maxHeartbeats 4000000 in
set_option maxRecDepth 100000 in
/-- YOUR PART: from the entry, for every script of at most 257 ints, the law comes to its end with true -/
theorem whole_start {p : Program} {e : Env} {s : State} {m : MethodId} {below : List Frame} {meth : Method} {c : Code} (l : Launch) {b L : Nat} {xs : Nat → Int32} (hL : L ≤ 257) (C0 : lw_At p s m meth c b L xs) : W p l e room_1 s m #[Value.ref b] below meth c s.heap [] 0 0 (lw_Z below #[Value.ref b] s) (entryFrame m ([Value.ref b] : List Value).toArray 4) := by
  obtain ⟨hx, hb, hr, hml, hown, hts0, hX, hbl, hlocks, hgv⟩ := id C0
  have hts : ∀ w ∈ lw_all, w.before #[Value.ref b] s = true := fun w h => hts0 w (lw_all_tbl h)
  have hown : s.vm.findClass RX0 = some m.cls := hown
  have hA : ∀ q : Nat, s.heap.size ≤ q → (fun q : Nat => s.heap.size ≤ q) q := fun _ h => h
  have hbA : ¬ (fun q : Nat => s.heap.size ≤ q) b := Nat.not_le.mpr hbl
  obtain ⟨c0, iS0, hKn0⟩ := u_known (C := RX1) (T := TX1) (N := 12) (n := 12) hts0 (fun w h => lw_all_tbl (in_X1 w h)) (hts _ q25)
  obtain ⟨c1, iS1, hKn1⟩ := u_known (C := RX2) (T := TX2) (N := 6) (n := 6) hts0 (fun w h => lw_all_tbl (in_X2 w h)) (hts _ q193)
  obtain ⟨dC, dI, hKc⟩ : ∃ (dC : Nat → ClassId) (dI : Nat → Nat → Nat), ∀ (k : Nat) (q : vw_C), vwCl[k]? = some q → u_Kn s q.1 q.2.1 q.2.2 (dC k) (dI k) := by
    refine ⟨fun k => if k = 0 then c0 else c1, fun k => if k = 0 then iS0 else iS1, ?_⟩
    intro k q hq
    match k, hq with
    | 0, hq => cases hq; exact hKn0
    | 1, hq => cases hq; exact hKn1
    | k + 2, hq => simp [vwCl] at hq
  obtain ⟨D, hDe⟩ : ∃ D : va_G, D = (dC, dI) := ⟨_, rfl⟩
  obtain ⟨d, kA, comp, hd1, hd2, hd3⟩ := Cond.arrayClass_spec (hts _ q69)
  have hK : va_K D vwCl [(d, .int)] s := by
    rw [hDe]
    refine ⟨hKc, fun k q hk => ?_⟩
    have hz : k < 1 := (List.getElem?_eq_some_iff.mp hk).1
    rw [show k = 0 by omega] at hk
    cases hk
    exact ⟨fun n z => ⟨fun k h => (by cases h), kA, hd2, comp, hd3⟩, hd1⟩
  have hP : va_P D vwCl [] s.heap := fun k q h => by simp at h
  have hD : va_D (fun q : Nat => s.heap.size ≤ q) [] := ⟨fun i j p q h => by simp at h, fun k q h => by simp at h⟩
  have hl := lv_entry ([.ref b]) (n := 4) (Nat.le_of_ble_eq_true rfl)
  rw [lg_entry_eq]
  generalize (lg_sl ([.ref b]) ++ List.replicate (4 - (lg_sl ([.ref b])).length) Slot.unset).toArray = ls at hl ⊢
  have hl : lv_has ls 4 [(0, .ref b)] := hl
  refine w_start fun H locs hH hL0 => ?_
  rw [← hH] at hP
  have hS : va_S (fun q : Nat => s.heap.size ≤ q) s.heap H locs := by rw [hL0, hH]; exact va_S.rf
  refine va_new (D := D) (ci := 0) (fs := [.null, .null, .null, .null, .null, .null, .null, .null, .null, .int 0, .int 0, .int 0]) (C := RX1) (T := TX1) (N := 12) hx hb hts in_X1 tyX1 tyX1_ok hown (hts _ q24) (hts _ q25) (hts _ q22) hK hP hD hS hA rfl (fun j hj => by rcases (show j = 0 ∨ j = 1 ∨ j = 2 ∨ j = 3 ∨ j = 4 ∨ j = 5 ∨ j = 6 ∨ j = 7 ∨ j = 8 ∨ j = 9 ∨ j = 10 ∨ j = 11 by omega) with rfl | rfl | rfl | rfl | rfl | rfl | rfl | rfl | rfl | rfl | rfl | rfl <;> rfl) (by decide) (by decide) dL_law_0 (fun qx H hP hD hS => ?_)
  have hP : va_P D vwCl [(qx, .inr (0, [.null, .null, .null, .null, .null, .null, .null, .null, .null, .int 0, .int 0, .int 0]))] H := hP
  have hD : va_D (fun q : Nat => s.heap.size ≤ q) [(qx, .inr (0, [.null, .null, .null, .null, .null, .null, .null, .null, .null, .int 0, .int 0, .int 0]))] := hD
  refine W.widen (k := 1) (n := 12) (by decide) (by decide) ?_
  refine lv_dup hx hb dL_law_3 rfl ?_
  refine lv_aload_n hx hb dL_law_4 rfl (lv_at hl 0 rfl) ?_
  refine lv_iconst (v := 0) hx hb dL_law_5 (by decide) ?_
  refine va_calli (va_runS (As := [.ref b, .int 0]) (rest := [.ref qx, .ref qx]) ⟨hx, hb, hml, hown, hts⟩ (mX0_cell l b L xs hL) (va_cwS 2 hts (lw_S q189 q190 q21 q191) rfl rfl rfl (by decide +kernel) ⟨Nat.le_of_ble_eq_true rfl, Nat.le_of_ble_eq_true rfl⟩) ⟨fun a U g mk q => by obtain ⟨q0, q1, q2⟩ := q; exact ⟨q0, va_X.moved (u := U) (U := U.calling g mk a) (Vm.Alike.refl U.vm) q1, q2⟩, fun U hU hW => ⟨rfl, by rw [hU]; exact (hX.kept (hS.2.1 b hbl hbA)).moved hW.alike, by rw [hU]; exact Nat.lt_of_lt_of_le hbl hS.1⟩⟩ rfl rfl hl.1 rfl (lv_room (Nat.le_of_ble_eq_true rfl)) dL_law_6 ⟨by decide, by decide⟩) hS (fun q _ h => absurd h id) (fun q h => absurd h id) (fun r u t H1 locs ht hvm hw1 hB hz1 hk1 hS => ?_)
  have hw1 : r = ceN L xs := hw1
  subst hw1
  have hP : va_P D vwCl [(qx, .inr (0, [.null, .null, .null, .null, .null, .null, .null, .null, .null, .int 0, .int 0, .int 0]))] H1 := hP.kept (fun k x hx => hk1 x.1 ((hP k x hx).lt) id)
  generalize H1 = H at hP hS ⊢
  refine W.widen (k := 1) (n := 12) (by decide) (by decide) ?_
  have hPc := hP.sub (ws' := [(qx, .inr (0, [.null, .null, .null, .null, .null, .null, .null, .null, .null, .int 0, .int 0, .int 0]))]) [0] rfl
  have hDc := hD.sub (ws' := [(qx, .inr (0, [.null, .null, .null, .null, .null, .null, .null, .null, .null, .int 0, .int 0, .int 0]))]) [0] (by decide) rfl
  have hFc := va_free (wc := [(qx, .inr (0, [.null, .null, .null, .null, .null, .null, .null, .null, .null, .int 0, .int 0, .int 0]))]) hD hS hA [0] rfl
  refine va_callv (va_runI (As := [.int (ceN L xs)]) (rest := [.ref qx]) ⟨hx, hb, hml, hown, hts⟩ (mX1_init l D d qx (ceN L xs) H.size) (cwI 1 hts (lw_meth q28) rfl rfl rfl (hts _ q22) (hts _ q26) (hts _ q27) rfl (by decide +kernel) ⟨Nat.le_of_ble_eq_true rfl, Nat.le_of_ble_eq_true rfl⟩) ⟨fun a U g mk q => by obtain ⟨q0, q1, qP, qK, qD⟩ := q; exact ⟨q0, q1, qP, va_K.moved (u := U) (U := U.calling g mk a) (Vm.Alike.refl U.vm) qK, qD⟩, fun U hU hW => ⟨rfl, by rw [hU], by rw [hU]; exact hPc, va_K.moved hW.alike hK, hDc.weaken (fun _ _ _ _ => trivial)⟩⟩ rfl rfl hl.1 rfl (lv_room (Nat.le_of_ble_eq_true rfl)) dL_law_9 ⟨by decide, by decide⟩) hS (fun q _ h => hFc q h) hFc (fun u t H1 locs ht hvm hw1 hB hz1 hk1 hS => ?_)
  obtain ⟨ad, n⟩ := u
  obtain ⟨hP1, hK1, hD1⟩ := hB
  rw [ht] at hP1
  obtain ⟨hPj, hDj⟩ := va_join (wr := []) (w1 := wX ad d (fun _ => 0) (fun _ => 0) (fun _ => 0) (fun _ => 0) (fun _ => 0) (fun _ => 0) (fun _ => 0) (fun _ => 0) (fun _ => 0) (nI n) 0 0) hP hD [0] [] rfl rfl (by decide) (by decide) hk1 hFc hP1 hD1
  generalize H1 = H at hPj hS ⊢
  obtain ⟨he0, hpl, hn8⟩ := hw1
  have he0 : ad 0 = qx := he0
  have hpl : PlR (ceN L xs) n := hpl
  have hn8 : n < 8 := hn8
  subst he0
  have hP : va_P D vwCl (wX ad d (fun _ => 0) (fun _ => 0) (fun _ => 0) (fun _ => 0) (fun _ => 0) (fun _ => 0) (fun _ => 0) (fun _ => 0) (fun _ => 0) (nI n) 0 0) H := hPj
  have hD : va_D (fun q : Nat => s.heap.size ≤ q) (wX ad d (fun _ => 0) (fun _ => 0) (fun _ => 0) (fun _ => 0) (fun _ => 0) (fun _ => 0) (fun _ => 0) (fun _ => 0) (fun _ => 0) (nI n) 0 0) := hDj
  refine W.widen (k := 10) (n := 421) (by decide) (by decide) ?_
  refine lv_astore_n (lv' := [(1, .ref (ad 0)), (0, .ref b)]) hx hb dL_law_12 rfl hl (by decide) rfl (fun ls hl => ?_)
  refine va_new (D := D) (ci := 1) (fs := [.int 0, .int 0, .null, .null, .null, .int 0]) (C := RX2) (T := TX2) (N := 6) hx hb hts in_X2 tyX2 tyX2_ok hown (hts _ q192) (hts _ q193) (hts _ q23) hK hP hD hS hA rfl (fun j hj => by rcases (show j = 0 ∨ j = 1 ∨ j = 2 ∨ j = 3 ∨ j = 4 ∨ j = 5 by omega) with rfl | rfl | rfl | rfl | rfl | rfl <;> rfl) (by decide) (by decide) dL_law_13 (fun qm H hP hD hS => ?_)
  have hP : va_P D vwCl (wX ad d (fun _ => 0) (fun _ => 0) (fun _ => 0) (fun _ => 0) (fun _ => 0) (fun _ => 0) (fun _ => 0) (fun _ => 0) (fun _ => 0) (nI n) 0 0 ++ [(qm, .inr (1, [.int 0, .int 0, .null, .null, .null, .int 0]))]) H := hP
  have hD : va_D (fun q : Nat => s.heap.size ≤ q) (wX ad d (fun _ => 0) (fun _ => 0) (fun _ => 0) (fun _ => 0) (fun _ => 0) (fun _ => 0) (fun _ => 0) (fun _ => 0) (fun _ => 0) (nI n) 0 0 ++ [(qm, .inr (1, [.int 0, .int 0, .null, .null, .null, .int 0]))]) := hD
  refine W.widen (k := 11) (n := 427) (by decide) (by decide) ?_
  refine lv_dup hx hb dL_law_16 rfl ?_
  refine lv_aload_n hx hb dL_law_17 rfl (lv_at hl 1 rfl) ?_
  refine lv_iconst (v := 0) hx hb dL_law_18 (by decide) ?_
  refine va_calli (va_runS (As := [.ref b, .int 0]) (rest := [.ref qm, .ref qm]) ⟨hx, hb, hml, hown, hts⟩ (mX0_cell l b L xs hL) (va_cwS 2 hts (lw_S q189 q190 q21 q191) rfl rfl rfl (by decide +kernel) ⟨Nat.le_of_ble_eq_true rfl, Nat.le_of_ble_eq_true rfl⟩) ⟨fun a U g mk q => by obtain ⟨q0, q1, q2⟩ := q; exact ⟨q0, va_X.moved (u := U) (U := U.calling g mk a) (Vm.Alike.refl U.vm) q1, q2⟩, fun U hU hW => ⟨rfl, by rw [hU]; exact (hX.kept (hS.2.1 b hbl hbA)).moved hW.alike, by rw [hU]; exact Nat.lt_of_lt_of_le hbl hS.1⟩⟩ rfl rfl hl.1 rfl (lv_room (Nat.le_of_ble_eq_true rfl)) dL_law_19 ⟨by decide, by decide⟩) hS (fun q _ h => absurd h id) (fun q h => absurd h id) (fun r u t H1 locs ht hvm hw1 hB hz1 hk1 hS => ?_)
  have hw1 : r = ceN L xs := hw1
  subst hw1
  have hP : va_P D vwCl (wX ad d (fun _ => 0) (fun _ => 0) (fun _ => 0) (fun _ => 0) (fun _ => 0) (fun _ => 0) (fun _ => 0) (fun _ => 0) (fun _ => 0) (nI n) 0 0 ++ [(qm, .inr (1, [.int 0, .int 0, .null, .null, .null, .int 0]))]) H1 := hP.kept (fun k x hx => hk1 x.1 ((hP k x hx).lt) id)
  generalize H1 = H at hP hS ⊢
  refine W.widen (k := 11) (n := 427) (by decide) (by decide) ?_
  have hPc := hP.sub (ws' := [(qm, .inr (1, [.int 0, .int 0, .null, .null, .null, .int 0]))]) [10] rfl
  have hDc := hD.sub (ws' := [(qm, .inr (1, [.int 0, .int 0, .null, .null, .null, .int 0]))]) [10] (by decide) rfl
  have hFc := va_free (wc := [(qm, .inr (1, [.int 0, .int 0, .null, .null, .null, .int 0]))]) hD hS hA [10] rfl
  refine va_callv (va_runI (As := [.int (ceN L xs)]) (rest := [.ref qm]) ⟨hx, hb, hml, hown, hts⟩ (mX2_init l D d qm (ceN L xs) H.size) (cwI 1 hts (lw_meth q196) rfl rfl rfl (hts _ q23) (hts _ q194) (hts _ q195) rfl (by decide +kernel) ⟨Nat.le_of_ble_eq_true rfl, Nat.le_of_ble_eq_true rfl⟩) ⟨fun a U g mk q => by obtain ⟨q0, q1, qP, qK, qD⟩ := q; exact ⟨q0, q1, qP, va_K.moved (u := U) (U := U.calling g mk a) (Vm.Alike.refl U.vm) qK, qD⟩, fun U hU hW => ⟨rfl, by rw [hU], by rw [hU]; exact hPc, va_K.moved hW.alike hK, hDc.weaken (fun _ _ _ _ => trivial)⟩⟩ rfl rfl hl.1 rfl (lv_room (Nat.le_of_ble_eq_true rfl)) dL_law_22 ⟨by decide, by decide⟩) hS (fun q _ h => hFc q h) hFc (fun u t H1 locs ht hvm hw1 hB hz1 hk1 hS => ?_)
  obtain ⟨am, n2⟩ := u
  obtain ⟨hP1, hK1, hD1⟩ := hB
  rw [ht] at hP1
  obtain ⟨hPj, hDj⟩ := va_join (wr := (wX ad d (fun _ => 0) (fun _ => 0) (fun _ => 0) (fun _ => 0) (fun _ => 0) (fun _ => 0) (fun _ => 0) (fun _ => 0) (fun _ => 0) (nI n) 0 0)) (w1 := wM am d (fun _ => 0) (fun _ => 0) (fun _ => 0) (nI n2) 0 0) hP hD [10] [0, 1, 2, 3, 4, 5, 6, 7, 8, 9] rfl rfl (by decide) (by decide) hk1 hFc hP1 hD1
  generalize H1 = H at hPj hS ⊢
  obtain ⟨he0, hpl2, hn82⟩ := hw1
  have he0 : am 0 = qm := he0
  have hpl2 : PlR (ceN L xs) n2 := hpl2
  have hn82 : n2 < 8 := hn82
  subst he0
  have hnn : n2 = n := pl_fun hpl2 hpl (by omega) (by omega)
  subst hnn
  have hP : va_P D vwCl (wX ad d (fun _ => 0) (fun _ => 0) (fun _ => 0) (fun _ => 0) (fun _ => 0) (fun _ => 0) (fun _ => 0) (fun _ => 0) (fun _ => 0) (nI n2) (nI 0) (nI 0) ++ wM am d (fun _ => 0) (fun _ => 0) (fun _ => 0) (nI n2) (nI 0) (nI 0)) H := hPj
  have hD : va_D (fun q : Nat => s.heap.size ≤ q) (wX ad d (fun _ => 0) (fun _ => 0) (fun _ => 0) (fun _ => 0) (fun _ => 0) (fun _ => 0) (fun _ => 0) (fun _ => 0) (fun _ => 0) (nI n2) (nI 0) (nI 0) ++ wM am d (fun _ => 0) (fun _ => 0) (fun _ => 0) (nI n2) (nI 0) (nI 0)) := hDj
  refine W.widen (k := 600000) (n := 7290000) (by decide) (by decide) ?_
  refine lv_astore_n (lv' := [(2, .ref (am 0)), (1, .ref (ad 0)), (0, .ref b)]) hx hb dL_law_25 rfl hl (by decide) rfl (fun ls hl => ?_)
  refine lv_iconst (v := nI 1) hx hb dL_law_26 (by decide) ?_
  refine lv_istore_n (lv' := [(3, .int (nI 1)), (2, .ref (am 0)), (1, .ref (ad 0)), (0, .ref b)]) hx hb dL_law_27 rfl hl (by decide) rfl (fun ls hl => ?_)
  obtain ⟨h2, h7⟩ := pl_bd hpl2 (by omega)
  exact law_loop l hL C0 D d ad am n2 hK (fun _ => 0) (fun _ => 0) (fun _ => 0) (fun _ => 0) (fun _ => 0) (fun _ => 0) (fun _ => 0) (fun _ => 0) (fun _ => 0) (fun _ => 0) (fun _ => 0) (fun _ => 0) 0 0 ⟨_, _, _, rep_0 h2 h7, rep_0 h2 h7⟩ H locs ls hP hD hS (lv_sub hl [3, 2, 1, 0] rfl)
set_option maxHeartbeats 4000000 in
theorem lw_walk (l : Launch) (b : Addr) (xs : List Int32) : MetFree l x (headSpec (Jvm.Cond.code x code maxLocals ret :: tables_1) room_1) (lw_P b xs) (fun _ _ _ _ _ => True) lw_Q := by
  refine MetFree.of_bodyS (code := code) (maxLocals := maxLocals) (ret := ret) (by decide) ?_ ?_
  · intro args s m h hn
    obtain ⟨meth, c, h1, h2, h3, h4, h5, h6, -, -⟩ := Cond.code_spec hn (atoms_spec (ws := Jvm.Cond.code x code maxLocals ret :: tables_1) h _ List.mem_cons_self)
    exact ⟨meth, c, h1, h2, h3, h4, h5, h6⟩
  · intro p e s m args below meth c s₁ B hml0 hP _
    obtain ⟨rfl, hx, hbd, hgv⟩ := hP
    obtain ⟨scr, harrAt, hlist, hof, hsmall⟩ := hx
    obtain ⟨hcb, hkn, -, -⟩ := State.arrayAt?_spec harrAt
    have hown : s.vm.findClass R_law = some m.cls := findClass_of_methodNamed B.named
    have hts0 : ∀ c ∈ (Jvm.Cond.code x code maxLocals ret :: tables_1), c.before #[Value.ref b] s = true := atoms_spec (ws := Jvm.Cond.code x code maxLocals ret :: tables_1) B.pre
    have hts : ∀ w ∈ lw_tbl, w.before #[Value.ref b] s = true := k2_hts_sels lw_privs (fun w hw => hts0 w (List.mem_cons_of_mem _ hw)) lw_privs_ok
    have hml : c.maxLocals = 4 := B.maxLocals_eq (hts0 _ List.mem_cons_self)
    have X₀ : Stand p l e room_1 s m #[Value.ref b] below meth c s₁ [] 0 0 := Stand.of_body B
    have hh0 : s₁.heap = s.heap := by rw [B.state]; rfl
    have hsz : scr.slots.size = xs.length := by rw [← Array.length_toList, hlist, List.length_map]
    have hval : ∀ j : Nat, j < xs.length → scr.slots[j]? = some (.int (xs.getD j 0)) := fun j hj => by
      rw [← Array.getElem?_toList, hlist]
      simp [hj]
    have hbl : b < s.heap.size := (Array.getElem?_eq_some_iff.mp hcb).1
    have hX : va_X b xs.length (fun j => xs.getD j 0) s s.heap := ⟨scr, hcb, hof, hkn, hsz, hval⟩
    have K : W p l e room_1 s m #[Value.ref b] below meth c s₁.heap [] 0 0 (lw_Z below #[Value.ref b] s) (entryFrame m ([Value.ref b] : List Value).toArray 4) := by
      rw [hh0]
      exact whole_start l hbd ⟨B.exec, B.bytes, B.returns, hml, hown, hts, hX, hbl, B.notSynchronized, hgv⟩
    obtain ⟨t, a1, o, b1, b2, b3⟩ := K s₁ rfl X₀
    exact ⟨t, o, a1, b1, b2, b3⟩
theorem lw_pre_spec {args : Array Value} {s : State} (h : (Jvm.Cond.and given_1 narrow_1).before args s = true) (hr : rest_1_c.before args s = true) : ∃ (b : Addr) (xs : List Int32), lw_P b xs args s := by
  have hs := flat_of_before _ h
  have hq := flat_of_before _ hr
  have hc : (Cond.count 1).before args s = true := hs _ (by decide +kernel)
  have harr : (Cond.arrayOf (.arg 0) .int).before args s = true := hs _ (by decide +kernel)
  have hle : (Cond.le (.length (.arg 0)) (.int 257)).before args s = true := hs _ (by decide +kernel)
  have hlen : (Cond.isInt (.length (.arg 0))).before args s = true := hq _ (by decide +kernel)
  have hall : (Cond.all (.arg 0) (.isInt (.elem (.arg 0) (.index 0)))).before args s = true := hq _ (by decide +kernel)
  obtain ⟨b, xs, hb, hx⟩ := State.ints_of_pre rfl harr hlen hall
  have hsm : xs.length < 2 ^ 31 := hx.choose_spec.2.2.2
  have hev : (Term.length (.arg 0)).eval args s none [] s = some (.int xs.length.toInt32) := hx.length_eval hb
  have hv := Cond.le_ints hev (show (Term.int 257).eval args s none [] s = some (.int 257) from rfl)
  have hd : xs.length.toInt32 ≤ 257 := by
    simpa [Cond.before, Cond.holds, hv] using hle
  have hN : xs.length ≤ 257 := (Int32.ofNat_le_ofNat hsm (by decide)).mp (show Int32.ofNat xs.length ≤ Int32.ofNat 257 from hd)
  exact ⟨b, xs, Cond.one_arg hc (show args[0]? = some (.ref b) from hb), hx, hN, h⟩
theorem lw_comes (l : Launch) : Comes l x (Jvm.Cond.code x code maxLocals ret :: tables_1) room_1 (fun tb e args s => Calls_1 tb e args s ∧ rest_1 tb e args s ∧ Pre_1 tb e args s)
    (fun _ _ args s o t => lw_Q args s o t) := by
  intro p e ha hc hk s m args below hf hfit hheap happ hpre
  obtain ⟨b, xs, hP⟩ := lw_pre_spec hpre.2.2 hpre.2.1
  obtain ⟨k, o, h1, h2, h3, hQ⟩ := lw_walk l b xs p e ha hc hk s m args below hf ((Spec.applies_iff_loose hf).mp happ).1 hP trivial
  exact ⟨k, o, h1, h2, h3, hQ⟩
theorem lw_frame {s t : State} {o : Outcome} {args : Array Value} (h : Framed s o t [] 600000 7290000) :
    Framed s o t (fieldLocs frame_1_writes args s ++ arrayLocs frame_1_arrays args s ++ staticLocs frame_1_statics s) 600000 7290000 := h
theorem lw_limb (L : Cond) (hL : ∀ (args : Array Value) (s t : State), L.after args s (.returned (some (.int 1))) t = true) :
    ArmFor flags0 classFile x code maxLocals ret World_1 tables_1 room_1 Calls_1 rest_1 Pre_1
      (fun tb e a s o t => postC L tb e a s o t ∧ Framed s o t (fieldLocs frame_1_writes a s ++ arrayLocs frame_1_arrays a s ++ staticLocs frame_1_statics s) 600000 7290000) := by
  intro l _ _ _ p e ha hc hk s m args below hf hfit hheap happ hpre
  obtain ⟨k, o, h1, h2, h3, rfl, hF⟩ := lw_comes l p e ha hc hk s m args below hf hfit hheap happ hpre
  exact ⟨k, _, h1, h2, h3, hL args s _, lw_frame hF⟩
theorem i_vc : Claimed_1_1 ∧ Claimed_1_2 := ⟨lw_limb limb_1_1 (fun args s t => by simp [limb_1_1, Cond.after, Cond.holds, Cond.value]), lw_limb limb_1_2 (fun args s t => Cond.after_iff.mpr (by
  first | (rw [show limb_1_2 = Cond.eq .result (.int 1) from rfl, Cond.eq_ints (x := 1) (y := 1) rfl rfl]; simp; done) | (simp [limb_1_2, Cond.value, Term.eval]; done)))⟩
end
