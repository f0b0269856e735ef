section
-- ===== PART A: goes FIRST, ahead of the names: the tables' words, and 'selects' of the private methods out of them =====
/-- a private method of a class that the tables say can be made, by its rows of tables_1 -/
def lw_okq (q : MethodName × Nat) : Prop := (q.1.cls ≠ "java/lang/invoke/MethodHandle" ∧ q.1.cls ≠ "java/lang/invoke/VarHandle") ∧ Cond.instantiable q.1.cls q.2 ∈ tables_1 ∧ Cond.privateMethod q.1 ∈ tables_1 ∧ Cond.instanceMethod q.1 ∈ tables_1
set_option maxRecDepth 100000
theorem lw_t1 {w : Cond} (h : w ∈ tables_1_1) : w ∈ tables_1 := List.mem_append_left _ h
theorem lw_t2 {w : Cond} (h : w ∈ tables_1_2) : w ∈ tables_1 := List.mem_append_right _ h
theorem lw_p0 : lw_okq (⟨"UtilityRebiller", "forgetRead", "(II)V"⟩, 17) := ⟨⟨by decide +kernel, by decide +kernel⟩, lw_t1 (List.mem_of_getElem? (i := 4) rfl), lw_t1 (List.mem_of_getElem? (i := 80) rfl), lw_t1 (List.mem_of_getElem? (i := 81) rfl)⟩
theorem lw_p1 : lw_okq (⟨"UtilityRebiller", "refresh", "(II)I"⟩, 17) := ⟨⟨by decide +kernel, by decide +kernel⟩, lw_t1 (List.mem_of_getElem? (i := 4) rfl), lw_t1 (List.mem_of_getElem? (i := 84) rfl), lw_t1 (List.mem_of_getElem? (i := 85) rfl)⟩
theorem lw_p2 : lw_okq (⟨"UtilityRebiller", "update", "(II)V"⟩, 17) := ⟨⟨by decide +kernel, by decide +kernel⟩, lw_t1 (List.mem_of_getElem? (i := 4) rfl), lw_t1 (List.mem_of_getElem? (i := 88) rfl), lw_t1 (List.mem_of_getElem? (i := 89) rfl)⟩
theorem lw_p3 : lw_okq (⟨"UtilityRebiller", "rule", "(II)I"⟩, 17) := ⟨⟨by decide +kernel, by decide +kernel⟩, lw_t1 (List.mem_of_getElem? (i := 4) rfl), lw_t1 (List.mem_of_getElem? (i := 92) rfl), lw_t1 (List.mem_of_getElem? (i := 93) rfl)⟩
theorem lw_p4 : lw_okq (⟨"UtilityRebiller", "rescan", "(I)V"⟩, 17) := ⟨⟨by decide +kernel, by decide +kernel⟩, lw_t1 (List.mem_of_getElem? (i := 4) rfl), lw_t1 (List.mem_of_getElem? (i := 96) rfl), lw_t1 (List.mem_of_getElem? (i := 97) rfl)⟩
theorem lw_p5 : lw_okq (⟨"UtilityRebiller", "rebill", "(II)Z"⟩, 17) := ⟨⟨by decide +kernel, by decide +kernel⟩, lw_t1 (List.mem_of_getElem? (i := 4) rfl), lw_t1 (List.mem_of_getElem? (i := 100) rfl), lw_t1 (List.mem_of_getElem? (i := 101) rfl)⟩
theorem lw_p6 : lw_okq (⟨"UtilityRebiller", "rate", "(II)I"⟩, 17) := ⟨⟨by decide +kernel, by decide +kernel⟩, lw_t1 (List.mem_of_getElem? (i := 4) rfl), lw_t1 (List.mem_of_getElem? (i := 104) rfl), lw_t1 (List.mem_of_getElem? (i := 105) rfl)⟩
theorem lw_p7 : lw_okq (⟨"UtilityRebiller", "item", "(II)I"⟩, 17) := ⟨⟨by decide +kernel, by decide +kernel⟩, lw_t1 (List.mem_of_getElem? (i := 4) rfl), lw_t1 (List.mem_of_getElem? (i := 108) rfl), lw_t1 (List.mem_of_getElem? (i := 109) rfl)⟩
theorem lw_p8 : lw_okq (⟨"UtilityRebiller", "addLine", "(III)V"⟩, 17) := ⟨⟨by decide +kernel, by decide +kernel⟩, lw_t1 (List.mem_of_getElem? (i := 4) rfl), lw_t1 (List.mem_of_getElem? (i := 112) rfl), lw_t1 (List.mem_of_getElem? (i := 113) rfl)⟩
theorem lw_p9 : lw_okq (⟨"UtilityRebiller", "noLine", "(II)Z"⟩, 17) := ⟨⟨by decide +kernel, by decide +kernel⟩, lw_t1 (List.mem_of_getElem? (i := 4) rfl), lw_t1 (List.mem_of_getElem? (i := 144) rfl), lw_t1 (List.mem_of_getElem? (i := 145) rfl)⟩
theorem lw_p10 : lw_okq (⟨"UtilityRebillerModel", "badAccount", "(I)Z"⟩, 9) := ⟨⟨by decide +kernel, by decide +kernel⟩, lw_t1 (List.mem_of_getElem? (i := 152) rfl), lw_t1 (List.mem_of_getElem? (i := 194) rfl), lw_t1 (List.mem_of_getElem? (i := 195) rfl)⟩
theorem lw_p11 : lw_okq (⟨"UtilityRebillerModel", "badInterval", "(I)Z"⟩, 9) := ⟨⟨by decide +kernel, by decide +kernel⟩, lw_t1 (List.mem_of_getElem? (i := 152) rfl), lw_t1 (List.mem_of_getElem? (i := 198) rfl), lw_t1 (List.mem_of_getElem? (i := 199) rfl)⟩
theorem lw_p12 : lw_okq (⟨"UtilityRebillerModel", "rebill", "(I)I"⟩, 9) := ⟨⟨by decide +kernel, by decide +kernel⟩, lw_t1 (List.mem_of_getElem? (i := 152) rfl), lw_t1 (List.mem_of_getElem? (i := 202) rfl), lw_t1 (List.mem_of_getElem? (i := 203) rfl)⟩
theorem lw_p13 : lw_okq (⟨"UtilityRebillerModel", "rate", "(II)I"⟩, 9) := ⟨⟨by decide +kernel, by decide +kernel⟩, lw_t1 (List.mem_of_getElem? (i := 152) rfl), lw_t1 (List.mem_of_getElem? (i := 214) rfl), lw_t1 (List.mem_of_getElem? (i := 215) rfl)⟩
theorem lw_p14 : lw_okq (⟨"UtilityRebillerModel", "line", "(III)V"⟩, 9) := ⟨⟨by decide +kernel, by decide +kernel⟩, lw_t1 (List.mem_of_getElem? (i := 152) rfl), lw_t1 (List.mem_of_getElem? (i := 218) rfl), lw_t1 (List.mem_of_getElem? (i := 219) rfl)⟩
theorem lw_p15 : lw_okq (⟨"UtilityRebillerModel", "noLine", "(II)Z"⟩, 9) := ⟨⟨by decide +kernel, by decide +kernel⟩, lw_t1 (List.mem_of_getElem? (i := 152) rfl), lw_t2 (List.mem_of_getElem? (i := 4) rfl), lw_t2 (List.mem_of_getElem? (i := 5) rfl)⟩
def lw_privs_1 : List (MethodName × Nat) := [(⟨"UtilityRebiller", "forgetRead", "(II)V"⟩, 17), (⟨"UtilityRebiller", "refresh", "(II)I"⟩, 17), (⟨"UtilityRebiller", "update", "(II)V"⟩, 17), (⟨"UtilityRebiller", "rule", "(II)I"⟩, 17), (⟨"UtilityRebiller", "rescan", "(I)V"⟩, 17), (⟨"UtilityRebiller", "rebill", "(II)Z"⟩, 17), (⟨"UtilityRebiller", "rate", "(II)I"⟩, 17), (⟨"UtilityRebiller", "item", "(II)I"⟩, 17), (⟨"UtilityRebiller", "addLine", "(III)V"⟩, 17), (⟨"UtilityRebiller", "noLine", "(II)Z"⟩, 17), (⟨"UtilityRebillerModel", "badAccount", "(I)Z"⟩, 9), (⟨"UtilityRebillerModel", "badInterval", "(I)Z"⟩, 9), (⟨"UtilityRebillerModel", "rebill", "(I)I"⟩, 9), (⟨"UtilityRebillerModel", "rate", "(II)I"⟩, 9), (⟨"UtilityRebillerModel", "line", "(III)V"⟩, 9), (⟨"UtilityRebillerModel", "noLine", "(II)Z"⟩, 9)]
theorem lw_r1 : ∀ q ∈ lw_privs_1, lw_okq q := List.forall_mem_cons.mpr ⟨lw_p0, List.forall_mem_cons.mpr ⟨lw_p1, List.forall_mem_cons.mpr ⟨lw_p2, List.forall_mem_cons.mpr ⟨lw_p3, List.forall_mem_cons.mpr ⟨lw_p4, List.forall_mem_cons.mpr ⟨lw_p5, List.forall_mem_cons.mpr ⟨lw_p6, List.forall_mem_cons.mpr ⟨lw_p7, List.forall_mem_cons.mpr ⟨lw_p8, List.forall_mem_cons.mpr ⟨lw_p9, List.forall_mem_cons.mpr ⟨lw_p10, List.forall_mem_cons.mpr ⟨lw_p11, List.forall_mem_cons.mpr ⟨lw_p12, List.forall_mem_cons.mpr ⟨lw_p13, List.forall_mem_cons.mpr ⟨lw_p14, List.forall_mem_cons.mpr ⟨lw_p15, fun _ h => absurd h List.not_mem_nil⟩⟩⟩⟩⟩⟩⟩⟩⟩⟩⟩⟩⟩⟩⟩⟩
def lw_privs : List (MethodName × Nat) := lw_privs_1
def lw_tbl : List Cond := k2_sels lw_privs ++ tables_1
theorem lw_privs_ok : ∀ q ∈ lw_privs, lw_okq q := lw_r1
-- ===== ONE list of words for every method: the tables' words that hold all through a run =====
def lw_all : List Cond := lw_tbl.filter goodWord
/-- a word of the tables by its place: claim/WORDS.tsv -/
theorem lw_w {w : Cond} (i : Nat) (h : lw_tbl[i]? = some w) (g : goodWord w = true) : w ∈ lw_all := List.mem_filter.mpr ⟨List.mem_of_getElem? h, g⟩
theorem lw_all_tbl {w : Cond} (h : w ∈ lw_all) : w ∈ lw_tbl := (List.mem_filter.mp h).1
theorem lw_self : GoodIn lw_all lw_all := fun w h => ⟨h, good_of_word (List.mem_filter.mp h).2⟩
/-- a class's field words, by their places -/
theorem lw_in (ws : List Cond) (ps : List Nat) (hp : ws = ps.filterMap (fun i => lw_tbl[i]?)) (hg : ws.all goodWord = true) : ∀ w ∈ ws, w ∈ lw_all := by
  intro w h
  have h1 := List.all_eq_true.mp hg w h
  rw [hp] at h
  obtain ⟨i, -, hi⟩ := List.mem_filterMap.mp h
  exact lw_w i hi h1
/-- the words of a contract for the method y with code b, L locals, answer r -/
abbrev ws_ (y : MethodName) (b : ByteArray) (L : Nat) (r : Option FieldType) : List Cond := Cond.code y b L r :: lw_all
theorem lw_meth {y : MethodName} {b : ByteArray} {L : Nat} {r : Option FieldType} (h : Cond.code y b L r ∈ lw_all) : GoodIn lw_all (ws_ y b L r) := by
  intro w hw
  rcases List.mem_cons.mp hw with e | e
  · rw [e]
    exact lw_self _ h
  · exact lw_self _ e
theorem lw_app {a c : List Cond} (ha : ∀ w ∈ a, w ∈ lw_all) (hc : GoodIn lw_all c) : GoodIn lw_all (a ++ c) := by
  intro w hw
  rcases List.mem_append.mp hw with e | e
  · exact lw_self w (ha w e)
  · exact hc w e
/-- what a call through an object asks: cwV n hts (lw_V ..) -/
theorem lw_V {own : String} {idx : Nat} {C : String} {y : MethodName} {b : ByteArray} {L : Nat} {r : Option FieldType} (h1 : Cond.methodLink own idx y ∈ lw_all) (h2 : Cond.instanceMethod y ∈ lw_all) (h3 : Cond.selects C y y ∈ lw_all) (h4 : Cond.initialized C ∈ lw_all) (h5 : Cond.code y b L r ∈ lw_all) : GoodIn lw_all (wsV own idx C y (ws_ y b L r)) := by
  refine lw_app ?_ (lw_meth h5)
  intro w hw
  simp only [List.mem_cons, List.not_mem_nil, or_false] at hw
  rcases hw with e | e | e | e
  · rw [e]; exact h1
  · rw [e]; exact h2
  · rw [e]; exact h3
  · rw [e]; exact h4
/-- what a static call asks: va_cwS n hts (lw_S ..) -/
theorem lw_S {own : String} {idx : Nat} {y : MethodName} {b : ByteArray} {L : Nat} {r : Option FieldType} (h1 : Cond.methodLink own idx y ∈ lw_all) (h2 : Cond.static y ∈ lw_all) (h3 : Cond.initialized y.cls ∈ lw_all) (h4 : Cond.code y b L r ∈ lw_all) : GoodIn lw_all (va_wsS own idx y (ws_ y b L r)) := by
  refine lw_app ?_ (lw_meth h4)
  intro w hw
  simp only [List.mem_cons, List.not_mem_nil, or_false] at hw
  rcases hw with e | e | e
  · rw [e]; exact h1
  · rw [e]; exact h2
  · rw [e]; exact h3
/-- the words of a contract for a method WITH HANDLERS (hh: its table) -/
abbrev wsW_ (y : MethodName) (b : ByteArray) (L : Nat) (r : Option FieldType) (hh : List (Nat × Nat × Nat × Nat)) : List Cond := Cond.codeWith y b L r hh :: lw_all
theorem lw_methW {y : MethodName} {b : ByteArray} {L : Nat} {r : Option FieldType} {hh : List (Nat × Nat × Nat × Nat)} (h : Cond.codeWith y b L r hh ∈ lw_all) : GoodIn lw_all (wsW_ y b L r hh) := by
  intro w hw
  rcases List.mem_cons.mp hw with e | e
  · rw [e]
    exact lw_self _ h
  · exact lw_self _ e
/-- any list of words by their places (lw_in), good -/
theorem lw_good {ws : List Cond} (h : ∀ w ∈ ws, w ∈ lw_all) : GoodIn lw_all ws := fun w hw => lw_self w (h w hw)
/-- what a call of a method with handlers asks: vx_cwVW n hts (lw_VW ..), vx_cwSW n hts (lw_SW ..) -/
theorem lw_VW {own : String} {idx : Nat} {C : String} {y : MethodName} {b : ByteArray} {L : Nat} {r : Option FieldType} {hh : List (Nat × Nat × Nat × Nat)} (h1 : Cond.methodLink own idx y ∈ lw_all) (h2 : Cond.instanceMethod y ∈ lw_all) (h3 : Cond.selects C y y ∈ lw_all) (h4 : Cond.initialized C ∈ lw_all) (h5 : Cond.codeWith y b L r hh ∈ lw_all) : GoodIn lw_all (wsV own idx C y (wsW_ y b L r hh)) := by
  refine lw_app ?_ (lw_methW h5)
  intro w hw
  simp only [List.mem_cons, List.not_mem_nil, or_false] at hw
  rcases hw with e | e | e | e
  · rw [e]; exact h1
  · rw [e]; exact h2
  · rw [e]; exact h3
  · rw [e]; exact h4
theorem lw_SW {own : String} {idx : Nat} {y : MethodName} {b : ByteArray} {L : Nat} {r : Option FieldType} {hh : List (Nat × Nat × Nat × Nat)} (h1 : Cond.methodLink own idx y ∈ lw_all) (h2 : Cond.static y ∈ lw_all) (h3 : Cond.initialized y.cls ∈ lw_all) (h4 : Cond.codeWith y b L r hh ∈ lw_all) : GoodIn lw_all (va_wsS own idx y (wsW_ y b L r hh)) := by
  refine lw_app ?_ (lw_methW h4)
  intro w hw
  simp only [List.mem_cons, List.not_mem_nil, or_false] at hw
  rcases hw with e | e | e
  · rw [e]; exact h1
  · rw [e]; exact h2
  · rw [e]; exact h3
/-- a word by its place in its run of the tables -/
theorem lw_at {r : List Cond} (hr : ∀ w ∈ r, w ∈ lw_tbl) {w : Cond} (i : Nat) (h : r[i]? = some w) : w ∈ lw_tbl := hr w (List.mem_of_getElem? h)
theorem lw_g {w : Cond} (h : w ∈ lw_tbl) (g : goodWord w = true) : w ∈ lw_all := List.mem_filter.mpr ⟨h, g⟩
theorem lw_ms : ∀ w ∈ k2_sels lw_privs, w ∈ lw_tbl := fun w h => show w ∈ k2_sels lw_privs ++ tables_1 from List.mem_append_left _ h
theorem lw_m1 : ∀ w ∈ tables_1_1, w ∈ lw_tbl := fun w h => show w ∈ k2_sels lw_privs ++ tables_1 from List.mem_append_right (k2_sels lw_privs) (show w ∈ tables_1 from List.mem_append_left _ h)
theorem lw_m2 : ∀ w ∈ tables_1_2, w ∈ lw_tbl := fun w h => show w ∈ k2_sels lw_privs ++ tables_1 from List.mem_append_right (k2_sels lw_privs) (show w ∈ tables_1 from List.mem_append_right _ h)
theorem qs0 : (Cond.selects "UtilityRebiller" ⟨"UtilityRebiller", "forgetRead", "(II)V"⟩ ⟨"UtilityRebiller", "forgetRead", "(II)V"⟩) ∈ lw_all := lw_g (lw_at lw_ms 0 rfl) rfl
theorem qs1 : (Cond.selects "UtilityRebiller" ⟨"UtilityRebiller", "refresh", "(II)I"⟩ ⟨"UtilityRebiller", "refresh", "(II)I"⟩) ∈ lw_all := lw_g (lw_at lw_ms 1 rfl) rfl
theorem qs2 : (Cond.selects "UtilityRebiller" ⟨"UtilityRebiller", "update", "(II)V"⟩ ⟨"UtilityRebiller", "update", "(II)V"⟩) ∈ lw_all := lw_g (lw_at lw_ms 2 rfl) rfl
theorem qs3 : (Cond.selects "UtilityRebiller" ⟨"UtilityRebiller", "rule", "(II)I"⟩ ⟨"UtilityRebiller", "rule", "(II)I"⟩) ∈ lw_all := lw_g (lw_at lw_ms 3 rfl) rfl
theorem qs4 : (Cond.selects "UtilityRebiller" ⟨"UtilityRebiller", "rescan", "(I)V"⟩ ⟨"UtilityRebiller", "rescan", "(I)V"⟩) ∈ lw_all := lw_g (lw_at lw_ms 4 rfl) rfl
theorem qs5 : (Cond.selects "UtilityRebiller" ⟨"UtilityRebiller", "rebill", "(II)Z"⟩ ⟨"UtilityRebiller", "rebill", "(II)Z"⟩) ∈ lw_all := lw_g (lw_at lw_ms 5 rfl) rfl
theorem qs6 : (Cond.selects "UtilityRebiller" ⟨"UtilityRebiller", "rate", "(II)I"⟩ ⟨"UtilityRebiller", "rate", "(II)I"⟩) ∈ lw_all := lw_g (lw_at lw_ms 6 rfl) rfl
theorem qs7 : (Cond.selects "UtilityRebiller" ⟨"UtilityRebiller", "item", "(II)I"⟩ ⟨"UtilityRebiller", "item", "(II)I"⟩) ∈ lw_all := lw_g (lw_at lw_ms 7 rfl) rfl
theorem qs8 : (Cond.selects "UtilityRebiller" ⟨"UtilityRebiller", "addLine", "(III)V"⟩ ⟨"UtilityRebiller", "addLine", "(III)V"⟩) ∈ lw_all := lw_g (lw_at lw_ms 8 rfl) rfl
theorem qs9 : (Cond.selects "UtilityRebiller" ⟨"UtilityRebiller", "noLine", "(II)Z"⟩ ⟨"UtilityRebiller", "noLine", "(II)Z"⟩) ∈ lw_all := lw_g (lw_at lw_ms 9 rfl) rfl
theorem qs10 : (Cond.selects "UtilityRebillerModel" ⟨"UtilityRebillerModel", "badAccount", "(I)Z"⟩ ⟨"UtilityRebillerModel", "badAccount", "(I)Z"⟩) ∈ lw_all := lw_g (lw_at lw_ms 10 rfl) rfl
theorem qs11 : (Cond.selects "UtilityRebillerModel" ⟨"UtilityRebillerModel", "badInterval", "(I)Z"⟩ ⟨"UtilityRebillerModel", "badInterval", "(I)Z"⟩) ∈ lw_all := lw_g (lw_at lw_ms 11 rfl) rfl
theorem qs12 : (Cond.selects "UtilityRebillerModel" ⟨"UtilityRebillerModel", "rebill", "(I)I"⟩ ⟨"UtilityRebillerModel", "rebill", "(I)I"⟩) ∈ lw_all := lw_g (lw_at lw_ms 12 rfl) rfl
theorem qs13 : (Cond.selects "UtilityRebillerModel" ⟨"UtilityRebillerModel", "rate", "(II)I"⟩ ⟨"UtilityRebillerModel", "rate", "(II)I"⟩) ∈ lw_all := lw_g (lw_at lw_ms 13 rfl) rfl
theorem qs14 : (Cond.selects "UtilityRebillerModel" ⟨"UtilityRebillerModel", "line", "(III)V"⟩ ⟨"UtilityRebillerModel", "line", "(III)V"⟩) ∈ lw_all := lw_g (lw_at lw_ms 14 rfl) rfl
theorem qs15 : (Cond.selects "UtilityRebillerModel" ⟨"UtilityRebillerModel", "noLine", "(II)Z"⟩ ⟨"UtilityRebillerModel", "noLine", "(II)Z"⟩) ∈ lw_all := lw_g (lw_at lw_ms 15 rfl) rfl
end
section
set_option maxRecDepth 100000
/-! UtilityRebiller -/
def RX0 : String := "UtilityRebiller"
def TX0 : u_T := fun k => match k with
  | 0 => ("UtilityRebiller", "items", "[I", true)
  | 1 => ("UtilityRebiller", "fixedItems", "[I", true)
  | 2 => ("UtilityRebiller", "closed", "I", false)
  | 3 => ("UtilityRebiller", "known", "[Z", true)
  | 4 => ("UtilityRebiller", "reading", "[I", true)
  | 5 => ("UtilityRebiller", "used", "[I", true)
  | 6 => ("UtilityRebiller", "readCount", "[I", true)
  | 7 => ("UtilityRebiller", "readSum", "[I", true)
  | 8 => ("UtilityRebiller", "low", "[I", true)
  | 9 => ("UtilityRebiller", "middle", "[I", true)
  | 10 => ("UtilityRebiller", "high", "[I", true)
  | 11 => ("UtilityRebiller", "greatest", "[I", true)
  | 12 => ("UtilityRebiller", "billed", "[I", true)
  | 13 => ("UtilityRebiller", "sum", "[I", true)
  | 14 => ("UtilityRebiller", "count", "[I", true)
  | 15 => ("UtilityRebiller", "lastAmount", "[I", true)
  | _ => ("UtilityRebiller", "lastPeriod", "[I", true)
def tyX0 : Nat → FieldType := fun k => match k with
  | 0 => .array .int
  | 1 => .array .int
  | 2 => .int
  | 3 => .array .boolean
  | 4 => .array .int
  | 5 => .array .int
  | 6 => .array .int
  | 7 => .array .int
  | 8 => .array .int
  | 9 => .array .int
  | 10 => .array .int
  | 11 => .array .int
  | 12 => .array .int
  | 13 => .array .int
  | 14 => .array .int
  | 15 => .array .int
  | _ => .array .int
abbrev wsX00 : List Cond := u_ws RX0 TX0 17
set_option maxRecDepth 100000 in
theorem nmX0 : ∀ a, a < 17 → ∀ b, b < 17 → a ≠ b → (TX0 a).2.1 ≠ (TX0 b).2.1 := by decide +kernel
set_option maxRecDepth 100000 in
theorem tyX0_ok : ∀ k, k < 17 → parseFieldDescriptor (TX0 k).2.2.1 = some (tyX0 k) := by decide +kernel
abbrev cX0_init : ByteArray := prog_1_method_1_code
def yX0_init : MethodName := ⟨RX0, "<init>", "()V"⟩
theorem dX0_init_0 : decode cX0_init 0 = .ok (.aload_n 0, 1) := by decide +kernel
theorem dX0_init_1 : decode cX0_init 1 = .ok (.invokespecial 1, 3) := by decide +kernel
theorem dX0_init_4 : decode cX0_init 4 = .ok (.aload_n 0, 1) := by decide +kernel
theorem dX0_init_5 : decode cX0_init 5 = .ok (.bipush 6, 2) := by decide +kernel
theorem dX0_init_7 : decode cX0_init 7 = .ok (.newarray .int, 2) := by decide +kernel
theorem dX0_init_9 : decode cX0_init 9 = .ok (.putfield 7, 3) := by decide +kernel
theorem dX0_init_12 : decode cX0_init 12 = .ok (.aload_n 0, 1) := by decide +kernel
theorem dX0_init_13 : decode cX0_init 13 = .ok (.bipush 36, 2) := by decide +kernel
theorem dX0_init_15 : decode cX0_init 15 = .ok (.newarray .int, 2) := by decide +kernel
theorem dX0_init_17 : decode cX0_init 17 = .ok (.putfield 13, 3) := by decide +kernel
theorem dX0_init_20 : decode cX0_init 20 = .ok (.aload_n 0, 1) := by decide +kernel
theorem dX0_init_21 : decode cX0_init 21 = .ok (.bipush 96, 2) := by decide +kernel
theorem dX0_init_23 : decode cX0_init 23 = .ok (.newarray .boolean, 2) := by decide +kernel
theorem dX0_init_25 : decode cX0_init 25 = .ok (.putfield 16, 3) := by decide +kernel
theorem dX0_init_28 : decode cX0_init 28 = .ok (.aload_n 0, 1) := by decide +kernel
theorem dX0_init_29 : decode cX0_init 29 = .ok (.bipush 96, 2) := by decide +kernel
theorem dX0_init_31 : decode cX0_init 31 = .ok (.newarray .int, 2) := by decide +kernel
theorem dX0_init_33 : decode cX0_init 33 = .ok (.putfield 20, 3) := by decide +kernel
theorem dX0_init_36 : decode cX0_init 36 = .ok (.aload_n 0, 1) := by decide +kernel
theorem dX0_init_37 : decode cX0_init 37 = .ok (.bipush 96, 2) := by decide +kernel
theorem dX0_init_39 : decode cX0_init 39 = .ok (.newarray .int, 2) := by decide +kernel
theorem dX0_init_41 : decode cX0_init 41 = .ok (.putfield 23, 3) := by decide +kernel
theorem dX0_init_44 : decode cX0_init 44 = .ok (.aload_n 0, 1) := by decide +kernel
theorem dX0_init_45 : decode cX0_init 45 = .ok (.bipush 12, 2) := by decide +kernel
theorem dX0_init_47 : decode cX0_init 47 = .ok (.newarray .int, 2) := by decide +kernel
theorem dX0_init_49 : decode cX0_init 49 = .ok (.putfield 26, 3) := by decide +kernel
theorem dX0_init_52 : decode cX0_init 52 = .ok (.aload_n 0, 1) := by decide +kernel
theorem dX0_init_53 : decode cX0_init 53 = .ok (.bipush 12, 2) := by decide +kernel
theorem dX0_init_55 : decode cX0_init 55 = .ok (.newarray .int, 2) := by decide +kernel
theorem dX0_init_57 : decode cX0_init 57 = .ok (.putfield 29, 3) := by decide +kernel
theorem dX0_init_60 : decode cX0_init 60 = .ok (.aload_n 0, 1) := by decide +kernel
theorem dX0_init_61 : decode cX0_init 61 = .ok (.bipush 12, 2) := by decide +kernel
theorem dX0_init_63 : decode cX0_init 63 = .ok (.newarray .int, 2) := by decide +kernel
theorem dX0_init_65 : decode cX0_init 65 = .ok (.putfield 32, 3) := by decide +kernel
theorem dX0_init_68 : decode cX0_init 68 = .ok (.aload_n 0, 1) := by decide +kernel
theorem dX0_init_69 : decode cX0_init 69 = .ok (.bipush 12, 2) := by decide +kernel
theorem dX0_init_71 : decode cX0_init 71 = .ok (.newarray .int, 2) := by decide +kernel
theorem dX0_init_73 : decode cX0_init 73 = .ok (.putfield 35, 3) := by decide +kernel
theorem dX0_init_76 : decode cX0_init 76 = .ok (.aload_n 0, 1) := by decide +kernel
theorem dX0_init_77 : decode cX0_init 77 = .ok (.bipush 12, 2) := by decide +kernel
theorem dX0_init_79 : decode cX0_init 79 = .ok (.newarray .int, 2) := by decide +kernel
theorem dX0_init_81 : decode cX0_init 81 = .ok (.putfield 38, 3) := by decide +kernel
theorem dX0_init_84 : decode cX0_init 84 = .ok (.aload_n 0, 1) := by decide +kernel
theorem dX0_init_85 : decode cX0_init 85 = .ok (.bipush 12, 2) := by decide +kernel
theorem dX0_init_87 : decode cX0_init 87 = .ok (.newarray .int, 2) := by decide +kernel
theorem dX0_init_89 : decode cX0_init 89 = .ok (.putfield 41, 3) := by decide +kernel
theorem dX0_init_92 : decode cX0_init 92 = .ok (.aload_n 0, 1) := by decide +kernel
theorem dX0_init_93 : decode cX0_init 93 = .ok (.bipush 12, 2) := by decide +kernel
theorem dX0_init_95 : decode cX0_init 95 = .ok (.newarray .int, 2) := by decide +kernel
theorem dX0_init_97 : decode cX0_init 97 = .ok (.putfield 44, 3) := by decide +kernel
theorem dX0_init_100 : decode cX0_init 100 = .ok (.aload_n 0, 1) := by decide +kernel
theorem dX0_init_101 : decode cX0_init 101 = .ok (.iconst 2, 1) := by decide +kernel
theorem dX0_init_102 : decode cX0_init 102 = .ok (.newarray .int, 2) := by decide +kernel
theorem dX0_init_104 : decode cX0_init 104 = .ok (.putfield 47, 3) := by decide +kernel
theorem dX0_init_107 : decode cX0_init 107 = .ok (.aload_n 0, 1) := by decide +kernel
theorem dX0_init_108 : decode cX0_init 108 = .ok (.iconst 2, 1) := by decide +kernel
theorem dX0_init_109 : decode cX0_init 109 = .ok (.newarray .int, 2) := by decide +kernel
theorem dX0_init_111 : decode cX0_init 111 = .ok (.putfield 50, 3) := by decide +kernel
theorem dX0_init_114 : decode cX0_init 114 = .ok (.aload_n 0, 1) := by decide +kernel
theorem dX0_init_115 : decode cX0_init 115 = .ok (.bipush 16, 2) := by decide +kernel
theorem dX0_init_117 : decode cX0_init 117 = .ok (.newarray .int, 2) := by decide +kernel
theorem dX0_init_119 : decode cX0_init 119 = .ok (.putfield 53, 3) := by decide +kernel
theorem dX0_init_122 : decode cX0_init 122 = .ok (.aload_n 0, 1) := by decide +kernel
theorem dX0_init_123 : decode cX0_init 123 = .ok (.bipush 16, 2) := by decide +kernel
theorem dX0_init_125 : decode cX0_init 125 = .ok (.newarray .int, 2) := by decide +kernel
theorem dX0_init_127 : decode cX0_init 127 = .ok (.putfield 56, 3) := by decide +kernel
theorem dX0_init_130 : decode cX0_init 130 = .ok (.aload_n 0, 1) := by decide +kernel
theorem dX0_init_131 : decode cX0_init 131 = .ok (.iconst 0, 1) := by decide +kernel
theorem dX0_init_132 : decode cX0_init 132 = .ok (.putfield 59, 3) := by decide +kernel
theorem dX0_init_135 : decode cX0_init 135 = .ok (.return_, 1) := by decide +kernel
abbrev cX0_tariff : ByteArray := prog_1_method_4_code
def yX0_tariff : MethodName := ⟨RX0, "tariff", "(II)I"⟩
theorem dX0_tariff_0 : decode cX0_tariff 0 = .ok (.iload_n 1, 1) := by decide +kernel
theorem dX0_tariff_1 : decode cX0_tariff 1 = .ok (.ifCond .lt 8, 3) := by decide +kernel
theorem dX0_tariff_4 : decode cX0_tariff 4 = .ok (.iload_n 1, 1) := by decide +kernel
theorem dX0_tariff_5 : decode cX0_tariff 5 = .ok (.iconst 5, 1) := by decide +kernel
theorem dX0_tariff_6 : decode cX0_tariff 6 = .ok (.if_icmp .le 6, 3) := by decide +kernel
theorem dX0_tariff_9 : decode cX0_tariff 9 = .ok (.bipush (-4), 2) := by decide +kernel
theorem dX0_tariff_11 : decode cX0_tariff 11 = .ok (.ireturn, 1) := by decide +kernel
theorem dX0_tariff_12 : decode cX0_tariff 12 = .ok (.iload_n 2, 1) := by decide +kernel
theorem dX0_tariff_13 : decode cX0_tariff 13 = .ok (.ifCond .lt 9, 3) := by decide +kernel
theorem dX0_tariff_16 : decode cX0_tariff 16 = .ok (.iload_n 2, 1) := by decide +kernel
theorem dX0_tariff_17 : decode cX0_tariff 17 = .ok (.bipush 99, 2) := by decide +kernel
theorem dX0_tariff_19 : decode cX0_tariff 19 = .ok (.if_icmp .le 6, 3) := by decide +kernel
theorem dX0_tariff_22 : decode cX0_tariff 22 = .ok (.bipush (-5), 2) := by decide +kernel
theorem dX0_tariff_24 : decode cX0_tariff 24 = .ok (.ireturn, 1) := by decide +kernel
theorem dX0_tariff_25 : decode cX0_tariff 25 = .ok (.aload_n 0, 1) := by decide +kernel
theorem dX0_tariff_26 : decode cX0_tariff 26 = .ok (.getfield 7, 3) := by decide +kernel
theorem dX0_tariff_29 : decode cX0_tariff 29 = .ok (.iload_n 1, 1) := by decide +kernel
theorem dX0_tariff_30 : decode cX0_tariff 30 = .ok (.iaload, 1) := by decide +kernel
theorem dX0_tariff_31 : decode cX0_tariff 31 = .ok (.istore_n 3, 1) := by decide +kernel
theorem dX0_tariff_32 : decode cX0_tariff 32 = .ok (.aload_n 0, 1) := by decide +kernel
theorem dX0_tariff_33 : decode cX0_tariff 33 = .ok (.getfield 7, 3) := by decide +kernel
theorem dX0_tariff_36 : decode cX0_tariff 36 = .ok (.iload_n 1, 1) := by decide +kernel
theorem dX0_tariff_37 : decode cX0_tariff 37 = .ok (.iload_n 2, 1) := by decide +kernel
theorem dX0_tariff_38 : decode cX0_tariff 38 = .ok (.iastore, 1) := by decide +kernel
theorem dX0_tariff_39 : decode cX0_tariff 39 = .ok (.iload_n 3, 1) := by decide +kernel
theorem dX0_tariff_40 : decode cX0_tariff 40 = .ok (.ireturn, 1) := by decide +kernel
abbrev cX0_read : ByteArray := prog_1_method_5_code
def yX0_read : MethodName := ⟨RX0, "read", "(III)I"⟩
theorem dX0_read_0 : decode cX0_read 0 = .ok (.iload_n 1, 1) := by decide +kernel
theorem dX0_read_1 : decode cX0_read 1 = .ok (.invokestatic 63, 3) := by decide +kernel
theorem dX0_read_4 : decode cX0_read 4 = .ok (.ifCond .eq 5, 3) := by decide +kernel
theorem dX0_read_7 : decode cX0_read 7 = .ok (.iconst (-1), 1) := by decide +kernel
theorem dX0_read_8 : decode cX0_read 8 = .ok (.ireturn, 1) := by decide +kernel
theorem dX0_read_9 : decode cX0_read 9 = .ok (.iload_n 2, 1) := by decide +kernel
theorem dX0_read_10 : decode cX0_read 10 = .ok (.invokestatic 67, 3) := by decide +kernel
theorem dX0_read_13 : decode cX0_read 13 = .ok (.ifCond .eq 6, 3) := by decide +kernel
theorem dX0_read_16 : decode cX0_read 16 = .ok (.bipush (-2), 2) := by decide +kernel
theorem dX0_read_18 : decode cX0_read 18 = .ok (.ireturn, 1) := by decide +kernel
theorem dX0_read_19 : decode cX0_read 19 = .ok (.iload_n 3, 1) := by decide +kernel
theorem dX0_read_20 : decode cX0_read 20 = .ok (.ifCond .lt 10, 3) := by decide +kernel
theorem dX0_read_23 : decode cX0_read 23 = .ok (.iload_n 3, 1) := by decide +kernel
theorem dX0_read_24 : decode cX0_read 24 = .ok (.sipush 999, 3) := by decide +kernel
theorem dX0_read_27 : decode cX0_read 27 = .ok (.if_icmp .le 6, 3) := by decide +kernel
theorem dX0_read_30 : decode cX0_read 30 = .ok (.bipush (-3), 2) := by decide +kernel
theorem dX0_read_32 : decode cX0_read 32 = .ok (.ireturn, 1) := by decide +kernel
theorem dX0_read_33 : decode cX0_read 33 = .ok (.iload_n 1, 1) := by decide +kernel
theorem dX0_read_34 : decode cX0_read 34 = .ok (.bipush 48, 2) := by decide +kernel
theorem dX0_read_36 : decode cX0_read 36 = .ok (.imul, 1) := by decide +kernel
theorem dX0_read_37 : decode cX0_read 37 = .ok (.iload_n 2, 1) := by decide +kernel
theorem dX0_read_38 : decode cX0_read 38 = .ok (.iadd, 1) := by decide +kernel
theorem dX0_read_39 : decode cX0_read 39 = .ok (.istore 4, 2) := by decide +kernel
theorem dX0_read_41 : decode cX0_read 41 = .ok (.aload_n 0, 1) := by decide +kernel
theorem dX0_read_42 : decode cX0_read 42 = .ok (.iload_n 1, 1) := by decide +kernel
theorem dX0_read_43 : decode cX0_read 43 = .ok (.iload_n 2, 1) := by decide +kernel
theorem dX0_read_44 : decode cX0_read 44 = .ok (.invokevirtual 70, 3) := by decide +kernel
theorem dX0_read_47 : decode cX0_read 47 = .ok (.aload_n 0, 1) := by decide +kernel
theorem dX0_read_48 : decode cX0_read 48 = .ok (.getfield 16, 3) := by decide +kernel
theorem dX0_read_51 : decode cX0_read 51 = .ok (.iload 4, 2) := by decide +kernel
theorem dX0_read_53 : decode cX0_read 53 = .ok (.iconst 1, 1) := by decide +kernel
theorem dX0_read_54 : decode cX0_read 54 = .ok (.bastore, 1) := by decide +kernel
theorem dX0_read_55 : decode cX0_read 55 = .ok (.aload_n 0, 1) := by decide +kernel
theorem dX0_read_56 : decode cX0_read 56 = .ok (.getfield 20, 3) := by decide +kernel
theorem dX0_read_59 : decode cX0_read 59 = .ok (.iload 4, 2) := by decide +kernel
theorem dX0_read_61 : decode cX0_read 61 = .ok (.iload_n 3, 1) := by decide +kernel
theorem dX0_read_62 : decode cX0_read 62 = .ok (.iastore, 1) := by decide +kernel
theorem dX0_read_63 : decode cX0_read 63 = .ok (.iload_n 1, 1) := by decide +kernel
theorem dX0_read_64 : decode cX0_read 64 = .ok (.bipush 6, 2) := by decide +kernel
theorem dX0_read_66 : decode cX0_read 66 = .ok (.imul, 1) := by decide +kernel
theorem dX0_read_67 : decode cX0_read 67 = .ok (.iload_n 2, 1) := by decide +kernel
theorem dX0_read_68 : decode cX0_read 68 = .ok (.bipush 8, 2) := by decide +kernel
theorem dX0_read_70 : decode cX0_read 70 = .ok (.idiv, 1) := by decide +kernel
theorem dX0_read_71 : decode cX0_read 71 = .ok (.iadd, 1) := by decide +kernel
theorem dX0_read_72 : decode cX0_read 72 = .ok (.istore 5, 2) := by decide +kernel
theorem dX0_read_74 : decode cX0_read 74 = .ok (.aload_n 0, 1) := by decide +kernel
theorem dX0_read_75 : decode cX0_read 75 = .ok (.getfield 26, 3) := by decide +kernel
theorem dX0_read_78 : decode cX0_read 78 = .ok (.iload 5, 2) := by decide +kernel
theorem dX0_read_80 : decode cX0_read 80 = .ok (.dup2, 1) := by decide +kernel
theorem dX0_read_81 : decode cX0_read 81 = .ok (.iaload, 1) := by decide +kernel
theorem dX0_read_82 : decode cX0_read 82 = .ok (.iconst 1, 1) := by decide +kernel
theorem dX0_read_83 : decode cX0_read 83 = .ok (.iadd, 1) := by decide +kernel
theorem dX0_read_84 : decode cX0_read 84 = .ok (.iastore, 1) := by decide +kernel
theorem dX0_read_85 : decode cX0_read 85 = .ok (.aload_n 0, 1) := by decide +kernel
theorem dX0_read_86 : decode cX0_read 86 = .ok (.getfield 29, 3) := by decide +kernel
theorem dX0_read_89 : decode cX0_read 89 = .ok (.iload 5, 2) := by decide +kernel
theorem dX0_read_91 : decode cX0_read 91 = .ok (.dup2, 1) := by decide +kernel
theorem dX0_read_92 : decode cX0_read 92 = .ok (.iaload, 1) := by decide +kernel
theorem dX0_read_93 : decode cX0_read 93 = .ok (.iload_n 3, 1) := by decide +kernel
theorem dX0_read_94 : decode cX0_read 94 = .ok (.iadd, 1) := by decide +kernel
theorem dX0_read_95 : decode cX0_read 95 = .ok (.iastore, 1) := by decide +kernel
theorem dX0_read_96 : decode cX0_read 96 = .ok (.aload_n 0, 1) := by decide +kernel
theorem dX0_read_97 : decode cX0_read 97 = .ok (.iload_n 1, 1) := by decide +kernel
theorem dX0_read_98 : decode cX0_read 98 = .ok (.iload_n 2, 1) := by decide +kernel
theorem dX0_read_99 : decode cX0_read 99 = .ok (.invokevirtual 74, 3) := by decide +kernel
theorem dX0_read_102 : decode cX0_read 102 = .ok (.ireturn, 1) := by decide +kernel
abbrev cX0_badAccount : ByteArray := prog_1_method_2_code
def yX0_badAccount : MethodName := ⟨RX0, "badAccount", "(I)Z"⟩
theorem dX0_badAccount_0 : decode cX0_badAccount 0 = .ok (.iload_n 0, 1) := by decide +kernel
theorem dX0_badAccount_1 : decode cX0_badAccount 1 = .ok (.ifCond .lt 8, 3) := by decide +kernel
theorem dX0_badAccount_4 : decode cX0_badAccount 4 = .ok (.iload_n 0, 1) := by decide +kernel
theorem dX0_badAccount_5 : decode cX0_badAccount 5 = .ok (.iconst 1, 1) := by decide +kernel
theorem dX0_badAccount_6 : decode cX0_badAccount 6 = .ok (.if_icmp .le 7, 3) := by decide +kernel
theorem dX0_badAccount_9 : decode cX0_badAccount 9 = .ok (.iconst 1, 1) := by decide +kernel
theorem dX0_badAccount_10 : decode cX0_badAccount 10 = .ok (.goto 4, 3) := by decide +kernel
theorem dX0_badAccount_13 : decode cX0_badAccount 13 = .ok (.iconst 0, 1) := by decide +kernel
theorem dX0_badAccount_14 : decode cX0_badAccount 14 = .ok (.ireturn, 1) := by decide +kernel
abbrev cX0_badInterval : ByteArray := prog_1_method_3_code
def yX0_badInterval : MethodName := ⟨RX0, "badInterval", "(I)Z"⟩
theorem dX0_badInterval_0 : decode cX0_badInterval 0 = .ok (.iload_n 0, 1) := by decide +kernel
theorem dX0_badInterval_1 : decode cX0_badInterval 1 = .ok (.ifCond .lt 9, 3) := by decide +kernel
theorem dX0_badInterval_4 : decode cX0_badInterval 4 = .ok (.iload_n 0, 1) := by decide +kernel
theorem dX0_badInterval_5 : decode cX0_badInterval 5 = .ok (.bipush 48, 2) := by decide +kernel
theorem dX0_badInterval_7 : decode cX0_badInterval 7 = .ok (.if_icmp .lt 7, 3) := by decide +kernel
theorem dX0_badInterval_10 : decode cX0_badInterval 10 = .ok (.iconst 1, 1) := by decide +kernel
theorem dX0_badInterval_11 : decode cX0_badInterval 11 = .ok (.goto 4, 3) := by decide +kernel
theorem dX0_badInterval_14 : decode cX0_badInterval 14 = .ok (.iconst 0, 1) := by decide +kernel
theorem dX0_badInterval_15 : decode cX0_badInterval 15 = .ok (.ireturn, 1) := by decide +kernel
abbrev cX0_forgetRead : ByteArray := prog_1_method_7_code
def yX0_forgetRead : MethodName := ⟨RX0, "forgetRead", "(II)V"⟩
theorem dX0_forgetRead_0 : decode cX0_forgetRead 0 = .ok (.iload_n 1, 1) := by decide +kernel
theorem dX0_forgetRead_1 : decode cX0_forgetRead 1 = .ok (.bipush 48, 2) := by decide +kernel
theorem dX0_forgetRead_3 : decode cX0_forgetRead 3 = .ok (.imul, 1) := by decide +kernel
theorem dX0_forgetRead_4 : decode cX0_forgetRead 4 = .ok (.iload_n 2, 1) := by decide +kernel
theorem dX0_forgetRead_5 : decode cX0_forgetRead 5 = .ok (.iadd, 1) := by decide +kernel
theorem dX0_forgetRead_6 : decode cX0_forgetRead 6 = .ok (.istore_n 3, 1) := by decide +kernel
theorem dX0_forgetRead_7 : decode cX0_forgetRead 7 = .ok (.aload_n 0, 1) := by decide +kernel
theorem dX0_forgetRead_8 : decode cX0_forgetRead 8 = .ok (.getfield 16, 3) := by decide +kernel
theorem dX0_forgetRead_11 : decode cX0_forgetRead 11 = .ok (.iload_n 3, 1) := by decide +kernel
theorem dX0_forgetRead_12 : decode cX0_forgetRead 12 = .ok (.baload, 1) := by decide +kernel
theorem dX0_forgetRead_13 : decode cX0_forgetRead 13 = .ok (.ifCond .ne 4, 3) := by decide +kernel
theorem dX0_forgetRead_16 : decode cX0_forgetRead 16 = .ok (.return_, 1) := by decide +kernel
theorem dX0_forgetRead_17 : decode cX0_forgetRead 17 = .ok (.iload_n 1, 1) := by decide +kernel
theorem dX0_forgetRead_18 : decode cX0_forgetRead 18 = .ok (.bipush 6, 2) := by decide +kernel
theorem dX0_forgetRead_20 : decode cX0_forgetRead 20 = .ok (.imul, 1) := by decide +kernel
theorem dX0_forgetRead_21 : decode cX0_forgetRead 21 = .ok (.iload_n 2, 1) := by decide +kernel
theorem dX0_forgetRead_22 : decode cX0_forgetRead 22 = .ok (.bipush 8, 2) := by decide +kernel
theorem dX0_forgetRead_24 : decode cX0_forgetRead 24 = .ok (.idiv, 1) := by decide +kernel
theorem dX0_forgetRead_25 : decode cX0_forgetRead 25 = .ok (.iadd, 1) := by decide +kernel
theorem dX0_forgetRead_26 : decode cX0_forgetRead 26 = .ok (.istore 4, 2) := by decide +kernel
theorem dX0_forgetRead_28 : decode cX0_forgetRead 28 = .ok (.aload_n 0, 1) := by decide +kernel
theorem dX0_forgetRead_29 : decode cX0_forgetRead 29 = .ok (.getfield 16, 3) := by decide +kernel
theorem dX0_forgetRead_32 : decode cX0_forgetRead 32 = .ok (.iload_n 3, 1) := by decide +kernel
theorem dX0_forgetRead_33 : decode cX0_forgetRead 33 = .ok (.iconst 0, 1) := by decide +kernel
theorem dX0_forgetRead_34 : decode cX0_forgetRead 34 = .ok (.bastore, 1) := by decide +kernel
theorem dX0_forgetRead_35 : decode cX0_forgetRead 35 = .ok (.aload_n 0, 1) := by decide +kernel
theorem dX0_forgetRead_36 : decode cX0_forgetRead 36 = .ok (.getfield 26, 3) := by decide +kernel
theorem dX0_forgetRead_39 : decode cX0_forgetRead 39 = .ok (.iload 4, 2) := by decide +kernel
theorem dX0_forgetRead_41 : decode cX0_forgetRead 41 = .ok (.dup2, 1) := by decide +kernel
theorem dX0_forgetRead_42 : decode cX0_forgetRead 42 = .ok (.iaload, 1) := by decide +kernel
theorem dX0_forgetRead_43 : decode cX0_forgetRead 43 = .ok (.iconst 1, 1) := by decide +kernel
theorem dX0_forgetRead_44 : decode cX0_forgetRead 44 = .ok (.isub, 1) := by decide +kernel
theorem dX0_forgetRead_45 : decode cX0_forgetRead 45 = .ok (.iastore, 1) := by decide +kernel
theorem dX0_forgetRead_46 : decode cX0_forgetRead 46 = .ok (.aload_n 0, 1) := by decide +kernel
theorem dX0_forgetRead_47 : decode cX0_forgetRead 47 = .ok (.getfield 29, 3) := by decide +kernel
theorem dX0_forgetRead_50 : decode cX0_forgetRead 50 = .ok (.iload 4, 2) := by decide +kernel
theorem dX0_forgetRead_52 : decode cX0_forgetRead 52 = .ok (.dup2, 1) := by decide +kernel
theorem dX0_forgetRead_53 : decode cX0_forgetRead 53 = .ok (.iaload, 1) := by decide +kernel
theorem dX0_forgetRead_54 : decode cX0_forgetRead 54 = .ok (.aload_n 0, 1) := by decide +kernel
theorem dX0_forgetRead_55 : decode cX0_forgetRead 55 = .ok (.getfield 20, 3) := by decide +kernel
theorem dX0_forgetRead_58 : decode cX0_forgetRead 58 = .ok (.iload_n 3, 1) := by decide +kernel
theorem dX0_forgetRead_59 : decode cX0_forgetRead 59 = .ok (.iaload, 1) := by decide +kernel
theorem dX0_forgetRead_60 : decode cX0_forgetRead 60 = .ok (.isub, 1) := by decide +kernel
theorem dX0_forgetRead_61 : decode cX0_forgetRead 61 = .ok (.iastore, 1) := by decide +kernel
theorem dX0_forgetRead_62 : decode cX0_forgetRead 62 = .ok (.return_, 1) := by decide +kernel
abbrev cX0_refresh : ByteArray := prog_1_method_9_code
def yX0_refresh : MethodName := ⟨RX0, "refresh", "(II)I"⟩
theorem dX0_refresh_0 : decode cX0_refresh 0 = .ok (.iload_n 2, 1) := by decide +kernel
theorem dX0_refresh_1 : decode cX0_refresh 1 = .ok (.bipush 8, 2) := by decide +kernel
theorem dX0_refresh_3 : decode cX0_refresh 3 = .ok (.idiv, 1) := by decide +kernel
theorem dX0_refresh_4 : decode cX0_refresh 4 = .ok (.istore_n 3, 1) := by decide +kernel
theorem dX0_refresh_5 : decode cX0_refresh 5 = .ok (.iload_n 3, 1) := by decide +kernel
theorem dX0_refresh_6 : decode cX0_refresh 6 = .ok (.bipush 8, 2) := by decide +kernel
theorem dX0_refresh_8 : decode cX0_refresh 8 = .ok (.imul, 1) := by decide +kernel
theorem dX0_refresh_9 : decode cX0_refresh 9 = .ok (.istore 4, 2) := by decide +kernel
theorem dX0_refresh_11 : decode cX0_refresh 11 = .ok (.iload 4, 2) := by decide +kernel
theorem dX0_refresh_13 : decode cX0_refresh 13 = .ok (.iload_n 3, 1) := by decide +kernel
theorem dX0_refresh_14 : decode cX0_refresh 14 = .ok (.bipush 8, 2) := by decide +kernel
theorem dX0_refresh_16 : decode cX0_refresh 16 = .ok (.imul, 1) := by decide +kernel
theorem dX0_refresh_17 : decode cX0_refresh 17 = .ok (.bipush 8, 2) := by decide +kernel
theorem dX0_refresh_19 : decode cX0_refresh 19 = .ok (.iadd, 1) := by decide +kernel
theorem dX0_refresh_20 : decode cX0_refresh 20 = .ok (.if_icmp .ge 16, 3) := by decide +kernel
theorem dX0_refresh_23 : decode cX0_refresh 23 = .ok (.aload_n 0, 1) := by decide +kernel
theorem dX0_refresh_24 : decode cX0_refresh 24 = .ok (.iload_n 1, 1) := by decide +kernel
theorem dX0_refresh_25 : decode cX0_refresh 25 = .ok (.iload 4, 2) := by decide +kernel
theorem dX0_refresh_27 : decode cX0_refresh 27 = .ok (.invokevirtual 78, 3) := by decide +kernel
theorem dX0_refresh_30 : decode cX0_refresh 30 = .ok (.iinc 4 1, 3) := by decide +kernel
theorem dX0_refresh_33 : decode cX0_refresh 33 = .ok (.goto (-22), 3) := by decide +kernel
theorem dX0_refresh_36 : decode cX0_refresh 36 = .ok (.iconst 1, 1) := by decide +kernel
theorem dX0_refresh_37 : decode cX0_refresh 37 = .ok (.istore 4, 2) := by decide +kernel
theorem dX0_refresh_39 : decode cX0_refresh 39 = .ok (.iload_n 2, 1) := by decide +kernel
theorem dX0_refresh_40 : decode cX0_refresh 40 = .ok (.bipush 8, 2) := by decide +kernel
theorem dX0_refresh_42 : decode cX0_refresh 42 = .ok (.iadd, 1) := by decide +kernel
theorem dX0_refresh_43 : decode cX0_refresh 43 = .ok (.istore 5, 2) := by decide +kernel
theorem dX0_refresh_45 : decode cX0_refresh 45 = .ok (.iload 5, 2) := by decide +kernel
theorem dX0_refresh_47 : decode cX0_refresh 47 = .ok (.bipush 48, 2) := by decide +kernel
theorem dX0_refresh_49 : decode cX0_refresh 49 = .ok (.if_icmp .ge 48, 3) := by decide +kernel
theorem dX0_refresh_52 : decode cX0_refresh 52 = .ok (.iload 4, 2) := by decide +kernel
theorem dX0_refresh_54 : decode cX0_refresh 54 = .ok (.ifCond .eq 43, 3) := by decide +kernel
theorem dX0_refresh_57 : decode cX0_refresh 57 = .ok (.aload_n 0, 1) := by decide +kernel
theorem dX0_refresh_58 : decode cX0_refresh 58 = .ok (.getfield 16, 3) := by decide +kernel
theorem dX0_refresh_61 : decode cX0_refresh 61 = .ok (.iload_n 1, 1) := by decide +kernel
theorem dX0_refresh_62 : decode cX0_refresh 62 = .ok (.bipush 48, 2) := by decide +kernel
theorem dX0_refresh_64 : decode cX0_refresh 64 = .ok (.imul, 1) := by decide +kernel
theorem dX0_refresh_65 : decode cX0_refresh 65 = .ok (.iload 5, 2) := by decide +kernel
theorem dX0_refresh_67 : decode cX0_refresh 67 = .ok (.iadd, 1) := by decide +kernel
theorem dX0_refresh_68 : decode cX0_refresh 68 = .ok (.baload, 1) := by decide +kernel
theorem dX0_refresh_69 : decode cX0_refresh 69 = .ok (.ifCond .ne 7, 3) := by decide +kernel
theorem dX0_refresh_72 : decode cX0_refresh 72 = .ok (.iconst 1, 1) := by decide +kernel
theorem dX0_refresh_73 : decode cX0_refresh 73 = .ok (.goto 4, 3) := by decide +kernel
theorem dX0_refresh_76 : decode cX0_refresh 76 = .ok (.iconst 0, 1) := by decide +kernel
theorem dX0_refresh_77 : decode cX0_refresh 77 = .ok (.istore 4, 2) := by decide +kernel
theorem dX0_refresh_79 : decode cX0_refresh 79 = .ok (.iload 4, 2) := by decide +kernel
theorem dX0_refresh_81 : decode cX0_refresh 81 = .ok (.ifCond .eq 10, 3) := by decide +kernel
theorem dX0_refresh_84 : decode cX0_refresh 84 = .ok (.aload_n 0, 1) := by decide +kernel
theorem dX0_refresh_85 : decode cX0_refresh 85 = .ok (.iload_n 1, 1) := by decide +kernel
theorem dX0_refresh_86 : decode cX0_refresh 86 = .ok (.iload 5, 2) := by decide +kernel
theorem dX0_refresh_88 : decode cX0_refresh 88 = .ok (.invokevirtual 78, 3) := by decide +kernel
theorem dX0_refresh_91 : decode cX0_refresh 91 = .ok (.iinc 5 8, 3) := by decide +kernel
theorem dX0_refresh_94 : decode cX0_refresh 94 = .ok (.goto (-49), 3) := by decide +kernel
theorem dX0_refresh_97 : decode cX0_refresh 97 = .ok (.iconst 0, 1) := by decide +kernel
theorem dX0_refresh_98 : decode cX0_refresh 98 = .ok (.istore 5, 2) := by decide +kernel
theorem dX0_refresh_100 : decode cX0_refresh 100 = .ok (.iload_n 3, 1) := by decide +kernel
theorem dX0_refresh_101 : decode cX0_refresh 101 = .ok (.istore 6, 2) := by decide +kernel
theorem dX0_refresh_103 : decode cX0_refresh 103 = .ok (.iload 6, 2) := by decide +kernel
theorem dX0_refresh_105 : decode cX0_refresh 105 = .ok (.aload_n 0, 1) := by decide +kernel
theorem dX0_refresh_106 : decode cX0_refresh 106 = .ok (.getfield 59, 3) := by decide +kernel
theorem dX0_refresh_109 : decode cX0_refresh 109 = .ok (.if_icmp .ge 26, 3) := by decide +kernel
theorem dX0_refresh_112 : decode cX0_refresh 112 = .ok (.aload_n 0, 1) := by decide +kernel
theorem dX0_refresh_113 : decode cX0_refresh 113 = .ok (.iload_n 1, 1) := by decide +kernel
theorem dX0_refresh_114 : decode cX0_refresh 114 = .ok (.iload 6, 2) := by decide +kernel
theorem dX0_refresh_116 : decode cX0_refresh 116 = .ok (.invokevirtual 81, 3) := by decide +kernel
theorem dX0_refresh_119 : decode cX0_refresh 119 = .ok (.istore 7, 2) := by decide +kernel
theorem dX0_refresh_121 : decode cX0_refresh 121 = .ok (.iload 7, 2) := by decide +kernel
theorem dX0_refresh_123 : decode cX0_refresh 123 = .ok (.ifCond .eq 6, 3) := by decide +kernel
theorem dX0_refresh_126 : decode cX0_refresh 126 = .ok (.iinc 5 1, 3) := by decide +kernel
theorem dX0_refresh_129 : decode cX0_refresh 129 = .ok (.iinc 6 1, 3) := by decide +kernel
theorem dX0_refresh_132 : decode cX0_refresh 132 = .ok (.goto (-29), 3) := by decide +kernel
theorem dX0_refresh_135 : decode cX0_refresh 135 = .ok (.iload 5, 2) := by decide +kernel
theorem dX0_refresh_137 : decode cX0_refresh 137 = .ok (.ireturn, 1) := by decide +kernel
abbrev cX0_update : ByteArray := prog_1_method_10_code
def yX0_update : MethodName := ⟨RX0, "update", "(II)V"⟩
theorem dX0_update_0 : decode cX0_update 0 = .ok (.iload_n 1, 1) := by decide +kernel
theorem dX0_update_1 : decode cX0_update 1 = .ok (.bipush 48, 2) := by decide +kernel
theorem dX0_update_3 : decode cX0_update 3 = .ok (.imul, 1) := by decide +kernel
theorem dX0_update_4 : decode cX0_update 4 = .ok (.iload_n 2, 1) := by decide +kernel
theorem dX0_update_5 : decode cX0_update 5 = .ok (.iadd, 1) := by decide +kernel
theorem dX0_update_6 : decode cX0_update 6 = .ok (.istore_n 3, 1) := by decide +kernel
theorem dX0_update_7 : decode cX0_update 7 = .ok (.aload_n 0, 1) := by decide +kernel
theorem dX0_update_8 : decode cX0_update 8 = .ok (.iload_n 1, 1) := by decide +kernel
theorem dX0_update_9 : decode cX0_update 9 = .ok (.iload_n 2, 1) := by decide +kernel
theorem dX0_update_10 : decode cX0_update 10 = .ok (.invokevirtual 85, 3) := by decide +kernel
theorem dX0_update_13 : decode cX0_update 13 = .ok (.istore 4, 2) := by decide +kernel
theorem dX0_update_15 : decode cX0_update 15 = .ok (.aload_n 0, 1) := by decide +kernel
theorem dX0_update_16 : decode cX0_update 16 = .ok (.getfield 23, 3) := by decide +kernel
theorem dX0_update_19 : decode cX0_update 19 = .ok (.iload_n 3, 1) := by decide +kernel
theorem dX0_update_20 : decode cX0_update 20 = .ok (.iaload, 1) := by decide +kernel
theorem dX0_update_21 : decode cX0_update 21 = .ok (.istore 5, 2) := by decide +kernel
theorem dX0_update_23 : decode cX0_update 23 = .ok (.iload 4, 2) := by decide +kernel
theorem dX0_update_25 : decode cX0_update 25 = .ok (.iload 5, 2) := by decide +kernel
theorem dX0_update_27 : decode cX0_update 27 = .ok (.if_icmp .ne 4, 3) := by decide +kernel
theorem dX0_update_30 : decode cX0_update 30 = .ok (.return_, 1) := by decide +kernel
theorem dX0_update_31 : decode cX0_update 31 = .ok (.aload_n 0, 1) := by decide +kernel
theorem dX0_update_32 : decode cX0_update 32 = .ok (.getfield 23, 3) := by decide +kernel
theorem dX0_update_35 : decode cX0_update 35 = .ok (.iload_n 3, 1) := by decide +kernel
theorem dX0_update_36 : decode cX0_update 36 = .ok (.iload 4, 2) := by decide +kernel
theorem dX0_update_38 : decode cX0_update 38 = .ok (.iastore, 1) := by decide +kernel
theorem dX0_update_39 : decode cX0_update 39 = .ok (.iload_n 2, 1) := by decide +kernel
theorem dX0_update_40 : decode cX0_update 40 = .ok (.bipush 8, 2) := by decide +kernel
theorem dX0_update_42 : decode cX0_update 42 = .ok (.irem, 1) := by decide +kernel
theorem dX0_update_43 : decode cX0_update 43 = .ok (.istore 6, 2) := by decide +kernel
theorem dX0_update_45 : decode cX0_update 45 = .ok (.iload_n 1, 1) := by decide +kernel
theorem dX0_update_46 : decode cX0_update 46 = .ok (.bipush 6, 2) := by decide +kernel
theorem dX0_update_48 : decode cX0_update 48 = .ok (.imul, 1) := by decide +kernel
theorem dX0_update_49 : decode cX0_update 49 = .ok (.iload_n 2, 1) := by decide +kernel
theorem dX0_update_50 : decode cX0_update 50 = .ok (.bipush 8, 2) := by decide +kernel
theorem dX0_update_52 : decode cX0_update 52 = .ok (.idiv, 1) := by decide +kernel
theorem dX0_update_53 : decode cX0_update 53 = .ok (.iadd, 1) := by decide +kernel
theorem dX0_update_54 : decode cX0_update 54 = .ok (.istore 7, 2) := by decide +kernel
theorem dX0_update_56 : decode cX0_update 56 = .ok (.iload 6, 2) := by decide +kernel
theorem dX0_update_58 : decode cX0_update 58 = .ok (.iconst 3, 1) := by decide +kernel
theorem dX0_update_59 : decode cX0_update 59 = .ok (.if_icmp .ge 21, 3) := by decide +kernel
theorem dX0_update_62 : decode cX0_update 62 = .ok (.aload_n 0, 1) := by decide +kernel
theorem dX0_update_63 : decode cX0_update 63 = .ok (.getfield 32, 3) := by decide +kernel
theorem dX0_update_66 : decode cX0_update 66 = .ok (.iload 7, 2) := by decide +kernel
theorem dX0_update_68 : decode cX0_update 68 = .ok (.dup2, 1) := by decide +kernel
theorem dX0_update_69 : decode cX0_update 69 = .ok (.iaload, 1) := by decide +kernel
theorem dX0_update_70 : decode cX0_update 70 = .ok (.iload 4, 2) := by decide +kernel
theorem dX0_update_72 : decode cX0_update 72 = .ok (.iload 5, 2) := by decide +kernel
theorem dX0_update_74 : decode cX0_update 74 = .ok (.isub, 1) := by decide +kernel
theorem dX0_update_75 : decode cX0_update 75 = .ok (.iadd, 1) := by decide +kernel
theorem dX0_update_76 : decode cX0_update 76 = .ok (.iastore, 1) := by decide +kernel
theorem dX0_update_77 : decode cX0_update 77 = .ok (.goto 42, 3) := by decide +kernel
theorem dX0_update_80 : decode cX0_update 80 = .ok (.iload 6, 2) := by decide +kernel
theorem dX0_update_82 : decode cX0_update 82 = .ok (.iconst 5, 1) := by decide +kernel
theorem dX0_update_83 : decode cX0_update 83 = .ok (.if_icmp .ge 21, 3) := by decide +kernel
theorem dX0_update_86 : decode cX0_update 86 = .ok (.aload_n 0, 1) := by decide +kernel
theorem dX0_update_87 : decode cX0_update 87 = .ok (.getfield 35, 3) := by decide +kernel
theorem dX0_update_90 : decode cX0_update 90 = .ok (.iload 7, 2) := by decide +kernel
theorem dX0_update_92 : decode cX0_update 92 = .ok (.dup2, 1) := by decide +kernel
theorem dX0_update_93 : decode cX0_update 93 = .ok (.iaload, 1) := by decide +kernel
theorem dX0_update_94 : decode cX0_update 94 = .ok (.iload 4, 2) := by decide +kernel
theorem dX0_update_96 : decode cX0_update 96 = .ok (.iload 5, 2) := by decide +kernel
theorem dX0_update_98 : decode cX0_update 98 = .ok (.isub, 1) := by decide +kernel
theorem dX0_update_99 : decode cX0_update 99 = .ok (.iadd, 1) := by decide +kernel
theorem dX0_update_100 : decode cX0_update 100 = .ok (.iastore, 1) := by decide +kernel
theorem dX0_update_101 : decode cX0_update 101 = .ok (.goto 18, 3) := by decide +kernel
theorem dX0_update_104 : decode cX0_update 104 = .ok (.aload_n 0, 1) := by decide +kernel
theorem dX0_update_105 : decode cX0_update 105 = .ok (.getfield 38, 3) := by decide +kernel
theorem dX0_update_108 : decode cX0_update 108 = .ok (.iload 7, 2) := by decide +kernel
theorem dX0_update_110 : decode cX0_update 110 = .ok (.dup2, 1) := by decide +kernel
theorem dX0_update_111 : decode cX0_update 111 = .ok (.iaload, 1) := by decide +kernel
theorem dX0_update_112 : decode cX0_update 112 = .ok (.iload 4, 2) := by decide +kernel
theorem dX0_update_114 : decode cX0_update 114 = .ok (.iload 5, 2) := by decide +kernel
theorem dX0_update_116 : decode cX0_update 116 = .ok (.isub, 1) := by decide +kernel
theorem dX0_update_117 : decode cX0_update 117 = .ok (.iadd, 1) := by decide +kernel
theorem dX0_update_118 : decode cX0_update 118 = .ok (.iastore, 1) := by decide +kernel
theorem dX0_update_119 : decode cX0_update 119 = .ok (.iload 4, 2) := by decide +kernel
theorem dX0_update_121 : decode cX0_update 121 = .ok (.aload_n 0, 1) := by decide +kernel
theorem dX0_update_122 : decode cX0_update 122 = .ok (.getfield 41, 3) := by decide +kernel
theorem dX0_update_125 : decode cX0_update 125 = .ok (.iload 7, 2) := by decide +kernel
theorem dX0_update_127 : decode cX0_update 127 = .ok (.iaload, 1) := by decide +kernel
theorem dX0_update_128 : decode cX0_update 128 = .ok (.if_icmp .lt 15, 3) := by decide +kernel
theorem dX0_update_131 : decode cX0_update 131 = .ok (.aload_n 0, 1) := by decide +kernel
theorem dX0_update_132 : decode cX0_update 132 = .ok (.getfield 41, 3) := by decide +kernel
theorem dX0_update_135 : decode cX0_update 135 = .ok (.iload 7, 2) := by decide +kernel
theorem dX0_update_137 : decode cX0_update 137 = .ok (.iload 4, 2) := by decide +kernel
theorem dX0_update_139 : decode cX0_update 139 = .ok (.iastore, 1) := by decide +kernel
theorem dX0_update_140 : decode cX0_update 140 = .ok (.goto 21, 3) := by decide +kernel
theorem dX0_update_143 : decode cX0_update 143 = .ok (.iload 5, 2) := by decide +kernel
theorem dX0_update_145 : decode cX0_update 145 = .ok (.aload_n 0, 1) := by decide +kernel
theorem dX0_update_146 : decode cX0_update 146 = .ok (.getfield 41, 3) := by decide +kernel
theorem dX0_update_149 : decode cX0_update 149 = .ok (.iload 7, 2) := by decide +kernel
theorem dX0_update_151 : decode cX0_update 151 = .ok (.iaload, 1) := by decide +kernel
theorem dX0_update_152 : decode cX0_update 152 = .ok (.if_icmp .ne 9, 3) := by decide +kernel
theorem dX0_update_155 : decode cX0_update 155 = .ok (.aload_n 0, 1) := by decide +kernel
theorem dX0_update_156 : decode cX0_update 156 = .ok (.iload 7, 2) := by decide +kernel
theorem dX0_update_158 : decode cX0_update 158 = .ok (.invokevirtual 88, 3) := by decide +kernel
theorem dX0_update_161 : decode cX0_update 161 = .ok (.return_, 1) := by decide +kernel
end
section
set_option maxRecDepth 100000
abbrev cX0_rule : ByteArray := prog_1_method_8_code
def yX0_rule : MethodName := ⟨RX0, "rule", "(II)I"⟩
theorem dX0_rule_0 : decode cX0_rule 0 = .ok (.iload_n 2, 1) := by decide +kernel
theorem dX0_rule_1 : decode cX0_rule 1 = .ok (.istore_n 3, 1) := by decide +kernel
theorem dX0_rule_2 : decode cX0_rule 2 = .ok (.iload_n 3, 1) := by decide +kernel
theorem dX0_rule_3 : decode cX0_rule 3 = .ok (.ifCond .lt 35, 3) := by decide +kernel
theorem dX0_rule_6 : decode cX0_rule 6 = .ok (.aload_n 0, 1) := by decide +kernel
theorem dX0_rule_7 : decode cX0_rule 7 = .ok (.getfield 16, 3) := by decide +kernel
theorem dX0_rule_10 : decode cX0_rule 10 = .ok (.iload_n 1, 1) := by decide +kernel
theorem dX0_rule_11 : decode cX0_rule 11 = .ok (.bipush 48, 2) := by decide +kernel
theorem dX0_rule_13 : decode cX0_rule 13 = .ok (.imul, 1) := by decide +kernel
theorem dX0_rule_14 : decode cX0_rule 14 = .ok (.iload_n 3, 1) := by decide +kernel
theorem dX0_rule_15 : decode cX0_rule 15 = .ok (.iadd, 1) := by decide +kernel
theorem dX0_rule_16 : decode cX0_rule 16 = .ok (.baload, 1) := by decide +kernel
theorem dX0_rule_17 : decode cX0_rule 17 = .ok (.ifCond .eq 15, 3) := by decide +kernel
theorem dX0_rule_20 : decode cX0_rule 20 = .ok (.aload_n 0, 1) := by decide +kernel
theorem dX0_rule_21 : decode cX0_rule 21 = .ok (.getfield 20, 3) := by decide +kernel
theorem dX0_rule_24 : decode cX0_rule 24 = .ok (.iload_n 1, 1) := by decide +kernel
theorem dX0_rule_25 : decode cX0_rule 25 = .ok (.bipush 48, 2) := by decide +kernel
theorem dX0_rule_27 : decode cX0_rule 27 = .ok (.imul, 1) := by decide +kernel
theorem dX0_rule_28 : decode cX0_rule 28 = .ok (.iload_n 3, 1) := by decide +kernel
theorem dX0_rule_29 : decode cX0_rule 29 = .ok (.iadd, 1) := by decide +kernel
theorem dX0_rule_30 : decode cX0_rule 30 = .ok (.iaload, 1) := by decide +kernel
theorem dX0_rule_31 : decode cX0_rule 31 = .ok (.ireturn, 1) := by decide +kernel
theorem dX0_rule_32 : decode cX0_rule 32 = .ok (.iinc 3 (-8), 3) := by decide +kernel
theorem dX0_rule_35 : decode cX0_rule 35 = .ok (.goto (-33), 3) := by decide +kernel
theorem dX0_rule_38 : decode cX0_rule 38 = .ok (.iload_n 1, 1) := by decide +kernel
theorem dX0_rule_39 : decode cX0_rule 39 = .ok (.bipush 6, 2) := by decide +kernel
theorem dX0_rule_41 : decode cX0_rule 41 = .ok (.imul, 1) := by decide +kernel
theorem dX0_rule_42 : decode cX0_rule 42 = .ok (.iload_n 2, 1) := by decide +kernel
theorem dX0_rule_43 : decode cX0_rule 43 = .ok (.bipush 8, 2) := by decide +kernel
theorem dX0_rule_45 : decode cX0_rule 45 = .ok (.idiv, 1) := by decide +kernel
theorem dX0_rule_46 : decode cX0_rule 46 = .ok (.iadd, 1) := by decide +kernel
theorem dX0_rule_47 : decode cX0_rule 47 = .ok (.istore_n 3, 1) := by decide +kernel
theorem dX0_rule_48 : decode cX0_rule 48 = .ok (.aload_n 0, 1) := by decide +kernel
theorem dX0_rule_49 : decode cX0_rule 49 = .ok (.getfield 26, 3) := by decide +kernel
theorem dX0_rule_52 : decode cX0_rule 52 = .ok (.iload_n 3, 1) := by decide +kernel
theorem dX0_rule_53 : decode cX0_rule 53 = .ok (.iaload, 1) := by decide +kernel
theorem dX0_rule_54 : decode cX0_rule 54 = .ok (.istore 4, 2) := by decide +kernel
theorem dX0_rule_56 : decode cX0_rule 56 = .ok (.iload 4, 2) := by decide +kernel
theorem dX0_rule_58 : decode cX0_rule 58 = .ok (.ifCond .le 15, 3) := by decide +kernel
theorem dX0_rule_61 : decode cX0_rule 61 = .ok (.aload_n 0, 1) := by decide +kernel
theorem dX0_rule_62 : decode cX0_rule 62 = .ok (.getfield 29, 3) := by decide +kernel
theorem dX0_rule_65 : decode cX0_rule 65 = .ok (.iload_n 3, 1) := by decide +kernel
theorem dX0_rule_66 : decode cX0_rule 66 = .ok (.iaload, 1) := by decide +kernel
theorem dX0_rule_67 : decode cX0_rule 67 = .ok (.iload 4, 2) := by decide +kernel
theorem dX0_rule_69 : decode cX0_rule 69 = .ok (.idiv, 1) := by decide +kernel
theorem dX0_rule_70 : decode cX0_rule 70 = .ok (.goto 4, 3) := by decide +kernel
theorem dX0_rule_73 : decode cX0_rule 73 = .ok (.iconst 0, 1) := by decide +kernel
theorem dX0_rule_74 : decode cX0_rule 74 = .ok (.ireturn, 1) := by decide +kernel
abbrev cX0_rescan : ByteArray := prog_1_method_11_code
def yX0_rescan : MethodName := ⟨RX0, "rescan", "(I)V"⟩
theorem dX0_rescan_0 : decode cX0_rescan 0 = .ok (.iload_n 1, 1) := by decide +kernel
theorem dX0_rescan_1 : decode cX0_rescan 1 = .ok (.bipush 6, 2) := by decide +kernel
theorem dX0_rescan_3 : decode cX0_rescan 3 = .ok (.idiv, 1) := by decide +kernel
theorem dX0_rescan_4 : decode cX0_rescan 4 = .ok (.istore_n 2, 1) := by decide +kernel
theorem dX0_rescan_5 : decode cX0_rescan 5 = .ok (.iload_n 2, 1) := by decide +kernel
theorem dX0_rescan_6 : decode cX0_rescan 6 = .ok (.bipush 48, 2) := by decide +kernel
theorem dX0_rescan_8 : decode cX0_rescan 8 = .ok (.imul, 1) := by decide +kernel
theorem dX0_rescan_9 : decode cX0_rescan 9 = .ok (.iload_n 1, 1) := by decide +kernel
theorem dX0_rescan_10 : decode cX0_rescan 10 = .ok (.bipush 6, 2) := by decide +kernel
theorem dX0_rescan_12 : decode cX0_rescan 12 = .ok (.irem, 1) := by decide +kernel
theorem dX0_rescan_13 : decode cX0_rescan 13 = .ok (.bipush 8, 2) := by decide +kernel
theorem dX0_rescan_15 : decode cX0_rescan 15 = .ok (.imul, 1) := by decide +kernel
theorem dX0_rescan_16 : decode cX0_rescan 16 = .ok (.iadd, 1) := by decide +kernel
theorem dX0_rescan_17 : decode cX0_rescan 17 = .ok (.istore_n 3, 1) := by decide +kernel
theorem dX0_rescan_18 : decode cX0_rescan 18 = .ok (.iconst 0, 1) := by decide +kernel
theorem dX0_rescan_19 : decode cX0_rescan 19 = .ok (.istore 4, 2) := by decide +kernel
theorem dX0_rescan_21 : decode cX0_rescan 21 = .ok (.iload_n 3, 1) := by decide +kernel
theorem dX0_rescan_22 : decode cX0_rescan 22 = .ok (.istore 5, 2) := by decide +kernel
theorem dX0_rescan_24 : decode cX0_rescan 24 = .ok (.iload 5, 2) := by decide +kernel
theorem dX0_rescan_26 : decode cX0_rescan 26 = .ok (.iload_n 3, 1) := by decide +kernel
theorem dX0_rescan_27 : decode cX0_rescan 27 = .ok (.bipush 8, 2) := by decide +kernel
theorem dX0_rescan_29 : decode cX0_rescan 29 = .ok (.iadd, 1) := by decide +kernel
theorem dX0_rescan_30 : decode cX0_rescan 30 = .ok (.if_icmp .ge 30, 3) := by decide +kernel
theorem dX0_rescan_33 : decode cX0_rescan 33 = .ok (.aload_n 0, 1) := by decide +kernel
theorem dX0_rescan_34 : decode cX0_rescan 34 = .ok (.getfield 23, 3) := by decide +kernel
theorem dX0_rescan_37 : decode cX0_rescan 37 = .ok (.iload 5, 2) := by decide +kernel
theorem dX0_rescan_39 : decode cX0_rescan 39 = .ok (.iaload, 1) := by decide +kernel
theorem dX0_rescan_40 : decode cX0_rescan 40 = .ok (.iload 4, 2) := by decide +kernel
theorem dX0_rescan_42 : decode cX0_rescan 42 = .ok (.if_icmp .le 12, 3) := by decide +kernel
theorem dX0_rescan_45 : decode cX0_rescan 45 = .ok (.aload_n 0, 1) := by decide +kernel
theorem dX0_rescan_46 : decode cX0_rescan 46 = .ok (.getfield 23, 3) := by decide +kernel
theorem dX0_rescan_49 : decode cX0_rescan 49 = .ok (.iload 5, 2) := by decide +kernel
theorem dX0_rescan_51 : decode cX0_rescan 51 = .ok (.iaload, 1) := by decide +kernel
theorem dX0_rescan_52 : decode cX0_rescan 52 = .ok (.istore 4, 2) := by decide +kernel
theorem dX0_rescan_54 : decode cX0_rescan 54 = .ok (.iinc 5 1, 3) := by decide +kernel
theorem dX0_rescan_57 : decode cX0_rescan 57 = .ok (.goto (-33), 3) := by decide +kernel
theorem dX0_rescan_60 : decode cX0_rescan 60 = .ok (.aload_n 0, 1) := by decide +kernel
theorem dX0_rescan_61 : decode cX0_rescan 61 = .ok (.getfield 41, 3) := by decide +kernel
theorem dX0_rescan_64 : decode cX0_rescan 64 = .ok (.iload_n 1, 1) := by decide +kernel
theorem dX0_rescan_65 : decode cX0_rescan 65 = .ok (.iload 4, 2) := by decide +kernel
theorem dX0_rescan_67 : decode cX0_rescan 67 = .ok (.iastore, 1) := by decide +kernel
theorem dX0_rescan_68 : decode cX0_rescan 68 = .ok (.return_, 1) := by decide +kernel
abbrev cX0_rebill : ByteArray := prog_1_method_14_code
def yX0_rebill : MethodName := ⟨RX0, "rebill", "(II)Z"⟩
theorem dX0_rebill_0 : decode cX0_rebill 0 = .ok (.iload_n 1, 1) := by decide +kernel
theorem dX0_rebill_1 : decode cX0_rebill 1 = .ok (.bipush 6, 2) := by decide +kernel
theorem dX0_rebill_3 : decode cX0_rebill 3 = .ok (.imul, 1) := by decide +kernel
theorem dX0_rebill_4 : decode cX0_rebill 4 = .ok (.iload_n 2, 1) := by decide +kernel
theorem dX0_rebill_5 : decode cX0_rebill 5 = .ok (.iadd, 1) := by decide +kernel
theorem dX0_rebill_6 : decode cX0_rebill 6 = .ok (.istore_n 3, 1) := by decide +kernel
theorem dX0_rebill_7 : decode cX0_rebill 7 = .ok (.aload_n 0, 1) := by decide +kernel
theorem dX0_rebill_8 : decode cX0_rebill 8 = .ok (.iload_n 1, 1) := by decide +kernel
theorem dX0_rebill_9 : decode cX0_rebill 9 = .ok (.iload_n 2, 1) := by decide +kernel
theorem dX0_rebill_10 : decode cX0_rebill 10 = .ok (.invokevirtual 95, 3) := by decide +kernel
theorem dX0_rebill_13 : decode cX0_rebill 13 = .ok (.istore 4, 2) := by decide +kernel
theorem dX0_rebill_15 : decode cX0_rebill 15 = .ok (.iload 4, 2) := by decide +kernel
theorem dX0_rebill_17 : decode cX0_rebill 17 = .ok (.aload_n 0, 1) := by decide +kernel
theorem dX0_rebill_18 : decode cX0_rebill 18 = .ok (.getfield 44, 3) := by decide +kernel
theorem dX0_rebill_21 : decode cX0_rebill 21 = .ok (.iload_n 3, 1) := by decide +kernel
theorem dX0_rebill_22 : decode cX0_rebill 22 = .ok (.iaload, 1) := by decide +kernel
theorem dX0_rebill_23 : decode cX0_rebill 23 = .ok (.if_icmp .ne 5, 3) := by decide +kernel
theorem dX0_rebill_26 : decode cX0_rebill 26 = .ok (.iconst 0, 1) := by decide +kernel
theorem dX0_rebill_27 : decode cX0_rebill 27 = .ok (.ireturn, 1) := by decide +kernel
theorem dX0_rebill_28 : decode cX0_rebill 28 = .ok (.aload_n 0, 1) := by decide +kernel
theorem dX0_rebill_29 : decode cX0_rebill 29 = .ok (.iload_n 1, 1) := by decide +kernel
theorem dX0_rebill_30 : decode cX0_rebill 30 = .ok (.iload_n 2, 1) := by decide +kernel
theorem dX0_rebill_31 : decode cX0_rebill 31 = .ok (.aload_n 0, 1) := by decide +kernel
theorem dX0_rebill_32 : decode cX0_rebill 32 = .ok (.getfield 44, 3) := by decide +kernel
theorem dX0_rebill_35 : decode cX0_rebill 35 = .ok (.iload_n 3, 1) := by decide +kernel
theorem dX0_rebill_36 : decode cX0_rebill 36 = .ok (.iaload, 1) := by decide +kernel
theorem dX0_rebill_37 : decode cX0_rebill 37 = .ok (.ineg, 1) := by decide +kernel
theorem dX0_rebill_38 : decode cX0_rebill 38 = .ok (.invokevirtual 98, 3) := by decide +kernel
theorem dX0_rebill_41 : decode cX0_rebill 41 = .ok (.aload_n 0, 1) := by decide +kernel
theorem dX0_rebill_42 : decode cX0_rebill 42 = .ok (.iload_n 1, 1) := by decide +kernel
theorem dX0_rebill_43 : decode cX0_rebill 43 = .ok (.iload_n 2, 1) := by decide +kernel
theorem dX0_rebill_44 : decode cX0_rebill 44 = .ok (.iload 4, 2) := by decide +kernel
theorem dX0_rebill_46 : decode cX0_rebill 46 = .ok (.invokevirtual 98, 3) := by decide +kernel
theorem dX0_rebill_49 : decode cX0_rebill 49 = .ok (.aload_n 0, 1) := by decide +kernel
theorem dX0_rebill_50 : decode cX0_rebill 50 = .ok (.getfield 44, 3) := by decide +kernel
theorem dX0_rebill_53 : decode cX0_rebill 53 = .ok (.iload_n 3, 1) := by decide +kernel
theorem dX0_rebill_54 : decode cX0_rebill 54 = .ok (.iload 4, 2) := by decide +kernel
theorem dX0_rebill_56 : decode cX0_rebill 56 = .ok (.iastore, 1) := by decide +kernel
theorem dX0_rebill_57 : decode cX0_rebill 57 = .ok (.iconst 1, 1) := by decide +kernel
theorem dX0_rebill_58 : decode cX0_rebill 58 = .ok (.ireturn, 1) := by decide +kernel
abbrev cX0_rate : ByteArray := prog_1_method_13_code
def yX0_rate : MethodName := ⟨RX0, "rate", "(II)I"⟩
theorem dX0_rate_0 : decode cX0_rate 0 = .ok (.iload_n 1, 1) := by decide +kernel
theorem dX0_rate_1 : decode cX0_rate 1 = .ok (.bipush 6, 2) := by decide +kernel
theorem dX0_rate_3 : decode cX0_rate 3 = .ok (.imul, 1) := by decide +kernel
theorem dX0_rate_4 : decode cX0_rate 4 = .ok (.iload_n 2, 1) := by decide +kernel
theorem dX0_rate_5 : decode cX0_rate 5 = .ok (.iadd, 1) := by decide +kernel
theorem dX0_rate_6 : decode cX0_rate 6 = .ok (.istore_n 3, 1) := by decide +kernel
theorem dX0_rate_7 : decode cX0_rate 7 = .ok (.aload_n 0, 1) := by decide +kernel
theorem dX0_rate_8 : decode cX0_rate 8 = .ok (.getfield 32, 3) := by decide +kernel
theorem dX0_rate_11 : decode cX0_rate 11 = .ok (.iload_n 3, 1) := by decide +kernel
theorem dX0_rate_12 : decode cX0_rate 12 = .ok (.iaload, 1) := by decide +kernel
theorem dX0_rate_13 : decode cX0_rate 13 = .ok (.aload_n 0, 1) := by decide +kernel
theorem dX0_rate_14 : decode cX0_rate 14 = .ok (.iload_n 2, 1) := by decide +kernel
theorem dX0_rate_15 : decode cX0_rate 15 = .ok (.iconst 0, 1) := by decide +kernel
theorem dX0_rate_16 : decode cX0_rate 16 = .ok (.invokevirtual 92, 3) := by decide +kernel
theorem dX0_rate_19 : decode cX0_rate 19 = .ok (.imul, 1) := by decide +kernel
theorem dX0_rate_20 : decode cX0_rate 20 = .ok (.aload_n 0, 1) := by decide +kernel
theorem dX0_rate_21 : decode cX0_rate 21 = .ok (.getfield 35, 3) := by decide +kernel
theorem dX0_rate_24 : decode cX0_rate 24 = .ok (.iload_n 3, 1) := by decide +kernel
theorem dX0_rate_25 : decode cX0_rate 25 = .ok (.iaload, 1) := by decide +kernel
theorem dX0_rate_26 : decode cX0_rate 26 = .ok (.aload_n 0, 1) := by decide +kernel
theorem dX0_rate_27 : decode cX0_rate 27 = .ok (.iload_n 2, 1) := by decide +kernel
theorem dX0_rate_28 : decode cX0_rate 28 = .ok (.iconst 1, 1) := by decide +kernel
theorem dX0_rate_29 : decode cX0_rate 29 = .ok (.invokevirtual 92, 3) := by decide +kernel
theorem dX0_rate_32 : decode cX0_rate 32 = .ok (.imul, 1) := by decide +kernel
theorem dX0_rate_33 : decode cX0_rate 33 = .ok (.iadd, 1) := by decide +kernel
theorem dX0_rate_34 : decode cX0_rate 34 = .ok (.aload_n 0, 1) := by decide +kernel
theorem dX0_rate_35 : decode cX0_rate 35 = .ok (.getfield 38, 3) := by decide +kernel
theorem dX0_rate_38 : decode cX0_rate 38 = .ok (.iload_n 3, 1) := by decide +kernel
theorem dX0_rate_39 : decode cX0_rate 39 = .ok (.iaload, 1) := by decide +kernel
theorem dX0_rate_40 : decode cX0_rate 40 = .ok (.aload_n 0, 1) := by decide +kernel
theorem dX0_rate_41 : decode cX0_rate 41 = .ok (.iload_n 2, 1) := by decide +kernel
theorem dX0_rate_42 : decode cX0_rate 42 = .ok (.iconst 2, 1) := by decide +kernel
theorem dX0_rate_43 : decode cX0_rate 43 = .ok (.invokevirtual 92, 3) := by decide +kernel
theorem dX0_rate_46 : decode cX0_rate 46 = .ok (.imul, 1) := by decide +kernel
theorem dX0_rate_47 : decode cX0_rate 47 = .ok (.iadd, 1) := by decide +kernel
theorem dX0_rate_48 : decode cX0_rate 48 = .ok (.istore 4, 2) := by decide +kernel
theorem dX0_rate_50 : decode cX0_rate 50 = .ok (.aload_n 0, 1) := by decide +kernel
theorem dX0_rate_51 : decode cX0_rate 51 = .ok (.getfield 41, 3) := by decide +kernel
theorem dX0_rate_54 : decode cX0_rate 54 = .ok (.iload_n 3, 1) := by decide +kernel
theorem dX0_rate_55 : decode cX0_rate 55 = .ok (.iaload, 1) := by decide +kernel
theorem dX0_rate_56 : decode cX0_rate 56 = .ok (.aload_n 0, 1) := by decide +kernel
theorem dX0_rate_57 : decode cX0_rate 57 = .ok (.iload_n 2, 1) := by decide +kernel
theorem dX0_rate_58 : decode cX0_rate 58 = .ok (.iconst 3, 1) := by decide +kernel
theorem dX0_rate_59 : decode cX0_rate 59 = .ok (.invokevirtual 92, 3) := by decide +kernel
theorem dX0_rate_62 : decode cX0_rate 62 = .ok (.imul, 1) := by decide +kernel
theorem dX0_rate_63 : decode cX0_rate 63 = .ok (.istore 5, 2) := by decide +kernel
theorem dX0_rate_65 : decode cX0_rate 65 = .ok (.aload_n 0, 1) := by decide +kernel
theorem dX0_rate_66 : decode cX0_rate 66 = .ok (.getfield 32, 3) := by decide +kernel
theorem dX0_rate_69 : decode cX0_rate 69 = .ok (.iload_n 3, 1) := by decide +kernel
theorem dX0_rate_70 : decode cX0_rate 70 = .ok (.iaload, 1) := by decide +kernel
theorem dX0_rate_71 : decode cX0_rate 71 = .ok (.aload_n 0, 1) := by decide +kernel
theorem dX0_rate_72 : decode cX0_rate 72 = .ok (.getfield 35, 3) := by decide +kernel
theorem dX0_rate_75 : decode cX0_rate 75 = .ok (.iload_n 3, 1) := by decide +kernel
theorem dX0_rate_76 : decode cX0_rate 76 = .ok (.iaload, 1) := by decide +kernel
theorem dX0_rate_77 : decode cX0_rate 77 = .ok (.iadd, 1) := by decide +kernel
theorem dX0_rate_78 : decode cX0_rate 78 = .ok (.aload_n 0, 1) := by decide +kernel
theorem dX0_rate_79 : decode cX0_rate 79 = .ok (.getfield 38, 3) := by decide +kernel
theorem dX0_rate_82 : decode cX0_rate 82 = .ok (.iload_n 3, 1) := by decide +kernel
theorem dX0_rate_83 : decode cX0_rate 83 = .ok (.iaload, 1) := by decide +kernel
theorem dX0_rate_84 : decode cX0_rate 84 = .ok (.iadd, 1) := by decide +kernel
theorem dX0_rate_85 : decode cX0_rate 85 = .ok (.istore 6, 2) := by decide +kernel
theorem dX0_rate_87 : decode cX0_rate 87 = .ok (.iload 6, 2) := by decide +kernel
theorem dX0_rate_89 : decode cX0_rate 89 = .ok (.sipush 2000, 3) := by decide +kernel
theorem dX0_rate_92 : decode cX0_rate 92 = .ok (.if_icmp .le 12, 3) := by decide +kernel
theorem dX0_rate_95 : decode cX0_rate 95 = .ok (.iload 6, 2) := by decide +kernel
theorem dX0_rate_97 : decode cX0_rate 97 = .ok (.sipush 2000, 3) := by decide +kernel
theorem dX0_rate_100 : decode cX0_rate 100 = .ok (.isub, 1) := by decide +kernel
theorem dX0_rate_101 : decode cX0_rate 101 = .ok (.goto 4, 3) := by decide +kernel
theorem dX0_rate_104 : decode cX0_rate 104 = .ok (.iconst 0, 1) := by decide +kernel
theorem dX0_rate_105 : decode cX0_rate 105 = .ok (.istore 7, 2) := by decide +kernel
theorem dX0_rate_107 : decode cX0_rate 107 = .ok (.iload 4, 2) := by decide +kernel
theorem dX0_rate_109 : decode cX0_rate 109 = .ok (.iload 5, 2) := by decide +kernel
theorem dX0_rate_111 : decode cX0_rate 111 = .ok (.iadd, 1) := by decide +kernel
theorem dX0_rate_112 : decode cX0_rate 112 = .ok (.iload 7, 2) := by decide +kernel
theorem dX0_rate_114 : decode cX0_rate 114 = .ok (.aload_n 0, 1) := by decide +kernel
theorem dX0_rate_115 : decode cX0_rate 115 = .ok (.iload_n 2, 1) := by decide +kernel
theorem dX0_rate_116 : decode cX0_rate 116 = .ok (.iconst 4, 1) := by decide +kernel
theorem dX0_rate_117 : decode cX0_rate 117 = .ok (.invokevirtual 92, 3) := by decide +kernel
theorem dX0_rate_120 : decode cX0_rate 120 = .ok (.imul, 1) := by decide +kernel
theorem dX0_rate_121 : decode cX0_rate 121 = .ok (.iadd, 1) := by decide +kernel
theorem dX0_rate_122 : decode cX0_rate 122 = .ok (.istore 8, 2) := by decide +kernel
theorem dX0_rate_124 : decode cX0_rate 124 = .ok (.aload_n 0, 1) := by decide +kernel
theorem dX0_rate_125 : decode cX0_rate 125 = .ok (.iload_n 2, 1) := by decide +kernel
theorem dX0_rate_126 : decode cX0_rate 126 = .ok (.iconst 5, 1) := by decide +kernel
theorem dX0_rate_127 : decode cX0_rate 127 = .ok (.invokevirtual 92, 3) := by decide +kernel
theorem dX0_rate_130 : decode cX0_rate 130 = .ok (.sipush 1000, 3) := by decide +kernel
theorem dX0_rate_133 : decode cX0_rate 133 = .ok (.imul, 1) := by decide +kernel
theorem dX0_rate_134 : decode cX0_rate 134 = .ok (.istore 9, 2) := by decide +kernel
theorem dX0_rate_136 : decode cX0_rate 136 = .ok (.iload 8, 2) := by decide +kernel
theorem dX0_rate_138 : decode cX0_rate 138 = .ok (.iload 9, 2) := by decide +kernel
theorem dX0_rate_140 : decode cX0_rate 140 = .ok (.if_icmp .ge 8, 3) := by decide +kernel
theorem dX0_rate_143 : decode cX0_rate 143 = .ok (.iload 9, 2) := by decide +kernel
theorem dX0_rate_145 : decode cX0_rate 145 = .ok (.goto 5, 3) := by decide +kernel
theorem dX0_rate_148 : decode cX0_rate 148 = .ok (.iload 8, 2) := by decide +kernel
theorem dX0_rate_150 : decode cX0_rate 150 = .ok (.ireturn, 1) := by decide +kernel
abbrev cX0_item : ByteArray := prog_1_method_12_code
def yX0_item : MethodName := ⟨RX0, "item", "(II)I"⟩
theorem dX0_item_0 : decode cX0_item 0 = .ok (.iload_n 1, 1) := by decide +kernel
theorem dX0_item_1 : decode cX0_item 1 = .ok (.aload_n 0, 1) := by decide +kernel
theorem dX0_item_2 : decode cX0_item 2 = .ok (.getfield 59, 3) := by decide +kernel
theorem dX0_item_5 : decode cX0_item 5 = .ok (.if_icmp .ge 17, 3) := by decide +kernel
theorem dX0_item_8 : decode cX0_item 8 = .ok (.aload_n 0, 1) := by decide +kernel
theorem dX0_item_9 : decode cX0_item 9 = .ok (.getfield 13, 3) := by decide +kernel
theorem dX0_item_12 : decode cX0_item 12 = .ok (.iload_n 1, 1) := by decide +kernel
theorem dX0_item_13 : decode cX0_item 13 = .ok (.bipush 6, 2) := by decide +kernel
theorem dX0_item_15 : decode cX0_item 15 = .ok (.imul, 1) := by decide +kernel
theorem dX0_item_16 : decode cX0_item 16 = .ok (.iload_n 2, 1) := by decide +kernel
theorem dX0_item_17 : decode cX0_item 17 = .ok (.iadd, 1) := by decide +kernel
theorem dX0_item_18 : decode cX0_item 18 = .ok (.iaload, 1) := by decide +kernel
theorem dX0_item_19 : decode cX0_item 19 = .ok (.goto 9, 3) := by decide +kernel
theorem dX0_item_22 : decode cX0_item 22 = .ok (.aload_n 0, 1) := by decide +kernel
theorem dX0_item_23 : decode cX0_item 23 = .ok (.getfield 7, 3) := by decide +kernel
theorem dX0_item_26 : decode cX0_item 26 = .ok (.iload_n 2, 1) := by decide +kernel
theorem dX0_item_27 : decode cX0_item 27 = .ok (.iaload, 1) := by decide +kernel
theorem dX0_item_28 : decode cX0_item 28 = .ok (.ireturn, 1) := by decide +kernel
abbrev cX0_addLine : ByteArray := prog_1_method_15_code
def yX0_addLine : MethodName := ⟨RX0, "addLine", "(III)V"⟩
theorem dX0_addLine_0 : decode cX0_addLine 0 = .ok (.iload_n 1, 1) := by decide +kernel
theorem dX0_addLine_1 : decode cX0_addLine 1 = .ok (.bipush 8, 2) := by decide +kernel
theorem dX0_addLine_3 : decode cX0_addLine 3 = .ok (.imul, 1) := by decide +kernel
theorem dX0_addLine_4 : decode cX0_addLine 4 = .ok (.aload_n 0, 1) := by decide +kernel
theorem dX0_addLine_5 : decode cX0_addLine 5 = .ok (.getfield 50, 3) := by decide +kernel
theorem dX0_addLine_8 : decode cX0_addLine 8 = .ok (.iload_n 1, 1) := by decide +kernel
theorem dX0_addLine_9 : decode cX0_addLine 9 = .ok (.iaload, 1) := by decide +kernel
theorem dX0_addLine_10 : decode cX0_addLine 10 = .ok (.bipush 7, 2) := by decide +kernel
theorem dX0_addLine_12 : decode cX0_addLine 12 = .ok (.iand, 1) := by decide +kernel
theorem dX0_addLine_13 : decode cX0_addLine 13 = .ok (.iadd, 1) := by decide +kernel
theorem dX0_addLine_14 : decode cX0_addLine 14 = .ok (.istore 4, 2) := by decide +kernel
theorem dX0_addLine_16 : decode cX0_addLine 16 = .ok (.aload_n 0, 1) := by decide +kernel
theorem dX0_addLine_17 : decode cX0_addLine 17 = .ok (.getfield 53, 3) := by decide +kernel
theorem dX0_addLine_20 : decode cX0_addLine 20 = .ok (.iload 4, 2) := by decide +kernel
theorem dX0_addLine_22 : decode cX0_addLine 22 = .ok (.iload_n 3, 1) := by decide +kernel
theorem dX0_addLine_23 : decode cX0_addLine 23 = .ok (.iastore, 1) := by decide +kernel
theorem dX0_addLine_24 : decode cX0_addLine 24 = .ok (.aload_n 0, 1) := by decide +kernel
theorem dX0_addLine_25 : decode cX0_addLine 25 = .ok (.getfield 56, 3) := by decide +kernel
theorem dX0_addLine_28 : decode cX0_addLine 28 = .ok (.iload 4, 2) := by decide +kernel
theorem dX0_addLine_30 : decode cX0_addLine 30 = .ok (.iload_n 2, 1) := by decide +kernel
theorem dX0_addLine_31 : decode cX0_addLine 31 = .ok (.iastore, 1) := by decide +kernel
theorem dX0_addLine_32 : decode cX0_addLine 32 = .ok (.aload_n 0, 1) := by decide +kernel
theorem dX0_addLine_33 : decode cX0_addLine 33 = .ok (.getfield 47, 3) := by decide +kernel
theorem dX0_addLine_36 : decode cX0_addLine 36 = .ok (.iload_n 1, 1) := by decide +kernel
theorem dX0_addLine_37 : decode cX0_addLine 37 = .ok (.dup2, 1) := by decide +kernel
theorem dX0_addLine_38 : decode cX0_addLine 38 = .ok (.iaload, 1) := by decide +kernel
theorem dX0_addLine_39 : decode cX0_addLine 39 = .ok (.iload_n 3, 1) := by decide +kernel
theorem dX0_addLine_40 : decode cX0_addLine 40 = .ok (.iadd, 1) := by decide +kernel
theorem dX0_addLine_41 : decode cX0_addLine 41 = .ok (.iastore, 1) := by decide +kernel
theorem dX0_addLine_42 : decode cX0_addLine 42 = .ok (.aload_n 0, 1) := by decide +kernel
theorem dX0_addLine_43 : decode cX0_addLine 43 = .ok (.getfield 50, 3) := by decide +kernel
theorem dX0_addLine_46 : decode cX0_addLine 46 = .ok (.iload_n 1, 1) := by decide +kernel
theorem dX0_addLine_47 : decode cX0_addLine 47 = .ok (.dup2, 1) := by decide +kernel
theorem dX0_addLine_48 : decode cX0_addLine 48 = .ok (.iaload, 1) := by decide +kernel
theorem dX0_addLine_49 : decode cX0_addLine 49 = .ok (.iconst 1, 1) := by decide +kernel
theorem dX0_addLine_50 : decode cX0_addLine 50 = .ok (.iadd, 1) := by decide +kernel
theorem dX0_addLine_51 : decode cX0_addLine 51 = .ok (.iastore, 1) := by decide +kernel
theorem dX0_addLine_52 : decode cX0_addLine 52 = .ok (.return_, 1) := by decide +kernel
abbrev cX0_unread : ByteArray := prog_1_method_6_code
def yX0_unread : MethodName := ⟨RX0, "unread", "(II)I"⟩
theorem dX0_unread_0 : decode cX0_unread 0 = .ok (.iload_n 1, 1) := by decide +kernel
theorem dX0_unread_1 : decode cX0_unread 1 = .ok (.invokestatic 63, 3) := by decide +kernel
theorem dX0_unread_4 : decode cX0_unread 4 = .ok (.ifCond .eq 5, 3) := by decide +kernel
theorem dX0_unread_7 : decode cX0_unread 7 = .ok (.iconst (-1), 1) := by decide +kernel
theorem dX0_unread_8 : decode cX0_unread 8 = .ok (.ireturn, 1) := by decide +kernel
theorem dX0_unread_9 : decode cX0_unread 9 = .ok (.iload_n 2, 1) := by decide +kernel
theorem dX0_unread_10 : decode cX0_unread 10 = .ok (.invokestatic 67, 3) := by decide +kernel
theorem dX0_unread_13 : decode cX0_unread 13 = .ok (.ifCond .eq 6, 3) := by decide +kernel
theorem dX0_unread_16 : decode cX0_unread 16 = .ok (.bipush (-2), 2) := by decide +kernel
theorem dX0_unread_18 : decode cX0_unread 18 = .ok (.ireturn, 1) := by decide +kernel
theorem dX0_unread_19 : decode cX0_unread 19 = .ok (.aload_n 0, 1) := by decide +kernel
theorem dX0_unread_20 : decode cX0_unread 20 = .ok (.getfield 16, 3) := by decide +kernel
theorem dX0_unread_23 : decode cX0_unread 23 = .ok (.iload_n 1, 1) := by decide +kernel
theorem dX0_unread_24 : decode cX0_unread 24 = .ok (.bipush 48, 2) := by decide +kernel
theorem dX0_unread_26 : decode cX0_unread 26 = .ok (.imul, 1) := by decide +kernel
theorem dX0_unread_27 : decode cX0_unread 27 = .ok (.iload_n 2, 1) := by decide +kernel
theorem dX0_unread_28 : decode cX0_unread 28 = .ok (.iadd, 1) := by decide +kernel
theorem dX0_unread_29 : decode cX0_unread 29 = .ok (.baload, 1) := by decide +kernel
theorem dX0_unread_30 : decode cX0_unread 30 = .ok (.ifCond .ne 6, 3) := by decide +kernel
theorem dX0_unread_33 : decode cX0_unread 33 = .ok (.bipush (-7), 2) := by decide +kernel
theorem dX0_unread_35 : decode cX0_unread 35 = .ok (.ireturn, 1) := by decide +kernel
theorem dX0_unread_36 : decode cX0_unread 36 = .ok (.aload_n 0, 1) := by decide +kernel
theorem dX0_unread_37 : decode cX0_unread 37 = .ok (.iload_n 1, 1) := by decide +kernel
theorem dX0_unread_38 : decode cX0_unread 38 = .ok (.iload_n 2, 1) := by decide +kernel
theorem dX0_unread_39 : decode cX0_unread 39 = .ok (.invokevirtual 70, 3) := by decide +kernel
theorem dX0_unread_42 : decode cX0_unread 42 = .ok (.aload_n 0, 1) := by decide +kernel
theorem dX0_unread_43 : decode cX0_unread 43 = .ok (.iload_n 1, 1) := by decide +kernel
theorem dX0_unread_44 : decode cX0_unread 44 = .ok (.iload_n 2, 1) := by decide +kernel
theorem dX0_unread_45 : decode cX0_unread 45 = .ok (.invokevirtual 74, 3) := by decide +kernel
theorem dX0_unread_48 : decode cX0_unread 48 = .ok (.ireturn, 1) := by decide +kernel
abbrev cX0_close : ByteArray := prog_1_method_16_code
def yX0_close : MethodName := ⟨RX0, "close", "()I"⟩
theorem dX0_close_0 : decode cX0_close 0 = .ok (.aload_n 0, 1) := by decide +kernel
theorem dX0_close_1 : decode cX0_close 1 = .ok (.getfield 59, 3) := by decide +kernel
theorem dX0_close_4 : decode cX0_close 4 = .ok (.bipush 6, 2) := by decide +kernel
theorem dX0_close_6 : decode cX0_close 6 = .ok (.if_icmp .lt 6, 3) := by decide +kernel
theorem dX0_close_9 : decode cX0_close 9 = .ok (.bipush (-6), 2) := by decide +kernel
theorem dX0_close_11 : decode cX0_close 11 = .ok (.ireturn, 1) := by decide +kernel
theorem dX0_close_12 : decode cX0_close 12 = .ok (.aload_n 0, 1) := by decide +kernel
theorem dX0_close_13 : decode cX0_close 13 = .ok (.getfield 59, 3) := by decide +kernel
theorem dX0_close_16 : decode cX0_close 16 = .ok (.istore_n 1, 1) := by decide +kernel
theorem dX0_close_17 : decode cX0_close 17 = .ok (.iconst 0, 1) := by decide +kernel
theorem dX0_close_18 : decode cX0_close 18 = .ok (.istore_n 2, 1) := by decide +kernel
theorem dX0_close_19 : decode cX0_close 19 = .ok (.iload_n 2, 1) := by decide +kernel
theorem dX0_close_20 : decode cX0_close 20 = .ok (.bipush 6, 2) := by decide +kernel
theorem dX0_close_22 : decode cX0_close 22 = .ok (.if_icmp .ge 26, 3) := by decide +kernel
theorem dX0_close_25 : decode cX0_close 25 = .ok (.aload_n 0, 1) := by decide +kernel
theorem dX0_close_26 : decode cX0_close 26 = .ok (.getfield 13, 3) := by decide +kernel
theorem dX0_close_29 : decode cX0_close 29 = .ok (.iload_n 1, 1) := by decide +kernel
theorem dX0_close_30 : decode cX0_close 30 = .ok (.bipush 6, 2) := by decide +kernel
theorem dX0_close_32 : decode cX0_close 32 = .ok (.imul, 1) := by decide +kernel
theorem dX0_close_33 : decode cX0_close 33 = .ok (.iload_n 2, 1) := by decide +kernel
theorem dX0_close_34 : decode cX0_close 34 = .ok (.iadd, 1) := by decide +kernel
theorem dX0_close_35 : decode cX0_close 35 = .ok (.aload_n 0, 1) := by decide +kernel
theorem dX0_close_36 : decode cX0_close 36 = .ok (.getfield 7, 3) := by decide +kernel
theorem dX0_close_39 : decode cX0_close 39 = .ok (.iload_n 2, 1) := by decide +kernel
theorem dX0_close_40 : decode cX0_close 40 = .ok (.iaload, 1) := by decide +kernel
theorem dX0_close_41 : decode cX0_close 41 = .ok (.iastore, 1) := by decide +kernel
theorem dX0_close_42 : decode cX0_close 42 = .ok (.iinc 2 1, 3) := by decide +kernel
theorem dX0_close_45 : decode cX0_close 45 = .ok (.goto (-26), 3) := by decide +kernel
theorem dX0_close_48 : decode cX0_close 48 = .ok (.aload_n 0, 1) := by decide +kernel
theorem dX0_close_49 : decode cX0_close 49 = .ok (.iload_n 1, 1) := by decide +kernel
theorem dX0_close_50 : decode cX0_close 50 = .ok (.iconst 1, 1) := by decide +kernel
theorem dX0_close_51 : decode cX0_close 51 = .ok (.iadd, 1) := by decide +kernel
theorem dX0_close_52 : decode cX0_close 52 = .ok (.putfield 59, 3) := by decide +kernel
theorem dX0_close_55 : decode cX0_close 55 = .ok (.iconst 0, 1) := by decide +kernel
theorem dX0_close_56 : decode cX0_close 56 = .ok (.istore_n 2, 1) := by decide +kernel
theorem dX0_close_57 : decode cX0_close 57 = .ok (.iload_n 2, 1) := by decide +kernel
theorem dX0_close_58 : decode cX0_close 58 = .ok (.iconst 2, 1) := by decide +kernel
theorem dX0_close_59 : decode cX0_close 59 = .ok (.if_icmp .ge 35, 3) := by decide +kernel
theorem dX0_close_62 : decode cX0_close 62 = .ok (.aload_n 0, 1) := by decide +kernel
theorem dX0_close_63 : decode cX0_close 63 = .ok (.iload_n 2, 1) := by decide +kernel
theorem dX0_close_64 : decode cX0_close 64 = .ok (.iload_n 1, 1) := by decide +kernel
theorem dX0_close_65 : decode cX0_close 65 = .ok (.invokevirtual 95, 3) := by decide +kernel
theorem dX0_close_68 : decode cX0_close 68 = .ok (.istore_n 3, 1) := by decide +kernel
theorem dX0_close_69 : decode cX0_close 69 = .ok (.aload_n 0, 1) := by decide +kernel
theorem dX0_close_70 : decode cX0_close 70 = .ok (.getfield 44, 3) := by decide +kernel
theorem dX0_close_73 : decode cX0_close 73 = .ok (.iload_n 2, 1) := by decide +kernel
theorem dX0_close_74 : decode cX0_close 74 = .ok (.bipush 6, 2) := by decide +kernel
theorem dX0_close_76 : decode cX0_close 76 = .ok (.imul, 1) := by decide +kernel
theorem dX0_close_77 : decode cX0_close 77 = .ok (.iload_n 1, 1) := by decide +kernel
theorem dX0_close_78 : decode cX0_close 78 = .ok (.iadd, 1) := by decide +kernel
theorem dX0_close_79 : decode cX0_close 79 = .ok (.iload_n 3, 1) := by decide +kernel
theorem dX0_close_80 : decode cX0_close 80 = .ok (.iastore, 1) := by decide +kernel
theorem dX0_close_81 : decode cX0_close 81 = .ok (.aload_n 0, 1) := by decide +kernel
theorem dX0_close_82 : decode cX0_close 82 = .ok (.iload_n 2, 1) := by decide +kernel
theorem dX0_close_83 : decode cX0_close 83 = .ok (.iload_n 1, 1) := by decide +kernel
theorem dX0_close_84 : decode cX0_close 84 = .ok (.iload_n 3, 1) := by decide +kernel
theorem dX0_close_85 : decode cX0_close 85 = .ok (.invokevirtual 98, 3) := by decide +kernel
theorem dX0_close_88 : decode cX0_close 88 = .ok (.iinc 2 1, 3) := by decide +kernel
theorem dX0_close_91 : decode cX0_close 91 = .ok (.goto (-34), 3) := by decide +kernel
theorem dX0_close_94 : decode cX0_close 94 = .ok (.iload_n 1, 1) := by decide +kernel
theorem dX0_close_95 : decode cX0_close 95 = .ok (.ireturn, 1) := by decide +kernel
abbrev cX0_usage : ByteArray := prog_1_method_17_code
def yX0_usage : MethodName := ⟨RX0, "usage", "(II)I"⟩
theorem dX0_usage_0 : decode cX0_usage 0 = .ok (.iload_n 1, 1) := by decide +kernel
theorem dX0_usage_1 : decode cX0_usage 1 = .ok (.invokestatic 63, 3) := by decide +kernel
theorem dX0_usage_4 : decode cX0_usage 4 = .ok (.ifCond .eq 5, 3) := by decide +kernel
theorem dX0_usage_7 : decode cX0_usage 7 = .ok (.iconst (-1), 1) := by decide +kernel
theorem dX0_usage_8 : decode cX0_usage 8 = .ok (.ireturn, 1) := by decide +kernel
theorem dX0_usage_9 : decode cX0_usage 9 = .ok (.iload_n 2, 1) := by decide +kernel
theorem dX0_usage_10 : decode cX0_usage 10 = .ok (.invokestatic 67, 3) := by decide +kernel
theorem dX0_usage_13 : decode cX0_usage 13 = .ok (.ifCond .eq 6, 3) := by decide +kernel
theorem dX0_usage_16 : decode cX0_usage 16 = .ok (.bipush (-2), 2) := by decide +kernel
theorem dX0_usage_18 : decode cX0_usage 18 = .ok (.ireturn, 1) := by decide +kernel
theorem dX0_usage_19 : decode cX0_usage 19 = .ok (.aload_n 0, 1) := by decide +kernel
theorem dX0_usage_20 : decode cX0_usage 20 = .ok (.getfield 23, 3) := by decide +kernel
theorem dX0_usage_23 : decode cX0_usage 23 = .ok (.iload_n 1, 1) := by decide +kernel
theorem dX0_usage_24 : decode cX0_usage 24 = .ok (.bipush 48, 2) := by decide +kernel
theorem dX0_usage_26 : decode cX0_usage 26 = .ok (.imul, 1) := by decide +kernel
theorem dX0_usage_27 : decode cX0_usage 27 = .ok (.iload_n 2, 1) := by decide +kernel
theorem dX0_usage_28 : decode cX0_usage 28 = .ok (.iadd, 1) := by decide +kernel
theorem dX0_usage_29 : decode cX0_usage 29 = .ok (.iaload, 1) := by decide +kernel
theorem dX0_usage_30 : decode cX0_usage 30 = .ok (.ireturn, 1) := by decide +kernel
abbrev cX0_amount : ByteArray := prog_1_method_18_code
def yX0_amount : MethodName := ⟨RX0, "amount", "(II)I"⟩
theorem dX0_amount_0 : decode cX0_amount 0 = .ok (.iload_n 1, 1) := by decide +kernel
theorem dX0_amount_1 : decode cX0_amount 1 = .ok (.invokestatic 63, 3) := by decide +kernel
theorem dX0_amount_4 : decode cX0_amount 4 = .ok (.ifCond .eq 5, 3) := by decide +kernel
theorem dX0_amount_7 : decode cX0_amount 7 = .ok (.iconst (-1), 1) := by decide +kernel
theorem dX0_amount_8 : decode cX0_amount 8 = .ok (.ireturn, 1) := by decide +kernel
theorem dX0_amount_9 : decode cX0_amount 9 = .ok (.iload_n 2, 1) := by decide +kernel
theorem dX0_amount_10 : decode cX0_amount 10 = .ok (.ifCond .lt 9, 3) := by decide +kernel
theorem dX0_amount_13 : decode cX0_amount 13 = .ok (.iload_n 2, 1) := by decide +kernel
theorem dX0_amount_14 : decode cX0_amount 14 = .ok (.bipush 6, 2) := by decide +kernel
theorem dX0_amount_16 : decode cX0_amount 16 = .ok (.if_icmp .lt 6, 3) := by decide +kernel
theorem dX0_amount_19 : decode cX0_amount 19 = .ok (.bipush (-8), 2) := by decide +kernel
theorem dX0_amount_21 : decode cX0_amount 21 = .ok (.ireturn, 1) := by decide +kernel
theorem dX0_amount_22 : decode cX0_amount 22 = .ok (.iload_n 2, 1) := by decide +kernel
theorem dX0_amount_23 : decode cX0_amount 23 = .ok (.aload_n 0, 1) := by decide +kernel
theorem dX0_amount_24 : decode cX0_amount 24 = .ok (.getfield 59, 3) := by decide +kernel
theorem dX0_amount_27 : decode cX0_amount 27 = .ok (.if_icmp .ge 15, 3) := by decide +kernel
theorem dX0_amount_30 : decode cX0_amount 30 = .ok (.aload_n 0, 1) := by decide +kernel
theorem dX0_amount_31 : decode cX0_amount 31 = .ok (.getfield 44, 3) := by decide +kernel
theorem dX0_amount_34 : decode cX0_amount 34 = .ok (.iload_n 1, 1) := by decide +kernel
theorem dX0_amount_35 : decode cX0_amount 35 = .ok (.bipush 6, 2) := by decide +kernel
theorem dX0_amount_37 : decode cX0_amount 37 = .ok (.imul, 1) := by decide +kernel
theorem dX0_amount_38 : decode cX0_amount 38 = .ok (.iload_n 2, 1) := by decide +kernel
theorem dX0_amount_39 : decode cX0_amount 39 = .ok (.iadd, 1) := by decide +kernel
theorem dX0_amount_40 : decode cX0_amount 40 = .ok (.iaload, 1) := by decide +kernel
theorem dX0_amount_41 : decode cX0_amount 41 = .ok (.ireturn, 1) := by decide +kernel
theorem dX0_amount_42 : decode cX0_amount 42 = .ok (.aload_n 0, 1) := by decide +kernel
theorem dX0_amount_43 : decode cX0_amount 43 = .ok (.iload_n 1, 1) := by decide +kernel
theorem dX0_amount_44 : decode cX0_amount 44 = .ok (.iload_n 2, 1) := by decide +kernel
theorem dX0_amount_45 : decode cX0_amount 45 = .ok (.invokevirtual 95, 3) := by decide +kernel
theorem dX0_amount_48 : decode cX0_amount 48 = .ok (.ireturn, 1) := by decide +kernel
end
section
set_option maxRecDepth 100000
abbrev cX0_balance : ByteArray := prog_1_method_19_code
def yX0_balance : MethodName := ⟨RX0, "balance", "(I)I"⟩
theorem dX0_balance_0 : decode cX0_balance 0 = .ok (.iload_n 1, 1) := by decide +kernel
theorem dX0_balance_1 : decode cX0_balance 1 = .ok (.invokestatic 63, 3) := by decide +kernel
theorem dX0_balance_4 : decode cX0_balance 4 = .ok (.ifCond .eq 7, 3) := by decide +kernel
theorem dX0_balance_7 : decode cX0_balance 7 = .ok (.iconst 0, 1) := by decide +kernel
theorem dX0_balance_8 : decode cX0_balance 8 = .ok (.goto 9, 3) := by decide +kernel
theorem dX0_balance_11 : decode cX0_balance 11 = .ok (.aload_n 0, 1) := by decide +kernel
theorem dX0_balance_12 : decode cX0_balance 12 = .ok (.getfield 47, 3) := by decide +kernel
theorem dX0_balance_15 : decode cX0_balance 15 = .ok (.iload_n 1, 1) := by decide +kernel
theorem dX0_balance_16 : decode cX0_balance 16 = .ok (.iaload, 1) := by decide +kernel
theorem dX0_balance_17 : decode cX0_balance 17 = .ok (.ireturn, 1) := by decide +kernel
abbrev cX0_lines : ByteArray := prog_1_method_20_code
def yX0_lines : MethodName := ⟨RX0, "lines", "(I)I"⟩
theorem dX0_lines_0 : decode cX0_lines 0 = .ok (.iload_n 1, 1) := by decide +kernel
theorem dX0_lines_1 : decode cX0_lines 1 = .ok (.invokestatic 63, 3) := by decide +kernel
theorem dX0_lines_4 : decode cX0_lines 4 = .ok (.ifCond .eq 7, 3) := by decide +kernel
theorem dX0_lines_7 : decode cX0_lines 7 = .ok (.iconst (-1), 1) := by decide +kernel
theorem dX0_lines_8 : decode cX0_lines 8 = .ok (.goto 9, 3) := by decide +kernel
theorem dX0_lines_11 : decode cX0_lines 11 = .ok (.aload_n 0, 1) := by decide +kernel
theorem dX0_lines_12 : decode cX0_lines 12 = .ok (.getfield 50, 3) := by decide +kernel
theorem dX0_lines_15 : decode cX0_lines 15 = .ok (.iload_n 1, 1) := by decide +kernel
theorem dX0_lines_16 : decode cX0_lines 16 = .ok (.iaload, 1) := by decide +kernel
theorem dX0_lines_17 : decode cX0_lines 17 = .ok (.ireturn, 1) := by decide +kernel
abbrev cX0_lineAmount : ByteArray := prog_1_method_22_code
def yX0_lineAmount : MethodName := ⟨RX0, "lineAmount", "(II)I"⟩
theorem dX0_lineAmount_0 : decode cX0_lineAmount 0 = .ok (.aload_n 0, 1) := by decide +kernel
theorem dX0_lineAmount_1 : decode cX0_lineAmount 1 = .ok (.iload_n 1, 1) := by decide +kernel
theorem dX0_lineAmount_2 : decode cX0_lineAmount 2 = .ok (.iload_n 2, 1) := by decide +kernel
theorem dX0_lineAmount_3 : decode cX0_lineAmount 3 = .ok (.invokevirtual 102, 3) := by decide +kernel
theorem dX0_lineAmount_6 : decode cX0_lineAmount 6 = .ok (.ifCond .eq 5, 3) := by decide +kernel
theorem dX0_lineAmount_9 : decode cX0_lineAmount 9 = .ok (.iconst 0, 1) := by decide +kernel
theorem dX0_lineAmount_10 : decode cX0_lineAmount 10 = .ok (.ireturn, 1) := by decide +kernel
theorem dX0_lineAmount_11 : decode cX0_lineAmount 11 = .ok (.aload_n 0, 1) := by decide +kernel
theorem dX0_lineAmount_12 : decode cX0_lineAmount 12 = .ok (.getfield 53, 3) := by decide +kernel
theorem dX0_lineAmount_15 : decode cX0_lineAmount 15 = .ok (.iload_n 1, 1) := by decide +kernel
theorem dX0_lineAmount_16 : decode cX0_lineAmount 16 = .ok (.bipush 8, 2) := by decide +kernel
theorem dX0_lineAmount_18 : decode cX0_lineAmount 18 = .ok (.imul, 1) := by decide +kernel
theorem dX0_lineAmount_19 : decode cX0_lineAmount 19 = .ok (.aload_n 0, 1) := by decide +kernel
theorem dX0_lineAmount_20 : decode cX0_lineAmount 20 = .ok (.getfield 50, 3) := by decide +kernel
theorem dX0_lineAmount_23 : decode cX0_lineAmount 23 = .ok (.iload_n 1, 1) := by decide +kernel
theorem dX0_lineAmount_24 : decode cX0_lineAmount 24 = .ok (.iaload, 1) := by decide +kernel
theorem dX0_lineAmount_25 : decode cX0_lineAmount 25 = .ok (.iconst 1, 1) := by decide +kernel
theorem dX0_lineAmount_26 : decode cX0_lineAmount 26 = .ok (.isub, 1) := by decide +kernel
theorem dX0_lineAmount_27 : decode cX0_lineAmount 27 = .ok (.iload_n 2, 1) := by decide +kernel
theorem dX0_lineAmount_28 : decode cX0_lineAmount 28 = .ok (.isub, 1) := by decide +kernel
theorem dX0_lineAmount_29 : decode cX0_lineAmount 29 = .ok (.bipush 7, 2) := by decide +kernel
theorem dX0_lineAmount_31 : decode cX0_lineAmount 31 = .ok (.iand, 1) := by decide +kernel
theorem dX0_lineAmount_32 : decode cX0_lineAmount 32 = .ok (.iadd, 1) := by decide +kernel
theorem dX0_lineAmount_33 : decode cX0_lineAmount 33 = .ok (.iaload, 1) := by decide +kernel
theorem dX0_lineAmount_34 : decode cX0_lineAmount 34 = .ok (.ireturn, 1) := by decide +kernel
abbrev cX0_noLine : ByteArray := prog_1_method_21_code
def yX0_noLine : MethodName := ⟨RX0, "noLine", "(II)Z"⟩
theorem dX0_noLine_0 : decode cX0_noLine 0 = .ok (.iload_n 1, 1) := by decide +kernel
theorem dX0_noLine_1 : decode cX0_noLine 1 = .ok (.invokestatic 63, 3) := by decide +kernel
theorem dX0_noLine_4 : decode cX0_noLine 4 = .ok (.ifCond .ne 23, 3) := by decide +kernel
theorem dX0_noLine_7 : decode cX0_noLine 7 = .ok (.iload_n 2, 1) := by decide +kernel
theorem dX0_noLine_8 : decode cX0_noLine 8 = .ok (.ifCond .lt 19, 3) := by decide +kernel
theorem dX0_noLine_11 : decode cX0_noLine 11 = .ok (.iload_n 2, 1) := by decide +kernel
theorem dX0_noLine_12 : decode cX0_noLine 12 = .ok (.bipush 7, 2) := by decide +kernel
theorem dX0_noLine_14 : decode cX0_noLine 14 = .ok (.if_icmp .gt 13, 3) := by decide +kernel
theorem dX0_noLine_17 : decode cX0_noLine 17 = .ok (.iload_n 2, 1) := by decide +kernel
theorem dX0_noLine_18 : decode cX0_noLine 18 = .ok (.aload_n 0, 1) := by decide +kernel
theorem dX0_noLine_19 : decode cX0_noLine 19 = .ok (.getfield 50, 3) := by decide +kernel
theorem dX0_noLine_22 : decode cX0_noLine 22 = .ok (.iload_n 1, 1) := by decide +kernel
theorem dX0_noLine_23 : decode cX0_noLine 23 = .ok (.iaload, 1) := by decide +kernel
theorem dX0_noLine_24 : decode cX0_noLine 24 = .ok (.if_icmp .lt 7, 3) := by decide +kernel
theorem dX0_noLine_27 : decode cX0_noLine 27 = .ok (.iconst 1, 1) := by decide +kernel
theorem dX0_noLine_28 : decode cX0_noLine 28 = .ok (.goto 4, 3) := by decide +kernel
theorem dX0_noLine_31 : decode cX0_noLine 31 = .ok (.iconst 0, 1) := by decide +kernel
theorem dX0_noLine_32 : decode cX0_noLine 32 = .ok (.ireturn, 1) := by decide +kernel
abbrev cX0_linePeriod : ByteArray := prog_1_method_23_code
def yX0_linePeriod : MethodName := ⟨RX0, "linePeriod", "(II)I"⟩
theorem dX0_linePeriod_0 : decode cX0_linePeriod 0 = .ok (.aload_n 0, 1) := by decide +kernel
theorem dX0_linePeriod_1 : decode cX0_linePeriod 1 = .ok (.iload_n 1, 1) := by decide +kernel
theorem dX0_linePeriod_2 : decode cX0_linePeriod 2 = .ok (.iload_n 2, 1) := by decide +kernel
theorem dX0_linePeriod_3 : decode cX0_linePeriod 3 = .ok (.invokevirtual 102, 3) := by decide +kernel
theorem dX0_linePeriod_6 : decode cX0_linePeriod 6 = .ok (.ifCond .eq 6, 3) := by decide +kernel
theorem dX0_linePeriod_9 : decode cX0_linePeriod 9 = .ok (.bipush (-8), 2) := by decide +kernel
theorem dX0_linePeriod_11 : decode cX0_linePeriod 11 = .ok (.ireturn, 1) := by decide +kernel
theorem dX0_linePeriod_12 : decode cX0_linePeriod 12 = .ok (.aload_n 0, 1) := by decide +kernel
theorem dX0_linePeriod_13 : decode cX0_linePeriod 13 = .ok (.getfield 56, 3) := by decide +kernel
theorem dX0_linePeriod_16 : decode cX0_linePeriod 16 = .ok (.iload_n 1, 1) := by decide +kernel
theorem dX0_linePeriod_17 : decode cX0_linePeriod 17 = .ok (.bipush 8, 2) := by decide +kernel
theorem dX0_linePeriod_19 : decode cX0_linePeriod 19 = .ok (.imul, 1) := by decide +kernel
theorem dX0_linePeriod_20 : decode cX0_linePeriod 20 = .ok (.aload_n 0, 1) := by decide +kernel
theorem dX0_linePeriod_21 : decode cX0_linePeriod 21 = .ok (.getfield 50, 3) := by decide +kernel
theorem dX0_linePeriod_24 : decode cX0_linePeriod 24 = .ok (.iload_n 1, 1) := by decide +kernel
theorem dX0_linePeriod_25 : decode cX0_linePeriod 25 = .ok (.iaload, 1) := by decide +kernel
theorem dX0_linePeriod_26 : decode cX0_linePeriod 26 = .ok (.iconst 1, 1) := by decide +kernel
theorem dX0_linePeriod_27 : decode cX0_linePeriod 27 = .ok (.isub, 1) := by decide +kernel
theorem dX0_linePeriod_28 : decode cX0_linePeriod 28 = .ok (.iload_n 2, 1) := by decide +kernel
theorem dX0_linePeriod_29 : decode cX0_linePeriod 29 = .ok (.isub, 1) := by decide +kernel
theorem dX0_linePeriod_30 : decode cX0_linePeriod 30 = .ok (.bipush 7, 2) := by decide +kernel
theorem dX0_linePeriod_32 : decode cX0_linePeriod 32 = .ok (.iand, 1) := by decide +kernel
theorem dX0_linePeriod_33 : decode cX0_linePeriod 33 = .ok (.iadd, 1) := by decide +kernel
theorem dX0_linePeriod_34 : decode cX0_linePeriod 34 = .ok (.iaload, 1) := by decide +kernel
theorem dX0_linePeriod_35 : decode cX0_linePeriod 35 = .ok (.ireturn, 1) := by decide +kernel
theorem q17 : (Jvm.Cond.initialized "UtilityRebiller") ∈ lw_all := lw_g (lw_at lw_m1 1 rfl) rfl
theorem q20 : (Jvm.Cond.instantiable "UtilityRebiller" (17 : Nat)) ∈ lw_all := lw_g (lw_at lw_m1 4 rfl) rfl
theorem q22 : (Jvm.Cond.instanceMethod ({ cls := "UtilityRebiller", name := "<init>", desc := "()V" } : Jvm.MethodName)) ∈ lw_all := lw_g (lw_at lw_m1 6 rfl) rfl
theorem q23 : (Jvm.Cond.code ({ cls := "UtilityRebiller", name := "<init>", desc := "()V" } : Jvm.MethodName) prog_1_method_1_code (1 : Nat) (Option.none : Option Jvm.ClassFile.FieldType)) ∈ lw_all := lw_g (lw_at lw_m1 7 rfl) rfl
theorem q24 : (Jvm.Cond.methodLink "UtilityRebiller" (1 : Nat) ({ cls := "java/lang/Object", name := "<init>", desc := "()V" } : Jvm.MethodName)) ∈ lw_all := lw_g (lw_at lw_m1 8 rfl) rfl
theorem q27 : (Jvm.Cond.fieldLink "UtilityRebiller" (7 : Nat) "UtilityRebiller" "items" "[I") ∈ lw_all := lw_g (lw_at lw_m1 11 rfl) rfl
theorem q28 : (Jvm.Cond.fieldLink "UtilityRebiller" (13 : Nat) "UtilityRebiller" "fixedItems" "[I") ∈ lw_all := lw_g (lw_at lw_m1 12 rfl) rfl
theorem q29 : (Jvm.Cond.fieldLink "UtilityRebiller" (59 : Nat) "UtilityRebiller" "closed" "I") ∈ lw_all := lw_g (lw_at lw_m1 13 rfl) rfl
theorem q30 : (Jvm.Cond.fieldLink "UtilityRebiller" (16 : Nat) "UtilityRebiller" "known" "[Z") ∈ lw_all := lw_g (lw_at lw_m1 14 rfl) rfl
theorem q31 : (Jvm.Cond.fieldLink "UtilityRebiller" (20 : Nat) "UtilityRebiller" "reading" "[I") ∈ lw_all := lw_g (lw_at lw_m1 15 rfl) rfl
theorem q32 : (Jvm.Cond.fieldLink "UtilityRebiller" (23 : Nat) "UtilityRebiller" "used" "[I") ∈ lw_all := lw_g (lw_at lw_m1 16 rfl) rfl
theorem q33 : (Jvm.Cond.fieldLink "UtilityRebiller" (26 : Nat) "UtilityRebiller" "readCount" "[I") ∈ lw_all := lw_g (lw_at lw_m1 17 rfl) rfl
theorem q34 : (Jvm.Cond.fieldLink "UtilityRebiller" (29 : Nat) "UtilityRebiller" "readSum" "[I") ∈ lw_all := lw_g (lw_at lw_m1 18 rfl) rfl
theorem q35 : (Jvm.Cond.fieldLink "UtilityRebiller" (32 : Nat) "UtilityRebiller" "low" "[I") ∈ lw_all := lw_g (lw_at lw_m1 19 rfl) rfl
theorem q36 : (Jvm.Cond.fieldLink "UtilityRebiller" (35 : Nat) "UtilityRebiller" "middle" "[I") ∈ lw_all := lw_g (lw_at lw_m1 20 rfl) rfl
theorem q37 : (Jvm.Cond.fieldLink "UtilityRebiller" (38 : Nat) "UtilityRebiller" "high" "[I") ∈ lw_all := lw_g (lw_at lw_m1 21 rfl) rfl
theorem q38 : (Jvm.Cond.fieldLink "UtilityRebiller" (41 : Nat) "UtilityRebiller" "greatest" "[I") ∈ lw_all := lw_g (lw_at lw_m1 22 rfl) rfl
theorem q39 : (Jvm.Cond.fieldLink "UtilityRebiller" (44 : Nat) "UtilityRebiller" "billed" "[I") ∈ lw_all := lw_g (lw_at lw_m1 23 rfl) rfl
theorem q40 : (Jvm.Cond.fieldLink "UtilityRebiller" (47 : Nat) "UtilityRebiller" "sum" "[I") ∈ lw_all := lw_g (lw_at lw_m1 24 rfl) rfl
theorem q41 : (Jvm.Cond.fieldLink "UtilityRebiller" (50 : Nat) "UtilityRebiller" "count" "[I") ∈ lw_all := lw_g (lw_at lw_m1 25 rfl) rfl
theorem q42 : (Jvm.Cond.fieldLink "UtilityRebiller" (53 : Nat) "UtilityRebiller" "lastAmount" "[I") ∈ lw_all := lw_g (lw_at lw_m1 26 rfl) rfl
theorem q43 : (Jvm.Cond.fieldLink "UtilityRebiller" (56 : Nat) "UtilityRebiller" "lastPeriod" "[I") ∈ lw_all := lw_g (lw_at lw_m1 27 rfl) rfl
theorem q44 : (Jvm.Cond.laysFinal "UtilityRebiller" "UtilityRebiller" "items" "[I") ∈ lw_all := lw_g (lw_at lw_m1 28 rfl) rfl
theorem q45 : (Jvm.Cond.soleField "UtilityRebiller" "items") ∈ lw_all := lw_g (lw_at lw_m1 29 rfl) rfl
theorem q46 : (Jvm.Cond.laysFinal "UtilityRebiller" "UtilityRebiller" "fixedItems" "[I") ∈ lw_all := lw_g (lw_at lw_m1 30 rfl) rfl
theorem q47 : (Jvm.Cond.soleField "UtilityRebiller" "fixedItems") ∈ lw_all := lw_g (lw_at lw_m1 31 rfl) rfl
theorem q48 : (Jvm.Cond.lays "UtilityRebiller" "UtilityRebiller" "closed" "I") ∈ lw_all := lw_g (lw_at lw_m1 32 rfl) rfl
theorem q49 : (Jvm.Cond.soleField "UtilityRebiller" "closed") ∈ lw_all := lw_g (lw_at lw_m1 33 rfl) rfl
theorem q50 : (Jvm.Cond.laysFinal "UtilityRebiller" "UtilityRebiller" "known" "[Z") ∈ lw_all := lw_g (lw_at lw_m1 34 rfl) rfl
theorem q51 : (Jvm.Cond.soleField "UtilityRebiller" "known") ∈ lw_all := lw_g (lw_at lw_m1 35 rfl) rfl
theorem q52 : (Jvm.Cond.laysFinal "UtilityRebiller" "UtilityRebiller" "reading" "[I") ∈ lw_all := lw_g (lw_at lw_m1 36 rfl) rfl
theorem q53 : (Jvm.Cond.soleField "UtilityRebiller" "reading") ∈ lw_all := lw_g (lw_at lw_m1 37 rfl) rfl
theorem q54 : (Jvm.Cond.laysFinal "UtilityRebiller" "UtilityRebiller" "used" "[I") ∈ lw_all := lw_g (lw_at lw_m1 38 rfl) rfl
theorem q55 : (Jvm.Cond.soleField "UtilityRebiller" "used") ∈ lw_all := lw_g (lw_at lw_m1 39 rfl) rfl
theorem q56 : (Jvm.Cond.laysFinal "UtilityRebiller" "UtilityRebiller" "readCount" "[I") ∈ lw_all := lw_g (lw_at lw_m1 40 rfl) rfl
theorem q57 : (Jvm.Cond.soleField "UtilityRebiller" "readCount") ∈ lw_all := lw_g (lw_at lw_m1 41 rfl) rfl
theorem q58 : (Jvm.Cond.laysFinal "UtilityRebiller" "UtilityRebiller" "readSum" "[I") ∈ lw_all := lw_g (lw_at lw_m1 42 rfl) rfl
theorem q59 : (Jvm.Cond.soleField "UtilityRebiller" "readSum") ∈ lw_all := lw_g (lw_at lw_m1 43 rfl) rfl
theorem q60 : (Jvm.Cond.laysFinal "UtilityRebiller" "UtilityRebiller" "low" "[I") ∈ lw_all := lw_g (lw_at lw_m1 44 rfl) rfl
theorem q61 : (Jvm.Cond.soleField "UtilityRebiller" "low") ∈ lw_all := lw_g (lw_at lw_m1 45 rfl) rfl
theorem q62 : (Jvm.Cond.laysFinal "UtilityRebiller" "UtilityRebiller" "middle" "[I") ∈ lw_all := lw_g (lw_at lw_m1 46 rfl) rfl
theorem q63 : (Jvm.Cond.soleField "UtilityRebiller" "middle") ∈ lw_all := lw_g (lw_at lw_m1 47 rfl) rfl
theorem q64 : (Jvm.Cond.laysFinal "UtilityRebiller" "UtilityRebiller" "high" "[I") ∈ lw_all := lw_g (lw_at lw_m1 48 rfl) rfl
theorem q65 : (Jvm.Cond.soleField "UtilityRebiller" "high") ∈ lw_all := lw_g (lw_at lw_m1 49 rfl) rfl
theorem q66 : (Jvm.Cond.laysFinal "UtilityRebiller" "UtilityRebiller" "greatest" "[I") ∈ lw_all := lw_g (lw_at lw_m1 50 rfl) rfl
theorem q67 : (Jvm.Cond.soleField "UtilityRebiller" "greatest") ∈ lw_all := lw_g (lw_at lw_m1 51 rfl) rfl
theorem q68 : (Jvm.Cond.laysFinal "UtilityRebiller" "UtilityRebiller" "billed" "[I") ∈ lw_all := lw_g (lw_at lw_m1 52 rfl) rfl
theorem q69 : (Jvm.Cond.soleField "UtilityRebiller" "billed") ∈ lw_all := lw_g (lw_at lw_m1 53 rfl) rfl
theorem q70 : (Jvm.Cond.laysFinal "UtilityRebiller" "UtilityRebiller" "sum" "[I") ∈ lw_all := lw_g (lw_at lw_m1 54 rfl) rfl
theorem q71 : (Jvm.Cond.soleField "UtilityRebiller" "sum") ∈ lw_all := lw_g (lw_at lw_m1 55 rfl) rfl
theorem q72 : (Jvm.Cond.laysFinal "UtilityRebiller" "UtilityRebiller" "count" "[I") ∈ lw_all := lw_g (lw_at lw_m1 56 rfl) rfl
theorem q73 : (Jvm.Cond.soleField "UtilityRebiller" "count") ∈ lw_all := lw_g (lw_at lw_m1 57 rfl) rfl
theorem q74 : (Jvm.Cond.laysFinal "UtilityRebiller" "UtilityRebiller" "lastAmount" "[I") ∈ lw_all := lw_g (lw_at lw_m1 58 rfl) rfl
theorem q75 : (Jvm.Cond.soleField "UtilityRebiller" "lastAmount") ∈ lw_all := lw_g (lw_at lw_m1 59 rfl) rfl
theorem q76 : (Jvm.Cond.laysFinal "UtilityRebiller" "UtilityRebiller" "lastPeriod" "[I") ∈ lw_all := lw_g (lw_at lw_m1 60 rfl) rfl
theorem q77 : (Jvm.Cond.soleField "UtilityRebiller" "lastPeriod") ∈ lw_all := lw_g (lw_at lw_m1 61 rfl) rfl
theorem q78 : (Jvm.Cond.superclass "UtilityRebiller" "java/lang/Object") ∈ lw_all := lw_g (lw_at lw_m1 62 rfl) rfl
theorem q82 : (Jvm.Cond.instanceMethod ({ cls := "UtilityRebiller", name := "tariff", desc := "(II)I" } : Jvm.MethodName)) ∈ lw_all := lw_g (lw_at lw_m1 66 rfl) rfl
theorem q83 : (Jvm.Cond.selects "UtilityRebiller" ({ cls := "UtilityRebiller", name := "tariff", desc := "(II)I" } : Jvm.MethodName) ({ cls := "UtilityRebiller", name := "tariff", desc := "(II)I" } : Jvm.MethodName)) ∈ lw_all := lw_g (lw_at lw_m1 67 rfl) rfl
theorem q84 : (Jvm.Cond.code ({ cls := "UtilityRebiller", name := "tariff", desc := "(II)I" } : Jvm.MethodName) prog_1_method_4_code (4 : Nat) (Option.some Jvm.ClassFile.FieldType.int)) ∈ lw_all := lw_g (lw_at lw_m1 68 rfl) rfl
theorem q86 : (Jvm.Cond.instanceMethod ({ cls := "UtilityRebiller", name := "read", desc := "(III)I" } : Jvm.MethodName)) ∈ lw_all := lw_g (lw_at lw_m1 70 rfl) rfl
theorem q87 : (Jvm.Cond.selects "UtilityRebiller" ({ cls := "UtilityRebiller", name := "read", desc := "(III)I" } : Jvm.MethodName) ({ cls := "UtilityRebiller", name := "read", desc := "(III)I" } : Jvm.MethodName)) ∈ lw_all := lw_g (lw_at lw_m1 71 rfl) rfl
theorem q88 : (Jvm.Cond.code ({ cls := "UtilityRebiller", name := "read", desc := "(III)I" } : Jvm.MethodName) prog_1_method_5_code (6 : Nat) (Option.some Jvm.ClassFile.FieldType.int)) ∈ lw_all := lw_g (lw_at lw_m1 72 rfl) rfl
theorem q89 : (Jvm.Cond.methodLink "UtilityRebiller" (63 : Nat) ({ cls := "UtilityRebiller", name := "badAccount", desc := "(I)Z" } : Jvm.MethodName)) ∈ lw_all := lw_g (lw_at lw_m1 73 rfl) rfl
theorem q90 : (Jvm.Cond.static ({ cls := "UtilityRebiller", name := "badAccount", desc := "(I)Z" } : Jvm.MethodName)) ∈ lw_all := lw_g (lw_at lw_m1 74 rfl) rfl
theorem q91 : (Jvm.Cond.code ({ cls := "UtilityRebiller", name := "badAccount", desc := "(I)Z" } : Jvm.MethodName) prog_1_method_2_code (1 : Nat) (Option.some Jvm.ClassFile.FieldType.boolean)) ∈ lw_all := lw_g (lw_at lw_m1 75 rfl) rfl
theorem q92 : (Jvm.Cond.methodLink "UtilityRebiller" (67 : Nat) ({ cls := "UtilityRebiller", name := "badInterval", desc := "(I)Z" } : Jvm.MethodName)) ∈ lw_all := lw_g (lw_at lw_m1 76 rfl) rfl
theorem q93 : (Jvm.Cond.static ({ cls := "UtilityRebiller", name := "badInterval", desc := "(I)Z" } : Jvm.MethodName)) ∈ lw_all := lw_g (lw_at lw_m1 77 rfl) rfl
theorem q94 : (Jvm.Cond.code ({ cls := "UtilityRebiller", name := "badInterval", desc := "(I)Z" } : Jvm.MethodName) prog_1_method_3_code (1 : Nat) (Option.some Jvm.ClassFile.FieldType.boolean)) ∈ lw_all := lw_g (lw_at lw_m1 78 rfl) rfl
theorem q95 : (Jvm.Cond.methodLink "UtilityRebiller" (70 : Nat) ({ cls := "UtilityRebiller", name := "forgetRead", desc := "(II)V" } : Jvm.MethodName)) ∈ lw_all := lw_g (lw_at lw_m1 79 rfl) rfl
theorem q96 : (Jvm.Cond.privateMethod ({ cls := "UtilityRebiller", name := "forgetRead", desc := "(II)V" } : Jvm.MethodName)) ∈ lw_tbl := lw_at lw_m1 80 rfl
theorem q97 : (Jvm.Cond.instanceMethod ({ cls := "UtilityRebiller", name := "forgetRead", desc := "(II)V" } : Jvm.MethodName)) ∈ lw_all := lw_g (lw_at lw_m1 81 rfl) rfl
theorem q98 : (Jvm.Cond.code ({ cls := "UtilityRebiller", name := "forgetRead", desc := "(II)V" } : Jvm.MethodName) prog_1_method_7_code (5 : Nat) (Option.none : Option Jvm.ClassFile.FieldType)) ∈ lw_all := lw_g (lw_at lw_m1 82 rfl) rfl
theorem q99 : (Jvm.Cond.methodLink "UtilityRebiller" (74 : Nat) ({ cls := "UtilityRebiller", name := "refresh", desc := "(II)I" } : Jvm.MethodName)) ∈ lw_all := lw_g (lw_at lw_m1 83 rfl) rfl
theorem q100 : (Jvm.Cond.privateMethod ({ cls := "UtilityRebiller", name := "refresh", desc := "(II)I" } : Jvm.MethodName)) ∈ lw_tbl := lw_at lw_m1 84 rfl
theorem q101 : (Jvm.Cond.instanceMethod ({ cls := "UtilityRebiller", name := "refresh", desc := "(II)I" } : Jvm.MethodName)) ∈ lw_all := lw_g (lw_at lw_m1 85 rfl) rfl
theorem q102 : (Jvm.Cond.code ({ cls := "UtilityRebiller", name := "refresh", desc := "(II)I" } : Jvm.MethodName) prog_1_method_9_code (8 : Nat) (Option.some Jvm.ClassFile.FieldType.int)) ∈ lw_all := lw_g (lw_at lw_m1 86 rfl) rfl
theorem q103 : (Jvm.Cond.methodLink "UtilityRebiller" (78 : Nat) ({ cls := "UtilityRebiller", name := "update", desc := "(II)V" } : Jvm.MethodName)) ∈ lw_all := lw_g (lw_at lw_m1 87 rfl) rfl
theorem q104 : (Jvm.Cond.privateMethod ({ cls := "UtilityRebiller", name := "update", desc := "(II)V" } : Jvm.MethodName)) ∈ lw_tbl := lw_at lw_m1 88 rfl
theorem q105 : (Jvm.Cond.instanceMethod ({ cls := "UtilityRebiller", name := "update", desc := "(II)V" } : Jvm.MethodName)) ∈ lw_all := lw_g (lw_at lw_m1 89 rfl) rfl
theorem q106 : (Jvm.Cond.code ({ cls := "UtilityRebiller", name := "update", desc := "(II)V" } : Jvm.MethodName) prog_1_method_10_code (8 : Nat) (Option.none : Option Jvm.ClassFile.FieldType)) ∈ lw_all := lw_g (lw_at lw_m1 90 rfl) rfl
theorem q107 : (Jvm.Cond.methodLink "UtilityRebiller" (85 : Nat) ({ cls := "UtilityRebiller", name := "rule", desc := "(II)I" } : Jvm.MethodName)) ∈ lw_all := lw_g (lw_at lw_m1 91 rfl) rfl
theorem q108 : (Jvm.Cond.privateMethod ({ cls := "UtilityRebiller", name := "rule", desc := "(II)I" } : Jvm.MethodName)) ∈ lw_tbl := lw_at lw_m1 92 rfl
theorem q109 : (Jvm.Cond.instanceMethod ({ cls := "UtilityRebiller", name := "rule", desc := "(II)I" } : Jvm.MethodName)) ∈ lw_all := lw_g (lw_at lw_m1 93 rfl) rfl
theorem q110 : (Jvm.Cond.code ({ cls := "UtilityRebiller", name := "rule", desc := "(II)I" } : Jvm.MethodName) prog_1_method_8_code (5 : Nat) (Option.some Jvm.ClassFile.FieldType.int)) ∈ lw_all := lw_g (lw_at lw_m1 94 rfl) rfl
theorem q111 : (Jvm.Cond.methodLink "UtilityRebiller" (88 : Nat) ({ cls := "UtilityRebiller", name := "rescan", desc := "(I)V" } : Jvm.MethodName)) ∈ lw_all := lw_g (lw_at lw_m1 95 rfl) rfl
theorem q112 : (Jvm.Cond.privateMethod ({ cls := "UtilityRebiller", name := "rescan", desc := "(I)V" } : Jvm.MethodName)) ∈ lw_tbl := lw_at lw_m1 96 rfl
theorem q113 : (Jvm.Cond.instanceMethod ({ cls := "UtilityRebiller", name := "rescan", desc := "(I)V" } : Jvm.MethodName)) ∈ lw_all := lw_g (lw_at lw_m1 97 rfl) rfl
theorem q114 : (Jvm.Cond.code ({ cls := "UtilityRebiller", name := "rescan", desc := "(I)V" } : Jvm.MethodName) prog_1_method_11_code (6 : Nat) (Option.none : Option Jvm.ClassFile.FieldType)) ∈ lw_all := lw_g (lw_at lw_m1 98 rfl) rfl
theorem q115 : (Jvm.Cond.methodLink "UtilityRebiller" (81 : Nat) ({ cls := "UtilityRebiller", name := "rebill", desc := "(II)Z" } : Jvm.MethodName)) ∈ lw_all := lw_g (lw_at lw_m1 99 rfl) rfl
theorem q116 : (Jvm.Cond.privateMethod ({ cls := "UtilityRebiller", name := "rebill", desc := "(II)Z" } : Jvm.MethodName)) ∈ lw_tbl := lw_at lw_m1 100 rfl
theorem q117 : (Jvm.Cond.instanceMethod ({ cls := "UtilityRebiller", name := "rebill", desc := "(II)Z" } : Jvm.MethodName)) ∈ lw_all := lw_g (lw_at lw_m1 101 rfl) rfl
theorem q118 : (Jvm.Cond.code ({ cls := "UtilityRebiller", name := "rebill", desc := "(II)Z" } : Jvm.MethodName) prog_1_method_14_code (5 : Nat) (Option.some Jvm.ClassFile.FieldType.boolean)) ∈ lw_all := lw_g (lw_at lw_m1 102 rfl) rfl
theorem q119 : (Jvm.Cond.methodLink "UtilityRebiller" (95 : Nat) ({ cls := "UtilityRebiller", name := "rate", desc := "(II)I" } : Jvm.MethodName)) ∈ lw_all := lw_g (lw_at lw_m1 103 rfl) rfl
theorem q120 : (Jvm.Cond.privateMethod ({ cls := "UtilityRebiller", name := "rate", desc := "(II)I" } : Jvm.MethodName)) ∈ lw_tbl := lw_at lw_m1 104 rfl
theorem q121 : (Jvm.Cond.instanceMethod ({ cls := "UtilityRebiller", name := "rate", desc := "(II)I" } : Jvm.MethodName)) ∈ lw_all := lw_g (lw_at lw_m1 105 rfl) rfl
theorem q122 : (Jvm.Cond.code ({ cls := "UtilityRebiller", name := "rate", desc := "(II)I" } : Jvm.MethodName) prog_1_method_13_code (10 : Nat) (Option.some Jvm.ClassFile.FieldType.int)) ∈ lw_all := lw_g (lw_at lw_m1 106 rfl) rfl
theorem q123 : (Jvm.Cond.methodLink "UtilityRebiller" (92 : Nat) ({ cls := "UtilityRebiller", name := "item", desc := "(II)I" } : Jvm.MethodName)) ∈ lw_all := lw_g (lw_at lw_m1 107 rfl) rfl
theorem q124 : (Jvm.Cond.privateMethod ({ cls := "UtilityRebiller", name := "item", desc := "(II)I" } : Jvm.MethodName)) ∈ lw_tbl := lw_at lw_m1 108 rfl
theorem q125 : (Jvm.Cond.instanceMethod ({ cls := "UtilityRebiller", name := "item", desc := "(II)I" } : Jvm.MethodName)) ∈ lw_all := lw_g (lw_at lw_m1 109 rfl) rfl
theorem q126 : (Jvm.Cond.code ({ cls := "UtilityRebiller", name := "item", desc := "(II)I" } : Jvm.MethodName) prog_1_method_12_code (3 : Nat) (Option.some Jvm.ClassFile.FieldType.int)) ∈ lw_all := lw_g (lw_at lw_m1 110 rfl) rfl
theorem q127 : (Jvm.Cond.methodLink "UtilityRebiller" (98 : Nat) ({ cls := "UtilityRebiller", name := "addLine", desc := "(III)V" } : Jvm.MethodName)) ∈ lw_all := lw_g (lw_at lw_m1 111 rfl) rfl
theorem q128 : (Jvm.Cond.privateMethod ({ cls := "UtilityRebiller", name := "addLine", desc := "(III)V" } : Jvm.MethodName)) ∈ lw_tbl := lw_at lw_m1 112 rfl
theorem q129 : (Jvm.Cond.instanceMethod ({ cls := "UtilityRebiller", name := "addLine", desc := "(III)V" } : Jvm.MethodName)) ∈ lw_all := lw_g (lw_at lw_m1 113 rfl) rfl
theorem q130 : (Jvm.Cond.code ({ cls := "UtilityRebiller", name := "addLine", desc := "(III)V" } : Jvm.MethodName) prog_1_method_15_code (5 : Nat) (Option.none : Option Jvm.ClassFile.FieldType)) ∈ lw_all := lw_g (lw_at lw_m1 114 rfl) rfl
theorem q132 : (Jvm.Cond.instanceMethod ({ cls := "UtilityRebiller", name := "unread", desc := "(II)I" } : Jvm.MethodName)) ∈ lw_all := lw_g (lw_at lw_m1 116 rfl) rfl
theorem q133 : (Jvm.Cond.selects "UtilityRebiller" ({ cls := "UtilityRebiller", name := "unread", desc := "(II)I" } : Jvm.MethodName) ({ cls := "UtilityRebiller", name := "unread", desc := "(II)I" } : Jvm.MethodName)) ∈ lw_all := lw_g (lw_at lw_m1 117 rfl) rfl
theorem q134 : (Jvm.Cond.code ({ cls := "UtilityRebiller", name := "unread", desc := "(II)I" } : Jvm.MethodName) prog_1_method_6_code (3 : Nat) (Option.some Jvm.ClassFile.FieldType.int)) ∈ lw_all := lw_g (lw_at lw_m1 118 rfl) rfl
theorem q136 : (Jvm.Cond.instanceMethod ({ cls := "UtilityRebiller", name := "close", desc := "()I" } : Jvm.MethodName)) ∈ lw_all := lw_g (lw_at lw_m1 120 rfl) rfl
theorem q137 : (Jvm.Cond.selects "UtilityRebiller" ({ cls := "UtilityRebiller", name := "close", desc := "()I" } : Jvm.MethodName) ({ cls := "UtilityRebiller", name := "close", desc := "()I" } : Jvm.MethodName)) ∈ lw_all := lw_g (lw_at lw_m1 121 rfl) rfl
theorem q138 : (Jvm.Cond.code ({ cls := "UtilityRebiller", name := "close", desc := "()I" } : Jvm.MethodName) prog_1_method_16_code (4 : Nat) (Option.some Jvm.ClassFile.FieldType.int)) ∈ lw_all := lw_g (lw_at lw_m1 122 rfl) rfl
theorem q140 : (Jvm.Cond.instanceMethod ({ cls := "UtilityRebiller", name := "usage", desc := "(II)I" } : Jvm.MethodName)) ∈ lw_all := lw_g (lw_at lw_m1 124 rfl) rfl
theorem q141 : (Jvm.Cond.selects "UtilityRebiller" ({ cls := "UtilityRebiller", name := "usage", desc := "(II)I" } : Jvm.MethodName) ({ cls := "UtilityRebiller", name := "usage", desc := "(II)I" } : Jvm.MethodName)) ∈ lw_all := lw_g (lw_at lw_m1 125 rfl) rfl
theorem q142 : (Jvm.Cond.code ({ cls := "UtilityRebiller", name := "usage", desc := "(II)I" } : Jvm.MethodName) prog_1_method_17_code (3 : Nat) (Option.some Jvm.ClassFile.FieldType.int)) ∈ lw_all := lw_g (lw_at lw_m1 126 rfl) rfl
theorem q144 : (Jvm.Cond.instanceMethod ({ cls := "UtilityRebiller", name := "amount", desc := "(II)I" } : Jvm.MethodName)) ∈ lw_all := lw_g (lw_at lw_m1 128 rfl) rfl
theorem q145 : (Jvm.Cond.selects "UtilityRebiller" ({ cls := "UtilityRebiller", name := "amount", desc := "(II)I" } : Jvm.MethodName) ({ cls := "UtilityRebiller", name := "amount", desc := "(II)I" } : Jvm.MethodName)) ∈ lw_all := lw_g (lw_at lw_m1 129 rfl) rfl
theorem q146 : (Jvm.Cond.code ({ cls := "UtilityRebiller", name := "amount", desc := "(II)I" } : Jvm.MethodName) prog_1_method_18_code (3 : Nat) (Option.some Jvm.ClassFile.FieldType.int)) ∈ lw_all := lw_g (lw_at lw_m1 130 rfl) rfl
theorem q148 : (Jvm.Cond.instanceMethod ({ cls := "UtilityRebiller", name := "balance", desc := "(I)I" } : Jvm.MethodName)) ∈ lw_all := lw_g (lw_at lw_m1 132 rfl) rfl
theorem q149 : (Jvm.Cond.selects "UtilityRebiller" ({ cls := "UtilityRebiller", name := "balance", desc := "(I)I" } : Jvm.MethodName) ({ cls := "UtilityRebiller", name := "balance", desc := "(I)I" } : Jvm.MethodName)) ∈ lw_all := lw_g (lw_at lw_m1 133 rfl) rfl
theorem q150 : (Jvm.Cond.code ({ cls := "UtilityRebiller", name := "balance", desc := "(I)I" } : Jvm.MethodName) prog_1_method_19_code (2 : Nat) (Option.some Jvm.ClassFile.FieldType.int)) ∈ lw_all := lw_g (lw_at lw_m1 134 rfl) rfl
theorem q152 : (Jvm.Cond.instanceMethod ({ cls := "UtilityRebiller", name := "lines", desc := "(I)I" } : Jvm.MethodName)) ∈ lw_all := lw_g (lw_at lw_m1 136 rfl) rfl
theorem q153 : (Jvm.Cond.selects "UtilityRebiller" ({ cls := "UtilityRebiller", name := "lines", desc := "(I)I" } : Jvm.MethodName) ({ cls := "UtilityRebiller", name := "lines", desc := "(I)I" } : Jvm.MethodName)) ∈ lw_all := lw_g (lw_at lw_m1 137 rfl) rfl
theorem q154 : (Jvm.Cond.code ({ cls := "UtilityRebiller", name := "lines", desc := "(I)I" } : Jvm.MethodName) prog_1_method_20_code (2 : Nat) (Option.some Jvm.ClassFile.FieldType.int)) ∈ lw_all := lw_g (lw_at lw_m1 138 rfl) rfl
theorem q156 : (Jvm.Cond.instanceMethod ({ cls := "UtilityRebiller", name := "lineAmount", desc := "(II)I" } : Jvm.MethodName)) ∈ lw_all := lw_g (lw_at lw_m1 140 rfl) rfl
theorem q157 : (Jvm.Cond.selects "UtilityRebiller" ({ cls := "UtilityRebiller", name := "lineAmount", desc := "(II)I" } : Jvm.MethodName) ({ cls := "UtilityRebiller", name := "lineAmount", desc := "(II)I" } : Jvm.MethodName)) ∈ lw_all := lw_g (lw_at lw_m1 141 rfl) rfl
theorem q158 : (Jvm.Cond.code ({ cls := "UtilityRebiller", name := "lineAmount", desc := "(II)I" } : Jvm.MethodName) prog_1_method_22_code (3 : Nat) (Option.some Jvm.ClassFile.FieldType.int)) ∈ lw_all := lw_g (lw_at lw_m1 142 rfl) rfl
theorem q159 : (Jvm.Cond.methodLink "UtilityRebiller" (102 : Nat) ({ cls := "UtilityRebiller", name := "noLine", desc := "(II)Z" } : Jvm.MethodName)) ∈ lw_all := lw_g (lw_at lw_m1 143 rfl) rfl
theorem q160 : (Jvm.Cond.privateMethod ({ cls := "UtilityRebiller", name := "noLine", desc := "(II)Z" } : Jvm.MethodName)) ∈ lw_tbl := lw_at lw_m1 144 rfl
theorem q161 : (Jvm.Cond.instanceMethod ({ cls := "UtilityRebiller", name := "noLine", desc := "(II)Z" } : Jvm.MethodName)) ∈ lw_all := lw_g (lw_at lw_m1 145 rfl) rfl
theorem q162 : (Jvm.Cond.code ({ cls := "UtilityRebiller", name := "noLine", desc := "(II)Z" } : Jvm.MethodName) prog_1_method_21_code (3 : Nat) (Option.some Jvm.ClassFile.FieldType.boolean)) ∈ lw_all := lw_g (lw_at lw_m1 146 rfl) rfl
theorem q164 : (Jvm.Cond.instanceMethod ({ cls := "UtilityRebiller", name := "linePeriod", desc := "(II)I" } : Jvm.MethodName)) ∈ lw_all := lw_g (lw_at lw_m1 148 rfl) rfl
theorem q165 : (Jvm.Cond.selects "UtilityRebiller" ({ cls := "UtilityRebiller", name := "linePeriod", desc := "(II)I" } : Jvm.MethodName) ({ cls := "UtilityRebiller", name := "linePeriod", desc := "(II)I" } : Jvm.MethodName)) ∈ lw_all := lw_g (lw_at lw_m1 149 rfl) rfl
theorem q166 : (Jvm.Cond.code ({ cls := "UtilityRebiller", name := "linePeriod", desc := "(II)I" } : Jvm.MethodName) prog_1_method_23_code (3 : Nat) (Option.some Jvm.ClassFile.FieldType.int)) ∈ lw_all := lw_g (lw_at lw_m1 150 rfl) rfl
theorem in_X0 : ∀ w ∈ wsX00, w ∈ lw_all := lw_in wsX00 [44, 46, 48, 50, 52, 54, 56, 58, 60, 62, 64, 66, 68, 70, 72, 74, 76] (by decide +kernel) (by decide +kernel)
end
section
set_option maxRecDepth 100000
/-! UtilityRebillerModel -/
def RX1 : String := "UtilityRebillerModel"
def TX1 : u_T := fun k => match k with
  | 0 => ("UtilityRebillerModel", "reads", "[I", true)
  | 1 => ("UtilityRebillerModel", "items", "[I", true)
  | 2 => ("UtilityRebillerModel", "tariffs", "[I", true)
  | 3 => ("UtilityRebillerModel", "closed", "I", false)
  | 4 => ("UtilityRebillerModel", "billed", "[I", true)
  | 5 => ("UtilityRebillerModel", "lines", "[I", true)
  | 6 => ("UtilityRebillerModel", "sums", "[I", true)
  | 7 => ("UtilityRebillerModel", "amounts", "[I", true)
  | _ => ("UtilityRebillerModel", "periods", "[I", true)
def tyX1 : Nat → FieldType := fun k => match k with
  | 0 => .array .int
  | 1 => .array .int
  | 2 => .array .int
  | 3 => .int
  | 4 => .array .int
  | 5 => .array .int
  | 6 => .array .int
  | 7 => .array .int
  | _ => .array .int
abbrev wsX10 : List Cond := u_ws RX1 TX1 9
theorem nmX1 : ∀ a, a < 9 → ∀ b, b < 9 → a ≠ b → (TX1 a).2.1 ≠ (TX1 b).2.1 := by decide +kernel
theorem tyX1_ok : ∀ k, k < 9 → parseFieldDescriptor (TX1 k).2.2.1 = some (tyX1 k) := by decide +kernel
abbrev cX1_init : ByteArray := prog_3_method_1_code
def yX1_init : MethodName := ⟨RX1, "<init>", "()V"⟩
theorem dX1_init_0 : decode cX1_init 0 = .ok (.aload_n 0, 1) := by decide +kernel
theorem dX1_init_1 : decode cX1_init 1 = .ok (.invokespecial 1, 3) := by decide +kernel
theorem dX1_init_4 : decode cX1_init 4 = .ok (.aload_n 0, 1) := by decide +kernel
theorem dX1_init_5 : decode cX1_init 5 = .ok (.bipush 96, 2) := by decide +kernel
theorem dX1_init_7 : decode cX1_init 7 = .ok (.newarray .int, 2) := by decide +kernel
theorem dX1_init_9 : decode cX1_init 9 = .ok (.putfield 7, 3) := by decide +kernel
theorem dX1_init_12 : decode cX1_init 12 = .ok (.aload_n 0, 1) := by decide +kernel
theorem dX1_init_13 : decode cX1_init 13 = .ok (.bipush 6, 2) := by decide +kernel
theorem dX1_init_15 : decode cX1_init 15 = .ok (.newarray .int, 2) := by decide +kernel
theorem dX1_init_17 : decode cX1_init 17 = .ok (.putfield 13, 3) := by decide +kernel
theorem dX1_init_20 : decode cX1_init 20 = .ok (.aload_n 0, 1) := by decide +kernel
theorem dX1_init_21 : decode cX1_init 21 = .ok (.bipush 36, 2) := by decide +kernel
theorem dX1_init_23 : decode cX1_init 23 = .ok (.newarray .int, 2) := by decide +kernel
theorem dX1_init_25 : decode cX1_init 25 = .ok (.putfield 16, 3) := by decide +kernel
theorem dX1_init_28 : decode cX1_init 28 = .ok (.aload_n 0, 1) := by decide +kernel
theorem dX1_init_29 : decode cX1_init 29 = .ok (.bipush 12, 2) := by decide +kernel
theorem dX1_init_31 : decode cX1_init 31 = .ok (.newarray .int, 2) := by decide +kernel
theorem dX1_init_33 : decode cX1_init 33 = .ok (.putfield 19, 3) := by decide +kernel
theorem dX1_init_36 : decode cX1_init 36 = .ok (.aload_n 0, 1) := by decide +kernel
theorem dX1_init_37 : decode cX1_init 37 = .ok (.iconst 2, 1) := by decide +kernel
theorem dX1_init_38 : decode cX1_init 38 = .ok (.newarray .int, 2) := by decide +kernel
theorem dX1_init_40 : decode cX1_init 40 = .ok (.putfield 22, 3) := by decide +kernel
theorem dX1_init_43 : decode cX1_init 43 = .ok (.aload_n 0, 1) := by decide +kernel
theorem dX1_init_44 : decode cX1_init 44 = .ok (.iconst 2, 1) := by decide +kernel
theorem dX1_init_45 : decode cX1_init 45 = .ok (.newarray .int, 2) := by decide +kernel
theorem dX1_init_47 : decode cX1_init 47 = .ok (.putfield 25, 3) := by decide +kernel
theorem dX1_init_50 : decode cX1_init 50 = .ok (.aload_n 0, 1) := by decide +kernel
theorem dX1_init_51 : decode cX1_init 51 = .ok (.bipush 16, 2) := by decide +kernel
theorem dX1_init_53 : decode cX1_init 53 = .ok (.newarray .int, 2) := by decide +kernel
theorem dX1_init_55 : decode cX1_init 55 = .ok (.putfield 28, 3) := by decide +kernel
theorem dX1_init_58 : decode cX1_init 58 = .ok (.aload_n 0, 1) := by decide +kernel
theorem dX1_init_59 : decode cX1_init 59 = .ok (.bipush 16, 2) := by decide +kernel
theorem dX1_init_61 : decode cX1_init 61 = .ok (.newarray .int, 2) := by decide +kernel
theorem dX1_init_63 : decode cX1_init 63 = .ok (.putfield 31, 3) := by decide +kernel
theorem dX1_init_66 : decode cX1_init 66 = .ok (.iconst 0, 1) := by decide +kernel
theorem dX1_init_67 : decode cX1_init 67 = .ok (.istore_n 1, 1) := by decide +kernel
theorem dX1_init_68 : decode cX1_init 68 = .ok (.iload_n 1, 1) := by decide +kernel
theorem dX1_init_69 : decode cX1_init 69 = .ok (.bipush 96, 2) := by decide +kernel
theorem dX1_init_71 : decode cX1_init 71 = .ok (.if_icmp .ge 16, 3) := by decide +kernel
theorem dX1_init_74 : decode cX1_init 74 = .ok (.aload_n 0, 1) := by decide +kernel
theorem dX1_init_75 : decode cX1_init 75 = .ok (.getfield 7, 3) := by decide +kernel
theorem dX1_init_78 : decode cX1_init 78 = .ok (.iload_n 1, 1) := by decide +kernel
theorem dX1_init_79 : decode cX1_init 79 = .ok (.iconst (-1), 1) := by decide +kernel
theorem dX1_init_80 : decode cX1_init 80 = .ok (.iastore, 1) := by decide +kernel
theorem dX1_init_81 : decode cX1_init 81 = .ok (.iinc 1 1, 3) := by decide +kernel
theorem dX1_init_84 : decode cX1_init 84 = .ok (.goto (-16), 3) := by decide +kernel
theorem dX1_init_87 : decode cX1_init 87 = .ok (.return_, 1) := by decide +kernel
abbrev cX1_tariff : ByteArray := prog_3_method_4_code
def yX1_tariff : MethodName := ⟨RX1, "tariff", "(II)I"⟩
theorem dX1_tariff_0 : decode cX1_tariff 0 = .ok (.iload_n 1, 1) := by decide +kernel
theorem dX1_tariff_1 : decode cX1_tariff 1 = .ok (.ifCond .lt 8, 3) := by decide +kernel
theorem dX1_tariff_4 : decode cX1_tariff 4 = .ok (.iload_n 1, 1) := by decide +kernel
theorem dX1_tariff_5 : decode cX1_tariff 5 = .ok (.iconst 5, 1) := by decide +kernel
theorem dX1_tariff_6 : decode cX1_tariff 6 = .ok (.if_icmp .le 6, 3) := by decide +kernel
theorem dX1_tariff_9 : decode cX1_tariff 9 = .ok (.bipush (-4), 2) := by decide +kernel
theorem dX1_tariff_11 : decode cX1_tariff 11 = .ok (.ireturn, 1) := by decide +kernel
theorem dX1_tariff_12 : decode cX1_tariff 12 = .ok (.iload_n 2, 1) := by decide +kernel
theorem dX1_tariff_13 : decode cX1_tariff 13 = .ok (.ifCond .lt 9, 3) := by decide +kernel
theorem dX1_tariff_16 : decode cX1_tariff 16 = .ok (.iload_n 2, 1) := by decide +kernel
theorem dX1_tariff_17 : decode cX1_tariff 17 = .ok (.bipush 99, 2) := by decide +kernel
theorem dX1_tariff_19 : decode cX1_tariff 19 = .ok (.if_icmp .le 6, 3) := by decide +kernel
theorem dX1_tariff_22 : decode cX1_tariff 22 = .ok (.bipush (-5), 2) := by decide +kernel
theorem dX1_tariff_24 : decode cX1_tariff 24 = .ok (.ireturn, 1) := by decide +kernel
theorem dX1_tariff_25 : decode cX1_tariff 25 = .ok (.aload_n 0, 1) := by decide +kernel
theorem dX1_tariff_26 : decode cX1_tariff 26 = .ok (.getfield 13, 3) := by decide +kernel
theorem dX1_tariff_29 : decode cX1_tariff 29 = .ok (.iload_n 1, 1) := by decide +kernel
theorem dX1_tariff_30 : decode cX1_tariff 30 = .ok (.iaload, 1) := by decide +kernel
theorem dX1_tariff_31 : decode cX1_tariff 31 = .ok (.istore_n 3, 1) := by decide +kernel
theorem dX1_tariff_32 : decode cX1_tariff 32 = .ok (.aload_n 0, 1) := by decide +kernel
theorem dX1_tariff_33 : decode cX1_tariff 33 = .ok (.getfield 13, 3) := by decide +kernel
theorem dX1_tariff_36 : decode cX1_tariff 36 = .ok (.iload_n 1, 1) := by decide +kernel
theorem dX1_tariff_37 : decode cX1_tariff 37 = .ok (.iload_n 2, 1) := by decide +kernel
theorem dX1_tariff_38 : decode cX1_tariff 38 = .ok (.iastore, 1) := by decide +kernel
theorem dX1_tariff_39 : decode cX1_tariff 39 = .ok (.iload_n 3, 1) := by decide +kernel
theorem dX1_tariff_40 : decode cX1_tariff 40 = .ok (.ireturn, 1) := by decide +kernel
abbrev cX1_read : ByteArray := prog_3_method_7_code
def yX1_read : MethodName := ⟨RX1, "read", "(III)I"⟩
theorem dX1_read_0 : decode cX1_read 0 = .ok (.aload_n 0, 1) := by decide +kernel
theorem dX1_read_1 : decode cX1_read 1 = .ok (.iload_n 1, 1) := by decide +kernel
theorem dX1_read_2 : decode cX1_read 2 = .ok (.invokevirtual 46, 3) := by decide +kernel
theorem dX1_read_5 : decode cX1_read 5 = .ok (.ifCond .eq 5, 3) := by decide +kernel
theorem dX1_read_8 : decode cX1_read 8 = .ok (.iconst (-1), 1) := by decide +kernel
theorem dX1_read_9 : decode cX1_read 9 = .ok (.ireturn, 1) := by decide +kernel
theorem dX1_read_10 : decode cX1_read 10 = .ok (.aload_n 0, 1) := by decide +kernel
theorem dX1_read_11 : decode cX1_read 11 = .ok (.iload_n 2, 1) := by decide +kernel
theorem dX1_read_12 : decode cX1_read 12 = .ok (.invokevirtual 50, 3) := by decide +kernel
theorem dX1_read_15 : decode cX1_read 15 = .ok (.ifCond .eq 6, 3) := by decide +kernel
theorem dX1_read_18 : decode cX1_read 18 = .ok (.bipush (-2), 2) := by decide +kernel
theorem dX1_read_20 : decode cX1_read 20 = .ok (.ireturn, 1) := by decide +kernel
theorem dX1_read_21 : decode cX1_read 21 = .ok (.iload_n 3, 1) := by decide +kernel
theorem dX1_read_22 : decode cX1_read 22 = .ok (.ifCond .lt 10, 3) := by decide +kernel
theorem dX1_read_25 : decode cX1_read 25 = .ok (.iload_n 3, 1) := by decide +kernel
theorem dX1_read_26 : decode cX1_read 26 = .ok (.sipush 999, 3) := by decide +kernel
theorem dX1_read_29 : decode cX1_read 29 = .ok (.if_icmp .le 6, 3) := by decide +kernel
theorem dX1_read_32 : decode cX1_read 32 = .ok (.bipush (-3), 2) := by decide +kernel
theorem dX1_read_34 : decode cX1_read 34 = .ok (.ireturn, 1) := by decide +kernel
theorem dX1_read_35 : decode cX1_read 35 = .ok (.aload_n 0, 1) := by decide +kernel
theorem dX1_read_36 : decode cX1_read 36 = .ok (.getfield 7, 3) := by decide +kernel
theorem dX1_read_39 : decode cX1_read 39 = .ok (.iload_n 1, 1) := by decide +kernel
theorem dX1_read_40 : decode cX1_read 40 = .ok (.bipush 48, 2) := by decide +kernel
theorem dX1_read_42 : decode cX1_read 42 = .ok (.imul, 1) := by decide +kernel
theorem dX1_read_43 : decode cX1_read 43 = .ok (.iload_n 2, 1) := by decide +kernel
theorem dX1_read_44 : decode cX1_read 44 = .ok (.iadd, 1) := by decide +kernel
theorem dX1_read_45 : decode cX1_read 45 = .ok (.iload_n 3, 1) := by decide +kernel
theorem dX1_read_46 : decode cX1_read 46 = .ok (.iastore, 1) := by decide +kernel
theorem dX1_read_47 : decode cX1_read 47 = .ok (.aload_n 0, 1) := by decide +kernel
theorem dX1_read_48 : decode cX1_read 48 = .ok (.iload_n 1, 1) := by decide +kernel
theorem dX1_read_49 : decode cX1_read 49 = .ok (.invokevirtual 53, 3) := by decide +kernel
theorem dX1_read_52 : decode cX1_read 52 = .ok (.ireturn, 1) := by decide +kernel
abbrev cX1_badAccount : ByteArray := prog_3_method_2_code
def yX1_badAccount : MethodName := ⟨RX1, "badAccount", "(I)Z"⟩
theorem dX1_badAccount_0 : decode cX1_badAccount 0 = .ok (.iload_n 1, 1) := by decide +kernel
theorem dX1_badAccount_1 : decode cX1_badAccount 1 = .ok (.ifCond .lt 8, 3) := by decide +kernel
theorem dX1_badAccount_4 : decode cX1_badAccount 4 = .ok (.iload_n 1, 1) := by decide +kernel
theorem dX1_badAccount_5 : decode cX1_badAccount 5 = .ok (.iconst 1, 1) := by decide +kernel
theorem dX1_badAccount_6 : decode cX1_badAccount 6 = .ok (.if_icmp .le 7, 3) := by decide +kernel
theorem dX1_badAccount_9 : decode cX1_badAccount 9 = .ok (.iconst 1, 1) := by decide +kernel
theorem dX1_badAccount_10 : decode cX1_badAccount 10 = .ok (.goto 4, 3) := by decide +kernel
theorem dX1_badAccount_13 : decode cX1_badAccount 13 = .ok (.iconst 0, 1) := by decide +kernel
theorem dX1_badAccount_14 : decode cX1_badAccount 14 = .ok (.ireturn, 1) := by decide +kernel
abbrev cX1_badInterval : ByteArray := prog_3_method_3_code
def yX1_badInterval : MethodName := ⟨RX1, "badInterval", "(I)Z"⟩
theorem dX1_badInterval_0 : decode cX1_badInterval 0 = .ok (.iload_n 1, 1) := by decide +kernel
theorem dX1_badInterval_1 : decode cX1_badInterval 1 = .ok (.ifCond .lt 9, 3) := by decide +kernel
theorem dX1_badInterval_4 : decode cX1_badInterval 4 = .ok (.iload_n 1, 1) := by decide +kernel
theorem dX1_badInterval_5 : decode cX1_badInterval 5 = .ok (.bipush 47, 2) := by decide +kernel
theorem dX1_badInterval_7 : decode cX1_badInterval 7 = .ok (.if_icmp .le 7, 3) := by decide +kernel
theorem dX1_badInterval_10 : decode cX1_badInterval 10 = .ok (.iconst 1, 1) := by decide +kernel
theorem dX1_badInterval_11 : decode cX1_badInterval 11 = .ok (.goto 4, 3) := by decide +kernel
theorem dX1_badInterval_14 : decode cX1_badInterval 14 = .ok (.iconst 0, 1) := by decide +kernel
theorem dX1_badInterval_15 : decode cX1_badInterval 15 = .ok (.ireturn, 1) := by decide +kernel
abbrev cX1_rebill : ByteArray := prog_3_method_6_code
def yX1_rebill : MethodName := ⟨RX1, "rebill", "(I)I"⟩
theorem dX1_rebill_0 : decode cX1_rebill 0 = .ok (.iconst 0, 1) := by decide +kernel
theorem dX1_rebill_1 : decode cX1_rebill 1 = .ok (.istore_n 2, 1) := by decide +kernel
theorem dX1_rebill_2 : decode cX1_rebill 2 = .ok (.iconst 0, 1) := by decide +kernel
theorem dX1_rebill_3 : decode cX1_rebill 3 = .ok (.istore_n 3, 1) := by decide +kernel
theorem dX1_rebill_4 : decode cX1_rebill 4 = .ok (.iload_n 3, 1) := by decide +kernel
theorem dX1_rebill_5 : decode cX1_rebill 5 = .ok (.aload_n 0, 1) := by decide +kernel
theorem dX1_rebill_6 : decode cX1_rebill 6 = .ok (.getfield 34, 3) := by decide +kernel
theorem dX1_rebill_9 : decode cX1_rebill 9 = .ok (.if_icmp .ge 70, 3) := by decide +kernel
theorem dX1_rebill_12 : decode cX1_rebill 12 = .ok (.aload_n 0, 1) := by decide +kernel
theorem dX1_rebill_13 : decode cX1_rebill 13 = .ok (.getfield 19, 3) := by decide +kernel
theorem dX1_rebill_16 : decode cX1_rebill 16 = .ok (.iload_n 1, 1) := by decide +kernel
theorem dX1_rebill_17 : decode cX1_rebill 17 = .ok (.bipush 6, 2) := by decide +kernel
theorem dX1_rebill_19 : decode cX1_rebill 19 = .ok (.imul, 1) := by decide +kernel
theorem dX1_rebill_20 : decode cX1_rebill 20 = .ok (.iload_n 3, 1) := by decide +kernel
theorem dX1_rebill_21 : decode cX1_rebill 21 = .ok (.iadd, 1) := by decide +kernel
theorem dX1_rebill_22 : decode cX1_rebill 22 = .ok (.iaload, 1) := by decide +kernel
theorem dX1_rebill_23 : decode cX1_rebill 23 = .ok (.istore 4, 2) := by decide +kernel
theorem dX1_rebill_25 : decode cX1_rebill 25 = .ok (.aload_n 0, 1) := by decide +kernel
theorem dX1_rebill_26 : decode cX1_rebill 26 = .ok (.iload_n 1, 1) := by decide +kernel
theorem dX1_rebill_27 : decode cX1_rebill 27 = .ok (.iload_n 3, 1) := by decide +kernel
theorem dX1_rebill_28 : decode cX1_rebill 28 = .ok (.invokevirtual 38, 3) := by decide +kernel
theorem dX1_rebill_31 : decode cX1_rebill 31 = .ok (.istore 5, 2) := by decide +kernel
theorem dX1_rebill_33 : decode cX1_rebill 33 = .ok (.iload 5, 2) := by decide +kernel
theorem dX1_rebill_35 : decode cX1_rebill 35 = .ok (.iload 4, 2) := by decide +kernel
theorem dX1_rebill_37 : decode cX1_rebill 37 = .ok (.if_icmp .eq 36, 3) := by decide +kernel
theorem dX1_rebill_40 : decode cX1_rebill 40 = .ok (.aload_n 0, 1) := by decide +kernel
theorem dX1_rebill_41 : decode cX1_rebill 41 = .ok (.iload_n 1, 1) := by decide +kernel
theorem dX1_rebill_42 : decode cX1_rebill 42 = .ok (.iload_n 3, 1) := by decide +kernel
theorem dX1_rebill_43 : decode cX1_rebill 43 = .ok (.iload 4, 2) := by decide +kernel
theorem dX1_rebill_45 : decode cX1_rebill 45 = .ok (.ineg, 1) := by decide +kernel
theorem dX1_rebill_46 : decode cX1_rebill 46 = .ok (.invokevirtual 42, 3) := by decide +kernel
theorem dX1_rebill_49 : decode cX1_rebill 49 = .ok (.aload_n 0, 1) := by decide +kernel
theorem dX1_rebill_50 : decode cX1_rebill 50 = .ok (.iload_n 1, 1) := by decide +kernel
theorem dX1_rebill_51 : decode cX1_rebill 51 = .ok (.iload_n 3, 1) := by decide +kernel
theorem dX1_rebill_52 : decode cX1_rebill 52 = .ok (.iload 5, 2) := by decide +kernel
theorem dX1_rebill_54 : decode cX1_rebill 54 = .ok (.invokevirtual 42, 3) := by decide +kernel
theorem dX1_rebill_57 : decode cX1_rebill 57 = .ok (.aload_n 0, 1) := by decide +kernel
theorem dX1_rebill_58 : decode cX1_rebill 58 = .ok (.getfield 19, 3) := by decide +kernel
theorem dX1_rebill_61 : decode cX1_rebill 61 = .ok (.iload_n 1, 1) := by decide +kernel
theorem dX1_rebill_62 : decode cX1_rebill 62 = .ok (.bipush 6, 2) := by decide +kernel
theorem dX1_rebill_64 : decode cX1_rebill 64 = .ok (.imul, 1) := by decide +kernel
theorem dX1_rebill_65 : decode cX1_rebill 65 = .ok (.iload_n 3, 1) := by decide +kernel
theorem dX1_rebill_66 : decode cX1_rebill 66 = .ok (.iadd, 1) := by decide +kernel
theorem dX1_rebill_67 : decode cX1_rebill 67 = .ok (.iload 5, 2) := by decide +kernel
theorem dX1_rebill_69 : decode cX1_rebill 69 = .ok (.iastore, 1) := by decide +kernel
theorem dX1_rebill_70 : decode cX1_rebill 70 = .ok (.iinc 2 1, 3) := by decide +kernel
theorem dX1_rebill_73 : decode cX1_rebill 73 = .ok (.iinc 3 1, 3) := by decide +kernel
theorem dX1_rebill_76 : decode cX1_rebill 76 = .ok (.goto (-72), 3) := by decide +kernel
theorem dX1_rebill_79 : decode cX1_rebill 79 = .ok (.iload_n 2, 1) := by decide +kernel
theorem dX1_rebill_80 : decode cX1_rebill 80 = .ok (.ireturn, 1) := by decide +kernel
abbrev cX1_amount : ByteArray := prog_3_method_12_code
def yX1_amount : MethodName := ⟨RX1, "amount", "(II)I"⟩
theorem dX1_amount_0 : decode cX1_amount 0 = .ok (.aload_n 0, 1) := by decide +kernel
theorem dX1_amount_1 : decode cX1_amount 1 = .ok (.iload_n 1, 1) := by decide +kernel
theorem dX1_amount_2 : decode cX1_amount 2 = .ok (.invokevirtual 46, 3) := by decide +kernel
theorem dX1_amount_5 : decode cX1_amount 5 = .ok (.ifCond .eq 5, 3) := by decide +kernel
theorem dX1_amount_8 : decode cX1_amount 8 = .ok (.iconst (-1), 1) := by decide +kernel
theorem dX1_amount_9 : decode cX1_amount 9 = .ok (.ireturn, 1) := by decide +kernel
theorem dX1_amount_10 : decode cX1_amount 10 = .ok (.iload_n 2, 1) := by decide +kernel
theorem dX1_amount_11 : decode cX1_amount 11 = .ok (.ifCond .lt 8, 3) := by decide +kernel
theorem dX1_amount_14 : decode cX1_amount 14 = .ok (.iload_n 2, 1) := by decide +kernel
theorem dX1_amount_15 : decode cX1_amount 15 = .ok (.iconst 5, 1) := by decide +kernel
theorem dX1_amount_16 : decode cX1_amount 16 = .ok (.if_icmp .le 6, 3) := by decide +kernel
theorem dX1_amount_19 : decode cX1_amount 19 = .ok (.bipush (-8), 2) := by decide +kernel
theorem dX1_amount_21 : decode cX1_amount 21 = .ok (.ireturn, 1) := by decide +kernel
theorem dX1_amount_22 : decode cX1_amount 22 = .ok (.iconst 0, 1) := by decide +kernel
theorem dX1_amount_23 : decode cX1_amount 23 = .ok (.istore_n 3, 1) := by decide +kernel
theorem dX1_amount_24 : decode cX1_amount 24 = .ok (.iconst 0, 1) := by decide +kernel
theorem dX1_amount_25 : decode cX1_amount 25 = .ok (.istore 4, 2) := by decide +kernel
theorem dX1_amount_27 : decode cX1_amount 27 = .ok (.iconst 0, 1) := by decide +kernel
theorem dX1_amount_28 : decode cX1_amount 28 = .ok (.istore 5, 2) := by decide +kernel
theorem dX1_amount_30 : decode cX1_amount 30 = .ok (.iconst 0, 1) := by decide +kernel
theorem dX1_amount_31 : decode cX1_amount 31 = .ok (.istore 6, 2) := by decide +kernel
theorem dX1_amount_33 : decode cX1_amount 33 = .ok (.iload 6, 2) := by decide +kernel
theorem dX1_amount_35 : decode cX1_amount 35 = .ok (.bipush 8, 2) := by decide +kernel
theorem dX1_amount_37 : decode cX1_amount 37 = .ok (.if_icmp .ge 86, 3) := by decide +kernel
theorem dX1_amount_40 : decode cX1_amount 40 = .ok (.aload_n 0, 1) := by decide +kernel
theorem dX1_amount_41 : decode cX1_amount 41 = .ok (.iload_n 1, 1) := by decide +kernel
theorem dX1_amount_42 : decode cX1_amount 42 = .ok (.iload_n 2, 1) := by decide +kernel
theorem dX1_amount_43 : decode cX1_amount 43 = .ok (.bipush 8, 2) := by decide +kernel
theorem dX1_amount_45 : decode cX1_amount 45 = .ok (.imul, 1) := by decide +kernel
theorem dX1_amount_46 : decode cX1_amount 46 = .ok (.iload 6, 2) := by decide +kernel
theorem dX1_amount_48 : decode cX1_amount 48 = .ok (.iadd, 1) := by decide +kernel
theorem dX1_amount_49 : decode cX1_amount 49 = .ok (.invokevirtual 57, 3) := by decide +kernel
theorem dX1_amount_52 : decode cX1_amount 52 = .ok (.istore 7, 2) := by decide +kernel
theorem dX1_amount_54 : decode cX1_amount 54 = .ok (.iload 6, 2) := by decide +kernel
theorem dX1_amount_56 : decode cX1_amount 56 = .ok (.iconst 3, 1) := by decide +kernel
theorem dX1_amount_57 : decode cX1_amount 57 = .ok (.if_icmp .ge 7, 3) := by decide +kernel
theorem dX1_amount_60 : decode cX1_amount 60 = .ok (.iconst 0, 1) := by decide +kernel
theorem dX1_amount_61 : decode cX1_amount 61 = .ok (.goto 14, 3) := by decide +kernel
theorem dX1_amount_64 : decode cX1_amount 64 = .ok (.iload 6, 2) := by decide +kernel
theorem dX1_amount_66 : decode cX1_amount 66 = .ok (.iconst 5, 1) := by decide +kernel
theorem dX1_amount_67 : decode cX1_amount 67 = .ok (.if_icmp .ge 7, 3) := by decide +kernel
theorem dX1_amount_70 : decode cX1_amount 70 = .ok (.iconst 1, 1) := by decide +kernel
theorem dX1_amount_71 : decode cX1_amount 71 = .ok (.goto 4, 3) := by decide +kernel
theorem dX1_amount_74 : decode cX1_amount 74 = .ok (.iconst 2, 1) := by decide +kernel
theorem dX1_amount_75 : decode cX1_amount 75 = .ok (.istore 8, 2) := by decide +kernel
theorem dX1_amount_77 : decode cX1_amount 77 = .ok (.aload_n 0, 1) := by decide +kernel
theorem dX1_amount_78 : decode cX1_amount 78 = .ok (.iload_n 2, 1) := by decide +kernel
theorem dX1_amount_79 : decode cX1_amount 79 = .ok (.iload 8, 2) := by decide +kernel
theorem dX1_amount_81 : decode cX1_amount 81 = .ok (.invokevirtual 60, 3) := by decide +kernel
theorem dX1_amount_84 : decode cX1_amount 84 = .ok (.istore 9, 2) := by decide +kernel
theorem dX1_amount_86 : decode cX1_amount 86 = .ok (.iload_n 3, 1) := by decide +kernel
theorem dX1_amount_87 : decode cX1_amount 87 = .ok (.iload 7, 2) := by decide +kernel
theorem dX1_amount_89 : decode cX1_amount 89 = .ok (.iload 9, 2) := by decide +kernel
theorem dX1_amount_91 : decode cX1_amount 91 = .ok (.imul, 1) := by decide +kernel
theorem dX1_amount_92 : decode cX1_amount 92 = .ok (.iadd, 1) := by decide +kernel
theorem dX1_amount_93 : decode cX1_amount 93 = .ok (.istore_n 3, 1) := by decide +kernel
theorem dX1_amount_94 : decode cX1_amount 94 = .ok (.iload 5, 2) := by decide +kernel
theorem dX1_amount_96 : decode cX1_amount 96 = .ok (.iload 7, 2) := by decide +kernel
theorem dX1_amount_98 : decode cX1_amount 98 = .ok (.iadd, 1) := by decide +kernel
theorem dX1_amount_99 : decode cX1_amount 99 = .ok (.istore 5, 2) := by decide +kernel
theorem dX1_amount_101 : decode cX1_amount 101 = .ok (.iload 7, 2) := by decide +kernel
theorem dX1_amount_103 : decode cX1_amount 103 = .ok (.iload 4, 2) := by decide +kernel
theorem dX1_amount_105 : decode cX1_amount 105 = .ok (.if_icmp .le 8, 3) := by decide +kernel
theorem dX1_amount_108 : decode cX1_amount 108 = .ok (.iload 7, 2) := by decide +kernel
theorem dX1_amount_110 : decode cX1_amount 110 = .ok (.goto 5, 3) := by decide +kernel
theorem dX1_amount_113 : decode cX1_amount 113 = .ok (.iload 4, 2) := by decide +kernel
theorem dX1_amount_115 : decode cX1_amount 115 = .ok (.istore 4, 2) := by decide +kernel
theorem dX1_amount_117 : decode cX1_amount 117 = .ok (.iinc 6 1, 3) := by decide +kernel
theorem dX1_amount_120 : decode cX1_amount 120 = .ok (.goto (-87), 3) := by decide +kernel
theorem dX1_amount_123 : decode cX1_amount 123 = .ok (.iload_n 3, 1) := by decide +kernel
theorem dX1_amount_124 : decode cX1_amount 124 = .ok (.iload 4, 2) := by decide +kernel
theorem dX1_amount_126 : decode cX1_amount 126 = .ok (.aload_n 0, 1) := by decide +kernel
theorem dX1_amount_127 : decode cX1_amount 127 = .ok (.iload_n 2, 1) := by decide +kernel
theorem dX1_amount_128 : decode cX1_amount 128 = .ok (.iconst 3, 1) := by decide +kernel
theorem dX1_amount_129 : decode cX1_amount 129 = .ok (.invokevirtual 60, 3) := by decide +kernel
theorem dX1_amount_132 : decode cX1_amount 132 = .ok (.imul, 1) := by decide +kernel
theorem dX1_amount_133 : decode cX1_amount 133 = .ok (.iadd, 1) := by decide +kernel
theorem dX1_amount_134 : decode cX1_amount 134 = .ok (.istore_n 3, 1) := by decide +kernel
theorem dX1_amount_135 : decode cX1_amount 135 = .ok (.iload 5, 2) := by decide +kernel
theorem dX1_amount_137 : decode cX1_amount 137 = .ok (.sipush 2000, 3) := by decide +kernel
theorem dX1_amount_140 : decode cX1_amount 140 = .ok (.if_icmp .le 19, 3) := by decide +kernel
theorem dX1_amount_143 : decode cX1_amount 143 = .ok (.iload_n 3, 1) := by decide +kernel
theorem dX1_amount_144 : decode cX1_amount 144 = .ok (.iload 5, 2) := by decide +kernel
theorem dX1_amount_146 : decode cX1_amount 146 = .ok (.sipush 2000, 3) := by decide +kernel
theorem dX1_amount_149 : decode cX1_amount 149 = .ok (.isub, 1) := by decide +kernel
theorem dX1_amount_150 : decode cX1_amount 150 = .ok (.aload_n 0, 1) := by decide +kernel
theorem dX1_amount_151 : decode cX1_amount 151 = .ok (.iload_n 2, 1) := by decide +kernel
theorem dX1_amount_152 : decode cX1_amount 152 = .ok (.iconst 4, 1) := by decide +kernel
theorem dX1_amount_153 : decode cX1_amount 153 = .ok (.invokevirtual 60, 3) := by decide +kernel
theorem dX1_amount_156 : decode cX1_amount 156 = .ok (.imul, 1) := by decide +kernel
theorem dX1_amount_157 : decode cX1_amount 157 = .ok (.iadd, 1) := by decide +kernel
theorem dX1_amount_158 : decode cX1_amount 158 = .ok (.istore_n 3, 1) := by decide +kernel
theorem dX1_amount_159 : decode cX1_amount 159 = .ok (.aload_n 0, 1) := by decide +kernel
theorem dX1_amount_160 : decode cX1_amount 160 = .ok (.iload_n 2, 1) := by decide +kernel
theorem dX1_amount_161 : decode cX1_amount 161 = .ok (.iconst 5, 1) := by decide +kernel
theorem dX1_amount_162 : decode cX1_amount 162 = .ok (.invokevirtual 60, 3) := by decide +kernel
theorem dX1_amount_165 : decode cX1_amount 165 = .ok (.sipush 1000, 3) := by decide +kernel
theorem dX1_amount_168 : decode cX1_amount 168 = .ok (.imul, 1) := by decide +kernel
theorem dX1_amount_169 : decode cX1_amount 169 = .ok (.istore 6, 2) := by decide +kernel
theorem dX1_amount_171 : decode cX1_amount 171 = .ok (.iload_n 3, 1) := by decide +kernel
theorem dX1_amount_172 : decode cX1_amount 172 = .ok (.iload 6, 2) := by decide +kernel
theorem dX1_amount_174 : decode cX1_amount 174 = .ok (.if_icmp .ge 8, 3) := by decide +kernel
theorem dX1_amount_177 : decode cX1_amount 177 = .ok (.iload 6, 2) := by decide +kernel
theorem dX1_amount_179 : decode cX1_amount 179 = .ok (.goto 4, 3) := by decide +kernel
theorem dX1_amount_182 : decode cX1_amount 182 = .ok (.iload_n 3, 1) := by decide +kernel
theorem dX1_amount_183 : decode cX1_amount 183 = .ok (.ireturn, 1) := by decide +kernel
abbrev cX1_usage : ByteArray := prog_3_method_10_code
def yX1_usage : MethodName := ⟨RX1, "usage", "(II)I"⟩
theorem dX1_usage_0 : decode cX1_usage 0 = .ok (.aload_n 0, 1) := by decide +kernel
theorem dX1_usage_1 : decode cX1_usage 1 = .ok (.iload_n 1, 1) := by decide +kernel
theorem dX1_usage_2 : decode cX1_usage 2 = .ok (.invokevirtual 46, 3) := by decide +kernel
theorem dX1_usage_5 : decode cX1_usage 5 = .ok (.ifCond .eq 5, 3) := by decide +kernel
theorem dX1_usage_8 : decode cX1_usage 8 = .ok (.iconst (-1), 1) := by decide +kernel
theorem dX1_usage_9 : decode cX1_usage 9 = .ok (.ireturn, 1) := by decide +kernel
theorem dX1_usage_10 : decode cX1_usage 10 = .ok (.aload_n 0, 1) := by decide +kernel
theorem dX1_usage_11 : decode cX1_usage 11 = .ok (.iload_n 2, 1) := by decide +kernel
theorem dX1_usage_12 : decode cX1_usage 12 = .ok (.invokevirtual 50, 3) := by decide +kernel
theorem dX1_usage_15 : decode cX1_usage 15 = .ok (.ifCond .eq 6, 3) := by decide +kernel
theorem dX1_usage_18 : decode cX1_usage 18 = .ok (.bipush (-2), 2) := by decide +kernel
theorem dX1_usage_20 : decode cX1_usage 20 = .ok (.ireturn, 1) := by decide +kernel
theorem dX1_usage_21 : decode cX1_usage 21 = .ok (.iload_n 2, 1) := by decide +kernel
theorem dX1_usage_22 : decode cX1_usage 22 = .ok (.istore_n 3, 1) := by decide +kernel
theorem dX1_usage_23 : decode cX1_usage 23 = .ok (.iload_n 3, 1) := by decide +kernel
theorem dX1_usage_24 : decode cX1_usage 24 = .ok (.ifCond .lt 37, 3) := by decide +kernel
theorem dX1_usage_27 : decode cX1_usage 27 = .ok (.aload_n 0, 1) := by decide +kernel
theorem dX1_usage_28 : decode cX1_usage 28 = .ok (.getfield 7, 3) := by decide +kernel
theorem dX1_usage_31 : decode cX1_usage 31 = .ok (.iload_n 1, 1) := by decide +kernel
theorem dX1_usage_32 : decode cX1_usage 32 = .ok (.bipush 48, 2) := by decide +kernel
theorem dX1_usage_34 : decode cX1_usage 34 = .ok (.imul, 1) := by decide +kernel
theorem dX1_usage_35 : decode cX1_usage 35 = .ok (.iload_n 3, 1) := by decide +kernel
theorem dX1_usage_36 : decode cX1_usage 36 = .ok (.iadd, 1) := by decide +kernel
theorem dX1_usage_37 : decode cX1_usage 37 = .ok (.iaload, 1) := by decide +kernel
theorem dX1_usage_38 : decode cX1_usage 38 = .ok (.ifCond .lt 15, 3) := by decide +kernel
theorem dX1_usage_41 : decode cX1_usage 41 = .ok (.aload_n 0, 1) := by decide +kernel
theorem dX1_usage_42 : decode cX1_usage 42 = .ok (.getfield 7, 3) := by decide +kernel
theorem dX1_usage_45 : decode cX1_usage 45 = .ok (.iload_n 1, 1) := by decide +kernel
theorem dX1_usage_46 : decode cX1_usage 46 = .ok (.bipush 48, 2) := by decide +kernel
theorem dX1_usage_48 : decode cX1_usage 48 = .ok (.imul, 1) := by decide +kernel
theorem dX1_usage_49 : decode cX1_usage 49 = .ok (.iload_n 3, 1) := by decide +kernel
theorem dX1_usage_50 : decode cX1_usage 50 = .ok (.iadd, 1) := by decide +kernel
theorem dX1_usage_51 : decode cX1_usage 51 = .ok (.iaload, 1) := by decide +kernel
theorem dX1_usage_52 : decode cX1_usage 52 = .ok (.ireturn, 1) := by decide +kernel
theorem dX1_usage_53 : decode cX1_usage 53 = .ok (.iload_n 3, 1) := by decide +kernel
theorem dX1_usage_54 : decode cX1_usage 54 = .ok (.bipush 8, 2) := by decide +kernel
theorem dX1_usage_56 : decode cX1_usage 56 = .ok (.isub, 1) := by decide +kernel
theorem dX1_usage_57 : decode cX1_usage 57 = .ok (.istore_n 3, 1) := by decide +kernel
theorem dX1_usage_58 : decode cX1_usage 58 = .ok (.goto (-35), 3) := by decide +kernel
theorem dX1_usage_61 : decode cX1_usage 61 = .ok (.iconst 0, 1) := by decide +kernel
theorem dX1_usage_62 : decode cX1_usage 62 = .ok (.istore_n 3, 1) := by decide +kernel
theorem dX1_usage_63 : decode cX1_usage 63 = .ok (.iconst 0, 1) := by decide +kernel
theorem dX1_usage_64 : decode cX1_usage 64 = .ok (.istore 4, 2) := by decide +kernel
theorem dX1_usage_66 : decode cX1_usage 66 = .ok (.iconst 0, 1) := by decide +kernel
theorem dX1_usage_67 : decode cX1_usage 67 = .ok (.istore 5, 2) := by decide +kernel
theorem dX1_usage_69 : decode cX1_usage 69 = .ok (.iload 5, 2) := by decide +kernel
theorem dX1_usage_71 : decode cX1_usage 71 = .ok (.bipush 48, 2) := by decide +kernel
theorem dX1_usage_73 : decode cX1_usage 73 = .ok (.if_icmp .ge 54, 3) := by decide +kernel
theorem dX1_usage_76 : decode cX1_usage 76 = .ok (.iload 5, 2) := by decide +kernel
theorem dX1_usage_78 : decode cX1_usage 78 = .ok (.bipush 8, 2) := by decide +kernel
theorem dX1_usage_80 : decode cX1_usage 80 = .ok (.idiv, 1) := by decide +kernel
theorem dX1_usage_81 : decode cX1_usage 81 = .ok (.iload_n 2, 1) := by decide +kernel
theorem dX1_usage_82 : decode cX1_usage 82 = .ok (.bipush 8, 2) := by decide +kernel
theorem dX1_usage_84 : decode cX1_usage 84 = .ok (.idiv, 1) := by decide +kernel
theorem dX1_usage_85 : decode cX1_usage 85 = .ok (.if_icmp .ne 36, 3) := by decide +kernel
theorem dX1_usage_88 : decode cX1_usage 88 = .ok (.aload_n 0, 1) := by decide +kernel
theorem dX1_usage_89 : decode cX1_usage 89 = .ok (.getfield 7, 3) := by decide +kernel
theorem dX1_usage_92 : decode cX1_usage 92 = .ok (.iload_n 1, 1) := by decide +kernel
theorem dX1_usage_93 : decode cX1_usage 93 = .ok (.bipush 48, 2) := by decide +kernel
theorem dX1_usage_95 : decode cX1_usage 95 = .ok (.imul, 1) := by decide +kernel
theorem dX1_usage_96 : decode cX1_usage 96 = .ok (.iload 5, 2) := by decide +kernel
theorem dX1_usage_98 : decode cX1_usage 98 = .ok (.iadd, 1) := by decide +kernel
theorem dX1_usage_99 : decode cX1_usage 99 = .ok (.iaload, 1) := by decide +kernel
theorem dX1_usage_100 : decode cX1_usage 100 = .ok (.ifCond .lt 21, 3) := by decide +kernel
theorem dX1_usage_103 : decode cX1_usage 103 = .ok (.iload_n 3, 1) := by decide +kernel
theorem dX1_usage_104 : decode cX1_usage 104 = .ok (.aload_n 0, 1) := by decide +kernel
theorem dX1_usage_105 : decode cX1_usage 105 = .ok (.getfield 7, 3) := by decide +kernel
theorem dX1_usage_108 : decode cX1_usage 108 = .ok (.iload_n 1, 1) := by decide +kernel
theorem dX1_usage_109 : decode cX1_usage 109 = .ok (.bipush 48, 2) := by decide +kernel
theorem dX1_usage_111 : decode cX1_usage 111 = .ok (.imul, 1) := by decide +kernel
theorem dX1_usage_112 : decode cX1_usage 112 = .ok (.iload 5, 2) := by decide +kernel
theorem dX1_usage_114 : decode cX1_usage 114 = .ok (.iadd, 1) := by decide +kernel
theorem dX1_usage_115 : decode cX1_usage 115 = .ok (.iaload, 1) := by decide +kernel
theorem dX1_usage_116 : decode cX1_usage 116 = .ok (.iadd, 1) := by decide +kernel
theorem dX1_usage_117 : decode cX1_usage 117 = .ok (.istore_n 3, 1) := by decide +kernel
theorem dX1_usage_118 : decode cX1_usage 118 = .ok (.iinc 4 1, 3) := by decide +kernel
theorem dX1_usage_121 : decode cX1_usage 121 = .ok (.iinc 5 1, 3) := by decide +kernel
theorem dX1_usage_124 : decode cX1_usage 124 = .ok (.goto (-55), 3) := by decide +kernel
theorem dX1_usage_127 : decode cX1_usage 127 = .ok (.iload 4, 2) := by decide +kernel
theorem dX1_usage_129 : decode cX1_usage 129 = .ok (.ifCond .ne 5, 3) := by decide +kernel
theorem dX1_usage_132 : decode cX1_usage 132 = .ok (.iconst 0, 1) := by decide +kernel
theorem dX1_usage_133 : decode cX1_usage 133 = .ok (.ireturn, 1) := by decide +kernel
theorem dX1_usage_134 : decode cX1_usage 134 = .ok (.iload_n 3, 1) := by decide +kernel
theorem dX1_usage_135 : decode cX1_usage 135 = .ok (.iload 4, 2) := by decide +kernel
theorem dX1_usage_137 : decode cX1_usage 137 = .ok (.idiv, 1) := by decide +kernel
theorem dX1_usage_138 : decode cX1_usage 138 = .ok (.ireturn, 1) := by decide +kernel
abbrev cX1_rate : ByteArray := prog_3_method_11_code
def yX1_rate : MethodName := ⟨RX1, "rate", "(II)I"⟩
theorem dX1_rate_0 : decode cX1_rate 0 = .ok (.iload_n 1, 1) := by decide +kernel
theorem dX1_rate_1 : decode cX1_rate 1 = .ok (.aload_n 0, 1) := by decide +kernel
theorem dX1_rate_2 : decode cX1_rate 2 = .ok (.getfield 34, 3) := by decide +kernel
theorem dX1_rate_5 : decode cX1_rate 5 = .ok (.if_icmp .ge 17, 3) := by decide +kernel
theorem dX1_rate_8 : decode cX1_rate 8 = .ok (.aload_n 0, 1) := by decide +kernel
theorem dX1_rate_9 : decode cX1_rate 9 = .ok (.getfield 16, 3) := by decide +kernel
theorem dX1_rate_12 : decode cX1_rate 12 = .ok (.iload_n 1, 1) := by decide +kernel
theorem dX1_rate_13 : decode cX1_rate 13 = .ok (.bipush 6, 2) := by decide +kernel
theorem dX1_rate_15 : decode cX1_rate 15 = .ok (.imul, 1) := by decide +kernel
theorem dX1_rate_16 : decode cX1_rate 16 = .ok (.iload_n 2, 1) := by decide +kernel
theorem dX1_rate_17 : decode cX1_rate 17 = .ok (.iadd, 1) := by decide +kernel
theorem dX1_rate_18 : decode cX1_rate 18 = .ok (.iaload, 1) := by decide +kernel
theorem dX1_rate_19 : decode cX1_rate 19 = .ok (.goto 9, 3) := by decide +kernel
theorem dX1_rate_22 : decode cX1_rate 22 = .ok (.aload_n 0, 1) := by decide +kernel
theorem dX1_rate_23 : decode cX1_rate 23 = .ok (.getfield 13, 3) := by decide +kernel
theorem dX1_rate_26 : decode cX1_rate 26 = .ok (.iload_n 2, 1) := by decide +kernel
theorem dX1_rate_27 : decode cX1_rate 27 = .ok (.iaload, 1) := by decide +kernel
theorem dX1_rate_28 : decode cX1_rate 28 = .ok (.ireturn, 1) := by decide +kernel
end
section
set_option maxRecDepth 100000
abbrev cX1_line : ByteArray := prog_3_method_5_code
def yX1_line : MethodName := ⟨RX1, "line", "(III)V"⟩
theorem dX1_line_0 : decode cX1_line 0 = .ok (.iload_n 1, 1) := by decide +kernel
theorem dX1_line_1 : decode cX1_line 1 = .ok (.bipush 8, 2) := by decide +kernel
theorem dX1_line_3 : decode cX1_line 3 = .ok (.imul, 1) := by decide +kernel
theorem dX1_line_4 : decode cX1_line 4 = .ok (.bipush 7, 2) := by decide +kernel
theorem dX1_line_6 : decode cX1_line 6 = .ok (.iadd, 1) := by decide +kernel
theorem dX1_line_7 : decode cX1_line 7 = .ok (.istore 4, 2) := by decide +kernel
theorem dX1_line_9 : decode cX1_line 9 = .ok (.iload 4, 2) := by decide +kernel
theorem dX1_line_11 : decode cX1_line 11 = .ok (.iload_n 1, 1) := by decide +kernel
theorem dX1_line_12 : decode cX1_line 12 = .ok (.bipush 8, 2) := by decide +kernel
theorem dX1_line_14 : decode cX1_line 14 = .ok (.imul, 1) := by decide +kernel
theorem dX1_line_15 : decode cX1_line 15 = .ok (.if_icmp .le 41, 3) := by decide +kernel
theorem dX1_line_18 : decode cX1_line 18 = .ok (.aload_n 0, 1) := by decide +kernel
theorem dX1_line_19 : decode cX1_line 19 = .ok (.getfield 28, 3) := by decide +kernel
theorem dX1_line_22 : decode cX1_line 22 = .ok (.iload 4, 2) := by decide +kernel
theorem dX1_line_24 : decode cX1_line 24 = .ok (.aload_n 0, 1) := by decide +kernel
theorem dX1_line_25 : decode cX1_line 25 = .ok (.getfield 28, 3) := by decide +kernel
theorem dX1_line_28 : decode cX1_line 28 = .ok (.iload 4, 2) := by decide +kernel
theorem dX1_line_30 : decode cX1_line 30 = .ok (.iconst 1, 1) := by decide +kernel
theorem dX1_line_31 : decode cX1_line 31 = .ok (.isub, 1) := by decide +kernel
theorem dX1_line_32 : decode cX1_line 32 = .ok (.iaload, 1) := by decide +kernel
theorem dX1_line_33 : decode cX1_line 33 = .ok (.iastore, 1) := by decide +kernel
theorem dX1_line_34 : decode cX1_line 34 = .ok (.aload_n 0, 1) := by decide +kernel
theorem dX1_line_35 : decode cX1_line 35 = .ok (.getfield 31, 3) := by decide +kernel
theorem dX1_line_38 : decode cX1_line 38 = .ok (.iload 4, 2) := by decide +kernel
theorem dX1_line_40 : decode cX1_line 40 = .ok (.aload_n 0, 1) := by decide +kernel
theorem dX1_line_41 : decode cX1_line 41 = .ok (.getfield 31, 3) := by decide +kernel
theorem dX1_line_44 : decode cX1_line 44 = .ok (.iload 4, 2) := by decide +kernel
theorem dX1_line_46 : decode cX1_line 46 = .ok (.iconst 1, 1) := by decide +kernel
theorem dX1_line_47 : decode cX1_line 47 = .ok (.isub, 1) := by decide +kernel
theorem dX1_line_48 : decode cX1_line 48 = .ok (.iaload, 1) := by decide +kernel
theorem dX1_line_49 : decode cX1_line 49 = .ok (.iastore, 1) := by decide +kernel
theorem dX1_line_50 : decode cX1_line 50 = .ok (.iinc 4 (-1), 3) := by decide +kernel
theorem dX1_line_53 : decode cX1_line 53 = .ok (.goto (-44), 3) := by decide +kernel
theorem dX1_line_56 : decode cX1_line 56 = .ok (.aload_n 0, 1) := by decide +kernel
theorem dX1_line_57 : decode cX1_line 57 = .ok (.getfield 28, 3) := by decide +kernel
theorem dX1_line_60 : decode cX1_line 60 = .ok (.iload_n 1, 1) := by decide +kernel
theorem dX1_line_61 : decode cX1_line 61 = .ok (.bipush 8, 2) := by decide +kernel
theorem dX1_line_63 : decode cX1_line 63 = .ok (.imul, 1) := by decide +kernel
theorem dX1_line_64 : decode cX1_line 64 = .ok (.iload_n 3, 1) := by decide +kernel
theorem dX1_line_65 : decode cX1_line 65 = .ok (.iastore, 1) := by decide +kernel
theorem dX1_line_66 : decode cX1_line 66 = .ok (.aload_n 0, 1) := by decide +kernel
theorem dX1_line_67 : decode cX1_line 67 = .ok (.getfield 31, 3) := by decide +kernel
theorem dX1_line_70 : decode cX1_line 70 = .ok (.iload_n 1, 1) := by decide +kernel
theorem dX1_line_71 : decode cX1_line 71 = .ok (.bipush 8, 2) := by decide +kernel
theorem dX1_line_73 : decode cX1_line 73 = .ok (.imul, 1) := by decide +kernel
theorem dX1_line_74 : decode cX1_line 74 = .ok (.iload_n 2, 1) := by decide +kernel
theorem dX1_line_75 : decode cX1_line 75 = .ok (.iastore, 1) := by decide +kernel
theorem dX1_line_76 : decode cX1_line 76 = .ok (.aload_n 0, 1) := by decide +kernel
theorem dX1_line_77 : decode cX1_line 77 = .ok (.getfield 22, 3) := by decide +kernel
theorem dX1_line_80 : decode cX1_line 80 = .ok (.iload_n 1, 1) := by decide +kernel
theorem dX1_line_81 : decode cX1_line 81 = .ok (.aload_n 0, 1) := by decide +kernel
theorem dX1_line_82 : decode cX1_line 82 = .ok (.getfield 22, 3) := by decide +kernel
theorem dX1_line_85 : decode cX1_line 85 = .ok (.iload_n 1, 1) := by decide +kernel
theorem dX1_line_86 : decode cX1_line 86 = .ok (.iaload, 1) := by decide +kernel
theorem dX1_line_87 : decode cX1_line 87 = .ok (.iconst 1, 1) := by decide +kernel
theorem dX1_line_88 : decode cX1_line 88 = .ok (.iadd, 1) := by decide +kernel
theorem dX1_line_89 : decode cX1_line 89 = .ok (.iastore, 1) := by decide +kernel
theorem dX1_line_90 : decode cX1_line 90 = .ok (.aload_n 0, 1) := by decide +kernel
theorem dX1_line_91 : decode cX1_line 91 = .ok (.getfield 25, 3) := by decide +kernel
theorem dX1_line_94 : decode cX1_line 94 = .ok (.iload_n 1, 1) := by decide +kernel
theorem dX1_line_95 : decode cX1_line 95 = .ok (.aload_n 0, 1) := by decide +kernel
theorem dX1_line_96 : decode cX1_line 96 = .ok (.getfield 25, 3) := by decide +kernel
theorem dX1_line_99 : decode cX1_line 99 = .ok (.iload_n 1, 1) := by decide +kernel
theorem dX1_line_100 : decode cX1_line 100 = .ok (.iaload, 1) := by decide +kernel
theorem dX1_line_101 : decode cX1_line 101 = .ok (.iload_n 3, 1) := by decide +kernel
theorem dX1_line_102 : decode cX1_line 102 = .ok (.iadd, 1) := by decide +kernel
theorem dX1_line_103 : decode cX1_line 103 = .ok (.iastore, 1) := by decide +kernel
theorem dX1_line_104 : decode cX1_line 104 = .ok (.return_, 1) := by decide +kernel
abbrev cX1_unread : ByteArray := prog_3_method_8_code
def yX1_unread : MethodName := ⟨RX1, "unread", "(II)I"⟩
theorem dX1_unread_0 : decode cX1_unread 0 = .ok (.aload_n 0, 1) := by decide +kernel
theorem dX1_unread_1 : decode cX1_unread 1 = .ok (.iload_n 1, 1) := by decide +kernel
theorem dX1_unread_2 : decode cX1_unread 2 = .ok (.invokevirtual 46, 3) := by decide +kernel
theorem dX1_unread_5 : decode cX1_unread 5 = .ok (.ifCond .eq 5, 3) := by decide +kernel
theorem dX1_unread_8 : decode cX1_unread 8 = .ok (.iconst (-1), 1) := by decide +kernel
theorem dX1_unread_9 : decode cX1_unread 9 = .ok (.ireturn, 1) := by decide +kernel
theorem dX1_unread_10 : decode cX1_unread 10 = .ok (.aload_n 0, 1) := by decide +kernel
theorem dX1_unread_11 : decode cX1_unread 11 = .ok (.iload_n 2, 1) := by decide +kernel
theorem dX1_unread_12 : decode cX1_unread 12 = .ok (.invokevirtual 50, 3) := by decide +kernel
theorem dX1_unread_15 : decode cX1_unread 15 = .ok (.ifCond .eq 6, 3) := by decide +kernel
theorem dX1_unread_18 : decode cX1_unread 18 = .ok (.bipush (-2), 2) := by decide +kernel
theorem dX1_unread_20 : decode cX1_unread 20 = .ok (.ireturn, 1) := by decide +kernel
theorem dX1_unread_21 : decode cX1_unread 21 = .ok (.aload_n 0, 1) := by decide +kernel
theorem dX1_unread_22 : decode cX1_unread 22 = .ok (.getfield 7, 3) := by decide +kernel
theorem dX1_unread_25 : decode cX1_unread 25 = .ok (.iload_n 1, 1) := by decide +kernel
theorem dX1_unread_26 : decode cX1_unread 26 = .ok (.bipush 48, 2) := by decide +kernel
theorem dX1_unread_28 : decode cX1_unread 28 = .ok (.imul, 1) := by decide +kernel
theorem dX1_unread_29 : decode cX1_unread 29 = .ok (.iload_n 2, 1) := by decide +kernel
theorem dX1_unread_30 : decode cX1_unread 30 = .ok (.iadd, 1) := by decide +kernel
theorem dX1_unread_31 : decode cX1_unread 31 = .ok (.iaload, 1) := by decide +kernel
theorem dX1_unread_32 : decode cX1_unread 32 = .ok (.ifCond .ge 6, 3) := by decide +kernel
theorem dX1_unread_35 : decode cX1_unread 35 = .ok (.bipush (-7), 2) := by decide +kernel
theorem dX1_unread_37 : decode cX1_unread 37 = .ok (.ireturn, 1) := by decide +kernel
theorem dX1_unread_38 : decode cX1_unread 38 = .ok (.aload_n 0, 1) := by decide +kernel
theorem dX1_unread_39 : decode cX1_unread 39 = .ok (.getfield 7, 3) := by decide +kernel
theorem dX1_unread_42 : decode cX1_unread 42 = .ok (.iload_n 1, 1) := by decide +kernel
theorem dX1_unread_43 : decode cX1_unread 43 = .ok (.bipush 48, 2) := by decide +kernel
theorem dX1_unread_45 : decode cX1_unread 45 = .ok (.imul, 1) := by decide +kernel
theorem dX1_unread_46 : decode cX1_unread 46 = .ok (.iload_n 2, 1) := by decide +kernel
theorem dX1_unread_47 : decode cX1_unread 47 = .ok (.iadd, 1) := by decide +kernel
theorem dX1_unread_48 : decode cX1_unread 48 = .ok (.iconst (-1), 1) := by decide +kernel
theorem dX1_unread_49 : decode cX1_unread 49 = .ok (.iastore, 1) := by decide +kernel
theorem dX1_unread_50 : decode cX1_unread 50 = .ok (.aload_n 0, 1) := by decide +kernel
theorem dX1_unread_51 : decode cX1_unread 51 = .ok (.iload_n 1, 1) := by decide +kernel
theorem dX1_unread_52 : decode cX1_unread 52 = .ok (.invokevirtual 53, 3) := by decide +kernel
theorem dX1_unread_55 : decode cX1_unread 55 = .ok (.ireturn, 1) := by decide +kernel
abbrev cX1_close : ByteArray := prog_3_method_9_code
def yX1_close : MethodName := ⟨RX1, "close", "()I"⟩
theorem dX1_close_0 : decode cX1_close 0 = .ok (.aload_n 0, 1) := by decide +kernel
theorem dX1_close_1 : decode cX1_close 1 = .ok (.getfield 34, 3) := by decide +kernel
theorem dX1_close_4 : decode cX1_close 4 = .ok (.bipush 6, 2) := by decide +kernel
theorem dX1_close_6 : decode cX1_close 6 = .ok (.if_icmp .lt 6, 3) := by decide +kernel
theorem dX1_close_9 : decode cX1_close 9 = .ok (.bipush (-6), 2) := by decide +kernel
theorem dX1_close_11 : decode cX1_close 11 = .ok (.ireturn, 1) := by decide +kernel
theorem dX1_close_12 : decode cX1_close 12 = .ok (.aload_n 0, 1) := by decide +kernel
theorem dX1_close_13 : decode cX1_close 13 = .ok (.getfield 34, 3) := by decide +kernel
theorem dX1_close_16 : decode cX1_close 16 = .ok (.istore_n 1, 1) := by decide +kernel
theorem dX1_close_17 : decode cX1_close 17 = .ok (.iconst 0, 1) := by decide +kernel
theorem dX1_close_18 : decode cX1_close 18 = .ok (.istore_n 2, 1) := by decide +kernel
theorem dX1_close_19 : decode cX1_close 19 = .ok (.iload_n 2, 1) := by decide +kernel
theorem dX1_close_20 : decode cX1_close 20 = .ok (.bipush 6, 2) := by decide +kernel
theorem dX1_close_22 : decode cX1_close 22 = .ok (.if_icmp .ge 26, 3) := by decide +kernel
theorem dX1_close_25 : decode cX1_close 25 = .ok (.aload_n 0, 1) := by decide +kernel
theorem dX1_close_26 : decode cX1_close 26 = .ok (.getfield 16, 3) := by decide +kernel
theorem dX1_close_29 : decode cX1_close 29 = .ok (.iload_n 1, 1) := by decide +kernel
theorem dX1_close_30 : decode cX1_close 30 = .ok (.bipush 6, 2) := by decide +kernel
theorem dX1_close_32 : decode cX1_close 32 = .ok (.imul, 1) := by decide +kernel
theorem dX1_close_33 : decode cX1_close 33 = .ok (.iload_n 2, 1) := by decide +kernel
theorem dX1_close_34 : decode cX1_close 34 = .ok (.iadd, 1) := by decide +kernel
theorem dX1_close_35 : decode cX1_close 35 = .ok (.aload_n 0, 1) := by decide +kernel
theorem dX1_close_36 : decode cX1_close 36 = .ok (.getfield 13, 3) := by decide +kernel
theorem dX1_close_39 : decode cX1_close 39 = .ok (.iload_n 2, 1) := by decide +kernel
theorem dX1_close_40 : decode cX1_close 40 = .ok (.iaload, 1) := by decide +kernel
theorem dX1_close_41 : decode cX1_close 41 = .ok (.iastore, 1) := by decide +kernel
theorem dX1_close_42 : decode cX1_close 42 = .ok (.iinc 2 1, 3) := by decide +kernel
theorem dX1_close_45 : decode cX1_close 45 = .ok (.goto (-26), 3) := by decide +kernel
theorem dX1_close_48 : decode cX1_close 48 = .ok (.aload_n 0, 1) := by decide +kernel
theorem dX1_close_49 : decode cX1_close 49 = .ok (.iload_n 1, 1) := by decide +kernel
theorem dX1_close_50 : decode cX1_close 50 = .ok (.iconst 1, 1) := by decide +kernel
theorem dX1_close_51 : decode cX1_close 51 = .ok (.iadd, 1) := by decide +kernel
theorem dX1_close_52 : decode cX1_close 52 = .ok (.putfield 34, 3) := by decide +kernel
theorem dX1_close_55 : decode cX1_close 55 = .ok (.iconst 0, 1) := by decide +kernel
theorem dX1_close_56 : decode cX1_close 56 = .ok (.istore_n 2, 1) := by decide +kernel
theorem dX1_close_57 : decode cX1_close 57 = .ok (.iload_n 2, 1) := by decide +kernel
theorem dX1_close_58 : decode cX1_close 58 = .ok (.iconst 2, 1) := by decide +kernel
theorem dX1_close_59 : decode cX1_close 59 = .ok (.if_icmp .ge 35, 3) := by decide +kernel
theorem dX1_close_62 : decode cX1_close 62 = .ok (.aload_n 0, 1) := by decide +kernel
theorem dX1_close_63 : decode cX1_close 63 = .ok (.iload_n 2, 1) := by decide +kernel
theorem dX1_close_64 : decode cX1_close 64 = .ok (.iload_n 1, 1) := by decide +kernel
theorem dX1_close_65 : decode cX1_close 65 = .ok (.invokevirtual 38, 3) := by decide +kernel
theorem dX1_close_68 : decode cX1_close 68 = .ok (.istore_n 3, 1) := by decide +kernel
theorem dX1_close_69 : decode cX1_close 69 = .ok (.aload_n 0, 1) := by decide +kernel
theorem dX1_close_70 : decode cX1_close 70 = .ok (.getfield 19, 3) := by decide +kernel
theorem dX1_close_73 : decode cX1_close 73 = .ok (.iload_n 2, 1) := by decide +kernel
theorem dX1_close_74 : decode cX1_close 74 = .ok (.bipush 6, 2) := by decide +kernel
theorem dX1_close_76 : decode cX1_close 76 = .ok (.imul, 1) := by decide +kernel
theorem dX1_close_77 : decode cX1_close 77 = .ok (.iload_n 1, 1) := by decide +kernel
theorem dX1_close_78 : decode cX1_close 78 = .ok (.iadd, 1) := by decide +kernel
theorem dX1_close_79 : decode cX1_close 79 = .ok (.iload_n 3, 1) := by decide +kernel
theorem dX1_close_80 : decode cX1_close 80 = .ok (.iastore, 1) := by decide +kernel
theorem dX1_close_81 : decode cX1_close 81 = .ok (.aload_n 0, 1) := by decide +kernel
theorem dX1_close_82 : decode cX1_close 82 = .ok (.iload_n 2, 1) := by decide +kernel
theorem dX1_close_83 : decode cX1_close 83 = .ok (.iload_n 1, 1) := by decide +kernel
theorem dX1_close_84 : decode cX1_close 84 = .ok (.iload_n 3, 1) := by decide +kernel
theorem dX1_close_85 : decode cX1_close 85 = .ok (.invokevirtual 42, 3) := by decide +kernel
theorem dX1_close_88 : decode cX1_close 88 = .ok (.iinc 2 1, 3) := by decide +kernel
theorem dX1_close_91 : decode cX1_close 91 = .ok (.goto (-34), 3) := by decide +kernel
theorem dX1_close_94 : decode cX1_close 94 = .ok (.iload_n 1, 1) := by decide +kernel
theorem dX1_close_95 : decode cX1_close 95 = .ok (.ireturn, 1) := by decide +kernel
abbrev cX1_balance : ByteArray := prog_3_method_13_code
def yX1_balance : MethodName := ⟨RX1, "balance", "(I)I"⟩
theorem dX1_balance_0 : decode cX1_balance 0 = .ok (.aload_n 0, 1) := by decide +kernel
theorem dX1_balance_1 : decode cX1_balance 1 = .ok (.iload_n 1, 1) := by decide +kernel
theorem dX1_balance_2 : decode cX1_balance 2 = .ok (.invokevirtual 46, 3) := by decide +kernel
theorem dX1_balance_5 : decode cX1_balance 5 = .ok (.ifCond .eq 7, 3) := by decide +kernel
theorem dX1_balance_8 : decode cX1_balance 8 = .ok (.iconst 0, 1) := by decide +kernel
theorem dX1_balance_9 : decode cX1_balance 9 = .ok (.goto 9, 3) := by decide +kernel
theorem dX1_balance_12 : decode cX1_balance 12 = .ok (.aload_n 0, 1) := by decide +kernel
theorem dX1_balance_13 : decode cX1_balance 13 = .ok (.getfield 25, 3) := by decide +kernel
theorem dX1_balance_16 : decode cX1_balance 16 = .ok (.iload_n 1, 1) := by decide +kernel
theorem dX1_balance_17 : decode cX1_balance 17 = .ok (.iaload, 1) := by decide +kernel
theorem dX1_balance_18 : decode cX1_balance 18 = .ok (.ireturn, 1) := by decide +kernel
abbrev cX1_lines : ByteArray := prog_3_method_14_code
def yX1_lines : MethodName := ⟨RX1, "lines", "(I)I"⟩
theorem dX1_lines_0 : decode cX1_lines 0 = .ok (.aload_n 0, 1) := by decide +kernel
theorem dX1_lines_1 : decode cX1_lines 1 = .ok (.iload_n 1, 1) := by decide +kernel
theorem dX1_lines_2 : decode cX1_lines 2 = .ok (.invokevirtual 46, 3) := by decide +kernel
theorem dX1_lines_5 : decode cX1_lines 5 = .ok (.ifCond .eq 7, 3) := by decide +kernel
theorem dX1_lines_8 : decode cX1_lines 8 = .ok (.iconst (-1), 1) := by decide +kernel
theorem dX1_lines_9 : decode cX1_lines 9 = .ok (.goto 9, 3) := by decide +kernel
theorem dX1_lines_12 : decode cX1_lines 12 = .ok (.aload_n 0, 1) := by decide +kernel
theorem dX1_lines_13 : decode cX1_lines 13 = .ok (.getfield 22, 3) := by decide +kernel
theorem dX1_lines_16 : decode cX1_lines 16 = .ok (.iload_n 1, 1) := by decide +kernel
theorem dX1_lines_17 : decode cX1_lines 17 = .ok (.iaload, 1) := by decide +kernel
theorem dX1_lines_18 : decode cX1_lines 18 = .ok (.ireturn, 1) := by decide +kernel
abbrev cX1_lineAmount : ByteArray := prog_3_method_16_code
def yX1_lineAmount : MethodName := ⟨RX1, "lineAmount", "(II)I"⟩
theorem dX1_lineAmount_0 : decode cX1_lineAmount 0 = .ok (.aload_n 0, 1) := by decide +kernel
theorem dX1_lineAmount_1 : decode cX1_lineAmount 1 = .ok (.iload_n 1, 1) := by decide +kernel
theorem dX1_lineAmount_2 : decode cX1_lineAmount 2 = .ok (.iload_n 2, 1) := by decide +kernel
theorem dX1_lineAmount_3 : decode cX1_lineAmount 3 = .ok (.invokevirtual 63, 3) := by decide +kernel
theorem dX1_lineAmount_6 : decode cX1_lineAmount 6 = .ok (.ifCond .eq 7, 3) := by decide +kernel
theorem dX1_lineAmount_9 : decode cX1_lineAmount 9 = .ok (.iconst 0, 1) := by decide +kernel
theorem dX1_lineAmount_10 : decode cX1_lineAmount 10 = .ok (.goto 14, 3) := by decide +kernel
theorem dX1_lineAmount_13 : decode cX1_lineAmount 13 = .ok (.aload_n 0, 1) := by decide +kernel
theorem dX1_lineAmount_14 : decode cX1_lineAmount 14 = .ok (.getfield 28, 3) := by decide +kernel
theorem dX1_lineAmount_17 : decode cX1_lineAmount 17 = .ok (.iload_n 1, 1) := by decide +kernel
theorem dX1_lineAmount_18 : decode cX1_lineAmount 18 = .ok (.bipush 8, 2) := by decide +kernel
theorem dX1_lineAmount_20 : decode cX1_lineAmount 20 = .ok (.imul, 1) := by decide +kernel
theorem dX1_lineAmount_21 : decode cX1_lineAmount 21 = .ok (.iload_n 2, 1) := by decide +kernel
theorem dX1_lineAmount_22 : decode cX1_lineAmount 22 = .ok (.iadd, 1) := by decide +kernel
theorem dX1_lineAmount_23 : decode cX1_lineAmount 23 = .ok (.iaload, 1) := by decide +kernel
theorem dX1_lineAmount_24 : decode cX1_lineAmount 24 = .ok (.ireturn, 1) := by decide +kernel
abbrev cX1_noLine : ByteArray := prog_3_method_15_code
def yX1_noLine : MethodName := ⟨RX1, "noLine", "(II)Z"⟩
theorem dX1_noLine_0 : decode cX1_noLine 0 = .ok (.aload_n 0, 1) := by decide +kernel
theorem dX1_noLine_1 : decode cX1_noLine 1 = .ok (.iload_n 1, 1) := by decide +kernel
theorem dX1_noLine_2 : decode cX1_noLine 2 = .ok (.invokevirtual 46, 3) := by decide +kernel
theorem dX1_noLine_5 : decode cX1_noLine 5 = .ok (.ifCond .ne 23, 3) := by decide +kernel
theorem dX1_noLine_8 : decode cX1_noLine 8 = .ok (.iload_n 2, 1) := by decide +kernel
theorem dX1_noLine_9 : decode cX1_noLine 9 = .ok (.ifCond .lt 19, 3) := by decide +kernel
theorem dX1_noLine_12 : decode cX1_noLine 12 = .ok (.iload_n 2, 1) := by decide +kernel
theorem dX1_noLine_13 : decode cX1_noLine 13 = .ok (.bipush 7, 2) := by decide +kernel
theorem dX1_noLine_15 : decode cX1_noLine 15 = .ok (.if_icmp .gt 13, 3) := by decide +kernel
theorem dX1_noLine_18 : decode cX1_noLine 18 = .ok (.iload_n 2, 1) := by decide +kernel
theorem dX1_noLine_19 : decode cX1_noLine 19 = .ok (.aload_n 0, 1) := by decide +kernel
theorem dX1_noLine_20 : decode cX1_noLine 20 = .ok (.getfield 22, 3) := by decide +kernel
theorem dX1_noLine_23 : decode cX1_noLine 23 = .ok (.iload_n 1, 1) := by decide +kernel
theorem dX1_noLine_24 : decode cX1_noLine 24 = .ok (.iaload, 1) := by decide +kernel
theorem dX1_noLine_25 : decode cX1_noLine 25 = .ok (.if_icmp .lt 7, 3) := by decide +kernel
theorem dX1_noLine_28 : decode cX1_noLine 28 = .ok (.iconst 1, 1) := by decide +kernel
theorem dX1_noLine_29 : decode cX1_noLine 29 = .ok (.goto 4, 3) := by decide +kernel
theorem dX1_noLine_32 : decode cX1_noLine 32 = .ok (.iconst 0, 1) := by decide +kernel
theorem dX1_noLine_33 : decode cX1_noLine 33 = .ok (.ireturn, 1) := by decide +kernel
abbrev cX1_linePeriod : ByteArray := prog_3_method_17_code
def yX1_linePeriod : MethodName := ⟨RX1, "linePeriod", "(II)I"⟩
theorem dX1_linePeriod_0 : decode cX1_linePeriod 0 = .ok (.aload_n 0, 1) := by decide +kernel
theorem dX1_linePeriod_1 : decode cX1_linePeriod 1 = .ok (.iload_n 1, 1) := by decide +kernel
theorem dX1_linePeriod_2 : decode cX1_linePeriod 2 = .ok (.iload_n 2, 1) := by decide +kernel
theorem dX1_linePeriod_3 : decode cX1_linePeriod 3 = .ok (.invokevirtual 63, 3) := by decide +kernel
theorem dX1_linePeriod_6 : decode cX1_linePeriod 6 = .ok (.ifCond .eq 8, 3) := by decide +kernel
theorem dX1_linePeriod_9 : decode cX1_linePeriod 9 = .ok (.bipush (-8), 2) := by decide +kernel
theorem dX1_linePeriod_11 : decode cX1_linePeriod 11 = .ok (.goto 14, 3) := by decide +kernel
theorem dX1_linePeriod_14 : decode cX1_linePeriod 14 = .ok (.aload_n 0, 1) := by decide +kernel
theorem dX1_linePeriod_15 : decode cX1_linePeriod 15 = .ok (.getfield 31, 3) := by decide +kernel
theorem dX1_linePeriod_18 : decode cX1_linePeriod 18 = .ok (.iload_n 1, 1) := by decide +kernel
theorem dX1_linePeriod_19 : decode cX1_linePeriod 19 = .ok (.bipush 8, 2) := by decide +kernel
theorem dX1_linePeriod_21 : decode cX1_linePeriod 21 = .ok (.imul, 1) := by decide +kernel
theorem dX1_linePeriod_22 : decode cX1_linePeriod 22 = .ok (.iload_n 2, 1) := by decide +kernel
theorem dX1_linePeriod_23 : decode cX1_linePeriod 23 = .ok (.iadd, 1) := by decide +kernel
theorem dX1_linePeriod_24 : decode cX1_linePeriod 24 = .ok (.iaload, 1) := by decide +kernel
theorem dX1_linePeriod_25 : decode cX1_linePeriod 25 = .ok (.ireturn, 1) := by decide +kernel
theorem q18 : (Jvm.Cond.initialized "UtilityRebillerModel") ∈ lw_all := lw_g (lw_at lw_m1 2 rfl) rfl
theorem q168 : (Jvm.Cond.instantiable "UtilityRebillerModel" (9 : Nat)) ∈ lw_all := lw_g (lw_at lw_m1 152 rfl) rfl
theorem q170 : (Jvm.Cond.instanceMethod ({ cls := "UtilityRebillerModel", name := "<init>", desc := "()V" } : Jvm.MethodName)) ∈ lw_all := lw_g (lw_at lw_m1 154 rfl) rfl
theorem q171 : (Jvm.Cond.code ({ cls := "UtilityRebillerModel", name := "<init>", desc := "()V" } : Jvm.MethodName) prog_3_method_1_code (2 : Nat) (Option.none : Option Jvm.ClassFile.FieldType)) ∈ lw_all := lw_g (lw_at lw_m1 155 rfl) rfl
theorem q172 : (Jvm.Cond.methodLink "UtilityRebillerModel" (1 : Nat) ({ cls := "java/lang/Object", name := "<init>", desc := "()V" } : Jvm.MethodName)) ∈ lw_all := lw_g (lw_at lw_m1 156 rfl) rfl
theorem q173 : (Jvm.Cond.fieldLink "UtilityRebillerModel" (7 : Nat) "UtilityRebillerModel" "reads" "[I") ∈ lw_all := lw_g (lw_at lw_m1 157 rfl) rfl
theorem q174 : (Jvm.Cond.fieldLink "UtilityRebillerModel" (13 : Nat) "UtilityRebillerModel" "items" "[I") ∈ lw_all := lw_g (lw_at lw_m1 158 rfl) rfl
theorem q175 : (Jvm.Cond.fieldLink "UtilityRebillerModel" (16 : Nat) "UtilityRebillerModel" "tariffs" "[I") ∈ lw_all := lw_g (lw_at lw_m1 159 rfl) rfl
theorem q176 : (Jvm.Cond.fieldLink "UtilityRebillerModel" (34 : Nat) "UtilityRebillerModel" "closed" "I") ∈ lw_all := lw_g (lw_at lw_m1 160 rfl) rfl
theorem q177 : (Jvm.Cond.fieldLink "UtilityRebillerModel" (19 : Nat) "UtilityRebillerModel" "billed" "[I") ∈ lw_all := lw_g (lw_at lw_m1 161 rfl) rfl
theorem q178 : (Jvm.Cond.fieldLink "UtilityRebillerModel" (22 : Nat) "UtilityRebillerModel" "lines" "[I") ∈ lw_all := lw_g (lw_at lw_m1 162 rfl) rfl
theorem q179 : (Jvm.Cond.fieldLink "UtilityRebillerModel" (25 : Nat) "UtilityRebillerModel" "sums" "[I") ∈ lw_all := lw_g (lw_at lw_m1 163 rfl) rfl
theorem q180 : (Jvm.Cond.fieldLink "UtilityRebillerModel" (28 : Nat) "UtilityRebillerModel" "amounts" "[I") ∈ lw_all := lw_g (lw_at lw_m1 164 rfl) rfl
theorem q181 : (Jvm.Cond.fieldLink "UtilityRebillerModel" (31 : Nat) "UtilityRebillerModel" "periods" "[I") ∈ lw_all := lw_g (lw_at lw_m1 165 rfl) rfl
theorem q182 : (Jvm.Cond.laysFinal "UtilityRebillerModel" "UtilityRebillerModel" "reads" "[I") ∈ lw_all := lw_g (lw_at lw_m1 166 rfl) rfl
theorem q183 : (Jvm.Cond.soleField "UtilityRebillerModel" "reads") ∈ lw_all := lw_g (lw_at lw_m1 167 rfl) rfl
theorem q184 : (Jvm.Cond.laysFinal "UtilityRebillerModel" "UtilityRebillerModel" "items" "[I") ∈ lw_all := lw_g (lw_at lw_m1 168 rfl) rfl
theorem q185 : (Jvm.Cond.soleField "UtilityRebillerModel" "items") ∈ lw_all := lw_g (lw_at lw_m1 169 rfl) rfl
theorem q186 : (Jvm.Cond.laysFinal "UtilityRebillerModel" "UtilityRebillerModel" "tariffs" "[I") ∈ lw_all := lw_g (lw_at lw_m1 170 rfl) rfl
theorem q187 : (Jvm.Cond.soleField "UtilityRebillerModel" "tariffs") ∈ lw_all := lw_g (lw_at lw_m1 171 rfl) rfl
theorem q188 : (Jvm.Cond.lays "UtilityRebillerModel" "UtilityRebillerModel" "closed" "I") ∈ lw_all := lw_g (lw_at lw_m1 172 rfl) rfl
theorem q189 : (Jvm.Cond.soleField "UtilityRebillerModel" "closed") ∈ lw_all := lw_g (lw_at lw_m1 173 rfl) rfl
theorem q190 : (Jvm.Cond.laysFinal "UtilityRebillerModel" "UtilityRebillerModel" "billed" "[I") ∈ lw_all := lw_g (lw_at lw_m1 174 rfl) rfl
theorem q191 : (Jvm.Cond.soleField "UtilityRebillerModel" "billed") ∈ lw_all := lw_g (lw_at lw_m1 175 rfl) rfl
theorem q192 : (Jvm.Cond.laysFinal "UtilityRebillerModel" "UtilityRebillerModel" "lines" "[I") ∈ lw_all := lw_g (lw_at lw_m1 176 rfl) rfl
theorem q193 : (Jvm.Cond.soleField "UtilityRebillerModel" "lines") ∈ lw_all := lw_g (lw_at lw_m1 177 rfl) rfl
theorem q194 : (Jvm.Cond.laysFinal "UtilityRebillerModel" "UtilityRebillerModel" "sums" "[I") ∈ lw_all := lw_g (lw_at lw_m1 178 rfl) rfl
theorem q195 : (Jvm.Cond.soleField "UtilityRebillerModel" "sums") ∈ lw_all := lw_g (lw_at lw_m1 179 rfl) rfl
theorem q196 : (Jvm.Cond.laysFinal "UtilityRebillerModel" "UtilityRebillerModel" "amounts" "[I") ∈ lw_all := lw_g (lw_at lw_m1 180 rfl) rfl
theorem q197 : (Jvm.Cond.soleField "UtilityRebillerModel" "amounts") ∈ lw_all := lw_g (lw_at lw_m1 181 rfl) rfl
theorem q198 : (Jvm.Cond.laysFinal "UtilityRebillerModel" "UtilityRebillerModel" "periods" "[I") ∈ lw_all := lw_g (lw_at lw_m1 182 rfl) rfl
theorem q199 : (Jvm.Cond.soleField "UtilityRebillerModel" "periods") ∈ lw_all := lw_g (lw_at lw_m1 183 rfl) rfl
theorem q200 : (Jvm.Cond.superclass "UtilityRebillerModel" "java/lang/Object") ∈ lw_all := lw_g (lw_at lw_m1 184 rfl) rfl
theorem q202 : (Jvm.Cond.instanceMethod ({ cls := "UtilityRebillerModel", name := "tariff", desc := "(II)I" } : Jvm.MethodName)) ∈ lw_all := lw_g (lw_at lw_m1 186 rfl) rfl
theorem q203 : (Jvm.Cond.selects "UtilityRebillerModel" ({ cls := "UtilityRebillerModel", name := "tariff", desc := "(II)I" } : Jvm.MethodName) ({ cls := "UtilityRebillerModel", name := "tariff", desc := "(II)I" } : Jvm.MethodName)) ∈ lw_all := lw_g (lw_at lw_m1 187 rfl) rfl
theorem q204 : (Jvm.Cond.code ({ cls := "UtilityRebillerModel", name := "tariff", desc := "(II)I" } : Jvm.MethodName) prog_3_method_4_code (4 : Nat) (Option.some Jvm.ClassFile.FieldType.int)) ∈ lw_all := lw_g (lw_at lw_m1 188 rfl) rfl
theorem q206 : (Jvm.Cond.instanceMethod ({ cls := "UtilityRebillerModel", name := "read", desc := "(III)I" } : Jvm.MethodName)) ∈ lw_all := lw_g (lw_at lw_m1 190 rfl) rfl
theorem q207 : (Jvm.Cond.selects "UtilityRebillerModel" ({ cls := "UtilityRebillerModel", name := "read", desc := "(III)I" } : Jvm.MethodName) ({ cls := "UtilityRebillerModel", name := "read", desc := "(III)I" } : Jvm.MethodName)) ∈ lw_all := lw_g (lw_at lw_m1 191 rfl) rfl
theorem q208 : (Jvm.Cond.code ({ cls := "UtilityRebillerModel", name := "read", desc := "(III)I" } : Jvm.MethodName) prog_3_method_7_code (4 : Nat) (Option.some Jvm.ClassFile.FieldType.int)) ∈ lw_all := lw_g (lw_at lw_m1 192 rfl) rfl
theorem q209 : (Jvm.Cond.methodLink "UtilityRebillerModel" (46 : Nat) ({ cls := "UtilityRebillerModel", name := "badAccount", desc := "(I)Z" } : Jvm.MethodName)) ∈ lw_all := lw_g (lw_at lw_m1 193 rfl) rfl
theorem q210 : (Jvm.Cond.privateMethod ({ cls := "UtilityRebillerModel", name := "badAccount", desc := "(I)Z" } : Jvm.MethodName)) ∈ lw_tbl := lw_at lw_m1 194 rfl
theorem q211 : (Jvm.Cond.instanceMethod ({ cls := "UtilityRebillerModel", name := "badAccount", desc := "(I)Z" } : Jvm.MethodName)) ∈ lw_all := lw_g (lw_at lw_m1 195 rfl) rfl
theorem q212 : (Jvm.Cond.code ({ cls := "UtilityRebillerModel", name := "badAccount", desc := "(I)Z" } : Jvm.MethodName) prog_3_method_2_code (2 : Nat) (Option.some Jvm.ClassFile.FieldType.boolean)) ∈ lw_all := lw_g (lw_at lw_m1 196 rfl) rfl
theorem q213 : (Jvm.Cond.methodLink "UtilityRebillerModel" (50 : Nat) ({ cls := "UtilityRebillerModel", name := "badInterval", desc := "(I)Z" } : Jvm.MethodName)) ∈ lw_all := lw_g (lw_at lw_m1 197 rfl) rfl
theorem q214 : (Jvm.Cond.privateMethod ({ cls := "UtilityRebillerModel", name := "badInterval", desc := "(I)Z" } : Jvm.MethodName)) ∈ lw_tbl := lw_at lw_m1 198 rfl
theorem q215 : (Jvm.Cond.instanceMethod ({ cls := "UtilityRebillerModel", name := "badInterval", desc := "(I)Z" } : Jvm.MethodName)) ∈ lw_all := lw_g (lw_at lw_m1 199 rfl) rfl
theorem q216 : (Jvm.Cond.code ({ cls := "UtilityRebillerModel", name := "badInterval", desc := "(I)Z" } : Jvm.MethodName) prog_3_method_3_code (2 : Nat) (Option.some Jvm.ClassFile.FieldType.boolean)) ∈ lw_all := lw_g (lw_at lw_m1 200 rfl) rfl
theorem q217 : (Jvm.Cond.methodLink "UtilityRebillerModel" (53 : Nat) ({ cls := "UtilityRebillerModel", name := "rebill", desc := "(I)I" } : Jvm.MethodName)) ∈ lw_all := lw_g (lw_at lw_m1 201 rfl) rfl
theorem q218 : (Jvm.Cond.privateMethod ({ cls := "UtilityRebillerModel", name := "rebill", desc := "(I)I" } : Jvm.MethodName)) ∈ lw_tbl := lw_at lw_m1 202 rfl
theorem q219 : (Jvm.Cond.instanceMethod ({ cls := "UtilityRebillerModel", name := "rebill", desc := "(I)I" } : Jvm.MethodName)) ∈ lw_all := lw_g (lw_at lw_m1 203 rfl) rfl
theorem q220 : (Jvm.Cond.code ({ cls := "UtilityRebillerModel", name := "rebill", desc := "(I)I" } : Jvm.MethodName) prog_3_method_6_code (6 : Nat) (Option.some Jvm.ClassFile.FieldType.int)) ∈ lw_all := lw_g (lw_at lw_m1 204 rfl) rfl
theorem q221 : (Jvm.Cond.methodLink "UtilityRebillerModel" (38 : Nat) ({ cls := "UtilityRebillerModel", name := "amount", desc := "(II)I" } : Jvm.MethodName)) ∈ lw_all := lw_g (lw_at lw_m1 205 rfl) rfl
theorem q222 : (Jvm.Cond.instanceMethod ({ cls := "UtilityRebillerModel", name := "amount", desc := "(II)I" } : Jvm.MethodName)) ∈ lw_all := lw_g (lw_at lw_m1 206 rfl) rfl
theorem q223 : (Jvm.Cond.selects "UtilityRebillerModel" ({ cls := "UtilityRebillerModel", name := "amount", desc := "(II)I" } : Jvm.MethodName) ({ cls := "UtilityRebillerModel", name := "amount", desc := "(II)I" } : Jvm.MethodName)) ∈ lw_all := lw_g (lw_at lw_m1 207 rfl) rfl
theorem q224 : (Jvm.Cond.code ({ cls := "UtilityRebillerModel", name := "amount", desc := "(II)I" } : Jvm.MethodName) prog_3_method_12_code (10 : Nat) (Option.some Jvm.ClassFile.FieldType.int)) ∈ lw_all := lw_g (lw_at lw_m1 208 rfl) rfl
theorem q225 : (Jvm.Cond.methodLink "UtilityRebillerModel" (57 : Nat) ({ cls := "UtilityRebillerModel", name := "usage", desc := "(II)I" } : Jvm.MethodName)) ∈ lw_all := lw_g (lw_at lw_m1 209 rfl) rfl
theorem q226 : (Jvm.Cond.instanceMethod ({ cls := "UtilityRebillerModel", name := "usage", desc := "(II)I" } : Jvm.MethodName)) ∈ lw_all := lw_g (lw_at lw_m1 210 rfl) rfl
theorem q227 : (Jvm.Cond.selects "UtilityRebillerModel" ({ cls := "UtilityRebillerModel", name := "usage", desc := "(II)I" } : Jvm.MethodName) ({ cls := "UtilityRebillerModel", name := "usage", desc := "(II)I" } : Jvm.MethodName)) ∈ lw_all := lw_g (lw_at lw_m1 211 rfl) rfl
theorem q228 : (Jvm.Cond.code ({ cls := "UtilityRebillerModel", name := "usage", desc := "(II)I" } : Jvm.MethodName) prog_3_method_10_code (6 : Nat) (Option.some Jvm.ClassFile.FieldType.int)) ∈ lw_all := lw_g (lw_at lw_m1 212 rfl) rfl
theorem q229 : (Jvm.Cond.methodLink "UtilityRebillerModel" (60 : Nat) ({ cls := "UtilityRebillerModel", name := "rate", desc := "(II)I" } : Jvm.MethodName)) ∈ lw_all := lw_g (lw_at lw_m1 213 rfl) rfl
theorem q230 : (Jvm.Cond.privateMethod ({ cls := "UtilityRebillerModel", name := "rate", desc := "(II)I" } : Jvm.MethodName)) ∈ lw_tbl := lw_at lw_m1 214 rfl
theorem q231 : (Jvm.Cond.instanceMethod ({ cls := "UtilityRebillerModel", name := "rate", desc := "(II)I" } : Jvm.MethodName)) ∈ lw_all := lw_g (lw_at lw_m1 215 rfl) rfl
theorem q232 : (Jvm.Cond.code ({ cls := "UtilityRebillerModel", name := "rate", desc := "(II)I" } : Jvm.MethodName) prog_3_method_11_code (3 : Nat) (Option.some Jvm.ClassFile.FieldType.int)) ∈ lw_all := lw_g (lw_at lw_m1 216 rfl) rfl
theorem q233 : (Jvm.Cond.methodLink "UtilityRebillerModel" (42 : Nat) ({ cls := "UtilityRebillerModel", name := "line", desc := "(III)V" } : Jvm.MethodName)) ∈ lw_all := lw_g (lw_at lw_m1 217 rfl) rfl
theorem q234 : (Jvm.Cond.privateMethod ({ cls := "UtilityRebillerModel", name := "line", desc := "(III)V" } : Jvm.MethodName)) ∈ lw_tbl := lw_at lw_m1 218 rfl
theorem q235 : (Jvm.Cond.instanceMethod ({ cls := "UtilityRebillerModel", name := "line", desc := "(III)V" } : Jvm.MethodName)) ∈ lw_all := lw_g (lw_at lw_m1 219 rfl) rfl
theorem q236 : (Jvm.Cond.code ({ cls := "UtilityRebillerModel", name := "line", desc := "(III)V" } : Jvm.MethodName) prog_3_method_5_code (5 : Nat) (Option.none : Option Jvm.ClassFile.FieldType)) ∈ lw_all := lw_g (lw_at lw_m1 220 rfl) rfl
theorem q238 : (Jvm.Cond.instanceMethod ({ cls := "UtilityRebillerModel", name := "unread", desc := "(II)I" } : Jvm.MethodName)) ∈ lw_all := lw_g (lw_at lw_m1 222 rfl) rfl
theorem q239 : (Jvm.Cond.selects "UtilityRebillerModel" ({ cls := "UtilityRebillerModel", name := "unread", desc := "(II)I" } : Jvm.MethodName) ({ cls := "UtilityRebillerModel", name := "unread", desc := "(II)I" } : Jvm.MethodName)) ∈ lw_all := lw_g (lw_at lw_m1 223 rfl) rfl
theorem q240 : (Jvm.Cond.code ({ cls := "UtilityRebillerModel", name := "unread", desc := "(II)I" } : Jvm.MethodName) prog_3_method_8_code (3 : Nat) (Option.some Jvm.ClassFile.FieldType.int)) ∈ lw_all := lw_g (lw_at lw_m1 224 rfl) rfl
theorem q242 : (Jvm.Cond.instanceMethod ({ cls := "UtilityRebillerModel", name := "close", desc := "()I" } : Jvm.MethodName)) ∈ lw_all := lw_g (lw_at lw_m1 226 rfl) rfl
theorem q243 : (Jvm.Cond.selects "UtilityRebillerModel" ({ cls := "UtilityRebillerModel", name := "close", desc := "()I" } : Jvm.MethodName) ({ cls := "UtilityRebillerModel", name := "close", desc := "()I" } : Jvm.MethodName)) ∈ lw_all := lw_g (lw_at lw_m1 227 rfl) rfl
theorem q244 : (Jvm.Cond.code ({ cls := "UtilityRebillerModel", name := "close", desc := "()I" } : Jvm.MethodName) prog_3_method_9_code (4 : Nat) (Option.some Jvm.ClassFile.FieldType.int)) ∈ lw_all := lw_g (lw_at lw_m1 228 rfl) rfl
theorem q248 : (Jvm.Cond.instanceMethod ({ cls := "UtilityRebillerModel", name := "balance", desc := "(I)I" } : Jvm.MethodName)) ∈ lw_all := lw_g (lw_at lw_m1 232 rfl) rfl
theorem q249 : (Jvm.Cond.selects "UtilityRebillerModel" ({ cls := "UtilityRebillerModel", name := "balance", desc := "(I)I" } : Jvm.MethodName) ({ cls := "UtilityRebillerModel", name := "balance", desc := "(I)I" } : Jvm.MethodName)) ∈ lw_all := lw_g (lw_at lw_m1 233 rfl) rfl
theorem q250 : (Jvm.Cond.code ({ cls := "UtilityRebillerModel", name := "balance", desc := "(I)I" } : Jvm.MethodName) prog_3_method_13_code (2 : Nat) (Option.some Jvm.ClassFile.FieldType.int)) ∈ lw_all := lw_g (lw_at lw_m1 234 rfl) rfl
theorem q252 : (Jvm.Cond.instanceMethod ({ cls := "UtilityRebillerModel", name := "lines", desc := "(I)I" } : Jvm.MethodName)) ∈ lw_all := lw_g (lw_at lw_m1 236 rfl) rfl
theorem q253 : (Jvm.Cond.selects "UtilityRebillerModel" ({ cls := "UtilityRebillerModel", name := "lines", desc := "(I)I" } : Jvm.MethodName) ({ cls := "UtilityRebillerModel", name := "lines", desc := "(I)I" } : Jvm.MethodName)) ∈ lw_all := lw_g (lw_at lw_m1 237 rfl) rfl
theorem q254 : (Jvm.Cond.code ({ cls := "UtilityRebillerModel", name := "lines", desc := "(I)I" } : Jvm.MethodName) prog_3_method_14_code (2 : Nat) (Option.some Jvm.ClassFile.FieldType.int)) ∈ lw_all := lw_g (lw_at lw_m1 238 rfl) rfl
theorem q256 : (Jvm.Cond.instanceMethod ({ cls := "UtilityRebillerModel", name := "lineAmount", desc := "(II)I" } : Jvm.MethodName)) ∈ lw_all := lw_g (lw_at lw_m2 0 rfl) rfl
theorem q257 : (Jvm.Cond.selects "UtilityRebillerModel" ({ cls := "UtilityRebillerModel", name := "lineAmount", desc := "(II)I" } : Jvm.MethodName) ({ cls := "UtilityRebillerModel", name := "lineAmount", desc := "(II)I" } : Jvm.MethodName)) ∈ lw_all := lw_g (lw_at lw_m2 1 rfl) rfl
theorem q258 : (Jvm.Cond.code ({ cls := "UtilityRebillerModel", name := "lineAmount", desc := "(II)I" } : Jvm.MethodName) prog_3_method_16_code (3 : Nat) (Option.some Jvm.ClassFile.FieldType.int)) ∈ lw_all := lw_g (lw_at lw_m2 2 rfl) rfl
theorem q259 : (Jvm.Cond.methodLink "UtilityRebillerModel" (63 : Nat) ({ cls := "UtilityRebillerModel", name := "noLine", desc := "(II)Z" } : Jvm.MethodName)) ∈ lw_all := lw_g (lw_at lw_m2 3 rfl) rfl
theorem q260 : (Jvm.Cond.privateMethod ({ cls := "UtilityRebillerModel", name := "noLine", desc := "(II)Z" } : Jvm.MethodName)) ∈ lw_tbl := lw_at lw_m2 4 rfl
theorem q261 : (Jvm.Cond.instanceMethod ({ cls := "UtilityRebillerModel", name := "noLine", desc := "(II)Z" } : Jvm.MethodName)) ∈ lw_all := lw_g (lw_at lw_m2 5 rfl) rfl
theorem q262 : (Jvm.Cond.code ({ cls := "UtilityRebillerModel", name := "noLine", desc := "(II)Z" } : Jvm.MethodName) prog_3_method_15_code (3 : Nat) (Option.some Jvm.ClassFile.FieldType.boolean)) ∈ lw_all := lw_g (lw_at lw_m2 6 rfl) rfl
theorem q264 : (Jvm.Cond.instanceMethod ({ cls := "UtilityRebillerModel", name := "linePeriod", desc := "(II)I" } : Jvm.MethodName)) ∈ lw_all := lw_g (lw_at lw_m2 8 rfl) rfl
theorem q265 : (Jvm.Cond.selects "UtilityRebillerModel" ({ cls := "UtilityRebillerModel", name := "linePeriod", desc := "(II)I" } : Jvm.MethodName) ({ cls := "UtilityRebillerModel", name := "linePeriod", desc := "(II)I" } : Jvm.MethodName)) ∈ lw_all := lw_g (lw_at lw_m2 9 rfl) rfl
theorem q266 : (Jvm.Cond.code ({ cls := "UtilityRebillerModel", name := "linePeriod", desc := "(II)I" } : Jvm.MethodName) prog_3_method_17_code (3 : Nat) (Option.some Jvm.ClassFile.FieldType.int)) ∈ lw_all := lw_g (lw_at lw_m2 10 rfl) rfl
theorem in_X1 : ∀ w ∈ wsX10, w ∈ lw_all := lw_in wsX10 [182, 184, 186, 188, 190, 192, 194, 196, 198] (by decide +kernel) (by decide +kernel)
end
section
set_option maxRecDepth 100000
/-! java/lang/Object -/
def RJ0 : String := "java/lang/Object"
abbrev cJ0_init : ByteArray := object_method_1_code
def yJ0_init : MethodName := ⟨RJ0, "<init>", "()V"⟩
theorem dJ0_init_0 : decode cJ0_init 0 = .ok (.return_, 1) := by decide +kernel
theorem q25 : (Jvm.Cond.instanceMethod ({ cls := "java/lang/Object", name := "<init>", desc := "()V" } : Jvm.MethodName)) ∈ lw_all := lw_g (lw_at lw_m1 9 rfl) rfl
theorem q26 : (Jvm.Cond.code ({ cls := "java/lang/Object", name := "<init>", desc := "()V" } : Jvm.MethodName) object_method_1_code (1 : Nat) (Option.none : Option Jvm.ClassFile.FieldType)) ∈ lw_all := lw_g (lw_at lw_m1 10 rfl) rfl
/-! the law's own entry -/
abbrev cL_law : ByteArray := code
theorem dL_law_0 : decode cL_law 0 = .ok (.new 7, 3) := by decide +kernel
theorem dL_law_3 : decode cL_law 3 = .ok (.dup, 1) := by decide +kernel
theorem dL_law_4 : decode cL_law 4 = .ok (.invokespecial 9, 3) := by decide +kernel
theorem dL_law_7 : decode cL_law 7 = .ok (.astore_n 1, 1) := by decide +kernel
theorem dL_law_8 : decode cL_law 8 = .ok (.new 10, 3) := by decide +kernel
theorem dL_law_11 : decode cL_law 11 = .ok (.dup, 1) := by decide +kernel
theorem dL_law_12 : decode cL_law 12 = .ok (.invokespecial 12, 3) := by decide +kernel
theorem dL_law_15 : decode cL_law 15 = .ok (.astore_n 2, 1) := by decide +kernel
theorem dL_law_16 : decode cL_law 16 = .ok (.iconst 0, 1) := by decide +kernel
theorem dL_law_17 : decode cL_law 17 = .ok (.istore_n 3, 1) := by decide +kernel
theorem dL_law_18 : decode cL_law 18 = .ok (.iload_n 3, 1) := by decide +kernel
theorem dL_law_19 : decode cL_law 19 = .ok (.aload_n 0, 1) := by decide +kernel
theorem dL_law_20 : decode cL_law 20 = .ok (.arraylength, 1) := by decide +kernel
theorem dL_law_21 : decode cL_law 21 = .ok (.iconst 4, 1) := by decide +kernel
theorem dL_law_22 : decode cL_law 22 = .ok (.isub, 1) := by decide +kernel
theorem dL_law_23 : decode cL_law 23 = .ok (.if_icmp .gt 371, 3) := by decide +kernel
theorem dL_law_26 : decode cL_law 26 = .ok (.aload_n 0, 1) := by decide +kernel
theorem dL_law_27 : decode cL_law 27 = .ok (.iload_n 3, 1) := by decide +kernel
theorem dL_law_28 : decode cL_law 28 = .ok (.iaload, 1) := by decide +kernel
theorem dL_law_29 : decode cL_law 29 = .ok (.bipush 15, 2) := by decide +kernel
theorem dL_law_31 : decode cL_law 31 = .ok (.iand, 1) := by decide +kernel
theorem dL_law_32 : decode cL_law 32 = .ok (.tableswitch 356 0 9 #[56, 89, 132, 165, 178, 211, 244, 267, 290, 323], 56) := by decide +kernel
theorem dL_law_88 : decode cL_law 88 = .ok (.aload_n 1, 1) := by decide +kernel
theorem dL_law_89 : decode cL_law 89 = .ok (.aload_n 0, 1) := by decide +kernel
theorem dL_law_90 : decode cL_law 90 = .ok (.iload_n 3, 1) := by decide +kernel
theorem dL_law_91 : decode cL_law 91 = .ok (.iconst 1, 1) := by decide +kernel
theorem dL_law_92 : decode cL_law 92 = .ok (.iadd, 1) := by decide +kernel
theorem dL_law_93 : decode cL_law 93 = .ok (.iaload, 1) := by decide +kernel
theorem dL_law_94 : decode cL_law 94 = .ok (.aload_n 0, 1) := by decide +kernel
theorem dL_law_95 : decode cL_law 95 = .ok (.iload_n 3, 1) := by decide +kernel
theorem dL_law_96 : decode cL_law 96 = .ok (.iconst 2, 1) := by decide +kernel
theorem dL_law_97 : decode cL_law 97 = .ok (.iadd, 1) := by decide +kernel
theorem dL_law_98 : decode cL_law 98 = .ok (.iaload, 1) := by decide +kernel
theorem dL_law_99 : decode cL_law 99 = .ok (.invokevirtual 13, 3) := by decide +kernel
theorem dL_law_102 : decode cL_law 102 = .ok (.aload_n 2, 1) := by decide +kernel
theorem dL_law_103 : decode cL_law 103 = .ok (.aload_n 0, 1) := by decide +kernel
theorem dL_law_104 : decode cL_law 104 = .ok (.iload_n 3, 1) := by decide +kernel
theorem dL_law_105 : decode cL_law 105 = .ok (.iconst 1, 1) := by decide +kernel
theorem dL_law_106 : decode cL_law 106 = .ok (.iadd, 1) := by decide +kernel
theorem dL_law_107 : decode cL_law 107 = .ok (.iaload, 1) := by decide +kernel
theorem dL_law_108 : decode cL_law 108 = .ok (.aload_n 0, 1) := by decide +kernel
theorem dL_law_109 : decode cL_law 109 = .ok (.iload_n 3, 1) := by decide +kernel
theorem dL_law_110 : decode cL_law 110 = .ok (.iconst 2, 1) := by decide +kernel
theorem dL_law_111 : decode cL_law 111 = .ok (.iadd, 1) := by decide +kernel
theorem dL_law_112 : decode cL_law 112 = .ok (.iaload, 1) := by decide +kernel
theorem dL_law_113 : decode cL_law 113 = .ok (.invokevirtual 17, 3) := by decide +kernel
theorem dL_law_116 : decode cL_law 116 = .ok (.if_icmp .eq 272, 3) := by decide +kernel
theorem dL_law_119 : decode cL_law 119 = .ok (.iconst 0, 1) := by decide +kernel
theorem dL_law_120 : decode cL_law 120 = .ok (.ireturn, 1) := by decide +kernel
theorem dL_law_121 : decode cL_law 121 = .ok (.aload_n 1, 1) := by decide +kernel
theorem dL_law_122 : decode cL_law 122 = .ok (.aload_n 0, 1) := by decide +kernel
theorem dL_law_123 : decode cL_law 123 = .ok (.iload_n 3, 1) := by decide +kernel
theorem dL_law_124 : decode cL_law 124 = .ok (.iconst 1, 1) := by decide +kernel
theorem dL_law_125 : decode cL_law 125 = .ok (.iadd, 1) := by decide +kernel
theorem dL_law_126 : decode cL_law 126 = .ok (.iaload, 1) := by decide +kernel
theorem dL_law_127 : decode cL_law 127 = .ok (.aload_n 0, 1) := by decide +kernel
theorem dL_law_128 : decode cL_law 128 = .ok (.iload_n 3, 1) := by decide +kernel
theorem dL_law_129 : decode cL_law 129 = .ok (.iconst 2, 1) := by decide +kernel
theorem dL_law_130 : decode cL_law 130 = .ok (.iadd, 1) := by decide +kernel
theorem dL_law_131 : decode cL_law 131 = .ok (.iaload, 1) := by decide +kernel
theorem dL_law_132 : decode cL_law 132 = .ok (.aload_n 0, 1) := by decide +kernel
theorem dL_law_133 : decode cL_law 133 = .ok (.iload_n 3, 1) := by decide +kernel
theorem dL_law_134 : decode cL_law 134 = .ok (.iconst 3, 1) := by decide +kernel
theorem dL_law_135 : decode cL_law 135 = .ok (.iadd, 1) := by decide +kernel
theorem dL_law_136 : decode cL_law 136 = .ok (.iaload, 1) := by decide +kernel
theorem dL_law_137 : decode cL_law 137 = .ok (.invokevirtual 18, 3) := by decide +kernel
theorem dL_law_140 : decode cL_law 140 = .ok (.aload_n 2, 1) := by decide +kernel
theorem dL_law_141 : decode cL_law 141 = .ok (.aload_n 0, 1) := by decide +kernel
theorem dL_law_142 : decode cL_law 142 = .ok (.iload_n 3, 1) := by decide +kernel
theorem dL_law_143 : decode cL_law 143 = .ok (.iconst 1, 1) := by decide +kernel
theorem dL_law_144 : decode cL_law 144 = .ok (.iadd, 1) := by decide +kernel
theorem dL_law_145 : decode cL_law 145 = .ok (.iaload, 1) := by decide +kernel
theorem dL_law_146 : decode cL_law 146 = .ok (.aload_n 0, 1) := by decide +kernel
theorem dL_law_147 : decode cL_law 147 = .ok (.iload_n 3, 1) := by decide +kernel
theorem dL_law_148 : decode cL_law 148 = .ok (.iconst 2, 1) := by decide +kernel
theorem dL_law_149 : decode cL_law 149 = .ok (.iadd, 1) := by decide +kernel
theorem dL_law_150 : decode cL_law 150 = .ok (.iaload, 1) := by decide +kernel
theorem dL_law_151 : decode cL_law 151 = .ok (.aload_n 0, 1) := by decide +kernel
theorem dL_law_152 : decode cL_law 152 = .ok (.iload_n 3, 1) := by decide +kernel
theorem dL_law_153 : decode cL_law 153 = .ok (.iconst 3, 1) := by decide +kernel
theorem dL_law_154 : decode cL_law 154 = .ok (.iadd, 1) := by decide +kernel
theorem dL_law_155 : decode cL_law 155 = .ok (.iaload, 1) := by decide +kernel
theorem dL_law_156 : decode cL_law 156 = .ok (.invokevirtual 22, 3) := by decide +kernel
theorem dL_law_159 : decode cL_law 159 = .ok (.if_icmp .eq 229, 3) := by decide +kernel
theorem dL_law_162 : decode cL_law 162 = .ok (.iconst 0, 1) := by decide +kernel
theorem dL_law_163 : decode cL_law 163 = .ok (.ireturn, 1) := by decide +kernel
theorem dL_law_164 : decode cL_law 164 = .ok (.aload_n 1, 1) := by decide +kernel
theorem dL_law_165 : decode cL_law 165 = .ok (.aload_n 0, 1) := by decide +kernel
theorem dL_law_166 : decode cL_law 166 = .ok (.iload_n 3, 1) := by decide +kernel
theorem dL_law_167 : decode cL_law 167 = .ok (.iconst 1, 1) := by decide +kernel
theorem dL_law_168 : decode cL_law 168 = .ok (.iadd, 1) := by decide +kernel
theorem dL_law_169 : decode cL_law 169 = .ok (.iaload, 1) := by decide +kernel
theorem dL_law_170 : decode cL_law 170 = .ok (.aload_n 0, 1) := by decide +kernel
theorem dL_law_171 : decode cL_law 171 = .ok (.iload_n 3, 1) := by decide +kernel
theorem dL_law_172 : decode cL_law 172 = .ok (.iconst 2, 1) := by decide +kernel
theorem dL_law_173 : decode cL_law 173 = .ok (.iadd, 1) := by decide +kernel
theorem dL_law_174 : decode cL_law 174 = .ok (.iaload, 1) := by decide +kernel
theorem dL_law_175 : decode cL_law 175 = .ok (.invokevirtual 23, 3) := by decide +kernel
theorem dL_law_178 : decode cL_law 178 = .ok (.aload_n 2, 1) := by decide +kernel
theorem dL_law_179 : decode cL_law 179 = .ok (.aload_n 0, 1) := by decide +kernel
theorem dL_law_180 : decode cL_law 180 = .ok (.iload_n 3, 1) := by decide +kernel
theorem dL_law_181 : decode cL_law 181 = .ok (.iconst 1, 1) := by decide +kernel
theorem dL_law_182 : decode cL_law 182 = .ok (.iadd, 1) := by decide +kernel
theorem dL_law_183 : decode cL_law 183 = .ok (.iaload, 1) := by decide +kernel
theorem dL_law_184 : decode cL_law 184 = .ok (.aload_n 0, 1) := by decide +kernel
theorem dL_law_185 : decode cL_law 185 = .ok (.iload_n 3, 1) := by decide +kernel
theorem dL_law_186 : decode cL_law 186 = .ok (.iconst 2, 1) := by decide +kernel
theorem dL_law_187 : decode cL_law 187 = .ok (.iadd, 1) := by decide +kernel
theorem dL_law_188 : decode cL_law 188 = .ok (.iaload, 1) := by decide +kernel
theorem dL_law_189 : decode cL_law 189 = .ok (.invokevirtual 26, 3) := by decide +kernel
theorem dL_law_192 : decode cL_law 192 = .ok (.if_icmp .eq 196, 3) := by decide +kernel
theorem dL_law_195 : decode cL_law 195 = .ok (.iconst 0, 1) := by decide +kernel
theorem dL_law_196 : decode cL_law 196 = .ok (.ireturn, 1) := by decide +kernel
theorem dL_law_197 : decode cL_law 197 = .ok (.aload_n 1, 1) := by decide +kernel
theorem dL_law_198 : decode cL_law 198 = .ok (.invokevirtual 27, 3) := by decide +kernel
theorem dL_law_201 : decode cL_law 201 = .ok (.aload_n 2, 1) := by decide +kernel
theorem dL_law_202 : decode cL_law 202 = .ok (.invokevirtual 31, 3) := by decide +kernel
theorem dL_law_205 : decode cL_law 205 = .ok (.if_icmp .eq 183, 3) := by decide +kernel
theorem dL_law_208 : decode cL_law 208 = .ok (.iconst 0, 1) := by decide +kernel
theorem dL_law_209 : decode cL_law 209 = .ok (.ireturn, 1) := by decide +kernel
theorem dL_law_210 : decode cL_law 210 = .ok (.aload_n 1, 1) := by decide +kernel
theorem dL_law_211 : decode cL_law 211 = .ok (.aload_n 0, 1) := by decide +kernel
theorem dL_law_212 : decode cL_law 212 = .ok (.iload_n 3, 1) := by decide +kernel
theorem dL_law_213 : decode cL_law 213 = .ok (.iconst 1, 1) := by decide +kernel
theorem dL_law_214 : decode cL_law 214 = .ok (.iadd, 1) := by decide +kernel
theorem dL_law_215 : decode cL_law 215 = .ok (.iaload, 1) := by decide +kernel
theorem dL_law_216 : decode cL_law 216 = .ok (.aload_n 0, 1) := by decide +kernel
theorem dL_law_217 : decode cL_law 217 = .ok (.iload_n 3, 1) := by decide +kernel
theorem dL_law_218 : decode cL_law 218 = .ok (.iconst 2, 1) := by decide +kernel
theorem dL_law_219 : decode cL_law 219 = .ok (.iadd, 1) := by decide +kernel
theorem dL_law_220 : decode cL_law 220 = .ok (.iaload, 1) := by decide +kernel
theorem dL_law_221 : decode cL_law 221 = .ok (.invokevirtual 32, 3) := by decide +kernel
theorem dL_law_224 : decode cL_law 224 = .ok (.aload_n 2, 1) := by decide +kernel
theorem dL_law_225 : decode cL_law 225 = .ok (.aload_n 0, 1) := by decide +kernel
theorem dL_law_226 : decode cL_law 226 = .ok (.iload_n 3, 1) := by decide +kernel
theorem dL_law_227 : decode cL_law 227 = .ok (.iconst 1, 1) := by decide +kernel
theorem dL_law_228 : decode cL_law 228 = .ok (.iadd, 1) := by decide +kernel
theorem dL_law_229 : decode cL_law 229 = .ok (.iaload, 1) := by decide +kernel
theorem dL_law_230 : decode cL_law 230 = .ok (.aload_n 0, 1) := by decide +kernel
theorem dL_law_231 : decode cL_law 231 = .ok (.iload_n 3, 1) := by decide +kernel
theorem dL_law_232 : decode cL_law 232 = .ok (.iconst 2, 1) := by decide +kernel
theorem dL_law_233 : decode cL_law 233 = .ok (.iadd, 1) := by decide +kernel
theorem dL_law_234 : decode cL_law 234 = .ok (.iaload, 1) := by decide +kernel
theorem dL_law_235 : decode cL_law 235 = .ok (.invokevirtual 35, 3) := by decide +kernel
theorem dL_law_238 : decode cL_law 238 = .ok (.if_icmp .eq 150, 3) := by decide +kernel
theorem dL_law_241 : decode cL_law 241 = .ok (.iconst 0, 1) := by decide +kernel
theorem dL_law_242 : decode cL_law 242 = .ok (.ireturn, 1) := by decide +kernel
theorem dL_law_243 : decode cL_law 243 = .ok (.aload_n 1, 1) := by decide +kernel
theorem dL_law_244 : decode cL_law 244 = .ok (.aload_n 0, 1) := by decide +kernel
theorem dL_law_245 : decode cL_law 245 = .ok (.iload_n 3, 1) := by decide +kernel
theorem dL_law_246 : decode cL_law 246 = .ok (.iconst 1, 1) := by decide +kernel
theorem dL_law_247 : decode cL_law 247 = .ok (.iadd, 1) := by decide +kernel
theorem dL_law_248 : decode cL_law 248 = .ok (.iaload, 1) := by decide +kernel
theorem dL_law_249 : decode cL_law 249 = .ok (.aload_n 0, 1) := by decide +kernel
theorem dL_law_250 : decode cL_law 250 = .ok (.iload_n 3, 1) := by decide +kernel
theorem dL_law_251 : decode cL_law 251 = .ok (.iconst 2, 1) := by decide +kernel
theorem dL_law_252 : decode cL_law 252 = .ok (.iadd, 1) := by decide +kernel
theorem dL_law_253 : decode cL_law 253 = .ok (.iaload, 1) := by decide +kernel
theorem dL_law_254 : decode cL_law 254 = .ok (.invokevirtual 36, 3) := by decide +kernel
theorem dL_law_257 : decode cL_law 257 = .ok (.aload_n 2, 1) := by decide +kernel
theorem dL_law_258 : decode cL_law 258 = .ok (.aload_n 0, 1) := by decide +kernel
theorem dL_law_259 : decode cL_law 259 = .ok (.iload_n 3, 1) := by decide +kernel
theorem dL_law_260 : decode cL_law 260 = .ok (.iconst 1, 1) := by decide +kernel
theorem dL_law_261 : decode cL_law 261 = .ok (.iadd, 1) := by decide +kernel
theorem dL_law_262 : decode cL_law 262 = .ok (.iaload, 1) := by decide +kernel
theorem dL_law_263 : decode cL_law 263 = .ok (.aload_n 0, 1) := by decide +kernel
theorem dL_law_264 : decode cL_law 264 = .ok (.iload_n 3, 1) := by decide +kernel
theorem dL_law_265 : decode cL_law 265 = .ok (.iconst 2, 1) := by decide +kernel
theorem dL_law_266 : decode cL_law 266 = .ok (.iadd, 1) := by decide +kernel
theorem dL_law_267 : decode cL_law 267 = .ok (.iaload, 1) := by decide +kernel
theorem dL_law_268 : decode cL_law 268 = .ok (.invokevirtual 39, 3) := by decide +kernel
theorem dL_law_271 : decode cL_law 271 = .ok (.if_icmp .eq 117, 3) := by decide +kernel
theorem dL_law_274 : decode cL_law 274 = .ok (.iconst 0, 1) := by decide +kernel
theorem dL_law_275 : decode cL_law 275 = .ok (.ireturn, 1) := by decide +kernel
theorem dL_law_276 : decode cL_law 276 = .ok (.aload_n 1, 1) := by decide +kernel
theorem dL_law_277 : decode cL_law 277 = .ok (.aload_n 0, 1) := by decide +kernel
theorem dL_law_278 : decode cL_law 278 = .ok (.iload_n 3, 1) := by decide +kernel
theorem dL_law_279 : decode cL_law 279 = .ok (.iconst 1, 1) := by decide +kernel
theorem dL_law_280 : decode cL_law 280 = .ok (.iadd, 1) := by decide +kernel
theorem dL_law_281 : decode cL_law 281 = .ok (.iaload, 1) := by decide +kernel
theorem dL_law_282 : decode cL_law 282 = .ok (.invokevirtual 40, 3) := by decide +kernel
theorem dL_law_285 : decode cL_law 285 = .ok (.aload_n 2, 1) := by decide +kernel
theorem dL_law_286 : decode cL_law 286 = .ok (.aload_n 0, 1) := by decide +kernel
theorem dL_law_287 : decode cL_law 287 = .ok (.iload_n 3, 1) := by decide +kernel
theorem dL_law_288 : decode cL_law 288 = .ok (.iconst 1, 1) := by decide +kernel
theorem dL_law_289 : decode cL_law 289 = .ok (.iadd, 1) := by decide +kernel
theorem dL_law_290 : decode cL_law 290 = .ok (.iaload, 1) := by decide +kernel
theorem dL_law_291 : decode cL_law 291 = .ok (.invokevirtual 44, 3) := by decide +kernel
theorem dL_law_294 : decode cL_law 294 = .ok (.if_icmp .eq 94, 3) := by decide +kernel
theorem dL_law_297 : decode cL_law 297 = .ok (.iconst 0, 1) := by decide +kernel
theorem dL_law_298 : decode cL_law 298 = .ok (.ireturn, 1) := by decide +kernel
theorem dL_law_299 : decode cL_law 299 = .ok (.aload_n 1, 1) := by decide +kernel
theorem dL_law_300 : decode cL_law 300 = .ok (.aload_n 0, 1) := by decide +kernel
theorem dL_law_301 : decode cL_law 301 = .ok (.iload_n 3, 1) := by decide +kernel
theorem dL_law_302 : decode cL_law 302 = .ok (.iconst 1, 1) := by decide +kernel
theorem dL_law_303 : decode cL_law 303 = .ok (.iadd, 1) := by decide +kernel
theorem dL_law_304 : decode cL_law 304 = .ok (.iaload, 1) := by decide +kernel
theorem dL_law_305 : decode cL_law 305 = .ok (.invokevirtual 45, 3) := by decide +kernel
theorem dL_law_308 : decode cL_law 308 = .ok (.aload_n 2, 1) := by decide +kernel
theorem dL_law_309 : decode cL_law 309 = .ok (.aload_n 0, 1) := by decide +kernel
theorem dL_law_310 : decode cL_law 310 = .ok (.iload_n 3, 1) := by decide +kernel
theorem dL_law_311 : decode cL_law 311 = .ok (.iconst 1, 1) := by decide +kernel
theorem dL_law_312 : decode cL_law 312 = .ok (.iadd, 1) := by decide +kernel
theorem dL_law_313 : decode cL_law 313 = .ok (.iaload, 1) := by decide +kernel
theorem dL_law_314 : decode cL_law 314 = .ok (.invokevirtual 48, 3) := by decide +kernel
theorem dL_law_317 : decode cL_law 317 = .ok (.if_icmp .eq 71, 3) := by decide +kernel
theorem dL_law_320 : decode cL_law 320 = .ok (.iconst 0, 1) := by decide +kernel
theorem dL_law_321 : decode cL_law 321 = .ok (.ireturn, 1) := by decide +kernel
theorem dL_law_322 : decode cL_law 322 = .ok (.aload_n 1, 1) := by decide +kernel
theorem dL_law_323 : decode cL_law 323 = .ok (.aload_n 0, 1) := by decide +kernel
theorem dL_law_324 : decode cL_law 324 = .ok (.iload_n 3, 1) := by decide +kernel
theorem dL_law_325 : decode cL_law 325 = .ok (.iconst 1, 1) := by decide +kernel
theorem dL_law_326 : decode cL_law 326 = .ok (.iadd, 1) := by decide +kernel
theorem dL_law_327 : decode cL_law 327 = .ok (.iaload, 1) := by decide +kernel
theorem dL_law_328 : decode cL_law 328 = .ok (.aload_n 0, 1) := by decide +kernel
theorem dL_law_329 : decode cL_law 329 = .ok (.iload_n 3, 1) := by decide +kernel
theorem dL_law_330 : decode cL_law 330 = .ok (.iconst 2, 1) := by decide +kernel
theorem dL_law_331 : decode cL_law 331 = .ok (.iadd, 1) := by decide +kernel
theorem dL_law_332 : decode cL_law 332 = .ok (.iaload, 1) := by decide +kernel
theorem dL_law_333 : decode cL_law 333 = .ok (.invokevirtual 49, 3) := by decide +kernel
theorem dL_law_336 : decode cL_law 336 = .ok (.aload_n 2, 1) := by decide +kernel
theorem dL_law_337 : decode cL_law 337 = .ok (.aload_n 0, 1) := by decide +kernel
theorem dL_law_338 : decode cL_law 338 = .ok (.iload_n 3, 1) := by decide +kernel
theorem dL_law_339 : decode cL_law 339 = .ok (.iconst 1, 1) := by decide +kernel
theorem dL_law_340 : decode cL_law 340 = .ok (.iadd, 1) := by decide +kernel
theorem dL_law_341 : decode cL_law 341 = .ok (.iaload, 1) := by decide +kernel
theorem dL_law_342 : decode cL_law 342 = .ok (.aload_n 0, 1) := by decide +kernel
theorem dL_law_343 : decode cL_law 343 = .ok (.iload_n 3, 1) := by decide +kernel
theorem dL_law_344 : decode cL_law 344 = .ok (.iconst 2, 1) := by decide +kernel
theorem dL_law_345 : decode cL_law 345 = .ok (.iadd, 1) := by decide +kernel
theorem dL_law_346 : decode cL_law 346 = .ok (.iaload, 1) := by decide +kernel
theorem dL_law_347 : decode cL_law 347 = .ok (.invokevirtual 52, 3) := by decide +kernel
theorem dL_law_350 : decode cL_law 350 = .ok (.if_icmp .eq 38, 3) := by decide +kernel
theorem dL_law_353 : decode cL_law 353 = .ok (.iconst 0, 1) := by decide +kernel
theorem dL_law_354 : decode cL_law 354 = .ok (.ireturn, 1) := by decide +kernel
theorem dL_law_355 : decode cL_law 355 = .ok (.aload_n 1, 1) := by decide +kernel
theorem dL_law_356 : decode cL_law 356 = .ok (.aload_n 0, 1) := by decide +kernel
theorem dL_law_357 : decode cL_law 357 = .ok (.iload_n 3, 1) := by decide +kernel
theorem dL_law_358 : decode cL_law 358 = .ok (.iconst 1, 1) := by decide +kernel
theorem dL_law_359 : decode cL_law 359 = .ok (.iadd, 1) := by decide +kernel
theorem dL_law_360 : decode cL_law 360 = .ok (.iaload, 1) := by decide +kernel
theorem dL_law_361 : decode cL_law 361 = .ok (.aload_n 0, 1) := by decide +kernel
theorem dL_law_362 : decode cL_law 362 = .ok (.iload_n 3, 1) := by decide +kernel
theorem dL_law_363 : decode cL_law 363 = .ok (.iconst 2, 1) := by decide +kernel
theorem dL_law_364 : decode cL_law 364 = .ok (.iadd, 1) := by decide +kernel
theorem dL_law_365 : decode cL_law 365 = .ok (.iaload, 1) := by decide +kernel
theorem dL_law_366 : decode cL_law 366 = .ok (.invokevirtual 53, 3) := by decide +kernel
theorem dL_law_369 : decode cL_law 369 = .ok (.aload_n 2, 1) := by decide +kernel
theorem dL_law_370 : decode cL_law 370 = .ok (.aload_n 0, 1) := by decide +kernel
theorem dL_law_371 : decode cL_law 371 = .ok (.iload_n 3, 1) := by decide +kernel
theorem dL_law_372 : decode cL_law 372 = .ok (.iconst 1, 1) := by decide +kernel
theorem dL_law_373 : decode cL_law 373 = .ok (.iadd, 1) := by decide +kernel
theorem dL_law_374 : decode cL_law 374 = .ok (.iaload, 1) := by decide +kernel
theorem dL_law_375 : decode cL_law 375 = .ok (.aload_n 0, 1) := by decide +kernel
theorem dL_law_376 : decode cL_law 376 = .ok (.iload_n 3, 1) := by decide +kernel
theorem dL_law_377 : decode cL_law 377 = .ok (.iconst 2, 1) := by decide +kernel
theorem dL_law_378 : decode cL_law 378 = .ok (.iadd, 1) := by decide +kernel
theorem dL_law_379 : decode cL_law 379 = .ok (.iaload, 1) := by decide +kernel
theorem dL_law_380 : decode cL_law 380 = .ok (.invokevirtual 56, 3) := by decide +kernel
theorem dL_law_383 : decode cL_law 383 = .ok (.if_icmp .eq 5, 3) := by decide +kernel
theorem dL_law_386 : decode cL_law 386 = .ok (.iconst 0, 1) := by decide +kernel
theorem dL_law_387 : decode cL_law 387 = .ok (.ireturn, 1) := by decide +kernel
theorem dL_law_388 : decode cL_law 388 = .ok (.iinc 3 4, 3) := by decide +kernel
theorem dL_law_391 : decode cL_law 391 = .ok (.goto (-373), 3) := by decide +kernel
theorem dL_law_394 : decode cL_law 394 = .ok (.iconst 1, 1) := by decide +kernel
theorem dL_law_395 : decode cL_law 395 = .ok (.ireturn, 1) := by decide +kernel
theorem q16 : (Jvm.Cond.initialized "UtilityRebillerLaw") ∈ lw_all := lw_g (lw_at lw_m1 0 rfl) rfl
theorem q19 : (Jvm.Cond.classLink "UtilityRebillerLaw" (7 : Nat) "UtilityRebiller") ∈ lw_all := lw_g (lw_at lw_m1 3 rfl) rfl
theorem q21 : (Jvm.Cond.methodLink "UtilityRebillerLaw" (9 : Nat) ({ cls := "UtilityRebiller", name := "<init>", desc := "()V" } : Jvm.MethodName)) ∈ lw_all := lw_g (lw_at lw_m1 5 rfl) rfl
theorem q81 : (Jvm.Cond.methodLink "UtilityRebillerLaw" (13 : Nat) ({ cls := "UtilityRebiller", name := "tariff", desc := "(II)I" } : Jvm.MethodName)) ∈ lw_all := lw_g (lw_at lw_m1 65 rfl) rfl
theorem q85 : (Jvm.Cond.methodLink "UtilityRebillerLaw" (18 : Nat) ({ cls := "UtilityRebiller", name := "read", desc := "(III)I" } : Jvm.MethodName)) ∈ lw_all := lw_g (lw_at lw_m1 69 rfl) rfl
theorem q131 : (Jvm.Cond.methodLink "UtilityRebillerLaw" (23 : Nat) ({ cls := "UtilityRebiller", name := "unread", desc := "(II)I" } : Jvm.MethodName)) ∈ lw_all := lw_g (lw_at lw_m1 115 rfl) rfl
theorem q135 : (Jvm.Cond.methodLink "UtilityRebillerLaw" (27 : Nat) ({ cls := "UtilityRebiller", name := "close", desc := "()I" } : Jvm.MethodName)) ∈ lw_all := lw_g (lw_at lw_m1 119 rfl) rfl
theorem q139 : (Jvm.Cond.methodLink "UtilityRebillerLaw" (32 : Nat) ({ cls := "UtilityRebiller", name := "usage", desc := "(II)I" } : Jvm.MethodName)) ∈ lw_all := lw_g (lw_at lw_m1 123 rfl) rfl
theorem q143 : (Jvm.Cond.methodLink "UtilityRebillerLaw" (36 : Nat) ({ cls := "UtilityRebiller", name := "amount", desc := "(II)I" } : Jvm.MethodName)) ∈ lw_all := lw_g (lw_at lw_m1 127 rfl) rfl
theorem q147 : (Jvm.Cond.methodLink "UtilityRebillerLaw" (40 : Nat) ({ cls := "UtilityRebiller", name := "balance", desc := "(I)I" } : Jvm.MethodName)) ∈ lw_all := lw_g (lw_at lw_m1 131 rfl) rfl
theorem q151 : (Jvm.Cond.methodLink "UtilityRebillerLaw" (45 : Nat) ({ cls := "UtilityRebiller", name := "lines", desc := "(I)I" } : Jvm.MethodName)) ∈ lw_all := lw_g (lw_at lw_m1 135 rfl) rfl
theorem q155 : (Jvm.Cond.methodLink "UtilityRebillerLaw" (49 : Nat) ({ cls := "UtilityRebiller", name := "lineAmount", desc := "(II)I" } : Jvm.MethodName)) ∈ lw_all := lw_g (lw_at lw_m1 139 rfl) rfl
theorem q163 : (Jvm.Cond.methodLink "UtilityRebillerLaw" (53 : Nat) ({ cls := "UtilityRebiller", name := "linePeriod", desc := "(II)I" } : Jvm.MethodName)) ∈ lw_all := lw_g (lw_at lw_m1 147 rfl) rfl
theorem q167 : (Jvm.Cond.classLink "UtilityRebillerLaw" (10 : Nat) "UtilityRebillerModel") ∈ lw_all := lw_g (lw_at lw_m1 151 rfl) rfl
theorem q169 : (Jvm.Cond.methodLink "UtilityRebillerLaw" (12 : Nat) ({ cls := "UtilityRebillerModel", name := "<init>", desc := "()V" } : Jvm.MethodName)) ∈ lw_all := lw_g (lw_at lw_m1 153 rfl) rfl
theorem q201 : (Jvm.Cond.methodLink "UtilityRebillerLaw" (17 : Nat) ({ cls := "UtilityRebillerModel", name := "tariff", desc := "(II)I" } : Jvm.MethodName)) ∈ lw_all := lw_g (lw_at lw_m1 185 rfl) rfl
theorem q205 : (Jvm.Cond.methodLink "UtilityRebillerLaw" (22 : Nat) ({ cls := "UtilityRebillerModel", name := "read", desc := "(III)I" } : Jvm.MethodName)) ∈ lw_all := lw_g (lw_at lw_m1 189 rfl) rfl
theorem q237 : (Jvm.Cond.methodLink "UtilityRebillerLaw" (26 : Nat) ({ cls := "UtilityRebillerModel", name := "unread", desc := "(II)I" } : Jvm.MethodName)) ∈ lw_all := lw_g (lw_at lw_m1 221 rfl) rfl
theorem q241 : (Jvm.Cond.methodLink "UtilityRebillerLaw" (31 : Nat) ({ cls := "UtilityRebillerModel", name := "close", desc := "()I" } : Jvm.MethodName)) ∈ lw_all := lw_g (lw_at lw_m1 225 rfl) rfl
theorem q245 : (Jvm.Cond.methodLink "UtilityRebillerLaw" (35 : Nat) ({ cls := "UtilityRebillerModel", name := "usage", desc := "(II)I" } : Jvm.MethodName)) ∈ lw_all := lw_g (lw_at lw_m1 229 rfl) rfl
theorem q246 : (Jvm.Cond.methodLink "UtilityRebillerLaw" (39 : Nat) ({ cls := "UtilityRebillerModel", name := "amount", desc := "(II)I" } : Jvm.MethodName)) ∈ lw_all := lw_g (lw_at lw_m1 230 rfl) rfl
theorem q247 : (Jvm.Cond.methodLink "UtilityRebillerLaw" (44 : Nat) ({ cls := "UtilityRebillerModel", name := "balance", desc := "(I)I" } : Jvm.MethodName)) ∈ lw_all := lw_g (lw_at lw_m1 231 rfl) rfl
theorem q251 : (Jvm.Cond.methodLink "UtilityRebillerLaw" (48 : Nat) ({ cls := "UtilityRebillerModel", name := "lines", desc := "(I)I" } : Jvm.MethodName)) ∈ lw_all := lw_g (lw_at lw_m1 235 rfl) rfl
theorem q255 : (Jvm.Cond.methodLink "UtilityRebillerLaw" (52 : Nat) ({ cls := "UtilityRebillerModel", name := "lineAmount", desc := "(II)I" } : Jvm.MethodName)) ∈ lw_all := lw_g (lw_at lw_m1 239 rfl) rfl
theorem q263 : (Jvm.Cond.methodLink "UtilityRebillerLaw" (56 : Nat) ({ cls := "UtilityRebillerModel", name := "linePeriod", desc := "(II)I" } : Jvm.MethodName)) ∈ lw_all := lw_g (lw_at lw_m2 7 rfl) rfl
theorem q79 : (Jvm.Cond.arrayClass Jvm.ClassFile.FieldType.int) ∈ lw_all := lw_g (lw_at lw_m1 63 rfl) rfl
theorem q80 : (Jvm.Cond.arrayClass Jvm.ClassFile.FieldType.boolean) ∈ lw_all := lw_g (lw_at lw_m1 64 rfl) rfl
end
section
set_option maxRecDepth 100000
/-! the worlds of the two classes, contracts, and a row a field -/
abbrev vwCl : List vw_C := [(RX0, TX0, 17), (RX1, TX1, 9)]
/-- a state: field number, place, value -/
abbrev g_S : Type := Nat → Nat → Int32
def up2 (S : g_S) (k i : Nat) (v : Int32) : g_S := fun j => if j = k then upd (S k) i v else S j
theorem up2_s (S : g_S) (k i : Nat) (v : Int32) : up2 S k i v k = upd (S k) i v := by simp [up2]
theorem up2_o (S : g_S) {k j : Nat} (i : Nat) (v : Int32) (h : j ≠ k) : up2 S k i v j = S j := by simp [up2, h]
abbrev g_R (fr lo : Nat) : Room := { frames := fr, cells := 0, slots := 0, locals := lo }
abbrev g_T (d z : ClassId) : List (ClassId × FieldType) := [(d, .int), (z, .boolean)]
def x_w (h : Nat) (a : Nat → Nat) (d z : ClassId) (S : g_S) : va_W := [(h, .inr (0, [.ref (a 0), .ref (a 1), .int (S 2 0), .ref (a 3), .ref (a 4), .ref (a 5), .ref (a 6), .ref (a 7), .ref (a 8), .ref (a 9), .ref (a 10), .ref (a 11), .ref (a 12), .ref (a 13), .ref (a 14), .ref (a 15), .ref (a 16)])), (a 0, .inl (d, 6, .inl (S 0))), (a 1, .inl (d, 36, .inl (S 1))), (a 3, .inl (z, 96, .inl (S 3))), (a 4, .inl (d, 96, .inl (S 4))), (a 5, .inl (d, 96, .inl (S 5))), (a 6, .inl (d, 12, .inl (S 6))), (a 7, .inl (d, 12, .inl (S 7))), (a 8, .inl (d, 12, .inl (S 8))), (a 9, .inl (d, 12, .inl (S 9))), (a 10, .inl (d, 12, .inl (S 10))), (a 11, .inl (d, 12, .inl (S 11))), (a 12, .inl (d, 12, .inl (S 12))), (a 13, .inl (d, 2, .inl (S 13))), (a 14, .inl (d, 2, .inl (S 14))), (a 15, .inl (d, 16, .inl (S 15))), (a 16, .inl (d, 16, .inl (S 16)))]
def m_w (h : Nat) (a : Nat → Nat) (d z : ClassId) (S : g_S) : va_W := [(h, .inr (1, [.ref (a 0), .ref (a 1), .ref (a 2), .int (S 3 0), .ref (a 4), .ref (a 5), .ref (a 6), .ref (a 7), .ref (a 8)])), (a 0, .inl (d, 96, .inl (S 0))), (a 1, .inl (d, 6, .inl (S 1))), (a 2, .inl (d, 36, .inl (S 2))), (a 4, .inl (d, 12, .inl (S 4))), (a 5, .inl (d, 2, .inl (S 5))), (a 6, .inl (d, 2, .inl (S 6))), (a 7, .inl (d, 16, .inl (S 7))), (a 8, .inl (d, 16, .inl (S 8)))]
/-- what is fixed all through a method -/
def g_K (p : Program) (s : State) (m : MethodId) (args : Array Value) (meth : Method) (c : Code) (D : va_G) (d z : ClassId) (A : Nat → Prop) (own : String) (cc : ByteArray) (nL : Nat) (ret : Option FieldType) : Prop :=
  p.tables.exec = Jvm.exec ∧ c.code = cc ∧ meth.sig.returnType = ret ∧ meth.locks = false ∧ c.maxLocals = nL ∧ s.vm.findClass own = some m.cls ∧ (∀ w ∈ lw_all, w.before args s = true) ∧ va_K D vwCl (g_T d z) s ∧ ∀ q : Nat, s.heap.size ≤ q → A q
/-- the world now: the cells hold S -/
def g_B (D : va_G) (A : Nat → Prop) (w : g_S → va_W) (s : State) (H : Heap) (locs : List Loc) (S : g_S) : Prop := va_P D vwCl (w S) H ∧ va_D A (w S) ∧ va_S A s.heap H locs
def g_Pre (D : va_G) (d z : ClassId) (w : g_S → va_W) (sz : Nat) (av : List Value) (S : g_S) : Array Value → State → Prop := va_Pc av (fun U => U.heap.size = sz ∧ va_P D vwCl (w S) U.heap ∧ va_K D vwCl (g_T d z) U ∧ va_D (fun _ => True) (w S))
def g_E (D : va_G) (d z : ClassId) (w : g_S → va_W) (A : Nat → Prop) (S' : g_S) (t : State) : Prop := va_P D vwCl (w S') t.heap ∧ va_K D vwCl (g_T d z) t ∧ va_D A (w S')
abbrev g_Qv (D : va_G) (d z : ClassId) (w : g_S → va_W) (A : Nat → Prop) (S' : g_S) : Array Value → State → Outcome → State → Prop := va_Qv (fun u : g_S => u = S') (g_E D d z w A) A
abbrev g_Qi (D : va_G) (d z : ClassId) (w : g_S → va_W) (A : Nat → Prop) (r : Int32) (S' : g_S) : Array Value → State → Outcome → State → Prop := va_Qi (fun (r' : Int32) (u : g_S) => r' = r ∧ u = S') (g_E D d z w A) A
/-- a contract: y, called with av where the world holds S, ends with the world at S' (answers r) -/
def g_mv (l : Launch) (D : va_G) (d z : ClassId) (w : g_S → va_W) (y : MethodName) (cc : ByteArray) (nL fr lo : Nat) (av : List Value) (S S' : g_S) : Prop := ∀ sz : Nat, Met l y (ws_ y cc nL none) (g_R fr lo) (g_Pre D d z w sz av S) (g_Qv D d z w (va_A (w S) sz) S') 0 0 (va_A (w S) sz)
def g_mi (l : Launch) (D : va_G) (d z : ClassId) (w : g_S → va_W) (y : MethodName) (cc : ByteArray) (nL : Nat) (ret : FieldType) (fr lo : Nat) (av : List Value) (S : g_S) (r : Int32) (S' : g_S) : Prop := ∀ sz : Nat, Met l y (ws_ y cc nL (some ret)) (g_R fr lo) (g_Pre D d z w sz av S) (g_Qi D d z w (va_A (w S) sz) r S') 0 0 (va_A (w S) sz)
section GK
variable {l : Launch} {D : va_G} {d z : ClassId} {w : g_S → va_W} {y : MethodName} {cc : ByteArray} {nL fr lo : Nat} {av : List Value} {S S' : g_S} {own : String}
theorem g_entv (hy : plainName y.cls = true) (ho : y.cls = own) (hav : (lg_sl av).length ≤ nL)
    (body : ∀ (p : Program) (e : Env) (s : State) (m : MethodId) (args : Array Value) (below : List Frame) (meth : Method) (c : Code) (A : Nat → Prop) (ls : Array Slot), g_K p s m args meth c D d z A own cc nL none → g_B D A w s s.heap [] S → lv_has ls nL (lv_args 0 av) →
      W p l e (g_R fr lo) s m args below meth c s.heap [] 0 0 (MQ below (g_Qv D d z w A S') args s 0 0 A) (F0 m 0 ls [])) : g_mv l D d z w y cc nL fr lo av S S' := by
  subst ho
  intro sz
  refine Met.ofW (cc := cc) (maxL := nL) (ret := none) hy rfl ?_
  intro p e s m args below meth c s₁ B hml hv
  obtain ⟨rfl, hsz, hP, hK, hD0⟩ := hv
  have hts := atoms_spec (ws := ws_ y cc nL none) B.pre
  have hts : ∀ w ∈ lw_all, w.before _ s = true := fun w h => hts w (List.mem_cons_of_mem _ h)
  subst hsz
  have hl := lv_entry av (n := nL) hav
  rw [lg_entry_eq]
  exact body p e s m _ below meth c _ _ ⟨B.exec, B.bytes, B.returns, B.notSynchronized, hml, findClass_of_methodNamed B.named, hts, hK, fun q h => Or.inr h⟩ ⟨hP, hD0.self, va_S.rf⟩ hl
theorem g_enti {ret : FieldType} {r : Int32} (hy : plainName y.cls = true) (ho : y.cls = own) (hav : (lg_sl av).length ≤ nL)
    (body : ∀ (p : Program) (e : Env) (s : State) (m : MethodId) (args : Array Value) (below : List Frame) (meth : Method) (c : Code) (A : Nat → Prop) (ls : Array Slot), g_K p s m args meth c D d z A own cc nL (some ret) → g_B D A w s s.heap [] S → lv_has ls nL (lv_args 0 av) →
      W p l e (g_R fr lo) s m args below meth c s.heap [] 0 0 (MQ below (g_Qi D d z w A r S') args s 0 0 A) (F0 m 0 ls [])) : g_mi l D d z w y cc nL ret fr lo av S r S' := by
  subst ho
  intro sz
  refine Met.ofW (cc := cc) (maxL := nL) (ret := some ret) hy rfl ?_
  intro p e s m args below meth c s₁ B hml hv
  obtain ⟨rfl, hsz, hP, hK, hD0⟩ := hv
  have hts := atoms_spec (ws := ws_ y cc nL (some ret)) B.pre
  have hts : ∀ w ∈ lw_all, w.before _ s = true := fun w h => hts w (List.mem_cons_of_mem _ h)
  subst hsz
  have hl := lv_entry av (n := nL) hav
  rw [lg_entry_eq]
  exact body p e s m _ below meth c _ _ ⟨B.exec, B.bytes, B.returns, B.notSynchronized, hml, findClass_of_methodNamed B.named, hts, hK, fun q h => Or.inr h⟩ ⟨hP, hD0.self, va_S.rf⟩ hl
end GK
section GW
variable {p : Program} {l : Launch} {e : Env} {R : Room} {s : State} {m : MethodId} {args : Array Value} {below : List Frame} {meth : Method} {c : Code} {H : Heap} {locs : List Loc} {Q : State → Prop}
variable {D : va_G} {d z : ClassId} {A : Nat → Prop} {w : g_S → va_W} {own : String} {cc : ByteArray} {nL : Nat} {ret : Option FieldType} {S S' : g_S} {pc : Nat} {ls : Array Slot} {rest st0 : List Value}
theorem g_vret (K : g_K p s m args meth c D d z A own cc nL none) (B : g_B D A w s H locs S) (eS : S = S') (hdg : decode cc pc = .ok (.return_, 1)) : W p l e R s m args below meth c H locs 0 0 (MQ below (g_Qv D d z w A S') args s 0 0 A) (F0 m pc ls []) :=
  W.vret K.1 K.2.1 K.2.2.1 (fun t ht hW => ⟨⟨S, rfl, eS, by rw [ht]; exact B.1, va_K.moved hW.alike K.2.2.2.2.2.2.2.1, B.2.1⟩, B.2.2.F ht⟩) B.2.2.2.2 hdg K.2.2.2.1
theorem g_iret {v r : Int32} (K : g_K p s m args meth c D d z A own cc nL (some .int)) (B : g_B D A w s H locs S) (er : v = r) (eS : S = S') (hdg : decode cc pc = .ok (.ireturn, 1)) : W p l e R s m args below meth c H locs 0 0 (MQ below (g_Qi D d z w A r S') args s 0 0 A) (F0 m pc ls [.int v]) :=
  W.iret K.1 K.2.1 K.2.2.1 (fun t ht hW => ⟨⟨v, S, rfl, ⟨er, eS⟩, by rw [ht]; exact B.1, va_K.moved hW.alike K.2.2.2.2.2.2.2.1, B.2.1⟩, B.2.2.F ht⟩) B.2.2.2.2 hdg K.2.2.2.1
theorem g_zret {v r : Int32} (K : g_K p s m args meth c D d z A own cc nL (some .boolean)) (B : g_B D A w s H locs S) (hn : narrow .boolean (.int v) = .int v) (er : v = r) (eS : S = S') (hdg : decode cc pc = .ok (.ireturn, 1)) : W p l e R s m args below meth c H locs 0 0 (MQ below (g_Qi D d z w A r S') args s 0 0 A) (F0 m pc ls [.int v]) :=
  W.zret K.1 K.2.1 K.2.2.1 hn (fun t ht hW => ⟨⟨v, S, rfl, ⟨er, eS⟩, by rw [ht]; exact B.1, va_K.moved hW.alike K.2.2.2.2.2.2.2.1, B.2.1⟩, B.2.2.F ht⟩) B.2.2.2.2 hdg K.2.2.2.1
theorem tp {x y : Int32} {cells slots : Nat} (h : x = y) (k : W p l e R s m args below meth c H locs cells slots Q (F0 m pc ls (.int y :: rest))) : W p l e R s m args below meth c H locs cells slots Q (F0 m pc ls (.int x :: rest)) := by
  rw [h]; exact k
theorem g_fr (K : g_K p s m args meth c D d z A own cc nL ret) (B : g_B D A w s H locs S) : ∀ q, va_A (w S) H.size q → A q := by
  intro q h
  rcases h with ⟨k, e, h⟩ | h
  · exact B.2.1.2 k (q, e) h
  · exact K.2.2.2.2.2.2.2.2 q (Nat.le_trans B.2.2.1 h)
theorem g_back (K : g_K p s m args meth c D d z A own cc nL ret) (B : g_B D A w s H locs S) {t : State} {H1 : Heap} {locs1 : List Loc} (ht : t.heap = H1) (hE : g_E D d z w (va_A (w S) H.size) S' t) (hS : va_S A s.heap H1 locs1) : g_B D A w s H1 locs1 S' :=
  ⟨by rw [← ht]; exact hE.1, hE.2.2.weaken (fun k q _ h => g_fr K B q.1 h), hS⟩
theorem g_blind {sz : Nat} {av : List Value} : FrameBlind (g_Pre D d z w sz av S) := fun a U g mk q => by
  obtain ⟨q0, q1, qP, qK, qD⟩ := q
  exact ⟨q0, q1, qP, va_K.moved (u := U) (U := U.calling g mk a) (Vm.Alike.refl U.vm) qK, qD⟩
theorem g_preU (K : g_K p s m args meth c D d z A own cc nL ret) (B : g_B D A w s H locs S) (av : List Value) : ∀ U : State, U.heap = H → s.WarmedH U.vm → g_Pre D d z w H.size av S av.toArray U := fun U hU hW =>
  ⟨rfl, by rw [hU], by rw [hU]; exact B.1, va_K.moved hW.alike K.2.2.2.2.2.2.2.1, B.2.1.weaken (fun _ _ _ _ => trivial)⟩
variable {y : MethodName} {cy : ByteArray} {nLy fr lo index n ci h : Nat} {rt : FieldType} {av : List Value} {r : Int32} {C : String} {T : u_T} {N : Nat} {fs : List Value}
/-- a call through an object: int answer -/
theorem g_calli (K : g_K p s m args meth c D d z A own cc nL ret) (B : g_B D A w s H locs S) (hM : g_mi l D d z w y cy nLy rt fr lo (.ref h :: av) S r S')
    (hG : GoodIn lw_all (wsV own index C y (ws_ y cy nLy (some rt)))) (hd : y.cls = C ∧ y.cls ≠ "java/lang/invoke/MethodHandle" ∧ y.cls ≠ "java/lang/invoke/VarHandle" ∧ (parseMethodDescriptor y.desc).map (fun d => d.parameters.length) = some n) (hR : fr + 1 ≤ R.frames ∧ 8 + (nLy + 11) + lo ≤ R.locals)
    (hc : vwCl[ci]? = some (C, T, N)) (he : (w S)[0]? = some (h, .inr (ci, fs))) (hn : av.length = n) (hl : ls.size = nL) (hst : st0 = av.reverse ++ .ref h :: rest) (hW : (rest.map fun v => v.category).sum ≤ 8) (hdg : decode cc pc = .ok (.invokevirtual index, 3))
    (kk : ∀ (H1 : Heap) (locs1 : List Loc), g_B D A w s H1 locs1 S' → W p l e R s m args below meth c H1 locs1 0 0 Q (F0 m (pc + 3) ls (.int r :: rest))) : W p l e R s m args below meth c H locs 0 0 Q (F0 m pc ls st0) := by
  refine va_calli (va_runV (As := av) (rest := rest) ⟨K.1, K.2.1, K.2.2.2.2.1, K.2.2.2.2.2.1, K.2.2.2.2.2.2.1⟩ (hM H.size) (cwV n K.2.2.2.2.2.2.1 hG rfl rfl rfl hd hR) ⟨g_blind, va_recv K.2.2.2.2.2.2.2.1 B.1 (ci := ci) (q0 := 0) hc he, g_preU K B _⟩ rfl hn hl hst (lv_room hW) hdg ⟨Nat.zero_le _, Nat.zero_le _⟩) B.2.2 (fun q _ h => g_fr K B q h) (g_fr K B) (fun r2 u t H1 locs1 ht hvm hp hB hz hk hS => ?_)
  obtain ⟨rfl, rfl⟩ := hp
  exact kk H1 locs1 (g_back K B ht hB hS)
/-- a call through an object: no answer -/
theorem g_callv (K : g_K p s m args meth c D d z A own cc nL ret) (B : g_B D A w s H locs S) (hM : g_mv l D d z w y cy nLy fr lo (.ref h :: av) S S')
    (hG : GoodIn lw_all (wsV own index C y (ws_ y cy nLy none))) (hd : y.cls = C ∧ y.cls ≠ "java/lang/invoke/MethodHandle" ∧ y.cls ≠ "java/lang/invoke/VarHandle" ∧ (parseMethodDescriptor y.desc).map (fun d => d.parameters.length) = some n) (hR : fr + 1 ≤ R.frames ∧ 8 + (nLy + 11) + lo ≤ R.locals)
    (hc : vwCl[ci]? = some (C, T, N)) (he : (w S)[0]? = some (h, .inr (ci, fs))) (hn : av.length = n) (hl : ls.size = nL) (hst : st0 = av.reverse ++ .ref h :: rest) (hW : (rest.map fun v => v.category).sum ≤ 8) (hdg : decode cc pc = .ok (.invokevirtual index, 3))
    (kk : ∀ (H1 : Heap) (locs1 : List Loc), g_B D A w s H1 locs1 S' → W p l e R s m args below meth c H1 locs1 0 0 Q (F0 m (pc + 3) ls rest)) : W p l e R s m args below meth c H locs 0 0 Q (F0 m pc ls st0) := by
  refine va_callv (va_runV (As := av) (rest := rest) ⟨K.1, K.2.1, K.2.2.2.2.1, K.2.2.2.2.2.1, K.2.2.2.2.2.2.1⟩ (hM H.size) (cwV n K.2.2.2.2.2.2.1 hG rfl rfl rfl hd hR) ⟨g_blind, va_recv K.2.2.2.2.2.2.2.1 B.1 (ci := ci) (q0 := 0) hc he, g_preU K B _⟩ rfl hn hl hst (lv_room hW) hdg ⟨Nat.zero_le _, Nat.zero_le _⟩) B.2.2 (fun q _ h => g_fr K B q h) (g_fr K B) (fun u t H1 locs1 ht hvm hp hB hz hk hS => ?_)
  obtain rfl := hp
  exact kk H1 locs1 (g_back K B ht hB hS)
/-- a static call: int answer -/
theorem g_callsi (K : g_K p s m args meth c D d z A own cc nL ret) (B : g_B D A w s H locs S) (hM : g_mi l D d z w y cy nLy rt fr lo av S r S')
    (hG : GoodIn lw_all (va_wsS own index y (ws_ y cy nLy (some rt)))) (hd : y.cls ≠ "java/lang/invoke/MethodHandle" ∧ y.cls ≠ "java/lang/invoke/VarHandle" ∧ (parseMethodDescriptor y.desc).map (fun d => d.parameters.length) = some n) (hR : fr + 1 ≤ R.frames ∧ 8 + (nLy + 11) + lo ≤ R.locals)
    (hn : av.length = n) (hl : ls.size = nL) (hst : st0 = av.reverse ++ rest) (hW : (rest.map fun v => v.category).sum ≤ 8) (hdg : decode cc pc = .ok (.invokestatic index, 3))
    (kk : ∀ (H1 : Heap) (locs1 : List Loc), g_B D A w s H1 locs1 S' → W p l e R s m args below meth c H1 locs1 0 0 Q (F0 m (pc + 3) ls (.int r :: rest))) : W p l e R s m args below meth c H locs 0 0 Q (F0 m pc ls st0) := by
  refine va_calli (va_runS (As := av) (rest := rest) ⟨K.1, K.2.1, K.2.2.2.2.1, K.2.2.2.2.2.1, K.2.2.2.2.2.2.1⟩ (hM H.size) (va_cwS n K.2.2.2.2.2.2.1 hG rfl rfl rfl hd hR) ⟨g_blind, g_preU K B _⟩ rfl hn hl hst (lv_room hW) hdg ⟨Nat.zero_le _, Nat.zero_le _⟩) B.2.2 (fun q _ h => g_fr K B q h) (g_fr K B) (fun r2 u t H1 locs1 ht hvm hp hB hz hk hS => ?_)
  obtain ⟨rfl, rfl⟩ := hp
  exact kk H1 locs1 (g_back K B ht hB hS)
end GW
section GF
variable {p : Program} {l : Launch} {e : Env} {R : Room} {s : State} {m : MethodId} {args : Array Value} {below : List Frame} {meth : Method} {c : Code} {H : Heap} {locs : List Loc} {cells slots : Nat} {Q : State → Prop}
variable {D : va_G} {d z : ClassId} {A : Nat → Prop} {h : Nat} {a : Nat → Nat} {own : String} {cc : ByteArray} {nL : Nat} {ret : Option FieldType} {S : g_S} {pc : Nat} {ls : Array Slot} {rest : List Value} {j : Nat} {v : Int32}
theorem x_get0 (K : g_K p s m args meth c D d z A RX0 cc nL ret) (B : g_B D A (x_w h a d z) s H locs S) (hdg : decode cc pc = .ok (.getfield 7, 3)) (kk : W p l e R s m args below meth c H locs cells slots Q (F0 m (pc + 3) ls (.ref (a 0) :: rest))) : W p l e R s m args below meth c H locs cells slots Q (F0 m pc ls (.ref h :: rest)) :=
  va_get (D := D) (ci := 0) (v := .ref (a 0)) (C := RX0) (T := TX0) (N := 17) K.1 K.2.1 K.2.2.2.2.2.2.1 in_X0 K.2.2.2.2.2.1 K.2.2.2.2.2.2.2.1 B.1 0 rfl rfl 0 (by decide) (K.2.2.2.2.2.2.1 _ q27) (fun _ h9 => h9) rfl hdg kk
theorem x_ald0 (K : g_K p s m args meth c D d z A RX0 cc nL ret) (B : g_B D A (x_w h a d z) s H locs S) (hj : j < 6) (hdg : decode cc pc = .ok (.iaload, 1)) (kk : W p l e R s m args below meth c H locs cells slots Q (F0 m (pc + 1) ls (.int (S 0 j) :: rest))) : W p l e R s m args below meth c H locs cells slots Q (F0 m pc ls (.int (nI j) :: .ref (a 0) :: rest)) := by
  refine va_iald K.1 K.2.1 K.2.2.2.2.2.2.2.1 B.1 1 0 rfl rfl (vp_in_nI hj (by decide)) hdg ?_
  rw [nI_clamp (by omega)]
  exact kk
theorem x_ast0 (K : g_K p s m args meth c D d z A RX0 cc nL ret) (B : g_B D A (x_w h a d z) s H locs S) (hj : j < 6) (hdg : decode cc pc = .ok (.iastore, 1)) (kk : ∀ (H1 : Heap) (locs1 : List Loc), g_B D A (x_w h a d z) s H1 locs1 (up2 S 0 j v) → W p l e R s m args below meth c H1 locs1 cells slots Q (F0 m (pc + 1) ls rest)) : W p l e R s m args below meth c H locs cells slots Q (F0 m pc ls (.int v :: .int (nI j) :: .ref (a 0) :: rest)) := by
  refine va_iast K.1 K.2.1 K.2.2.2.2.2.2.2.1 B.1 B.2.1 B.2.2 1 0 rfl rfl (vp_in_nI hj (by decide)) hdg (fun H1 locs1 hP hD hS => ?_)
  rw [nI_clamp (by omega)] at hP hD
  exact kk H1 locs1 ⟨hP, hD, hS⟩
theorem x_get1 (K : g_K p s m args meth c D d z A RX0 cc nL ret) (B : g_B D A (x_w h a d z) s H locs S) (hdg : decode cc pc = .ok (.getfield 13, 3)) (kk : W p l e R s m args below meth c H locs cells slots Q (F0 m (pc + 3) ls (.ref (a 1) :: rest))) : W p l e R s m args below meth c H locs cells slots Q (F0 m pc ls (.ref h :: rest)) :=
  va_get (D := D) (ci := 0) (v := .ref (a 1)) (C := RX0) (T := TX0) (N := 17) K.1 K.2.1 K.2.2.2.2.2.2.1 in_X0 K.2.2.2.2.2.1 K.2.2.2.2.2.2.2.1 B.1 0 rfl rfl 1 (by decide) (K.2.2.2.2.2.2.1 _ q28) (fun _ h9 => h9) rfl hdg kk
theorem x_ald1 (K : g_K p s m args meth c D d z A RX0 cc nL ret) (B : g_B D A (x_w h a d z) s H locs S) (hj : j < 36) (hdg : decode cc pc = .ok (.iaload, 1)) (kk : W p l e R s m args below meth c H locs cells slots Q (F0 m (pc + 1) ls (.int (S 1 j) :: rest))) : W p l e R s m args below meth c H locs cells slots Q (F0 m pc ls (.int (nI j) :: .ref (a 1) :: rest)) := by
  refine va_iald K.1 K.2.1 K.2.2.2.2.2.2.2.1 B.1 2 0 rfl rfl (vp_in_nI hj (by decide)) hdg ?_
  rw [nI_clamp (by omega)]
  exact kk
theorem x_ast1 (K : g_K p s m args meth c D d z A RX0 cc nL ret) (B : g_B D A (x_w h a d z) s H locs S) (hj : j < 36) (hdg : decode cc pc = .ok (.iastore, 1)) (kk : ∀ (H1 : Heap) (locs1 : List Loc), g_B D A (x_w h a d z) s H1 locs1 (up2 S 1 j v) → W p l e R s m args below meth c H1 locs1 cells slots Q (F0 m (pc + 1) ls rest)) : W p l e R s m args below meth c H locs cells slots Q (F0 m pc ls (.int v :: .int (nI j) :: .ref (a 1) :: rest)) := by
  refine va_iast K.1 K.2.1 K.2.2.2.2.2.2.2.1 B.1 B.2.1 B.2.2 2 0 rfl rfl (vp_in_nI hj (by decide)) hdg (fun H1 locs1 hP hD hS => ?_)
  rw [nI_clamp (by omega)] at hP hD
  exact kk H1 locs1 ⟨hP, hD, hS⟩
theorem x_get2 (K : g_K p s m args meth c D d z A RX0 cc nL ret) (B : g_B D A (x_w h a d z) s H locs S) (hdg : decode cc pc = .ok (.getfield 59, 3)) (kk : W p l e R s m args below meth c H locs cells slots Q (F0 m (pc + 3) ls (.int (S 2 0) :: rest))) : W p l e R s m args below meth c H locs cells slots Q (F0 m pc ls (.ref h :: rest)) :=
  va_get (D := D) (ci := 0) (v := .int (S 2 0)) (C := RX0) (T := TX0) (N := 17) K.1 K.2.1 K.2.2.2.2.2.2.1 in_X0 K.2.2.2.2.2.1 K.2.2.2.2.2.2.2.1 B.1 0 rfl rfl 2 (by decide) (K.2.2.2.2.2.2.1 _ q29) (fun _ h9 => h9) rfl hdg kk
theorem x_put2 (K : g_K p s m args meth c D d z A RX0 cc nL ret) (B : g_B D A (x_w h a d z) s H locs S) (hdg : decode cc pc = .ok (.putfield 59, 3)) (kk : ∀ (H1 : Heap) (locs1 : List Loc), g_B D A (x_w h a d z) s H1 locs1 (up2 S 2 0 v) → W p l e R s m args below meth c H1 locs1 cells slots Q (F0 m (pc + 3) ls rest)) : W p l e R s m args below meth c H locs cells slots Q (F0 m pc ls (.int v :: .ref h :: rest)) :=
  va_put (D := D) (ci := 0) (v := .int v) (ty := .int) (C := RX0) (T := TX0) (N := 17) K.1 K.2.1 K.2.2.2.2.2.2.1 in_X0 tyX0 tyX0_ok nmX0 K.2.2.2.2.2.1 K.2.2.2.2.2.2.2.1 B.1 B.2.1 B.2.2 0 rfl rfl 2 (by decide) (K.2.2.2.2.2.2.1 _ q29) (fun _ h9 => h9) rfl (by decide +kernel) rfl rfl (Nat.le_of_ble_eq_true rfl) hdg (fun H1 locs1 hP hD hS => kk H1 locs1 ⟨hP, hD, hS⟩)
theorem x_get3 (K : g_K p s m args meth c D d z A RX0 cc nL ret) (B : g_B D A (x_w h a d z) s H locs S) (hdg : decode cc pc = .ok (.getfield 16, 3)) (kk : W p l e R s m args below meth c H locs cells slots Q (F0 m (pc + 3) ls (.ref (a 3) :: rest))) : W p l e R s m args below meth c H locs cells slots Q (F0 m pc ls (.ref h :: rest)) :=
  va_get (D := D) (ci := 0) (v := .ref (a 3)) (C := RX0) (T := TX0) (N := 17) K.1 K.2.1 K.2.2.2.2.2.2.1 in_X0 K.2.2.2.2.2.1 K.2.2.2.2.2.2.2.1 B.1 0 rfl rfl 3 (by decide) (K.2.2.2.2.2.2.1 _ q30) (fun _ h9 => h9) rfl hdg kk
theorem x_ald3 (K : g_K p s m args meth c D d z A RX0 cc nL ret) (B : g_B D A (x_w h a d z) s H locs S) (hj : j < 96) (hdg : decode cc pc = .ok (.baload, 1)) (kk : W p l e R s m args below meth c H locs cells slots Q (F0 m (pc + 1) ls (.int (S 3 j) :: rest))) : W p l e R s m args below meth c H locs cells slots Q (F0 m pc ls (.int (nI j) :: .ref (a 3) :: rest)) := by
  refine va_zald K.1 K.2.1 K.2.2.2.2.2.2.2.1 B.1 3 1 rfl rfl (vp_in_nI hj (by decide)) hdg ?_
  rw [nI_clamp (by omega)]
  exact kk
theorem x_ast3 (K : g_K p s m args meth c D d z A RX0 cc nL ret) (B : g_B D A (x_w h a d z) s H locs S) (hj : j < 96) (hv : vp_nar .boolean v = v) (hdg : decode cc pc = .ok (.bastore, 1)) (kk : ∀ (H1 : Heap) (locs1 : List Loc), g_B D A (x_w h a d z) s H1 locs1 (up2 S 3 j v) → W p l e R s m args below meth c H1 locs1 cells slots Q (F0 m (pc + 1) ls rest)) : W p l e R s m args below meth c H locs cells slots Q (F0 m pc ls (.int v :: .int (nI j) :: .ref (a 3) :: rest)) := by
  refine va_zast K.1 K.2.1 K.2.2.2.2.2.2.2.1 B.1 B.2.1 B.2.2 3 1 rfl rfl (vp_in_nI hj (by decide)) hdg (fun H1 locs1 hP hD hS => ?_)
  rw [nI_clamp (by omega), hv] at hP hD
  exact kk H1 locs1 ⟨hP, hD, hS⟩
theorem x_get4 (K : g_K p s m args meth c D d z A RX0 cc nL ret) (B : g_B D A (x_w h a d z) s H locs S) (hdg : decode cc pc = .ok (.getfield 20, 3)) (kk : W p l e R s m args below meth c H locs cells slots Q (F0 m (pc + 3) ls (.ref (a 4) :: rest))) : W p l e R s m args below meth c H locs cells slots Q (F0 m pc ls (.ref h :: rest)) :=
  va_get (D := D) (ci := 0) (v := .ref (a 4)) (C := RX0) (T := TX0) (N := 17) K.1 K.2.1 K.2.2.2.2.2.2.1 in_X0 K.2.2.2.2.2.1 K.2.2.2.2.2.2.2.1 B.1 0 rfl rfl 4 (by decide) (K.2.2.2.2.2.2.1 _ q31) (fun _ h9 => h9) rfl hdg kk
theorem x_ald4 (K : g_K p s m args meth c D d z A RX0 cc nL ret) (B : g_B D A (x_w h a d z) s H locs S) (hj : j < 96) (hdg : decode cc pc = .ok (.iaload, 1)) (kk : W p l e R s m args below meth c H locs cells slots Q (F0 m (pc + 1) ls (.int (S 4 j) :: rest))) : W p l e R s m args below meth c H locs cells slots Q (F0 m pc ls (.int (nI j) :: .ref (a 4) :: rest)) := by
  refine va_iald K.1 K.2.1 K.2.2.2.2.2.2.2.1 B.1 4 0 rfl rfl (vp_in_nI hj (by decide)) hdg ?_
  rw [nI_clamp (by omega)]
  exact kk
theorem x_ast4 (K : g_K p s m args meth c D d z A RX0 cc nL ret) (B : g_B D A (x_w h a d z) s H locs S) (hj : j < 96) (hdg : decode cc pc = .ok (.iastore, 1)) (kk : ∀ (H1 : Heap) (locs1 : List Loc), g_B D A (x_w h a d z) s H1 locs1 (up2 S 4 j v) → W p l e R s m args below meth c H1 locs1 cells slots Q (F0 m (pc + 1) ls rest)) : W p l e R s m args below meth c H locs cells slots Q (F0 m pc ls (.int v :: .int (nI j) :: .ref (a 4) :: rest)) := by
  refine va_iast K.1 K.2.1 K.2.2.2.2.2.2.2.1 B.1 B.2.1 B.2.2 4 0 rfl rfl (vp_in_nI hj (by decide)) hdg (fun H1 locs1 hP hD hS => ?_)
  rw [nI_clamp (by omega)] at hP hD
  exact kk H1 locs1 ⟨hP, hD, hS⟩
theorem x_get5 (K : g_K p s m args meth c D d z A RX0 cc nL ret) (B : g_B D A (x_w h a d z) s H locs S) (hdg : decode cc pc = .ok (.getfield 23, 3)) (kk : W p l e R s m args below meth c H locs cells slots Q (F0 m (pc + 3) ls (.ref (a 5) :: rest))) : W p l e R s m args below meth c H locs cells slots Q (F0 m pc ls (.ref h :: rest)) :=
  va_get (D := D) (ci := 0) (v := .ref (a 5)) (C := RX0) (T := TX0) (N := 17) K.1 K.2.1 K.2.2.2.2.2.2.1 in_X0 K.2.2.2.2.2.1 K.2.2.2.2.2.2.2.1 B.1 0 rfl rfl 5 (by decide) (K.2.2.2.2.2.2.1 _ q32) (fun _ h9 => h9) rfl hdg kk
theorem x_ald5 (K : g_K p s m args meth c D d z A RX0 cc nL ret) (B : g_B D A (x_w h a d z) s H locs S) (hj : j < 96) (hdg : decode cc pc = .ok (.iaload, 1)) (kk : W p l e R s m args below meth c H locs cells slots Q (F0 m (pc + 1) ls (.int (S 5 j) :: rest))) : W p l e R s m args below meth c H locs cells slots Q (F0 m pc ls (.int (nI j) :: .ref (a 5) :: rest)) := by
  refine va_iald K.1 K.2.1 K.2.2.2.2.2.2.2.1 B.1 5 0 rfl rfl (vp_in_nI hj (by decide)) hdg ?_
  rw [nI_clamp (by omega)]
  exact kk
theorem x_ast5 (K : g_K p s m args meth c D d z A RX0 cc nL ret) (B : g_B D A (x_w h a d z) s H locs S) (hj : j < 96) (hdg : decode cc pc = .ok (.iastore, 1)) (kk : ∀ (H1 : Heap) (locs1 : List Loc), g_B D A (x_w h a d z) s H1 locs1 (up2 S 5 j v) → W p l e R s m args below meth c H1 locs1 cells slots Q (F0 m (pc + 1) ls rest)) : W p l e R s m args below meth c H locs cells slots Q (F0 m pc ls (.int v :: .int (nI j) :: .ref (a 5) :: rest)) := by
  refine va_iast K.1 K.2.1 K.2.2.2.2.2.2.2.1 B.1 B.2.1 B.2.2 5 0 rfl rfl (vp_in_nI hj (by decide)) hdg (fun H1 locs1 hP hD hS => ?_)
  rw [nI_clamp (by omega)] at hP hD
  exact kk H1 locs1 ⟨hP, hD, hS⟩
theorem x_get6 (K : g_K p s m args meth c D d z A RX0 cc nL ret) (B : g_B D A (x_w h a d z) s H locs S) (hdg : decode cc pc = .ok (.getfield 26, 3)) (kk : W p l e R s m args below meth c H locs cells slots Q (F0 m (pc + 3) ls (.ref (a 6) :: rest))) : W p l e R s m args below meth c H locs cells slots Q (F0 m pc ls (.ref h :: rest)) :=
  va_get (D := D) (ci := 0) (v := .ref (a 6)) (C := RX0) (T := TX0) (N := 17) K.1 K.2.1 K.2.2.2.2.2.2.1 in_X0 K.2.2.2.2.2.1 K.2.2.2.2.2.2.2.1 B.1 0 rfl rfl 6 (by decide) (K.2.2.2.2.2.2.1 _ q33) (fun _ h9 => h9) rfl hdg kk
theorem x_ald6 (K : g_K p s m args meth c D d z A RX0 cc nL ret) (B : g_B D A (x_w h a d z) s H locs S) (hj : j < 12) (hdg : decode cc pc = .ok (.iaload, 1)) (kk : W p l e R s m args below meth c H locs cells slots Q (F0 m (pc + 1) ls (.int (S 6 j) :: rest))) : W p l e R s m args below meth c H locs cells slots Q (F0 m pc ls (.int (nI j) :: .ref (a 6) :: rest)) := by
  refine va_iald K.1 K.2.1 K.2.2.2.2.2.2.2.1 B.1 6 0 rfl rfl (vp_in_nI hj (by decide)) hdg ?_
  rw [nI_clamp (by omega)]
  exact kk
theorem x_ast6 (K : g_K p s m args meth c D d z A RX0 cc nL ret) (B : g_B D A (x_w h a d z) s H locs S) (hj : j < 12) (hdg : decode cc pc = .ok (.iastore, 1)) (kk : ∀ (H1 : Heap) (locs1 : List Loc), g_B D A (x_w h a d z) s H1 locs1 (up2 S 6 j v) → W p l e R s m args below meth c H1 locs1 cells slots Q (F0 m (pc + 1) ls rest)) : W p l e R s m args below meth c H locs cells slots Q (F0 m pc ls (.int v :: .int (nI j) :: .ref (a 6) :: rest)) := by
  refine va_iast K.1 K.2.1 K.2.2.2.2.2.2.2.1 B.1 B.2.1 B.2.2 6 0 rfl rfl (vp_in_nI hj (by decide)) hdg (fun H1 locs1 hP hD hS => ?_)
  rw [nI_clamp (by omega)] at hP hD
  exact kk H1 locs1 ⟨hP, hD, hS⟩
theorem x_get7 (K : g_K p s m args meth c D d z A RX0 cc nL ret) (B : g_B D A (x_w h a d z) s H locs S) (hdg : decode cc pc = .ok (.getfield 29, 3)) (kk : W p l e R s m args below meth c H locs cells slots Q (F0 m (pc + 3) ls (.ref (a 7) :: rest))) : W p l e R s m args below meth c H locs cells slots Q (F0 m pc ls (.ref h :: rest)) :=
  va_get (D := D) (ci := 0) (v := .ref (a 7)) (C := RX0) (T := TX0) (N := 17) K.1 K.2.1 K.2.2.2.2.2.2.1 in_X0 K.2.2.2.2.2.1 K.2.2.2.2.2.2.2.1 B.1 0 rfl rfl 7 (by decide) (K.2.2.2.2.2.2.1 _ q34) (fun _ h9 => h9) rfl hdg kk
theorem x_ald7 (K : g_K p s m args meth c D d z A RX0 cc nL ret) (B : g_B D A (x_w h a d z) s H locs S) (hj : j < 12) (hdg : decode cc pc = .ok (.iaload, 1)) (kk : W p l e R s m args below meth c H locs cells slots Q (F0 m (pc + 1) ls (.int (S 7 j) :: rest))) : W p l e R s m args below meth c H locs cells slots Q (F0 m pc ls (.int (nI j) :: .ref (a 7) :: rest)) := by
  refine va_iald K.1 K.2.1 K.2.2.2.2.2.2.2.1 B.1 7 0 rfl rfl (vp_in_nI hj (by decide)) hdg ?_
  rw [nI_clamp (by omega)]
  exact kk
theorem x_ast7 (K : g_K p s m args meth c D d z A RX0 cc nL ret) (B : g_B D A (x_w h a d z) s H locs S) (hj : j < 12) (hdg : decode cc pc = .ok (.iastore, 1)) (kk : ∀ (H1 : Heap) (locs1 : List Loc), g_B D A (x_w h a d z) s H1 locs1 (up2 S 7 j v) → W p l e R s m args below meth c H1 locs1 cells slots Q (F0 m (pc + 1) ls rest)) : W p l e R s m args below meth c H locs cells slots Q (F0 m pc ls (.int v :: .int (nI j) :: .ref (a 7) :: rest)) := by
  refine va_iast K.1 K.2.1 K.2.2.2.2.2.2.2.1 B.1 B.2.1 B.2.2 7 0 rfl rfl (vp_in_nI hj (by decide)) hdg (fun H1 locs1 hP hD hS => ?_)
  rw [nI_clamp (by omega)] at hP hD
  exact kk H1 locs1 ⟨hP, hD, hS⟩
theorem x_get8 (K : g_K p s m args meth c D d z A RX0 cc nL ret) (B : g_B D A (x_w h a d z) s H locs S) (hdg : decode cc pc = .ok (.getfield 32, 3)) (kk : W p l e R s m args below meth c H locs cells slots Q (F0 m (pc + 3) ls (.ref (a 8) :: rest))) : W p l e R s m args below meth c H locs cells slots Q (F0 m pc ls (.ref h :: rest)) :=
  va_get (D := D) (ci := 0) (v := .ref (a 8)) (C := RX0) (T := TX0) (N := 17) K.1 K.2.1 K.2.2.2.2.2.2.1 in_X0 K.2.2.2.2.2.1 K.2.2.2.2.2.2.2.1 B.1 0 rfl rfl 8 (by decide) (K.2.2.2.2.2.2.1 _ q35) (fun _ h9 => h9) rfl hdg kk
theorem x_ald8 (K : g_K p s m args meth c D d z A RX0 cc nL ret) (B : g_B D A (x_w h a d z) s H locs S) (hj : j < 12) (hdg : decode cc pc = .ok (.iaload, 1)) (kk : W p l e R s m args below meth c H locs cells slots Q (F0 m (pc + 1) ls (.int (S 8 j) :: rest))) : W p l e R s m args below meth c H locs cells slots Q (F0 m pc ls (.int (nI j) :: .ref (a 8) :: rest)) := by
  refine va_iald K.1 K.2.1 K.2.2.2.2.2.2.2.1 B.1 8 0 rfl rfl (vp_in_nI hj (by decide)) hdg ?_
  rw [nI_clamp (by omega)]
  exact kk
theorem x_ast8 (K : g_K p s m args meth c D d z A RX0 cc nL ret) (B : g_B D A (x_w h a d z) s H locs S) (hj : j < 12) (hdg : decode cc pc = .ok (.iastore, 1)) (kk : ∀ (H1 : Heap) (locs1 : List Loc), g_B D A (x_w h a d z) s H1 locs1 (up2 S 8 j v) → W p l e R s m args below meth c H1 locs1 cells slots Q (F0 m (pc + 1) ls rest)) : W p l e R s m args below meth c H locs cells slots Q (F0 m pc ls (.int v :: .int (nI j) :: .ref (a 8) :: rest)) := by
  refine va_iast K.1 K.2.1 K.2.2.2.2.2.2.2.1 B.1 B.2.1 B.2.2 8 0 rfl rfl (vp_in_nI hj (by decide)) hdg (fun H1 locs1 hP hD hS => ?_)
  rw [nI_clamp (by omega)] at hP hD
  exact kk H1 locs1 ⟨hP, hD, hS⟩
theorem x_get9 (K : g_K p s m args meth c D d z A RX0 cc nL ret) (B : g_B D A (x_w h a d z) s H locs S) (hdg : decode cc pc = .ok (.getfield 35, 3)) (kk : W p l e R s m args below meth c H locs cells slots Q (F0 m (pc + 3) ls (.ref (a 9) :: rest))) : W p l e R s m args below meth c H locs cells slots Q (F0 m pc ls (.ref h :: rest)) :=
  va_get (D := D) (ci := 0) (v := .ref (a 9)) (C := RX0) (T := TX0) (N := 17) K.1 K.2.1 K.2.2.2.2.2.2.1 in_X0 K.2.2.2.2.2.1 K.2.2.2.2.2.2.2.1 B.1 0 rfl rfl 9 (by decide) (K.2.2.2.2.2.2.1 _ q36) (fun _ h9 => h9) rfl hdg kk
theorem x_ald9 (K : g_K p s m args meth c D d z A RX0 cc nL ret) (B : g_B D A (x_w h a d z) s H locs S) (hj : j < 12) (hdg : decode cc pc = .ok (.iaload, 1)) (kk : W p l e R s m args below meth c H locs cells slots Q (F0 m (pc + 1) ls (.int (S 9 j) :: rest))) : W p l e R s m args below meth c H locs cells slots Q (F0 m pc ls (.int (nI j) :: .ref (a 9) :: rest)) := by
  refine va_iald K.1 K.2.1 K.2.2.2.2.2.2.2.1 B.1 9 0 rfl rfl (vp_in_nI hj (by decide)) hdg ?_
  rw [nI_clamp (by omega)]
  exact kk
theorem x_ast9 (K : g_K p s m args meth c D d z A RX0 cc nL ret) (B : g_B D A (x_w h a d z) s H locs S) (hj : j < 12) (hdg : decode cc pc = .ok (.iastore, 1)) (kk : ∀ (H1 : Heap) (locs1 : List Loc), g_B D A (x_w h a d z) s H1 locs1 (up2 S 9 j v) → W p l e R s m args below meth c H1 locs1 cells slots Q (F0 m (pc + 1) ls rest)) : W p l e R s m args below meth c H locs cells slots Q (F0 m pc ls (.int v :: .int (nI j) :: .ref (a 9) :: rest)) := by
  refine va_iast K.1 K.2.1 K.2.2.2.2.2.2.2.1 B.1 B.2.1 B.2.2 9 0 rfl rfl (vp_in_nI hj (by decide)) hdg (fun H1 locs1 hP hD hS => ?_)
  rw [nI_clamp (by omega)] at hP hD
  exact kk H1 locs1 ⟨hP, hD, hS⟩
theorem x_get10 (K : g_K p s m args meth c D d z A RX0 cc nL ret) (B : g_B D A (x_w h a d z) s H locs S) (hdg : decode cc pc = .ok (.getfield 38, 3)) (kk : W p l e R s m args below meth c H locs cells slots Q (F0 m (pc + 3) ls (.ref (a 10) :: rest))) : W p l e R s m args below meth c H locs cells slots Q (F0 m pc ls (.ref h :: rest)) :=
  va_get (D := D) (ci := 0) (v := .ref (a 10)) (C := RX0) (T := TX0) (N := 17) K.1 K.2.1 K.2.2.2.2.2.2.1 in_X0 K.2.2.2.2.2.1 K.2.2.2.2.2.2.2.1 B.1 0 rfl rfl 10 (by decide) (K.2.2.2.2.2.2.1 _ q37) (fun _ h9 => h9) rfl hdg kk
theorem x_ald10 (K : g_K p s m args meth c D d z A RX0 cc nL ret) (B : g_B D A (x_w h a d z) s H locs S) (hj : j < 12) (hdg : decode cc pc = .ok (.iaload, 1)) (kk : W p l e R s m args below meth c H locs cells slots Q (F0 m (pc + 1) ls (.int (S 10 j) :: rest))) : W p l e R s m args below meth c H locs cells slots Q (F0 m pc ls (.int (nI j) :: .ref (a 10) :: rest)) := by
  refine va_iald K.1 K.2.1 K.2.2.2.2.2.2.2.1 B.1 10 0 rfl rfl (vp_in_nI hj (by decide)) hdg ?_
  rw [nI_clamp (by omega)]
  exact kk
theorem x_ast10 (K : g_K p s m args meth c D d z A RX0 cc nL ret) (B : g_B D A (x_w h a d z) s H locs S) (hj : j < 12) (hdg : decode cc pc = .ok (.iastore, 1)) (kk : ∀ (H1 : Heap) (locs1 : List Loc), g_B D A (x_w h a d z) s H1 locs1 (up2 S 10 j v) → W p l e R s m args below meth c H1 locs1 cells slots Q (F0 m (pc + 1) ls rest)) : W p l e R s m args below meth c H locs cells slots Q (F0 m pc ls (.int v :: .int (nI j) :: .ref (a 10) :: rest)) := by
  refine va_iast K.1 K.2.1 K.2.2.2.2.2.2.2.1 B.1 B.2.1 B.2.2 10 0 rfl rfl (vp_in_nI hj (by decide)) hdg (fun H1 locs1 hP hD hS => ?_)
  rw [nI_clamp (by omega)] at hP hD
  exact kk H1 locs1 ⟨hP, hD, hS⟩
theorem x_get11 (K : g_K p s m args meth c D d z A RX0 cc nL ret) (B : g_B D A (x_w h a d z) s H locs S) (hdg : decode cc pc = .ok (.getfield 41, 3)) (kk : W p l e R s m args below meth c H locs cells slots Q (F0 m (pc + 3) ls (.ref (a 11) :: rest))) : W p l e R s m args below meth c H locs cells slots Q (F0 m pc ls (.ref h :: rest)) :=
  va_get (D := D) (ci := 0) (v := .ref (a 11)) (C := RX0) (T := TX0) (N := 17) K.1 K.2.1 K.2.2.2.2.2.2.1 in_X0 K.2.2.2.2.2.1 K.2.2.2.2.2.2.2.1 B.1 0 rfl rfl 11 (by decide) (K.2.2.2.2.2.2.1 _ q38) (fun _ h9 => h9) rfl hdg kk
theorem x_ald11 (K : g_K p s m args meth c D d z A RX0 cc nL ret) (B : g_B D A (x_w h a d z) s H locs S) (hj : j < 12) (hdg : decode cc pc = .ok (.iaload, 1)) (kk : W p l e R s m args below meth c H locs cells slots Q (F0 m (pc + 1) ls (.int (S 11 j) :: rest))) : W p l e R s m args below meth c H locs cells slots Q (F0 m pc ls (.int (nI j) :: .ref (a 11) :: rest)) := by
  refine va_iald K.1 K.2.1 K.2.2.2.2.2.2.2.1 B.1 11 0 rfl rfl (vp_in_nI hj (by decide)) hdg ?_
  rw [nI_clamp (by omega)]
  exact kk
theorem x_ast11 (K : g_K p s m args meth c D d z A RX0 cc nL ret) (B : g_B D A (x_w h a d z) s H locs S) (hj : j < 12) (hdg : decode cc pc = .ok (.iastore, 1)) (kk : ∀ (H1 : Heap) (locs1 : List Loc), g_B D A (x_w h a d z) s H1 locs1 (up2 S 11 j v) → W p l e R s m args below meth c H1 locs1 cells slots Q (F0 m (pc + 1) ls rest)) : W p l e R s m args below meth c H locs cells slots Q (F0 m pc ls (.int v :: .int (nI j) :: .ref (a 11) :: rest)) := by
  refine va_iast K.1 K.2.1 K.2.2.2.2.2.2.2.1 B.1 B.2.1 B.2.2 11 0 rfl rfl (vp_in_nI hj (by decide)) hdg (fun H1 locs1 hP hD hS => ?_)
  rw [nI_clamp (by omega)] at hP hD
  exact kk H1 locs1 ⟨hP, hD, hS⟩
theorem x_get12 (K : g_K p s m args meth c D d z A RX0 cc nL ret) (B : g_B D A (x_w h a d z) s H locs S) (hdg : decode cc pc = .ok (.getfield 44, 3)) (kk : W p l e R s m args below meth c H locs cells slots Q (F0 m (pc + 3) ls (.ref (a 12) :: rest))) : W p l e R s m args below meth c H locs cells slots Q (F0 m pc ls (.ref h :: rest)) :=
  va_get (D := D) (ci := 0) (v := .ref (a 12)) (C := RX0) (T := TX0) (N := 17) K.1 K.2.1 K.2.2.2.2.2.2.1 in_X0 K.2.2.2.2.2.1 K.2.2.2.2.2.2.2.1 B.1 0 rfl rfl 12 (by decide) (K.2.2.2.2.2.2.1 _ q39) (fun _ h9 => h9) rfl hdg kk
theorem x_ald12 (K : g_K p s m args meth c D d z A RX0 cc nL ret) (B : g_B D A (x_w h a d z) s H locs S) (hj : j < 12) (hdg : decode cc pc = .ok (.iaload, 1)) (kk : W p l e R s m args below meth c H locs cells slots Q (F0 m (pc + 1) ls (.int (S 12 j) :: rest))) : W p l e R s m args below meth c H locs cells slots Q (F0 m pc ls (.int (nI j) :: .ref (a 12) :: rest)) := by
  refine va_iald K.1 K.2.1 K.2.2.2.2.2.2.2.1 B.1 12 0 rfl rfl (vp_in_nI hj (by decide)) hdg ?_
  rw [nI_clamp (by omega)]
  exact kk
theorem x_ast12 (K : g_K p s m args meth c D d z A RX0 cc nL ret) (B : g_B D A (x_w h a d z) s H locs S) (hj : j < 12) (hdg : decode cc pc = .ok (.iastore, 1)) (kk : ∀ (H1 : Heap) (locs1 : List Loc), g_B D A (x_w h a d z) s H1 locs1 (up2 S 12 j v) → W p l e R s m args below meth c H1 locs1 cells slots Q (F0 m (pc + 1) ls rest)) : W p l e R s m args below meth c H locs cells slots Q (F0 m pc ls (.int v :: .int (nI j) :: .ref (a 12) :: rest)) := by
  refine va_iast K.1 K.2.1 K.2.2.2.2.2.2.2.1 B.1 B.2.1 B.2.2 12 0 rfl rfl (vp_in_nI hj (by decide)) hdg (fun H1 locs1 hP hD hS => ?_)
  rw [nI_clamp (by omega)] at hP hD
  exact kk H1 locs1 ⟨hP, hD, hS⟩
theorem x_get13 (K : g_K p s m args meth c D d z A RX0 cc nL ret) (B : g_B D A (x_w h a d z) s H locs S) (hdg : decode cc pc = .ok (.getfield 47, 3)) (kk : W p l e R s m args below meth c H locs cells slots Q (F0 m (pc + 3) ls (.ref (a 13) :: rest))) : W p l e R s m args below meth c H locs cells slots Q (F0 m pc ls (.ref h :: rest)) :=
  va_get (D := D) (ci := 0) (v := .ref (a 13)) (C := RX0) (T := TX0) (N := 17) K.1 K.2.1 K.2.2.2.2.2.2.1 in_X0 K.2.2.2.2.2.1 K.2.2.2.2.2.2.2.1 B.1 0 rfl rfl 13 (by decide) (K.2.2.2.2.2.2.1 _ q40) (fun _ h9 => h9) rfl hdg kk
theorem x_ald13 (K : g_K p s m args meth c D d z A RX0 cc nL ret) (B : g_B D A (x_w h a d z) s H locs S) (hj : j < 2) (hdg : decode cc pc = .ok (.iaload, 1)) (kk : W p l e R s m args below meth c H locs cells slots Q (F0 m (pc + 1) ls (.int (S 13 j) :: rest))) : W p l e R s m args below meth c H locs cells slots Q (F0 m pc ls (.int (nI j) :: .ref (a 13) :: rest)) := by
  refine va_iald K.1 K.2.1 K.2.2.2.2.2.2.2.1 B.1 13 0 rfl rfl (vp_in_nI hj (by decide)) hdg ?_
  rw [nI_clamp (by omega)]
  exact kk
theorem x_ast13 (K : g_K p s m args meth c D d z A RX0 cc nL ret) (B : g_B D A (x_w h a d z) s H locs S) (hj : j < 2) (hdg : decode cc pc = .ok (.iastore, 1)) (kk : ∀ (H1 : Heap) (locs1 : List Loc), g_B D A (x_w h a d z) s H1 locs1 (up2 S 13 j v) → W p l e R s m args below meth c H1 locs1 cells slots Q (F0 m (pc + 1) ls rest)) : W p l e R s m args below meth c H locs cells slots Q (F0 m pc ls (.int v :: .int (nI j) :: .ref (a 13) :: rest)) := by
  refine va_iast K.1 K.2.1 K.2.2.2.2.2.2.2.1 B.1 B.2.1 B.2.2 13 0 rfl rfl (vp_in_nI hj (by decide)) hdg (fun H1 locs1 hP hD hS => ?_)
  rw [nI_clamp (by omega)] at hP hD
  exact kk H1 locs1 ⟨hP, hD, hS⟩
theorem x_get14 (K : g_K p s m args meth c D d z A RX0 cc nL ret) (B : g_B D A (x_w h a d z) s H locs S) (hdg : decode cc pc = .ok (.getfield 50, 3)) (kk : W p l e R s m args below meth c H locs cells slots Q (F0 m (pc + 3) ls (.ref (a 14) :: rest))) : W p l e R s m args below meth c H locs cells slots Q (F0 m pc ls (.ref h :: rest)) :=
  va_get (D := D) (ci := 0) (v := .ref (a 14)) (C := RX0) (T := TX0) (N := 17) K.1 K.2.1 K.2.2.2.2.2.2.1 in_X0 K.2.2.2.2.2.1 K.2.2.2.2.2.2.2.1 B.1 0 rfl rfl 14 (by decide) (K.2.2.2.2.2.2.1 _ q41) (fun _ h9 => h9) rfl hdg kk
theorem x_ald14 (K : g_K p s m args meth c D d z A RX0 cc nL ret) (B : g_B D A (x_w h a d z) s H locs S) (hj : j < 2) (hdg : decode cc pc = .ok (.iaload, 1)) (kk : W p l e R s m args below meth c H locs cells slots Q (F0 m (pc + 1) ls (.int (S 14 j) :: rest))) : W p l e R s m args below meth c H locs cells slots Q (F0 m pc ls (.int (nI j) :: .ref (a 14) :: rest)) := by
  refine va_iald K.1 K.2.1 K.2.2.2.2.2.2.2.1 B.1 14 0 rfl rfl (vp_in_nI hj (by decide)) hdg ?_
  rw [nI_clamp (by omega)]
  exact kk
theorem x_ast14 (K : g_K p s m args meth c D d z A RX0 cc nL ret) (B : g_B D A (x_w h a d z) s H locs S) (hj : j < 2) (hdg : decode cc pc = .ok (.iastore, 1)) (kk : ∀ (H1 : Heap) (locs1 : List Loc), g_B D A (x_w h a d z) s H1 locs1 (up2 S 14 j v) → W p l e R s m args below meth c H1 locs1 cells slots Q (F0 m (pc + 1) ls rest)) : W p l e R s m args below meth c H locs cells slots Q (F0 m pc ls (.int v :: .int (nI j) :: .ref (a 14) :: rest)) := by
  refine va_iast K.1 K.2.1 K.2.2.2.2.2.2.2.1 B.1 B.2.1 B.2.2 14 0 rfl rfl (vp_in_nI hj (by decide)) hdg (fun H1 locs1 hP hD hS => ?_)
  rw [nI_clamp (by omega)] at hP hD
  exact kk H1 locs1 ⟨hP, hD, hS⟩
theorem x_get15 (K : g_K p s m args meth c D d z A RX0 cc nL ret) (B : g_B D A (x_w h a d z) s H locs S) (hdg : decode cc pc = .ok (.getfield 53, 3)) (kk : W p l e R s m args below meth c H locs cells slots Q (F0 m (pc + 3) ls (.ref (a 15) :: rest))) : W p l e R s m args below meth c H locs cells slots Q (F0 m pc ls (.ref h :: rest)) :=
  va_get (D := D) (ci := 0) (v := .ref (a 15)) (C := RX0) (T := TX0) (N := 17) K.1 K.2.1 K.2.2.2.2.2.2.1 in_X0 K.2.2.2.2.2.1 K.2.2.2.2.2.2.2.1 B.1 0 rfl rfl 15 (by decide) (K.2.2.2.2.2.2.1 _ q42) (fun _ h9 => h9) rfl hdg kk
theorem x_ald15 (K : g_K p s m args meth c D d z A RX0 cc nL ret) (B : g_B D A (x_w h a d z) s H locs S) (hj : j < 16) (hdg : decode cc pc = .ok (.iaload, 1)) (kk : W p l e R s m args below meth c H locs cells slots Q (F0 m (pc + 1) ls (.int (S 15 j) :: rest))) : W p l e R s m args below meth c H locs cells slots Q (F0 m pc ls (.int (nI j) :: .ref (a 15) :: rest)) := by
  refine va_iald K.1 K.2.1 K.2.2.2.2.2.2.2.1 B.1 15 0 rfl rfl (vp_in_nI hj (by decide)) hdg ?_
  rw [nI_clamp (by omega)]
  exact kk
theorem x_ast15 (K : g_K p s m args meth c D d z A RX0 cc nL ret) (B : g_B D A (x_w h a d z) s H locs S) (hj : j < 16) (hdg : decode cc pc = .ok (.iastore, 1)) (kk : ∀ (H1 : Heap) (locs1 : List Loc), g_B D A (x_w h a d z) s H1 locs1 (up2 S 15 j v) → W p l e R s m args below meth c H1 locs1 cells slots Q (F0 m (pc + 1) ls rest)) : W p l e R s m args below meth c H locs cells slots Q (F0 m pc ls (.int v :: .int (nI j) :: .ref (a 15) :: rest)) := by
  refine va_iast K.1 K.2.1 K.2.2.2.2.2.2.2.1 B.1 B.2.1 B.2.2 15 0 rfl rfl (vp_in_nI hj (by decide)) hdg (fun H1 locs1 hP hD hS => ?_)
  rw [nI_clamp (by omega)] at hP hD
  exact kk H1 locs1 ⟨hP, hD, hS⟩
theorem x_get16 (K : g_K p s m args meth c D d z A RX0 cc nL ret) (B : g_B D A (x_w h a d z) s H locs S) (hdg : decode cc pc = .ok (.getfield 56, 3)) (kk : W p l e R s m args below meth c H locs cells slots Q (F0 m (pc + 3) ls (.ref (a 16) :: rest))) : W p l e R s m args below meth c H locs cells slots Q (F0 m pc ls (.ref h :: rest)) :=
  va_get (D := D) (ci := 0) (v := .ref (a 16)) (C := RX0) (T := TX0) (N := 17) K.1 K.2.1 K.2.2.2.2.2.2.1 in_X0 K.2.2.2.2.2.1 K.2.2.2.2.2.2.2.1 B.1 0 rfl rfl 16 (by decide) (K.2.2.2.2.2.2.1 _ q43) (fun _ h9 => h9) rfl hdg kk
theorem x_ald16 (K : g_K p s m args meth c D d z A RX0 cc nL ret) (B : g_B D A (x_w h a d z) s H locs S) (hj : j < 16) (hdg : decode cc pc = .ok (.iaload, 1)) (kk : W p l e R s m args below meth c H locs cells slots Q (F0 m (pc + 1) ls (.int (S 16 j) :: rest))) : W p l e R s m args below meth c H locs cells slots Q (F0 m pc ls (.int (nI j) :: .ref (a 16) :: rest)) := by
  refine va_iald K.1 K.2.1 K.2.2.2.2.2.2.2.1 B.1 16 0 rfl rfl (vp_in_nI hj (by decide)) hdg ?_
  rw [nI_clamp (by omega)]
  exact kk
theorem x_ast16 (K : g_K p s m args meth c D d z A RX0 cc nL ret) (B : g_B D A (x_w h a d z) s H locs S) (hj : j < 16) (hdg : decode cc pc = .ok (.iastore, 1)) (kk : ∀ (H1 : Heap) (locs1 : List Loc), g_B D A (x_w h a d z) s H1 locs1 (up2 S 16 j v) → W p l e R s m args below meth c H1 locs1 cells slots Q (F0 m (pc + 1) ls rest)) : W p l e R s m args below meth c H locs cells slots Q (F0 m pc ls (.int v :: .int (nI j) :: .ref (a 16) :: rest)) := by
  refine va_iast K.1 K.2.1 K.2.2.2.2.2.2.2.1 B.1 B.2.1 B.2.2 16 0 rfl rfl (vp_in_nI hj (by decide)) hdg (fun H1 locs1 hP hD hS => ?_)
  rw [nI_clamp (by omega)] at hP hD
  exact kk H1 locs1 ⟨hP, hD, hS⟩
theorem m_get0 (K : g_K p s m args meth c D d z A RX1 cc nL ret) (B : g_B D A (m_w h a d z) s H locs S) (hdg : decode cc pc = .ok (.getfield 7, 3)) (kk : W p l e R s m args below meth c H locs cells slots Q (F0 m (pc + 3) ls (.ref (a 0) :: rest))) : W p l e R s m args below meth c H locs cells slots Q (F0 m pc ls (.ref h :: rest)) :=
  va_get (D := D) (ci := 1) (v := .ref (a 0)) (C := RX1) (T := TX1) (N := 9) K.1 K.2.1 K.2.2.2.2.2.2.1 in_X1 K.2.2.2.2.2.1 K.2.2.2.2.2.2.2.1 B.1 0 rfl rfl 0 (by decide) (K.2.2.2.2.2.2.1 _ q173) (fun _ h9 => h9) rfl hdg kk
theorem m_ald0 (K : g_K p s m args meth c D d z A RX1 cc nL ret) (B : g_B D A (m_w h a d z) s H locs S) (hj : j < 96) (hdg : decode cc pc = .ok (.iaload, 1)) (kk : W p l e R s m args below meth c H locs cells slots Q (F0 m (pc + 1) ls (.int (S 0 j) :: rest))) : W p l e R s m args below meth c H locs cells slots Q (F0 m pc ls (.int (nI j) :: .ref (a 0) :: rest)) := by
  refine va_iald K.1 K.2.1 K.2.2.2.2.2.2.2.1 B.1 1 0 rfl rfl (vp_in_nI hj (by decide)) hdg ?_
  rw [nI_clamp (by omega)]
  exact kk
theorem m_ast0 (K : g_K p s m args meth c D d z A RX1 cc nL ret) (B : g_B D A (m_w h a d z) s H locs S) (hj : j < 96) (hdg : decode cc pc = .ok (.iastore, 1)) (kk : ∀ (H1 : Heap) (locs1 : List Loc), g_B D A (m_w h a d z) s H1 locs1 (up2 S 0 j v) → W p l e R s m args below meth c H1 locs1 cells slots Q (F0 m (pc + 1) ls rest)) : W p l e R s m args below meth c H locs cells slots Q (F0 m pc ls (.int v :: .int (nI j) :: .ref (a 0) :: rest)) := by
  refine va_iast K.1 K.2.1 K.2.2.2.2.2.2.2.1 B.1 B.2.1 B.2.2 1 0 rfl rfl (vp_in_nI hj (by decide)) hdg (fun H1 locs1 hP hD hS => ?_)
  rw [nI_clamp (by omega)] at hP hD
  exact kk H1 locs1 ⟨hP, hD, hS⟩
theorem m_get1 (K : g_K p s m args meth c D d z A RX1 cc nL ret) (B : g_B D A (m_w h a d z) s H locs S) (hdg : decode cc pc = .ok (.getfield 13, 3)) (kk : W p l e R s m args below meth c H locs cells slots Q (F0 m (pc + 3) ls (.ref (a 1) :: rest))) : W p l e R s m args below meth c H locs cells slots Q (F0 m pc ls (.ref h :: rest)) :=
  va_get (D := D) (ci := 1) (v := .ref (a 1)) (C := RX1) (T := TX1) (N := 9) K.1 K.2.1 K.2.2.2.2.2.2.1 in_X1 K.2.2.2.2.2.1 K.2.2.2.2.2.2.2.1 B.1 0 rfl rfl 1 (by decide) (K.2.2.2.2.2.2.1 _ q174) (fun _ h9 => h9) rfl hdg kk
theorem m_ald1 (K : g_K p s m args meth c D d z A RX1 cc nL ret) (B : g_B D A (m_w h a d z) s H locs S) (hj : j < 6) (hdg : decode cc pc = .ok (.iaload, 1)) (kk : W p l e R s m args below meth c H locs cells slots Q (F0 m (pc + 1) ls (.int (S 1 j) :: rest))) : W p l e R s m args below meth c H locs cells slots Q (F0 m pc ls (.int (nI j) :: .ref (a 1) :: rest)) := by
  refine va_iald K.1 K.2.1 K.2.2.2.2.2.2.2.1 B.1 2 0 rfl rfl (vp_in_nI hj (by decide)) hdg ?_
  rw [nI_clamp (by omega)]
  exact kk
theorem m_ast1 (K : g_K p s m args meth c D d z A RX1 cc nL ret) (B : g_B D A (m_w h a d z) s H locs S) (hj : j < 6) (hdg : decode cc pc = .ok (.iastore, 1)) (kk : ∀ (H1 : Heap) (locs1 : List Loc), g_B D A (m_w h a d z) s H1 locs1 (up2 S 1 j v) → W p l e R s m args below meth c H1 locs1 cells slots Q (F0 m (pc + 1) ls rest)) : W p l e R s m args below meth c H locs cells slots Q (F0 m pc ls (.int v :: .int (nI j) :: .ref (a 1) :: rest)) := by
  refine va_iast K.1 K.2.1 K.2.2.2.2.2.2.2.1 B.1 B.2.1 B.2.2 2 0 rfl rfl (vp_in_nI hj (by decide)) hdg (fun H1 locs1 hP hD hS => ?_)
  rw [nI_clamp (by omega)] at hP hD
  exact kk H1 locs1 ⟨hP, hD, hS⟩
theorem m_get2 (K : g_K p s m args meth c D d z A RX1 cc nL ret) (B : g_B D A (m_w h a d z) s H locs S) (hdg : decode cc pc = .ok (.getfield 16, 3)) (kk : W p l e R s m args below meth c H locs cells slots Q (F0 m (pc + 3) ls (.ref (a 2) :: rest))) : W p l e R s m args below meth c H locs cells slots Q (F0 m pc ls (.ref h :: rest)) :=
  va_get (D := D) (ci := 1) (v := .ref (a 2)) (C := RX1) (T := TX1) (N := 9) K.1 K.2.1 K.2.2.2.2.2.2.1 in_X1 K.2.2.2.2.2.1 K.2.2.2.2.2.2.2.1 B.1 0 rfl rfl 2 (by decide) (K.2.2.2.2.2.2.1 _ q175) (fun _ h9 => h9) rfl hdg kk
theorem m_ald2 (K : g_K p s m args meth c D d z A RX1 cc nL ret) (B : g_B D A (m_w h a d z) s H locs S) (hj : j < 36) (hdg : decode cc pc = .ok (.iaload, 1)) (kk : W p l e R s m args below meth c H locs cells slots Q (F0 m (pc + 1) ls (.int (S 2 j) :: rest))) : W p l e R s m args below meth c H locs cells slots Q (F0 m pc ls (.int (nI j) :: .ref (a 2) :: rest)) := by
  refine va_iald K.1 K.2.1 K.2.2.2.2.2.2.2.1 B.1 3 0 rfl rfl (vp_in_nI hj (by decide)) hdg ?_
  rw [nI_clamp (by omega)]
  exact kk
theorem m_ast2 (K : g_K p s m args meth c D d z A RX1 cc nL ret) (B : g_B D A (m_w h a d z) s H locs S) (hj : j < 36) (hdg : decode cc pc = .ok (.iastore, 1)) (kk : ∀ (H1 : Heap) (locs1 : List Loc), g_B D A (m_w h a d z) s H1 locs1 (up2 S 2 j v) → W p l e R s m args below meth c H1 locs1 cells slots Q (F0 m (pc + 1) ls rest)) : W p l e R s m args below meth c H locs cells slots Q (F0 m pc ls (.int v :: .int (nI j) :: .ref (a 2) :: rest)) := by
  refine va_iast K.1 K.2.1 K.2.2.2.2.2.2.2.1 B.1 B.2.1 B.2.2 3 0 rfl rfl (vp_in_nI hj (by decide)) hdg (fun H1 locs1 hP hD hS => ?_)
  rw [nI_clamp (by omega)] at hP hD
  exact kk H1 locs1 ⟨hP, hD, hS⟩
theorem m_get3 (K : g_K p s m args meth c D d z A RX1 cc nL ret) (B : g_B D A (m_w h a d z) s H locs S) (hdg : decode cc pc = .ok (.getfield 34, 3)) (kk : W p l e R s m args below meth c H locs cells slots Q (F0 m (pc + 3) ls (.int (S 3 0) :: rest))) : W p l e R s m args below meth c H locs cells slots Q (F0 m pc ls (.ref h :: rest)) :=
  va_get (D := D) (ci := 1) (v := .int (S 3 0)) (C := RX1) (T := TX1) (N := 9) K.1 K.2.1 K.2.2.2.2.2.2.1 in_X1 K.2.2.2.2.2.1 K.2.2.2.2.2.2.2.1 B.1 0 rfl rfl 3 (by decide) (K.2.2.2.2.2.2.1 _ q176) (fun _ h9 => h9) rfl hdg kk
theorem m_put3 (K : g_K p s m args meth c D d z A RX1 cc nL ret) (B : g_B D A (m_w h a d z) s H locs S) (hdg : decode cc pc = .ok (.putfield 34, 3)) (kk : ∀ (H1 : Heap) (locs1 : List Loc), g_B D A (m_w h a d z) s H1 locs1 (up2 S 3 0 v) → W p l e R s m args below meth c H1 locs1 cells slots Q (F0 m (pc + 3) ls rest)) : W p l e R s m args below meth c H locs cells slots Q (F0 m pc ls (.int v :: .ref h :: rest)) :=
  va_put (D := D) (ci := 1) (v := .int v) (ty := .int) (C := RX1) (T := TX1) (N := 9) K.1 K.2.1 K.2.2.2.2.2.2.1 in_X1 tyX1 tyX1_ok nmX1 K.2.2.2.2.2.1 K.2.2.2.2.2.2.2.1 B.1 B.2.1 B.2.2 0 rfl rfl 3 (by decide) (K.2.2.2.2.2.2.1 _ q176) (fun _ h9 => h9) rfl (by decide +kernel) rfl rfl (Nat.le_of_ble_eq_true rfl) hdg (fun H1 locs1 hP hD hS => kk H1 locs1 ⟨hP, hD, hS⟩)
theorem m_get4 (K : g_K p s m args meth c D d z A RX1 cc nL ret) (B : g_B D A (m_w h a d z) s H locs S) (hdg : decode cc pc = .ok (.getfield 19, 3)) (kk : W p l e R s m args below meth c H locs cells slots Q (F0 m (pc + 3) ls (.ref (a 4) :: rest))) : W p l e R s m args below meth c H locs cells slots Q (F0 m pc ls (.ref h :: rest)) :=
  va_get (D := D) (ci := 1) (v := .ref (a 4)) (C := RX1) (T := TX1) (N := 9) K.1 K.2.1 K.2.2.2.2.2.2.1 in_X1 K.2.2.2.2.2.1 K.2.2.2.2.2.2.2.1 B.1 0 rfl rfl 4 (by decide) (K.2.2.2.2.2.2.1 _ q177) (fun _ h9 => h9) rfl hdg kk
theorem m_ald4 (K : g_K p s m args meth c D d z A RX1 cc nL ret) (B : g_B D A (m_w h a d z) s H locs S) (hj : j < 12) (hdg : decode cc pc = .ok (.iaload, 1)) (kk : W p l e R s m args below meth c H locs cells slots Q (F0 m (pc + 1) ls (.int (S 4 j) :: rest))) : W p l e R s m args below meth c H locs cells slots Q (F0 m pc ls (.int (nI j) :: .ref (a 4) :: rest)) := by
  refine va_iald K.1 K.2.1 K.2.2.2.2.2.2.2.1 B.1 4 0 rfl rfl (vp_in_nI hj (by decide)) hdg ?_
  rw [nI_clamp (by omega)]
  exact kk
theorem m_ast4 (K : g_K p s m args meth c D d z A RX1 cc nL ret) (B : g_B D A (m_w h a d z) s H locs S) (hj : j < 12) (hdg : decode cc pc = .ok (.iastore, 1)) (kk : ∀ (H1 : Heap) (locs1 : List Loc), g_B D A (m_w h a d z) s H1 locs1 (up2 S 4 j v) → W p l e R s m args below meth c H1 locs1 cells slots Q (F0 m (pc + 1) ls rest)) : W p l e R s m args below meth c H locs cells slots Q (F0 m pc ls (.int v :: .int (nI j) :: .ref (a 4) :: rest)) := by
  refine va_iast K.1 K.2.1 K.2.2.2.2.2.2.2.1 B.1 B.2.1 B.2.2 4 0 rfl rfl (vp_in_nI hj (by decide)) hdg (fun H1 locs1 hP hD hS => ?_)
  rw [nI_clamp (by omega)] at hP hD
  exact kk H1 locs1 ⟨hP, hD, hS⟩
theorem m_get5 (K : g_K p s m args meth c D d z A RX1 cc nL ret) (B : g_B D A (m_w h a d z) s H locs S) (hdg : decode cc pc = .ok (.getfield 22, 3)) (kk : W p l e R s m args below meth c H locs cells slots Q (F0 m (pc + 3) ls (.ref (a 5) :: rest))) : W p l e R s m args below meth c H locs cells slots Q (F0 m pc ls (.ref h :: rest)) :=
  va_get (D := D) (ci := 1) (v := .ref (a 5)) (C := RX1) (T := TX1) (N := 9) K.1 K.2.1 K.2.2.2.2.2.2.1 in_X1 K.2.2.2.2.2.1 K.2.2.2.2.2.2.2.1 B.1 0 rfl rfl 5 (by decide) (K.2.2.2.2.2.2.1 _ q178) (fun _ h9 => h9) rfl hdg kk
theorem m_ald5 (K : g_K p s m args meth c D d z A RX1 cc nL ret) (B : g_B D A (m_w h a d z) s H locs S) (hj : j < 2) (hdg : decode cc pc = .ok (.iaload, 1)) (kk : W p l e R s m args below meth c H locs cells slots Q (F0 m (pc + 1) ls (.int (S 5 j) :: rest))) : W p l e R s m args below meth c H locs cells slots Q (F0 m pc ls (.int (nI j) :: .ref (a 5) :: rest)) := by
  refine va_iald K.1 K.2.1 K.2.2.2.2.2.2.2.1 B.1 5 0 rfl rfl (vp_in_nI hj (by decide)) hdg ?_
  rw [nI_clamp (by omega)]
  exact kk
theorem m_ast5 (K : g_K p s m args meth c D d z A RX1 cc nL ret) (B : g_B D A (m_w h a d z) s H locs S) (hj : j < 2) (hdg : decode cc pc = .ok (.iastore, 1)) (kk : ∀ (H1 : Heap) (locs1 : List Loc), g_B D A (m_w h a d z) s H1 locs1 (up2 S 5 j v) → W p l e R s m args below meth c H1 locs1 cells slots Q (F0 m (pc + 1) ls rest)) : W p l e R s m args below meth c H locs cells slots Q (F0 m pc ls (.int v :: .int (nI j) :: .ref (a 5) :: rest)) := by
  refine va_iast K.1 K.2.1 K.2.2.2.2.2.2.2.1 B.1 B.2.1 B.2.2 5 0 rfl rfl (vp_in_nI hj (by decide)) hdg (fun H1 locs1 hP hD hS => ?_)
  rw [nI_clamp (by omega)] at hP hD
  exact kk H1 locs1 ⟨hP, hD, hS⟩
theorem m_get6 (K : g_K p s m args meth c D d z A RX1 cc nL ret) (B : g_B D A (m_w h a d z) s H locs S) (hdg : decode cc pc = .ok (.getfield 25, 3)) (kk : W p l e R s m args below meth c H locs cells slots Q (F0 m (pc + 3) ls (.ref (a 6) :: rest))) : W p l e R s m args below meth c H locs cells slots Q (F0 m pc ls (.ref h :: rest)) :=
  va_get (D := D) (ci := 1) (v := .ref (a 6)) (C := RX1) (T := TX1) (N := 9) K.1 K.2.1 K.2.2.2.2.2.2.1 in_X1 K.2.2.2.2.2.1 K.2.2.2.2.2.2.2.1 B.1 0 rfl rfl 6 (by decide) (K.2.2.2.2.2.2.1 _ q179) (fun _ h9 => h9) rfl hdg kk
theorem m_ald6 (K : g_K p s m args meth c D d z A RX1 cc nL ret) (B : g_B D A (m_w h a d z) s H locs S) (hj : j < 2) (hdg : decode cc pc = .ok (.iaload, 1)) (kk : W p l e R s m args below meth c H locs cells slots Q (F0 m (pc + 1) ls (.int (S 6 j) :: rest))) : W p l e R s m args below meth c H locs cells slots Q (F0 m pc ls (.int (nI j) :: .ref (a 6) :: rest)) := by
  refine va_iald K.1 K.2.1 K.2.2.2.2.2.2.2.1 B.1 6 0 rfl rfl (vp_in_nI hj (by decide)) hdg ?_
  rw [nI_clamp (by omega)]
  exact kk
theorem m_ast6 (K : g_K p s m args meth c D d z A RX1 cc nL ret) (B : g_B D A (m_w h a d z) s H locs S) (hj : j < 2) (hdg : decode cc pc = .ok (.iastore, 1)) (kk : ∀ (H1 : Heap) (locs1 : List Loc), g_B D A (m_w h a d z) s H1 locs1 (up2 S 6 j v) → W p l e R s m args below meth c H1 locs1 cells slots Q (F0 m (pc + 1) ls rest)) : W p l e R s m args below meth c H locs cells slots Q (F0 m pc ls (.int v :: .int (nI j) :: .ref (a 6) :: rest)) := by
  refine va_iast K.1 K.2.1 K.2.2.2.2.2.2.2.1 B.1 B.2.1 B.2.2 6 0 rfl rfl (vp_in_nI hj (by decide)) hdg (fun H1 locs1 hP hD hS => ?_)
  rw [nI_clamp (by omega)] at hP hD
  exact kk H1 locs1 ⟨hP, hD, hS⟩
theorem m_get7 (K : g_K p s m args meth c D d z A RX1 cc nL ret) (B : g_B D A (m_w h a d z) s H locs S) (hdg : decode cc pc = .ok (.getfield 28, 3)) (kk : W p l e R s m args below meth c H locs cells slots Q (F0 m (pc + 3) ls (.ref (a 7) :: rest))) : W p l e R s m args below meth c H locs cells slots Q (F0 m pc ls (.ref h :: rest)) :=
  va_get (D := D) (ci := 1) (v := .ref (a 7)) (C := RX1) (T := TX1) (N := 9) K.1 K.2.1 K.2.2.2.2.2.2.1 in_X1 K.2.2.2.2.2.1 K.2.2.2.2.2.2.2.1 B.1 0 rfl rfl 7 (by decide) (K.2.2.2.2.2.2.1 _ q180) (fun _ h9 => h9) rfl hdg kk
theorem m_ald7 (K : g_K p s m args meth c D d z A RX1 cc nL ret) (B : g_B D A (m_w h a d z) s H locs S) (hj : j < 16) (hdg : decode cc pc = .ok (.iaload, 1)) (kk : W p l e R s m args below meth c H locs cells slots Q (F0 m (pc + 1) ls (.int (S 7 j) :: rest))) : W p l e R s m args below meth c H locs cells slots Q (F0 m pc ls (.int (nI j) :: .ref (a 7) :: rest)) := by
  refine va_iald K.1 K.2.1 K.2.2.2.2.2.2.2.1 B.1 7 0 rfl rfl (vp_in_nI hj (by decide)) hdg ?_
  rw [nI_clamp (by omega)]
  exact kk
theorem m_ast7 (K : g_K p s m args meth c D d z A RX1 cc nL ret) (B : g_B D A (m_w h a d z) s H locs S) (hj : j < 16) (hdg : decode cc pc = .ok (.iastore, 1)) (kk : ∀ (H1 : Heap) (locs1 : List Loc), g_B D A (m_w h a d z) s H1 locs1 (up2 S 7 j v) → W p l e R s m args below meth c H1 locs1 cells slots Q (F0 m (pc + 1) ls rest)) : W p l e R s m args below meth c H locs cells slots Q (F0 m pc ls (.int v :: .int (nI j) :: .ref (a 7) :: rest)) := by
  refine va_iast K.1 K.2.1 K.2.2.2.2.2.2.2.1 B.1 B.2.1 B.2.2 7 0 rfl rfl (vp_in_nI hj (by decide)) hdg (fun H1 locs1 hP hD hS => ?_)
  rw [nI_clamp (by omega)] at hP hD
  exact kk H1 locs1 ⟨hP, hD, hS⟩
theorem m_get8 (K : g_K p s m args meth c D d z A RX1 cc nL ret) (B : g_B D A (m_w h a d z) s H locs S) (hdg : decode cc pc = .ok (.getfield 31, 3)) (kk : W p l e R s m args below meth c H locs cells slots Q (F0 m (pc + 3) ls (.ref (a 8) :: rest))) : W p l e R s m args below meth c H locs cells slots Q (F0 m pc ls (.ref h :: rest)) :=
  va_get (D := D) (ci := 1) (v := .ref (a 8)) (C := RX1) (T := TX1) (N := 9) K.1 K.2.1 K.2.2.2.2.2.2.1 in_X1 K.2.2.2.2.2.1 K.2.2.2.2.2.2.2.1 B.1 0 rfl rfl 8 (by decide) (K.2.2.2.2.2.2.1 _ q181) (fun _ h9 => h9) rfl hdg kk
theorem m_ald8 (K : g_K p s m args meth c D d z A RX1 cc nL ret) (B : g_B D A (m_w h a d z) s H locs S) (hj : j < 16) (hdg : decode cc pc = .ok (.iaload, 1)) (kk : W p l e R s m args below meth c H locs cells slots Q (F0 m (pc + 1) ls (.int (S 8 j) :: rest))) : W p l e R s m args below meth c H locs cells slots Q (F0 m pc ls (.int (nI j) :: .ref (a 8) :: rest)) := by
  refine va_iald K.1 K.2.1 K.2.2.2.2.2.2.2.1 B.1 8 0 rfl rfl (vp_in_nI hj (by decide)) hdg ?_
  rw [nI_clamp (by omega)]
  exact kk
theorem m_ast8 (K : g_K p s m args meth c D d z A RX1 cc nL ret) (B : g_B D A (m_w h a d z) s H locs S) (hj : j < 16) (hdg : decode cc pc = .ok (.iastore, 1)) (kk : ∀ (H1 : Heap) (locs1 : List Loc), g_B D A (m_w h a d z) s H1 locs1 (up2 S 8 j v) → W p l e R s m args below meth c H1 locs1 cells slots Q (F0 m (pc + 1) ls rest)) : W p l e R s m args below meth c H locs cells slots Q (F0 m pc ls (.int v :: .int (nI j) :: .ref (a 8) :: rest)) := by
  refine va_iast K.1 K.2.1 K.2.2.2.2.2.2.2.1 B.1 B.2.1 B.2.2 8 0 rfl rfl (vp_in_nI hj (by decide)) hdg (fun H1 locs1 hP hD hS => ?_)
  rw [nI_clamp (by omega)] at hP hD
  exact kk H1 locs1 ⟨hP, hD, hS⟩
end GF
theorem n_m (a b : Nat) : nI a * nI b = nI (a * b) := pk_mul a b
theorem n_d {a b : Nat} (ha : a < 2 ^ 31) (h0 : 0 < b) (hb : b < 2 ^ 31) : nI a / nI b = nI (a / b) := pk_div ha h0 hb
theorem n_m6 (a : Nat) : nI a * 6 = nI (a * 6) := pk_mul a 6
theorem n_m8 (a : Nat) : nI a * 8 = nI (a * 8) := pk_mul a 8
theorem n_m48 (a : Nat) : nI a * 48 = nI (a * 48) := pk_mul a 48
theorem n_a1 (a : Nat) : nI a + 1 = nI (a + 1) := nI_add a 1
theorem n_a2 (a : Nat) : nI a + 2 = nI (a + 2) := nI_add a 2
theorem n_a3 (a : Nat) : nI a + 3 = nI (a + 3) := nI_add a 3
theorem n_a4 (a : Nat) : nI a + 4 = nI (a + 4) := nI_add a 4
theorem n_a7 (a : Nat) : nI a + 7 = nI (a + 7) := nI_add a 7
theorem n_a8 (a : Nat) : nI a + 8 = nI (a + 8) := nI_add a 8
theorem n_d6 {a : Nat} (h : a < 2 ^ 31) : nI a / 6 = nI (a / 6) := pk_div (d := 6) h (by decide) (by decide)
theorem n_r6 {a : Nat} (h : a < 2 ^ 31) : nI a - nI a / 6 * 6 = nI (a % 6) := pk_rem (d := 6) h (by decide) (by decide)
theorem n_d8 {a : Nat} (h : a < 2 ^ 31) : nI a / 8 = nI (a / 8) := pk_div (d := 8) h (by decide) (by decide)
theorem n_r8 {a : Nat} (h : a < 2 ^ 31) : nI a - nI a / 8 * 8 = nI (a % 8) := pk_rem (d := 8) h (by decide) (by decide)
theorem n_s1 {a : Nat} (h : 1 ≤ a) : nI a - 1 = nI (a - 1) := pk_sub (b := 1) h
theorem n_s4 {a : Nat} (h : 4 ≤ a) : nI a - 4 = nI (a - 4) := pk_sub (b := 4) h
theorem n_s8 {a : Nat} (h : 8 ≤ a) : nI a - 8 = nI (a - 8) := pk_sub (b := 8) h
theorem n_i1 (a : Nat) : nI a + Int32.ofInt 1 = nI (a + 1) := by
  rw [show Int32.ofInt 1 = 1 from rfl]
  exact n_a1 a
theorem n_i4 (a : Nat) : nI a + Int32.ofInt 4 = nI (a + 4) := by
  rw [show Int32.ofInt 4 = 4 from rfl]
  exact n_a4 a
theorem n_i8 (a : Nat) : nI a + Int32.ofInt 8 = nI (a + 8) := by
  rw [show Int32.ofInt 8 = 8 from rfl]
  exact n_a8 a
theorem n_k1 (a b : Nat) : nI (a + b) + Int32.ofInt 1 = nI (a + (b + 1)) := n_i1 (a + b)
theorem n_sub1 {a : Nat} (h : 1 ≤ a) : nI a + Int32.ofInt (-1) = nI (a - 1) := by
  obtain ⟨b, rfl⟩ : ∃ b, a = b + 1 := ⟨a - 1, by omega⟩
  rw [show Int32.ofInt (-1) = -1 from rfl]
  exact pk_m1 b
theorem n_sub8 (k r : Nat) : nI ((k + 1) * 8 + r) + Int32.ofInt (-8) = nI (k * 8 + r) := by
  rw [show Int32.ofInt (-8) = -nI 8 from rfl, show (k + 1) * 8 + r = (k * 8 + r) + 8 by omega, ← nI_add]
  grind
theorem n_neg8 {a : Nat} (h : a < 8) : nI a + (-8) < 0 := by
  rw [Int32.lt_iff_toInt_lt, show nI a + (-8) = nI a - nI 8 by rw [show (-8 : Int32) = -nI 8 from rfl]; grind, pk_sub_toInt (by omega) (by decide)]
  have h0 : (0 : Int32).toInt = 0 := rfl
  omega
theorem n_negs8 {a : Nat} (h : a < 8) : nI a - 8 < 0 := by
  rw [Int32.lt_iff_toInt_lt, show nI a - 8 = nI a - nI 8 from rfl, pk_sub_toInt (by omega) (by decide)]
  have h0 : (0 : Int32).toInt = 0 := rfl
  omega
theorem n_neg8i {a : Nat} (h : a < 8) : nI a + Int32.ofInt (-8) < 0 := n_neg8 h
theorem n_ne {k : Nat} (h0 : 0 < k) (h : k < 2 ^ 31) : ¬ nI k = 0 := nI_ne0 h0 h
end
section
/-! what the methods compute, as plain functions of the state (fields by number, places, values) -/
def g_inc (S : g_S) (k i : Nat) (v : Int32) : g_S := up2 S k i (S k i + v)
def g_dec (S : g_S) (k i : Nat) (v : Int32) : g_S := up2 S k i (S k i - v)
def f_bad (hi v : Int32) : Int32 := if v < 0 then 1 else if v ≤ hi then 0 else 1
def f_badI (v : Int32) : Int32 := if v < 0 then 1 else if v < 48 then 0 else 1
def f_tarR (S : g_S) (k : Nat) (p0 p1 : Int32) : Int32 := if p0 < 0 then -4 else if p0 ≤ 5 then (if p1 < 0 then -5 else if p1 ≤ 99 then S k p0.toNatClampNeg else -5) else -4
def f_tarS (S : g_S) (k : Nat) (p0 p1 : Int32) : g_S := if p0 < 0 then S else if p0 ≤ 5 then (if p1 < 0 then S else if p1 ≤ 99 then up2 S k p0.toNatClampNeg p1 else S) else S
/-! the class -/
def x_forget (S : g_S) (ac iv : Nat) : g_S := if S 3 (ac * 48 + iv) = 0 then S else g_dec (g_dec (up2 S 3 (ac * 48 + iv) 0) 6 (ac * 6 + iv / 8) 1) 7 (ac * 6 + iv / 8) (g_dec (up2 S 3 (ac * 48 + iv) 0) 6 (ac * 6 + iv / 8) 1 4 (ac * 48 + iv))
def x_putr (S : g_S) (ac iv : Nat) (v : Int32) : g_S := g_inc (g_inc (up2 (up2 S 3 (ac * 48 + iv) 1) 4 (ac * 48 + iv) v) 6 (ac * 6 + iv / 8) 1) 7 (ac * 6 + iv / 8) v
def x_mean (S : g_S) (ac q : Nat) : Int32 := if S 6 (ac * 6 + q) ≤ 0 then 0 else S 7 (ac * 6 + q) / S 6 (ac * 6 + q)
def x_look (S : g_S) (ac iv r : Nat) : Nat → Int32
  | 0 => if S 3 (ac * 48 + (0 * 8 + r)) = 0 then x_mean S ac (iv / 8) else S 4 (ac * 48 + (0 * 8 + r))
  | k + 1 => if S 3 (ac * 48 + ((k + 1) * 8 + r)) = 0 then x_look S ac iv r k else S 4 (ac * 48 + ((k + 1) * 8 + r))
def x_rule (S : g_S) (ac iv : Nat) : Int32 := x_look S ac iv (iv % 8) (iv / 8)
def x_most (S : g_S) (st : Nat) : Nat → Int32
  | 0 => 0
  | n + 1 => if S 5 (st + n) ≤ x_most S st n then x_most S st n else S 5 (st + n)
def x_resc (S : g_S) (cell : Nat) : g_S := up2 S 11 cell (x_most S (cell / 6 * 48 + cell % 6 * 8) 8)
def x_band (S : g_S) (cell slot : Nat) (v : Int32) : g_S := if 3 ≤ slot then (if 5 ≤ slot then g_inc S 10 cell v else g_inc S 9 cell v) else g_inc S 8 cell v
def x_grt (S : g_S) (cell : Nat) (now before : Int32) : g_S := if now < S 11 cell then (if before = S 11 cell then x_resc S cell else S) else up2 S 11 cell now
def x_upd (S : g_S) (ac iv : Nat) : g_S := if x_rule S ac iv = S 5 (ac * 48 + iv) then S else x_grt (x_band (up2 S 5 (ac * 48 + iv) (x_rule S ac iv)) (ac * 6 + iv / 8) (iv % 8) (x_rule S ac iv - S 5 (ac * 48 + iv))) (ac * 6 + iv / 8) (x_rule S ac iv) (S 5 (ac * 48 + iv))
def x_own (S : g_S) (ac P : Nat) : Nat → g_S
  | 0 => S
  | n + 1 => x_upd (x_own S ac P n) ac (P * 8 + n)
def x_chain (ac r : Nat) : Nat → g_S → g_S
  | 0, S => S
  | k + 1, S => if S 3 (ac * 48 + ((5 - k) * 8 + r)) = 0 then x_chain ac r k (x_upd S ac ((5 - k) * 8 + r)) else S
def x_item (S : g_S) (p i : Nat) : Int32 := if S 2 0 ≤ nI p then S 0 i else S 1 (p * 6 + i)
def f_ab (t : Int32) : Int32 := if t ≤ 2000 then 0 else t - 2000
def f_least (amt least : Int32) : Int32 := if least ≤ amt then amt else least
def x_rate (S : g_S) (ac p : Nat) : Int32 := f_least (S 8 (ac * 6 + p) * x_item S p 0 + S 9 (ac * 6 + p) * x_item S p 1 + S 10 (ac * 6 + p) * x_item S p 2 + S 11 (ac * 6 + p) * x_item S p 3 + f_ab (S 8 (ac * 6 + p) + S 9 (ac * 6 + p) + S 10 (ac * 6 + p)) * x_item S p 4) (x_item S p 5 * 1000)
def f_ix (c : Int32) : Nat := (c &&& 7).toNatClampNeg
def x_add (S : g_S) (ac p : Nat) (amt : Int32) : g_S := g_inc (g_inc (up2 (up2 S 15 (ac * 8 + f_ix (S 14 ac)) amt) 16 (ac * 8 + f_ix (S 14 ac)) (nI p)) 13 ac amt) 14 ac 1
def x_rebS (S : g_S) (ac p : Nat) : g_S := if x_rate S ac p = S 12 (ac * 6 + p) then S else up2 (x_add (x_add S ac p (-(S 12 (ac * 6 + p)))) ac p (x_rate S ac p)) 12 (ac * 6 + p) (x_rate S ac p)
def x_rebR (S : g_S) (ac p : Nat) : Int32 := if x_rate S ac p = S 12 (ac * 6 + p) then 0 else 1
def x_rbS (ac : Nat) : Nat → Nat → g_S → g_S
  | 0, _, S => S
  | k + 1, p, S => x_rbS ac k (p + 1) (x_rebS S ac p)
def x_rbR (ac : Nat) : Nat → Nat → g_S → Int32 → Int32
  | 0, _, _, n => n
  | k + 1, p, S, n => x_rbR ac k (p + 1) (x_rebS S ac p) (if x_rebR S ac p = 0 then n else n + 1)
def x_used (S : g_S) (ac iv : Nat) : g_S := x_chain ac (iv % 8) (5 - iv / 8) (x_own S ac (iv / 8) 8)
def x_refS (S : g_S) (ac iv c : Nat) : g_S := x_rbS ac (c - iv / 8) (iv / 8) (x_used S ac iv)
def x_refR (S : g_S) (ac iv c : Nat) : Int32 := x_rbR ac (c - iv / 8) (iv / 8) (x_used S ac iv) 0
def x_copy (S : g_S) (p : Nat) : Nat → g_S
  | 0 => S
  | n + 1 => up2 (x_copy S p n) 1 (p * 6 + n) (x_copy S p n 0 n)
def x_bill (S : g_S) (ac p : Nat) : g_S := x_add (up2 S 12 (ac * 6 + p) (x_rate S ac p)) ac p (x_rate S ac p)
def x_clS (S : g_S) (c : Nat) : g_S := if c < 6 then x_bill (x_bill (up2 (x_copy S c 6) 2 0 (nI (c + 1))) 0 c) 1 c else S
def f_clR (c : Nat) : Int32 := if c < 6 then nI c else -6
def x_rdR (S : g_S) (c : Nat) (p0 p1 p2 : Int32) : Int32 := if f_bad 1 p0 = 0 then (if f_badI p1 = 0 then (if p2 < 0 then -3 else if p2 ≤ 999 then x_refR (x_putr (x_forget S p0.toNatClampNeg p1.toNatClampNeg) p0.toNatClampNeg p1.toNatClampNeg p2) p0.toNatClampNeg p1.toNatClampNeg c else -3) else -2) else -1
def x_rdS (S : g_S) (c : Nat) (p0 p1 p2 : Int32) : g_S := if f_bad 1 p0 = 0 then (if f_badI p1 = 0 then (if p2 < 0 then S else if p2 ≤ 999 then x_refS (x_putr (x_forget S p0.toNatClampNeg p1.toNatClampNeg) p0.toNatClampNeg p1.toNatClampNeg p2) p0.toNatClampNeg p1.toNatClampNeg c else S) else S) else S
def x_urR (S : g_S) (c : Nat) (p0 p1 : Int32) : Int32 := if f_bad 1 p0 = 0 then (if f_badI p1 = 0 then (if S 3 (p0.toNatClampNeg * 48 + p1.toNatClampNeg) = 0 then -7 else x_refR (x_forget S p0.toNatClampNeg p1.toNatClampNeg) p0.toNatClampNeg p1.toNatClampNeg c) else -2) else -1
def x_urS (S : g_S) (c : Nat) (p0 p1 : Int32) : g_S := if f_bad 1 p0 = 0 then (if f_badI p1 = 0 then (if S 3 (p0.toNatClampNeg * 48 + p1.toNatClampNeg) = 0 then S else x_refS (x_forget S p0.toNatClampNeg p1.toNatClampNeg) p0.toNatClampNeg p1.toNatClampNeg c) else S) else S
def x_usR (S : g_S) (p0 p1 : Int32) : Int32 := if f_bad 1 p0 = 0 then (if f_badI p1 = 0 then S 5 (p0.toNatClampNeg * 48 + p1.toNatClampNeg) else -2) else -1
def x_amR (S : g_S) (p0 p1 : Int32) : Int32 := if f_bad 1 p0 = 0 then (if p1 < 0 then -8 else if p1 < 6 then (if S 2 0 ≤ p1 then x_rate S p0.toNatClampNeg p1.toNatClampNeg else S 12 (p0.toNatClampNeg * 6 + p1.toNatClampNeg)) else -8) else -1
/-- an account's number out of field k, or e -/
def f_acc (S : g_S) (k : Nat) (e p0 : Int32) : Int32 := if f_bad 1 p0 = 0 then S k p0.toNatClampNeg else e
def f_noL (S : g_S) (k : Nat) (p0 p1 : Int32) : Int32 := if f_bad 1 p0 = 0 then (if p1 < 0 then 1 else if 7 < p1 then 1 else if p1 < S k p0.toNatClampNeg then 0 else 1) else 1
def x_lnR (S : g_S) (k : Nat) (e p0 p1 : Int32) : Int32 := if f_noL S 14 p0 p1 = 0 then S k (p0.toNatClampNeg * 8 + f_ix (S 14 p0.toNatClampNeg - 1 - p1)) else e
/-! the model -/
def m_sh (M : g_S) (ac : Nat) : Nat → g_S
  | 0 => M
  | n + 1 => up2 (up2 (m_sh M ac n) 7 (ac * 8 + (7 - n)) (m_sh M ac n 7 (ac * 8 + (7 - n) - 1))) 8 (ac * 8 + (7 - n)) (up2 (m_sh M ac n) 7 (ac * 8 + (7 - n)) (m_sh M ac n 7 (ac * 8 + (7 - n) - 1)) 8 (ac * 8 + (7 - n) - 1))
def m_line (M : g_S) (ac p : Nat) (amt : Int32) : g_S := g_inc (g_inc (up2 (up2 (m_sh M ac 7) 7 (ac * 8) amt) 8 (ac * 8) (nI p)) 5 ac 1) 6 ac amt
def m_sum (M : g_S) (ac q : Nat) : Nat → Int32
  | 0 => 0
  | n + 1 => if n / 8 = q then (if M 0 (ac * 48 + n) < 0 then m_sum M ac q n else m_sum M ac q n + M 0 (ac * 48 + n)) else m_sum M ac q n
def m_cnt (M : g_S) (ac q : Nat) : Nat → Nat
  | 0 => 0
  | n + 1 => if n / 8 = q then (if M 0 (ac * 48 + n) < 0 then m_cnt M ac q n else m_cnt M ac q n + 1) else m_cnt M ac q n
def m_mean (M : g_S) (ac q : Nat) : Int32 := if m_cnt M ac q 48 = 0 then 0 else m_sum M ac q 48 / nI (m_cnt M ac q 48)
def m_look (M : g_S) (ac iv r : Nat) : Nat → Int32
  | 0 => if M 0 (ac * 48 + (0 * 8 + r)) < 0 then m_mean M ac (iv / 8) else M 0 (ac * 48 + (0 * 8 + r))
  | k + 1 => if M 0 (ac * 48 + ((k + 1) * 8 + r)) < 0 then m_look M ac iv r k else M 0 (ac * 48 + ((k + 1) * 8 + r))
def m_use (M : g_S) (ac iv : Nat) : Int32 := m_look M ac iv (iv % 8) (iv / 8)
def m_usR (M : g_S) (p0 p1 : Int32) : Int32 := if f_bad 1 p0 = 0 then (if f_bad 47 p1 = 0 then m_use M p0.toNatClampNeg p1.toNatClampNeg else -2) else -1
def m_item (M : g_S) (p i : Nat) : Int32 := if M 3 0 ≤ nI p then M 1 i else M 2 (p * 6 + i)
def f_bi (n : Nat) : Nat := if 3 ≤ n then (if 5 ≤ n then 2 else 1) else 0
def m_am (M : g_S) (ac p : Nat) : Nat → Int32
  | 0 => 0
  | n + 1 => m_am M ac p n + m_use M ac (p * 8 + n) * m_item M p (f_bi n)
def m_mo (M : g_S) (ac p : Nat) : Nat → Int32
  | 0 => 0
  | n + 1 => if m_use M ac (p * 8 + n) ≤ m_mo M ac p n then m_mo M ac p n else m_use M ac (p * 8 + n)
def m_su (M : g_S) (ac p : Nat) : Nat → Int32
  | 0 => 0
  | n + 1 => m_su M ac p n + m_use M ac (p * 8 + n)
def f_over (a t i : Int32) : Int32 := if t ≤ 2000 then a else a + (t - 2000) * i
def m_amt (M : g_S) (ac p : Nat) : Int32 := f_least (f_over (m_am M ac p 8 + m_mo M ac p 8 * m_item M p 3) (m_su M ac p 8) (m_item M p 4)) (m_item M p 5 * 1000)
def m_amR (M : g_S) (p0 p1 : Int32) : Int32 := if f_bad 1 p0 = 0 then (if p1 < 0 then -8 else if p1 ≤ 5 then m_amt M p0.toNatClampNeg p1.toNatClampNeg else -8) else -1
def m_rebS (M : g_S) (ac p : Nat) : g_S := if m_amt M ac p = M 4 (ac * 6 + p) then M else up2 (m_line (m_line M ac p (-(M 4 (ac * 6 + p)))) ac p (m_amt M ac p)) 4 (ac * 6 + p) (m_amt M ac p)
def m_rebR (M : g_S) (ac p : Nat) : Int32 := if m_amt M ac p = M 4 (ac * 6 + p) then 0 else 1
def m_rbS (ac : Nat) : Nat → Nat → g_S → g_S
  | 0, _, M => M
  | k + 1, p, M => m_rbS ac k (p + 1) (m_rebS M ac p)
def m_rbR (ac : Nat) : Nat → Nat → g_S → Int32 → Int32
  | 0, _, _, n => n
  | k + 1, p, M, n => m_rbR ac k (p + 1) (m_rebS M ac p) (if m_amt M ac p = M 4 (ac * 6 + p) then n else n + 1)
def m_copy (M : g_S) (p : Nat) : Nat → g_S
  | 0 => M
  | n + 1 => up2 (m_copy M p n) 2 (p * 6 + n) (m_copy M p n 1 n)
def m_bill (M : g_S) (ac p : Nat) : g_S := m_line (up2 M 4 (ac * 6 + p) (m_amt M ac p)) ac p (m_amt M ac p)
def m_clS (M : g_S) (c : Nat) : g_S := if c < 6 then m_bill (m_bill (up2 (m_copy M c 6) 3 0 (nI (c + 1))) 0 c) 1 c else M
def m_rdR (M : g_S) (c : Nat) (p0 p1 p2 : Int32) : Int32 := if f_bad 1 p0 = 0 then (if f_bad 47 p1 = 0 then (if p2 < 0 then -3 else if p2 ≤ 999 then m_rbR p0.toNatClampNeg c 0 (up2 M 0 (p0.toNatClampNeg * 48 + p1.toNatClampNeg) p2) 0 else -3) else -2) else -1
def m_rdS (M : g_S) (c : Nat) (p0 p1 p2 : Int32) : g_S := if f_bad 1 p0 = 0 then (if f_bad 47 p1 = 0 then (if p2 < 0 then M else if p2 ≤ 999 then m_rbS p0.toNatClampNeg c 0 (up2 M 0 (p0.toNatClampNeg * 48 + p1.toNatClampNeg) p2) else M) else M) else M
def m_urR (M : g_S) (c : Nat) (p0 p1 : Int32) : Int32 := if f_bad 1 p0 = 0 then (if f_bad 47 p1 = 0 then (if 0 ≤ M 0 (p0.toNatClampNeg * 48 + p1.toNatClampNeg) then m_rbR p0.toNatClampNeg c 0 (up2 M 0 (p0.toNatClampNeg * 48 + p1.toNatClampNeg) (-1)) 0 else -7) else -2) else -1
def m_urS (M : g_S) (c : Nat) (p0 p1 : Int32) : g_S := if f_bad 1 p0 = 0 then (if f_bad 47 p1 = 0 then (if 0 ≤ M 0 (p0.toNatClampNeg * 48 + p1.toNatClampNeg) then m_rbS p0.toNatClampNeg c 0 (up2 M 0 (p0.toNatClampNeg * 48 + p1.toNatClampNeg) (-1)) else M) else M) else M
def m_lnR (M : g_S) (k : Nat) (e p0 p1 : Int32) : Int32 := if f_noL M 5 p0 p1 = 0 then M k (p0.toNatClampNeg * 8 + p1.toNatClampNeg) else e
/-! the checks give natural numbers -/
theorem f_bad1 {v : Int32} (h : f_bad 1 v = 0) : ∃ ac : Nat, ac < 2 ∧ v = nI ac := by
  unfold f_bad at h
  split at h
  · exact absurd h (by decide)
  · rename_i h0
    split at h
    · rename_i h1
      obtain ⟨j, hj, rfl⟩ := nI_of2 (M := 1) (n := 1) rfl h0 h1
      exact ⟨j, by omega, rfl⟩
    · exact absurd h (by decide)
theorem f_bad47 {v : Int32} (h : f_bad 47 v = 0) : ∃ iv : Nat, iv < 48 ∧ v = nI iv := by
  unfold f_bad at h
  split at h
  · exact absurd h (by decide)
  · rename_i h0
    split at h
    · rename_i h1
      obtain ⟨j, hj, rfl⟩ := nI_of2 (M := 47) (n := 47) rfl h0 h1
      exact ⟨j, by omega, rfl⟩
    · exact absurd h (by decide)
theorem f_badI_47 (v : Int32) : f_badI v = f_bad 47 v := by
  have e : v < 48 ↔ v ≤ 47 := by
    rw [Int32.lt_iff_toInt_lt, Int32.le_iff_toInt_le]
    have h1 : (48 : Int32).toInt = 48 := rfl
    have h2 : (47 : Int32).toInt = 47 := rfl
    omega
  unfold f_badI f_bad
  simp only [e]
theorem f_badI48 {v : Int32} (h : f_badI v = 0) : ∃ iv : Nat, iv < 48 ∧ v = nI iv := f_bad47 (by rw [← f_badI_47]; exact h)
theorem f_upto {x : Int32} (M : Int32) (n : Nat) (hM : M.toInt = n) (h : ¬ x < 0) (h5 : x ≤ M) : ∃ j : Nat, j ≤ n ∧ x = nI j := nI_of2 hM h h5
theorem f_cl {n : Nat} (h : n < 2 ^ 31) : (nI n).toNatClampNeg = n := nI_clamp h
theorem f_ix_lt (c : Int32) : f_ix c < 8 ∧ c &&& 7 = nI (f_ix c) := by
  obtain ⟨j, hj, e⟩ := pk_andE c (m := 7) 3 rfl
  unfold f_ix
  rw [e, nI_clamp (by omega)]
  exact ⟨by omega, rfl⟩
theorem f_lt6 {x : Int32} (h0 : ¬ x < 0) (h : x < 6) : ∃ j : Nat, j < 6 ∧ x = nI j := by
  have h5 : x ≤ 5 := by
    rw [Int32.lt_iff_toInt_lt] at h
    rw [Int32.le_iff_toInt_le]
    have h1 : (6 : Int32).toInt = 6 := rfl
    have h2 : (5 : Int32).toInt = 5 := rfl
    omega
  obtain ⟨j, hj, e⟩ := nI_of2 (M := 5) (n := 5) rfl h0 h5
  exact ⟨j, by omega, e⟩
theorem f_noL_ac {S : g_S} {k : Nat} {p0 p1 : Int32} (h : f_noL S k p0 p1 = 0) : ∃ ac : Nat, ac < 2 ∧ p0 = nI ac := by
  unfold f_noL at h
  split at h
  · rename_i h0
    exact f_bad1 h0
  · exact absurd h (by decide)
theorem f_noL_in {S : g_S} {k : Nat} {p0 p1 : Int32} (h : f_noL S k p0 p1 = 0) : ∃ ac b : Nat, ac < 2 ∧ b < 8 ∧ p0 = nI ac ∧ p1 = nI b := by
  obtain ⟨ac, hac, rfl⟩ := f_noL_ac h
  unfold f_noL at h
  split at h
  · split at h
    · exact absurd h (by decide)
    · rename_i h1
      split at h
      · exact absurd h (by decide)
      · rename_i h2
        have h7 : p1 ≤ 7 := by
          rw [Int32.lt_iff_toInt_lt] at h2
          rw [Int32.le_iff_toInt_le]
          omega
        obtain ⟨b, hb, rfl⟩ := nI_of2 (M := 7) (n := 7) rfl h1 h7
        exact ⟨ac, b, hac, by omega, rfl, rfl⟩
  · exact absurd h (by decide)
theorem m_cnt_le (M : g_S) (ac q n : Nat) : m_cnt M ac q n ≤ n := by
  induction n with
  | zero => exact Nat.le_refl 0
  | succ n ih =>
    rw [m_cnt]
    split
    · split <;> omega
    · omega
theorem f_badN {ac : Nat} (h : ac < 2) : f_bad 1 (nI ac) = 0 := by
  rw [f_bad, if_neg (nI_pos (by omega)), if_pos (show nI ac ≤ 1 from (nI_leI (a := ac) (b := 1) (by omega) (by omega)).mpr (by omega))]
theorem f_badN47 {iv : Nat} (h : iv < 48) : f_bad 47 (nI iv) = 0 := by
  rw [f_bad, if_neg (nI_pos (by omega)), if_pos (show nI iv ≤ 47 from (nI_leI (a := iv) (b := 47) (by omega) (by omega)).mpr (by omega))]
theorem m_usR_in (M : g_S) {ac iv : Nat} (hac : ac < 2) (hiv : iv < 48) : m_usR M (nI ac) (nI iv) = m_use M ac iv := by
  rw [m_usR, if_pos (f_badN hac), if_pos (f_badN47 hiv), f_cl (n := ac) (by omega), f_cl (n := iv) (by omega)]
theorem m_amR_in (M : g_S) {ac p : Nat} (hac : ac < 2) (hp : p < 6) : m_amR M (nI ac) (nI p) = m_amt M ac p := by
  rw [m_amR, if_pos (f_badN hac), if_neg (nI_pos (by omega)), if_pos (show nI p ≤ 5 from (nI_leI (a := p) (b := 5) (by omega) (by omega)).mpr (by omega)), f_cl (n := ac) (by omega), f_cl (n := p) (by omega)]
theorem f_bi_lt (n : Nat) : f_bi n < 6 := by
  unfold f_bi
  split
  · split <;> decide
  · decide
end
section
set_option maxRecDepth 100000
set_option maxHeartbeats 4000000
theorem xv_badAccount : GoodIn lw_all (va_wsS RX0 63 yX0_badAccount (ws_ yX0_badAccount cX0_badAccount 1 (some .boolean))) := lw_S q89 q90 q17 q91
theorem xd_badAccount : yX0_badAccount.cls ≠ "java/lang/invoke/MethodHandle" ∧ yX0_badAccount.cls ≠ "java/lang/invoke/VarHandle" ∧ (parseMethodDescriptor yX0_badAccount.desc).map (fun d => d.parameters.length) = some 1 := by decide +kernel
theorem xv_badInterval : GoodIn lw_all (va_wsS RX0 67 yX0_badInterval (ws_ yX0_badInterval cX0_badInterval 1 (some .boolean))) := lw_S q92 q93 q17 q94
theorem xd_badInterval : yX0_badInterval.cls ≠ "java/lang/invoke/MethodHandle" ∧ yX0_badInterval.cls ≠ "java/lang/invoke/VarHandle" ∧ (parseMethodDescriptor yX0_badInterval.desc).map (fun d => d.parameters.length) = some 1 := by decide +kernel
theorem xv_forgetRead : GoodIn lw_all (wsV RX0 70 RX0 yX0_forgetRead (ws_ yX0_forgetRead cX0_forgetRead 5 none)) := lw_V q95 q97 qs0 q17 q98
theorem xd_forgetRead : yX0_forgetRead.cls = RX0 ∧ yX0_forgetRead.cls ≠ "java/lang/invoke/MethodHandle" ∧ yX0_forgetRead.cls ≠ "java/lang/invoke/VarHandle" ∧ (parseMethodDescriptor yX0_forgetRead.desc).map (fun d => d.parameters.length) = some 2 := by decide +kernel
theorem xv_rule : GoodIn lw_all (wsV RX0 85 RX0 yX0_rule (ws_ yX0_rule cX0_rule 5 (some .int))) := lw_V q107 q109 qs3 q17 q110
theorem xd_rule : yX0_rule.cls = RX0 ∧ yX0_rule.cls ≠ "java/lang/invoke/MethodHandle" ∧ yX0_rule.cls ≠ "java/lang/invoke/VarHandle" ∧ (parseMethodDescriptor yX0_rule.desc).map (fun d => d.parameters.length) = some 2 := by decide +kernel
theorem xv_refresh : GoodIn lw_all (wsV RX0 74 RX0 yX0_refresh (ws_ yX0_refresh cX0_refresh 8 (some .int))) := lw_V q99 q101 qs1 q17 q102
theorem xd_refresh : yX0_refresh.cls = RX0 ∧ yX0_refresh.cls ≠ "java/lang/invoke/MethodHandle" ∧ yX0_refresh.cls ≠ "java/lang/invoke/VarHandle" ∧ (parseMethodDescriptor yX0_refresh.desc).map (fun d => d.parameters.length) = some 2 := by decide +kernel
theorem xv_update : GoodIn lw_all (wsV RX0 78 RX0 yX0_update (ws_ yX0_update cX0_update 8 none)) := lw_V q103 q105 qs2 q17 q106
theorem xd_update : yX0_update.cls = RX0 ∧ yX0_update.cls ≠ "java/lang/invoke/MethodHandle" ∧ yX0_update.cls ≠ "java/lang/invoke/VarHandle" ∧ (parseMethodDescriptor yX0_update.desc).map (fun d => d.parameters.length) = some 2 := by decide +kernel
theorem xv_rescan : GoodIn lw_all (wsV RX0 88 RX0 yX0_rescan (ws_ yX0_rescan cX0_rescan 6 none)) := lw_V q111 q113 qs4 q17 q114
theorem xd_rescan : yX0_rescan.cls = RX0 ∧ yX0_rescan.cls ≠ "java/lang/invoke/MethodHandle" ∧ yX0_rescan.cls ≠ "java/lang/invoke/VarHandle" ∧ (parseMethodDescriptor yX0_rescan.desc).map (fun d => d.parameters.length) = some 1 := by decide +kernel
theorem xv_item : GoodIn lw_all (wsV RX0 92 RX0 yX0_item (ws_ yX0_item cX0_item 3 (some .int))) := lw_V q123 q125 qs7 q17 q126
theorem xd_item : yX0_item.cls = RX0 ∧ yX0_item.cls ≠ "java/lang/invoke/MethodHandle" ∧ yX0_item.cls ≠ "java/lang/invoke/VarHandle" ∧ (parseMethodDescriptor yX0_item.desc).map (fun d => d.parameters.length) = some 2 := by decide +kernel
theorem xv_rate : GoodIn lw_all (wsV RX0 95 RX0 yX0_rate (ws_ yX0_rate cX0_rate 10 (some .int))) := lw_V q119 q121 qs6 q17 q122
theorem xd_rate : yX0_rate.cls = RX0 ∧ yX0_rate.cls ≠ "java/lang/invoke/MethodHandle" ∧ yX0_rate.cls ≠ "java/lang/invoke/VarHandle" ∧ (parseMethodDescriptor yX0_rate.desc).map (fun d => d.parameters.length) = some 2 := by decide +kernel
theorem xv_rebill : GoodIn lw_all (wsV RX0 81 RX0 yX0_rebill (ws_ yX0_rebill cX0_rebill 5 (some .boolean))) := lw_V q115 q117 qs5 q17 q118
theorem xd_rebill : yX0_rebill.cls = RX0 ∧ yX0_rebill.cls ≠ "java/lang/invoke/MethodHandle" ∧ yX0_rebill.cls ≠ "java/lang/invoke/VarHandle" ∧ (parseMethodDescriptor yX0_rebill.desc).map (fun d => d.parameters.length) = some 2 := by decide +kernel
theorem xv_addLine : GoodIn lw_all (wsV RX0 98 RX0 yX0_addLine (ws_ yX0_addLine cX0_addLine 5 none)) := lw_V q127 q129 qs8 q17 q130
theorem xd_addLine : yX0_addLine.cls = RX0 ∧ yX0_addLine.cls ≠ "java/lang/invoke/MethodHandle" ∧ yX0_addLine.cls ≠ "java/lang/invoke/VarHandle" ∧ (parseMethodDescriptor yX0_addLine.desc).map (fun d => d.parameters.length) = some 3 := by decide +kernel
theorem xv_noLine : GoodIn lw_all (wsV RX0 102 RX0 yX0_noLine (ws_ yX0_noLine cX0_noLine 3 (some .boolean))) := lw_V q159 q161 qs9 q17 q162
theorem xd_noLine : yX0_noLine.cls = RX0 ∧ yX0_noLine.cls ≠ "java/lang/invoke/MethodHandle" ∧ yX0_noLine.cls ≠ "java/lang/invoke/VarHandle" ∧ (parseMethodDescriptor yX0_noLine.desc).map (fun d => d.parameters.length) = some 2 := by decide +kernel
theorem mv_badAccount : GoodIn lw_all (wsV RX1 46 RX1 yX1_badAccount (ws_ yX1_badAccount cX1_badAccount 2 (some .boolean))) := lw_V q209 q211 qs10 q18 q212
theorem md_badAccount : yX1_badAccount.cls = RX1 ∧ yX1_badAccount.cls ≠ "java/lang/invoke/MethodHandle" ∧ yX1_badAccount.cls ≠ "java/lang/invoke/VarHandle" ∧ (parseMethodDescriptor yX1_badAccount.desc).map (fun d => d.parameters.length) = some 1 := by decide +kernel
theorem mv_badInterval : GoodIn lw_all (wsV RX1 50 RX1 yX1_badInterval (ws_ yX1_badInterval cX1_badInterval 2 (some .boolean))) := lw_V q213 q215 qs11 q18 q216
theorem md_badInterval : yX1_badInterval.cls = RX1 ∧ yX1_badInterval.cls ≠ "java/lang/invoke/MethodHandle" ∧ yX1_badInterval.cls ≠ "java/lang/invoke/VarHandle" ∧ (parseMethodDescriptor yX1_badInterval.desc).map (fun d => d.parameters.length) = some 1 := by decide +kernel
theorem mv_line : GoodIn lw_all (wsV RX1 42 RX1 yX1_line (ws_ yX1_line cX1_line 5 none)) := lw_V q233 q235 qs14 q18 q236
theorem md_line : yX1_line.cls = RX1 ∧ yX1_line.cls ≠ "java/lang/invoke/MethodHandle" ∧ yX1_line.cls ≠ "java/lang/invoke/VarHandle" ∧ (parseMethodDescriptor yX1_line.desc).map (fun d => d.parameters.length) = some 3 := by decide +kernel
theorem mv_rebill : GoodIn lw_all (wsV RX1 53 RX1 yX1_rebill (ws_ yX1_rebill cX1_rebill 6 (some .int))) := lw_V q217 q219 qs12 q18 q220
theorem md_rebill : yX1_rebill.cls = RX1 ∧ yX1_rebill.cls ≠ "java/lang/invoke/MethodHandle" ∧ yX1_rebill.cls ≠ "java/lang/invoke/VarHandle" ∧ (parseMethodDescriptor yX1_rebill.desc).map (fun d => d.parameters.length) = some 1 := by decide +kernel
theorem mv_usage : GoodIn lw_all (wsV RX1 57 RX1 yX1_usage (ws_ yX1_usage cX1_usage 6 (some .int))) := lw_V q225 q226 q227 q18 q228
theorem md_usage : yX1_usage.cls = RX1 ∧ yX1_usage.cls ≠ "java/lang/invoke/MethodHandle" ∧ yX1_usage.cls ≠ "java/lang/invoke/VarHandle" ∧ (parseMethodDescriptor yX1_usage.desc).map (fun d => d.parameters.length) = some 2 := by decide +kernel
theorem mv_rate : GoodIn lw_all (wsV RX1 60 RX1 yX1_rate (ws_ yX1_rate cX1_rate 3 (some .int))) := lw_V q229 q231 qs13 q18 q232
theorem md_rate : yX1_rate.cls = RX1 ∧ yX1_rate.cls ≠ "java/lang/invoke/MethodHandle" ∧ yX1_rate.cls ≠ "java/lang/invoke/VarHandle" ∧ (parseMethodDescriptor yX1_rate.desc).map (fun d => d.parameters.length) = some 2 := by decide +kernel
theorem mv_amount : GoodIn lw_all (wsV RX1 38 RX1 yX1_amount (ws_ yX1_amount cX1_amount 10 (some .int))) := lw_V q221 q222 q223 q18 q224
theorem md_amount : yX1_amount.cls = RX1 ∧ yX1_amount.cls ≠ "java/lang/invoke/MethodHandle" ∧ yX1_amount.cls ≠ "java/lang/invoke/VarHandle" ∧ (parseMethodDescriptor yX1_amount.desc).map (fun d => d.parameters.length) = some 2 := by decide +kernel
theorem mv_noLine : GoodIn lw_all (wsV RX1 63 RX1 yX1_noLine (ws_ yX1_noLine cX1_noLine 3 (some .boolean))) := lw_V q259 q261 qs15 q18 q262
theorem md_noLine : yX1_noLine.cls = RX1 ∧ yX1_noLine.cls ≠ "java/lang/invoke/MethodHandle" ∧ yX1_noLine.cls ≠ "java/lang/invoke/VarHandle" ∧ (parseMethodDescriptor yX1_noLine.desc).map (fun d => d.parameters.length) = some 2 := by decide +kernel
/-! what the class' steps leave alone -/
theorem x_forget_o (S : g_S) (ac iv : Nat) {k : Nat} (h3 : k ≠ 3) (h6 : k ≠ 6) (h7 : k ≠ 7) : x_forget S ac iv k = S k := by
  unfold x_forget
  split
  · rfl
  · simp only [g_dec, up2, h3, h6, h7, if_false]
theorem x_putr_o (S : g_S) (ac iv : Nat) (v : Int32) {k : Nat} (h3 : k ≠ 3) (h4 : k ≠ 4) (h6 : k ≠ 6) (h7 : k ≠ 7) : x_putr S ac iv v k = S k := by
  simp only [x_putr, g_inc, up2, h3, h4, h6, h7, if_false]
theorem x_band_o (S : g_S) (cell slot : Nat) (v : Int32) {k : Nat} (h8 : k ≠ 8) (h9 : k ≠ 9) (h10 : k ≠ 10) : x_band S cell slot v k = S k := by
  unfold x_band
  split
  · split
    · simp only [g_inc, up2, h10, if_false]
    · simp only [g_inc, up2, h9, if_false]
  · simp only [g_inc, up2, h8, if_false]
theorem x_grt_o (S : g_S) (cell : Nat) (now before : Int32) {k : Nat} (h11 : k ≠ 11) : x_grt S cell now before k = S k := by
  unfold x_grt
  split
  · split
    · simp only [x_resc, up2, h11, if_false]
    · rfl
  · simp only [up2, h11, if_false]
theorem x_upd_o (S : g_S) (ac iv : Nat) {k : Nat} (h5 : k ≠ 5) (h8 : k ≠ 8) (h9 : k ≠ 9) (h10 : k ≠ 10) (h11 : k ≠ 11) : x_upd S ac iv k = S k := by
  unfold x_upd
  split
  · rfl
  · rw [x_grt_o _ _ _ _ h11, x_band_o _ _ _ _ h8 h9 h10]
    simp only [up2, h5, if_false]
theorem x_own_o (S : g_S) (ac P : Nat) {k : Nat} (h5 : k ≠ 5) (h8 : k ≠ 8) (h9 : k ≠ 9) (h10 : k ≠ 10) (h11 : k ≠ 11) (n : Nat) : x_own S ac P n k = S k := by
  induction n with
  | zero => rfl
  | succ n ih => rw [x_own, x_upd_o _ _ _ h5 h8 h9 h10 h11, ih]
theorem x_chain_o (ac r : Nat) {k : Nat} (h5 : k ≠ 5) (h8 : k ≠ 8) (h9 : k ≠ 9) (h10 : k ≠ 10) (h11 : k ≠ 11) (n : Nat) (S : g_S) : x_chain ac r n S k = S k := by
  induction n generalizing S with
  | zero => rfl
  | succ n ih =>
    rw [x_chain]
    split
    · rw [ih, x_upd_o _ _ _ h5 h8 h9 h10 h11]
    · rfl
theorem x_used_o (S : g_S) (ac iv : Nat) {k : Nat} (h5 : k ≠ 5) (h8 : k ≠ 8) (h9 : k ≠ 9) (h10 : k ≠ 10) (h11 : k ≠ 11) : x_used S ac iv k = S k := by
  rw [x_used, x_chain_o _ _ h5 h8 h9 h10 h11, x_own_o _ _ _ h5 h8 h9 h10 h11]
theorem x_add_o (S : g_S) (ac p : Nat) (v : Int32) {k : Nat} (h13 : k ≠ 13) (h14 : k ≠ 14) (h15 : k ≠ 15) (h16 : k ≠ 16) : x_add S ac p v k = S k := by
  simp only [x_add, g_inc, up2, h13, h14, h15, h16, if_false]
theorem x_rebS_o (S : g_S) (ac p : Nat) {k : Nat} (h12 : k ≠ 12) (h13 : k ≠ 13) (h14 : k ≠ 14) (h15 : k ≠ 15) (h16 : k ≠ 16) : x_rebS S ac p k = S k := by
  unfold x_rebS
  split
  · rfl
  · rw [up2_o _ _ _ h12, x_add_o _ _ _ _ h13 h14 h15 h16, x_add_o _ _ _ _ h13 h14 h15 h16]
theorem x_copy_o (S : g_S) (p n : Nat) {k : Nat} (h : k ≠ 1) : x_copy S p n k = S k := by
  induction n with
  | zero => rfl
  | succ n ih => rw [x_copy, up2_o _ _ _ h, ih]
/-! what the model's steps leave alone -/
theorem m_sh_o (M : g_S) (ac n : Nat) {k : Nat} (h7 : k ≠ 7) (h8 : k ≠ 8) : m_sh M ac n k = M k := by
  induction n with
  | zero => rfl
  | succ n ih => rw [m_sh, up2_o _ _ _ h8, up2_o _ _ _ h7, ih]
theorem m_line_o (M : g_S) (ac p : Nat) (v : Int32) {k : Nat} (h5 : k ≠ 5) (h6 : k ≠ 6) (h7 : k ≠ 7) (h8 : k ≠ 8) : m_line M ac p v k = M k := by
  simp only [m_line, g_inc]
  rw [up2_o _ _ _ h6, up2_o _ _ _ h5, up2_o _ _ _ h8, up2_o _ _ _ h7, m_sh_o _ _ _ h7 h8]
theorem m_rebS_o (M : g_S) (ac p : Nat) {k : Nat} (h4 : k ≠ 4) (h5 : k ≠ 5) (h6 : k ≠ 6) (h7 : k ≠ 7) (h8 : k ≠ 8) : m_rebS M ac p k = M k := by
  unfold m_rebS
  split
  · rfl
  · rw [up2_o _ _ _ h4, m_line_o _ _ _ _ h5 h6 h7 h8, m_line_o _ _ _ _ h5 h6 h7 h8]
theorem m_copy_o (M : g_S) (p n : Nat) {k : Nat} (h : k ≠ 2) : m_copy M p n k = M k := by
  induction n with
  | zero => rfl
  | succ n ih => rw [m_copy, up2_o _ _ _ h, ih]
end
section
set_option maxRecDepth 100000
set_option maxHeartbeats 4000000
section XW
variable {p : Program} {l : Launch} {e : Env} {s : State} {m : MethodId} {args : Array Value} {below : List Frame} {meth : Method} {c : Code} {D : va_G} {d z : ClassId} {A : Nat → Prop} {h : Nat} {a : Nat → Nat}
theorem xm_badAccount (l : Launch) (D : va_G) (d z : ClassId) (h : Nat) (a : Nat → Nat) (S : g_S) (p0 : Int32) : g_mi l D d z (x_w h a d z) yX0_badAccount cX0_badAccount 1 .boolean 0 0 [.int p0] S (f_bad 1 p0) (S) := by
  refine g_enti (own := RX0) (by decide) rfl (Nat.le_of_ble_eq_true rfl) ?_
  intro p e s m args below meth c A ls K B hl
  have hx := K.1
  have hb := K.2.1
  have hl : lv_has ls 1 [(0, .int p0)] := hl
  refine lv_iload_n hx hb dX0_badAccount_0 rfl (lv_at hl 0 rfl) ?_
  refine lv_if_lt (tgt := 9) hx hb dX0_badAccount_1 (by decide) (fun c1 => ?_) (fun c1 => ?_)
  · refine lv_iconst (v := 1) hx hb dX0_badAccount_9 (by decide) ?_
    refine lv_goto (tgt := 14) hx hb dX0_badAccount_10 (by decide) ?_
    exact g_zret K B rfl (by rw [f_bad, if_pos c1]) (rfl) dX0_badAccount_14
  · refine lv_iload_n hx hb dX0_badAccount_4 rfl (lv_at hl 0 rfl) ?_
    refine lv_iconst (v := 1) hx hb dX0_badAccount_5 (by decide) ?_
    refine lv_icmp_le (tgt := 13) hx hb dX0_badAccount_6 (by decide) (fun c6 => ?_) (fun c6 => ?_)
    · refine lv_iconst (v := 0) hx hb dX0_badAccount_13 (by decide) ?_
      exact g_zret K B rfl (by rw [f_bad, if_neg c1, if_pos c6]) (rfl) dX0_badAccount_14
    · refine lv_iconst (v := 1) hx hb dX0_badAccount_9 (by decide) ?_
      refine lv_goto (tgt := 14) hx hb dX0_badAccount_10 (by decide) ?_
      exact g_zret K B rfl (by rw [f_bad, if_neg c1, if_neg c6]) (rfl) dX0_badAccount_14
theorem xm_badInterval (l : Launch) (D : va_G) (d z : ClassId) (h : Nat) (a : Nat → Nat) (S : g_S) (p0 : Int32) : g_mi l D d z (x_w h a d z) yX0_badInterval cX0_badInterval 1 .boolean 0 0 [.int p0] S (f_badI p0) (S) := by
  refine g_enti (own := RX0) (by decide) rfl (Nat.le_of_ble_eq_true rfl) ?_
  intro p e s m args below meth c A ls K B hl
  have hx := K.1
  have hb := K.2.1
  have hl : lv_has ls 1 [(0, .int p0)] := hl
  refine lv_iload_n hx hb dX0_badInterval_0 rfl (lv_at hl 0 rfl) ?_
  refine lv_if_lt (tgt := 10) hx hb dX0_badInterval_1 (by decide) (fun c1 => ?_) (fun c1 => ?_)
  · refine lv_iconst (v := 1) hx hb dX0_badInterval_10 (by decide) ?_
    refine lv_goto (tgt := 15) hx hb dX0_badInterval_11 (by decide) ?_
    exact g_zret K B rfl (by rw [f_badI, if_pos c1]) (rfl) dX0_badInterval_15
  · refine lv_iload_n hx hb dX0_badInterval_4 rfl (lv_at hl 0 rfl) ?_
    refine lv_bipush (v := 48) hx hb dX0_badInterval_5 (by decide) ?_
    refine lv_icmp_lt (tgt := 14) hx hb dX0_badInterval_7 (by decide) (fun c7 => ?_) (fun c7 => ?_)
    · refine lv_iconst (v := 0) hx hb dX0_badInterval_14 (by decide) ?_
      exact g_zret K B rfl (by rw [f_badI, if_neg c1, if_pos c7]) (rfl) dX0_badInterval_15
    · refine lv_iconst (v := 1) hx hb dX0_badInterval_10 (by decide) ?_
      refine lv_goto (tgt := 15) hx hb dX0_badInterval_11 (by decide) ?_
      exact g_zret K B rfl (by rw [f_badI, if_neg c1, if_neg c7]) (rfl) dX0_badInterval_15
theorem xm_tariff (l : Launch) (D : va_G) (d z : ClassId) (h : Nat) (a : Nat → Nat) (S : g_S) (p0 p1 : Int32) : g_mi l D d z (x_w h a d z) yX0_tariff cX0_tariff 4 .int 0 0 [.ref h, .int p0, .int p1] S (f_tarR S 0 p0 p1) (f_tarS S 0 p0 p1) := by
  refine g_enti (own := RX0) (by decide) rfl (Nat.le_of_ble_eq_true rfl) ?_
  intro p e s m args below meth c A ls K B hl
  have hx := K.1
  have hb := K.2.1
  have hl : lv_has ls 4 [(0, .ref h), (1, .int p0), (2, .int p1)] := hl
  refine lv_iload_n hx hb dX0_tariff_0 rfl (lv_at hl 1 rfl) ?_
  refine lv_if_lt (tgt := 9) hx hb dX0_tariff_1 (by decide) (fun c1 => ?_) (fun c1 => ?_)
  · refine lv_bipush (v := -4) hx hb dX0_tariff_9 (by decide) ?_
    exact g_iret K B (by rw [f_tarR, if_pos c1]) (by rw [f_tarS, if_pos c1]) dX0_tariff_11
  · refine lv_iload_n hx hb dX0_tariff_4 rfl (lv_at hl 1 rfl) ?_
    refine lv_iconst (v := 5) hx hb dX0_tariff_5 (by decide) ?_
    refine lv_icmp_le (tgt := 12) hx hb dX0_tariff_6 (by decide) (fun c6 => ?_) (fun c6 => ?_)
    · refine lv_iload_n hx hb dX0_tariff_12 rfl (lv_at hl 2 rfl) ?_
      refine lv_if_lt (tgt := 22) hx hb dX0_tariff_13 (by decide) (fun c13 => ?_) (fun c13 => ?_)
      · refine lv_bipush (v := -5) hx hb dX0_tariff_22 (by decide) ?_
        exact g_iret K B (by rw [f_tarR, if_neg c1, if_pos c6, if_pos c13]) (by rw [f_tarS, if_neg c1, if_pos c6, if_pos c13]) dX0_tariff_24
      · refine lv_iload_n hx hb dX0_tariff_16 rfl (lv_at hl 2 rfl) ?_
        refine lv_bipush (v := 99) hx hb dX0_tariff_17 (by decide) ?_
        refine lv_icmp_le (tgt := 25) hx hb dX0_tariff_19 (by decide) (fun c19 => ?_) (fun c19 => ?_)
        · obtain ⟨j, hj, rfl⟩ := f_upto 5 5 rfl c1 c6
          refine lv_aload_n hx hb dX0_tariff_25 rfl (lv_at hl 0 rfl) ?_
          refine x_get0 K B dX0_tariff_26 ?_
          refine lv_iload_n hx hb dX0_tariff_29 rfl (lv_at hl 1 rfl) ?_
          refine x_ald0 K B (by omega) dX0_tariff_30 ?_
          refine lv_istore_n (lv' := [(3, .int (S 0 j)), (0, .ref h), (1, .int (nI j)), (2, .int p1)]) hx hb dX0_tariff_31 rfl hl (by decide) rfl (fun ls hl => ?_)
          refine lv_aload_n hx hb dX0_tariff_32 rfl (lv_at hl 1 rfl) ?_
          refine x_get0 K B dX0_tariff_33 ?_
          refine lv_iload_n hx hb dX0_tariff_36 rfl (lv_at hl 2 rfl) ?_
          refine lv_iload_n hx hb dX0_tariff_37 rfl (lv_at hl 3 rfl) ?_
          refine x_ast0 K B (by omega) dX0_tariff_38 (fun H locs B => ?_)
          refine lv_iload_n hx hb dX0_tariff_39 rfl (lv_at hl 0 rfl) ?_
          exact g_iret K B (by rw [f_tarR, if_neg c1, if_pos c6, if_neg c13, if_pos c19, f_cl (n := j) (by omega)]) (by rw [f_tarS, if_neg c1, if_pos c6, if_neg c13, if_pos c19, f_cl (n := j) (by omega)]) dX0_tariff_40
        · refine lv_bipush (v := -5) hx hb dX0_tariff_22 (by decide) ?_
          exact g_iret K B (by rw [f_tarR, if_neg c1, if_pos c6, if_neg c13, if_neg c19]) (by rw [f_tarS, if_neg c1, if_pos c6, if_neg c13, if_neg c19]) dX0_tariff_24
    · refine lv_bipush (v := -4) hx hb dX0_tariff_9 (by decide) ?_
      exact g_iret K B (by rw [f_tarR, if_neg c1, if_neg c6]) (by rw [f_tarS, if_neg c1, if_neg c6]) dX0_tariff_11
theorem xm_forgetRead (l : Launch) (D : va_G) (d z : ClassId) (h : Nat) (a : Nat → Nat) (S : g_S) {ac iv : Nat} (hac : ac < 2) (hiv : iv < 48) : g_mv l D d z (x_w h a d z) yX0_forgetRead cX0_forgetRead 5 0 0 [.ref h, .int (nI ac), .int (nI iv)] S (x_forget S ac iv) := by
  refine g_entv (own := RX0) (by decide) rfl (Nat.le_of_ble_eq_true rfl) ?_
  intro p e s m args below meth c A ls K B hl
  have hx := K.1
  have hb := K.2.1
  have hl : lv_has ls 5 [(0, .ref h), (1, .int (nI ac)), (2, .int (nI iv))] := hl
  refine lv_iload_n hx hb dX0_forgetRead_0 rfl (lv_at hl 1 rfl) ?_
  refine lv_bipush (v := 48) hx hb dX0_forgetRead_1 (by decide) ?_
  refine lv_imul hx hb dX0_forgetRead_3 ?_
  refine tp (n_m48 _) ?_
  refine lv_iload_n hx hb dX0_forgetRead_4 rfl (lv_at hl 2 rfl) ?_
  refine lv_iadd hx hb dX0_forgetRead_5 ?_
  refine tp (nI_add _ _) ?_
  refine lv_istore_n (lv' := [(3, .int (nI (ac * 48 + iv))), (0, .ref h), (1, .int (nI ac)), (2, .int (nI iv))]) hx hb dX0_forgetRead_6 rfl hl (by decide) rfl (fun ls hl => ?_)
  refine lv_aload_n hx hb dX0_forgetRead_7 rfl (lv_at hl 1 rfl) ?_
  refine x_get3 K B dX0_forgetRead_8 ?_
  refine lv_iload_n hx hb dX0_forgetRead_11 rfl (lv_at hl 0 rfl) ?_
  refine x_ald3 K B (by omega) dX0_forgetRead_12 ?_
  refine lv_if_ne (tgt := 17) hx hb dX0_forgetRead_13 (by decide) (fun c13 => ?_) (fun c13 => ?_)
  · refine lv_iload_n hx hb dX0_forgetRead_17 rfl (lv_at hl 2 rfl) ?_
    refine lv_bipush (v := 6) hx hb dX0_forgetRead_18 (by decide) ?_
    refine lv_imul hx hb dX0_forgetRead_20 ?_
    refine tp (n_m6 _) ?_
    refine lv_iload_n hx hb dX0_forgetRead_21 rfl (lv_at hl 3 rfl) ?_
    refine lv_bipush (v := 8) hx hb dX0_forgetRead_22 (by decide) ?_
    refine lv_idiv hx hb dX0_forgetRead_24 (by decide) ?_
    refine tp (n_d8 (by omega)) ?_
    refine lv_iadd hx hb dX0_forgetRead_25 ?_
    refine tp (nI_add _ _) ?_
    refine lv_istore (lv' := [(4, .int (nI (ac * 6 + iv / 8))), (3, .int (nI (ac * 48 + iv))), (0, .ref h), (1, .int (nI ac)), (2, .int (nI iv))]) hx hb dX0_forgetRead_26 hl (by decide) rfl (fun ls hl => ?_)
    refine lv_aload_n hx hb dX0_forgetRead_28 rfl (lv_at hl 2 rfl) ?_
    refine x_get3 K B dX0_forgetRead_29 ?_
    refine lv_iload_n hx hb dX0_forgetRead_32 rfl (lv_at hl 1 rfl) ?_
    refine lv_iconst (v := 0) hx hb dX0_forgetRead_33 (by decide) ?_
    refine x_ast3 K B (by omega) rfl dX0_forgetRead_34 (fun H locs B => ?_)
    refine lv_aload_n hx hb dX0_forgetRead_35 rfl (lv_at hl 2 rfl) ?_
    refine x_get6 K B dX0_forgetRead_36 ?_
    refine lv_iload hx hb dX0_forgetRead_39 (lv_at hl 0 rfl) ?_
    refine lv_dup2_11 hx hb dX0_forgetRead_41 rfl rfl ?_
    refine x_ald6 K B (by omega) dX0_forgetRead_42 ?_
    refine lv_iconst (v := 1) hx hb dX0_forgetRead_43 (by decide) ?_
    refine lv_isub hx hb dX0_forgetRead_44 ?_
    refine x_ast6 K B (by omega) dX0_forgetRead_45 (fun H locs B => ?_)
    refine lv_aload_n hx hb dX0_forgetRead_46 rfl (lv_at hl 2 rfl) ?_
    refine x_get7 K B dX0_forgetRead_47 ?_
    refine lv_iload hx hb dX0_forgetRead_50 (lv_at hl 0 rfl) ?_
    refine lv_dup2_11 hx hb dX0_forgetRead_52 rfl rfl ?_
    refine x_ald7 K B (by omega) dX0_forgetRead_53 ?_
    refine lv_aload_n hx hb dX0_forgetRead_54 rfl (lv_at hl 2 rfl) ?_
    refine x_get4 K B dX0_forgetRead_55 ?_
    refine lv_iload_n hx hb dX0_forgetRead_58 rfl (lv_at hl 1 rfl) ?_
    refine x_ald4 K B (by omega) dX0_forgetRead_59 ?_
    refine lv_isub hx hb dX0_forgetRead_60 ?_
    refine x_ast7 K B (by omega) dX0_forgetRead_61 (fun H locs B => ?_)
    exact g_vret K B (by rw [x_forget, if_neg c13] <;> rfl) dX0_forgetRead_62
  · exact g_vret K B (by rw [x_forget, if_pos c13]) dX0_forgetRead_16
theorem x_rule_loop (K : g_K p s m args meth c D d z A RX0 cX0_rule 5 (some .int)) {R : Room} {S : g_S} {H : Heap} {locs : List Loc} (B : g_B D A (x_w h a d z) s H locs S) {ac iv r : Nat} {v : Int32} (hac : ac < 2) (hiv : iv < 48) (hr : r < 8) : ∀ k : Nat, k * 8 + r ≤ iv → x_look S ac iv r k = v → ∀ ls : Array Slot, lv_has ls 5 [(0, .ref h), (1, .int (nI ac)), (2, .int (nI iv)), (3, .int (nI (k * 8 + r)))] → W p l e R s m args below meth c H locs 0 0 (MQ below (g_Qi D d z (x_w h a d z) A v S) args s 0 0 A) (F0 m 2 ls []) := by
  have hx := K.1
  have hb := K.2.1
  intro k
  induction k with
  | zero =>
    intro hk hv ls hl
    refine lv_iload_n hx hb dX0_rule_2 rfl (lv_at hl 3 rfl) ?_
    refine lv_if_lt (tgt := 38) hx hb dX0_rule_3 (by decide) (fun c3 => ?_) (fun c3 => ?_)
    · exact absurd c3 (nI_pos (by omega))
    · refine lv_aload_n hx hb dX0_rule_6 rfl (lv_at hl 0 rfl) ?_
      refine x_get3 K B dX0_rule_7 ?_
      refine lv_iload_n hx hb dX0_rule_10 rfl (lv_at hl 1 rfl) ?_
      refine lv_bipush (v := 48) hx hb dX0_rule_11 (by decide) ?_
      refine lv_imul hx hb dX0_rule_13 ?_
      refine tp (n_m48 _) ?_
      refine lv_iload_n hx hb dX0_rule_14 rfl (lv_at hl 3 rfl) ?_
      refine lv_iadd hx hb dX0_rule_15 ?_
      refine tp (nI_add _ _) ?_
      refine x_ald3 K B (by omega) dX0_rule_16 ?_
      refine lv_if_eq (tgt := 32) hx hb dX0_rule_17 (by decide) (fun c17 => ?_) (fun c17 => ?_)
      · refine lv_iinc (v := nI (0 * 8 + r) + Int32.ofInt (-8)) (lv' := [(3, .int (nI (0 * 8 + r) + Int32.ofInt (-8))), (0, .ref h), (1, .int (nI ac)), (2, .int (nI iv))]) hx hb dX0_rule_32 hl (k := 3) rfl (rfl) (by decide) rfl (fun ls hl => ?_)
        refine lv_goto (tgt := 2) hx hb dX0_rule_35 (by decide) ?_
        refine lv_iload_n hx hb dX0_rule_2 rfl (lv_at hl 0 rfl) ?_
        refine lv_if_lt (tgt := 38) hx hb dX0_rule_3 (by decide) (fun c3 => ?_) (fun c3 => ?_)
        · refine lv_iload_n hx hb dX0_rule_38 rfl (lv_at hl 2 rfl) ?_
          refine lv_bipush (v := 6) hx hb dX0_rule_39 (by decide) ?_
          refine lv_imul hx hb dX0_rule_41 ?_
          refine tp (n_m6 _) ?_
          refine lv_iload_n hx hb dX0_rule_42 rfl (lv_at hl 3 rfl) ?_
          refine lv_bipush (v := 8) hx hb dX0_rule_43 (by decide) ?_
          refine lv_idiv hx hb dX0_rule_45 (by decide) ?_
          refine tp (n_d8 (by omega)) ?_
          refine lv_iadd hx hb dX0_rule_46 ?_
          refine tp (nI_add _ _) ?_
          refine lv_istore_n (lv' := [(3, .int (nI (ac * 6 + iv / 8))), (0, .ref h), (1, .int (nI ac)), (2, .int (nI iv))]) hx hb dX0_rule_47 rfl hl (by decide) rfl (fun ls hl => ?_)
          refine lv_aload_n hx hb dX0_rule_48 rfl (lv_at hl 1 rfl) ?_
          refine x_get6 K B dX0_rule_49 ?_
          refine lv_iload_n hx hb dX0_rule_52 rfl (lv_at hl 0 rfl) ?_
          refine x_ald6 K B (by omega) dX0_rule_53 ?_
          refine lv_istore (lv' := [(4, .int (S 6 (ac * 6 + iv / 8))), (3, .int (nI (ac * 6 + iv / 8))), (0, .ref h), (1, .int (nI ac)), (2, .int (nI iv))]) hx hb dX0_rule_54 hl (by decide) rfl (fun ls hl => ?_)
          refine lv_iload hx hb dX0_rule_56 (lv_at hl 0 rfl) ?_
          refine lv_if_le (tgt := 73) hx hb dX0_rule_58 (by decide) (fun c58 => ?_) (fun c58 => ?_)
          · refine lv_iconst (v := 0) hx hb dX0_rule_73 (by decide) ?_
            exact g_iret K B (by rw [← hv, x_look, if_pos c17, x_mean, if_pos c58]) (rfl) dX0_rule_74
          · refine lv_aload_n hx hb dX0_rule_61 rfl (lv_at hl 2 rfl) ?_
            refine x_get7 K B dX0_rule_62 ?_
            refine lv_iload_n hx hb dX0_rule_65 rfl (lv_at hl 1 rfl) ?_
            refine x_ald7 K B (by omega) dX0_rule_66 ?_
            refine lv_iload hx hb dX0_rule_67 (lv_at hl 0 rfl) ?_
            refine lv_idiv hx hb dX0_rule_69 (fun q => c58 (by rw [q]; decide)) ?_
            refine lv_goto (tgt := 74) hx hb dX0_rule_70 (by decide) ?_
            exact g_iret K B (by rw [← hv, x_look, if_pos c17, x_mean, if_neg c58]) (rfl) dX0_rule_74
        · exact absurd (n_neg8i (by omega)) c3
      · refine lv_aload_n hx hb dX0_rule_20 rfl (lv_at hl 0 rfl) ?_
        refine x_get4 K B dX0_rule_21 ?_
        refine lv_iload_n hx hb dX0_rule_24 rfl (lv_at hl 1 rfl) ?_
        refine lv_bipush (v := 48) hx hb dX0_rule_25 (by decide) ?_
        refine lv_imul hx hb dX0_rule_27 ?_
        refine tp (n_m48 _) ?_
        refine lv_iload_n hx hb dX0_rule_28 rfl (lv_at hl 3 rfl) ?_
        refine lv_iadd hx hb dX0_rule_29 ?_
        refine tp (nI_add _ _) ?_
        refine x_ald4 K B (by omega) dX0_rule_30 ?_
        exact g_iret K B (by rw [← hv, x_look, if_neg c17]) (rfl) dX0_rule_31
  | succ k ih =>
    intro hk hv ls hl
    refine lv_iload_n hx hb dX0_rule_2 rfl (lv_at hl 3 rfl) ?_
    refine lv_if_lt (tgt := 38) hx hb dX0_rule_3 (by decide) (fun c3 => ?_) (fun c3 => ?_)
    · exact absurd c3 (nI_pos (by omega))
    · refine lv_aload_n hx hb dX0_rule_6 rfl (lv_at hl 0 rfl) ?_
      refine x_get3 K B dX0_rule_7 ?_
      refine lv_iload_n hx hb dX0_rule_10 rfl (lv_at hl 1 rfl) ?_
      refine lv_bipush (v := 48) hx hb dX0_rule_11 (by decide) ?_
      refine lv_imul hx hb dX0_rule_13 ?_
      refine tp (n_m48 _) ?_
      refine lv_iload_n hx hb dX0_rule_14 rfl (lv_at hl 3 rfl) ?_
      refine lv_iadd hx hb dX0_rule_15 ?_
      refine tp (nI_add _ _) ?_
      refine x_ald3 K B (by omega) dX0_rule_16 ?_
      refine lv_if_eq (tgt := 32) hx hb dX0_rule_17 (by decide) (fun c17 => ?_) (fun c17 => ?_)
      · refine lv_iinc (v := nI (k * 8 + r)) (lv' := [(3, .int (nI (k * 8 + r))), (0, .ref h), (1, .int (nI ac)), (2, .int (nI iv))]) hx hb dX0_rule_32 hl (k := 3) rfl (n_sub8 _ _) (by decide) rfl (fun ls hl => ?_)
        refine lv_goto (tgt := 2) hx hb dX0_rule_35 (by decide) ?_
        exact ih (by omega) (by rw [← hv, x_look, if_pos c17]) ls (lv_sub hl [1, 2, 3, 0] rfl)
      · refine lv_aload_n hx hb dX0_rule_20 rfl (lv_at hl 0 rfl) ?_
        refine x_get4 K B dX0_rule_21 ?_
        refine lv_iload_n hx hb dX0_rule_24 rfl (lv_at hl 1 rfl) ?_
        refine lv_bipush (v := 48) hx hb dX0_rule_25 (by decide) ?_
        refine lv_imul hx hb dX0_rule_27 ?_
        refine tp (n_m48 _) ?_
        refine lv_iload_n hx hb dX0_rule_28 rfl (lv_at hl 3 rfl) ?_
        refine lv_iadd hx hb dX0_rule_29 ?_
        refine tp (nI_add _ _) ?_
        refine x_ald4 K B (by omega) dX0_rule_30 ?_
        exact g_iret K B (by rw [← hv, x_look, if_neg c17]) (rfl) dX0_rule_31
theorem xm_rule (l : Launch) (D : va_G) (d z : ClassId) (h : Nat) (a : Nat → Nat) (S : g_S) {ac iv : Nat} (hac : ac < 2) (hiv : iv < 48) : g_mi l D d z (x_w h a d z) yX0_rule cX0_rule 5 .int 0 0 [.ref h, .int (nI ac), .int (nI iv)] S (x_rule S ac iv) (S) := by
  refine g_enti (own := RX0) (by decide) rfl (Nat.le_of_ble_eq_true rfl) ?_
  intro p e s m args below meth c A ls K B hl
  have hx := K.1
  have hb := K.2.1
  have hl : lv_has ls 5 [(0, .ref h), (1, .int (nI ac)), (2, .int (nI iv))] := hl
  refine lv_iload_n hx hb dX0_rule_0 rfl (lv_at hl 2 rfl) ?_
  refine lv_istore_n (lv' := [(3, .int (nI iv)), (0, .ref h), (1, .int (nI ac)), (2, .int (nI iv))]) hx hb dX0_rule_1 rfl hl (by decide) rfl (fun ls hl => ?_)
  exact x_rule_loop K B hac hiv (Nat.mod_lt _ (by decide)) (iv / 8) (by omega) rfl ls (by rw [show iv / 8 * 8 + iv % 8 = iv by omega]; exact (lv_sub hl [1, 2, 3, 0] rfl))
end XW
end
section
set_option maxRecDepth 100000
set_option maxHeartbeats 4000000
section XW
variable {p : Program} {l : Launch} {e : Env} {s : State} {m : MethodId} {args : Array Value} {below : List Frame} {meth : Method} {c : Code} {D : va_G} {d z : ClassId} {A : Nat → Prop} {h : Nat} {a : Nat → Nat}
theorem x_rescan_loop (K : g_K p s m args meth c D d z A RX0 cX0_rescan 6 none) {R : Room} {S : g_S} {H : Heap} {locs : List Loc} (B : g_B D A (x_w h a d z) s H locs S) {cell st : Nat} (hce : cell < 12) (hst : st + 8 ≤ 96) : ∀ n k : Nat, k ≤ 8 → 9 ≤ k + n → ∀ ls : Array Slot, lv_has ls 6 [(0, .ref h), (1, .int (nI cell)), (3, .int (nI st)), (4, .int (x_most S st k)), (5, .int (nI (st + k)))] → W p l e R s m args below meth c H locs 0 0 (MQ below (g_Qv D d z (x_w h a d z) A (up2 S 11 cell (x_most S st 8))) args s 0 0 A) (F0 m 24 ls []) := by
  have hx := K.1
  have hb := K.2.1
  intro n
  induction n with
  | zero =>
    intro k h1 h2
    exact absurd h2 (by omega)
  | succ n ih =>
    intro k hk hkn ls hl
    refine lv_iload hx hb dX0_rescan_24 (lv_at hl 4 rfl) ?_
    refine lv_iload_n hx hb dX0_rescan_26 rfl (lv_at hl 2 rfl) ?_
    refine lv_bipush (v := 8) hx hb dX0_rescan_27 (by decide) ?_
    refine lv_iadd hx hb dX0_rescan_29 ?_
    refine tp (n_a8 _) ?_
    refine lv_icmp_ge (tgt := 60) hx hb dX0_rescan_30 (by decide) (fun c30 => ?_) (fun c30 => ?_)
    · have c30 : st + 8 ≤ st + k := (nI_leI (a := st + 8) (b := st + k) (by omega) (by omega)).mp c30
      obtain rfl : k = 8 := by omega
      refine lv_aload_n hx hb dX0_rescan_60 rfl (lv_at hl 0 rfl) ?_
      refine x_get11 K B dX0_rescan_61 ?_
      refine lv_iload_n hx hb dX0_rescan_64 rfl (lv_at hl 1 rfl) ?_
      refine lv_iload hx hb dX0_rescan_65 (lv_at hl 3 rfl) ?_
      refine x_ast11 K B (by omega) dX0_rescan_67 (fun H locs B => ?_)
      exact g_vret K B (rfl) dX0_rescan_68
    · have c30 : ¬ st + 8 ≤ st + k := fun h9 => c30 ((nI_leI (a := st + 8) (b := st + k) (by omega) (by omega)).mpr h9)
      refine lv_aload_n hx hb dX0_rescan_33 rfl (lv_at hl 0 rfl) ?_
      refine x_get5 K B dX0_rescan_34 ?_
      refine lv_iload hx hb dX0_rescan_37 (lv_at hl 4 rfl) ?_
      refine x_ald5 K B (by omega) dX0_rescan_39 ?_
      refine lv_iload hx hb dX0_rescan_40 (lv_at hl 3 rfl) ?_
      refine lv_icmp_le (tgt := 54) hx hb dX0_rescan_42 (by decide) (fun c42 => ?_) (fun c42 => ?_)
      · refine lv_iinc (v := nI (st + (k + 1))) (lv' := [(5, .int (nI (st + (k + 1)))), (0, .ref h), (1, .int (nI cell)), (3, .int (nI st)), (4, .int (x_most S st k))]) hx hb dX0_rescan_54 hl (k := 4) rfl (n_k1 _ _) (by decide) rfl (fun ls hl => ?_)
        refine lv_goto (tgt := 24) hx hb dX0_rescan_57 (by decide) ?_
        exact ih (k + 1) (by omega) (by omega) ls (by rw [x_most, if_pos c42]; exact (lv_sub hl [1, 2, 3, 4, 0] rfl))
      · refine lv_aload_n hx hb dX0_rescan_45 rfl (lv_at hl 0 rfl) ?_
        refine x_get5 K B dX0_rescan_46 ?_
        refine lv_iload hx hb dX0_rescan_49 (lv_at hl 4 rfl) ?_
        refine x_ald5 K B (by omega) dX0_rescan_51 ?_
        refine lv_istore (lv' := [(4, .int (S 5 (st + k))), (0, .ref h), (1, .int (nI cell)), (3, .int (nI st)), (5, .int (nI (st + k)))]) hx hb dX0_rescan_52 hl (by decide) rfl (fun ls hl => ?_)
        refine lv_iinc (v := nI (st + (k + 1))) (lv' := [(5, .int (nI (st + (k + 1)))), (4, .int (S 5 (st + k))), (0, .ref h), (1, .int (nI cell)), (3, .int (nI st))]) hx hb dX0_rescan_54 hl (k := 4) rfl (n_k1 _ _) (by decide) rfl (fun ls hl => ?_)
        refine lv_goto (tgt := 24) hx hb dX0_rescan_57 (by decide) ?_
        exact ih (k + 1) (by omega) (by omega) ls (by rw [x_most, if_neg c42]; exact (lv_sub hl [2, 3, 4, 1, 0] rfl))
theorem xm_rescan (l : Launch) (D : va_G) (d z : ClassId) (h : Nat) (a : Nat → Nat) (S : g_S) {cell : Nat} (hce : cell < 12) : g_mv l D d z (x_w h a d z) yX0_rescan cX0_rescan 6 0 0 [.ref h, .int (nI cell)] S (x_resc S cell) := by
  refine g_entv (own := RX0) (by decide) rfl (Nat.le_of_ble_eq_true rfl) ?_
  intro p e s m args below meth c A ls K B hl
  have hx := K.1
  have hb := K.2.1
  have hl : lv_has ls 6 [(0, .ref h), (1, .int (nI cell))] := hl
  refine lv_iload_n hx hb dX0_rescan_0 rfl (lv_at hl 1 rfl) ?_
  refine lv_bipush (v := 6) hx hb dX0_rescan_1 (by decide) ?_
  refine lv_idiv hx hb dX0_rescan_3 (by decide) ?_
  refine tp (n_d6 (by omega)) ?_
  refine lv_istore_n (lv' := [(2, .int (nI (cell / 6))), (0, .ref h), (1, .int (nI cell))]) hx hb dX0_rescan_4 rfl hl (by decide) rfl (fun ls hl => ?_)
  refine lv_iload_n hx hb dX0_rescan_5 rfl (lv_at hl 0 rfl) ?_
  refine lv_bipush (v := 48) hx hb dX0_rescan_6 (by decide) ?_
  refine lv_imul hx hb dX0_rescan_8 ?_
  refine tp (n_m48 _) ?_
  refine lv_iload_n hx hb dX0_rescan_9 rfl (lv_at hl 2 rfl) ?_
  refine lv_bipush (v := 6) hx hb dX0_rescan_10 (by decide) ?_
  refine lv_irem hx hb dX0_rescan_12 (by decide) ?_
  refine tp (n_r6 (by omega)) ?_
  refine lv_bipush (v := 8) hx hb dX0_rescan_13 (by decide) ?_
  refine lv_imul hx hb dX0_rescan_15 ?_
  refine tp (n_m8 _) ?_
  refine lv_iadd hx hb dX0_rescan_16 ?_
  refine tp (nI_add _ _) ?_
  refine lv_istore_n (lv' := [(3, .int (nI ((cell / 6) * 48 + (cell % 6) * 8))), (2, .int (nI (cell / 6))), (0, .ref h), (1, .int (nI cell))]) hx hb dX0_rescan_17 rfl hl (by decide) rfl (fun ls hl => ?_)
  refine lv_iconst (v := 0) hx hb dX0_rescan_18 (by decide) ?_
  refine lv_istore (lv' := [(4, .int 0), (3, .int (nI ((cell / 6) * 48 + (cell % 6) * 8))), (2, .int (nI (cell / 6))), (0, .ref h), (1, .int (nI cell))]) hx hb dX0_rescan_19 hl (by decide) rfl (fun ls hl => ?_)
  refine lv_iload_n hx hb dX0_rescan_21 rfl (lv_at hl 1 rfl) ?_
  refine lv_istore (lv' := [(5, .int (nI ((cell / 6) * 48 + (cell % 6) * 8))), (4, .int 0), (3, .int (nI ((cell / 6) * 48 + (cell % 6) * 8))), (2, .int (nI (cell / 6))), (0, .ref h), (1, .int (nI cell))]) hx hb dX0_rescan_22 hl (by decide) rfl (fun ls hl => ?_)
  exact x_rescan_loop K B hce (by omega) 9 0 (by omega) (by omega) ls (lv_sub hl [4, 5, 2, 1, 0] rfl)
theorem xm_item (l : Launch) (D : va_G) (d z : ClassId) (h : Nat) (a : Nat → Nat) (S : g_S) {pd i : Nat} (hp : pd < 6) (hi : i < 6) : g_mi l D d z (x_w h a d z) yX0_item cX0_item 3 .int 0 0 [.ref h, .int (nI pd), .int (nI i)] S (x_item S pd i) (S) := by
  refine g_enti (own := RX0) (by decide) rfl (Nat.le_of_ble_eq_true rfl) ?_
  intro p e s m args below meth c A ls K B hl
  have hx := K.1
  have hb := K.2.1
  have hl : lv_has ls 3 [(0, .ref h), (1, .int (nI pd)), (2, .int (nI i))] := hl
  refine lv_iload_n hx hb dX0_item_0 rfl (lv_at hl 1 rfl) ?_
  refine lv_aload_n hx hb dX0_item_1 rfl (lv_at hl 0 rfl) ?_
  refine x_get2 K B dX0_item_2 ?_
  refine lv_icmp_ge (tgt := 22) hx hb dX0_item_5 (by decide) (fun c5 => ?_) (fun c5 => ?_)
  · refine lv_aload_n hx hb dX0_item_22 rfl (lv_at hl 0 rfl) ?_
    refine x_get0 K B dX0_item_23 ?_
    refine lv_iload_n hx hb dX0_item_26 rfl (lv_at hl 2 rfl) ?_
    refine x_ald0 K B (by omega) dX0_item_27 ?_
    exact g_iret K B (by rw [x_item, if_pos c5]) (rfl) dX0_item_28
  · refine lv_aload_n hx hb dX0_item_8 rfl (lv_at hl 0 rfl) ?_
    refine x_get1 K B dX0_item_9 ?_
    refine lv_iload_n hx hb dX0_item_12 rfl (lv_at hl 1 rfl) ?_
    refine lv_bipush (v := 6) hx hb dX0_item_13 (by decide) ?_
    refine lv_imul hx hb dX0_item_15 ?_
    refine tp (n_m6 _) ?_
    refine lv_iload_n hx hb dX0_item_16 rfl (lv_at hl 2 rfl) ?_
    refine lv_iadd hx hb dX0_item_17 ?_
    refine tp (nI_add _ _) ?_
    refine x_ald1 K B (by omega) dX0_item_18 ?_
    refine lv_goto (tgt := 28) hx hb dX0_item_19 (by decide) ?_
    exact g_iret K B (by rw [x_item, if_neg c5]) (rfl) dX0_item_28
theorem xm_addLine (l : Launch) (D : va_G) (d z : ClassId) (h : Nat) (a : Nat → Nat) (S : g_S) {ac pd : Nat} (hac : ac < 2) (v : Int32) : g_mv l D d z (x_w h a d z) yX0_addLine cX0_addLine 5 0 0 [.ref h, .int (nI ac), .int (nI pd), .int v] S (x_add S ac pd v) := by
  refine g_entv (own := RX0) (by decide) rfl (Nat.le_of_ble_eq_true rfl) ?_
  intro p e s m args below meth c A ls K B hl
  have hx := K.1
  have hb := K.2.1
  have hl : lv_has ls 5 [(0, .ref h), (1, .int (nI ac)), (2, .int (nI pd)), (3, .int v)] := hl
  refine lv_iload_n hx hb dX0_addLine_0 rfl (lv_at hl 1 rfl) ?_
  refine lv_bipush (v := 8) hx hb dX0_addLine_1 (by decide) ?_
  refine lv_imul hx hb dX0_addLine_3 ?_
  refine tp (n_m8 _) ?_
  refine lv_aload_n hx hb dX0_addLine_4 rfl (lv_at hl 0 rfl) ?_
  refine x_get14 K B dX0_addLine_5 ?_
  refine lv_iload_n hx hb dX0_addLine_8 rfl (lv_at hl 1 rfl) ?_
  refine x_ald14 K B (by omega) dX0_addLine_9 ?_
  refine lv_bipush (v := 7) hx hb dX0_addLine_10 (by decide) ?_
  refine lv_iand hx hb dX0_addLine_12 ?_
  have hix := (f_ix_lt (S 14 ac)).1
  refine tp (y := nI (f_ix (S 14 ac))) ((f_ix_lt _).2) ?_
  refine lv_iadd hx hb dX0_addLine_13 ?_
  refine tp (nI_add _ _) ?_
  refine lv_istore (lv' := [(4, .int (nI (ac * 8 + (f_ix (S 14 ac))))), (0, .ref h), (1, .int (nI ac)), (2, .int (nI pd)), (3, .int v)]) hx hb dX0_addLine_14 hl (by decide) rfl (fun ls hl => ?_)
  refine lv_aload_n hx hb dX0_addLine_16 rfl (lv_at hl 1 rfl) ?_
  refine x_get15 K B dX0_addLine_17 ?_
  refine lv_iload hx hb dX0_addLine_20 (lv_at hl 0 rfl) ?_
  refine lv_iload_n hx hb dX0_addLine_22 rfl (lv_at hl 4 rfl) ?_
  refine x_ast15 K B (by omega) dX0_addLine_23 (fun H locs B => ?_)
  refine lv_aload_n hx hb dX0_addLine_24 rfl (lv_at hl 1 rfl) ?_
  refine x_get16 K B dX0_addLine_25 ?_
  refine lv_iload hx hb dX0_addLine_28 (lv_at hl 0 rfl) ?_
  refine lv_iload_n hx hb dX0_addLine_30 rfl (lv_at hl 3 rfl) ?_
  refine x_ast16 K B (by omega) dX0_addLine_31 (fun H locs B => ?_)
  refine lv_aload_n hx hb dX0_addLine_32 rfl (lv_at hl 1 rfl) ?_
  refine x_get13 K B dX0_addLine_33 ?_
  refine lv_iload_n hx hb dX0_addLine_36 rfl (lv_at hl 2 rfl) ?_
  refine lv_dup2_11 hx hb dX0_addLine_37 rfl rfl ?_
  refine x_ald13 K B (by omega) dX0_addLine_38 ?_
  refine lv_iload_n hx hb dX0_addLine_39 rfl (lv_at hl 4 rfl) ?_
  refine lv_iadd hx hb dX0_addLine_40 ?_
  refine x_ast13 K B (by omega) dX0_addLine_41 (fun H locs B => ?_)
  refine lv_aload_n hx hb dX0_addLine_42 rfl (lv_at hl 1 rfl) ?_
  refine x_get14 K B dX0_addLine_43 ?_
  refine lv_iload_n hx hb dX0_addLine_46 rfl (lv_at hl 2 rfl) ?_
  refine lv_dup2_11 hx hb dX0_addLine_47 rfl rfl ?_
  refine x_ald14 K B (by omega) dX0_addLine_48 ?_
  refine lv_iconst (v := 1) hx hb dX0_addLine_49 (by decide) ?_
  refine lv_iadd hx hb dX0_addLine_50 ?_
  refine x_ast14 K B (by omega) dX0_addLine_51 (fun H locs B => ?_)
  exact g_vret K B (rfl) dX0_addLine_52
end XW
end
section
set_option maxRecDepth 100000
set_option maxHeartbeats 4000000
section XW
variable {p : Program} {l : Launch} {e : Env} {s : State} {m : MethodId} {args : Array Value} {below : List Frame} {meth : Method} {c : Code} {D : va_G} {d z : ClassId} {A : Nat → Prop} {h : Nat} {a : Nat → Nat}
theorem xm_rate (l : Launch) (D : va_G) (d z : ClassId) (h : Nat) (a : Nat → Nat) (S : g_S) {ac pd : Nat} (hac : ac < 2) (hp : pd < 6) : g_mi l D d z (x_w h a d z) yX0_rate cX0_rate 10 .int 1 22 [.ref h, .int (nI ac), .int (nI pd)] S (x_rate S ac pd) (S) := by
  refine g_enti (own := RX0) (by decide) rfl (Nat.le_of_ble_eq_true rfl) ?_
  intro p e s m args below meth c A ls K B hl
  have hx := K.1
  have hb := K.2.1
  have hl : lv_has ls 10 [(0, .ref h), (1, .int (nI ac)), (2, .int (nI pd))] := hl
  refine lv_iload_n hx hb dX0_rate_0 rfl (lv_at hl 1 rfl) ?_
  refine lv_bipush (v := 6) hx hb dX0_rate_1 (by decide) ?_
  refine lv_imul hx hb dX0_rate_3 ?_
  refine tp (n_m6 _) ?_
  refine lv_iload_n hx hb dX0_rate_4 rfl (lv_at hl 2 rfl) ?_
  refine lv_iadd hx hb dX0_rate_5 ?_
  refine tp (nI_add _ _) ?_
  refine lv_istore_n (lv' := [(3, .int (nI (ac * 6 + pd))), (0, .ref h), (1, .int (nI ac)), (2, .int (nI pd))]) hx hb dX0_rate_6 rfl hl (by decide) rfl (fun ls hl => ?_)
  refine lv_aload_n hx hb dX0_rate_7 rfl (lv_at hl 1 rfl) ?_
  refine x_get8 K B dX0_rate_8 ?_
  refine lv_iload_n hx hb dX0_rate_11 rfl (lv_at hl 0 rfl) ?_
  refine x_ald8 K B (by omega) dX0_rate_12 ?_
  refine lv_aload_n hx hb dX0_rate_13 rfl (lv_at hl 1 rfl) ?_
  refine lv_iload_n hx hb dX0_rate_14 rfl (lv_at hl 3 rfl) ?_
  refine lv_iconst (v := 0) hx hb dX0_rate_15 (by decide) ?_
  refine tp (y := nI 0) (rfl) ?_
  refine g_calli (av := [.int (nI pd), .int (nI 0)]) (rest := [.int (S 8 (ac * 6 + pd))]) K B (xm_item l D d z h a S hp (by omega)) xv_item xd_item ⟨Nat.le_of_ble_eq_true rfl, Nat.le_of_ble_eq_true rfl⟩ (ci := 0) rfl rfl rfl hl.1 rfl (Nat.le_of_ble_eq_true rfl) dX0_rate_16 (fun H locs B => ?_)
  refine lv_imul hx hb dX0_rate_19 ?_
  refine lv_aload_n hx hb dX0_rate_20 rfl (lv_at hl 1 rfl) ?_
  refine x_get9 K B dX0_rate_21 ?_
  refine lv_iload_n hx hb dX0_rate_24 rfl (lv_at hl 0 rfl) ?_
  refine x_ald9 K B (by omega) dX0_rate_25 ?_
  refine lv_aload_n hx hb dX0_rate_26 rfl (lv_at hl 1 rfl) ?_
  refine lv_iload_n hx hb dX0_rate_27 rfl (lv_at hl 3 rfl) ?_
  refine lv_iconst (v := 1) hx hb dX0_rate_28 (by decide) ?_
  refine tp (y := nI 1) (rfl) ?_
  refine g_calli (av := [.int (nI pd), .int (nI 1)]) (rest := [.int (S 9 (ac * 6 + pd)), .int ((S 8 (ac * 6 + pd)) * (x_item S pd 0))]) K B (xm_item l D d z h a S hp (by omega)) xv_item xd_item ⟨Nat.le_of_ble_eq_true rfl, Nat.le_of_ble_eq_true rfl⟩ (ci := 0) rfl rfl rfl hl.1 rfl (Nat.le_of_ble_eq_true rfl) dX0_rate_29 (fun H locs B => ?_)
  refine lv_imul hx hb dX0_rate_32 ?_
  refine lv_iadd hx hb dX0_rate_33 ?_
  refine lv_aload_n hx hb dX0_rate_34 rfl (lv_at hl 1 rfl) ?_
  refine x_get10 K B dX0_rate_35 ?_
  refine lv_iload_n hx hb dX0_rate_38 rfl (lv_at hl 0 rfl) ?_
  refine x_ald10 K B (by omega) dX0_rate_39 ?_
  refine lv_aload_n hx hb dX0_rate_40 rfl (lv_at hl 1 rfl) ?_
  refine lv_iload_n hx hb dX0_rate_41 rfl (lv_at hl 3 rfl) ?_
  refine lv_iconst (v := 2) hx hb dX0_rate_42 (by decide) ?_
  refine tp (y := nI 2) (rfl) ?_
  refine g_calli (av := [.int (nI pd), .int (nI 2)]) (rest := [.int (S 10 (ac * 6 + pd)), .int (((S 8 (ac * 6 + pd)) * (x_item S pd 0)) + ((S 9 (ac * 6 + pd)) * (x_item S pd 1)))]) K B (xm_item l D d z h a S hp (by omega)) xv_item xd_item ⟨Nat.le_of_ble_eq_true rfl, Nat.le_of_ble_eq_true rfl⟩ (ci := 0) rfl rfl rfl hl.1 rfl (Nat.le_of_ble_eq_true rfl) dX0_rate_43 (fun H locs B => ?_)
  refine lv_imul hx hb dX0_rate_46 ?_
  refine lv_iadd hx hb dX0_rate_47 ?_
  refine lv_istore (lv' := [(4, .int ((((S 8 (ac * 6 + pd)) * (x_item S pd 0)) + ((S 9 (ac * 6 + pd)) * (x_item S pd 1))) + ((S 10 (ac * 6 + pd)) * (x_item S pd 2)))), (3, .int (nI (ac * 6 + pd))), (0, .ref h), (1, .int (nI ac)), (2, .int (nI pd))]) hx hb dX0_rate_48 hl (by decide) rfl (fun ls hl => ?_)
  refine lv_aload_n hx hb dX0_rate_50 rfl (lv_at hl 2 rfl) ?_
  refine x_get11 K B dX0_rate_51 ?_
  refine lv_iload_n hx hb dX0_rate_54 rfl (lv_at hl 1 rfl) ?_
  refine x_ald11 K B (by omega) dX0_rate_55 ?_
  refine lv_aload_n hx hb dX0_rate_56 rfl (lv_at hl 2 rfl) ?_
  refine lv_iload_n hx hb dX0_rate_57 rfl (lv_at hl 4 rfl) ?_
  refine lv_iconst (v := 3) hx hb dX0_rate_58 (by decide) ?_
  refine tp (y := nI 3) (rfl) ?_
  refine g_calli (av := [.int (nI pd), .int (nI 3)]) (rest := [.int (S 11 (ac * 6 + pd))]) K B (xm_item l D d z h a S hp (by omega)) xv_item xd_item ⟨Nat.le_of_ble_eq_true rfl, Nat.le_of_ble_eq_true rfl⟩ (ci := 0) rfl rfl rfl hl.1 rfl (Nat.le_of_ble_eq_true rfl) dX0_rate_59 (fun H locs B => ?_)
  refine lv_imul hx hb dX0_rate_62 ?_
  refine lv_istore (lv' := [(5, .int ((S 11 (ac * 6 + pd)) * (x_item S pd 3))), (4, .int ((((S 8 (ac * 6 + pd)) * (x_item S pd 0)) + ((S 9 (ac * 6 + pd)) * (x_item S pd 1))) + ((S 10 (ac * 6 + pd)) * (x_item S pd 2)))), (3, .int (nI (ac * 6 + pd))), (0, .ref h), (1, .int (nI ac)), (2, .int (nI pd))]) hx hb dX0_rate_63 hl (by decide) rfl (fun ls hl => ?_)
  refine lv_aload_n hx hb dX0_rate_65 rfl (lv_at hl 3 rfl) ?_
  refine x_get8 K B dX0_rate_66 ?_
  refine lv_iload_n hx hb dX0_rate_69 rfl (lv_at hl 2 rfl) ?_
  refine x_ald8 K B (by omega) dX0_rate_70 ?_
  refine lv_aload_n hx hb dX0_rate_71 rfl (lv_at hl 3 rfl) ?_
  refine x_get9 K B dX0_rate_72 ?_
  refine lv_iload_n hx hb dX0_rate_75 rfl (lv_at hl 2 rfl) ?_
  refine x_ald9 K B (by omega) dX0_rate_76 ?_
  refine lv_iadd hx hb dX0_rate_77 ?_
  refine lv_aload_n hx hb dX0_rate_78 rfl (lv_at hl 3 rfl) ?_
  refine x_get10 K B dX0_rate_79 ?_
  refine lv_iload_n hx hb dX0_rate_82 rfl (lv_at hl 2 rfl) ?_
  refine x_ald10 K B (by omega) dX0_rate_83 ?_
  refine lv_iadd hx hb dX0_rate_84 ?_
  refine lv_istore (lv' := [(6, .int (((S 8 (ac * 6 + pd)) + (S 9 (ac * 6 + pd))) + (S 10 (ac * 6 + pd)))), (5, .int ((S 11 (ac * 6 + pd)) * (x_item S pd 3))), (4, .int ((((S 8 (ac * 6 + pd)) * (x_item S pd 0)) + ((S 9 (ac * 6 + pd)) * (x_item S pd 1))) + ((S 10 (ac * 6 + pd)) * (x_item S pd 2)))), (3, .int (nI (ac * 6 + pd))), (0, .ref h), (1, .int (nI ac)), (2, .int (nI pd))]) hx hb dX0_rate_85 hl (by decide) rfl (fun ls hl => ?_)
  refine lv_iload hx hb dX0_rate_87 (lv_at hl 0 rfl) ?_
  refine lv_sipush (v := 2000) hx hb dX0_rate_89 (by decide) ?_
  refine lv_icmp_le (tgt := 104) hx hb dX0_rate_92 (by decide) (fun c92 => ?_) (fun c92 => ?_)
  · refine lv_iconst (v := 0) hx hb dX0_rate_104 (by decide) ?_
    refine tp (y := f_ab (S 8 (ac * 6 + pd) + S 9 (ac * 6 + pd) + S 10 (ac * 6 + pd))) (by rw [f_ab, if_pos c92]) ?_
    refine lv_istore (lv' := [(7, .int (f_ab (S 8 (ac * 6 + pd) + S 9 (ac * 6 + pd) + S 10 (ac * 6 + pd)))), (6, .int (((S 8 (ac * 6 + pd)) + (S 9 (ac * 6 + pd))) + (S 10 (ac * 6 + pd)))), (5, .int ((S 11 (ac * 6 + pd)) * (x_item S pd 3))), (4, .int ((((S 8 (ac * 6 + pd)) * (x_item S pd 0)) + ((S 9 (ac * 6 + pd)) * (x_item S pd 1))) + ((S 10 (ac * 6 + pd)) * (x_item S pd 2)))), (3, .int (nI (ac * 6 + pd))), (0, .ref h), (1, .int (nI ac)), (2, .int (nI pd))]) hx hb dX0_rate_105 hl (by decide) rfl (fun ls hl => ?_)
    refine lv_iload hx hb dX0_rate_107 (lv_at hl 3 rfl) ?_
    refine lv_iload hx hb dX0_rate_109 (lv_at hl 2 rfl) ?_
    refine lv_iadd hx hb dX0_rate_111 ?_
    refine lv_iload hx hb dX0_rate_112 (lv_at hl 0 rfl) ?_
    refine lv_aload_n hx hb dX0_rate_114 rfl (lv_at hl 5 rfl) ?_
    refine lv_iload_n hx hb dX0_rate_115 rfl (lv_at hl 7 rfl) ?_
    refine lv_iconst (v := 4) hx hb dX0_rate_116 (by decide) ?_
    refine tp (y := nI 4) (rfl) ?_
    refine g_calli (av := [.int (nI pd), .int (nI 4)]) (rest := [.int (f_ab (S 8 (ac * 6 + pd) + S 9 (ac * 6 + pd) + S 10 (ac * 6 + pd))), .int (((((S 8 (ac * 6 + pd)) * (x_item S pd 0)) + ((S 9 (ac * 6 + pd)) * (x_item S pd 1))) + ((S 10 (ac * 6 + pd)) * (x_item S pd 2))) + ((S 11 (ac * 6 + pd)) * (x_item S pd 3)))]) K B (xm_item l D d z h a S hp (by omega)) xv_item xd_item ⟨Nat.le_of_ble_eq_true rfl, Nat.le_of_ble_eq_true rfl⟩ (ci := 0) rfl rfl rfl hl.1 rfl (Nat.le_of_ble_eq_true rfl) dX0_rate_117 (fun H locs B => ?_)
    refine lv_imul hx hb dX0_rate_120 ?_
    refine lv_iadd hx hb dX0_rate_121 ?_
    refine lv_istore (lv' := [(8, .int ((((((S 8 (ac * 6 + pd)) * (x_item S pd 0)) + ((S 9 (ac * 6 + pd)) * (x_item S pd 1))) + ((S 10 (ac * 6 + pd)) * (x_item S pd 2))) + ((S 11 (ac * 6 + pd)) * (x_item S pd 3))) + ((f_ab (S 8 (ac * 6 + pd) + S 9 (ac * 6 + pd) + S 10 (ac * 6 + pd))) * (x_item S pd 4)))), (7, .int (f_ab (S 8 (ac * 6 + pd) + S 9 (ac * 6 + pd) + S 10 (ac * 6 + pd)))), (6, .int (((S 8 (ac * 6 + pd)) + (S 9 (ac * 6 + pd))) + (S 10 (ac * 6 + pd)))), (5, .int ((S 11 (ac * 6 + pd)) * (x_item S pd 3))), (4, .int ((((S 8 (ac * 6 + pd)) * (x_item S pd 0)) + ((S 9 (ac * 6 + pd)) * (x_item S pd 1))) + ((S 10 (ac * 6 + pd)) * (x_item S pd 2)))), (3, .int (nI (ac * 6 + pd))), (0, .ref h), (1, .int (nI ac)), (2, .int (nI pd))]) hx hb dX0_rate_122 hl (by decide) rfl (fun ls hl => ?_)
    refine lv_aload_n hx hb dX0_rate_124 rfl (lv_at hl 6 rfl) ?_
    refine lv_iload_n hx hb dX0_rate_125 rfl (lv_at hl 8 rfl) ?_
    refine lv_iconst (v := 5) hx hb dX0_rate_126 (by decide) ?_
    refine tp (y := nI 5) (rfl) ?_
    refine g_calli (av := [.int (nI pd), .int (nI 5)]) (rest := []) K B (xm_item l D d z h a S hp (by omega)) xv_item xd_item ⟨Nat.le_of_ble_eq_true rfl, Nat.le_of_ble_eq_true rfl⟩ (ci := 0) rfl rfl rfl hl.1 rfl (Nat.le_of_ble_eq_true rfl) dX0_rate_127 (fun H locs B => ?_)
    refine lv_sipush (v := 1000) hx hb dX0_rate_130 (by decide) ?_
    refine lv_imul hx hb dX0_rate_133 ?_
    refine lv_istore (lv' := [(9, .int ((x_item S pd 5) * 1000)), (8, .int ((((((S 8 (ac * 6 + pd)) * (x_item S pd 0)) + ((S 9 (ac * 6 + pd)) * (x_item S pd 1))) + ((S 10 (ac * 6 + pd)) * (x_item S pd 2))) + ((S 11 (ac * 6 + pd)) * (x_item S pd 3))) + ((f_ab (S 8 (ac * 6 + pd) + S 9 (ac * 6 + pd) + S 10 (ac * 6 + pd))) * (x_item S pd 4)))), (7, .int (f_ab (S 8 (ac * 6 + pd) + S 9 (ac * 6 + pd) + S 10 (ac * 6 + pd)))), (6, .int (((S 8 (ac * 6 + pd)) + (S 9 (ac * 6 + pd))) + (S 10 (ac * 6 + pd)))), (5, .int ((S 11 (ac * 6 + pd)) * (x_item S pd 3))), (4, .int ((((S 8 (ac * 6 + pd)) * (x_item S pd 0)) + ((S 9 (ac * 6 + pd)) * (x_item S pd 1))) + ((S 10 (ac * 6 + pd)) * (x_item S pd 2)))), (3, .int (nI (ac * 6 + pd))), (0, .ref h), (1, .int (nI ac)), (2, .int (nI pd))]) hx hb dX0_rate_134 hl (by decide) rfl (fun ls hl => ?_)
    refine lv_iload hx hb dX0_rate_136 (lv_at hl 1 rfl) ?_
    refine lv_iload hx hb dX0_rate_138 (lv_at hl 0 rfl) ?_
    refine lv_icmp_ge (tgt := 148) hx hb dX0_rate_140 (by decide) (fun c140 => ?_) (fun c140 => ?_)
    · refine lv_iload hx hb dX0_rate_148 (lv_at hl 1 rfl) ?_
      exact g_iret K B (by rw [x_rate, f_least, if_pos c140]) (rfl) dX0_rate_150
    · refine lv_iload hx hb dX0_rate_143 (lv_at hl 0 rfl) ?_
      refine lv_goto (tgt := 150) hx hb dX0_rate_145 (by decide) ?_
      exact g_iret K B (by rw [x_rate, f_least, if_neg c140]) (rfl) dX0_rate_150
  · refine lv_iload hx hb dX0_rate_95 (lv_at hl 0 rfl) ?_
    refine lv_sipush (v := 2000) hx hb dX0_rate_97 (by decide) ?_
    refine lv_isub hx hb dX0_rate_100 ?_
    refine lv_goto (tgt := 105) hx hb dX0_rate_101 (by decide) ?_
    refine tp (y := f_ab (S 8 (ac * 6 + pd) + S 9 (ac * 6 + pd) + S 10 (ac * 6 + pd))) (by rw [f_ab, if_neg c92]) ?_
    refine lv_istore (lv' := [(7, .int (f_ab (S 8 (ac * 6 + pd) + S 9 (ac * 6 + pd) + S 10 (ac * 6 + pd)))), (6, .int (((S 8 (ac * 6 + pd)) + (S 9 (ac * 6 + pd))) + (S 10 (ac * 6 + pd)))), (5, .int ((S 11 (ac * 6 + pd)) * (x_item S pd 3))), (4, .int ((((S 8 (ac * 6 + pd)) * (x_item S pd 0)) + ((S 9 (ac * 6 + pd)) * (x_item S pd 1))) + ((S 10 (ac * 6 + pd)) * (x_item S pd 2)))), (3, .int (nI (ac * 6 + pd))), (0, .ref h), (1, .int (nI ac)), (2, .int (nI pd))]) hx hb dX0_rate_105 hl (by decide) rfl (fun ls hl => ?_)
    refine lv_iload hx hb dX0_rate_107 (lv_at hl 3 rfl) ?_
    refine lv_iload hx hb dX0_rate_109 (lv_at hl 2 rfl) ?_
    refine lv_iadd hx hb dX0_rate_111 ?_
    refine lv_iload hx hb dX0_rate_112 (lv_at hl 0 rfl) ?_
    refine lv_aload_n hx hb dX0_rate_114 rfl (lv_at hl 5 rfl) ?_
    refine lv_iload_n hx hb dX0_rate_115 rfl (lv_at hl 7 rfl) ?_
    refine lv_iconst (v := 4) hx hb dX0_rate_116 (by decide) ?_
    refine tp (y := nI 4) (rfl) ?_
    refine g_calli (av := [.int (nI pd), .int (nI 4)]) (rest := [.int (f_ab (S 8 (ac * 6 + pd) + S 9 (ac * 6 + pd) + S 10 (ac * 6 + pd))), .int (((((S 8 (ac * 6 + pd)) * (x_item S pd 0)) + ((S 9 (ac * 6 + pd)) * (x_item S pd 1))) + ((S 10 (ac * 6 + pd)) * (x_item S pd 2))) + ((S 11 (ac * 6 + pd)) * (x_item S pd 3)))]) K B (xm_item l D d z h a S hp (by omega)) xv_item xd_item ⟨Nat.le_of_ble_eq_true rfl, Nat.le_of_ble_eq_true rfl⟩ (ci := 0) rfl rfl rfl hl.1 rfl (Nat.le_of_ble_eq_true rfl) dX0_rate_117 (fun H locs B => ?_)
    refine lv_imul hx hb dX0_rate_120 ?_
    refine lv_iadd hx hb dX0_rate_121 ?_
    refine lv_istore (lv' := [(8, .int ((((((S 8 (ac * 6 + pd)) * (x_item S pd 0)) + ((S 9 (ac * 6 + pd)) * (x_item S pd 1))) + ((S 10 (ac * 6 + pd)) * (x_item S pd 2))) + ((S 11 (ac * 6 + pd)) * (x_item S pd 3))) + ((f_ab (S 8 (ac * 6 + pd) + S 9 (ac * 6 + pd) + S 10 (ac * 6 + pd))) * (x_item S pd 4)))), (7, .int (f_ab (S 8 (ac * 6 + pd) + S 9 (ac * 6 + pd) + S 10 (ac * 6 + pd)))), (6, .int (((S 8 (ac * 6 + pd)) + (S 9 (ac * 6 + pd))) + (S 10 (ac * 6 + pd)))), (5, .int ((S 11 (ac * 6 + pd)) * (x_item S pd 3))), (4, .int ((((S 8 (ac * 6 + pd)) * (x_item S pd 0)) + ((S 9 (ac * 6 + pd)) * (x_item S pd 1))) + ((S 10 (ac * 6 + pd)) * (x_item S pd 2)))), (3, .int (nI (ac * 6 + pd))), (0, .ref h), (1, .int (nI ac)), (2, .int (nI pd))]) hx hb dX0_rate_122 hl (by decide) rfl (fun ls hl => ?_)
    refine lv_aload_n hx hb dX0_rate_124 rfl (lv_at hl 6 rfl) ?_
    refine lv_iload_n hx hb dX0_rate_125 rfl (lv_at hl 8 rfl) ?_
    refine lv_iconst (v := 5) hx hb dX0_rate_126 (by decide) ?_
    refine tp (y := nI 5) (rfl) ?_
    refine g_calli (av := [.int (nI pd), .int (nI 5)]) (rest := []) K B (xm_item l D d z h a S hp (by omega)) xv_item xd_item ⟨Nat.le_of_ble_eq_true rfl, Nat.le_of_ble_eq_true rfl⟩ (ci := 0) rfl rfl rfl hl.1 rfl (Nat.le_of_ble_eq_true rfl) dX0_rate_127 (fun H locs B => ?_)
    refine lv_sipush (v := 1000) hx hb dX0_rate_130 (by decide) ?_
    refine lv_imul hx hb dX0_rate_133 ?_
    refine lv_istore (lv' := [(9, .int ((x_item S pd 5) * 1000)), (8, .int ((((((S 8 (ac * 6 + pd)) * (x_item S pd 0)) + ((S 9 (ac * 6 + pd)) * (x_item S pd 1))) + ((S 10 (ac * 6 + pd)) * (x_item S pd 2))) + ((S 11 (ac * 6 + pd)) * (x_item S pd 3))) + ((f_ab (S 8 (ac * 6 + pd) + S 9 (ac * 6 + pd) + S 10 (ac * 6 + pd))) * (x_item S pd 4)))), (7, .int (f_ab (S 8 (ac * 6 + pd) + S 9 (ac * 6 + pd) + S 10 (ac * 6 + pd)))), (6, .int (((S 8 (ac * 6 + pd)) + (S 9 (ac * 6 + pd))) + (S 10 (ac * 6 + pd)))), (5, .int ((S 11 (ac * 6 + pd)) * (x_item S pd 3))), (4, .int ((((S 8 (ac * 6 + pd)) * (x_item S pd 0)) + ((S 9 (ac * 6 + pd)) * (x_item S pd 1))) + ((S 10 (ac * 6 + pd)) * (x_item S pd 2)))), (3, .int (nI (ac * 6 + pd))), (0, .ref h), (1, .int (nI ac)), (2, .int (nI pd))]) hx hb dX0_rate_134 hl (by decide) rfl (fun ls hl => ?_)
    refine lv_iload hx hb dX0_rate_136 (lv_at hl 1 rfl) ?_
    refine lv_iload hx hb dX0_rate_138 (lv_at hl 0 rfl) ?_
    refine lv_icmp_ge (tgt := 148) hx hb dX0_rate_140 (by decide) (fun c140 => ?_) (fun c140 => ?_)
    · refine lv_iload hx hb dX0_rate_148 (lv_at hl 1 rfl) ?_
      exact g_iret K B (by rw [x_rate, f_least, if_pos c140]) (rfl) dX0_rate_150
    · refine lv_iload hx hb dX0_rate_143 (lv_at hl 0 rfl) ?_
      refine lv_goto (tgt := 150) hx hb dX0_rate_145 (by decide) ?_
      exact g_iret K B (by rw [x_rate, f_least, if_neg c140]) (rfl) dX0_rate_150
theorem xm_rebill (l : Launch) (D : va_G) (d z : ClassId) (h : Nat) (a : Nat → Nat) (S : g_S) {ac pd : Nat} (hac : ac < 2) (hp : pd < 6) : g_mi l D d z (x_w h a d z) yX0_rebill cX0_rebill 5 .boolean 2 51 [.ref h, .int (nI ac), .int (nI pd)] S (x_rebR S ac pd) (x_rebS S ac pd) := by
  refine g_enti (own := RX0) (by decide) rfl (Nat.le_of_ble_eq_true rfl) ?_
  intro p e s m args below meth c A ls K B hl
  have hx := K.1
  have hb := K.2.1
  have hl : lv_has ls 5 [(0, .ref h), (1, .int (nI ac)), (2, .int (nI pd))] := hl
  refine lv_iload_n hx hb dX0_rebill_0 rfl (lv_at hl 1 rfl) ?_
  refine lv_bipush (v := 6) hx hb dX0_rebill_1 (by decide) ?_
  refine lv_imul hx hb dX0_rebill_3 ?_
  refine tp (n_m6 _) ?_
  refine lv_iload_n hx hb dX0_rebill_4 rfl (lv_at hl 2 rfl) ?_
  refine lv_iadd hx hb dX0_rebill_5 ?_
  refine tp (nI_add _ _) ?_
  refine lv_istore_n (lv' := [(3, .int (nI (ac * 6 + pd))), (0, .ref h), (1, .int (nI ac)), (2, .int (nI pd))]) hx hb dX0_rebill_6 rfl hl (by decide) rfl (fun ls hl => ?_)
  refine lv_aload_n hx hb dX0_rebill_7 rfl (lv_at hl 1 rfl) ?_
  refine lv_iload_n hx hb dX0_rebill_8 rfl (lv_at hl 2 rfl) ?_
  refine lv_iload_n hx hb dX0_rebill_9 rfl (lv_at hl 3 rfl) ?_
  refine g_calli (av := [.int (nI ac), .int (nI pd)]) (rest := []) K B (xm_rate l D d z h a S hac hp) xv_rate xd_rate ⟨Nat.le_of_ble_eq_true rfl, Nat.le_of_ble_eq_true rfl⟩ (ci := 0) rfl rfl rfl hl.1 rfl (Nat.le_of_ble_eq_true rfl) dX0_rebill_10 (fun H locs B => ?_)
  refine lv_istore (lv' := [(4, .int (x_rate S ac pd)), (3, .int (nI (ac * 6 + pd))), (0, .ref h), (1, .int (nI ac)), (2, .int (nI pd))]) hx hb dX0_rebill_13 hl (by decide) rfl (fun ls hl => ?_)
  refine lv_iload hx hb dX0_rebill_15 (lv_at hl 0 rfl) ?_
  refine lv_aload_n hx hb dX0_rebill_17 rfl (lv_at hl 2 rfl) ?_
  refine x_get12 K B dX0_rebill_18 ?_
  refine lv_iload_n hx hb dX0_rebill_21 rfl (lv_at hl 1 rfl) ?_
  refine x_ald12 K B (by omega) dX0_rebill_22 ?_
  refine lv_icmp_ne (tgt := 28) hx hb dX0_rebill_23 (by decide) (fun c23 => ?_) (fun c23 => ?_)
  · refine lv_aload_n hx hb dX0_rebill_28 rfl (lv_at hl 2 rfl) ?_
    refine lv_iload_n hx hb dX0_rebill_29 rfl (lv_at hl 3 rfl) ?_
    refine lv_iload_n hx hb dX0_rebill_30 rfl (lv_at hl 4 rfl) ?_
    refine lv_aload_n hx hb dX0_rebill_31 rfl (lv_at hl 2 rfl) ?_
    refine x_get12 K B dX0_rebill_32 ?_
    refine lv_iload_n hx hb dX0_rebill_35 rfl (lv_at hl 1 rfl) ?_
    refine x_ald12 K B (by omega) dX0_rebill_36 ?_
    refine lv_ineg hx hb dX0_rebill_37 ?_
    refine g_callv (av := [.int (nI ac), .int (nI pd), .int (-(S 12 (ac * 6 + pd)))]) (rest := []) K B (xm_addLine l D d z h a S hac (-(S 12 (ac * 6 + pd)))) xv_addLine xd_addLine ⟨Nat.le_of_ble_eq_true rfl, Nat.le_of_ble_eq_true rfl⟩ (ci := 0) rfl rfl rfl hl.1 rfl (Nat.le_of_ble_eq_true rfl) dX0_rebill_38 (fun H locs B => ?_)
    refine lv_aload_n hx hb dX0_rebill_41 rfl (lv_at hl 2 rfl) ?_
    refine lv_iload_n hx hb dX0_rebill_42 rfl (lv_at hl 3 rfl) ?_
    refine lv_iload_n hx hb dX0_rebill_43 rfl (lv_at hl 4 rfl) ?_
    refine lv_iload hx hb dX0_rebill_44 (lv_at hl 0 rfl) ?_
    refine g_callv (av := [.int (nI ac), .int (nI pd), .int (x_rate S ac pd)]) (rest := []) K B (xm_addLine l D d z h a (x_add S ac pd (-(S 12 (ac * 6 + pd)))) hac (x_rate S ac pd)) xv_addLine xd_addLine ⟨Nat.le_of_ble_eq_true rfl, Nat.le_of_ble_eq_true rfl⟩ (ci := 0) rfl rfl rfl hl.1 rfl (Nat.le_of_ble_eq_true rfl) dX0_rebill_46 (fun H locs B => ?_)
    refine lv_aload_n hx hb dX0_rebill_49 rfl (lv_at hl 2 rfl) ?_
    refine x_get12 K B dX0_rebill_50 ?_
    refine lv_iload_n hx hb dX0_rebill_53 rfl (lv_at hl 1 rfl) ?_
    refine lv_iload hx hb dX0_rebill_54 (lv_at hl 0 rfl) ?_
    refine x_ast12 K B (by omega) dX0_rebill_56 (fun H locs B => ?_)
    refine lv_iconst (v := 1) hx hb dX0_rebill_57 (by decide) ?_
    exact g_zret K B rfl (by rw [x_rebR, if_neg c23]) (by rw [x_rebS, if_neg c23]) dX0_rebill_58
  · refine lv_iconst (v := 0) hx hb dX0_rebill_26 (by decide) ?_
    exact g_zret K B rfl (by rw [x_rebR, if_pos c23]) (by rw [x_rebS, if_pos c23]) dX0_rebill_27
end XW
end
section
set_option maxRecDepth 100000
set_option maxHeartbeats 4000000
section XW
variable {p : Program} {l : Launch} {e : Env} {s : State} {m : MethodId} {args : Array Value} {below : List Frame} {meth : Method} {c : Code} {D : va_G} {d z : ClassId} {A : Nat → Prop} {h : Nat} {a : Nat → Nat}
theorem x_update_tail (K : g_K p s m args meth c D d z A RX0 cX0_update 8 none) {S2 : g_S} {H : Heap} {locs : List Loc} (B : g_B D A (x_w h a d z) s H locs S2) {cell : Nat} {now before : Int32} (hce : cell < 12) {ls : Array Slot} (hl : lv_has ls 8 [(0, .ref h), (4, .int now), (5, .int before), (7, .int (nI cell))]) : W p l e (g_R 1 25) s m args below meth c H locs 0 0 (MQ below (g_Qv D d z (x_w h a d z) A (x_grt S2 cell now before)) args s 0 0 A) (F0 m 119 ls []) := by
  have hx := K.1
  have hb := K.2.1
  refine lv_iload hx hb dX0_update_119 (lv_at hl 1 rfl) ?_
  refine lv_aload_n hx hb dX0_update_121 rfl (lv_at hl 0 rfl) ?_
  refine x_get11 K B dX0_update_122 ?_
  refine lv_iload hx hb dX0_update_125 (lv_at hl 3 rfl) ?_
  refine x_ald11 K B (by omega) dX0_update_127 ?_
  refine lv_icmp_lt (tgt := 143) hx hb dX0_update_128 (by decide) (fun c128 => ?_) (fun c128 => ?_)
  · refine lv_iload hx hb dX0_update_143 (lv_at hl 2 rfl) ?_
    refine lv_aload_n hx hb dX0_update_145 rfl (lv_at hl 0 rfl) ?_
    refine x_get11 K B dX0_update_146 ?_
    refine lv_iload hx hb dX0_update_149 (lv_at hl 3 rfl) ?_
    refine x_ald11 K B (by omega) dX0_update_151 ?_
    refine lv_icmp_ne (tgt := 161) hx hb dX0_update_152 (by decide) (fun c152 => ?_) (fun c152 => ?_)
    · exact g_vret K B (by rw [x_grt, if_pos c128, if_neg c152]) dX0_update_161
    · refine lv_aload_n hx hb dX0_update_155 rfl (lv_at hl 0 rfl) ?_
      refine lv_iload hx hb dX0_update_156 (lv_at hl 3 rfl) ?_
      refine g_callv (av := [.int (nI cell)]) (rest := []) K B (xm_rescan l D d z h a S2 hce) xv_rescan xd_rescan ⟨Nat.le_of_ble_eq_true rfl, Nat.le_of_ble_eq_true rfl⟩ (ci := 0) rfl rfl rfl hl.1 rfl (Nat.le_of_ble_eq_true rfl) dX0_update_158 (fun H locs B => ?_)
      exact g_vret K B (by rw [x_grt, if_pos c128, if_pos c152]) dX0_update_161
  · refine lv_aload_n hx hb dX0_update_131 rfl (lv_at hl 0 rfl) ?_
    refine x_get11 K B dX0_update_132 ?_
    refine lv_iload hx hb dX0_update_135 (lv_at hl 3 rfl) ?_
    refine lv_iload hx hb dX0_update_137 (lv_at hl 1 rfl) ?_
    refine x_ast11 K B (by omega) dX0_update_139 (fun H locs B => ?_)
    refine lv_goto (tgt := 161) hx hb dX0_update_140 (by decide) ?_
    exact g_vret K B (by rw [x_grt, if_neg c128]) dX0_update_161
theorem xm_update (l : Launch) (D : va_G) (d z : ClassId) (h : Nat) (a : Nat → Nat) (S : g_S) {ac iv : Nat} (hac : ac < 2) (hiv : iv < 48) : g_mv l D d z (x_w h a d z) yX0_update cX0_update 8 1 25 [.ref h, .int (nI ac), .int (nI iv)] S (x_upd S ac iv) := by
  refine g_entv (own := RX0) (by decide) rfl (Nat.le_of_ble_eq_true rfl) ?_
  intro p e s m args below meth c A ls K B hl
  have hx := K.1
  have hb := K.2.1
  have hl : lv_has ls 8 [(0, .ref h), (1, .int (nI ac)), (2, .int (nI iv))] := hl
  refine lv_iload_n hx hb dX0_update_0 rfl (lv_at hl 1 rfl) ?_
  refine lv_bipush (v := 48) hx hb dX0_update_1 (by decide) ?_
  refine lv_imul hx hb dX0_update_3 ?_
  refine tp (n_m48 _) ?_
  refine lv_iload_n hx hb dX0_update_4 rfl (lv_at hl 2 rfl) ?_
  refine lv_iadd hx hb dX0_update_5 ?_
  refine tp (nI_add _ _) ?_
  refine lv_istore_n (lv' := [(3, .int (nI (ac * 48 + iv))), (0, .ref h), (1, .int (nI ac)), (2, .int (nI iv))]) hx hb dX0_update_6 rfl hl (by decide) rfl (fun ls hl => ?_)
  refine lv_aload_n hx hb dX0_update_7 rfl (lv_at hl 1 rfl) ?_
  refine lv_iload_n hx hb dX0_update_8 rfl (lv_at hl 2 rfl) ?_
  refine lv_iload_n hx hb dX0_update_9 rfl (lv_at hl 3 rfl) ?_
  refine g_calli (av := [.int (nI ac), .int (nI iv)]) (rest := []) K B (xm_rule l D d z h a S hac hiv) xv_rule xd_rule ⟨Nat.le_of_ble_eq_true rfl, Nat.le_of_ble_eq_true rfl⟩ (ci := 0) rfl rfl rfl hl.1 rfl (Nat.le_of_ble_eq_true rfl) dX0_update_10 (fun H locs B => ?_)
  refine lv_istore (lv' := [(4, .int (x_rule S ac iv)), (3, .int (nI (ac * 48 + iv))), (0, .ref h), (1, .int (nI ac)), (2, .int (nI iv))]) hx hb dX0_update_13 hl (by decide) rfl (fun ls hl => ?_)
  refine lv_aload_n hx hb dX0_update_15 rfl (lv_at hl 2 rfl) ?_
  refine x_get5 K B dX0_update_16 ?_
  refine lv_iload_n hx hb dX0_update_19 rfl (lv_at hl 1 rfl) ?_
  refine x_ald5 K B (by omega) dX0_update_20 ?_
  refine lv_istore (lv' := [(5, .int (S 5 (ac * 48 + iv))), (4, .int (x_rule S ac iv)), (3, .int (nI (ac * 48 + iv))), (0, .ref h), (1, .int (nI ac)), (2, .int (nI iv))]) hx hb dX0_update_21 hl (by decide) rfl (fun ls hl => ?_)
  refine lv_iload hx hb dX0_update_23 (lv_at hl 1 rfl) ?_
  refine lv_iload hx hb dX0_update_25 (lv_at hl 0 rfl) ?_
  refine lv_icmp_ne (tgt := 31) hx hb dX0_update_27 (by decide) (fun c27 => ?_) (fun c27 => ?_)
  · refine lv_aload_n hx hb dX0_update_31 rfl (lv_at hl 3 rfl) ?_
    refine x_get5 K B dX0_update_32 ?_
    refine lv_iload_n hx hb dX0_update_35 rfl (lv_at hl 2 rfl) ?_
    refine lv_iload hx hb dX0_update_36 (lv_at hl 1 rfl) ?_
    refine x_ast5 K B (by omega) dX0_update_38 (fun H locs B => ?_)
    refine lv_iload_n hx hb dX0_update_39 rfl (lv_at hl 5 rfl) ?_
    refine lv_bipush (v := 8) hx hb dX0_update_40 (by decide) ?_
    refine lv_irem hx hb dX0_update_42 (by decide) ?_
    refine tp (n_r8 (by omega)) ?_
    refine lv_istore (lv' := [(6, .int (nI (iv % 8))), (5, .int (S 5 (ac * 48 + iv))), (4, .int (x_rule S ac iv)), (3, .int (nI (ac * 48 + iv))), (0, .ref h), (1, .int (nI ac)), (2, .int (nI iv))]) hx hb dX0_update_43 hl (by decide) rfl (fun ls hl => ?_)
    refine lv_iload_n hx hb dX0_update_45 rfl (lv_at hl 5 rfl) ?_
    refine lv_bipush (v := 6) hx hb dX0_update_46 (by decide) ?_
    refine lv_imul hx hb dX0_update_48 ?_
    refine tp (n_m6 _) ?_
    refine lv_iload_n hx hb dX0_update_49 rfl (lv_at hl 6 rfl) ?_
    refine lv_bipush (v := 8) hx hb dX0_update_50 (by decide) ?_
    refine lv_idiv hx hb dX0_update_52 (by decide) ?_
    refine tp (n_d8 (by omega)) ?_
    refine lv_iadd hx hb dX0_update_53 ?_
    refine tp (nI_add _ _) ?_
    refine lv_istore (lv' := [(7, .int (nI (ac * 6 + iv / 8))), (6, .int (nI (iv % 8))), (5, .int (S 5 (ac * 48 + iv))), (4, .int (x_rule S ac iv)), (3, .int (nI (ac * 48 + iv))), (0, .ref h), (1, .int (nI ac)), (2, .int (nI iv))]) hx hb dX0_update_54 hl (by decide) rfl (fun ls hl => ?_)
    refine lv_iload hx hb dX0_update_56 (lv_at hl 1 rfl) ?_
    refine lv_iconst (v := 3) hx hb dX0_update_58 (by decide) ?_
    refine lv_icmp_ge (tgt := 80) hx hb dX0_update_59 (by decide) (fun c59 => ?_) (fun c59 => ?_)
    · have c59 : 3 ≤ iv % 8 := (nI_leI (a := 3) (b := iv % 8) (by omega) (by omega)).mp c59
      refine lv_iload hx hb dX0_update_80 (lv_at hl 1 rfl) ?_
      refine lv_iconst (v := 5) hx hb dX0_update_82 (by decide) ?_
      refine lv_icmp_ge (tgt := 104) hx hb dX0_update_83 (by decide) (fun c83 => ?_) (fun c83 => ?_)
      · have c83 : 5 ≤ iv % 8 := (nI_leI (a := 5) (b := iv % 8) (by omega) (by omega)).mp c83
        refine lv_aload_n hx hb dX0_update_104 rfl (lv_at hl 5 rfl) ?_
        refine x_get10 K B dX0_update_105 ?_
        refine lv_iload hx hb dX0_update_108 (lv_at hl 0 rfl) ?_
        refine lv_dup2_11 hx hb dX0_update_110 rfl rfl ?_
        refine x_ald10 K B (by omega) dX0_update_111 ?_
        refine lv_iload hx hb dX0_update_112 (lv_at hl 3 rfl) ?_
        refine lv_iload hx hb dX0_update_114 (lv_at hl 2 rfl) ?_
        refine lv_isub hx hb dX0_update_116 ?_
        refine lv_iadd hx hb dX0_update_117 ?_
        refine x_ast10 K B (by omega) dX0_update_118 (fun H locs B => ?_)
        have B : g_B D A (x_w h a d z) s H locs (x_band (up2 S 5 (ac * 48 + iv) (x_rule S ac iv)) (ac * 6 + iv / 8) (iv % 8) (x_rule S ac iv - S 5 (ac * 48 + iv))) := by rw [x_band, if_pos c59, if_pos c83]; exact B
        rw [x_upd, if_neg c27]
        exact x_update_tail K B (by omega) (lv_sub hl [5, 3, 2, 0] rfl)
      · have c83 : ¬ 5 ≤ iv % 8 := fun h9 => c83 ((nI_leI (a := 5) (b := iv % 8) (by omega) (by omega)).mpr h9)
        refine lv_aload_n hx hb dX0_update_86 rfl (lv_at hl 5 rfl) ?_
        refine x_get9 K B dX0_update_87 ?_
        refine lv_iload hx hb dX0_update_90 (lv_at hl 0 rfl) ?_
        refine lv_dup2_11 hx hb dX0_update_92 rfl rfl ?_
        refine x_ald9 K B (by omega) dX0_update_93 ?_
        refine lv_iload hx hb dX0_update_94 (lv_at hl 3 rfl) ?_
        refine lv_iload hx hb dX0_update_96 (lv_at hl 2 rfl) ?_
        refine lv_isub hx hb dX0_update_98 ?_
        refine lv_iadd hx hb dX0_update_99 ?_
        refine x_ast9 K B (by omega) dX0_update_100 (fun H locs B => ?_)
        refine lv_goto (tgt := 119) hx hb dX0_update_101 (by decide) ?_
        have B : g_B D A (x_w h a d z) s H locs (x_band (up2 S 5 (ac * 48 + iv) (x_rule S ac iv)) (ac * 6 + iv / 8) (iv % 8) (x_rule S ac iv - S 5 (ac * 48 + iv))) := by rw [x_band, if_pos c59, if_neg c83]; exact B
        rw [x_upd, if_neg c27]
        exact x_update_tail K B (by omega) (lv_sub hl [5, 3, 2, 0] rfl)
    · have c59 : ¬ 3 ≤ iv % 8 := fun h9 => c59 ((nI_leI (a := 3) (b := iv % 8) (by omega) (by omega)).mpr h9)
      refine lv_aload_n hx hb dX0_update_62 rfl (lv_at hl 5 rfl) ?_
      refine x_get8 K B dX0_update_63 ?_
      refine lv_iload hx hb dX0_update_66 (lv_at hl 0 rfl) ?_
      refine lv_dup2_11 hx hb dX0_update_68 rfl rfl ?_
      refine x_ald8 K B (by omega) dX0_update_69 ?_
      refine lv_iload hx hb dX0_update_70 (lv_at hl 3 rfl) ?_
      refine lv_iload hx hb dX0_update_72 (lv_at hl 2 rfl) ?_
      refine lv_isub hx hb dX0_update_74 ?_
      refine lv_iadd hx hb dX0_update_75 ?_
      refine x_ast8 K B (by omega) dX0_update_76 (fun H locs B => ?_)
      refine lv_goto (tgt := 119) hx hb dX0_update_77 (by decide) ?_
      have B : g_B D A (x_w h a d z) s H locs (x_band (up2 S 5 (ac * 48 + iv) (x_rule S ac iv)) (ac * 6 + iv / 8) (iv % 8) (x_rule S ac iv - S 5 (ac * 48 + iv))) := by rw [x_band, if_neg c59]; exact B
      rw [x_upd, if_neg c27]
      exact x_update_tail K B (by omega) (lv_sub hl [5, 3, 2, 0] rfl)
  · exact g_vret K B (by rw [x_upd, if_pos c27]) dX0_update_30
theorem x_ref1 (K : g_K p s m args meth c D d z A RX0 cX0_refresh 8 (some .int)) {S : g_S} {ac iv P : Nat} (hac : ac < 2) (hP : P < 6) {Q : State → Prop} (kk : ∀ (H : Heap) (locs : List Loc) (ls : Array Slot), g_B D A (x_w h a d z) s H locs (x_own S ac P 8) → lv_has ls 8 [(0, .ref h), (1, .int (nI ac)), (2, .int (nI iv)), (3, .int (nI P))] → W p l e (g_R 3 75) s m args below meth c H locs 0 0 Q (F0 m 36 ls [])) : ∀ n k : Nat, k ≤ 8 → 9 ≤ k + n → ∀ (H : Heap) (locs : List Loc) (ls : Array Slot), g_B D A (x_w h a d z) s H locs (x_own S ac P k) → lv_has ls 8 [(0, .ref h), (1, .int (nI ac)), (2, .int (nI iv)), (3, .int (nI P)), (4, .int (nI (P * 8 + k)))] → W p l e (g_R 3 75) s m args below meth c H locs 0 0 Q (F0 m 11 ls []) := by
  have hx := K.1
  have hb := K.2.1
  intro n
  induction n with
  | zero =>
    intro k h1 h2
    exact absurd h2 (by omega)
  | succ n ih =>
    intro k hk hkn H locs ls B hl
    refine lv_iload hx hb dX0_refresh_11 (lv_at hl 4 rfl) ?_
    refine lv_iload_n hx hb dX0_refresh_13 rfl (lv_at hl 3 rfl) ?_
    refine lv_bipush (v := 8) hx hb dX0_refresh_14 (by decide) ?_
    refine lv_imul hx hb dX0_refresh_16 ?_
    refine tp (n_m8 _) ?_
    refine lv_bipush (v := 8) hx hb dX0_refresh_17 (by decide) ?_
    refine lv_iadd hx hb dX0_refresh_19 ?_
    refine tp (n_a8 _) ?_
    refine lv_icmp_ge (tgt := 36) hx hb dX0_refresh_20 (by decide) (fun c20 => ?_) (fun c20 => ?_)
    · have c20 : P * 8 + 8 ≤ P * 8 + k := (nI_leI (a := P * 8 + 8) (b := P * 8 + k) (by omega) (by omega)).mp c20
      obtain rfl : k = 8 := by omega
      exact kk _ _ _ B (lv_sub hl [0, 1, 2, 3] rfl)
    · have c20 : ¬ P * 8 + 8 ≤ P * 8 + k := fun h9 => c20 ((nI_leI (a := P * 8 + 8) (b := P * 8 + k) (by omega) (by omega)).mpr h9)
      refine lv_aload_n hx hb dX0_refresh_23 rfl (lv_at hl 0 rfl) ?_
      refine lv_iload_n hx hb dX0_refresh_24 rfl (lv_at hl 1 rfl) ?_
      refine lv_iload hx hb dX0_refresh_25 (lv_at hl 4 rfl) ?_
      refine g_callv (av := [.int (nI ac), .int (nI (P * 8 + k))]) (rest := []) K B (xm_update l D d z h a (x_own S ac P k) hac (iv := P * 8 + k) (by omega)) xv_update xd_update ⟨Nat.le_of_ble_eq_true rfl, Nat.le_of_ble_eq_true rfl⟩ (ci := 0) rfl rfl rfl hl.1 rfl (Nat.le_of_ble_eq_true rfl) dX0_refresh_27 (fun H locs B => ?_)
      refine lv_iinc (v := nI (P * 8 + (k + 1))) (lv' := [(4, .int (nI (P * 8 + (k + 1)))), (0, .ref h), (1, .int (nI ac)), (2, .int (nI iv)), (3, .int (nI P))]) hx hb dX0_refresh_30 hl (k := 4) rfl (n_k1 _ _) (by decide) rfl (fun ls hl => ?_)
      refine lv_goto (tgt := 11) hx hb dX0_refresh_33 (by decide) ?_
      exact ih (k + 1) (by omega) (by omega) _ _ ls B (lv_sub hl [1, 2, 3, 4, 0] rfl)
theorem x_ref2 (K : g_K p s m args meth c D d z A RX0 cX0_refresh 8 (some .int)) {Sf : g_S} {ac iv P r : Nat} (hac : ac < 2) (hr : r < 8) {Q : State → Prop} (kk : ∀ (H : Heap) (locs : List Loc) (ls : Array Slot), g_B D A (x_w h a d z) s H locs Sf → lv_has ls 8 [(0, .ref h), (1, .int (nI ac)), (2, .int (nI iv)), (3, .int (nI P))] → W p l e (g_R 3 75) s m args below meth c H locs 0 0 Q (F0 m 97 ls [])) : ∀ (k : Nat) (S : g_S) (H : Heap) (locs : List Loc) (ls : Array Slot), k ≤ 5 → x_chain ac r k S = Sf → g_B D A (x_w h a d z) s H locs S → lv_has ls 8 [(0, .ref h), (1, .int (nI ac)), (2, .int (nI iv)), (3, .int (nI P)), (4, .int 1), (5, .int (nI ((6 - k) * 8 + r)))] → W p l e (g_R 3 75) s m args below meth c H locs 0 0 Q (F0 m 45 ls []) := by
  have hx := K.1
  have hb := K.2.1
  intro k
  induction k with
  | zero =>
    intro S H locs ls hk hf B hl
    refine lv_iload hx hb dX0_refresh_45 (lv_at hl 5 rfl) ?_
    refine lv_bipush (v := 48) hx hb dX0_refresh_47 (by decide) ?_
    refine lv_icmp_ge (tgt := 97) hx hb dX0_refresh_49 (by decide) (fun c49 => ?_) (fun c49 => ?_)
    · have c49 : 48 ≤ (6 - 0) * 8 + r := (nI_leI (a := 48) (b := (6 - 0) * 8 + r) (by omega) (by omega)).mp c49
      exact kk _ _ _ (by rw [← hf, x_chain]; exact B) (lv_sub hl [0, 1, 2, 3] rfl)
    · have c49 : ¬ 48 ≤ (6 - 0) * 8 + r := fun h9 => c49 ((nI_leI (a := 48) (b := (6 - 0) * 8 + r) (by omega) (by omega)).mpr h9)
      exfalso; omega
  | succ k ih =>
    intro S H locs ls hk hf B hl
    rw [show 6 - (k + 1) = 5 - k by omega] at hl
    refine lv_iload hx hb dX0_refresh_45 (lv_at hl 5 rfl) ?_
    refine lv_bipush (v := 48) hx hb dX0_refresh_47 (by decide) ?_
    refine lv_icmp_ge (tgt := 97) hx hb dX0_refresh_49 (by decide) (fun c49 => ?_) (fun c49 => ?_)
    · have c49 : 48 ≤ (5 - k) * 8 + r := (nI_leI (a := 48) (b := (5 - k) * 8 + r) (by omega) (by omega)).mp c49
      exfalso; omega
    · have c49 : ¬ 48 ≤ (5 - k) * 8 + r := fun h9 => c49 ((nI_leI (a := 48) (b := (5 - k) * 8 + r) (by omega) (by omega)).mpr h9)
      refine lv_iload hx hb dX0_refresh_52 (lv_at hl 4 rfl) ?_
      refine lv_if_eq (tgt := 97) hx hb dX0_refresh_54 (by decide) (fun c54 => ?_) (fun c54 => ?_)
      · exact absurd c54 (by decide)
      · refine lv_aload_n hx hb dX0_refresh_57 rfl (lv_at hl 0 rfl) ?_
        refine x_get3 K B dX0_refresh_58 ?_
        refine lv_iload_n hx hb dX0_refresh_61 rfl (lv_at hl 1 rfl) ?_
        refine lv_bipush (v := 48) hx hb dX0_refresh_62 (by decide) ?_
        refine lv_imul hx hb dX0_refresh_64 ?_
        refine tp (n_m48 _) ?_
        refine lv_iload hx hb dX0_refresh_65 (lv_at hl 5 rfl) ?_
        refine lv_iadd hx hb dX0_refresh_67 ?_
        refine tp (nI_add _ _) ?_
        refine x_ald3 K B (by omega) dX0_refresh_68 ?_
        refine lv_if_ne (tgt := 76) hx hb dX0_refresh_69 (by decide) (fun c69 => ?_) (fun c69 => ?_)
        · refine lv_iconst (v := 0) hx hb dX0_refresh_76 (by decide) ?_
          refine lv_istore (lv' := [(4, .int 0), (0, .ref h), (1, .int (nI ac)), (2, .int (nI iv)), (3, .int (nI P)), (5, .int (nI ((5 - k) * 8 + r)))]) hx hb dX0_refresh_77 hl (by decide) rfl (fun ls hl => ?_)
          refine lv_iload hx hb dX0_refresh_79 (lv_at hl 0 rfl) ?_
          refine lv_if_eq (tgt := 91) hx hb dX0_refresh_81 (by decide) (fun c81 => ?_) (fun c81 => ?_)
          · refine lv_iinc (v := nI ((6 - k) * 8 + r)) (lv' := [(5, .int (nI ((6 - k) * 8 + r))), (4, .int 0), (0, .ref h), (1, .int (nI ac)), (2, .int (nI iv)), (3, .int (nI P))]) hx hb dX0_refresh_91 hl (k := 5) rfl (by rw [n_i8]; congr 1; omega) (by decide) rfl (fun ls hl => ?_)
            refine lv_goto (tgt := 45) hx hb dX0_refresh_94 (by decide) ?_
            refine lv_iload hx hb dX0_refresh_45 (lv_at hl 0 rfl) ?_
            refine lv_bipush (v := 48) hx hb dX0_refresh_47 (by decide) ?_
            refine lv_icmp_ge (tgt := 97) hx hb dX0_refresh_49 (by decide) (fun c49 => ?_) (fun c49 => ?_)
            · have c49 : 48 ≤ (6 - k) * 8 + r := (nI_leI (a := 48) (b := (6 - k) * 8 + r) (by omega) (by omega)).mp c49
              exact kk _ _ _ (by rw [← hf, x_chain, if_neg c69]; exact B) (lv_sub hl [2, 3, 4, 5] rfl)
            · have c49 : ¬ 48 ≤ (6 - k) * 8 + r := fun h9 => c49 ((nI_leI (a := 48) (b := (6 - k) * 8 + r) (by omega) (by omega)).mpr h9)
              refine lv_iload hx hb dX0_refresh_52 (lv_at hl 1 rfl) ?_
              refine lv_if_eq (tgt := 97) hx hb dX0_refresh_54 (by decide) (fun c54 => ?_) (fun c54 => ?_)
              · exact kk _ _ _ (by rw [← hf, x_chain, if_neg c69]; exact B) (lv_sub hl [2, 3, 4, 5] rfl)
              · exact absurd c54 (by decide)
          · exact absurd c81 (by decide)
        · refine lv_iconst (v := 1) hx hb dX0_refresh_72 (by decide) ?_
          refine lv_goto (tgt := 77) hx hb dX0_refresh_73 (by decide) ?_
          refine lv_istore (lv' := [(4, .int 1), (0, .ref h), (1, .int (nI ac)), (2, .int (nI iv)), (3, .int (nI P)), (5, .int (nI ((5 - k) * 8 + r)))]) hx hb dX0_refresh_77 hl (by decide) rfl (fun ls hl => ?_)
          refine lv_iload hx hb dX0_refresh_79 (lv_at hl 0 rfl) ?_
          refine lv_if_eq (tgt := 91) hx hb dX0_refresh_81 (by decide) (fun c81 => ?_) (fun c81 => ?_)
          · exact absurd c81 (by decide)
          · refine lv_aload_n hx hb dX0_refresh_84 rfl (lv_at hl 1 rfl) ?_
            refine lv_iload_n hx hb dX0_refresh_85 rfl (lv_at hl 2 rfl) ?_
            refine lv_iload hx hb dX0_refresh_86 (lv_at hl 5 rfl) ?_
            refine g_callv (av := [.int (nI ac), .int (nI ((5 - k) * 8 + r))]) (rest := []) K B (xm_update l D d z h a S hac (iv := (5 - k) * 8 + r) (by omega)) xv_update xd_update ⟨Nat.le_of_ble_eq_true rfl, Nat.le_of_ble_eq_true rfl⟩ (ci := 0) rfl rfl rfl hl.1 rfl (Nat.le_of_ble_eq_true rfl) dX0_refresh_88 (fun H locs B => ?_)
            refine lv_iinc (v := nI ((6 - k) * 8 + r)) (lv' := [(5, .int (nI ((6 - k) * 8 + r))), (4, .int 1), (0, .ref h), (1, .int (nI ac)), (2, .int (nI iv)), (3, .int (nI P))]) hx hb dX0_refresh_91 hl (k := 5) rfl (by rw [n_i8]; congr 1; omega) (by decide) rfl (fun ls hl => ?_)
            refine lv_goto (tgt := 45) hx hb dX0_refresh_94 (by decide) ?_
            exact ih _ _ _ _ (by omega) (by rw [← hf, x_chain, if_pos c69]) B (lv_sub hl [2, 3, 4, 5, 1, 0] rfl)
theorem x_ref3 (K : g_K p s m args meth c D d z A RX0 cX0_refresh 8 (some .int)) {Sf : g_S} {rf : Int32} {ac cl : Nat} (hac : ac < 2) (hc6 : cl ≤ 6) : ∀ (k q : Nat) (S : g_S) (n : Int32) (H : Heap) (locs : List Loc) (ls : Array Slot), q ≤ 6 ∧ k = cl - q → S 2 0 = nI cl → x_rbS ac k q S = Sf → x_rbR ac k q S n = rf → g_B D A (x_w h a d z) s H locs S → lv_has ls 8 [(0, .ref h), (1, .int (nI ac)), (5, .int n), (6, .int (nI q))] → W p l e (g_R 3 75) s m args below meth c H locs 0 0 (MQ below (g_Qi D d z (x_w h a d z) A rf Sf) args s 0 0 A) (F0 m 103 ls []) := by
  have hx := K.1
  have hb := K.2.1
  intro k
  induction k with
  | zero =>
    intro q S n H locs ls hq hcl hf hr2 B hl
    refine lv_iload hx hb dX0_refresh_103 (lv_at hl 3 rfl) ?_
    refine lv_aload_n hx hb dX0_refresh_105 rfl (lv_at hl 0 rfl) ?_
    refine x_get2 K B dX0_refresh_106 ?_
    refine tp (y := nI cl) (hcl) ?_
    refine lv_icmp_ge (tgt := 135) hx hb dX0_refresh_109 (by decide) (fun c109 => ?_) (fun c109 => ?_)
    · have c109 : cl ≤ q := (nI_leI (a := cl) (b := q) (by omega) (by omega)).mp c109
      refine lv_iload hx hb dX0_refresh_135 (lv_at hl 2 rfl) ?_
      exact g_iret K B (by rw [← hr2, x_rbR]) (by rw [← hf, x_rbS]) dX0_refresh_137
    · have c109 : ¬ cl ≤ q := fun h9 => c109 ((nI_leI (a := cl) (b := q) (by omega) (by omega)).mpr h9)
      exfalso; omega
  | succ k ih =>
    intro q S n H locs ls hq hcl hf hr2 B hl
    refine lv_iload hx hb dX0_refresh_103 (lv_at hl 3 rfl) ?_
    refine lv_aload_n hx hb dX0_refresh_105 rfl (lv_at hl 0 rfl) ?_
    refine x_get2 K B dX0_refresh_106 ?_
    refine tp (y := nI cl) (hcl) ?_
    refine lv_icmp_ge (tgt := 135) hx hb dX0_refresh_109 (by decide) (fun c109 => ?_) (fun c109 => ?_)
    · have c109 : cl ≤ q := (nI_leI (a := cl) (b := q) (by omega) (by omega)).mp c109
      exfalso; omega
    · have c109 : ¬ cl ≤ q := fun h9 => c109 ((nI_leI (a := cl) (b := q) (by omega) (by omega)).mpr h9)
      refine lv_aload_n hx hb dX0_refresh_112 rfl (lv_at hl 0 rfl) ?_
      refine lv_iload_n hx hb dX0_refresh_113 rfl (lv_at hl 1 rfl) ?_
      refine lv_iload hx hb dX0_refresh_114 (lv_at hl 3 rfl) ?_
      refine g_calli (av := [.int (nI ac), .int (nI q)]) (rest := []) K B (xm_rebill l D d z h a S hac (pd := q) (by omega)) xv_rebill xd_rebill ⟨Nat.le_of_ble_eq_true rfl, Nat.le_of_ble_eq_true rfl⟩ (ci := 0) rfl rfl rfl hl.1 rfl (Nat.le_of_ble_eq_true rfl) dX0_refresh_116 (fun H locs B => ?_)
      refine lv_istore (lv' := [(7, .int (x_rebR S ac q)), (0, .ref h), (1, .int (nI ac)), (5, .int n), (6, .int (nI q))]) hx hb dX0_refresh_119 hl (by decide) rfl (fun ls hl => ?_)
      refine lv_iload hx hb dX0_refresh_121 (lv_at hl 0 rfl) ?_
      refine lv_if_eq (tgt := 129) hx hb dX0_refresh_123 (by decide) (fun c123 => ?_) (fun c123 => ?_)
      · refine lv_iinc (v := nI (q + 1)) (lv' := [(6, .int (nI (q + 1))), (7, .int (x_rebR S ac q)), (0, .ref h), (1, .int (nI ac)), (5, .int n)]) hx hb dX0_refresh_129 hl (k := 4) rfl (n_i1 _) (by decide) rfl (fun ls hl => ?_)
        refine lv_goto (tgt := 103) hx hb dX0_refresh_132 (by decide) ?_
        exact ih (q + 1) _ _ _ _ ls (by omega) (by rw [x_rebS_o _ _ _ (by decide) (by decide) (by decide) (by decide) (by decide)]; exact hcl) (by rw [← hf, x_rbS]) (by rw [← hr2, x_rbR, if_pos c123]) B (lv_sub hl [2, 3, 4, 0] rfl)
      · refine lv_iinc (v := n + 1) (lv' := [(5, .int (n + 1)), (7, .int (x_rebR S ac q)), (0, .ref h), (1, .int (nI ac)), (6, .int (nI q))]) hx hb dX0_refresh_126 hl (k := 3) rfl (rfl) (by decide) rfl (fun ls hl => ?_)
        refine lv_iinc (v := nI (q + 1)) (lv' := [(6, .int (nI (q + 1))), (5, .int (n + 1)), (7, .int (x_rebR S ac q)), (0, .ref h), (1, .int (nI ac))]) hx hb dX0_refresh_129 hl (k := 4) rfl (n_i1 _) (by decide) rfl (fun ls hl => ?_)
        refine lv_goto (tgt := 103) hx hb dX0_refresh_132 (by decide) ?_
        exact ih (q + 1) _ _ _ _ ls (by omega) (by rw [x_rebS_o _ _ _ (by decide) (by decide) (by decide) (by decide) (by decide)]; exact hcl) (by rw [← hf, x_rbS]) (by rw [← hr2, x_rbR, if_neg c123]) B (lv_sub hl [3, 4, 1, 0] rfl)
theorem xm_refresh (l : Launch) (D : va_G) (d z : ClassId) (h : Nat) (a : Nat → Nat) (S : g_S) {ac iv : Nat} (hac : ac < 2) (hiv : iv < 48) {cl : Nat} (hcl : S 2 0 = nI cl) (hc6 : cl ≤ 6) : g_mi l D d z (x_w h a d z) yX0_refresh cX0_refresh 8 .int 3 75 [.ref h, .int (nI ac), .int (nI iv)] S (x_refR S ac iv cl) (x_refS S ac iv cl) := by
  refine g_enti (own := RX0) (by decide) rfl (Nat.le_of_ble_eq_true rfl) ?_
  intro p e s m args below meth c A ls K B hl
  have hx := K.1
  have hb := K.2.1
  have hl : lv_has ls 8 [(0, .ref h), (1, .int (nI ac)), (2, .int (nI iv))] := hl
  refine lv_iload_n hx hb dX0_refresh_0 rfl (lv_at hl 2 rfl) ?_
  refine lv_bipush (v := 8) hx hb dX0_refresh_1 (by decide) ?_
  refine lv_idiv hx hb dX0_refresh_3 (by decide) ?_
  refine tp (n_d8 (by omega)) ?_
  refine lv_istore_n (lv' := [(3, .int (nI (iv / 8))), (0, .ref h), (1, .int (nI ac)), (2, .int (nI iv))]) hx hb dX0_refresh_4 rfl hl (by decide) rfl (fun ls hl => ?_)
  refine lv_iload_n hx hb dX0_refresh_5 rfl (lv_at hl 0 rfl) ?_
  refine lv_bipush (v := 8) hx hb dX0_refresh_6 (by decide) ?_
  refine lv_imul hx hb dX0_refresh_8 ?_
  refine tp (n_m8 _) ?_
  refine lv_istore (lv' := [(4, .int (nI ((iv / 8) * 8))), (3, .int (nI (iv / 8))), (0, .ref h), (1, .int (nI ac)), (2, .int (nI iv))]) hx hb dX0_refresh_9 hl (by decide) rfl (fun ls hl => ?_)
  refine x_ref1 K (P := iv / 8) (iv := iv) (S := S) hac (by omega) (fun H locs ls B hl => ?_) 9 0 (by omega) (by omega) _ _ ls B (lv_sub hl [2, 3, 4, 1, 0] rfl)
  refine lv_iconst (v := 1) hx hb dX0_refresh_36 (by decide) ?_
  refine lv_istore (lv' := [(4, .int 1), (0, .ref h), (1, .int (nI ac)), (2, .int (nI iv)), (3, .int (nI (iv / 8)))]) hx hb dX0_refresh_37 hl (by decide) rfl (fun ls hl => ?_)
  refine lv_iload_n hx hb dX0_refresh_39 rfl (lv_at hl 3 rfl) ?_
  refine lv_bipush (v := 8) hx hb dX0_refresh_40 (by decide) ?_
  refine lv_iadd hx hb dX0_refresh_42 ?_
  refine tp (n_a8 _) ?_
  refine lv_istore (lv' := [(5, .int (nI (iv + 8))), (4, .int 1), (0, .ref h), (1, .int (nI ac)), (2, .int (nI iv)), (3, .int (nI (iv / 8)))]) hx hb dX0_refresh_43 hl (by decide) rfl (fun ls hl => ?_)
  refine x_ref2 K (Sf := x_used S ac iv) (iv := iv) (P := iv / 8) (r := iv % 8) hac (Nat.mod_lt _ (by decide)) (fun H locs ls B hl => ?_) (5 - iv / 8) _ _ _ ls (by omega) rfl B (by rw [show (6 - (5 - iv / 8)) * 8 + iv % 8 = iv + 8 by omega]; exact (lv_sub hl [2, 3, 4, 5, 1, 0] rfl))
  refine lv_iconst (v := 0) hx hb dX0_refresh_97 (by decide) ?_
  refine lv_istore (lv' := [(5, .int 0), (0, .ref h), (1, .int (nI ac)), (2, .int (nI iv)), (3, .int (nI (iv / 8)))]) hx hb dX0_refresh_98 hl (by decide) rfl (fun ls hl => ?_)
  refine lv_iload_n hx hb dX0_refresh_100 rfl (lv_at hl 4 rfl) ?_
  refine lv_istore (lv' := [(6, .int (nI (iv / 8))), (5, .int 0), (0, .ref h), (1, .int (nI ac)), (2, .int (nI iv)), (3, .int (nI (iv / 8)))]) hx hb dX0_refresh_101 hl (by decide) rfl (fun ls hl => ?_)
  exact x_ref3 K hac hc6 (cl - iv / 8) (iv / 8) _ _ _ _ ls ⟨by omega, rfl⟩ (by rw [x_used_o _ _ _ (by decide) (by decide) (by decide) (by decide) (by decide)]; exact hcl) rfl rfl B (lv_sub hl [2, 3, 1, 0] rfl)
end XW
end
section
set_option maxRecDepth 100000
set_option maxHeartbeats 4000000
section XW
variable {p : Program} {l : Launch} {e : Env} {s : State} {m : MethodId} {args : Array Value} {below : List Frame} {meth : Method} {c : Code} {D : va_G} {d z : ClassId} {A : Nat → Prop} {h : Nat} {a : Nat → Nat}
theorem xm_read (l : Launch) (D : va_G) (d z : ClassId) (h : Nat) (a : Nat → Nat) (S : g_S) (p0 p1 p2 : Int32) {cl : Nat} (hcl : S 2 0 = nI cl) (hc6 : cl ≤ 6) : g_mi l D d z (x_w h a d z) yX0_read cX0_read 6 .int 4 102 [.ref h, .int p0, .int p1, .int p2] S (x_rdR S cl p0 p1 p2) (x_rdS S cl p0 p1 p2) := by
  refine g_enti (own := RX0) (by decide) rfl (Nat.le_of_ble_eq_true rfl) ?_
  intro p e s m args below meth c A ls K B hl
  have hx := K.1
  have hb := K.2.1
  have hl : lv_has ls 6 [(0, .ref h), (1, .int p0), (2, .int p1), (3, .int p2)] := hl
  refine lv_iload_n hx hb dX0_read_0 rfl (lv_at hl 1 rfl) ?_
  refine g_callsi (av := [.int p0]) (rest := []) K B (xm_badAccount l D d z h a S p0) xv_badAccount xd_badAccount ⟨Nat.le_of_ble_eq_true rfl, Nat.le_of_ble_eq_true rfl⟩ rfl hl.1 rfl (Nat.le_of_ble_eq_true rfl) dX0_read_1 (fun H locs B => ?_)
  refine lv_if_eq (tgt := 9) hx hb dX0_read_4 (by decide) (fun c4 => ?_) (fun c4 => ?_)
  · obtain ⟨ac, hac, rfl⟩ := f_bad1 c4
    refine lv_iload_n hx hb dX0_read_9 rfl (lv_at hl 2 rfl) ?_
    refine g_callsi (av := [.int p1]) (rest := []) K B (xm_badInterval l D d z h a S p1) xv_badInterval xd_badInterval ⟨Nat.le_of_ble_eq_true rfl, Nat.le_of_ble_eq_true rfl⟩ rfl hl.1 rfl (Nat.le_of_ble_eq_true rfl) dX0_read_10 (fun H locs B => ?_)
    refine lv_if_eq (tgt := 19) hx hb dX0_read_13 (by decide) (fun c13 => ?_) (fun c13 => ?_)
    · obtain ⟨iv, hiv, rfl⟩ := f_badI48 c13
      refine lv_iload_n hx hb dX0_read_19 rfl (lv_at hl 3 rfl) ?_
      refine lv_if_lt (tgt := 30) hx hb dX0_read_20 (by decide) (fun c20 => ?_) (fun c20 => ?_)
      · refine lv_bipush (v := -3) hx hb dX0_read_30 (by decide) ?_
        exact g_iret K B (by rw [x_rdR, if_pos c4, if_pos c13, if_pos c20]) (by rw [x_rdS, if_pos c4, if_pos c13, if_pos c20]) dX0_read_32
      · refine lv_iload_n hx hb dX0_read_23 rfl (lv_at hl 3 rfl) ?_
        refine lv_sipush (v := 999) hx hb dX0_read_24 (by decide) ?_
        refine lv_icmp_le (tgt := 33) hx hb dX0_read_27 (by decide) (fun c27 => ?_) (fun c27 => ?_)
        · refine lv_iload_n hx hb dX0_read_33 rfl (lv_at hl 1 rfl) ?_
          refine lv_bipush (v := 48) hx hb dX0_read_34 (by decide) ?_
          refine lv_imul hx hb dX0_read_36 ?_
          refine tp (n_m48 _) ?_
          refine lv_iload_n hx hb dX0_read_37 rfl (lv_at hl 2 rfl) ?_
          refine lv_iadd hx hb dX0_read_38 ?_
          refine tp (nI_add _ _) ?_
          refine lv_istore (lv' := [(4, .int (nI (ac * 48 + iv))), (0, .ref h), (1, .int (nI ac)), (2, .int (nI iv)), (3, .int p2)]) hx hb dX0_read_39 hl (by decide) rfl (fun ls hl => ?_)
          refine lv_aload_n hx hb dX0_read_41 rfl (lv_at hl 1 rfl) ?_
          refine lv_iload_n hx hb dX0_read_42 rfl (lv_at hl 2 rfl) ?_
          refine lv_iload_n hx hb dX0_read_43 rfl (lv_at hl 3 rfl) ?_
          refine g_callv (av := [.int (nI ac), .int (nI iv)]) (rest := []) K B (xm_forgetRead l D d z h a S hac hiv) xv_forgetRead xd_forgetRead ⟨Nat.le_of_ble_eq_true rfl, Nat.le_of_ble_eq_true rfl⟩ (ci := 0) rfl rfl rfl hl.1 rfl (Nat.le_of_ble_eq_true rfl) dX0_read_44 (fun H locs B => ?_)
          refine lv_aload_n hx hb dX0_read_47 rfl (lv_at hl 1 rfl) ?_
          refine x_get3 K B dX0_read_48 ?_
          refine lv_iload hx hb dX0_read_51 (lv_at hl 0 rfl) ?_
          refine lv_iconst (v := 1) hx hb dX0_read_53 (by decide) ?_
          refine x_ast3 K B (by omega) rfl dX0_read_54 (fun H locs B => ?_)
          refine lv_aload_n hx hb dX0_read_55 rfl (lv_at hl 1 rfl) ?_
          refine x_get4 K B dX0_read_56 ?_
          refine lv_iload hx hb dX0_read_59 (lv_at hl 0 rfl) ?_
          refine lv_iload_n hx hb dX0_read_61 rfl (lv_at hl 4 rfl) ?_
          refine x_ast4 K B (by omega) dX0_read_62 (fun H locs B => ?_)
          refine lv_iload_n hx hb dX0_read_63 rfl (lv_at hl 2 rfl) ?_
          refine lv_bipush (v := 6) hx hb dX0_read_64 (by decide) ?_
          refine lv_imul hx hb dX0_read_66 ?_
          refine tp (n_m6 _) ?_
          refine lv_iload_n hx hb dX0_read_67 rfl (lv_at hl 3 rfl) ?_
          refine lv_bipush (v := 8) hx hb dX0_read_68 (by decide) ?_
          refine lv_idiv hx hb dX0_read_70 (by decide) ?_
          refine tp (n_d8 (by omega)) ?_
          refine lv_iadd hx hb dX0_read_71 ?_
          refine tp (nI_add _ _) ?_
          refine lv_istore (lv' := [(5, .int (nI (ac * 6 + iv / 8))), (4, .int (nI (ac * 48 + iv))), (0, .ref h), (1, .int (nI ac)), (2, .int (nI iv)), (3, .int p2)]) hx hb dX0_read_72 hl (by decide) rfl (fun ls hl => ?_)
          refine lv_aload_n hx hb dX0_read_74 rfl (lv_at hl 2 rfl) ?_
          refine x_get6 K B dX0_read_75 ?_
          refine lv_iload hx hb dX0_read_78 (lv_at hl 0 rfl) ?_
          refine lv_dup2_11 hx hb dX0_read_80 rfl rfl ?_
          refine x_ald6 K B (by omega) dX0_read_81 ?_
          refine lv_iconst (v := 1) hx hb dX0_read_82 (by decide) ?_
          refine lv_iadd hx hb dX0_read_83 ?_
          refine x_ast6 K B (by omega) dX0_read_84 (fun H locs B => ?_)
          refine lv_aload_n hx hb dX0_read_85 rfl (lv_at hl 2 rfl) ?_
          refine x_get7 K B dX0_read_86 ?_
          refine lv_iload hx hb dX0_read_89 (lv_at hl 0 rfl) ?_
          refine lv_dup2_11 hx hb dX0_read_91 rfl rfl ?_
          refine x_ald7 K B (by omega) dX0_read_92 ?_
          refine lv_iload_n hx hb dX0_read_93 rfl (lv_at hl 5 rfl) ?_
          refine lv_iadd hx hb dX0_read_94 ?_
          refine x_ast7 K B (by omega) dX0_read_95 (fun H locs B => ?_)
          have B : g_B D A (x_w h a d z) s H locs (x_putr (x_forget S ac iv) ac iv p2) := B
          refine lv_aload_n hx hb dX0_read_96 rfl (lv_at hl 2 rfl) ?_
          refine lv_iload_n hx hb dX0_read_97 rfl (lv_at hl 3 rfl) ?_
          refine lv_iload_n hx hb dX0_read_98 rfl (lv_at hl 4 rfl) ?_
          refine g_calli (av := [.int (nI ac), .int (nI iv)]) (rest := []) K B (xm_refresh l D d z h a (x_putr (x_forget S ac iv) ac iv p2) hac hiv (cl := cl) (by rw [x_putr_o _ _ _ _ (by decide) (by decide) (by decide) (by decide), x_forget_o _ _ _ (by decide) (by decide) (by decide)]; exact hcl) hc6) xv_refresh xd_refresh ⟨Nat.le_of_ble_eq_true rfl, Nat.le_of_ble_eq_true rfl⟩ (ci := 0) rfl rfl rfl hl.1 rfl (Nat.le_of_ble_eq_true rfl) dX0_read_99 (fun H locs B => ?_)
          exact g_iret K B (by rw [x_rdR, if_pos c4, if_pos c13, if_neg c20, if_pos c27, f_cl (n := ac) (by omega), f_cl (n := iv) (by omega)]) (by rw [x_rdS, if_pos c4, if_pos c13, if_neg c20, if_pos c27, f_cl (n := ac) (by omega), f_cl (n := iv) (by omega)]) dX0_read_102
        · refine lv_bipush (v := -3) hx hb dX0_read_30 (by decide) ?_
          exact g_iret K B (by rw [x_rdR, if_pos c4, if_pos c13, if_neg c20, if_neg c27]) (by rw [x_rdS, if_pos c4, if_pos c13, if_neg c20, if_neg c27]) dX0_read_32
    · refine lv_bipush (v := -2) hx hb dX0_read_16 (by decide) ?_
      exact g_iret K B (by rw [x_rdR, if_pos c4, if_neg c13]) (by rw [x_rdS, if_pos c4, if_neg c13]) dX0_read_18
  · refine lv_iconst (v := -1) hx hb dX0_read_7 (by decide) ?_
    exact g_iret K B (by rw [x_rdR, if_neg c4]) (by rw [x_rdS, if_neg c4]) dX0_read_8
theorem xm_unread (l : Launch) (D : va_G) (d z : ClassId) (h : Nat) (a : Nat → Nat) (S : g_S) (p0 p1 : Int32) {cl : Nat} (hcl : S 2 0 = nI cl) (hc6 : cl ≤ 6) : g_mi l D d z (x_w h a d z) yX0_unread cX0_unread 3 .int 4 102 [.ref h, .int p0, .int p1] S (x_urR S cl p0 p1) (x_urS S cl p0 p1) := by
  refine g_enti (own := RX0) (by decide) rfl (Nat.le_of_ble_eq_true rfl) ?_
  intro p e s m args below meth c A ls K B hl
  have hx := K.1
  have hb := K.2.1
  have hl : lv_has ls 3 [(0, .ref h), (1, .int p0), (2, .int p1)] := hl
  refine lv_iload_n hx hb dX0_unread_0 rfl (lv_at hl 1 rfl) ?_
  refine g_callsi (av := [.int p0]) (rest := []) K B (xm_badAccount l D d z h a S p0) xv_badAccount xd_badAccount ⟨Nat.le_of_ble_eq_true rfl, Nat.le_of_ble_eq_true rfl⟩ rfl hl.1 rfl (Nat.le_of_ble_eq_true rfl) dX0_unread_1 (fun H locs B => ?_)
  refine lv_if_eq (tgt := 9) hx hb dX0_unread_4 (by decide) (fun c4 => ?_) (fun c4 => ?_)
  · obtain ⟨ac, hac, rfl⟩ := f_bad1 c4
    refine lv_iload_n hx hb dX0_unread_9 rfl (lv_at hl 2 rfl) ?_
    refine g_callsi (av := [.int p1]) (rest := []) K B (xm_badInterval l D d z h a S p1) xv_badInterval xd_badInterval ⟨Nat.le_of_ble_eq_true rfl, Nat.le_of_ble_eq_true rfl⟩ rfl hl.1 rfl (Nat.le_of_ble_eq_true rfl) dX0_unread_10 (fun H locs B => ?_)
    refine lv_if_eq (tgt := 19) hx hb dX0_unread_13 (by decide) (fun c13 => ?_) (fun c13 => ?_)
    · obtain ⟨iv, hiv, rfl⟩ := f_badI48 c13
      refine lv_aload_n hx hb dX0_unread_19 rfl (lv_at hl 0 rfl) ?_
      refine x_get3 K B dX0_unread_20 ?_
      refine lv_iload_n hx hb dX0_unread_23 rfl (lv_at hl 1 rfl) ?_
      refine lv_bipush (v := 48) hx hb dX0_unread_24 (by decide) ?_
      refine lv_imul hx hb dX0_unread_26 ?_
      refine tp (n_m48 _) ?_
      refine lv_iload_n hx hb dX0_unread_27 rfl (lv_at hl 2 rfl) ?_
      refine lv_iadd hx hb dX0_unread_28 ?_
      refine tp (nI_add _ _) ?_
      refine x_ald3 K B (by omega) dX0_unread_29 ?_
      refine lv_if_ne (tgt := 36) hx hb dX0_unread_30 (by decide) (fun c30 => ?_) (fun c30 => ?_)
      · refine lv_aload_n hx hb dX0_unread_36 rfl (lv_at hl 0 rfl) ?_
        refine lv_iload_n hx hb dX0_unread_37 rfl (lv_at hl 1 rfl) ?_
        refine lv_iload_n hx hb dX0_unread_38 rfl (lv_at hl 2 rfl) ?_
        refine g_callv (av := [.int (nI ac), .int (nI iv)]) (rest := []) K B (xm_forgetRead l D d z h a S hac hiv) xv_forgetRead xd_forgetRead ⟨Nat.le_of_ble_eq_true rfl, Nat.le_of_ble_eq_true rfl⟩ (ci := 0) rfl rfl rfl hl.1 rfl (Nat.le_of_ble_eq_true rfl) dX0_unread_39 (fun H locs B => ?_)
        refine lv_aload_n hx hb dX0_unread_42 rfl (lv_at hl 0 rfl) ?_
        refine lv_iload_n hx hb dX0_unread_43 rfl (lv_at hl 1 rfl) ?_
        refine lv_iload_n hx hb dX0_unread_44 rfl (lv_at hl 2 rfl) ?_
        refine g_calli (av := [.int (nI ac), .int (nI iv)]) (rest := []) K B (xm_refresh l D d z h a (x_forget S ac iv) hac hiv (cl := cl) (by rw [x_forget_o _ _ _ (by decide) (by decide) (by decide)]; exact hcl) hc6) xv_refresh xd_refresh ⟨Nat.le_of_ble_eq_true rfl, Nat.le_of_ble_eq_true rfl⟩ (ci := 0) rfl rfl rfl hl.1 rfl (Nat.le_of_ble_eq_true rfl) dX0_unread_45 (fun H locs B => ?_)
        exact g_iret K B (by rw [x_urR, if_pos c4, if_pos c13, f_cl (n := ac) (by omega), f_cl (n := iv) (by omega), if_neg c30]) (by rw [x_urS, if_pos c4, if_pos c13, f_cl (n := ac) (by omega), f_cl (n := iv) (by omega), if_neg c30]) dX0_unread_48
      · refine lv_bipush (v := -7) hx hb dX0_unread_33 (by decide) ?_
        exact g_iret K B (by rw [x_urR, if_pos c4, if_pos c13, f_cl (n := ac) (by omega), f_cl (n := iv) (by omega), if_pos c30]) (by rw [x_urS, if_pos c4, if_pos c13, f_cl (n := ac) (by omega), f_cl (n := iv) (by omega), if_pos c30]) dX0_unread_35
    · refine lv_bipush (v := -2) hx hb dX0_unread_16 (by decide) ?_
      exact g_iret K B (by rw [x_urR, if_pos c4, if_neg c13]) (by rw [x_urS, if_pos c4, if_neg c13]) dX0_unread_18
  · refine lv_iconst (v := -1) hx hb dX0_unread_7 (by decide) ?_
    exact g_iret K B (by rw [x_urR, if_neg c4]) (by rw [x_urS, if_neg c4]) dX0_unread_8
theorem xm_usage (l : Launch) (D : va_G) (d z : ClassId) (h : Nat) (a : Nat → Nat) (S : g_S) (p0 p1 : Int32) : g_mi l D d z (x_w h a d z) yX0_usage cX0_usage 3 .int 1 20 [.ref h, .int p0, .int p1] S (x_usR S p0 p1) (S) := by
  refine g_enti (own := RX0) (by decide) rfl (Nat.le_of_ble_eq_true rfl) ?_
  intro p e s m args below meth c A ls K B hl
  have hx := K.1
  have hb := K.2.1
  have hl : lv_has ls 3 [(0, .ref h), (1, .int p0), (2, .int p1)] := hl
  refine lv_iload_n hx hb dX0_usage_0 rfl (lv_at hl 1 rfl) ?_
  refine g_callsi (av := [.int p0]) (rest := []) K B (xm_badAccount l D d z h a S p0) xv_badAccount xd_badAccount ⟨Nat.le_of_ble_eq_true rfl, Nat.le_of_ble_eq_true rfl⟩ rfl hl.1 rfl (Nat.le_of_ble_eq_true rfl) dX0_usage_1 (fun H locs B => ?_)
  refine lv_if_eq (tgt := 9) hx hb dX0_usage_4 (by decide) (fun c4 => ?_) (fun c4 => ?_)
  · obtain ⟨ac, hac, rfl⟩ := f_bad1 c4
    refine lv_iload_n hx hb dX0_usage_9 rfl (lv_at hl 2 rfl) ?_
    refine g_callsi (av := [.int p1]) (rest := []) K B (xm_badInterval l D d z h a S p1) xv_badInterval xd_badInterval ⟨Nat.le_of_ble_eq_true rfl, Nat.le_of_ble_eq_true rfl⟩ rfl hl.1 rfl (Nat.le_of_ble_eq_true rfl) dX0_usage_10 (fun H locs B => ?_)
    refine lv_if_eq (tgt := 19) hx hb dX0_usage_13 (by decide) (fun c13 => ?_) (fun c13 => ?_)
    · obtain ⟨iv, hiv, rfl⟩ := f_badI48 c13
      refine lv_aload_n hx hb dX0_usage_19 rfl (lv_at hl 0 rfl) ?_
      refine x_get5 K B dX0_usage_20 ?_
      refine lv_iload_n hx hb dX0_usage_23 rfl (lv_at hl 1 rfl) ?_
      refine lv_bipush (v := 48) hx hb dX0_usage_24 (by decide) ?_
      refine lv_imul hx hb dX0_usage_26 ?_
      refine tp (n_m48 _) ?_
      refine lv_iload_n hx hb dX0_usage_27 rfl (lv_at hl 2 rfl) ?_
      refine lv_iadd hx hb dX0_usage_28 ?_
      refine tp (nI_add _ _) ?_
      refine x_ald5 K B (by omega) dX0_usage_29 ?_
      exact g_iret K B (by rw [x_usR, if_pos c4, if_pos c13, f_cl (n := ac) (by omega), f_cl (n := iv) (by omega)]) (rfl) dX0_usage_30
    · refine lv_bipush (v := -2) hx hb dX0_usage_16 (by decide) ?_
      exact g_iret K B (by rw [x_usR, if_pos c4, if_neg c13]) (rfl) dX0_usage_18
  · refine lv_iconst (v := -1) hx hb dX0_usage_7 (by decide) ?_
    exact g_iret K B (by rw [x_usR, if_neg c4]) (rfl) dX0_usage_8
theorem xm_amount (l : Launch) (D : va_G) (d z : ClassId) (h : Nat) (a : Nat → Nat) (S : g_S) (p0 p1 : Int32) : g_mi l D d z (x_w h a d z) yX0_amount cX0_amount 3 .int 2 51 [.ref h, .int p0, .int p1] S (x_amR S p0 p1) (S) := by
  refine g_enti (own := RX0) (by decide) rfl (Nat.le_of_ble_eq_true rfl) ?_
  intro p e s m args below meth c A ls K B hl
  have hx := K.1
  have hb := K.2.1
  have hl : lv_has ls 3 [(0, .ref h), (1, .int p0), (2, .int p1)] := hl
  refine lv_iload_n hx hb dX0_amount_0 rfl (lv_at hl 1 rfl) ?_
  refine g_callsi (av := [.int p0]) (rest := []) K B (xm_badAccount l D d z h a S p0) xv_badAccount xd_badAccount ⟨Nat.le_of_ble_eq_true rfl, Nat.le_of_ble_eq_true rfl⟩ rfl hl.1 rfl (Nat.le_of_ble_eq_true rfl) dX0_amount_1 (fun H locs B => ?_)
  refine lv_if_eq (tgt := 9) hx hb dX0_amount_4 (by decide) (fun c4 => ?_) (fun c4 => ?_)
  · obtain ⟨ac, hac, rfl⟩ := f_bad1 c4
    refine lv_iload_n hx hb dX0_amount_9 rfl (lv_at hl 2 rfl) ?_
    refine lv_if_lt (tgt := 19) hx hb dX0_amount_10 (by decide) (fun c10 => ?_) (fun c10 => ?_)
    · refine lv_bipush (v := -8) hx hb dX0_amount_19 (by decide) ?_
      exact g_iret K B (by rw [x_amR, if_pos c4, if_pos c10]) (rfl) dX0_amount_21
    · refine lv_iload_n hx hb dX0_amount_13 rfl (lv_at hl 2 rfl) ?_
      refine lv_bipush (v := 6) hx hb dX0_amount_14 (by decide) ?_
      refine lv_icmp_lt (tgt := 22) hx hb dX0_amount_16 (by decide) (fun c16 => ?_) (fun c16 => ?_)
      · obtain ⟨pq, hpq, rfl⟩ := f_lt6 c10 c16
        refine lv_iload_n hx hb dX0_amount_22 rfl (lv_at hl 2 rfl) ?_
        refine lv_aload_n hx hb dX0_amount_23 rfl (lv_at hl 0 rfl) ?_
        refine x_get2 K B dX0_amount_24 ?_
        refine lv_icmp_ge (tgt := 42) hx hb dX0_amount_27 (by decide) (fun c27 => ?_) (fun c27 => ?_)
        · refine lv_aload_n hx hb dX0_amount_42 rfl (lv_at hl 0 rfl) ?_
          refine lv_iload_n hx hb dX0_amount_43 rfl (lv_at hl 1 rfl) ?_
          refine lv_iload_n hx hb dX0_amount_44 rfl (lv_at hl 2 rfl) ?_
          refine g_calli (av := [.int (nI ac), .int (nI pq)]) (rest := []) K B (xm_rate l D d z h a S hac hpq) xv_rate xd_rate ⟨Nat.le_of_ble_eq_true rfl, Nat.le_of_ble_eq_true rfl⟩ (ci := 0) rfl rfl rfl hl.1 rfl (Nat.le_of_ble_eq_true rfl) dX0_amount_45 (fun H locs B => ?_)
          exact g_iret K B (by rw [x_amR, if_pos c4, if_neg c10, if_pos c16, if_pos c27, f_cl (n := ac) (by omega), f_cl (n := pq) (by omega)]) (rfl) dX0_amount_48
        · refine lv_aload_n hx hb dX0_amount_30 rfl (lv_at hl 0 rfl) ?_
          refine x_get12 K B dX0_amount_31 ?_
          refine lv_iload_n hx hb dX0_amount_34 rfl (lv_at hl 1 rfl) ?_
          refine lv_bipush (v := 6) hx hb dX0_amount_35 (by decide) ?_
          refine lv_imul hx hb dX0_amount_37 ?_
          refine tp (n_m6 _) ?_
          refine lv_iload_n hx hb dX0_amount_38 rfl (lv_at hl 2 rfl) ?_
          refine lv_iadd hx hb dX0_amount_39 ?_
          refine tp (nI_add _ _) ?_
          refine x_ald12 K B (by omega) dX0_amount_40 ?_
          exact g_iret K B (by rw [x_amR, if_pos c4, if_neg c10, if_pos c16, if_neg c27, f_cl (n := ac) (by omega), f_cl (n := pq) (by omega)]) (rfl) dX0_amount_41
      · refine lv_bipush (v := -8) hx hb dX0_amount_19 (by decide) ?_
        exact g_iret K B (by rw [x_amR, if_pos c4, if_neg c10, if_neg c16]) (rfl) dX0_amount_21
  · refine lv_iconst (v := -1) hx hb dX0_amount_7 (by decide) ?_
    exact g_iret K B (by rw [x_amR, if_neg c4]) (rfl) dX0_amount_8
theorem xm_balance (l : Launch) (D : va_G) (d z : ClassId) (h : Nat) (a : Nat → Nat) (S : g_S) (p0 : Int32) : g_mi l D d z (x_w h a d z) yX0_balance cX0_balance 2 .int 1 20 [.ref h, .int p0] S (f_acc S 13 0 p0) (S) := by
  refine g_enti (own := RX0) (by decide) rfl (Nat.le_of_ble_eq_true rfl) ?_
  intro p e s m args below meth c A ls K B hl
  have hx := K.1
  have hb := K.2.1
  have hl : lv_has ls 2 [(0, .ref h), (1, .int p0)] := hl
  refine lv_iload_n hx hb dX0_balance_0 rfl (lv_at hl 1 rfl) ?_
  refine g_callsi (av := [.int p0]) (rest := []) K B (xm_badAccount l D d z h a S p0) xv_badAccount xd_badAccount ⟨Nat.le_of_ble_eq_true rfl, Nat.le_of_ble_eq_true rfl⟩ rfl hl.1 rfl (Nat.le_of_ble_eq_true rfl) dX0_balance_1 (fun H locs B => ?_)
  refine lv_if_eq (tgt := 11) hx hb dX0_balance_4 (by decide) (fun c4 => ?_) (fun c4 => ?_)
  · obtain ⟨ac, hac, rfl⟩ := f_bad1 c4
    refine lv_aload_n hx hb dX0_balance_11 rfl (lv_at hl 0 rfl) ?_
    refine x_get13 K B dX0_balance_12 ?_
    refine lv_iload_n hx hb dX0_balance_15 rfl (lv_at hl 1 rfl) ?_
    refine x_ald13 K B (by omega) dX0_balance_16 ?_
    exact g_iret K B (by rw [f_acc, if_pos c4, f_cl (n := ac) (by omega)]) (rfl) dX0_balance_17
  · refine lv_iconst (v := 0) hx hb dX0_balance_7 (by decide) ?_
    refine lv_goto (tgt := 17) hx hb dX0_balance_8 (by decide) ?_
    exact g_iret K B (by rw [f_acc, if_neg c4]) (rfl) dX0_balance_17
theorem xm_lines (l : Launch) (D : va_G) (d z : ClassId) (h : Nat) (a : Nat → Nat) (S : g_S) (p0 : Int32) : g_mi l D d z (x_w h a d z) yX0_lines cX0_lines 2 .int 1 20 [.ref h, .int p0] S (f_acc S 14 (-1) p0) (S) := by
  refine g_enti (own := RX0) (by decide) rfl (Nat.le_of_ble_eq_true rfl) ?_
  intro p e s m args below meth c A ls K B hl
  have hx := K.1
  have hb := K.2.1
  have hl : lv_has ls 2 [(0, .ref h), (1, .int p0)] := hl
  refine lv_iload_n hx hb dX0_lines_0 rfl (lv_at hl 1 rfl) ?_
  refine g_callsi (av := [.int p0]) (rest := []) K B (xm_badAccount l D d z h a S p0) xv_badAccount xd_badAccount ⟨Nat.le_of_ble_eq_true rfl, Nat.le_of_ble_eq_true rfl⟩ rfl hl.1 rfl (Nat.le_of_ble_eq_true rfl) dX0_lines_1 (fun H locs B => ?_)
  refine lv_if_eq (tgt := 11) hx hb dX0_lines_4 (by decide) (fun c4 => ?_) (fun c4 => ?_)
  · obtain ⟨ac, hac, rfl⟩ := f_bad1 c4
    refine lv_aload_n hx hb dX0_lines_11 rfl (lv_at hl 0 rfl) ?_
    refine x_get14 K B dX0_lines_12 ?_
    refine lv_iload_n hx hb dX0_lines_15 rfl (lv_at hl 1 rfl) ?_
    refine x_ald14 K B (by omega) dX0_lines_16 ?_
    exact g_iret K B (by rw [f_acc, if_pos c4, f_cl (n := ac) (by omega)]) (rfl) dX0_lines_17
  · refine lv_iconst (v := -1) hx hb dX0_lines_7 (by decide) ?_
    refine lv_goto (tgt := 17) hx hb dX0_lines_8 (by decide) ?_
    exact g_iret K B (by rw [f_acc, if_neg c4]) (rfl) dX0_lines_17
theorem xm_noLine (l : Launch) (D : va_G) (d z : ClassId) (h : Nat) (a : Nat → Nat) (S : g_S) (p0 p1 : Int32) : g_mi l D d z (x_w h a d z) yX0_noLine cX0_noLine 3 .boolean 1 20 [.ref h, .int p0, .int p1] S (f_noL S 14 p0 p1) (S) := by
  refine g_enti (own := RX0) (by decide) rfl (Nat.le_of_ble_eq_true rfl) ?_
  intro p e s m args below meth c A ls K B hl
  have hx := K.1
  have hb := K.2.1
  have hl : lv_has ls 3 [(0, .ref h), (1, .int p0), (2, .int p1)] := hl
  refine lv_iload_n hx hb dX0_noLine_0 rfl (lv_at hl 1 rfl) ?_
  refine g_callsi (av := [.int p0]) (rest := []) K B (xm_badAccount l D d z h a S p0) xv_badAccount xd_badAccount ⟨Nat.le_of_ble_eq_true rfl, Nat.le_of_ble_eq_true rfl⟩ rfl hl.1 rfl (Nat.le_of_ble_eq_true rfl) dX0_noLine_1 (fun H locs B => ?_)
  refine lv_if_ne (tgt := 27) hx hb dX0_noLine_4 (by decide) (fun c4 => ?_) (fun c4 => ?_)
  · refine lv_iconst (v := 1) hx hb dX0_noLine_27 (by decide) ?_
    refine lv_goto (tgt := 32) hx hb dX0_noLine_28 (by decide) ?_
    exact g_zret K B rfl (by rw [f_noL, if_neg c4]) (rfl) dX0_noLine_32
  · obtain ⟨ac, hac, rfl⟩ := f_bad1 c4
    refine lv_iload_n hx hb dX0_noLine_7 rfl (lv_at hl 2 rfl) ?_
    refine lv_if_lt (tgt := 27) hx hb dX0_noLine_8 (by decide) (fun c8 => ?_) (fun c8 => ?_)
    · refine lv_iconst (v := 1) hx hb dX0_noLine_27 (by decide) ?_
      refine lv_goto (tgt := 32) hx hb dX0_noLine_28 (by decide) ?_
      exact g_zret K B rfl (by rw [f_noL, if_pos c4, if_pos c8]) (rfl) dX0_noLine_32
    · refine lv_iload_n hx hb dX0_noLine_11 rfl (lv_at hl 2 rfl) ?_
      refine lv_bipush (v := 7) hx hb dX0_noLine_12 (by decide) ?_
      refine lv_icmp_gt (tgt := 27) hx hb dX0_noLine_14 (by decide) (fun c14 => ?_) (fun c14 => ?_)
      · refine lv_iconst (v := 1) hx hb dX0_noLine_27 (by decide) ?_
        refine lv_goto (tgt := 32) hx hb dX0_noLine_28 (by decide) ?_
        exact g_zret K B rfl (by rw [f_noL, if_pos c4, if_neg c8, if_pos c14]) (rfl) dX0_noLine_32
      · refine lv_iload_n hx hb dX0_noLine_17 rfl (lv_at hl 2 rfl) ?_
        refine lv_aload_n hx hb dX0_noLine_18 rfl (lv_at hl 0 rfl) ?_
        refine x_get14 K B dX0_noLine_19 ?_
        refine lv_iload_n hx hb dX0_noLine_22 rfl (lv_at hl 1 rfl) ?_
        refine x_ald14 K B (by omega) dX0_noLine_23 ?_
        refine lv_icmp_lt (tgt := 31) hx hb dX0_noLine_24 (by decide) (fun c24 => ?_) (fun c24 => ?_)
        · refine lv_iconst (v := 0) hx hb dX0_noLine_31 (by decide) ?_
          exact g_zret K B rfl (by rw [f_noL, if_pos c4, if_neg c8, if_neg c14, f_cl (n := ac) (by omega), if_pos c24]) (rfl) dX0_noLine_32
        · refine lv_iconst (v := 1) hx hb dX0_noLine_27 (by decide) ?_
          refine lv_goto (tgt := 32) hx hb dX0_noLine_28 (by decide) ?_
          exact g_zret K B rfl (by rw [f_noL, if_pos c4, if_neg c8, if_neg c14, f_cl (n := ac) (by omega), if_neg c24]) (rfl) dX0_noLine_32
theorem xm_lineAmount (l : Launch) (D : va_G) (d z : ClassId) (h : Nat) (a : Nat → Nat) (S : g_S) (p0 p1 : Int32) : g_mi l D d z (x_w h a d z) yX0_lineAmount cX0_lineAmount 3 .int 2 42 [.ref h, .int p0, .int p1] S (x_lnR S 15 0 p0 p1) (S) := by
  refine g_enti (own := RX0) (by decide) rfl (Nat.le_of_ble_eq_true rfl) ?_
  intro p e s m args below meth c A ls K B hl
  have hx := K.1
  have hb := K.2.1
  have hl : lv_has ls 3 [(0, .ref h), (1, .int p0), (2, .int p1)] := hl
  refine lv_aload_n hx hb dX0_lineAmount_0 rfl (lv_at hl 0 rfl) ?_
  refine lv_iload_n hx hb dX0_lineAmount_1 rfl (lv_at hl 1 rfl) ?_
  refine lv_iload_n hx hb dX0_lineAmount_2 rfl (lv_at hl 2 rfl) ?_
  refine g_calli (av := [.int p0, .int p1]) (rest := []) K B (xm_noLine l D d z h a S p0 p1) xv_noLine xd_noLine ⟨Nat.le_of_ble_eq_true rfl, Nat.le_of_ble_eq_true rfl⟩ (ci := 0) rfl rfl rfl hl.1 rfl (Nat.le_of_ble_eq_true rfl) dX0_lineAmount_3 (fun H locs B => ?_)
  refine lv_if_eq (tgt := 11) hx hb dX0_lineAmount_6 (by decide) (fun c6 => ?_) (fun c6 => ?_)
  · obtain ⟨ac, hac, rfl⟩ := f_noL_ac c6
    have hix := (f_ix_lt (S 14 ac - 1 - p1)).1
    refine lv_aload_n hx hb dX0_lineAmount_11 rfl (lv_at hl 0 rfl) ?_
    refine x_get15 K B dX0_lineAmount_12 ?_
    refine lv_iload_n hx hb dX0_lineAmount_15 rfl (lv_at hl 1 rfl) ?_
    refine lv_bipush (v := 8) hx hb dX0_lineAmount_16 (by decide) ?_
    refine lv_imul hx hb dX0_lineAmount_18 ?_
    refine tp (n_m8 _) ?_
    refine lv_aload_n hx hb dX0_lineAmount_19 rfl (lv_at hl 0 rfl) ?_
    refine x_get14 K B dX0_lineAmount_20 ?_
    refine lv_iload_n hx hb dX0_lineAmount_23 rfl (lv_at hl 1 rfl) ?_
    refine x_ald14 K B (by omega) dX0_lineAmount_24 ?_
    refine lv_iconst (v := 1) hx hb dX0_lineAmount_25 (by decide) ?_
    refine lv_isub hx hb dX0_lineAmount_26 ?_
    refine lv_iload_n hx hb dX0_lineAmount_27 rfl (lv_at hl 2 rfl) ?_
    refine lv_isub hx hb dX0_lineAmount_28 ?_
    refine lv_bipush (v := 7) hx hb dX0_lineAmount_29 (by decide) ?_
    refine lv_iand hx hb dX0_lineAmount_31 ?_
    refine tp (y := nI (f_ix (S 14 ac - 1 - p1))) ((f_ix_lt _).2) ?_
    refine lv_iadd hx hb dX0_lineAmount_32 ?_
    refine tp (nI_add _ _) ?_
    refine x_ald15 K B (by omega) dX0_lineAmount_33 ?_
    exact g_iret K B (by rw [x_lnR, if_pos c6, f_cl (n := ac) (by omega)]) (rfl) dX0_lineAmount_34
  · refine lv_iconst (v := 0) hx hb dX0_lineAmount_9 (by decide) ?_
    exact g_iret K B (by rw [x_lnR, if_neg c6]) (rfl) dX0_lineAmount_10
theorem xm_linePeriod (l : Launch) (D : va_G) (d z : ClassId) (h : Nat) (a : Nat → Nat) (S : g_S) (p0 p1 : Int32) : g_mi l D d z (x_w h a d z) yX0_linePeriod cX0_linePeriod 3 .int 2 42 [.ref h, .int p0, .int p1] S (x_lnR S 16 (-8) p0 p1) (S) := by
  refine g_enti (own := RX0) (by decide) rfl (Nat.le_of_ble_eq_true rfl) ?_
  intro p e s m args below meth c A ls K B hl
  have hx := K.1
  have hb := K.2.1
  have hl : lv_has ls 3 [(0, .ref h), (1, .int p0), (2, .int p1)] := hl
  refine lv_aload_n hx hb dX0_linePeriod_0 rfl (lv_at hl 0 rfl) ?_
  refine lv_iload_n hx hb dX0_linePeriod_1 rfl (lv_at hl 1 rfl) ?_
  refine lv_iload_n hx hb dX0_linePeriod_2 rfl (lv_at hl 2 rfl) ?_
  refine g_calli (av := [.int p0, .int p1]) (rest := []) K B (xm_noLine l D d z h a S p0 p1) xv_noLine xd_noLine ⟨Nat.le_of_ble_eq_true rfl, Nat.le_of_ble_eq_true rfl⟩ (ci := 0) rfl rfl rfl hl.1 rfl (Nat.le_of_ble_eq_true rfl) dX0_linePeriod_3 (fun H locs B => ?_)
  refine lv_if_eq (tgt := 12) hx hb dX0_linePeriod_6 (by decide) (fun c6 => ?_) (fun c6 => ?_)
  · obtain ⟨ac, hac, rfl⟩ := f_noL_ac c6
    have hix := (f_ix_lt (S 14 ac - 1 - p1)).1
    refine lv_aload_n hx hb dX0_linePeriod_12 rfl (lv_at hl 0 rfl) ?_
    refine x_get16 K B dX0_linePeriod_13 ?_
    refine lv_iload_n hx hb dX0_linePeriod_16 rfl (lv_at hl 1 rfl) ?_
    refine lv_bipush (v := 8) hx hb dX0_linePeriod_17 (by decide) ?_
    refine lv_imul hx hb dX0_linePeriod_19 ?_
    refine tp (n_m8 _) ?_
    refine lv_aload_n hx hb dX0_linePeriod_20 rfl (lv_at hl 0 rfl) ?_
    refine x_get14 K B dX0_linePeriod_21 ?_
    refine lv_iload_n hx hb dX0_linePeriod_24 rfl (lv_at hl 1 rfl) ?_
    refine x_ald14 K B (by omega) dX0_linePeriod_25 ?_
    refine lv_iconst (v := 1) hx hb dX0_linePeriod_26 (by decide) ?_
    refine lv_isub hx hb dX0_linePeriod_27 ?_
    refine lv_iload_n hx hb dX0_linePeriod_28 rfl (lv_at hl 2 rfl) ?_
    refine lv_isub hx hb dX0_linePeriod_29 ?_
    refine lv_bipush (v := 7) hx hb dX0_linePeriod_30 (by decide) ?_
    refine lv_iand hx hb dX0_linePeriod_32 ?_
    refine tp (y := nI (f_ix (S 14 ac - 1 - p1))) ((f_ix_lt _).2) ?_
    refine lv_iadd hx hb dX0_linePeriod_33 ?_
    refine tp (nI_add _ _) ?_
    refine x_ald16 K B (by omega) dX0_linePeriod_34 ?_
    exact g_iret K B (by rw [x_lnR, if_pos c6, f_cl (n := ac) (by omega)]) (rfl) dX0_linePeriod_35
  · refine lv_bipush (v := -8) hx hb dX0_linePeriod_9 (by decide) ?_
    exact g_iret K B (by rw [x_lnR, if_neg c6]) (rfl) dX0_linePeriod_11
theorem x_close_loop (K : g_K p s m args meth c D d z A RX0 cX0_close 4 (some .int)) {R : Room} {S : g_S} {cl : Nat} (hc : cl < 6) {Q : State → Prop} (kk : ∀ (H : Heap) (locs : List Loc) (ls : Array Slot), g_B D A (x_w h a d z) s H locs (x_copy S cl 6) → lv_has ls 4 [(0, .ref h), (1, .int (nI cl))] → W p l e R s m args below meth c H locs 0 0 Q (F0 m 48 ls [])) : ∀ n k : Nat, k ≤ 6 → 7 ≤ k + n → ∀ (H : Heap) (locs : List Loc) (ls : Array Slot), g_B D A (x_w h a d z) s H locs (x_copy S cl k) → lv_has ls 4 [(0, .ref h), (1, .int (nI cl)), (2, .int (nI k))] → W p l e R s m args below meth c H locs 0 0 Q (F0 m 19 ls []) := by
  have hx := K.1
  have hb := K.2.1
  intro n
  induction n with
  | zero =>
    intro k h1 h2
    exact absurd h2 (by omega)
  | succ n ih =>
    intro k hk hkn H locs ls B hl
    refine lv_iload_n hx hb dX0_close_19 rfl (lv_at hl 2 rfl) ?_
    refine lv_bipush (v := 6) hx hb dX0_close_20 (by decide) ?_
    refine lv_icmp_ge (tgt := 48) hx hb dX0_close_22 (by decide) (fun c22 => ?_) (fun c22 => ?_)
    · have c22 : 6 ≤ k := (nI_leI (a := 6) (b := k) (by omega) (by omega)).mp c22
      obtain rfl : k = 6 := by omega
      exact kk _ _ _ B (lv_sub hl [0, 1] rfl)
    · have c22 : ¬ 6 ≤ k := fun h9 => c22 ((nI_leI (a := 6) (b := k) (by omega) (by omega)).mpr h9)
      refine lv_aload_n hx hb dX0_close_25 rfl (lv_at hl 0 rfl) ?_
      refine x_get1 K B dX0_close_26 ?_
      refine lv_iload_n hx hb dX0_close_29 rfl (lv_at hl 1 rfl) ?_
      refine lv_bipush (v := 6) hx hb dX0_close_30 (by decide) ?_
      refine lv_imul hx hb dX0_close_32 ?_
      refine tp (n_m6 _) ?_
      refine lv_iload_n hx hb dX0_close_33 rfl (lv_at hl 2 rfl) ?_
      refine lv_iadd hx hb dX0_close_34 ?_
      refine tp (nI_add _ _) ?_
      refine lv_aload_n hx hb dX0_close_35 rfl (lv_at hl 0 rfl) ?_
      refine x_get0 K B dX0_close_36 ?_
      refine lv_iload_n hx hb dX0_close_39 rfl (lv_at hl 2 rfl) ?_
      refine x_ald0 K B (by omega) dX0_close_40 ?_
      refine x_ast1 K B (by omega) dX0_close_41 (fun H locs B => ?_)
      refine lv_iinc (v := nI (k + 1)) (lv' := [(2, .int (nI (k + 1))), (0, .ref h), (1, .int (nI cl))]) hx hb dX0_close_42 hl (k := 2) rfl (n_i1 _) (by decide) rfl (fun ls hl => ?_)
      refine lv_goto (tgt := 19) hx hb dX0_close_45 (by decide) ?_
      exact ih (k + 1) (by omega) (by omega) _ _ ls B (lv_sub hl [1, 2, 0] rfl)
theorem xm_close (l : Launch) (D : va_G) (d z : ClassId) (h : Nat) (a : Nat → Nat) (S : g_S) {cl : Nat} (hcl : S 2 0 = nI cl) (hc6 : cl ≤ 6) : g_mi l D d z (x_w h a d z) yX0_close cX0_close 4 .int 2 51 [.ref h] S (f_clR cl) (x_clS S cl) := by
  refine g_enti (own := RX0) (by decide) rfl (Nat.le_of_ble_eq_true rfl) ?_
  intro p e s m args below meth c A ls K B hl
  have hx := K.1
  have hb := K.2.1
  have hl : lv_has ls 4 [(0, .ref h)] := hl
  refine lv_aload_n hx hb dX0_close_0 rfl (lv_at hl 0 rfl) ?_
  refine x_get2 K B dX0_close_1 ?_
  refine tp (y := nI cl) (hcl) ?_
  refine lv_bipush (v := 6) hx hb dX0_close_4 (by decide) ?_
  refine lv_icmp_lt (tgt := 12) hx hb dX0_close_6 (by decide) (fun c6 => ?_) (fun c6 => ?_)
  · have c6 : cl < 6 := (nI_ltI (a := cl) (b := 6) (by omega) (by omega)).mp c6
    refine lv_aload_n hx hb dX0_close_12 rfl (lv_at hl 0 rfl) ?_
    refine x_get2 K B dX0_close_13 ?_
    refine tp (y := nI cl) (hcl) ?_
    refine lv_istore_n (lv' := [(1, .int (nI cl)), (0, .ref h)]) hx hb dX0_close_16 rfl hl (by decide) rfl (fun ls hl => ?_)
    refine lv_iconst (v := 0) hx hb dX0_close_17 (by decide) ?_
    refine tp (y := nI 0) (rfl) ?_
    refine lv_istore_n (lv' := [(2, .int (nI 0)), (1, .int (nI cl)), (0, .ref h)]) hx hb dX0_close_18 rfl hl (by decide) rfl (fun ls hl => ?_)
    refine x_close_loop K c6 (fun H locs ls B hl => ?_) 7 0 (by omega) (by omega) _ _ ls B (lv_sub hl [2, 1, 0] rfl)
    refine lv_aload_n hx hb dX0_close_48 rfl (lv_at hl 0 rfl) ?_
    refine lv_iload_n hx hb dX0_close_49 rfl (lv_at hl 1 rfl) ?_
    refine lv_iconst (v := 1) hx hb dX0_close_50 (by decide) ?_
    refine lv_iadd hx hb dX0_close_51 ?_
    refine tp (n_a1 _) ?_
    refine x_put2 K B dX0_close_52 (fun H locs B => ?_)
    refine lv_iconst (v := 0) hx hb dX0_close_55 (by decide) ?_
    refine tp (y := nI 0) (rfl) ?_
    refine lv_istore_n (lv' := [(2, .int (nI 0)), (0, .ref h), (1, .int (nI cl))]) hx hb dX0_close_56 rfl hl (by decide) rfl (fun ls hl => ?_)
    refine lv_iload_n hx hb dX0_close_57 rfl (lv_at hl 0 rfl) ?_
    refine lv_iconst (v := 2) hx hb dX0_close_58 (by decide) ?_
    refine lv_icmp_ge (tgt := 94) hx hb dX0_close_59 (by decide) (fun c59 => ?_) (fun c59 => ?_)
    · have c59 : 2 ≤ 0 := (nI_leI (a := 2) (b := 0) (by omega) (by omega)).mp c59
      exfalso; omega
    · have c59 : ¬ 2 ≤ 0 := fun h9 => c59 ((nI_leI (a := 2) (b := 0) (by omega) (by omega)).mpr h9)
      refine lv_aload_n hx hb dX0_close_62 rfl (lv_at hl 1 rfl) ?_
      refine lv_iload_n hx hb dX0_close_63 rfl (lv_at hl 0 rfl) ?_
      refine lv_iload_n hx hb dX0_close_64 rfl (lv_at hl 2 rfl) ?_
      refine g_calli (av := [.int (nI 0), .int (nI cl)]) (rest := []) K B (xm_rate l D d z h a (up2 (x_copy S cl 6) 2 0 (nI (cl + 1))) (ac := 0) (by omega) c6) xv_rate xd_rate ⟨Nat.le_of_ble_eq_true rfl, Nat.le_of_ble_eq_true rfl⟩ (ci := 0) rfl rfl rfl hl.1 rfl (Nat.le_of_ble_eq_true rfl) dX0_close_65 (fun H locs B => ?_)
      refine lv_istore_n (lv' := [(3, .int (x_rate (up2 (x_copy S cl 6) 2 0 (nI (cl + 1))) 0 cl)), (2, .int (nI 0)), (0, .ref h), (1, .int (nI cl))]) hx hb dX0_close_68 rfl hl (by decide) rfl (fun ls hl => ?_)
      refine lv_aload_n hx hb dX0_close_69 rfl (lv_at hl 2 rfl) ?_
      refine x_get12 K B dX0_close_70 ?_
      refine lv_iload_n hx hb dX0_close_73 rfl (lv_at hl 1 rfl) ?_
      refine lv_bipush (v := 6) hx hb dX0_close_74 (by decide) ?_
      refine lv_imul hx hb dX0_close_76 ?_
      refine tp (n_m6 _) ?_
      refine lv_iload_n hx hb dX0_close_77 rfl (lv_at hl 3 rfl) ?_
      refine lv_iadd hx hb dX0_close_78 ?_
      refine tp (nI_add _ _) ?_
      refine lv_iload_n hx hb dX0_close_79 rfl (lv_at hl 0 rfl) ?_
      refine x_ast12 K B (by omega) dX0_close_80 (fun H locs B => ?_)
      refine lv_aload_n hx hb dX0_close_81 rfl (lv_at hl 2 rfl) ?_
      refine lv_iload_n hx hb dX0_close_82 rfl (lv_at hl 1 rfl) ?_
      refine lv_iload_n hx hb dX0_close_83 rfl (lv_at hl 3 rfl) ?_
      refine lv_iload_n hx hb dX0_close_84 rfl (lv_at hl 0 rfl) ?_
      refine g_callv (av := [.int (nI 0), .int (nI cl), .int (x_rate (up2 (x_copy S cl 6) 2 0 (nI (cl + 1))) 0 cl)]) (rest := []) K B (xm_addLine l D d z h a (up2 (up2 (x_copy S cl 6) 2 0 (nI (cl + 1))) 12 (0 * 6 + cl) (x_rate (up2 (x_copy S cl 6) 2 0 (nI (cl + 1))) 0 cl)) (ac := 0) (by omega) (x_rate (up2 (x_copy S cl 6) 2 0 (nI (cl + 1))) 0 cl)) xv_addLine xd_addLine ⟨Nat.le_of_ble_eq_true rfl, Nat.le_of_ble_eq_true rfl⟩ (ci := 0) rfl rfl rfl hl.1 rfl (Nat.le_of_ble_eq_true rfl) dX0_close_85 (fun H locs B => ?_)
      refine lv_iinc (v := nI 1) (lv' := [(2, .int (nI 1)), (3, .int (x_rate (up2 (x_copy S cl 6) 2 0 (nI (cl + 1))) 0 cl)), (0, .ref h), (1, .int (nI cl))]) hx hb dX0_close_88 hl (k := 1) rfl (n_i1 0) (by decide) rfl (fun ls hl => ?_)
      refine lv_goto (tgt := 57) hx hb dX0_close_91 (by decide) ?_
      refine lv_iload_n hx hb dX0_close_57 rfl (lv_at hl 0 rfl) ?_
      refine lv_iconst (v := 2) hx hb dX0_close_58 (by decide) ?_
      refine lv_icmp_ge (tgt := 94) hx hb dX0_close_59 (by decide) (fun c59 => ?_) (fun c59 => ?_)
      · have c59 : 2 ≤ 1 := (nI_leI (a := 2) (b := 1) (by omega) (by omega)).mp c59
        exfalso; omega
      · have c59 : ¬ 2 ≤ 1 := fun h9 => c59 ((nI_leI (a := 2) (b := 1) (by omega) (by omega)).mpr h9)
        refine lv_aload_n hx hb dX0_close_62 rfl (lv_at hl 2 rfl) ?_
        refine lv_iload_n hx hb dX0_close_63 rfl (lv_at hl 0 rfl) ?_
        refine lv_iload_n hx hb dX0_close_64 rfl (lv_at hl 3 rfl) ?_
        refine g_calli (av := [.int (nI 1), .int (nI cl)]) (rest := []) K B (xm_rate l D d z h a (x_bill (up2 (x_copy S cl 6) 2 0 (nI (cl + 1))) 0 cl) (ac := 1) (by omega) c6) xv_rate xd_rate ⟨Nat.le_of_ble_eq_true rfl, Nat.le_of_ble_eq_true rfl⟩ (ci := 0) rfl rfl rfl hl.1 rfl (Nat.le_of_ble_eq_true rfl) dX0_close_65 (fun H locs B => ?_)
        refine lv_istore_n (lv' := [(3, .int (x_rate (x_bill (up2 (x_copy S cl 6) 2 0 (nI (cl + 1))) 0 cl) 1 cl)), (2, .int (nI 1)), (0, .ref h), (1, .int (nI cl))]) hx hb dX0_close_68 rfl hl (by decide) rfl (fun ls hl => ?_)
        refine lv_aload_n hx hb dX0_close_69 rfl (lv_at hl 2 rfl) ?_
        refine x_get12 K B dX0_close_70 ?_
        refine lv_iload_n hx hb dX0_close_73 rfl (lv_at hl 1 rfl) ?_
        refine lv_bipush (v := 6) hx hb dX0_close_74 (by decide) ?_
        refine lv_imul hx hb dX0_close_76 ?_
        refine tp (n_m6 _) ?_
        refine lv_iload_n hx hb dX0_close_77 rfl (lv_at hl 3 rfl) ?_
        refine lv_iadd hx hb dX0_close_78 ?_
        refine tp (nI_add _ _) ?_
        refine lv_iload_n hx hb dX0_close_79 rfl (lv_at hl 0 rfl) ?_
        refine x_ast12 K B (by omega) dX0_close_80 (fun H locs B => ?_)
        refine lv_aload_n hx hb dX0_close_81 rfl (lv_at hl 2 rfl) ?_
        refine lv_iload_n hx hb dX0_close_82 rfl (lv_at hl 1 rfl) ?_
        refine lv_iload_n hx hb dX0_close_83 rfl (lv_at hl 3 rfl) ?_
        refine lv_iload_n hx hb dX0_close_84 rfl (lv_at hl 0 rfl) ?_
        refine g_callv (av := [.int (nI 1), .int (nI cl), .int (x_rate (x_bill (up2 (x_copy S cl 6) 2 0 (nI (cl + 1))) 0 cl) 1 cl)]) (rest := []) K B (xm_addLine l D d z h a (up2 (x_bill (up2 (x_copy S cl 6) 2 0 (nI (cl + 1))) 0 cl) 12 (1 * 6 + cl) (x_rate (x_bill (up2 (x_copy S cl 6) 2 0 (nI (cl + 1))) 0 cl) 1 cl)) (ac := 1) (by omega) (x_rate (x_bill (up2 (x_copy S cl 6) 2 0 (nI (cl + 1))) 0 cl) 1 cl)) xv_addLine xd_addLine ⟨Nat.le_of_ble_eq_true rfl, Nat.le_of_ble_eq_true rfl⟩ (ci := 0) rfl rfl rfl hl.1 rfl (Nat.le_of_ble_eq_true rfl) dX0_close_85 (fun H locs B => ?_)
        refine lv_iinc (v := nI 2) (lv' := [(2, .int (nI 2)), (3, .int (x_rate (x_bill (up2 (x_copy S cl 6) 2 0 (nI (cl + 1))) 0 cl) 1 cl)), (0, .ref h), (1, .int (nI cl))]) hx hb dX0_close_88 hl (k := 1) rfl (n_i1 1) (by decide) rfl (fun ls hl => ?_)
        refine lv_goto (tgt := 57) hx hb dX0_close_91 (by decide) ?_
        refine lv_iload_n hx hb dX0_close_57 rfl (lv_at hl 0 rfl) ?_
        refine lv_iconst (v := 2) hx hb dX0_close_58 (by decide) ?_
        refine lv_icmp_ge (tgt := 94) hx hb dX0_close_59 (by decide) (fun c59 => ?_) (fun c59 => ?_)
        · have c59 : 2 ≤ 2 := (nI_leI (a := 2) (b := 2) (by omega) (by omega)).mp c59
          refine lv_iload_n hx hb dX0_close_94 rfl (lv_at hl 3 rfl) ?_
          exact g_iret K B (by rw [f_clR, if_pos c6]) (by rw [x_clS, if_pos c6] <;> rfl) dX0_close_95
        · have c59 : ¬ 2 ≤ 2 := fun h9 => c59 ((nI_leI (a := 2) (b := 2) (by omega) (by omega)).mpr h9)
          exfalso; omega
  · have c6 : ¬ cl < 6 := fun h9 => c6 ((nI_ltI (a := cl) (b := 6) (by omega) (by omega)).mpr h9)
    refine lv_bipush (v := -6) hx hb dX0_close_9 (by decide) ?_
    exact g_iret K B (by rw [f_clR, if_neg c6]) (by rw [x_clS, if_neg c6]) dX0_close_11
end XW
end
section
set_option maxRecDepth 100000
set_option maxHeartbeats 4000000
section MW
variable {p : Program} {l : Launch} {e : Env} {s : State} {m : MethodId} {args : Array Value} {below : List Frame} {meth : Method} {c : Code} {D : va_G} {d z : ClassId} {A : Nat → Prop} {h : Nat} {a : Nat → Nat}
theorem mm_badAccount (l : Launch) (D : va_G) (d z : ClassId) (h : Nat) (a : Nat → Nat) (S : g_S) (p0 : Int32) : g_mi l D d z (m_w h a d z) yX1_badAccount cX1_badAccount 2 .boolean 0 0 [.ref h, .int p0] S (f_bad 1 p0) (S) := by
  refine g_enti (own := RX1) (by decide) rfl (Nat.le_of_ble_eq_true rfl) ?_
  intro p e s m args below meth c A ls K B hl
  have hx := K.1
  have hb := K.2.1
  have hl : lv_has ls 2 [(0, .ref h), (1, .int p0)] := hl
  refine lv_iload_n hx hb dX1_badAccount_0 rfl (lv_at hl 1 rfl) ?_
  refine lv_if_lt (tgt := 9) hx hb dX1_badAccount_1 (by decide) (fun c1 => ?_) (fun c1 => ?_)
  · refine lv_iconst (v := 1) hx hb dX1_badAccount_9 (by decide) ?_
    refine lv_goto (tgt := 14) hx hb dX1_badAccount_10 (by decide) ?_
    exact g_zret K B rfl (by rw [f_bad, if_pos c1]) (rfl) dX1_badAccount_14
  · refine lv_iload_n hx hb dX1_badAccount_4 rfl (lv_at hl 1 rfl) ?_
    refine lv_iconst (v := 1) hx hb dX1_badAccount_5 (by decide) ?_
    refine lv_icmp_le (tgt := 13) hx hb dX1_badAccount_6 (by decide) (fun c6 => ?_) (fun c6 => ?_)
    · refine lv_iconst (v := 0) hx hb dX1_badAccount_13 (by decide) ?_
      exact g_zret K B rfl (by rw [f_bad, if_neg c1, if_pos c6]) (rfl) dX1_badAccount_14
    · refine lv_iconst (v := 1) hx hb dX1_badAccount_9 (by decide) ?_
      refine lv_goto (tgt := 14) hx hb dX1_badAccount_10 (by decide) ?_
      exact g_zret K B rfl (by rw [f_bad, if_neg c1, if_neg c6]) (rfl) dX1_badAccount_14
theorem mm_badInterval (l : Launch) (D : va_G) (d z : ClassId) (h : Nat) (a : Nat → Nat) (S : g_S) (p0 : Int32) : g_mi l D d z (m_w h a d z) yX1_badInterval cX1_badInterval 2 .boolean 0 0 [.ref h, .int p0] S (f_bad 47 p0) (S) := by
  refine g_enti (own := RX1) (by decide) rfl (Nat.le_of_ble_eq_true rfl) ?_
  intro p e s m args below meth c A ls K B hl
  have hx := K.1
  have hb := K.2.1
  have hl : lv_has ls 2 [(0, .ref h), (1, .int p0)] := hl
  refine lv_iload_n hx hb dX1_badInterval_0 rfl (lv_at hl 1 rfl) ?_
  refine lv_if_lt (tgt := 10) hx hb dX1_badInterval_1 (by decide) (fun c1 => ?_) (fun c1 => ?_)
  · refine lv_iconst (v := 1) hx hb dX1_badInterval_10 (by decide) ?_
    refine lv_goto (tgt := 15) hx hb dX1_badInterval_11 (by decide) ?_
    exact g_zret K B rfl (by rw [f_bad, if_pos c1]) (rfl) dX1_badInterval_15
  · refine lv_iload_n hx hb dX1_badInterval_4 rfl (lv_at hl 1 rfl) ?_
    refine lv_bipush (v := 47) hx hb dX1_badInterval_5 (by decide) ?_
    refine lv_icmp_le (tgt := 14) hx hb dX1_badInterval_7 (by decide) (fun c7 => ?_) (fun c7 => ?_)
    · refine lv_iconst (v := 0) hx hb dX1_badInterval_14 (by decide) ?_
      exact g_zret K B rfl (by rw [f_bad, if_neg c1, if_pos c7]) (rfl) dX1_badInterval_15
    · refine lv_iconst (v := 1) hx hb dX1_badInterval_10 (by decide) ?_
      refine lv_goto (tgt := 15) hx hb dX1_badInterval_11 (by decide) ?_
      exact g_zret K B rfl (by rw [f_bad, if_neg c1, if_neg c7]) (rfl) dX1_badInterval_15
theorem mm_tariff (l : Launch) (D : va_G) (d z : ClassId) (h : Nat) (a : Nat → Nat) (S : g_S) (p0 p1 : Int32) : g_mi l D d z (m_w h a d z) yX1_tariff cX1_tariff 4 .int 0 0 [.ref h, .int p0, .int p1] S (f_tarR S 1 p0 p1) (f_tarS S 1 p0 p1) := by
  refine g_enti (own := RX1) (by decide) rfl (Nat.le_of_ble_eq_true rfl) ?_
  intro p e s m args below meth c A ls K B hl
  have hx := K.1
  have hb := K.2.1
  have hl : lv_has ls 4 [(0, .ref h), (1, .int p0), (2, .int p1)] := hl
  refine lv_iload_n hx hb dX1_tariff_0 rfl (lv_at hl 1 rfl) ?_
  refine lv_if_lt (tgt := 9) hx hb dX1_tariff_1 (by decide) (fun c1 => ?_) (fun c1 => ?_)
  · refine lv_bipush (v := -4) hx hb dX1_tariff_9 (by decide) ?_
    exact g_iret K B (by rw [f_tarR, if_pos c1]) (by rw [f_tarS, if_pos c1]) dX1_tariff_11
  · refine lv_iload_n hx hb dX1_tariff_4 rfl (lv_at hl 1 rfl) ?_
    refine lv_iconst (v := 5) hx hb dX1_tariff_5 (by decide) ?_
    refine lv_icmp_le (tgt := 12) hx hb dX1_tariff_6 (by decide) (fun c6 => ?_) (fun c6 => ?_)
    · refine lv_iload_n hx hb dX1_tariff_12 rfl (lv_at hl 2 rfl) ?_
      refine lv_if_lt (tgt := 22) hx hb dX1_tariff_13 (by decide) (fun c13 => ?_) (fun c13 => ?_)
      · refine lv_bipush (v := -5) hx hb dX1_tariff_22 (by decide) ?_
        exact g_iret K B (by rw [f_tarR, if_neg c1, if_pos c6, if_pos c13]) (by rw [f_tarS, if_neg c1, if_pos c6, if_pos c13]) dX1_tariff_24
      · refine lv_iload_n hx hb dX1_tariff_16 rfl (lv_at hl 2 rfl) ?_
        refine lv_bipush (v := 99) hx hb dX1_tariff_17 (by decide) ?_
        refine lv_icmp_le (tgt := 25) hx hb dX1_tariff_19 (by decide) (fun c19 => ?_) (fun c19 => ?_)
        · obtain ⟨j, hj, rfl⟩ := f_upto 5 5 rfl c1 c6
          refine lv_aload_n hx hb dX1_tariff_25 rfl (lv_at hl 0 rfl) ?_
          refine m_get1 K B dX1_tariff_26 ?_
          refine lv_iload_n hx hb dX1_tariff_29 rfl (lv_at hl 1 rfl) ?_
          refine m_ald1 K B (by omega) dX1_tariff_30 ?_
          refine lv_istore_n (lv' := [(3, .int (S 1 j)), (0, .ref h), (1, .int (nI j)), (2, .int p1)]) hx hb dX1_tariff_31 rfl hl (by decide) rfl (fun ls hl => ?_)
          refine lv_aload_n hx hb dX1_tariff_32 rfl (lv_at hl 1 rfl) ?_
          refine m_get1 K B dX1_tariff_33 ?_
          refine lv_iload_n hx hb dX1_tariff_36 rfl (lv_at hl 2 rfl) ?_
          refine lv_iload_n hx hb dX1_tariff_37 rfl (lv_at hl 3 rfl) ?_
          refine m_ast1 K B (by omega) dX1_tariff_38 (fun H locs B => ?_)
          refine lv_iload_n hx hb dX1_tariff_39 rfl (lv_at hl 0 rfl) ?_
          exact g_iret K B (by rw [f_tarR, if_neg c1, if_pos c6, if_neg c13, if_pos c19, f_cl (n := j) (by omega)]) (by rw [f_tarS, if_neg c1, if_pos c6, if_neg c13, if_pos c19, f_cl (n := j) (by omega)]) dX1_tariff_40
        · refine lv_bipush (v := -5) hx hb dX1_tariff_22 (by decide) ?_
          exact g_iret K B (by rw [f_tarR, if_neg c1, if_pos c6, if_neg c13, if_neg c19]) (by rw [f_tarS, if_neg c1, if_pos c6, if_neg c13, if_neg c19]) dX1_tariff_24
    · refine lv_bipush (v := -4) hx hb dX1_tariff_9 (by decide) ?_
      exact g_iret K B (by rw [f_tarR, if_neg c1, if_neg c6]) (by rw [f_tarS, if_neg c1, if_neg c6]) dX1_tariff_11
theorem m_line_loop (K : g_K p s m args meth c D d z A RX1 cX1_line 5 none) {R : Room} {S : g_S} {ac : Nat} {pv v : Int32} (hac : ac < 2) {Q : State → Prop} (kk : ∀ (H : Heap) (locs : List Loc) (ls : Array Slot), g_B D A (m_w h a d z) s H locs (m_sh S ac 7) → lv_has ls 5 [(0, .ref h), (1, .int (nI ac)), (2, .int pv), (3, .int v)] → W p l e R s m args below meth c H locs 0 0 Q (F0 m 56 ls [])) : ∀ n k : Nat, k ≤ 7 → 8 ≤ k + n → ∀ (H : Heap) (locs : List Loc) (ls : Array Slot), g_B D A (m_w h a d z) s H locs (m_sh S ac k) → lv_has ls 5 [(0, .ref h), (1, .int (nI ac)), (2, .int pv), (3, .int v), (4, .int (nI (ac * 8 + (7 - k))))] → W p l e R s m args below meth c H locs 0 0 Q (F0 m 9 ls []) := by
  have hx := K.1
  have hb := K.2.1
  intro n
  induction n with
  | zero =>
    intro k h1 h2
    exact absurd h2 (by omega)
  | succ n ih =>
    intro k hk hkn H locs ls B hl
    refine lv_iload hx hb dX1_line_9 (lv_at hl 4 rfl) ?_
    refine lv_iload_n hx hb dX1_line_11 rfl (lv_at hl 1 rfl) ?_
    refine lv_bipush (v := 8) hx hb dX1_line_12 (by decide) ?_
    refine lv_imul hx hb dX1_line_14 ?_
    refine tp (n_m8 _) ?_
    refine lv_icmp_le (tgt := 56) hx hb dX1_line_15 (by decide) (fun c15 => ?_) (fun c15 => ?_)
    · have c15 : ac * 8 + (7 - k) ≤ ac * 8 := (nI_leI (a := ac * 8 + (7 - k)) (b := ac * 8) (by omega) (by omega)).mp c15
      obtain rfl : k = 7 := by omega
      exact kk _ _ _ B (lv_sub hl [0, 1, 2, 3] rfl)
    · have c15 : ¬ ac * 8 + (7 - k) ≤ ac * 8 := fun h9 => c15 ((nI_leI (a := ac * 8 + (7 - k)) (b := ac * 8) (by omega) (by omega)).mpr h9)
      refine lv_aload_n hx hb dX1_line_18 rfl (lv_at hl 0 rfl) ?_
      refine m_get7 K B dX1_line_19 ?_
      refine lv_iload hx hb dX1_line_22 (lv_at hl 4 rfl) ?_
      refine lv_aload_n hx hb dX1_line_24 rfl (lv_at hl 0 rfl) ?_
      refine m_get7 K B dX1_line_25 ?_
      refine lv_iload hx hb dX1_line_28 (lv_at hl 4 rfl) ?_
      refine lv_iconst (v := 1) hx hb dX1_line_30 (by decide) ?_
      refine lv_isub hx hb dX1_line_31 ?_
      refine tp (n_s1 (by omega)) ?_
      refine m_ald7 K B (by omega) dX1_line_32 ?_
      refine m_ast7 K B (by omega) dX1_line_33 (fun H locs B => ?_)
      refine lv_aload_n hx hb dX1_line_34 rfl (lv_at hl 0 rfl) ?_
      refine m_get8 K B dX1_line_35 ?_
      refine lv_iload hx hb dX1_line_38 (lv_at hl 4 rfl) ?_
      refine lv_aload_n hx hb dX1_line_40 rfl (lv_at hl 0 rfl) ?_
      refine m_get8 K B dX1_line_41 ?_
      refine lv_iload hx hb dX1_line_44 (lv_at hl 4 rfl) ?_
      refine lv_iconst (v := 1) hx hb dX1_line_46 (by decide) ?_
      refine lv_isub hx hb dX1_line_47 ?_
      refine tp (n_s1 (by omega)) ?_
      refine m_ald8 K B (by omega) dX1_line_48 ?_
      refine m_ast8 K B (by omega) dX1_line_49 (fun H locs B => ?_)
      refine lv_iinc (v := nI (ac * 8 + (7 - (k + 1)))) (lv' := [(4, .int (nI (ac * 8 + (7 - (k + 1))))), (0, .ref h), (1, .int (nI ac)), (2, .int pv), (3, .int v)]) hx hb dX1_line_50 hl (k := 4) rfl (by rw [n_sub1 (by omega)]; congr 1; omega) (by decide) rfl (fun ls hl => ?_)
      refine lv_goto (tgt := 9) hx hb dX1_line_53 (by decide) ?_
      exact ih (k + 1) (by omega) (by omega) _ _ ls B (lv_sub hl [1, 2, 3, 4, 0] rfl)
theorem mm_line (l : Launch) (D : va_G) (d z : ClassId) (h : Nat) (a : Nat → Nat) (S : g_S) {ac pd : Nat} (hac : ac < 2) (v : Int32) : g_mv l D d z (m_w h a d z) yX1_line cX1_line 5 0 0 [.ref h, .int (nI ac), .int (nI pd), .int v] S (m_line S ac pd v) := by
  refine g_entv (own := RX1) (by decide) rfl (Nat.le_of_ble_eq_true rfl) ?_
  intro p e s m args below meth c A ls K B hl
  have hx := K.1
  have hb := K.2.1
  have hl : lv_has ls 5 [(0, .ref h), (1, .int (nI ac)), (2, .int (nI pd)), (3, .int v)] := hl
  refine lv_iload_n hx hb dX1_line_0 rfl (lv_at hl 1 rfl) ?_
  refine lv_bipush (v := 8) hx hb dX1_line_1 (by decide) ?_
  refine lv_imul hx hb dX1_line_3 ?_
  refine tp (n_m8 _) ?_
  refine lv_bipush (v := 7) hx hb dX1_line_4 (by decide) ?_
  refine lv_iadd hx hb dX1_line_6 ?_
  refine tp (n_a7 _) ?_
  refine lv_istore (lv' := [(4, .int (nI (ac * 8 + 7))), (0, .ref h), (1, .int (nI ac)), (2, .int (nI pd)), (3, .int v)]) hx hb dX1_line_7 hl (by decide) rfl (fun ls hl => ?_)
  refine m_line_loop K (S := S) (pv := nI pd) (v := v) hac (fun H locs ls B hl => ?_) 8 0 (by omega) (by omega) _ _ ls B (lv_sub hl [1, 2, 3, 4, 0] rfl)
  refine lv_aload_n hx hb dX1_line_56 rfl (lv_at hl 0 rfl) ?_
  refine m_get7 K B dX1_line_57 ?_
  refine lv_iload_n hx hb dX1_line_60 rfl (lv_at hl 1 rfl) ?_
  refine lv_bipush (v := 8) hx hb dX1_line_61 (by decide) ?_
  refine lv_imul hx hb dX1_line_63 ?_
  refine tp (n_m8 _) ?_
  refine lv_iload_n hx hb dX1_line_64 rfl (lv_at hl 3 rfl) ?_
  refine m_ast7 K B (by omega) dX1_line_65 (fun H locs B => ?_)
  refine lv_aload_n hx hb dX1_line_66 rfl (lv_at hl 0 rfl) ?_
  refine m_get8 K B dX1_line_67 ?_
  refine lv_iload_n hx hb dX1_line_70 rfl (lv_at hl 1 rfl) ?_
  refine lv_bipush (v := 8) hx hb dX1_line_71 (by decide) ?_
  refine lv_imul hx hb dX1_line_73 ?_
  refine tp (n_m8 _) ?_
  refine lv_iload_n hx hb dX1_line_74 rfl (lv_at hl 2 rfl) ?_
  refine m_ast8 K B (by omega) dX1_line_75 (fun H locs B => ?_)
  refine lv_aload_n hx hb dX1_line_76 rfl (lv_at hl 0 rfl) ?_
  refine m_get5 K B dX1_line_77 ?_
  refine lv_iload_n hx hb dX1_line_80 rfl (lv_at hl 1 rfl) ?_
  refine lv_aload_n hx hb dX1_line_81 rfl (lv_at hl 0 rfl) ?_
  refine m_get5 K B dX1_line_82 ?_
  refine lv_iload_n hx hb dX1_line_85 rfl (lv_at hl 1 rfl) ?_
  refine m_ald5 K B (by omega) dX1_line_86 ?_
  refine lv_iconst (v := 1) hx hb dX1_line_87 (by decide) ?_
  refine lv_iadd hx hb dX1_line_88 ?_
  refine m_ast5 K B (by omega) dX1_line_89 (fun H locs B => ?_)
  refine lv_aload_n hx hb dX1_line_90 rfl (lv_at hl 0 rfl) ?_
  refine m_get6 K B dX1_line_91 ?_
  refine lv_iload_n hx hb dX1_line_94 rfl (lv_at hl 1 rfl) ?_
  refine lv_aload_n hx hb dX1_line_95 rfl (lv_at hl 0 rfl) ?_
  refine m_get6 K B dX1_line_96 ?_
  refine lv_iload_n hx hb dX1_line_99 rfl (lv_at hl 1 rfl) ?_
  refine m_ald6 K B (by omega) dX1_line_100 ?_
  refine lv_iload_n hx hb dX1_line_101 rfl (lv_at hl 3 rfl) ?_
  refine lv_iadd hx hb dX1_line_102 ?_
  refine m_ast6 K B (by omega) dX1_line_103 (fun H locs B => ?_)
  exact g_vret K B (rfl) dX1_line_104
theorem mm_rate (l : Launch) (D : va_G) (d z : ClassId) (h : Nat) (a : Nat → Nat) (S : g_S) {pd i : Nat} (hp : pd < 6) (hi : i < 6) : g_mi l D d z (m_w h a d z) yX1_rate cX1_rate 3 .int 0 0 [.ref h, .int (nI pd), .int (nI i)] S (m_item S pd i) (S) := by
  refine g_enti (own := RX1) (by decide) rfl (Nat.le_of_ble_eq_true rfl) ?_
  intro p e s m args below meth c A ls K B hl
  have hx := K.1
  have hb := K.2.1
  have hl : lv_has ls 3 [(0, .ref h), (1, .int (nI pd)), (2, .int (nI i))] := hl
  refine lv_iload_n hx hb dX1_rate_0 rfl (lv_at hl 1 rfl) ?_
  refine lv_aload_n hx hb dX1_rate_1 rfl (lv_at hl 0 rfl) ?_
  refine m_get3 K B dX1_rate_2 ?_
  refine lv_icmp_ge (tgt := 22) hx hb dX1_rate_5 (by decide) (fun c5 => ?_) (fun c5 => ?_)
  · refine lv_aload_n hx hb dX1_rate_22 rfl (lv_at hl 0 rfl) ?_
    refine m_get1 K B dX1_rate_23 ?_
    refine lv_iload_n hx hb dX1_rate_26 rfl (lv_at hl 2 rfl) ?_
    refine m_ald1 K B (by omega) dX1_rate_27 ?_
    exact g_iret K B (by rw [m_item, if_pos c5]) (rfl) dX1_rate_28
  · refine lv_aload_n hx hb dX1_rate_8 rfl (lv_at hl 0 rfl) ?_
    refine m_get2 K B dX1_rate_9 ?_
    refine lv_iload_n hx hb dX1_rate_12 rfl (lv_at hl 1 rfl) ?_
    refine lv_bipush (v := 6) hx hb dX1_rate_13 (by decide) ?_
    refine lv_imul hx hb dX1_rate_15 ?_
    refine tp (n_m6 _) ?_
    refine lv_iload_n hx hb dX1_rate_16 rfl (lv_at hl 2 rfl) ?_
    refine lv_iadd hx hb dX1_rate_17 ?_
    refine tp (nI_add _ _) ?_
    refine m_ald2 K B (by omega) dX1_rate_18 ?_
    refine lv_goto (tgt := 28) hx hb dX1_rate_19 (by decide) ?_
    exact g_iret K B (by rw [m_item, if_neg c5]) (rfl) dX1_rate_28
theorem m_mean_loop (K : g_K p s m args meth c D d z A RX1 cX1_usage 6 (some .int)) {R : Room} {S : g_S} {H : Heap} {locs : List Loc} (B : g_B D A (m_w h a d z) s H locs S) {ac iv : Nat} (hac : ac < 2) (hiv : iv < 48) : ∀ n k : Nat, k ≤ 48 → 49 ≤ k + n → ∀ ls : Array Slot, lv_has ls 6 [(0, .ref h), (1, .int (nI ac)), (2, .int (nI iv)), (3, .int (m_sum S ac (iv / 8) k)), (4, .int (nI (m_cnt S ac (iv / 8) k))), (5, .int (nI k))] → W p l e R s m args below meth c H locs 0 0 (MQ below (g_Qi D d z (m_w h a d z) A (m_mean S ac (iv / 8)) S) args s 0 0 A) (F0 m 69 ls []) := by
  have hx := K.1
  have hb := K.2.1
  intro n
  induction n with
  | zero =>
    intro k h1 h2
    exact absurd h2 (by omega)
  | succ n ih =>
    intro k hk hkn ls hl
    have hcn := m_cnt_le S ac (iv / 8) k
    refine lv_iload hx hb dX1_usage_69 (lv_at hl 5 rfl) ?_
    refine lv_bipush (v := 48) hx hb dX1_usage_71 (by decide) ?_
    refine lv_icmp_ge (tgt := 127) hx hb dX1_usage_73 (by decide) (fun c73 => ?_) (fun c73 => ?_)
    · have c73 : 48 ≤ k := (nI_leI (a := 48) (b := k) (by omega) (by omega)).mp c73
      obtain rfl : k = 48 := by omega
      refine lv_iload hx hb dX1_usage_127 (lv_at hl 4 rfl) ?_
      refine lv_if_ne (tgt := 134) hx hb dX1_usage_129 (by decide) (fun c129 => ?_) (fun c129 => ?_)
      · have c129 : ¬ m_cnt S ac (iv / 8) 48 = 0 := fun h9 => c129 ((nI_eq (a := m_cnt S ac (iv / 8) 48) (b := 0) (by omega) (by omega)).mpr h9)
        refine lv_iload_n hx hb dX1_usage_134 rfl (lv_at hl 3 rfl) ?_
        refine lv_iload hx hb dX1_usage_135 (lv_at hl 4 rfl) ?_
        refine lv_idiv hx hb dX1_usage_137 (n_ne (by omega) (by omega)) ?_
        exact g_iret K B (by rw [m_mean, if_neg c129]) (rfl) dX1_usage_138
      · have c129 : m_cnt S ac (iv / 8) 48 = 0 := (nI_eq (a := m_cnt S ac (iv / 8) 48) (b := 0) (by omega) (by omega)).mp c129
        refine lv_iconst (v := 0) hx hb dX1_usage_132 (by decide) ?_
        exact g_iret K B (by rw [m_mean, if_pos c129]) (rfl) dX1_usage_133
    · have c73 : ¬ 48 ≤ k := fun h9 => c73 ((nI_leI (a := 48) (b := k) (by omega) (by omega)).mpr h9)
      refine lv_iload hx hb dX1_usage_76 (lv_at hl 5 rfl) ?_
      refine lv_bipush (v := 8) hx hb dX1_usage_78 (by decide) ?_
      refine lv_idiv hx hb dX1_usage_80 (by decide) ?_
      refine tp (n_d8 (by omega)) ?_
      refine lv_iload_n hx hb dX1_usage_81 rfl (lv_at hl 2 rfl) ?_
      refine lv_bipush (v := 8) hx hb dX1_usage_82 (by decide) ?_
      refine lv_idiv hx hb dX1_usage_84 (by decide) ?_
      refine tp (n_d8 (by omega)) ?_
      refine lv_icmp_ne (tgt := 121) hx hb dX1_usage_85 (by decide) (fun c85 => ?_) (fun c85 => ?_)
      · have c85 : ¬ k / 8 = iv / 8 := fun h9 => c85 ((nI_eq (a := k / 8) (b := iv / 8) (by omega) (by omega)).mpr h9)
        refine lv_iinc (v := nI (k + 1)) (lv' := [(5, .int (nI (k + 1))), (0, .ref h), (1, .int (nI ac)), (2, .int (nI iv)), (3, .int (m_sum S ac (iv / 8) k)), (4, .int (nI (m_cnt S ac (iv / 8) k)))]) hx hb dX1_usage_121 hl (k := 5) rfl (n_i1 _) (by decide) rfl (fun ls hl => ?_)
        refine lv_goto (tgt := 69) hx hb dX1_usage_124 (by decide) ?_
        exact ih (k + 1) (by omega) (by omega) ls (by simp only [m_sum, m_cnt, if_neg c85]; exact (lv_sub hl [1, 2, 3, 4, 5, 0] rfl))
      · have c85 : k / 8 = iv / 8 := (nI_eq (a := k / 8) (b := iv / 8) (by omega) (by omega)).mp c85
        refine lv_aload_n hx hb dX1_usage_88 rfl (lv_at hl 0 rfl) ?_
        refine m_get0 K B dX1_usage_89 ?_
        refine lv_iload_n hx hb dX1_usage_92 rfl (lv_at hl 1 rfl) ?_
        refine lv_bipush (v := 48) hx hb dX1_usage_93 (by decide) ?_
        refine lv_imul hx hb dX1_usage_95 ?_
        refine tp (n_m48 _) ?_
        refine lv_iload hx hb dX1_usage_96 (lv_at hl 5 rfl) ?_
        refine lv_iadd hx hb dX1_usage_98 ?_
        refine tp (nI_add _ _) ?_
        refine m_ald0 K B (by omega) dX1_usage_99 ?_
        refine lv_if_lt (tgt := 121) hx hb dX1_usage_100 (by decide) (fun c100 => ?_) (fun c100 => ?_)
        · refine lv_iinc (v := nI (k + 1)) (lv' := [(5, .int (nI (k + 1))), (0, .ref h), (1, .int (nI ac)), (2, .int (nI iv)), (3, .int (m_sum S ac (iv / 8) k)), (4, .int (nI (m_cnt S ac (iv / 8) k)))]) hx hb dX1_usage_121 hl (k := 5) rfl (n_i1 _) (by decide) rfl (fun ls hl => ?_)
          refine lv_goto (tgt := 69) hx hb dX1_usage_124 (by decide) ?_
          exact ih (k + 1) (by omega) (by omega) ls (by simp only [m_sum, m_cnt, if_pos c85, if_pos c100]; exact (lv_sub hl [1, 2, 3, 4, 5, 0] rfl))
        · refine lv_iload_n hx hb dX1_usage_103 rfl (lv_at hl 3 rfl) ?_
          refine lv_aload_n hx hb dX1_usage_104 rfl (lv_at hl 0 rfl) ?_
          refine m_get0 K B dX1_usage_105 ?_
          refine lv_iload_n hx hb dX1_usage_108 rfl (lv_at hl 1 rfl) ?_
          refine lv_bipush (v := 48) hx hb dX1_usage_109 (by decide) ?_
          refine lv_imul hx hb dX1_usage_111 ?_
          refine tp (n_m48 _) ?_
          refine lv_iload hx hb dX1_usage_112 (lv_at hl 5 rfl) ?_
          refine lv_iadd hx hb dX1_usage_114 ?_
          refine tp (nI_add _ _) ?_
          refine m_ald0 K B (by omega) dX1_usage_115 ?_
          refine lv_iadd hx hb dX1_usage_116 ?_
          refine lv_istore_n (lv' := [(3, .int ((m_sum S ac (iv / 8) k) + (S 0 (ac * 48 + k)))), (0, .ref h), (1, .int (nI ac)), (2, .int (nI iv)), (4, .int (nI (m_cnt S ac (iv / 8) k))), (5, .int (nI k))]) hx hb dX1_usage_117 rfl hl (by decide) rfl (fun ls hl => ?_)
          refine lv_iinc (v := nI (m_cnt S ac (iv / 8) k + 1)) (lv' := [(4, .int (nI (m_cnt S ac (iv / 8) k + 1))), (3, .int ((m_sum S ac (iv / 8) k) + (S 0 (ac * 48 + k)))), (0, .ref h), (1, .int (nI ac)), (2, .int (nI iv)), (5, .int (nI k))]) hx hb dX1_usage_118 hl (k := 4) rfl (n_i1 _) (by decide) rfl (fun ls hl => ?_)
          refine lv_iinc (v := nI (k + 1)) (lv' := [(5, .int (nI (k + 1))), (4, .int (nI (m_cnt S ac (iv / 8) k + 1))), (3, .int ((m_sum S ac (iv / 8) k) + (S 0 (ac * 48 + k)))), (0, .ref h), (1, .int (nI ac)), (2, .int (nI iv))]) hx hb dX1_usage_121 hl (k := 5) rfl (n_i1 _) (by decide) rfl (fun ls hl => ?_)
          refine lv_goto (tgt := 69) hx hb dX1_usage_124 (by decide) ?_
          exact ih (k + 1) (by omega) (by omega) ls (by simp only [m_sum, m_cnt, if_pos c85, if_neg c100]; exact (lv_sub hl [3, 4, 5, 2, 1, 0] rfl))
theorem m_use_loop (K : g_K p s m args meth c D d z A RX1 cX1_usage 6 (some .int)) {R : Room} {S : g_S} {H : Heap} {locs : List Loc} (B : g_B D A (m_w h a d z) s H locs S) {ac iv r : Nat} {v : Int32} (hac : ac < 2) (hiv : iv < 48) (hr : r < 8) : ∀ k : Nat, k * 8 + r ≤ iv → m_look S ac iv r k = v → ∀ ls : Array Slot, lv_has ls 6 [(0, .ref h), (1, .int (nI ac)), (2, .int (nI iv)), (3, .int (nI (k * 8 + r)))] → W p l e R s m args below meth c H locs 0 0 (MQ below (g_Qi D d z (m_w h a d z) A v S) args s 0 0 A) (F0 m 23 ls []) := by
  have hx := K.1
  have hb := K.2.1
  intro k
  induction k with
  | zero =>
    intro hk hv ls hl
    refine lv_iload_n hx hb dX1_usage_23 rfl (lv_at hl 3 rfl) ?_
    refine lv_if_lt (tgt := 61) hx hb dX1_usage_24 (by decide) (fun c24 => ?_) (fun c24 => ?_)
    · exact absurd c24 (nI_pos (by omega))
    · refine lv_aload_n hx hb dX1_usage_27 rfl (lv_at hl 0 rfl) ?_
      refine m_get0 K B dX1_usage_28 ?_
      refine lv_iload_n hx hb dX1_usage_31 rfl (lv_at hl 1 rfl) ?_
      refine lv_bipush (v := 48) hx hb dX1_usage_32 (by decide) ?_
      refine lv_imul hx hb dX1_usage_34 ?_
      refine tp (n_m48 _) ?_
      refine lv_iload_n hx hb dX1_usage_35 rfl (lv_at hl 3 rfl) ?_
      refine lv_iadd hx hb dX1_usage_36 ?_
      refine tp (nI_add _ _) ?_
      refine m_ald0 K B (by omega) dX1_usage_37 ?_
      refine lv_if_lt (tgt := 53) hx hb dX1_usage_38 (by decide) (fun c38 => ?_) (fun c38 => ?_)
      · refine lv_iload_n hx hb dX1_usage_53 rfl (lv_at hl 3 rfl) ?_
        refine lv_bipush (v := 8) hx hb dX1_usage_54 (by decide) ?_
        refine lv_isub hx hb dX1_usage_56 ?_
        refine lv_istore_n (lv' := [(3, .int ((nI (0 * 8 + r)) - 8)), (0, .ref h), (1, .int (nI ac)), (2, .int (nI iv))]) hx hb dX1_usage_57 rfl hl (by decide) rfl (fun ls hl => ?_)
        refine lv_goto (tgt := 23) hx hb dX1_usage_58 (by decide) ?_
        refine lv_iload_n hx hb dX1_usage_23 rfl (lv_at hl 0 rfl) ?_
        refine lv_if_lt (tgt := 61) hx hb dX1_usage_24 (by decide) (fun c24 => ?_) (fun c24 => ?_)
        · refine lv_iconst (v := 0) hx hb dX1_usage_61 (by decide) ?_
          refine lv_istore_n (lv' := [(3, .int 0), (0, .ref h), (1, .int (nI ac)), (2, .int (nI iv))]) hx hb dX1_usage_62 rfl hl (by decide) rfl (fun ls hl => ?_)
          refine lv_iconst (v := 0) hx hb dX1_usage_63 (by decide) ?_
          refine lv_istore (lv' := [(4, .int 0), (3, .int 0), (0, .ref h), (1, .int (nI ac)), (2, .int (nI iv))]) hx hb dX1_usage_64 hl (by decide) rfl (fun ls hl => ?_)
          refine lv_iconst (v := 0) hx hb dX1_usage_66 (by decide) ?_
          refine lv_istore (lv' := [(5, .int 0), (4, .int 0), (3, .int 0), (0, .ref h), (1, .int (nI ac)), (2, .int (nI iv))]) hx hb dX1_usage_67 hl (by decide) rfl (fun ls hl => ?_)
          rw [← hv, m_look, if_pos c38]
          exact m_mean_loop K B hac hiv 49 0 (by omega) (by omega) ls (lv_sub hl [3, 4, 5, 2, 1, 0] rfl)
        · exact absurd (n_negs8 (by omega)) c24
      · refine lv_aload_n hx hb dX1_usage_41 rfl (lv_at hl 0 rfl) ?_
        refine m_get0 K B dX1_usage_42 ?_
        refine lv_iload_n hx hb dX1_usage_45 rfl (lv_at hl 1 rfl) ?_
        refine lv_bipush (v := 48) hx hb dX1_usage_46 (by decide) ?_
        refine lv_imul hx hb dX1_usage_48 ?_
        refine tp (n_m48 _) ?_
        refine lv_iload_n hx hb dX1_usage_49 rfl (lv_at hl 3 rfl) ?_
        refine lv_iadd hx hb dX1_usage_50 ?_
        refine tp (nI_add _ _) ?_
        refine m_ald0 K B (by omega) dX1_usage_51 ?_
        exact g_iret K B (by rw [← hv, m_look, if_neg c38]) (rfl) dX1_usage_52
  | succ k ih =>
    intro hk hv ls hl
    refine lv_iload_n hx hb dX1_usage_23 rfl (lv_at hl 3 rfl) ?_
    refine lv_if_lt (tgt := 61) hx hb dX1_usage_24 (by decide) (fun c24 => ?_) (fun c24 => ?_)
    · exact absurd c24 (nI_pos (by omega))
    · refine lv_aload_n hx hb dX1_usage_27 rfl (lv_at hl 0 rfl) ?_
      refine m_get0 K B dX1_usage_28 ?_
      refine lv_iload_n hx hb dX1_usage_31 rfl (lv_at hl 1 rfl) ?_
      refine lv_bipush (v := 48) hx hb dX1_usage_32 (by decide) ?_
      refine lv_imul hx hb dX1_usage_34 ?_
      refine tp (n_m48 _) ?_
      refine lv_iload_n hx hb dX1_usage_35 rfl (lv_at hl 3 rfl) ?_
      refine lv_iadd hx hb dX1_usage_36 ?_
      refine tp (nI_add _ _) ?_
      refine m_ald0 K B (by omega) dX1_usage_37 ?_
      refine lv_if_lt (tgt := 53) hx hb dX1_usage_38 (by decide) (fun c38 => ?_) (fun c38 => ?_)
      · refine lv_iload_n hx hb dX1_usage_53 rfl (lv_at hl 3 rfl) ?_
        refine lv_bipush (v := 8) hx hb dX1_usage_54 (by decide) ?_
        refine lv_isub hx hb dX1_usage_56 ?_
        refine tp (n_s8 (by omega)) ?_
        refine tp (y := nI (k * 8 + r)) (by congr 1; omega) ?_
        refine lv_istore_n (lv' := [(3, .int (nI (k * 8 + r))), (0, .ref h), (1, .int (nI ac)), (2, .int (nI iv))]) hx hb dX1_usage_57 rfl hl (by decide) rfl (fun ls hl => ?_)
        refine lv_goto (tgt := 23) hx hb dX1_usage_58 (by decide) ?_
        exact ih (by omega) (by rw [← hv, m_look, if_pos c38]) ls (lv_sub hl [1, 2, 3, 0] rfl)
      · refine lv_aload_n hx hb dX1_usage_41 rfl (lv_at hl 0 rfl) ?_
        refine m_get0 K B dX1_usage_42 ?_
        refine lv_iload_n hx hb dX1_usage_45 rfl (lv_at hl 1 rfl) ?_
        refine lv_bipush (v := 48) hx hb dX1_usage_46 (by decide) ?_
        refine lv_imul hx hb dX1_usage_48 ?_
        refine tp (n_m48 _) ?_
        refine lv_iload_n hx hb dX1_usage_49 rfl (lv_at hl 3 rfl) ?_
        refine lv_iadd hx hb dX1_usage_50 ?_
        refine tp (nI_add _ _) ?_
        refine m_ald0 K B (by omega) dX1_usage_51 ?_
        exact g_iret K B (by rw [← hv, m_look, if_neg c38]) (rfl) dX1_usage_52
theorem mm_usage (l : Launch) (D : va_G) (d z : ClassId) (h : Nat) (a : Nat → Nat) (S : g_S) (p0 p1 : Int32) : g_mi l D d z (m_w h a d z) yX1_usage cX1_usage 6 .int 1 21 [.ref h, .int p0, .int p1] S (m_usR S p0 p1) (S) := by
  refine g_enti (own := RX1) (by decide) rfl (Nat.le_of_ble_eq_true rfl) ?_
  intro p e s m args below meth c A ls K B hl
  have hx := K.1
  have hb := K.2.1
  have hl : lv_has ls 6 [(0, .ref h), (1, .int p0), (2, .int p1)] := hl
  refine lv_aload_n hx hb dX1_usage_0 rfl (lv_at hl 0 rfl) ?_
  refine lv_iload_n hx hb dX1_usage_1 rfl (lv_at hl 1 rfl) ?_
  refine g_calli (av := [.int p0]) (rest := []) K B (mm_badAccount l D d z h a S p0) mv_badAccount md_badAccount ⟨Nat.le_of_ble_eq_true rfl, Nat.le_of_ble_eq_true rfl⟩ (ci := 1) rfl rfl rfl hl.1 rfl (Nat.le_of_ble_eq_true rfl) dX1_usage_2 (fun H locs B => ?_)
  refine lv_if_eq (tgt := 10) hx hb dX1_usage_5 (by decide) (fun c5 => ?_) (fun c5 => ?_)
  · obtain ⟨ac, hac, rfl⟩ := f_bad1 c5
    refine lv_aload_n hx hb dX1_usage_10 rfl (lv_at hl 0 rfl) ?_
    refine lv_iload_n hx hb dX1_usage_11 rfl (lv_at hl 2 rfl) ?_
    refine g_calli (av := [.int p1]) (rest := []) K B (mm_badInterval l D d z h a S p1) mv_badInterval md_badInterval ⟨Nat.le_of_ble_eq_true rfl, Nat.le_of_ble_eq_true rfl⟩ (ci := 1) rfl rfl rfl hl.1 rfl (Nat.le_of_ble_eq_true rfl) dX1_usage_12 (fun H locs B => ?_)
    refine lv_if_eq (tgt := 21) hx hb dX1_usage_15 (by decide) (fun c15 => ?_) (fun c15 => ?_)
    · obtain ⟨iv, hiv, rfl⟩ := f_bad47 c15
      refine lv_iload_n hx hb dX1_usage_21 rfl (lv_at hl 2 rfl) ?_
      refine lv_istore_n (lv' := [(3, .int (nI iv)), (0, .ref h), (1, .int (nI ac)), (2, .int (nI iv))]) hx hb dX1_usage_22 rfl hl (by decide) rfl (fun ls hl => ?_)
      rw [m_usR, if_pos c5, if_pos c15, f_cl (n := ac) (by omega), f_cl (n := iv) (by omega)]
      exact m_use_loop K B hac hiv (Nat.mod_lt _ (by decide)) (iv / 8) (by omega) rfl ls (by rw [show iv / 8 * 8 + iv % 8 = iv by omega]; exact (lv_sub hl [1, 2, 3, 0] rfl))
    · refine lv_bipush (v := -2) hx hb dX1_usage_18 (by decide) ?_
      exact g_iret K B (by rw [m_usR, if_pos c5, if_neg c15]) (rfl) dX1_usage_20
  · refine lv_iconst (v := -1) hx hb dX1_usage_8 (by decide) ?_
    exact g_iret K B (by rw [m_usR, if_neg c5]) (rfl) dX1_usage_9
end MW
end
section
set_option maxRecDepth 100000
set_option maxHeartbeats 4000000
section MW
variable {p : Program} {l : Launch} {e : Env} {s : State} {m : MethodId} {args : Array Value} {below : List Frame} {meth : Method} {c : Code} {D : va_G} {d z : ClassId} {A : Nat → Prop} {h : Nat} {a : Nat → Nat}
theorem m_amt_loop (K : g_K p s m args meth c D d z A RX1 cX1_amount 10 (some .int)) {S : g_S} {ac pd : Nat} (hac : ac < 2) (hp : pd < 6) : ∀ n k : Nat, k ≤ 8 → 9 ≤ k + n → ∀ (H : Heap) (locs : List Loc) (ls : Array Slot), g_B D A (m_w h a d z) s H locs S → lv_has ls 10 [(0, .ref h), (1, .int (nI ac)), (2, .int (nI pd)), (3, .int (m_am S ac pd k)), (4, .int (m_mo S ac pd k)), (5, .int (m_su S ac pd k)), (6, .int (nI k))] → W p l e (g_R 2 46) s m args below meth c H locs 0 0 (MQ below (g_Qi D d z (m_w h a d z) A (m_amt S ac pd) S) args s 0 0 A) (F0 m 33 ls []) := by
  have hx := K.1
  have hb := K.2.1
  intro n
  induction n with
  | zero =>
    intro k h1 h2
    exact absurd h2 (by omega)
  | succ n ih =>
    intro k hk hkn H locs ls B hl
    refine lv_iload hx hb dX1_amount_33 (lv_at hl 6 rfl) ?_
    refine lv_bipush (v := 8) hx hb dX1_amount_35 (by decide) ?_
    refine lv_icmp_ge (tgt := 123) hx hb dX1_amount_37 (by decide) (fun c37 => ?_) (fun c37 => ?_)
    · have c37 : 8 ≤ k := (nI_leI (a := 8) (b := k) (by omega) (by omega)).mp c37
      obtain rfl : k = 8 := by omega
      refine lv_iload_n hx hb dX1_amount_123 rfl (lv_at hl 3 rfl) ?_
      refine lv_iload hx hb dX1_amount_124 (lv_at hl 4 rfl) ?_
      refine lv_aload_n hx hb dX1_amount_126 rfl (lv_at hl 0 rfl) ?_
      refine lv_iload_n hx hb dX1_amount_127 rfl (lv_at hl 2 rfl) ?_
      refine lv_iconst (v := 3) hx hb dX1_amount_128 (by decide) ?_
      refine tp (y := nI 3) (rfl) ?_
      refine g_calli (av := [.int (nI pd), .int (nI 3)]) (rest := [.int (m_mo S ac pd 8), .int (m_am S ac pd 8)]) K B (mm_rate l D d z h a S hp (i := 3) (by decide)) mv_rate md_rate ⟨Nat.le_of_ble_eq_true rfl, Nat.le_of_ble_eq_true rfl⟩ (ci := 1) rfl rfl rfl hl.1 rfl (Nat.le_of_ble_eq_true rfl) dX1_amount_129 (fun H locs B => ?_)
      refine lv_imul hx hb dX1_amount_132 ?_
      refine lv_iadd hx hb dX1_amount_133 ?_
      refine lv_istore_n (lv' := [(3, .int ((m_am S ac pd 8) + ((m_mo S ac pd 8) * (m_item S pd 3)))), (0, .ref h), (1, .int (nI ac)), (2, .int (nI pd)), (4, .int (m_mo S ac pd 8)), (5, .int (m_su S ac pd 8)), (6, .int (nI 8))]) hx hb dX1_amount_134 rfl hl (by decide) rfl (fun ls hl => ?_)
      refine lv_iload hx hb dX1_amount_135 (lv_at hl 5 rfl) ?_
      refine lv_sipush (v := 2000) hx hb dX1_amount_137 (by decide) ?_
      refine lv_icmp_le (tgt := 159) hx hb dX1_amount_140 (by decide) (fun c140 => ?_) (fun c140 => ?_)
      · refine lv_aload_n hx hb dX1_amount_159 rfl (lv_at hl 1 rfl) ?_
        refine lv_iload_n hx hb dX1_amount_160 rfl (lv_at hl 3 rfl) ?_
        refine lv_iconst (v := 5) hx hb dX1_amount_161 (by decide) ?_
        refine tp (y := nI 5) (rfl) ?_
        refine g_calli (av := [.int (nI pd), .int (nI 5)]) (rest := []) K B (mm_rate l D d z h a S hp (i := 5) (by decide)) mv_rate md_rate ⟨Nat.le_of_ble_eq_true rfl, Nat.le_of_ble_eq_true rfl⟩ (ci := 1) rfl rfl rfl hl.1 rfl (Nat.le_of_ble_eq_true rfl) dX1_amount_162 (fun H locs B => ?_)
        refine lv_sipush (v := 1000) hx hb dX1_amount_165 (by decide) ?_
        refine lv_imul hx hb dX1_amount_168 ?_
        refine lv_istore (lv' := [(6, .int ((m_item S pd 5) * 1000)), (3, .int ((m_am S ac pd 8) + ((m_mo S ac pd 8) * (m_item S pd 3)))), (0, .ref h), (1, .int (nI ac)), (2, .int (nI pd)), (4, .int (m_mo S ac pd 8)), (5, .int (m_su S ac pd 8))]) hx hb dX1_amount_169 hl (by decide) rfl (fun ls hl => ?_)
        refine lv_iload_n hx hb dX1_amount_171 rfl (lv_at hl 1 rfl) ?_
        refine lv_iload hx hb dX1_amount_172 (lv_at hl 0 rfl) ?_
        refine lv_icmp_ge (tgt := 182) hx hb dX1_amount_174 (by decide) (fun c174 => ?_) (fun c174 => ?_)
        · refine lv_iload_n hx hb dX1_amount_182 rfl (lv_at hl 1 rfl) ?_
          exact g_iret K B (by rw [m_amt, f_over, f_least, if_pos c140, if_pos c174]) (rfl) dX1_amount_183
        · refine lv_iload hx hb dX1_amount_177 (lv_at hl 0 rfl) ?_
          refine lv_goto (tgt := 183) hx hb dX1_amount_179 (by decide) ?_
          exact g_iret K B (by rw [m_amt, f_over, f_least, if_pos c140, if_neg c174]) (rfl) dX1_amount_183
      · refine lv_iload_n hx hb dX1_amount_143 rfl (lv_at hl 0 rfl) ?_
        refine lv_iload hx hb dX1_amount_144 (lv_at hl 5 rfl) ?_
        refine lv_sipush (v := 2000) hx hb dX1_amount_146 (by decide) ?_
        refine lv_isub hx hb dX1_amount_149 ?_
        refine lv_aload_n hx hb dX1_amount_150 rfl (lv_at hl 1 rfl) ?_
        refine lv_iload_n hx hb dX1_amount_151 rfl (lv_at hl 3 rfl) ?_
        refine lv_iconst (v := 4) hx hb dX1_amount_152 (by decide) ?_
        refine tp (y := nI 4) (rfl) ?_
        refine g_calli (av := [.int (nI pd), .int (nI 4)]) (rest := [.int ((m_su S ac pd 8) - 2000), .int ((m_am S ac pd 8) + ((m_mo S ac pd 8) * (m_item S pd 3)))]) K B (mm_rate l D d z h a S hp (i := 4) (by decide)) mv_rate md_rate ⟨Nat.le_of_ble_eq_true rfl, Nat.le_of_ble_eq_true rfl⟩ (ci := 1) rfl rfl rfl hl.1 rfl (Nat.le_of_ble_eq_true rfl) dX1_amount_153 (fun H locs B => ?_)
        refine lv_imul hx hb dX1_amount_156 ?_
        refine lv_iadd hx hb dX1_amount_157 ?_
        refine lv_istore_n (lv' := [(3, .int (((m_am S ac pd 8) + ((m_mo S ac pd 8) * (m_item S pd 3))) + (((m_su S ac pd 8) - 2000) * (m_item S pd 4)))), (0, .ref h), (1, .int (nI ac)), (2, .int (nI pd)), (4, .int (m_mo S ac pd 8)), (5, .int (m_su S ac pd 8)), (6, .int (nI 8))]) hx hb dX1_amount_158 rfl hl (by decide) rfl (fun ls hl => ?_)
        refine lv_aload_n hx hb dX1_amount_159 rfl (lv_at hl 1 rfl) ?_
        refine lv_iload_n hx hb dX1_amount_160 rfl (lv_at hl 3 rfl) ?_
        refine lv_iconst (v := 5) hx hb dX1_amount_161 (by decide) ?_
        refine tp (y := nI 5) (rfl) ?_
        refine g_calli (av := [.int (nI pd), .int (nI 5)]) (rest := []) K B (mm_rate l D d z h a S hp (i := 5) (by decide)) mv_rate md_rate ⟨Nat.le_of_ble_eq_true rfl, Nat.le_of_ble_eq_true rfl⟩ (ci := 1) rfl rfl rfl hl.1 rfl (Nat.le_of_ble_eq_true rfl) dX1_amount_162 (fun H locs B => ?_)
        refine lv_sipush (v := 1000) hx hb dX1_amount_165 (by decide) ?_
        refine lv_imul hx hb dX1_amount_168 ?_
        refine lv_istore (lv' := [(6, .int ((m_item S pd 5) * 1000)), (3, .int (((m_am S ac pd 8) + ((m_mo S ac pd 8) * (m_item S pd 3))) + (((m_su S ac pd 8) - 2000) * (m_item S pd 4)))), (0, .ref h), (1, .int (nI ac)), (2, .int (nI pd)), (4, .int (m_mo S ac pd 8)), (5, .int (m_su S ac pd 8))]) hx hb dX1_amount_169 hl (by decide) rfl (fun ls hl => ?_)
        refine lv_iload_n hx hb dX1_amount_171 rfl (lv_at hl 1 rfl) ?_
        refine lv_iload hx hb dX1_amount_172 (lv_at hl 0 rfl) ?_
        refine lv_icmp_ge (tgt := 182) hx hb dX1_amount_174 (by decide) (fun c174 => ?_) (fun c174 => ?_)
        · refine lv_iload_n hx hb dX1_amount_182 rfl (lv_at hl 1 rfl) ?_
          exact g_iret K B (by rw [m_amt, f_over, f_least, if_neg c140, if_pos c174]) (rfl) dX1_amount_183
        · refine lv_iload hx hb dX1_amount_177 (lv_at hl 0 rfl) ?_
          refine lv_goto (tgt := 183) hx hb dX1_amount_179 (by decide) ?_
          exact g_iret K B (by rw [m_amt, f_over, f_least, if_neg c140, if_neg c174]) (rfl) dX1_amount_183
    · have c37 : ¬ 8 ≤ k := fun h9 => c37 ((nI_leI (a := 8) (b := k) (by omega) (by omega)).mpr h9)
      refine lv_aload_n hx hb dX1_amount_40 rfl (lv_at hl 0 rfl) ?_
      refine lv_iload_n hx hb dX1_amount_41 rfl (lv_at hl 1 rfl) ?_
      refine lv_iload_n hx hb dX1_amount_42 rfl (lv_at hl 2 rfl) ?_
      refine lv_bipush (v := 8) hx hb dX1_amount_43 (by decide) ?_
      refine lv_imul hx hb dX1_amount_45 ?_
      refine tp (n_m8 _) ?_
      refine lv_iload hx hb dX1_amount_46 (lv_at hl 6 rfl) ?_
      refine lv_iadd hx hb dX1_amount_48 ?_
      refine tp (nI_add _ _) ?_
      refine g_calli (av := [.int (nI ac), .int (nI (pd * 8 + k))]) (rest := []) K B (mm_usage l D d z h a S (nI ac) (nI (pd * 8 + k))) mv_usage md_usage ⟨Nat.le_of_ble_eq_true rfl, Nat.le_of_ble_eq_true rfl⟩ (ci := 1) rfl rfl rfl hl.1 rfl (Nat.le_of_ble_eq_true rfl) dX1_amount_49 (fun H locs B => ?_)
      refine tp (y := m_use S ac (pd * 8 + k)) (m_usR_in S hac (by omega)) ?_
      refine lv_istore (lv' := [(7, .int (m_use S ac (pd * 8 + k))), (0, .ref h), (1, .int (nI ac)), (2, .int (nI pd)), (3, .int (m_am S ac pd k)), (4, .int (m_mo S ac pd k)), (5, .int (m_su S ac pd k)), (6, .int (nI k))]) hx hb dX1_amount_52 hl (by decide) rfl (fun ls hl => ?_)
      refine lv_iload hx hb dX1_amount_54 (lv_at hl 7 rfl) ?_
      refine lv_iconst (v := 3) hx hb dX1_amount_56 (by decide) ?_
      refine lv_icmp_ge (tgt := 64) hx hb dX1_amount_57 (by decide) (fun c57 => ?_) (fun c57 => ?_)
      · have c57 : 3 ≤ k := (nI_leI (a := 3) (b := k) (by omega) (by omega)).mp c57
        refine lv_iload hx hb dX1_amount_64 (lv_at hl 7 rfl) ?_
        refine lv_iconst (v := 5) hx hb dX1_amount_66 (by decide) ?_
        refine lv_icmp_ge (tgt := 74) hx hb dX1_amount_67 (by decide) (fun c67 => ?_) (fun c67 => ?_)
        · have c67 : 5 ≤ k := (nI_leI (a := 5) (b := k) (by omega) (by omega)).mp c67
          refine lv_iconst (v := 2) hx hb dX1_amount_74 (by decide) ?_
          refine tp (y := nI (f_bi k)) (by rw [f_bi, if_pos c57, if_pos c67] <;> rfl) ?_
          refine lv_istore (lv' := [(8, .int (nI (f_bi k))), (7, .int (m_use S ac (pd * 8 + k))), (0, .ref h), (1, .int (nI ac)), (2, .int (nI pd)), (3, .int (m_am S ac pd k)), (4, .int (m_mo S ac pd k)), (5, .int (m_su S ac pd k)), (6, .int (nI k))]) hx hb dX1_amount_75 hl (by decide) rfl (fun ls hl => ?_)
          refine lv_aload_n hx hb dX1_amount_77 rfl (lv_at hl 2 rfl) ?_
          refine lv_iload_n hx hb dX1_amount_78 rfl (lv_at hl 4 rfl) ?_
          refine lv_iload hx hb dX1_amount_79 (lv_at hl 0 rfl) ?_
          refine g_calli (av := [.int (nI pd), .int (nI (f_bi k))]) (rest := []) K B (mm_rate l D d z h a S hp (f_bi_lt k)) mv_rate md_rate ⟨Nat.le_of_ble_eq_true rfl, Nat.le_of_ble_eq_true rfl⟩ (ci := 1) rfl rfl rfl hl.1 rfl (Nat.le_of_ble_eq_true rfl) dX1_amount_81 (fun H locs B => ?_)
          refine lv_istore (lv' := [(9, .int (m_item S pd (f_bi k))), (8, .int (nI (f_bi k))), (7, .int (m_use S ac (pd * 8 + k))), (0, .ref h), (1, .int (nI ac)), (2, .int (nI pd)), (3, .int (m_am S ac pd k)), (4, .int (m_mo S ac pd k)), (5, .int (m_su S ac pd k)), (6, .int (nI k))]) hx hb dX1_amount_84 hl (by decide) rfl (fun ls hl => ?_)
          refine lv_iload_n hx hb dX1_amount_86 rfl (lv_at hl 6 rfl) ?_
          refine lv_iload hx hb dX1_amount_87 (lv_at hl 2 rfl) ?_
          refine lv_iload hx hb dX1_amount_89 (lv_at hl 0 rfl) ?_
          refine lv_imul hx hb dX1_amount_91 ?_
          refine lv_iadd hx hb dX1_amount_92 ?_
          refine tp (y := m_am S ac pd (k + 1)) (by rw [m_am]) ?_
          refine lv_istore_n (lv' := [(3, .int (m_am S ac pd (k + 1))), (9, .int (m_item S pd (f_bi k))), (8, .int (nI (f_bi k))), (7, .int (m_use S ac (pd * 8 + k))), (0, .ref h), (1, .int (nI ac)), (2, .int (nI pd)), (4, .int (m_mo S ac pd k)), (5, .int (m_su S ac pd k)), (6, .int (nI k))]) hx hb dX1_amount_93 rfl hl (by decide) rfl (fun ls hl => ?_)
          refine lv_iload hx hb dX1_amount_94 (lv_at hl 8 rfl) ?_
          refine lv_iload hx hb dX1_amount_96 (lv_at hl 3 rfl) ?_
          refine lv_iadd hx hb dX1_amount_98 ?_
          refine tp (y := m_su S ac pd (k + 1)) (by rw [m_su]) ?_
          refine lv_istore (lv' := [(5, .int (m_su S ac pd (k + 1))), (3, .int (m_am S ac pd (k + 1))), (9, .int (m_item S pd (f_bi k))), (8, .int (nI (f_bi k))), (7, .int (m_use S ac (pd * 8 + k))), (0, .ref h), (1, .int (nI ac)), (2, .int (nI pd)), (4, .int (m_mo S ac pd k)), (6, .int (nI k))]) hx hb dX1_amount_99 hl (by decide) rfl (fun ls hl => ?_)
          refine lv_iload hx hb dX1_amount_101 (lv_at hl 4 rfl) ?_
          refine lv_iload hx hb dX1_amount_103 (lv_at hl 8 rfl) ?_
          refine lv_icmp_le (tgt := 113) hx hb dX1_amount_105 (by decide) (fun c105 => ?_) (fun c105 => ?_)
          · refine lv_iload hx hb dX1_amount_113 (lv_at hl 8 rfl) ?_
            refine tp (y := m_mo S ac pd (k + 1)) (by rw [m_mo, if_pos c105]) ?_
            refine lv_istore (lv' := [(4, .int (m_mo S ac pd (k + 1))), (5, .int (m_su S ac pd (k + 1))), (3, .int (m_am S ac pd (k + 1))), (9, .int (m_item S pd (f_bi k))), (8, .int (nI (f_bi k))), (7, .int (m_use S ac (pd * 8 + k))), (0, .ref h), (1, .int (nI ac)), (2, .int (nI pd)), (6, .int (nI k))]) hx hb dX1_amount_115 hl (by decide) rfl (fun ls hl => ?_)
            refine lv_iinc (v := nI (k + 1)) (lv' := [(6, .int (nI (k + 1))), (4, .int (m_mo S ac pd (k + 1))), (5, .int (m_su S ac pd (k + 1))), (3, .int (m_am S ac pd (k + 1))), (9, .int (m_item S pd (f_bi k))), (8, .int (nI (f_bi k))), (7, .int (m_use S ac (pd * 8 + k))), (0, .ref h), (1, .int (nI ac)), (2, .int (nI pd))]) hx hb dX1_amount_117 hl (k := 9) rfl (n_i1 _) (by decide) rfl (fun ls hl => ?_)
            refine lv_goto (tgt := 33) hx hb dX1_amount_120 (by decide) ?_
            exact ih (k + 1) (by omega) (by omega) _ _ ls B (lv_sub hl [7, 8, 9, 3, 1, 2, 0] rfl)
          · refine lv_iload hx hb dX1_amount_108 (lv_at hl 4 rfl) ?_
            refine lv_goto (tgt := 115) hx hb dX1_amount_110 (by decide) ?_
            refine tp (y := m_mo S ac pd (k + 1)) (by rw [m_mo, if_neg c105]) ?_
            refine lv_istore (lv' := [(4, .int (m_mo S ac pd (k + 1))), (5, .int (m_su S ac pd (k + 1))), (3, .int (m_am S ac pd (k + 1))), (9, .int (m_item S pd (f_bi k))), (8, .int (nI (f_bi k))), (7, .int (m_use S ac (pd * 8 + k))), (0, .ref h), (1, .int (nI ac)), (2, .int (nI pd)), (6, .int (nI k))]) hx hb dX1_amount_115 hl (by decide) rfl (fun ls hl => ?_)
            refine lv_iinc (v := nI (k + 1)) (lv' := [(6, .int (nI (k + 1))), (4, .int (m_mo S ac pd (k + 1))), (5, .int (m_su S ac pd (k + 1))), (3, .int (m_am S ac pd (k + 1))), (9, .int (m_item S pd (f_bi k))), (8, .int (nI (f_bi k))), (7, .int (m_use S ac (pd * 8 + k))), (0, .ref h), (1, .int (nI ac)), (2, .int (nI pd))]) hx hb dX1_amount_117 hl (k := 9) rfl (n_i1 _) (by decide) rfl (fun ls hl => ?_)
            refine lv_goto (tgt := 33) hx hb dX1_amount_120 (by decide) ?_
            exact ih (k + 1) (by omega) (by omega) _ _ ls B (lv_sub hl [7, 8, 9, 3, 1, 2, 0] rfl)
        · have c67 : ¬ 5 ≤ k := fun h9 => c67 ((nI_leI (a := 5) (b := k) (by omega) (by omega)).mpr h9)
          refine lv_iconst (v := 1) hx hb dX1_amount_70 (by decide) ?_
          refine lv_goto (tgt := 75) hx hb dX1_amount_71 (by decide) ?_
          refine tp (y := nI (f_bi k)) (by rw [f_bi, if_pos c57, if_neg c67] <;> rfl) ?_
          refine lv_istore (lv' := [(8, .int (nI (f_bi k))), (7, .int (m_use S ac (pd * 8 + k))), (0, .ref h), (1, .int (nI ac)), (2, .int (nI pd)), (3, .int (m_am S ac pd k)), (4, .int (m_mo S ac pd k)), (5, .int (m_su S ac pd k)), (6, .int (nI k))]) hx hb dX1_amount_75 hl (by decide) rfl (fun ls hl => ?_)
          refine lv_aload_n hx hb dX1_amount_77 rfl (lv_at hl 2 rfl) ?_
          refine lv_iload_n hx hb dX1_amount_78 rfl (lv_at hl 4 rfl) ?_
          refine lv_iload hx hb dX1_amount_79 (lv_at hl 0 rfl) ?_
          refine g_calli (av := [.int (nI pd), .int (nI (f_bi k))]) (rest := []) K B (mm_rate l D d z h a S hp (f_bi_lt k)) mv_rate md_rate ⟨Nat.le_of_ble_eq_true rfl, Nat.le_of_ble_eq_true rfl⟩ (ci := 1) rfl rfl rfl hl.1 rfl (Nat.le_of_ble_eq_true rfl) dX1_amount_81 (fun H locs B => ?_)
          refine lv_istore (lv' := [(9, .int (m_item S pd (f_bi k))), (8, .int (nI (f_bi k))), (7, .int (m_use S ac (pd * 8 + k))), (0, .ref h), (1, .int (nI ac)), (2, .int (nI pd)), (3, .int (m_am S ac pd k)), (4, .int (m_mo S ac pd k)), (5, .int (m_su S ac pd k)), (6, .int (nI k))]) hx hb dX1_amount_84 hl (by decide) rfl (fun ls hl => ?_)
          refine lv_iload_n hx hb dX1_amount_86 rfl (lv_at hl 6 rfl) ?_
          refine lv_iload hx hb dX1_amount_87 (lv_at hl 2 rfl) ?_
          refine lv_iload hx hb dX1_amount_89 (lv_at hl 0 rfl) ?_
          refine lv_imul hx hb dX1_amount_91 ?_
          refine lv_iadd hx hb dX1_amount_92 ?_
          refine tp (y := m_am S ac pd (k + 1)) (by rw [m_am]) ?_
          refine lv_istore_n (lv' := [(3, .int (m_am S ac pd (k + 1))), (9, .int (m_item S pd (f_bi k))), (8, .int (nI (f_bi k))), (7, .int (m_use S ac (pd * 8 + k))), (0, .ref h), (1, .int (nI ac)), (2, .int (nI pd)), (4, .int (m_mo S ac pd k)), (5, .int (m_su S ac pd k)), (6, .int (nI k))]) hx hb dX1_amount_93 rfl hl (by decide) rfl (fun ls hl => ?_)
          refine lv_iload hx hb dX1_amount_94 (lv_at hl 8 rfl) ?_
          refine lv_iload hx hb dX1_amount_96 (lv_at hl 3 rfl) ?_
          refine lv_iadd hx hb dX1_amount_98 ?_
          refine tp (y := m_su S ac pd (k + 1)) (by rw [m_su]) ?_
          refine lv_istore (lv' := [(5, .int (m_su S ac pd (k + 1))), (3, .int (m_am S ac pd (k + 1))), (9, .int (m_item S pd (f_bi k))), (8, .int (nI (f_bi k))), (7, .int (m_use S ac (pd * 8 + k))), (0, .ref h), (1, .int (nI ac)), (2, .int (nI pd)), (4, .int (m_mo S ac pd k)), (6, .int (nI k))]) hx hb dX1_amount_99 hl (by decide) rfl (fun ls hl => ?_)
          refine lv_iload hx hb dX1_amount_101 (lv_at hl 4 rfl) ?_
          refine lv_iload hx hb dX1_amount_103 (lv_at hl 8 rfl) ?_
          refine lv_icmp_le (tgt := 113) hx hb dX1_amount_105 (by decide) (fun c105 => ?_) (fun c105 => ?_)
          · refine lv_iload hx hb dX1_amount_113 (lv_at hl 8 rfl) ?_
            refine tp (y := m_mo S ac pd (k + 1)) (by rw [m_mo, if_pos c105]) ?_
            refine lv_istore (lv' := [(4, .int (m_mo S ac pd (k + 1))), (5, .int (m_su S ac pd (k + 1))), (3, .int (m_am S ac pd (k + 1))), (9, .int (m_item S pd (f_bi k))), (8, .int (nI (f_bi k))), (7, .int (m_use S ac (pd * 8 + k))), (0, .ref h), (1, .int (nI ac)), (2, .int (nI pd)), (6, .int (nI k))]) hx hb dX1_amount_115 hl (by decide) rfl (fun ls hl => ?_)
            refine lv_iinc (v := nI (k + 1)) (lv' := [(6, .int (nI (k + 1))), (4, .int (m_mo S ac pd (k + 1))), (5, .int (m_su S ac pd (k + 1))), (3, .int (m_am S ac pd (k + 1))), (9, .int (m_item S pd (f_bi k))), (8, .int (nI (f_bi k))), (7, .int (m_use S ac (pd * 8 + k))), (0, .ref h), (1, .int (nI ac)), (2, .int (nI pd))]) hx hb dX1_amount_117 hl (k := 9) rfl (n_i1 _) (by decide) rfl (fun ls hl => ?_)
            refine lv_goto (tgt := 33) hx hb dX1_amount_120 (by decide) ?_
            exact ih (k + 1) (by omega) (by omega) _ _ ls B (lv_sub hl [7, 8, 9, 3, 1, 2, 0] rfl)
          · refine lv_iload hx hb dX1_amount_108 (lv_at hl 4 rfl) ?_
            refine lv_goto (tgt := 115) hx hb dX1_amount_110 (by decide) ?_
            refine tp (y := m_mo S ac pd (k + 1)) (by rw [m_mo, if_neg c105]) ?_
            refine lv_istore (lv' := [(4, .int (m_mo S ac pd (k + 1))), (5, .int (m_su S ac pd (k + 1))), (3, .int (m_am S ac pd (k + 1))), (9, .int (m_item S pd (f_bi k))), (8, .int (nI (f_bi k))), (7, .int (m_use S ac (pd * 8 + k))), (0, .ref h), (1, .int (nI ac)), (2, .int (nI pd)), (6, .int (nI k))]) hx hb dX1_amount_115 hl (by decide) rfl (fun ls hl => ?_)
            refine lv_iinc (v := nI (k + 1)) (lv' := [(6, .int (nI (k + 1))), (4, .int (m_mo S ac pd (k + 1))), (5, .int (m_su S ac pd (k + 1))), (3, .int (m_am S ac pd (k + 1))), (9, .int (m_item S pd (f_bi k))), (8, .int (nI (f_bi k))), (7, .int (m_use S ac (pd * 8 + k))), (0, .ref h), (1, .int (nI ac)), (2, .int (nI pd))]) hx hb dX1_amount_117 hl (k := 9) rfl (n_i1 _) (by decide) rfl (fun ls hl => ?_)
            refine lv_goto (tgt := 33) hx hb dX1_amount_120 (by decide) ?_
            exact ih (k + 1) (by omega) (by omega) _ _ ls B (lv_sub hl [7, 8, 9, 3, 1, 2, 0] rfl)
      · have c57 : ¬ 3 ≤ k := fun h9 => c57 ((nI_leI (a := 3) (b := k) (by omega) (by omega)).mpr h9)
        refine lv_iconst (v := 0) hx hb dX1_amount_60 (by decide) ?_
        refine lv_goto (tgt := 75) hx hb dX1_amount_61 (by decide) ?_
        refine tp (y := nI (f_bi k)) (by rw [f_bi, if_neg c57] <;> rfl) ?_
        refine lv_istore (lv' := [(8, .int (nI (f_bi k))), (7, .int (m_use S ac (pd * 8 + k))), (0, .ref h), (1, .int (nI ac)), (2, .int (nI pd)), (3, .int (m_am S ac pd k)), (4, .int (m_mo S ac pd k)), (5, .int (m_su S ac pd k)), (6, .int (nI k))]) hx hb dX1_amount_75 hl (by decide) rfl (fun ls hl => ?_)
        refine lv_aload_n hx hb dX1_amount_77 rfl (lv_at hl 2 rfl) ?_
        refine lv_iload_n hx hb dX1_amount_78 rfl (lv_at hl 4 rfl) ?_
        refine lv_iload hx hb dX1_amount_79 (lv_at hl 0 rfl) ?_
        refine g_calli (av := [.int (nI pd), .int (nI (f_bi k))]) (rest := []) K B (mm_rate l D d z h a S hp (f_bi_lt k)) mv_rate md_rate ⟨Nat.le_of_ble_eq_true rfl, Nat.le_of_ble_eq_true rfl⟩ (ci := 1) rfl rfl rfl hl.1 rfl (Nat.le_of_ble_eq_true rfl) dX1_amount_81 (fun H locs B => ?_)
        refine lv_istore (lv' := [(9, .int (m_item S pd (f_bi k))), (8, .int (nI (f_bi k))), (7, .int (m_use S ac (pd * 8 + k))), (0, .ref h), (1, .int (nI ac)), (2, .int (nI pd)), (3, .int (m_am S ac pd k)), (4, .int (m_mo S ac pd k)), (5, .int (m_su S ac pd k)), (6, .int (nI k))]) hx hb dX1_amount_84 hl (by decide) rfl (fun ls hl => ?_)
        refine lv_iload_n hx hb dX1_amount_86 rfl (lv_at hl 6 rfl) ?_
        refine lv_iload hx hb dX1_amount_87 (lv_at hl 2 rfl) ?_
        refine lv_iload hx hb dX1_amount_89 (lv_at hl 0 rfl) ?_
        refine lv_imul hx hb dX1_amount_91 ?_
        refine lv_iadd hx hb dX1_amount_92 ?_
        refine tp (y := m_am S ac pd (k + 1)) (by rw [m_am]) ?_
        refine lv_istore_n (lv' := [(3, .int (m_am S ac pd (k + 1))), (9, .int (m_item S pd (f_bi k))), (8, .int (nI (f_bi k))), (7, .int (m_use S ac (pd * 8 + k))), (0, .ref h), (1, .int (nI ac)), (2, .int (nI pd)), (4, .int (m_mo S ac pd k)), (5, .int (m_su S ac pd k)), (6, .int (nI k))]) hx hb dX1_amount_93 rfl hl (by decide) rfl (fun ls hl => ?_)
        refine lv_iload hx hb dX1_amount_94 (lv_at hl 8 rfl) ?_
        refine lv_iload hx hb dX1_amount_96 (lv_at hl 3 rfl) ?_
        refine lv_iadd hx hb dX1_amount_98 ?_
        refine tp (y := m_su S ac pd (k + 1)) (by rw [m_su]) ?_
        refine lv_istore (lv' := [(5, .int (m_su S ac pd (k + 1))), (3, .int (m_am S ac pd (k + 1))), (9, .int (m_item S pd (f_bi k))), (8, .int (nI (f_bi k))), (7, .int (m_use S ac (pd * 8 + k))), (0, .ref h), (1, .int (nI ac)), (2, .int (nI pd)), (4, .int (m_mo S ac pd k)), (6, .int (nI k))]) hx hb dX1_amount_99 hl (by decide) rfl (fun ls hl => ?_)
        refine lv_iload hx hb dX1_amount_101 (lv_at hl 4 rfl) ?_
        refine lv_iload hx hb dX1_amount_103 (lv_at hl 8 rfl) ?_
        refine lv_icmp_le (tgt := 113) hx hb dX1_amount_105 (by decide) (fun c105 => ?_) (fun c105 => ?_)
        · refine lv_iload hx hb dX1_amount_113 (lv_at hl 8 rfl) ?_
          refine tp (y := m_mo S ac pd (k + 1)) (by rw [m_mo, if_pos c105]) ?_
          refine lv_istore (lv' := [(4, .int (m_mo S ac pd (k + 1))), (5, .int (m_su S ac pd (k + 1))), (3, .int (m_am S ac pd (k + 1))), (9, .int (m_item S pd (f_bi k))), (8, .int (nI (f_bi k))), (7, .int (m_use S ac (pd * 8 + k))), (0, .ref h), (1, .int (nI ac)), (2, .int (nI pd)), (6, .int (nI k))]) hx hb dX1_amount_115 hl (by decide) rfl (fun ls hl => ?_)
          refine lv_iinc (v := nI (k + 1)) (lv' := [(6, .int (nI (k + 1))), (4, .int (m_mo S ac pd (k + 1))), (5, .int (m_su S ac pd (k + 1))), (3, .int (m_am S ac pd (k + 1))), (9, .int (m_item S pd (f_bi k))), (8, .int (nI (f_bi k))), (7, .int (m_use S ac (pd * 8 + k))), (0, .ref h), (1, .int (nI ac)), (2, .int (nI pd))]) hx hb dX1_amount_117 hl (k := 9) rfl (n_i1 _) (by decide) rfl (fun ls hl => ?_)
          refine lv_goto (tgt := 33) hx hb dX1_amount_120 (by decide) ?_
          exact ih (k + 1) (by omega) (by omega) _ _ ls B (lv_sub hl [7, 8, 9, 3, 1, 2, 0] rfl)
        · refine lv_iload hx hb dX1_amount_108 (lv_at hl 4 rfl) ?_
          refine lv_goto (tgt := 115) hx hb dX1_amount_110 (by decide) ?_
          refine tp (y := m_mo S ac pd (k + 1)) (by rw [m_mo, if_neg c105]) ?_
          refine lv_istore (lv' := [(4, .int (m_mo S ac pd (k + 1))), (5, .int (m_su S ac pd (k + 1))), (3, .int (m_am S ac pd (k + 1))), (9, .int (m_item S pd (f_bi k))), (8, .int (nI (f_bi k))), (7, .int (m_use S ac (pd * 8 + k))), (0, .ref h), (1, .int (nI ac)), (2, .int (nI pd)), (6, .int (nI k))]) hx hb dX1_amount_115 hl (by decide) rfl (fun ls hl => ?_)
          refine lv_iinc (v := nI (k + 1)) (lv' := [(6, .int (nI (k + 1))), (4, .int (m_mo S ac pd (k + 1))), (5, .int (m_su S ac pd (k + 1))), (3, .int (m_am S ac pd (k + 1))), (9, .int (m_item S pd (f_bi k))), (8, .int (nI (f_bi k))), (7, .int (m_use S ac (pd * 8 + k))), (0, .ref h), (1, .int (nI ac)), (2, .int (nI pd))]) hx hb dX1_amount_117 hl (k := 9) rfl (n_i1 _) (by decide) rfl (fun ls hl => ?_)
          refine lv_goto (tgt := 33) hx hb dX1_amount_120 (by decide) ?_
          exact ih (k + 1) (by omega) (by omega) _ _ ls B (lv_sub hl [7, 8, 9, 3, 1, 2, 0] rfl)
theorem mm_amount (l : Launch) (D : va_G) (d z : ClassId) (h : Nat) (a : Nat → Nat) (S : g_S) (p0 p1 : Int32) : g_mi l D d z (m_w h a d z) yX1_amount cX1_amount 10 .int 2 46 [.ref h, .int p0, .int p1] S (m_amR S p0 p1) (S) := by
  refine g_enti (own := RX1) (by decide) rfl (Nat.le_of_ble_eq_true rfl) ?_
  intro p e s m args below meth c A ls K B hl
  have hx := K.1
  have hb := K.2.1
  have hl : lv_has ls 10 [(0, .ref h), (1, .int p0), (2, .int p1)] := hl
  refine lv_aload_n hx hb dX1_amount_0 rfl (lv_at hl 0 rfl) ?_
  refine lv_iload_n hx hb dX1_amount_1 rfl (lv_at hl 1 rfl) ?_
  refine g_calli (av := [.int p0]) (rest := []) K B (mm_badAccount l D d z h a S p0) mv_badAccount md_badAccount ⟨Nat.le_of_ble_eq_true rfl, Nat.le_of_ble_eq_true rfl⟩ (ci := 1) rfl rfl rfl hl.1 rfl (Nat.le_of_ble_eq_true rfl) dX1_amount_2 (fun H locs B => ?_)
  refine lv_if_eq (tgt := 10) hx hb dX1_amount_5 (by decide) (fun c5 => ?_) (fun c5 => ?_)
  · obtain ⟨ac, hac, rfl⟩ := f_bad1 c5
    refine lv_iload_n hx hb dX1_amount_10 rfl (lv_at hl 2 rfl) ?_
    refine lv_if_lt (tgt := 19) hx hb dX1_amount_11 (by decide) (fun c11 => ?_) (fun c11 => ?_)
    · refine lv_bipush (v := -8) hx hb dX1_amount_19 (by decide) ?_
      exact g_iret K B (by rw [m_amR, if_pos c5, if_pos c11]) (rfl) dX1_amount_21
    · refine lv_iload_n hx hb dX1_amount_14 rfl (lv_at hl 2 rfl) ?_
      refine lv_iconst (v := 5) hx hb dX1_amount_15 (by decide) ?_
      refine lv_icmp_le (tgt := 22) hx hb dX1_amount_16 (by decide) (fun c16 => ?_) (fun c16 => ?_)
      · obtain ⟨pd, hpd, rfl⟩ := f_upto 5 5 rfl c11 c16
        refine lv_iconst (v := 0) hx hb dX1_amount_22 (by decide) ?_
        refine lv_istore_n (lv' := [(3, .int 0), (0, .ref h), (1, .int (nI ac)), (2, .int (nI pd))]) hx hb dX1_amount_23 rfl hl (by decide) rfl (fun ls hl => ?_)
        refine lv_iconst (v := 0) hx hb dX1_amount_24 (by decide) ?_
        refine lv_istore (lv' := [(4, .int 0), (3, .int 0), (0, .ref h), (1, .int (nI ac)), (2, .int (nI pd))]) hx hb dX1_amount_25 hl (by decide) rfl (fun ls hl => ?_)
        refine lv_iconst (v := 0) hx hb dX1_amount_27 (by decide) ?_
        refine lv_istore (lv' := [(5, .int 0), (4, .int 0), (3, .int 0), (0, .ref h), (1, .int (nI ac)), (2, .int (nI pd))]) hx hb dX1_amount_28 hl (by decide) rfl (fun ls hl => ?_)
        refine lv_iconst (v := 0) hx hb dX1_amount_30 (by decide) ?_
        refine lv_istore (lv' := [(6, .int 0), (5, .int 0), (4, .int 0), (3, .int 0), (0, .ref h), (1, .int (nI ac)), (2, .int (nI pd))]) hx hb dX1_amount_31 hl (by decide) rfl (fun ls hl => ?_)
        rw [m_amR, if_pos c5, if_neg c11, if_pos c16, f_cl (n := ac) (by omega), f_cl (n := pd) (by omega)]
        exact m_amt_loop K hac (by omega) 9 0 (by omega) (by omega) _ _ ls B (lv_sub hl [4, 5, 6, 3, 2, 1, 0] rfl)
      · refine lv_bipush (v := -8) hx hb dX1_amount_19 (by decide) ?_
        exact g_iret K B (by rw [m_amR, if_pos c5, if_neg c11, if_neg c16]) (rfl) dX1_amount_21
  · refine lv_iconst (v := -1) hx hb dX1_amount_8 (by decide) ?_
    exact g_iret K B (by rw [m_amR, if_neg c5]) (rfl) dX1_amount_9
theorem m_reb_loop (K : g_K p s m args meth c D d z A RX1 cX1_rebill 6 (some .int)) {Sf : g_S} {rf : Int32} {ac cl : Nat} (hac : ac < 2) (hc6 : cl ≤ 6) : ∀ (k q : Nat) (S : g_S) (n : Int32) (H : Heap) (locs : List Loc) (ls : Array Slot), q ≤ 6 ∧ k = cl - q → S 3 0 = nI cl → m_rbS ac k q S = Sf → m_rbR ac k q S n = rf → g_B D A (m_w h a d z) s H locs S → lv_has ls 6 [(0, .ref h), (1, .int (nI ac)), (2, .int n), (3, .int (nI q))] → W p l e (g_R 3 75) s m args below meth c H locs 0 0 (MQ below (g_Qi D d z (m_w h a d z) A rf Sf) args s 0 0 A) (F0 m 4 ls []) := by
  have hx := K.1
  have hb := K.2.1
  intro k
  induction k with
  | zero =>
    intro q S n H locs ls hq hcl hf hr2 B hl
    refine lv_iload_n hx hb dX1_rebill_4 rfl (lv_at hl 3 rfl) ?_
    refine lv_aload_n hx hb dX1_rebill_5 rfl (lv_at hl 0 rfl) ?_
    refine m_get3 K B dX1_rebill_6 ?_
    refine tp (y := nI cl) (hcl) ?_
    refine lv_icmp_ge (tgt := 79) hx hb dX1_rebill_9 (by decide) (fun c9 => ?_) (fun c9 => ?_)
    · have c9 : cl ≤ q := (nI_leI (a := cl) (b := q) (by omega) (by omega)).mp c9
      refine lv_iload_n hx hb dX1_rebill_79 rfl (lv_at hl 2 rfl) ?_
      exact g_iret K B (by rw [← hr2, m_rbR]) (by rw [← hf, m_rbS]) dX1_rebill_80
    · have c9 : ¬ cl ≤ q := fun h9 => c9 ((nI_leI (a := cl) (b := q) (by omega) (by omega)).mpr h9)
      exfalso; omega
  | succ k ih =>
    intro q S n H locs ls hq hcl hf hr2 B hl
    refine lv_iload_n hx hb dX1_rebill_4 rfl (lv_at hl 3 rfl) ?_
    refine lv_aload_n hx hb dX1_rebill_5 rfl (lv_at hl 0 rfl) ?_
    refine m_get3 K B dX1_rebill_6 ?_
    refine tp (y := nI cl) (hcl) ?_
    refine lv_icmp_ge (tgt := 79) hx hb dX1_rebill_9 (by decide) (fun c9 => ?_) (fun c9 => ?_)
    · have c9 : cl ≤ q := (nI_leI (a := cl) (b := q) (by omega) (by omega)).mp c9
      exfalso; omega
    · have c9 : ¬ cl ≤ q := fun h9 => c9 ((nI_leI (a := cl) (b := q) (by omega) (by omega)).mpr h9)
      refine lv_aload_n hx hb dX1_rebill_12 rfl (lv_at hl 0 rfl) ?_
      refine m_get4 K B dX1_rebill_13 ?_
      refine lv_iload_n hx hb dX1_rebill_16 rfl (lv_at hl 1 rfl) ?_
      refine lv_bipush (v := 6) hx hb dX1_rebill_17 (by decide) ?_
      refine lv_imul hx hb dX1_rebill_19 ?_
      refine tp (n_m6 _) ?_
      refine lv_iload_n hx hb dX1_rebill_20 rfl (lv_at hl 3 rfl) ?_
      refine lv_iadd hx hb dX1_rebill_21 ?_
      refine tp (nI_add _ _) ?_
      refine m_ald4 K B (by omega) dX1_rebill_22 ?_
      refine lv_istore (lv' := [(4, .int (S 4 (ac * 6 + q))), (0, .ref h), (1, .int (nI ac)), (2, .int n), (3, .int (nI q))]) hx hb dX1_rebill_23 hl (by decide) rfl (fun ls hl => ?_)
      refine lv_aload_n hx hb dX1_rebill_25 rfl (lv_at hl 1 rfl) ?_
      refine lv_iload_n hx hb dX1_rebill_26 rfl (lv_at hl 2 rfl) ?_
      refine lv_iload_n hx hb dX1_rebill_27 rfl (lv_at hl 4 rfl) ?_
      refine g_calli (av := [.int (nI ac), .int (nI q)]) (rest := []) K B (mm_amount l D d z h a S (nI ac) (nI q)) mv_amount md_amount ⟨Nat.le_of_ble_eq_true rfl, Nat.le_of_ble_eq_true rfl⟩ (ci := 1) rfl rfl rfl hl.1 rfl (Nat.le_of_ble_eq_true rfl) dX1_rebill_28 (fun H locs B => ?_)
      refine tp (y := m_amt S ac q) (m_amR_in S hac (by omega)) ?_
      refine lv_istore (lv' := [(5, .int (m_amt S ac q)), (4, .int (S 4 (ac * 6 + q))), (0, .ref h), (1, .int (nI ac)), (2, .int n), (3, .int (nI q))]) hx hb dX1_rebill_31 hl (by decide) rfl (fun ls hl => ?_)
      refine lv_iload hx hb dX1_rebill_33 (lv_at hl 0 rfl) ?_
      refine lv_iload hx hb dX1_rebill_35 (lv_at hl 1 rfl) ?_
      refine lv_icmp_eq (tgt := 73) hx hb dX1_rebill_37 (by decide) (fun c37 => ?_) (fun c37 => ?_)
      · have B : g_B D A (m_w h a d z) s H locs (m_rebS S ac q) := by rw [m_rebS, if_pos c37]; exact B
        refine lv_iinc (v := nI (q + 1)) (lv' := [(3, .int (nI (q + 1))), (5, .int (m_amt S ac q)), (4, .int (S 4 (ac * 6 + q))), (0, .ref h), (1, .int (nI ac)), (2, .int n)]) hx hb dX1_rebill_73 hl (k := 5) rfl (n_i1 _) (by decide) rfl (fun ls hl => ?_)
        refine lv_goto (tgt := 4) hx hb dX1_rebill_76 (by decide) ?_
        exact ih (q + 1) _ _ _ _ ls (by omega) (by rw [m_rebS_o _ _ _ (by decide) (by decide) (by decide) (by decide) (by decide)]; exact hcl) (by rw [← hf, m_rbS]) (by rw [← hr2, m_rbR, if_pos c37]) B (lv_sub hl [3, 4, 5, 0] rfl)
      · refine lv_aload_n hx hb dX1_rebill_40 rfl (lv_at hl 2 rfl) ?_
        refine lv_iload_n hx hb dX1_rebill_41 rfl (lv_at hl 3 rfl) ?_
        refine lv_iload_n hx hb dX1_rebill_42 rfl (lv_at hl 5 rfl) ?_
        refine lv_iload hx hb dX1_rebill_43 (lv_at hl 1 rfl) ?_
        refine lv_ineg hx hb dX1_rebill_45 ?_
        refine g_callv (av := [.int (nI ac), .int (nI q), .int (-(S 4 (ac * 6 + q)))]) (rest := []) K B (mm_line l D d z h a S hac (pd := q) (-(S 4 (ac * 6 + q)))) mv_line md_line ⟨Nat.le_of_ble_eq_true rfl, Nat.le_of_ble_eq_true rfl⟩ (ci := 1) rfl rfl rfl hl.1 rfl (Nat.le_of_ble_eq_true rfl) dX1_rebill_46 (fun H locs B => ?_)
        refine lv_aload_n hx hb dX1_rebill_49 rfl (lv_at hl 2 rfl) ?_
        refine lv_iload_n hx hb dX1_rebill_50 rfl (lv_at hl 3 rfl) ?_
        refine lv_iload_n hx hb dX1_rebill_51 rfl (lv_at hl 5 rfl) ?_
        refine lv_iload hx hb dX1_rebill_52 (lv_at hl 0 rfl) ?_
        refine g_callv (av := [.int (nI ac), .int (nI q), .int (m_amt S ac q)]) (rest := []) K B (mm_line l D d z h a (m_line S ac q (-(S 4 (ac * 6 + q)))) hac (pd := q) (m_amt S ac q)) mv_line md_line ⟨Nat.le_of_ble_eq_true rfl, Nat.le_of_ble_eq_true rfl⟩ (ci := 1) rfl rfl rfl hl.1 rfl (Nat.le_of_ble_eq_true rfl) dX1_rebill_54 (fun H locs B => ?_)
        refine lv_aload_n hx hb dX1_rebill_57 rfl (lv_at hl 2 rfl) ?_
        refine m_get4 K B dX1_rebill_58 ?_
        refine lv_iload_n hx hb dX1_rebill_61 rfl (lv_at hl 3 rfl) ?_
        refine lv_bipush (v := 6) hx hb dX1_rebill_62 (by decide) ?_
        refine lv_imul hx hb dX1_rebill_64 ?_
        refine tp (n_m6 _) ?_
        refine lv_iload_n hx hb dX1_rebill_65 rfl (lv_at hl 5 rfl) ?_
        refine lv_iadd hx hb dX1_rebill_66 ?_
        refine tp (nI_add _ _) ?_
        refine lv_iload hx hb dX1_rebill_67 (lv_at hl 0 rfl) ?_
        refine m_ast4 K B (by omega) dX1_rebill_69 (fun H locs B => ?_)
        refine lv_iinc (v := n + 1) (lv' := [(2, .int (n + 1)), (5, .int (m_amt S ac q)), (4, .int (S 4 (ac * 6 + q))), (0, .ref h), (1, .int (nI ac)), (3, .int (nI q))]) hx hb dX1_rebill_70 hl (k := 4) rfl (rfl) (by decide) rfl (fun ls hl => ?_)
        have B : g_B D A (m_w h a d z) s H locs (m_rebS S ac q) := by rw [m_rebS, if_neg c37]; exact B
        refine lv_iinc (v := nI (q + 1)) (lv' := [(3, .int (nI (q + 1))), (2, .int (n + 1)), (5, .int (m_amt S ac q)), (4, .int (S 4 (ac * 6 + q))), (0, .ref h), (1, .int (nI ac))]) hx hb dX1_rebill_73 hl (k := 5) rfl (n_i1 _) (by decide) rfl (fun ls hl => ?_)
        refine lv_goto (tgt := 4) hx hb dX1_rebill_76 (by decide) ?_
        exact ih (q + 1) _ _ _ _ ls (by omega) (by rw [m_rebS_o _ _ _ (by decide) (by decide) (by decide) (by decide) (by decide)]; exact hcl) (by rw [← hf, m_rbS]) (by rw [← hr2, m_rbR, if_neg c37]) B (lv_sub hl [4, 5, 1, 0] rfl)
theorem mm_rebill (l : Launch) (D : va_G) (d z : ClassId) (h : Nat) (a : Nat → Nat) (S : g_S) {ac : Nat} (hac : ac < 2) {cl : Nat} (hcl : S 3 0 = nI cl) (hc6 : cl ≤ 6) : g_mi l D d z (m_w h a d z) yX1_rebill cX1_rebill 6 .int 3 75 [.ref h, .int (nI ac)] S (m_rbR ac cl 0 S 0) (m_rbS ac cl 0 S) := by
  refine g_enti (own := RX1) (by decide) rfl (Nat.le_of_ble_eq_true rfl) ?_
  intro p e s m args below meth c A ls K B hl
  have hx := K.1
  have hb := K.2.1
  have hl : lv_has ls 6 [(0, .ref h), (1, .int (nI ac))] := hl
  refine lv_iconst (v := 0) hx hb dX1_rebill_0 (by decide) ?_
  refine lv_istore_n (lv' := [(2, .int 0), (0, .ref h), (1, .int (nI ac))]) hx hb dX1_rebill_1 rfl hl (by decide) rfl (fun ls hl => ?_)
  refine lv_iconst (v := 0) hx hb dX1_rebill_2 (by decide) ?_
  refine tp (y := nI 0) (rfl) ?_
  refine lv_istore_n (lv' := [(3, .int (nI 0)), (2, .int 0), (0, .ref h), (1, .int (nI ac))]) hx hb dX1_rebill_3 rfl hl (by decide) rfl (fun ls hl => ?_)
  exact m_reb_loop K hac hc6 cl 0 _ _ _ _ ls ⟨by omega, by omega⟩ hcl rfl rfl B (lv_sub hl [2, 3, 1, 0] rfl)
end MW
end
section
set_option maxRecDepth 100000
set_option maxHeartbeats 4000000
section MW
variable {p : Program} {l : Launch} {e : Env} {s : State} {m : MethodId} {args : Array Value} {below : List Frame} {meth : Method} {c : Code} {D : va_G} {d z : ClassId} {A : Nat → Prop} {h : Nat} {a : Nat → Nat}
theorem mm_read (l : Launch) (D : va_G) (d z : ClassId) (h : Nat) (a : Nat → Nat) (S : g_S) (p0 p1 p2 : Int32) {cl : Nat} (hcl : S 3 0 = nI cl) (hc6 : cl ≤ 6) : g_mi l D d z (m_w h a d z) yX1_read cX1_read 4 .int 4 100 [.ref h, .int p0, .int p1, .int p2] S (m_rdR S cl p0 p1 p2) (m_rdS S cl p0 p1 p2) := by
  refine g_enti (own := RX1) (by decide) rfl (Nat.le_of_ble_eq_true rfl) ?_
  intro p e s m args below meth c A ls K B hl
  have hx := K.1
  have hb := K.2.1
  have hl : lv_has ls 4 [(0, .ref h), (1, .int p0), (2, .int p1), (3, .int p2)] := hl
  refine lv_aload_n hx hb dX1_read_0 rfl (lv_at hl 0 rfl) ?_
  refine lv_iload_n hx hb dX1_read_1 rfl (lv_at hl 1 rfl) ?_
  refine g_calli (av := [.int p0]) (rest := []) K B (mm_badAccount l D d z h a S p0) mv_badAccount md_badAccount ⟨Nat.le_of_ble_eq_true rfl, Nat.le_of_ble_eq_true rfl⟩ (ci := 1) rfl rfl rfl hl.1 rfl (Nat.le_of_ble_eq_true rfl) dX1_read_2 (fun H locs B => ?_)
  refine lv_if_eq (tgt := 10) hx hb dX1_read_5 (by decide) (fun c5 => ?_) (fun c5 => ?_)
  · obtain ⟨ac, hac, rfl⟩ := f_bad1 c5
    refine lv_aload_n hx hb dX1_read_10 rfl (lv_at hl 0 rfl) ?_
    refine lv_iload_n hx hb dX1_read_11 rfl (lv_at hl 2 rfl) ?_
    refine g_calli (av := [.int p1]) (rest := []) K B (mm_badInterval l D d z h a S p1) mv_badInterval md_badInterval ⟨Nat.le_of_ble_eq_true rfl, Nat.le_of_ble_eq_true rfl⟩ (ci := 1) rfl rfl rfl hl.1 rfl (Nat.le_of_ble_eq_true rfl) dX1_read_12 (fun H locs B => ?_)
    refine lv_if_eq (tgt := 21) hx hb dX1_read_15 (by decide) (fun c15 => ?_) (fun c15 => ?_)
    · obtain ⟨iv, hiv, rfl⟩ := f_bad47 c15
      refine lv_iload_n hx hb dX1_read_21 rfl (lv_at hl 3 rfl) ?_
      refine lv_if_lt (tgt := 32) hx hb dX1_read_22 (by decide) (fun c22 => ?_) (fun c22 => ?_)
      · refine lv_bipush (v := -3) hx hb dX1_read_32 (by decide) ?_
        exact g_iret K B (by rw [m_rdR, if_pos c5, if_pos c15, if_pos c22]) (by rw [m_rdS, if_pos c5, if_pos c15, if_pos c22]) dX1_read_34
      · refine lv_iload_n hx hb dX1_read_25 rfl (lv_at hl 3 rfl) ?_
        refine lv_sipush (v := 999) hx hb dX1_read_26 (by decide) ?_
        refine lv_icmp_le (tgt := 35) hx hb dX1_read_29 (by decide) (fun c29 => ?_) (fun c29 => ?_)
        · refine lv_aload_n hx hb dX1_read_35 rfl (lv_at hl 0 rfl) ?_
          refine m_get0 K B dX1_read_36 ?_
          refine lv_iload_n hx hb dX1_read_39 rfl (lv_at hl 1 rfl) ?_
          refine lv_bipush (v := 48) hx hb dX1_read_40 (by decide) ?_
          refine lv_imul hx hb dX1_read_42 ?_
          refine tp (n_m48 _) ?_
          refine lv_iload_n hx hb dX1_read_43 rfl (lv_at hl 2 rfl) ?_
          refine lv_iadd hx hb dX1_read_44 ?_
          refine tp (nI_add _ _) ?_
          refine lv_iload_n hx hb dX1_read_45 rfl (lv_at hl 3 rfl) ?_
          refine m_ast0 K B (by omega) dX1_read_46 (fun H locs B => ?_)
          refine lv_aload_n hx hb dX1_read_47 rfl (lv_at hl 0 rfl) ?_
          refine lv_iload_n hx hb dX1_read_48 rfl (lv_at hl 1 rfl) ?_
          refine g_calli (av := [.int (nI ac)]) (rest := []) K B (mm_rebill l D d z h a (up2 S 0 (ac * 48 + iv) p2) hac (cl := cl) (by rw [up2_o _ _ _ (by decide)]; exact hcl) hc6) mv_rebill md_rebill ⟨Nat.le_of_ble_eq_true rfl, Nat.le_of_ble_eq_true rfl⟩ (ci := 1) rfl rfl rfl hl.1 rfl (Nat.le_of_ble_eq_true rfl) dX1_read_49 (fun H locs B => ?_)
          exact g_iret K B (by rw [m_rdR, if_pos c5, if_pos c15, if_neg c22, if_pos c29, f_cl (n := ac) (by omega), f_cl (n := iv) (by omega)]) (by rw [m_rdS, if_pos c5, if_pos c15, if_neg c22, if_pos c29, f_cl (n := ac) (by omega), f_cl (n := iv) (by omega)]) dX1_read_52
        · refine lv_bipush (v := -3) hx hb dX1_read_32 (by decide) ?_
          exact g_iret K B (by rw [m_rdR, if_pos c5, if_pos c15, if_neg c22, if_neg c29]) (by rw [m_rdS, if_pos c5, if_pos c15, if_neg c22, if_neg c29]) dX1_read_34
    · refine lv_bipush (v := -2) hx hb dX1_read_18 (by decide) ?_
      exact g_iret K B (by rw [m_rdR, if_pos c5, if_neg c15]) (by rw [m_rdS, if_pos c5, if_neg c15]) dX1_read_20
  · refine lv_iconst (v := -1) hx hb dX1_read_8 (by decide) ?_
    exact g_iret K B (by rw [m_rdR, if_neg c5]) (by rw [m_rdS, if_neg c5]) dX1_read_9
theorem mm_unread (l : Launch) (D : va_G) (d z : ClassId) (h : Nat) (a : Nat → Nat) (S : g_S) (p0 p1 : Int32) {cl : Nat} (hcl : S 3 0 = nI cl) (hc6 : cl ≤ 6) : g_mi l D d z (m_w h a d z) yX1_unread cX1_unread 3 .int 4 100 [.ref h, .int p0, .int p1] S (m_urR S cl p0 p1) (m_urS S cl p0 p1) := by
  refine g_enti (own := RX1) (by decide) rfl (Nat.le_of_ble_eq_true rfl) ?_
  intro p e s m args below meth c A ls K B hl
  have hx := K.1
  have hb := K.2.1
  have hl : lv_has ls 3 [(0, .ref h), (1, .int p0), (2, .int p1)] := hl
  refine lv_aload_n hx hb dX1_unread_0 rfl (lv_at hl 0 rfl) ?_
  refine lv_iload_n hx hb dX1_unread_1 rfl (lv_at hl 1 rfl) ?_
  refine g_calli (av := [.int p0]) (rest := []) K B (mm_badAccount l D d z h a S p0) mv_badAccount md_badAccount ⟨Nat.le_of_ble_eq_true rfl, Nat.le_of_ble_eq_true rfl⟩ (ci := 1) rfl rfl rfl hl.1 rfl (Nat.le_of_ble_eq_true rfl) dX1_unread_2 (fun H locs B => ?_)
  refine lv_if_eq (tgt := 10) hx hb dX1_unread_5 (by decide) (fun c5 => ?_) (fun c5 => ?_)
  · obtain ⟨ac, hac, rfl⟩ := f_bad1 c5
    refine lv_aload_n hx hb dX1_unread_10 rfl (lv_at hl 0 rfl) ?_
    refine lv_iload_n hx hb dX1_unread_11 rfl (lv_at hl 2 rfl) ?_
    refine g_calli (av := [.int p1]) (rest := []) K B (mm_badInterval l D d z h a S p1) mv_badInterval md_badInterval ⟨Nat.le_of_ble_eq_true rfl, Nat.le_of_ble_eq_true rfl⟩ (ci := 1) rfl rfl rfl hl.1 rfl (Nat.le_of_ble_eq_true rfl) dX1_unread_12 (fun H locs B => ?_)
    refine lv_if_eq (tgt := 21) hx hb dX1_unread_15 (by decide) (fun c15 => ?_) (fun c15 => ?_)
    · obtain ⟨iv, hiv, rfl⟩ := f_bad47 c15
      refine lv_aload_n hx hb dX1_unread_21 rfl (lv_at hl 0 rfl) ?_
      refine m_get0 K B dX1_unread_22 ?_
      refine lv_iload_n hx hb dX1_unread_25 rfl (lv_at hl 1 rfl) ?_
      refine lv_bipush (v := 48) hx hb dX1_unread_26 (by decide) ?_
      refine lv_imul hx hb dX1_unread_28 ?_
      refine tp (n_m48 _) ?_
      refine lv_iload_n hx hb dX1_unread_29 rfl (lv_at hl 2 rfl) ?_
      refine lv_iadd hx hb dX1_unread_30 ?_
      refine tp (nI_add _ _) ?_
      refine m_ald0 K B (by omega) dX1_unread_31 ?_
      refine lv_if_ge (tgt := 38) hx hb dX1_unread_32 (by decide) (fun c32 => ?_) (fun c32 => ?_)
      · refine lv_aload_n hx hb dX1_unread_38 rfl (lv_at hl 0 rfl) ?_
        refine m_get0 K B dX1_unread_39 ?_
        refine lv_iload_n hx hb dX1_unread_42 rfl (lv_at hl 1 rfl) ?_
        refine lv_bipush (v := 48) hx hb dX1_unread_43 (by decide) ?_
        refine lv_imul hx hb dX1_unread_45 ?_
        refine tp (n_m48 _) ?_
        refine lv_iload_n hx hb dX1_unread_46 rfl (lv_at hl 2 rfl) ?_
        refine lv_iadd hx hb dX1_unread_47 ?_
        refine tp (nI_add _ _) ?_
        refine lv_iconst (v := -1) hx hb dX1_unread_48 (by decide) ?_
        refine m_ast0 K B (by omega) dX1_unread_49 (fun H locs B => ?_)
        refine lv_aload_n hx hb dX1_unread_50 rfl (lv_at hl 0 rfl) ?_
        refine lv_iload_n hx hb dX1_unread_51 rfl (lv_at hl 1 rfl) ?_
        refine g_calli (av := [.int (nI ac)]) (rest := []) K B (mm_rebill l D d z h a (up2 S 0 (ac * 48 + iv) (-1)) hac (cl := cl) (by rw [up2_o _ _ _ (by decide)]; exact hcl) hc6) mv_rebill md_rebill ⟨Nat.le_of_ble_eq_true rfl, Nat.le_of_ble_eq_true rfl⟩ (ci := 1) rfl rfl rfl hl.1 rfl (Nat.le_of_ble_eq_true rfl) dX1_unread_52 (fun H locs B => ?_)
        exact g_iret K B (by rw [m_urR, if_pos c5, if_pos c15, f_cl (n := ac) (by omega), f_cl (n := iv) (by omega), if_pos c32]) (by rw [m_urS, if_pos c5, if_pos c15, f_cl (n := ac) (by omega), f_cl (n := iv) (by omega), if_pos c32]) dX1_unread_55
      · refine lv_bipush (v := -7) hx hb dX1_unread_35 (by decide) ?_
        exact g_iret K B (by rw [m_urR, if_pos c5, if_pos c15, f_cl (n := ac) (by omega), f_cl (n := iv) (by omega), if_neg c32]) (by rw [m_urS, if_pos c5, if_pos c15, f_cl (n := ac) (by omega), f_cl (n := iv) (by omega), if_neg c32]) dX1_unread_37
    · refine lv_bipush (v := -2) hx hb dX1_unread_18 (by decide) ?_
      exact g_iret K B (by rw [m_urR, if_pos c5, if_neg c15]) (by rw [m_urS, if_pos c5, if_neg c15]) dX1_unread_20
  · refine lv_iconst (v := -1) hx hb dX1_unread_8 (by decide) ?_
    exact g_iret K B (by rw [m_urR, if_neg c5]) (by rw [m_urS, if_neg c5]) dX1_unread_9
theorem mm_balance (l : Launch) (D : va_G) (d z : ClassId) (h : Nat) (a : Nat → Nat) (S : g_S) (p0 : Int32) : g_mi l D d z (m_w h a d z) yX1_balance cX1_balance 2 .int 1 21 [.ref h, .int p0] S (f_acc S 6 0 p0) (S) := by
  refine g_enti (own := RX1) (by decide) rfl (Nat.le_of_ble_eq_true rfl) ?_
  intro p e s m args below meth c A ls K B hl
  have hx := K.1
  have hb := K.2.1
  have hl : lv_has ls 2 [(0, .ref h), (1, .int p0)] := hl
  refine lv_aload_n hx hb dX1_balance_0 rfl (lv_at hl 0 rfl) ?_
  refine lv_iload_n hx hb dX1_balance_1 rfl (lv_at hl 1 rfl) ?_
  refine g_calli (av := [.int p0]) (rest := []) K B (mm_badAccount l D d z h a S p0) mv_badAccount md_badAccount ⟨Nat.le_of_ble_eq_true rfl, Nat.le_of_ble_eq_true rfl⟩ (ci := 1) rfl rfl rfl hl.1 rfl (Nat.le_of_ble_eq_true rfl) dX1_balance_2 (fun H locs B => ?_)
  refine lv_if_eq (tgt := 12) hx hb dX1_balance_5 (by decide) (fun c5 => ?_) (fun c5 => ?_)
  · obtain ⟨ac, hac, rfl⟩ := f_bad1 c5
    refine lv_aload_n hx hb dX1_balance_12 rfl (lv_at hl 0 rfl) ?_
    refine m_get6 K B dX1_balance_13 ?_
    refine lv_iload_n hx hb dX1_balance_16 rfl (lv_at hl 1 rfl) ?_
    refine m_ald6 K B (by omega) dX1_balance_17 ?_
    exact g_iret K B (by rw [f_acc, if_pos c5, f_cl (n := ac) (by omega)]) (rfl) dX1_balance_18
  · refine lv_iconst (v := 0) hx hb dX1_balance_8 (by decide) ?_
    refine lv_goto (tgt := 18) hx hb dX1_balance_9 (by decide) ?_
    exact g_iret K B (by rw [f_acc, if_neg c5]) (rfl) dX1_balance_18
theorem mm_lines (l : Launch) (D : va_G) (d z : ClassId) (h : Nat) (a : Nat → Nat) (S : g_S) (p0 : Int32) : g_mi l D d z (m_w h a d z) yX1_lines cX1_lines 2 .int 1 21 [.ref h, .int p0] S (f_acc S 5 (-1) p0) (S) := by
  refine g_enti (own := RX1) (by decide) rfl (Nat.le_of_ble_eq_true rfl) ?_
  intro p e s m args below meth c A ls K B hl
  have hx := K.1
  have hb := K.2.1
  have hl : lv_has ls 2 [(0, .ref h), (1, .int p0)] := hl
  refine lv_aload_n hx hb dX1_lines_0 rfl (lv_at hl 0 rfl) ?_
  refine lv_iload_n hx hb dX1_lines_1 rfl (lv_at hl 1 rfl) ?_
  refine g_calli (av := [.int p0]) (rest := []) K B (mm_badAccount l D d z h a S p0) mv_badAccount md_badAccount ⟨Nat.le_of_ble_eq_true rfl, Nat.le_of_ble_eq_true rfl⟩ (ci := 1) rfl rfl rfl hl.1 rfl (Nat.le_of_ble_eq_true rfl) dX1_lines_2 (fun H locs B => ?_)
  refine lv_if_eq (tgt := 12) hx hb dX1_lines_5 (by decide) (fun c5 => ?_) (fun c5 => ?_)
  · obtain ⟨ac, hac, rfl⟩ := f_bad1 c5
    refine lv_aload_n hx hb dX1_lines_12 rfl (lv_at hl 0 rfl) ?_
    refine m_get5 K B dX1_lines_13 ?_
    refine lv_iload_n hx hb dX1_lines_16 rfl (lv_at hl 1 rfl) ?_
    refine m_ald5 K B (by omega) dX1_lines_17 ?_
    exact g_iret K B (by rw [f_acc, if_pos c5, f_cl (n := ac) (by omega)]) (rfl) dX1_lines_18
  · refine lv_iconst (v := -1) hx hb dX1_lines_8 (by decide) ?_
    refine lv_goto (tgt := 18) hx hb dX1_lines_9 (by decide) ?_
    exact g_iret K B (by rw [f_acc, if_neg c5]) (rfl) dX1_lines_18
theorem mm_noLine (l : Launch) (D : va_G) (d z : ClassId) (h : Nat) (a : Nat → Nat) (S : g_S) (p0 p1 : Int32) : g_mi l D d z (m_w h a d z) yX1_noLine cX1_noLine 3 .boolean 1 21 [.ref h, .int p0, .int p1] S (f_noL S 5 p0 p1) (S) := by
  refine g_enti (own := RX1) (by decide) rfl (Nat.le_of_ble_eq_true rfl) ?_
  intro p e s m args below meth c A ls K B hl
  have hx := K.1
  have hb := K.2.1
  have hl : lv_has ls 3 [(0, .ref h), (1, .int p0), (2, .int p1)] := hl
  refine lv_aload_n hx hb dX1_noLine_0 rfl (lv_at hl 0 rfl) ?_
  refine lv_iload_n hx hb dX1_noLine_1 rfl (lv_at hl 1 rfl) ?_
  refine g_calli (av := [.int p0]) (rest := []) K B (mm_badAccount l D d z h a S p0) mv_badAccount md_badAccount ⟨Nat.le_of_ble_eq_true rfl, Nat.le_of_ble_eq_true rfl⟩ (ci := 1) rfl rfl rfl hl.1 rfl (Nat.le_of_ble_eq_true rfl) dX1_noLine_2 (fun H locs B => ?_)
  refine lv_if_ne (tgt := 28) hx hb dX1_noLine_5 (by decide) (fun c5 => ?_) (fun c5 => ?_)
  · refine lv_iconst (v := 1) hx hb dX1_noLine_28 (by decide) ?_
    refine lv_goto (tgt := 33) hx hb dX1_noLine_29 (by decide) ?_
    exact g_zret K B rfl (by rw [f_noL, if_neg c5]) (rfl) dX1_noLine_33
  · obtain ⟨ac, hac, rfl⟩ := f_bad1 c5
    refine lv_iload_n hx hb dX1_noLine_8 rfl (lv_at hl 2 rfl) ?_
    refine lv_if_lt (tgt := 28) hx hb dX1_noLine_9 (by decide) (fun c9 => ?_) (fun c9 => ?_)
    · refine lv_iconst (v := 1) hx hb dX1_noLine_28 (by decide) ?_
      refine lv_goto (tgt := 33) hx hb dX1_noLine_29 (by decide) ?_
      exact g_zret K B rfl (by rw [f_noL, if_pos c5, if_pos c9]) (rfl) dX1_noLine_33
    · refine lv_iload_n hx hb dX1_noLine_12 rfl (lv_at hl 2 rfl) ?_
      refine lv_bipush (v := 7) hx hb dX1_noLine_13 (by decide) ?_
      refine lv_icmp_gt (tgt := 28) hx hb dX1_noLine_15 (by decide) (fun c15 => ?_) (fun c15 => ?_)
      · refine lv_iconst (v := 1) hx hb dX1_noLine_28 (by decide) ?_
        refine lv_goto (tgt := 33) hx hb dX1_noLine_29 (by decide) ?_
        exact g_zret K B rfl (by rw [f_noL, if_pos c5, if_neg c9, if_pos c15]) (rfl) dX1_noLine_33
      · refine lv_iload_n hx hb dX1_noLine_18 rfl (lv_at hl 2 rfl) ?_
        refine lv_aload_n hx hb dX1_noLine_19 rfl (lv_at hl 0 rfl) ?_
        refine m_get5 K B dX1_noLine_20 ?_
        refine lv_iload_n hx hb dX1_noLine_23 rfl (lv_at hl 1 rfl) ?_
        refine m_ald5 K B (by omega) dX1_noLine_24 ?_
        refine lv_icmp_lt (tgt := 32) hx hb dX1_noLine_25 (by decide) (fun c25 => ?_) (fun c25 => ?_)
        · refine lv_iconst (v := 0) hx hb dX1_noLine_32 (by decide) ?_
          exact g_zret K B rfl (by rw [f_noL, if_pos c5, if_neg c9, if_neg c15, f_cl (n := ac) (by omega), if_pos c25]) (rfl) dX1_noLine_33
        · refine lv_iconst (v := 1) hx hb dX1_noLine_28 (by decide) ?_
          refine lv_goto (tgt := 33) hx hb dX1_noLine_29 (by decide) ?_
          exact g_zret K B rfl (by rw [f_noL, if_pos c5, if_neg c9, if_neg c15, f_cl (n := ac) (by omega), if_neg c25]) (rfl) dX1_noLine_33
theorem mm_lineAmount (l : Launch) (D : va_G) (d z : ClassId) (h : Nat) (a : Nat → Nat) (S : g_S) (p0 p1 : Int32) : g_mi l D d z (m_w h a d z) yX1_lineAmount cX1_lineAmount 3 .int 2 43 [.ref h, .int p0, .int p1] S (m_lnR S 7 0 p0 p1) (S) := by
  refine g_enti (own := RX1) (by decide) rfl (Nat.le_of_ble_eq_true rfl) ?_
  intro p e s m args below meth c A ls K B hl
  have hx := K.1
  have hb := K.2.1
  have hl : lv_has ls 3 [(0, .ref h), (1, .int p0), (2, .int p1)] := hl
  refine lv_aload_n hx hb dX1_lineAmount_0 rfl (lv_at hl 0 rfl) ?_
  refine lv_iload_n hx hb dX1_lineAmount_1 rfl (lv_at hl 1 rfl) ?_
  refine lv_iload_n hx hb dX1_lineAmount_2 rfl (lv_at hl 2 rfl) ?_
  refine g_calli (av := [.int p0, .int p1]) (rest := []) K B (mm_noLine l D d z h a S p0 p1) mv_noLine md_noLine ⟨Nat.le_of_ble_eq_true rfl, Nat.le_of_ble_eq_true rfl⟩ (ci := 1) rfl rfl rfl hl.1 rfl (Nat.le_of_ble_eq_true rfl) dX1_lineAmount_3 (fun H locs B => ?_)
  refine lv_if_eq (tgt := 13) hx hb dX1_lineAmount_6 (by decide) (fun c6 => ?_) (fun c6 => ?_)
  · obtain ⟨ac, bk, hac, hbk, rfl, rfl⟩ := f_noL_in c6
    refine lv_aload_n hx hb dX1_lineAmount_13 rfl (lv_at hl 0 rfl) ?_
    refine m_get7 K B dX1_lineAmount_14 ?_
    refine lv_iload_n hx hb dX1_lineAmount_17 rfl (lv_at hl 1 rfl) ?_
    refine lv_bipush (v := 8) hx hb dX1_lineAmount_18 (by decide) ?_
    refine lv_imul hx hb dX1_lineAmount_20 ?_
    refine tp (n_m8 _) ?_
    refine lv_iload_n hx hb dX1_lineAmount_21 rfl (lv_at hl 2 rfl) ?_
    refine lv_iadd hx hb dX1_lineAmount_22 ?_
    refine tp (nI_add _ _) ?_
    refine m_ald7 K B (by omega) dX1_lineAmount_23 ?_
    exact g_iret K B (by rw [m_lnR, if_pos c6, f_cl (n := ac) (by omega), f_cl (n := bk) (by omega)]) (rfl) dX1_lineAmount_24
  · refine lv_iconst (v := 0) hx hb dX1_lineAmount_9 (by decide) ?_
    refine lv_goto (tgt := 24) hx hb dX1_lineAmount_10 (by decide) ?_
    exact g_iret K B (by rw [m_lnR, if_neg c6]) (rfl) dX1_lineAmount_24
theorem mm_linePeriod (l : Launch) (D : va_G) (d z : ClassId) (h : Nat) (a : Nat → Nat) (S : g_S) (p0 p1 : Int32) : g_mi l D d z (m_w h a d z) yX1_linePeriod cX1_linePeriod 3 .int 2 43 [.ref h, .int p0, .int p1] S (m_lnR S 8 (-8) p0 p1) (S) := by
  refine g_enti (own := RX1) (by decide) rfl (Nat.le_of_ble_eq_true rfl) ?_
  intro p e s m args below meth c A ls K B hl
  have hx := K.1
  have hb := K.2.1
  have hl : lv_has ls 3 [(0, .ref h), (1, .int p0), (2, .int p1)] := hl
  refine lv_aload_n hx hb dX1_linePeriod_0 rfl (lv_at hl 0 rfl) ?_
  refine lv_iload_n hx hb dX1_linePeriod_1 rfl (lv_at hl 1 rfl) ?_
  refine lv_iload_n hx hb dX1_linePeriod_2 rfl (lv_at hl 2 rfl) ?_
  refine g_calli (av := [.int p0, .int p1]) (rest := []) K B (mm_noLine l D d z h a S p0 p1) mv_noLine md_noLine ⟨Nat.le_of_ble_eq_true rfl, Nat.le_of_ble_eq_true rfl⟩ (ci := 1) rfl rfl rfl hl.1 rfl (Nat.le_of_ble_eq_true rfl) dX1_linePeriod_3 (fun H locs B => ?_)
  refine lv_if_eq (tgt := 14) hx hb dX1_linePeriod_6 (by decide) (fun c6 => ?_) (fun c6 => ?_)
  · obtain ⟨ac, bk, hac, hbk, rfl, rfl⟩ := f_noL_in c6
    refine lv_aload_n hx hb dX1_linePeriod_14 rfl (lv_at hl 0 rfl) ?_
    refine m_get8 K B dX1_linePeriod_15 ?_
    refine lv_iload_n hx hb dX1_linePeriod_18 rfl (lv_at hl 1 rfl) ?_
    refine lv_bipush (v := 8) hx hb dX1_linePeriod_19 (by decide) ?_
    refine lv_imul hx hb dX1_linePeriod_21 ?_
    refine tp (n_m8 _) ?_
    refine lv_iload_n hx hb dX1_linePeriod_22 rfl (lv_at hl 2 rfl) ?_
    refine lv_iadd hx hb dX1_linePeriod_23 ?_
    refine tp (nI_add _ _) ?_
    refine m_ald8 K B (by omega) dX1_linePeriod_24 ?_
    exact g_iret K B (by rw [m_lnR, if_pos c6, f_cl (n := ac) (by omega), f_cl (n := bk) (by omega)]) (rfl) dX1_linePeriod_25
  · refine lv_bipush (v := -8) hx hb dX1_linePeriod_9 (by decide) ?_
    refine lv_goto (tgt := 25) hx hb dX1_linePeriod_11 (by decide) ?_
    exact g_iret K B (by rw [m_lnR, if_neg c6]) (rfl) dX1_linePeriod_25
theorem m_close_loop (K : g_K p s m args meth c D d z A RX1 cX1_close 4 (some .int)) {R : Room} {S : g_S} {cl : Nat} (hc : cl < 6) {Q : State → Prop} (kk : ∀ (H : Heap) (locs : List Loc) (ls : Array Slot), g_B D A (m_w h a d z) s H locs (m_copy S cl 6) → lv_has ls 4 [(0, .ref h), (1, .int (nI cl))] → W p l e R s m args below meth c H locs 0 0 Q (F0 m 48 ls [])) : ∀ n k : Nat, k ≤ 6 → 7 ≤ k + n → ∀ (H : Heap) (locs : List Loc) (ls : Array Slot), g_B D A (m_w h a d z) s H locs (m_copy S cl k) → lv_has ls 4 [(0, .ref h), (1, .int (nI cl)), (2, .int (nI k))] → W p l e R s m args below meth c H locs 0 0 Q (F0 m 19 ls []) := by
  have hx := K.1
  have hb := K.2.1
  intro n
  induction n with
  | zero =>
    intro k h1 h2
    exact absurd h2 (by omega)
  | succ n ih =>
    intro k hk hkn H locs ls B hl
    refine lv_iload_n hx hb dX1_close_19 rfl (lv_at hl 2 rfl) ?_
    refine lv_bipush (v := 6) hx hb dX1_close_20 (by decide) ?_
    refine lv_icmp_ge (tgt := 48) hx hb dX1_close_22 (by decide) (fun c22 => ?_) (fun c22 => ?_)
    · have c22 : 6 ≤ k := (nI_leI (a := 6) (b := k) (by omega) (by omega)).mp c22
      obtain rfl : k = 6 := by omega
      exact kk _ _ _ B (lv_sub hl [0, 1] rfl)
    · have c22 : ¬ 6 ≤ k := fun h9 => c22 ((nI_leI (a := 6) (b := k) (by omega) (by omega)).mpr h9)
      refine lv_aload_n hx hb dX1_close_25 rfl (lv_at hl 0 rfl) ?_
      refine m_get2 K B dX1_close_26 ?_
      refine lv_iload_n hx hb dX1_close_29 rfl (lv_at hl 1 rfl) ?_
      refine lv_bipush (v := 6) hx hb dX1_close_30 (by decide) ?_
      refine lv_imul hx hb dX1_close_32 ?_
      refine tp (n_m6 _) ?_
      refine lv_iload_n hx hb dX1_close_33 rfl (lv_at hl 2 rfl) ?_
      refine lv_iadd hx hb dX1_close_34 ?_
      refine tp (nI_add _ _) ?_
      refine lv_aload_n hx hb dX1_close_35 rfl (lv_at hl 0 rfl) ?_
      refine m_get1 K B dX1_close_36 ?_
      refine lv_iload_n hx hb dX1_close_39 rfl (lv_at hl 2 rfl) ?_
      refine m_ald1 K B (by omega) dX1_close_40 ?_
      refine m_ast2 K B (by omega) dX1_close_41 (fun H locs B => ?_)
      refine lv_iinc (v := nI (k + 1)) (lv' := [(2, .int (nI (k + 1))), (0, .ref h), (1, .int (nI cl))]) hx hb dX1_close_42 hl (k := 2) rfl (n_i1 _) (by decide) rfl (fun ls hl => ?_)
      refine lv_goto (tgt := 19) hx hb dX1_close_45 (by decide) ?_
      exact ih (k + 1) (by omega) (by omega) _ _ ls B (lv_sub hl [1, 2, 0] rfl)
theorem mm_close (l : Launch) (D : va_G) (d z : ClassId) (h : Nat) (a : Nat → Nat) (S : g_S) {cl : Nat} (hcl : S 3 0 = nI cl) (hc6 : cl ≤ 6) : g_mi l D d z (m_w h a d z) yX1_close cX1_close 4 .int 3 75 [.ref h] S (f_clR cl) (m_clS S cl) := by
  refine g_enti (own := RX1) (by decide) rfl (Nat.le_of_ble_eq_true rfl) ?_
  intro p e s m args below meth c A ls K B hl
  have hx := K.1
  have hb := K.2.1
  have hl : lv_has ls 4 [(0, .ref h)] := hl
  refine lv_aload_n hx hb dX1_close_0 rfl (lv_at hl 0 rfl) ?_
  refine m_get3 K B dX1_close_1 ?_
  refine tp (y := nI cl) (hcl) ?_
  refine lv_bipush (v := 6) hx hb dX1_close_4 (by decide) ?_
  refine lv_icmp_lt (tgt := 12) hx hb dX1_close_6 (by decide) (fun c6 => ?_) (fun c6 => ?_)
  · have c6 : cl < 6 := (nI_ltI (a := cl) (b := 6) (by omega) (by omega)).mp c6
    refine lv_aload_n hx hb dX1_close_12 rfl (lv_at hl 0 rfl) ?_
    refine m_get3 K B dX1_close_13 ?_
    refine tp (y := nI cl) (hcl) ?_
    refine lv_istore_n (lv' := [(1, .int (nI cl)), (0, .ref h)]) hx hb dX1_close_16 rfl hl (by decide) rfl (fun ls hl => ?_)
    refine lv_iconst (v := 0) hx hb dX1_close_17 (by decide) ?_
    refine tp (y := nI 0) (rfl) ?_
    refine lv_istore_n (lv' := [(2, .int (nI 0)), (1, .int (nI cl)), (0, .ref h)]) hx hb dX1_close_18 rfl hl (by decide) rfl (fun ls hl => ?_)
    refine m_close_loop K c6 (fun H locs ls B hl => ?_) 7 0 (by omega) (by omega) _ _ ls B (lv_sub hl [2, 1, 0] rfl)
    refine lv_aload_n hx hb dX1_close_48 rfl (lv_at hl 0 rfl) ?_
    refine lv_iload_n hx hb dX1_close_49 rfl (lv_at hl 1 rfl) ?_
    refine lv_iconst (v := 1) hx hb dX1_close_50 (by decide) ?_
    refine lv_iadd hx hb dX1_close_51 ?_
    refine tp (n_a1 _) ?_
    refine m_put3 K B dX1_close_52 (fun H locs B => ?_)
    refine lv_iconst (v := 0) hx hb dX1_close_55 (by decide) ?_
    refine tp (y := nI 0) (rfl) ?_
    refine lv_istore_n (lv' := [(2, .int (nI 0)), (0, .ref h), (1, .int (nI cl))]) hx hb dX1_close_56 rfl hl (by decide) rfl (fun ls hl => ?_)
    refine lv_iload_n hx hb dX1_close_57 rfl (lv_at hl 0 rfl) ?_
    refine lv_iconst (v := 2) hx hb dX1_close_58 (by decide) ?_
    refine lv_icmp_ge (tgt := 94) hx hb dX1_close_59 (by decide) (fun c59 => ?_) (fun c59 => ?_)
    · have c59 : 2 ≤ 0 := (nI_leI (a := 2) (b := 0) (by omega) (by omega)).mp c59
      exfalso; omega
    · have c59 : ¬ 2 ≤ 0 := fun h9 => c59 ((nI_leI (a := 2) (b := 0) (by omega) (by omega)).mpr h9)
      refine lv_aload_n hx hb dX1_close_62 rfl (lv_at hl 1 rfl) ?_
      refine lv_iload_n hx hb dX1_close_63 rfl (lv_at hl 0 rfl) ?_
      refine lv_iload_n hx hb dX1_close_64 rfl (lv_at hl 2 rfl) ?_
      refine g_calli (av := [.int (nI 0), .int (nI cl)]) (rest := []) K B (mm_amount l D d z h a (up2 (m_copy S cl 6) 3 0 (nI (cl + 1))) (nI 0) (nI cl)) mv_amount md_amount ⟨Nat.le_of_ble_eq_true rfl, Nat.le_of_ble_eq_true rfl⟩ (ci := 1) rfl rfl rfl hl.1 rfl (Nat.le_of_ble_eq_true rfl) dX1_close_65 (fun H locs B => ?_)
      refine tp (y := m_amt (up2 (m_copy S cl 6) 3 0 (nI (cl + 1))) 0 cl) (m_amR_in _ (by omega) c6) ?_
      refine lv_istore_n (lv' := [(3, .int (m_amt (up2 (m_copy S cl 6) 3 0 (nI (cl + 1))) 0 cl)), (2, .int (nI 0)), (0, .ref h), (1, .int (nI cl))]) hx hb dX1_close_68 rfl hl (by decide) rfl (fun ls hl => ?_)
      refine lv_aload_n hx hb dX1_close_69 rfl (lv_at hl 2 rfl) ?_
      refine m_get4 K B dX1_close_70 ?_
      refine lv_iload_n hx hb dX1_close_73 rfl (lv_at hl 1 rfl) ?_
      refine lv_bipush (v := 6) hx hb dX1_close_74 (by decide) ?_
      refine lv_imul hx hb dX1_close_76 ?_
      refine tp (n_m6 _) ?_
      refine lv_iload_n hx hb dX1_close_77 rfl (lv_at hl 3 rfl) ?_
      refine lv_iadd hx hb dX1_close_78 ?_
      refine tp (nI_add _ _) ?_
      refine lv_iload_n hx hb dX1_close_79 rfl (lv_at hl 0 rfl) ?_
      refine m_ast4 K B (by omega) dX1_close_80 (fun H locs B => ?_)
      refine lv_aload_n hx hb dX1_close_81 rfl (lv_at hl 2 rfl) ?_
      refine lv_iload_n hx hb dX1_close_82 rfl (lv_at hl 1 rfl) ?_
      refine lv_iload_n hx hb dX1_close_83 rfl (lv_at hl 3 rfl) ?_
      refine lv_iload_n hx hb dX1_close_84 rfl (lv_at hl 0 rfl) ?_
      refine g_callv (av := [.int (nI 0), .int (nI cl), .int (m_amt (up2 (m_copy S cl 6) 3 0 (nI (cl + 1))) 0 cl)]) (rest := []) K B (mm_line l D d z h a (up2 (up2 (m_copy S cl 6) 3 0 (nI (cl + 1))) 4 (0 * 6 + cl) (m_amt (up2 (m_copy S cl 6) 3 0 (nI (cl + 1))) 0 cl)) (ac := 0) (by omega) (m_amt (up2 (m_copy S cl 6) 3 0 (nI (cl + 1))) 0 cl)) mv_line md_line ⟨Nat.le_of_ble_eq_true rfl, Nat.le_of_ble_eq_true rfl⟩ (ci := 1) rfl rfl rfl hl.1 rfl (Nat.le_of_ble_eq_true rfl) dX1_close_85 (fun H locs B => ?_)
      refine lv_iinc (v := nI 1) (lv' := [(2, .int (nI 1)), (3, .int (m_amt (up2 (m_copy S cl 6) 3 0 (nI (cl + 1))) 0 cl)), (0, .ref h), (1, .int (nI cl))]) hx hb dX1_close_88 hl (k := 1) rfl (n_i1 0) (by decide) rfl (fun ls hl => ?_)
      refine lv_goto (tgt := 57) hx hb dX1_close_91 (by decide) ?_
      refine lv_iload_n hx hb dX1_close_57 rfl (lv_at hl 0 rfl) ?_
      refine lv_iconst (v := 2) hx hb dX1_close_58 (by decide) ?_
      refine lv_icmp_ge (tgt := 94) hx hb dX1_close_59 (by decide) (fun c59 => ?_) (fun c59 => ?_)
      · have c59 : 2 ≤ 1 := (nI_leI (a := 2) (b := 1) (by omega) (by omega)).mp c59
        exfalso; omega
      · have c59 : ¬ 2 ≤ 1 := fun h9 => c59 ((nI_leI (a := 2) (b := 1) (by omega) (by omega)).mpr h9)
        refine lv_aload_n hx hb dX1_close_62 rfl (lv_at hl 2 rfl) ?_
        refine lv_iload_n hx hb dX1_close_63 rfl (lv_at hl 0 rfl) ?_
        refine lv_iload_n hx hb dX1_close_64 rfl (lv_at hl 3 rfl) ?_
        refine g_calli (av := [.int (nI 1), .int (nI cl)]) (rest := []) K B (mm_amount l D d z h a (m_bill (up2 (m_copy S cl 6) 3 0 (nI (cl + 1))) 0 cl) (nI 1) (nI cl)) mv_amount md_amount ⟨Nat.le_of_ble_eq_true rfl, Nat.le_of_ble_eq_true rfl⟩ (ci := 1) rfl rfl rfl hl.1 rfl (Nat.le_of_ble_eq_true rfl) dX1_close_65 (fun H locs B => ?_)
        refine tp (y := m_amt (m_bill (up2 (m_copy S cl 6) 3 0 (nI (cl + 1))) 0 cl) 1 cl) (m_amR_in _ (by omega) c6) ?_
        refine lv_istore_n (lv' := [(3, .int (m_amt (m_bill (up2 (m_copy S cl 6) 3 0 (nI (cl + 1))) 0 cl) 1 cl)), (2, .int (nI 1)), (0, .ref h), (1, .int (nI cl))]) hx hb dX1_close_68 rfl hl (by decide) rfl (fun ls hl => ?_)
        refine lv_aload_n hx hb dX1_close_69 rfl (lv_at hl 2 rfl) ?_
        refine m_get4 K B dX1_close_70 ?_
        refine lv_iload_n hx hb dX1_close_73 rfl (lv_at hl 1 rfl) ?_
        refine lv_bipush (v := 6) hx hb dX1_close_74 (by decide) ?_
        refine lv_imul hx hb dX1_close_76 ?_
        refine tp (n_m6 _) ?_
        refine lv_iload_n hx hb dX1_close_77 rfl (lv_at hl 3 rfl) ?_
        refine lv_iadd hx hb dX1_close_78 ?_
        refine tp (nI_add _ _) ?_
        refine lv_iload_n hx hb dX1_close_79 rfl (lv_at hl 0 rfl) ?_
        refine m_ast4 K B (by omega) dX1_close_80 (fun H locs B => ?_)
        refine lv_aload_n hx hb dX1_close_81 rfl (lv_at hl 2 rfl) ?_
        refine lv_iload_n hx hb dX1_close_82 rfl (lv_at hl 1 rfl) ?_
        refine lv_iload_n hx hb dX1_close_83 rfl (lv_at hl 3 rfl) ?_
        refine lv_iload_n hx hb dX1_close_84 rfl (lv_at hl 0 rfl) ?_
        refine g_callv (av := [.int (nI 1), .int (nI cl), .int (m_amt (m_bill (up2 (m_copy S cl 6) 3 0 (nI (cl + 1))) 0 cl) 1 cl)]) (rest := []) K B (mm_line l D d z h a (up2 (m_bill (up2 (m_copy S cl 6) 3 0 (nI (cl + 1))) 0 cl) 4 (1 * 6 + cl) (m_amt (m_bill (up2 (m_copy S cl 6) 3 0 (nI (cl + 1))) 0 cl) 1 cl)) (ac := 1) (by omega) (m_amt (m_bill (up2 (m_copy S cl 6) 3 0 (nI (cl + 1))) 0 cl) 1 cl)) mv_line md_line ⟨Nat.le_of_ble_eq_true rfl, Nat.le_of_ble_eq_true rfl⟩ (ci := 1) rfl rfl rfl hl.1 rfl (Nat.le_of_ble_eq_true rfl) dX1_close_85 (fun H locs B => ?_)
        refine lv_iinc (v := nI 2) (lv' := [(2, .int (nI 2)), (3, .int (m_amt (m_bill (up2 (m_copy S cl 6) 3 0 (nI (cl + 1))) 0 cl) 1 cl)), (0, .ref h), (1, .int (nI cl))]) hx hb dX1_close_88 hl (k := 1) rfl (n_i1 1) (by decide) rfl (fun ls hl => ?_)
        refine lv_goto (tgt := 57) hx hb dX1_close_91 (by decide) ?_
        refine lv_iload_n hx hb dX1_close_57 rfl (lv_at hl 0 rfl) ?_
        refine lv_iconst (v := 2) hx hb dX1_close_58 (by decide) ?_
        refine lv_icmp_ge (tgt := 94) hx hb dX1_close_59 (by decide) (fun c59 => ?_) (fun c59 => ?_)
        · have c59 : 2 ≤ 2 := (nI_leI (a := 2) (b := 2) (by omega) (by omega)).mp c59
          refine lv_iload_n hx hb dX1_close_94 rfl (lv_at hl 3 rfl) ?_
          exact g_iret K B (by rw [f_clR, if_pos c6]) (by rw [m_clS, if_pos c6] <;> rfl) dX1_close_95
        · have c59 : ¬ 2 ≤ 2 := fun h9 => c59 ((nI_leI (a := 2) (b := 2) (by omega) (by omega)).mpr h9)
          exfalso; omega
  · have c6 : ¬ cl < 6 := fun h9 => c6 ((nI_ltI (a := cl) (b := 6) (by omega) (by omega)).mpr h9)
    refine lv_bipush (v := -6) hx hb dX1_close_9 (by decide) ?_
    exact g_iret K B (by rw [f_clR, if_neg c6]) (by rw [m_clS, if_neg c6]) dX1_close_11
end MW
end
section
set_option maxRecDepth 100000
set_option maxHeartbeats 4000000
def g_Z : g_S := fun _ _ => 0
def m_fill : Nat → g_S
  | 0 => g_Z
  | n + 1 => up2 (m_fill n) 0 n (-1)
section NEW
variable {p : Program} {l : Launch} {e : Env} {R : Room} {s : State} {m : MethodId} {args : Array Value} {below : List Frame} {meth : Method} {c : Code} {H H0 : Heap} {locs : List Loc} {cells slots : Nat} {Q : State → Prop}
variable {D : va_G} {d z : ClassId} {A : Nat → Prop} {cc : ByteArray} {pc : Nat} {ls : Array Slot} {rest : List Value} {ws : va_W}
theorem g_newi (hx : p.tables.exec = Jvm.exec) (hb : c.code = cc) (harr : (Cond.arrayClass .int).before args s = true) (hK : va_K D vwCl (g_T d z) s) (hP : va_P D vwCl ws H) (hD : va_D A ws) (hS : va_S A H0 H locs) (hA : ∀ q, H0.size ≤ q → A q) {n : Int32} (N : Nat) (hn : ¬ n < 0) (hN : n.toNatClampNeg = N) (hbytes : N * componentBytes .int ≤ 536870912) (hcells : cells + 1 ≤ R.cells) (hslots : slots + N ≤ R.slots) (hdg : decode cc pc = .ok (.newarray .int, 2))
    (kk : ∀ (q : Nat) (H1 : Heap), va_P D vwCl (ws ++ [(q, .inl (d, N, .inl (fun _ => 0)))]) H1 → va_D A (ws ++ [(q, .inl (d, N, .inl (fun _ => 0)))]) → va_S A H0 H1 locs → W p l e R s m args below meth c H1 locs (cells + 1) (slots + N) Q (F0 m (pc + 2) ls (.ref q :: rest))) : W p l e R s m args below meth c H locs cells slots Q (F0 m pc ls (.int n :: rest)) := by
  refine va_newa (a0 := (N, .inl (fun _ => 0))) hx hb (atype := .int) harr (ty := .int) rfl hK hP hD hS hA (fun _ => rfl) hn hN hbytes hcells hslots hdg (fun q cA H1 hK1 hP1 hD1 hS1 => ?_)
  have e1 : s.vm.findClass ("[" ++ FieldType.int.toString) = some cA := (hK1.2 2 _ rfl).2
  have e2 : s.vm.findClass ("[" ++ FieldType.int.toString) = some d := (hK1.2 0 _ rfl).2
  have e : cA = d := Option.some.inj (e1.symm.trans e2)
  subst e
  exact kk q H1 hP1 hD1 hS1
theorem g_newz (hx : p.tables.exec = Jvm.exec) (hb : c.code = cc) (harr : (Cond.arrayClass .boolean).before args s = true) (hK : va_K D vwCl (g_T d z) s) (hP : va_P D vwCl ws H) (hD : va_D A ws) (hS : va_S A H0 H locs) (hA : ∀ q, H0.size ≤ q → A q) {n : Int32} (N : Nat) (hn : ¬ n < 0) (hN : n.toNatClampNeg = N) (hbytes : N * componentBytes .boolean ≤ 536870912) (hcells : cells + 1 ≤ R.cells) (hslots : slots + N ≤ R.slots) (hdg : decode cc pc = .ok (.newarray .boolean, 2))
    (kk : ∀ (q : Nat) (H1 : Heap), va_P D vwCl (ws ++ [(q, .inl (z, N, .inl (fun _ => 0)))]) H1 → va_D A (ws ++ [(q, .inl (z, N, .inl (fun _ => 0)))]) → va_S A H0 H1 locs → W p l e R s m args below meth c H1 locs (cells + 1) (slots + N) Q (F0 m (pc + 2) ls (.ref q :: rest))) : W p l e R s m args below meth c H locs cells slots Q (F0 m pc ls (.int n :: rest)) := by
  refine va_newa (a0 := (N, .inl (fun _ => 0))) hx hb (atype := .boolean) harr (ty := .boolean) rfl hK hP hD hS hA (fun _ => rfl) hn hN hbytes hcells hslots hdg (fun q cA H1 hK1 hP1 hD1 hS1 => ?_)
  have e1 : s.vm.findClass ("[" ++ FieldType.boolean.toString) = some cA := (hK1.2 2 _ rfl).2
  have e2 : s.vm.findClass ("[" ++ FieldType.boolean.toString) = some z := (hK1.2 1 _ rfl).2
  have e : cA = z := Option.some.inj (e1.symm.trans e2)
  subst e
  exact kk q H1 hP1 hD1 hS1
end NEW
def x_n (h : Nat) : va_W := [(h, .inr (0, [.null, .null, .int 0, .null, .null, .null, .null, .null, .null, .null, .null, .null, .null, .null, .null, .null, .null]))]
theorem xm_init (l : Launch) (D : va_G) (d z : ClassId) (h sz : Nat) : Met l yX0_init (ws_ yX0_init cX0_init 1 none) ({ frames := 1, cells := 16, slots := 450, locals := 12 }) (va_Pc [.ref h] (fun U => U.heap.size = sz ∧ va_P D vwCl (x_n h) U.heap ∧ va_K D vwCl (g_T d z) U ∧ va_D (fun _ => True) (x_n h))) (va_Qv (fun _ : Nat → Nat => True) (fun (a : Nat → Nat) (t : State) => g_E D d z (x_w h a d z) (va_A (x_n h) sz) g_Z t) (va_A (x_n h) sz)) 16 450 (va_A (x_n h) sz) := by
  refine Met.ofW (cc := cX0_init) (maxL := 1) (ret := none) (by decide) rfl ?_
  intro p e s m args below meth c s₁ B hml hv
  obtain ⟨rfl, hsz, hP, hK, hD0⟩ := hv
  have hx := B.exec
  have hb := B.bytes
  have hr := B.returns
  have hts := atoms_spec (ws := ws_ yX0_init cX0_init 1 none) B.pre
  have hts : ∀ w ∈ lw_all, w.before _ s = true := fun w h => hts w (List.mem_cons_of_mem _ h)
  have hown : s.vm.findClass RX0 = some m.cls := findClass_of_methodNamed B.named
  have hlocks := B.notSynchronized
  have hin : meth.name = "<init>" := (name_of_methodNamed B.named B.method).1
  subst hsz
  have hD := hD0.self (sz := s.heap.size)
  generalize hAe : va_A (x_n h) s.heap.size = A at hD ⊢
  have hA : ∀ q : Nat, s.heap.size ≤ q → A q := fun q h => by rw [← hAe]; exact Or.inr h
  have hS : va_S A s.heap s.heap [] := va_S.rf
  have hl := lv_entry ([.ref h]) (n := 1) (Nat.le_of_ble_eq_true rfl)
  rw [lg_entry_eq]
  generalize (lg_sl ([.ref h]) ++ List.replicate (1 - (lg_sl ([.ref h])).length) Slot.unset).toArray = ls at hl ⊢
  have hl : lv_has ls 1 [(0, .ref h)] := hl
  refine lv_aload_n hx hb dX0_init_0 rfl (lv_at hl 0 rfl) ?_
  refine W.objInit hx hb hown (hts _ q24) (hts _ q25) (hts _ q26) rfl (by rw [hml]; exact hl.1) rfl dX0_init_1 (Nat.le_of_ble_eq_true rfl) (Nat.le_of_ble_eq_true rfl) ?_
  refine W.eq (g2 := F0 m 4 ls []) rfl ?_
  refine lv_aload_n hx hb dX0_init_4 rfl (lv_at hl 0 rfl) ?_
  refine lv_bipush (v := 6) hx hb dX0_init_5 (by decide) ?_
  refine g_newi hx hb (hts _ q79) hK hP hD hS hA 6 (by decide) (by decide) (by decide) (Nat.le_of_ble_eq_true rfl) (Nat.le_of_ble_eq_true rfl) dX0_init_7 (fun q0_ H hP hD hS => ?_)
  have hP : va_P D vwCl [(h, .inr (0, [.null, .null, .int 0, .null, .null, .null, .null, .null, .null, .null, .null, .null, .null, .null, .null, .null, .null])), (q0_, .inl (d, 6, .inl (fun _ => 0)))] H := hP
  have hD : va_D A [(h, .inr (0, [.null, .null, .int 0, .null, .null, .null, .null, .null, .null, .null, .null, .null, .null, .null, .null, .null, .null])), (q0_, .inl (d, 6, .inl (fun _ => 0)))] := hD
  refine W.widen (k := 1) (n := 6) (Nat.le_of_ble_eq_true rfl) (Nat.le_of_ble_eq_true rfl) ?_
  refine va_putF (D := D) (ci := 0) (v := .ref q0_) (ty := .array .int) (C := RX0) (T := TX0) (N := 17) hx hb hts in_X0 tyX0 tyX0_ok nmX0 hown hK hP hD hS 0 rfl rfl 0 (by decide) (hts _ q27) (fun _ h9 => h9) rfl hin rfl (by decide +kernel) rfl rfl (Nat.le_of_ble_eq_true rfl) dX0_init_9 (fun H locs hP hD hS => ?_)
  have hP : va_P D vwCl [(h, .inr (0, [.ref q0_, .null, .int 0, .null, .null, .null, .null, .null, .null, .null, .null, .null, .null, .null, .null, .null, .null])), (q0_, .inl (d, 6, .inl (fun _ => 0)))] H := hP
  have hD : va_D A [(h, .inr (0, [.ref q0_, .null, .int 0, .null, .null, .null, .null, .null, .null, .null, .null, .null, .null, .null, .null, .null, .null])), (q0_, .inl (d, 6, .inl (fun _ => 0)))] := hD
  refine lv_aload_n hx hb dX0_init_12 rfl (lv_at hl 0 rfl) ?_
  refine lv_bipush (v := 36) hx hb dX0_init_13 (by decide) ?_
  refine g_newi hx hb (hts _ q79) hK hP hD hS hA 36 (by decide) (by decide) (by decide) (Nat.le_of_ble_eq_true rfl) (Nat.le_of_ble_eq_true rfl) dX0_init_15 (fun q1_ H hP hD hS => ?_)
  have hP : va_P D vwCl [(h, .inr (0, [.ref q0_, .null, .int 0, .null, .null, .null, .null, .null, .null, .null, .null, .null, .null, .null, .null, .null, .null])), (q0_, .inl (d, 6, .inl (fun _ => 0))), (q1_, .inl (d, 36, .inl (fun _ => 0)))] H := hP
  have hD : va_D A [(h, .inr (0, [.ref q0_, .null, .int 0, .null, .null, .null, .null, .null, .null, .null, .null, .null, .null, .null, .null, .null, .null])), (q0_, .inl (d, 6, .inl (fun _ => 0))), (q1_, .inl (d, 36, .inl (fun _ => 0)))] := hD
  refine W.widen (k := 2) (n := 42) (Nat.le_of_ble_eq_true rfl) (Nat.le_of_ble_eq_true rfl) ?_
  refine va_putF (D := D) (ci := 0) (v := .ref q1_) (ty := .array .int) (C := RX0) (T := TX0) (N := 17) hx hb hts in_X0 tyX0 tyX0_ok nmX0 hown hK hP hD hS 0 rfl rfl 1 (by decide) (hts _ q28) (fun _ h9 => h9) rfl hin rfl (by decide +kernel) rfl rfl (Nat.le_of_ble_eq_true rfl) dX0_init_17 (fun H locs hP hD hS => ?_)
  have hP : va_P D vwCl [(h, .inr (0, [.ref q0_, .ref q1_, .int 0, .null, .null, .null, .null, .null, .null, .null, .null, .null, .null, .null, .null, .null, .null])), (q0_, .inl (d, 6, .inl (fun _ => 0))), (q1_, .inl (d, 36, .inl (fun _ => 0)))] H := hP
  have hD : va_D A [(h, .inr (0, [.ref q0_, .ref q1_, .int 0, .null, .null, .null, .null, .null, .null, .null, .null, .null, .null, .null, .null, .null, .null])), (q0_, .inl (d, 6, .inl (fun _ => 0))), (q1_, .inl (d, 36, .inl (fun _ => 0)))] := hD
  refine lv_aload_n hx hb dX0_init_20 rfl (lv_at hl 0 rfl) ?_
  refine lv_bipush (v := 96) hx hb dX0_init_21 (by decide) ?_
  refine g_newz hx hb (hts _ q80) hK hP hD hS hA 96 (by decide) (by decide) (by decide) (Nat.le_of_ble_eq_true rfl) (Nat.le_of_ble_eq_true rfl) dX0_init_23 (fun q3_ H hP hD hS => ?_)
  have hP : va_P D vwCl [(h, .inr (0, [.ref q0_, .ref q1_, .int 0, .null, .null, .null, .null, .null, .null, .null, .null, .null, .null, .null, .null, .null, .null])), (q0_, .inl (d, 6, .inl (fun _ => 0))), (q1_, .inl (d, 36, .inl (fun _ => 0))), (q3_, .inl (z, 96, .inl (fun _ => 0)))] H := hP
  have hD : va_D A [(h, .inr (0, [.ref q0_, .ref q1_, .int 0, .null, .null, .null, .null, .null, .null, .null, .null, .null, .null, .null, .null, .null, .null])), (q0_, .inl (d, 6, .inl (fun _ => 0))), (q1_, .inl (d, 36, .inl (fun _ => 0))), (q3_, .inl (z, 96, .inl (fun _ => 0)))] := hD
  refine W.widen (k := 3) (n := 138) (Nat.le_of_ble_eq_true rfl) (Nat.le_of_ble_eq_true rfl) ?_
  refine va_putF (D := D) (ci := 0) (v := .ref q3_) (ty := .array .boolean) (C := RX0) (T := TX0) (N := 17) hx hb hts in_X0 tyX0 tyX0_ok nmX0 hown hK hP hD hS 0 rfl rfl 3 (by decide) (hts _ q30) (fun _ h9 => h9) rfl hin rfl (by decide +kernel) rfl rfl (Nat.le_of_ble_eq_true rfl) dX0_init_25 (fun H locs hP hD hS => ?_)
  have hP : va_P D vwCl [(h, .inr (0, [.ref q0_, .ref q1_, .int 0, .ref q3_, .null, .null, .null, .null, .null, .null, .null, .null, .null, .null, .null, .null, .null])), (q0_, .inl (d, 6, .inl (fun _ => 0))), (q1_, .inl (d, 36, .inl (fun _ => 0))), (q3_, .inl (z, 96, .inl (fun _ => 0)))] H := hP
  have hD : va_D A [(h, .inr (0, [.ref q0_, .ref q1_, .int 0, .ref q3_, .null, .null, .null, .null, .null, .null, .null, .null, .null, .null, .null, .null, .null])), (q0_, .inl (d, 6, .inl (fun _ => 0))), (q1_, .inl (d, 36, .inl (fun _ => 0))), (q3_, .inl (z, 96, .inl (fun _ => 0)))] := hD
  refine lv_aload_n hx hb dX0_init_28 rfl (lv_at hl 0 rfl) ?_
  refine lv_bipush (v := 96) hx hb dX0_init_29 (by decide) ?_
  refine g_newi hx hb (hts _ q79) hK hP hD hS hA 96 (by decide) (by decide) (by decide) (Nat.le_of_ble_eq_true rfl) (Nat.le_of_ble_eq_true rfl) dX0_init_31 (fun q4_ H hP hD hS => ?_)
  have hP : va_P D vwCl [(h, .inr (0, [.ref q0_, .ref q1_, .int 0, .ref q3_, .null, .null, .null, .null, .null, .null, .null, .null, .null, .null, .null, .null, .null])), (q0_, .inl (d, 6, .inl (fun _ => 0))), (q1_, .inl (d, 36, .inl (fun _ => 0))), (q3_, .inl (z, 96, .inl (fun _ => 0))), (q4_, .inl (d, 96, .inl (fun _ => 0)))] H := hP
  have hD : va_D A [(h, .inr (0, [.ref q0_, .ref q1_, .int 0, .ref q3_, .null, .null, .null, .null, .null, .null, .null, .null, .null, .null, .null, .null, .null])), (q0_, .inl (d, 6, .inl (fun _ => 0))), (q1_, .inl (d, 36, .inl (fun _ => 0))), (q3_, .inl (z, 96, .inl (fun _ => 0))), (q4_, .inl (d, 96, .inl (fun _ => 0)))] := hD
  refine W.widen (k := 4) (n := 234) (Nat.le_of_ble_eq_true rfl) (Nat.le_of_ble_eq_true rfl) ?_
  refine va_putF (D := D) (ci := 0) (v := .ref q4_) (ty := .array .int) (C := RX0) (T := TX0) (N := 17) hx hb hts in_X0 tyX0 tyX0_ok nmX0 hown hK hP hD hS 0 rfl rfl 4 (by decide) (hts _ q31) (fun _ h9 => h9) rfl hin rfl (by decide +kernel) rfl rfl (Nat.le_of_ble_eq_true rfl) dX0_init_33 (fun H locs hP hD hS => ?_)
  have hP : va_P D vwCl [(h, .inr (0, [.ref q0_, .ref q1_, .int 0, .ref q3_, .ref q4_, .null, .null, .null, .null, .null, .null, .null, .null, .null, .null, .null, .null])), (q0_, .inl (d, 6, .inl (fun _ => 0))), (q1_, .inl (d, 36, .inl (fun _ => 0))), (q3_, .inl (z, 96, .inl (fun _ => 0))), (q4_, .inl (d, 96, .inl (fun _ => 0)))] H := hP
  have hD : va_D A [(h, .inr (0, [.ref q0_, .ref q1_, .int 0, .ref q3_, .ref q4_, .null, .null, .null, .null, .null, .null, .null, .null, .null, .null, .null, .null])), (q0_, .inl (d, 6, .inl (fun _ => 0))), (q1_, .inl (d, 36, .inl (fun _ => 0))), (q3_, .inl (z, 96, .inl (fun _ => 0))), (q4_, .inl (d, 96, .inl (fun _ => 0)))] := hD
  refine lv_aload_n hx hb dX0_init_36 rfl (lv_at hl 0 rfl) ?_
  refine lv_bipush (v := 96) hx hb dX0_init_37 (by decide) ?_
  refine g_newi hx hb (hts _ q79) hK hP hD hS hA 96 (by decide) (by decide) (by decide) (Nat.le_of_ble_eq_true rfl) (Nat.le_of_ble_eq_true rfl) dX0_init_39 (fun q5_ H hP hD hS => ?_)
  have hP : va_P D vwCl [(h, .inr (0, [.ref q0_, .ref q1_, .int 0, .ref q3_, .ref q4_, .null, .null, .null, .null, .null, .null, .null, .null, .null, .null, .null, .null])), (q0_, .inl (d, 6, .inl (fun _ => 0))), (q1_, .inl (d, 36, .inl (fun _ => 0))), (q3_, .inl (z, 96, .inl (fun _ => 0))), (q4_, .inl (d, 96, .inl (fun _ => 0))), (q5_, .inl (d, 96, .inl (fun _ => 0)))] H := hP
  have hD : va_D A [(h, .inr (0, [.ref q0_, .ref q1_, .int 0, .ref q3_, .ref q4_, .null, .null, .null, .null, .null, .null, .null, .null, .null, .null, .null, .null])), (q0_, .inl (d, 6, .inl (fun _ => 0))), (q1_, .inl (d, 36, .inl (fun _ => 0))), (q3_, .inl (z, 96, .inl (fun _ => 0))), (q4_, .inl (d, 96, .inl (fun _ => 0))), (q5_, .inl (d, 96, .inl (fun _ => 0)))] := hD
  refine W.widen (k := 5) (n := 330) (Nat.le_of_ble_eq_true rfl) (Nat.le_of_ble_eq_true rfl) ?_
  refine va_putF (D := D) (ci := 0) (v := .ref q5_) (ty := .array .int) (C := RX0) (T := TX0) (N := 17) hx hb hts in_X0 tyX0 tyX0_ok nmX0 hown hK hP hD hS 0 rfl rfl 5 (by decide) (hts _ q32) (fun _ h9 => h9) rfl hin rfl (by decide +kernel) rfl rfl (Nat.le_of_ble_eq_true rfl) dX0_init_41 (fun H locs hP hD hS => ?_)
  have hP : va_P D vwCl [(h, .inr (0, [.ref q0_, .ref q1_, .int 0, .ref q3_, .ref q4_, .ref q5_, .null, .null, .null, .null, .null, .null, .null, .null, .null, .null, .null])), (q0_, .inl (d, 6, .inl (fun _ => 0))), (q1_, .inl (d, 36, .inl (fun _ => 0))), (q3_, .inl (z, 96, .inl (fun _ => 0))), (q4_, .inl (d, 96, .inl (fun _ => 0))), (q5_, .inl (d, 96, .inl (fun _ => 0)))] H := hP
  have hD : va_D A [(h, .inr (0, [.ref q0_, .ref q1_, .int 0, .ref q3_, .ref q4_, .ref q5_, .null, .null, .null, .null, .null, .null, .null, .null, .null, .null, .null])), (q0_, .inl (d, 6, .inl (fun _ => 0))), (q1_, .inl (d, 36, .inl (fun _ => 0))), (q3_, .inl (z, 96, .inl (fun _ => 0))), (q4_, .inl (d, 96, .inl (fun _ => 0))), (q5_, .inl (d, 96, .inl (fun _ => 0)))] := hD
  refine lv_aload_n hx hb dX0_init_44 rfl (lv_at hl 0 rfl) ?_
  refine lv_bipush (v := 12) hx hb dX0_init_45 (by decide) ?_
  refine g_newi hx hb (hts _ q79) hK hP hD hS hA 12 (by decide) (by decide) (by decide) (Nat.le_of_ble_eq_true rfl) (Nat.le_of_ble_eq_true rfl) dX0_init_47 (fun q6_ H hP hD hS => ?_)
  have hP : va_P D vwCl [(h, .inr (0, [.ref q0_, .ref q1_, .int 0, .ref q3_, .ref q4_, .ref q5_, .null, .null, .null, .null, .null, .null, .null, .null, .null, .null, .null])), (q0_, .inl (d, 6, .inl (fun _ => 0))), (q1_, .inl (d, 36, .inl (fun _ => 0))), (q3_, .inl (z, 96, .inl (fun _ => 0))), (q4_, .inl (d, 96, .inl (fun _ => 0))), (q5_, .inl (d, 96, .inl (fun _ => 0))), (q6_, .inl (d, 12, .inl (fun _ => 0)))] H := hP
  have hD : va_D A [(h, .inr (0, [.ref q0_, .ref q1_, .int 0, .ref q3_, .ref q4_, .ref q5_, .null, .null, .null, .null, .null, .null, .null, .null, .null, .null, .null])), (q0_, .inl (d, 6, .inl (fun _ => 0))), (q1_, .inl (d, 36, .inl (fun _ => 0))), (q3_, .inl (z, 96, .inl (fun _ => 0))), (q4_, .inl (d, 96, .inl (fun _ => 0))), (q5_, .inl (d, 96, .inl (fun _ => 0))), (q6_, .inl (d, 12, .inl (fun _ => 0)))] := hD
  refine W.widen (k := 6) (n := 342) (Nat.le_of_ble_eq_true rfl) (Nat.le_of_ble_eq_true rfl) ?_
  refine va_putF (D := D) (ci := 0) (v := .ref q6_) (ty := .array .int) (C := RX0) (T := TX0) (N := 17) hx hb hts in_X0 tyX0 tyX0_ok nmX0 hown hK hP hD hS 0 rfl rfl 6 (by decide) (hts _ q33) (fun _ h9 => h9) rfl hin rfl (by decide +kernel) rfl rfl (Nat.le_of_ble_eq_true rfl) dX0_init_49 (fun H locs hP hD hS => ?_)
  have hP : va_P D vwCl [(h, .inr (0, [.ref q0_, .ref q1_, .int 0, .ref q3_, .ref q4_, .ref q5_, .ref q6_, .null, .null, .null, .null, .null, .null, .null, .null, .null, .null])), (q0_, .inl (d, 6, .inl (fun _ => 0))), (q1_, .inl (d, 36, .inl (fun _ => 0))), (q3_, .inl (z, 96, .inl (fun _ => 0))), (q4_, .inl (d, 96, .inl (fun _ => 0))), (q5_, .inl (d, 96, .inl (fun _ => 0))), (q6_, .inl (d, 12, .inl (fun _ => 0)))] H := hP
  have hD : va_D A [(h, .inr (0, [.ref q0_, .ref q1_, .int 0, .ref q3_, .ref q4_, .ref q5_, .ref q6_, .null, .null, .null, .null, .null, .null, .null, .null, .null, .null])), (q0_, .inl (d, 6, .inl (fun _ => 0))), (q1_, .inl (d, 36, .inl (fun _ => 0))), (q3_, .inl (z, 96, .inl (fun _ => 0))), (q4_, .inl (d, 96, .inl (fun _ => 0))), (q5_, .inl (d, 96, .inl (fun _ => 0))), (q6_, .inl (d, 12, .inl (fun _ => 0)))] := hD
  refine lv_aload_n hx hb dX0_init_52 rfl (lv_at hl 0 rfl) ?_
  refine lv_bipush (v := 12) hx hb dX0_init_53 (by decide) ?_
  refine g_newi hx hb (hts _ q79) hK hP hD hS hA 12 (by decide) (by decide) (by decide) (Nat.le_of_ble_eq_true rfl) (Nat.le_of_ble_eq_true rfl) dX0_init_55 (fun q7_ H hP hD hS => ?_)
  have hP : va_P D vwCl [(h, .inr (0, [.ref q0_, .ref q1_, .int 0, .ref q3_, .ref q4_, .ref q5_, .ref q6_, .null, .null, .null, .null, .null, .null, .null, .null, .null, .null])), (q0_, .inl (d, 6, .inl (fun _ => 0))), (q1_, .inl (d, 36, .inl (fun _ => 0))), (q3_, .inl (z, 96, .inl (fun _ => 0))), (q4_, .inl (d, 96, .inl (fun _ => 0))), (q5_, .inl (d, 96, .inl (fun _ => 0))), (q6_, .inl (d, 12, .inl (fun _ => 0))), (q7_, .inl (d, 12, .inl (fun _ => 0)))] H := hP
  have hD : va_D A [(h, .inr (0, [.ref q0_, .ref q1_, .int 0, .ref q3_, .ref q4_, .ref q5_, .ref q6_, .null, .null, .null, .null, .null, .null, .null, .null, .null, .null])), (q0_, .inl (d, 6, .inl (fun _ => 0))), (q1_, .inl (d, 36, .inl (fun _ => 0))), (q3_, .inl (z, 96, .inl (fun _ => 0))), (q4_, .inl (d, 96, .inl (fun _ => 0))), (q5_, .inl (d, 96, .inl (fun _ => 0))), (q6_, .inl (d, 12, .inl (fun _ => 0))), (q7_, .inl (d, 12, .inl (fun _ => 0)))] := hD
  refine W.widen (k := 7) (n := 354) (Nat.le_of_ble_eq_true rfl) (Nat.le_of_ble_eq_true rfl) ?_
  refine va_putF (D := D) (ci := 0) (v := .ref q7_) (ty := .array .int) (C := RX0) (T := TX0) (N := 17) hx hb hts in_X0 tyX0 tyX0_ok nmX0 hown hK hP hD hS 0 rfl rfl 7 (by decide) (hts _ q34) (fun _ h9 => h9) rfl hin rfl (by decide +kernel) rfl rfl (Nat.le_of_ble_eq_true rfl) dX0_init_57 (fun H locs hP hD hS => ?_)
  have hP : va_P D vwCl [(h, .inr (0, [.ref q0_, .ref q1_, .int 0, .ref q3_, .ref q4_, .ref q5_, .ref q6_, .ref q7_, .null, .null, .null, .null, .null, .null, .null, .null, .null])), (q0_, .inl (d, 6, .inl (fun _ => 0))), (q1_, .inl (d, 36, .inl (fun _ => 0))), (q3_, .inl (z, 96, .inl (fun _ => 0))), (q4_, .inl (d, 96, .inl (fun _ => 0))), (q5_, .inl (d, 96, .inl (fun _ => 0))), (q6_, .inl (d, 12, .inl (fun _ => 0))), (q7_, .inl (d, 12, .inl (fun _ => 0)))] H := hP
  have hD : va_D A [(h, .inr (0, [.ref q0_, .ref q1_, .int 0, .ref q3_, .ref q4_, .ref q5_, .ref q6_, .ref q7_, .null, .null, .null, .null, .null, .null, .null, .null, .null])), (q0_, .inl (d, 6, .inl (fun _ => 0))), (q1_, .inl (d, 36, .inl (fun _ => 0))), (q3_, .inl (z, 96, .inl (fun _ => 0))), (q4_, .inl (d, 96, .inl (fun _ => 0))), (q5_, .inl (d, 96, .inl (fun _ => 0))), (q6_, .inl (d, 12, .inl (fun _ => 0))), (q7_, .inl (d, 12, .inl (fun _ => 0)))] := hD
  refine lv_aload_n hx hb dX0_init_60 rfl (lv_at hl 0 rfl) ?_
  refine lv_bipush (v := 12) hx hb dX0_init_61 (by decide) ?_
  refine g_newi hx hb (hts _ q79) hK hP hD hS hA 12 (by decide) (by decide) (by decide) (Nat.le_of_ble_eq_true rfl) (Nat.le_of_ble_eq_true rfl) dX0_init_63 (fun q8_ H hP hD hS => ?_)
  have hP : va_P D vwCl [(h, .inr (0, [.ref q0_, .ref q1_, .int 0, .ref q3_, .ref q4_, .ref q5_, .ref q6_, .ref q7_, .null, .null, .null, .null, .null, .null, .null, .null, .null])), (q0_, .inl (d, 6, .inl (fun _ => 0))), (q1_, .inl (d, 36, .inl (fun _ => 0))), (q3_, .inl (z, 96, .inl (fun _ => 0))), (q4_, .inl (d, 96, .inl (fun _ => 0))), (q5_, .inl (d, 96, .inl (fun _ => 0))), (q6_, .inl (d, 12, .inl (fun _ => 0))), (q7_, .inl (d, 12, .inl (fun _ => 0))), (q8_, .inl (d, 12, .inl (fun _ => 0)))] H := hP
  have hD : va_D A [(h, .inr (0, [.ref q0_, .ref q1_, .int 0, .ref q3_, .ref q4_, .ref q5_, .ref q6_, .ref q7_, .null, .null, .null, .null, .null, .null, .null, .null, .null])), (q0_, .inl (d, 6, .inl (fun _ => 0))), (q1_, .inl (d, 36, .inl (fun _ => 0))), (q3_, .inl (z, 96, .inl (fun _ => 0))), (q4_, .inl (d, 96, .inl (fun _ => 0))), (q5_, .inl (d, 96, .inl (fun _ => 0))), (q6_, .inl (d, 12, .inl (fun _ => 0))), (q7_, .inl (d, 12, .inl (fun _ => 0))), (q8_, .inl (d, 12, .inl (fun _ => 0)))] := hD
  refine W.widen (k := 8) (n := 366) (Nat.le_of_ble_eq_true rfl) (Nat.le_of_ble_eq_true rfl) ?_
  refine va_putF (D := D) (ci := 0) (v := .ref q8_) (ty := .array .int) (C := RX0) (T := TX0) (N := 17) hx hb hts in_X0 tyX0 tyX0_ok nmX0 hown hK hP hD hS 0 rfl rfl 8 (by decide) (hts _ q35) (fun _ h9 => h9) rfl hin rfl (by decide +kernel) rfl rfl (Nat.le_of_ble_eq_true rfl) dX0_init_65 (fun H locs hP hD hS => ?_)
  have hP : va_P D vwCl [(h, .inr (0, [.ref q0_, .ref q1_, .int 0, .ref q3_, .ref q4_, .ref q5_, .ref q6_, .ref q7_, .ref q8_, .null, .null, .null, .null, .null, .null, .null, .null])), (q0_, .inl (d, 6, .inl (fun _ => 0))), (q1_, .inl (d, 36, .inl (fun _ => 0))), (q3_, .inl (z, 96, .inl (fun _ => 0))), (q4_, .inl (d, 96, .inl (fun _ => 0))), (q5_, .inl (d, 96, .inl (fun _ => 0))), (q6_, .inl (d, 12, .inl (fun _ => 0))), (q7_, .inl (d, 12, .inl (fun _ => 0))), (q8_, .inl (d, 12, .inl (fun _ => 0)))] H := hP
  have hD : va_D A [(h, .inr (0, [.ref q0_, .ref q1_, .int 0, .ref q3_, .ref q4_, .ref q5_, .ref q6_, .ref q7_, .ref q8_, .null, .null, .null, .null, .null, .null, .null, .null])), (q0_, .inl (d, 6, .inl (fun _ => 0))), (q1_, .inl (d, 36, .inl (fun _ => 0))), (q3_, .inl (z, 96, .inl (fun _ => 0))), (q4_, .inl (d, 96, .inl (fun _ => 0))), (q5_, .inl (d, 96, .inl (fun _ => 0))), (q6_, .inl (d, 12, .inl (fun _ => 0))), (q7_, .inl (d, 12, .inl (fun _ => 0))), (q8_, .inl (d, 12, .inl (fun _ => 0)))] := hD
  refine lv_aload_n hx hb dX0_init_68 rfl (lv_at hl 0 rfl) ?_
  refine lv_bipush (v := 12) hx hb dX0_init_69 (by decide) ?_
  refine g_newi hx hb (hts _ q79) hK hP hD hS hA 12 (by decide) (by decide) (by decide) (Nat.le_of_ble_eq_true rfl) (Nat.le_of_ble_eq_true rfl) dX0_init_71 (fun q9_ H hP hD hS => ?_)
  have hP : va_P D vwCl [(h, .inr (0, [.ref q0_, .ref q1_, .int 0, .ref q3_, .ref q4_, .ref q5_, .ref q6_, .ref q7_, .ref q8_, .null, .null, .null, .null, .null, .null, .null, .null])), (q0_, .inl (d, 6, .inl (fun _ => 0))), (q1_, .inl (d, 36, .inl (fun _ => 0))), (q3_, .inl (z, 96, .inl (fun _ => 0))), (q4_, .inl (d, 96, .inl (fun _ => 0))), (q5_, .inl (d, 96, .inl (fun _ => 0))), (q6_, .inl (d, 12, .inl (fun _ => 0))), (q7_, .inl (d, 12, .inl (fun _ => 0))), (q8_, .inl (d, 12, .inl (fun _ => 0))), (q9_, .inl (d, 12, .inl (fun _ => 0)))] H := hP
  have hD : va_D A [(h, .inr (0, [.ref q0_, .ref q1_, .int 0, .ref q3_, .ref q4_, .ref q5_, .ref q6_, .ref q7_, .ref q8_, .null, .null, .null, .null, .null, .null, .null, .null])), (q0_, .inl (d, 6, .inl (fun _ => 0))), (q1_, .inl (d, 36, .inl (fun _ => 0))), (q3_, .inl (z, 96, .inl (fun _ => 0))), (q4_, .inl (d, 96, .inl (fun _ => 0))), (q5_, .inl (d, 96, .inl (fun _ => 0))), (q6_, .inl (d, 12, .inl (fun _ => 0))), (q7_, .inl (d, 12, .inl (fun _ => 0))), (q8_, .inl (d, 12, .inl (fun _ => 0))), (q9_, .inl (d, 12, .inl (fun _ => 0)))] := hD
  refine W.widen (k := 9) (n := 378) (Nat.le_of_ble_eq_true rfl) (Nat.le_of_ble_eq_true rfl) ?_
  refine va_putF (D := D) (ci := 0) (v := .ref q9_) (ty := .array .int) (C := RX0) (T := TX0) (N := 17) hx hb hts in_X0 tyX0 tyX0_ok nmX0 hown hK hP hD hS 0 rfl rfl 9 (by decide) (hts _ q36) (fun _ h9 => h9) rfl hin rfl (by decide +kernel) rfl rfl (Nat.le_of_ble_eq_true rfl) dX0_init_73 (fun H locs hP hD hS => ?_)
  have hP : va_P D vwCl [(h, .inr (0, [.ref q0_, .ref q1_, .int 0, .ref q3_, .ref q4_, .ref q5_, .ref q6_, .ref q7_, .ref q8_, .ref q9_, .null, .null, .null, .null, .null, .null, .null])), (q0_, .inl (d, 6, .inl (fun _ => 0))), (q1_, .inl (d, 36, .inl (fun _ => 0))), (q3_, .inl (z, 96, .inl (fun _ => 0))), (q4_, .inl (d, 96, .inl (fun _ => 0))), (q5_, .inl (d, 96, .inl (fun _ => 0))), (q6_, .inl (d, 12, .inl (fun _ => 0))), (q7_, .inl (d, 12, .inl (fun _ => 0))), (q8_, .inl (d, 12, .inl (fun _ => 0))), (q9_, .inl (d, 12, .inl (fun _ => 0)))] H := hP
  have hD : va_D A [(h, .inr (0, [.ref q0_, .ref q1_, .int 0, .ref q3_, .ref q4_, .ref q5_, .ref q6_, .ref q7_, .ref q8_, .ref q9_, .null, .null, .null, .null, .null, .null, .null])), (q0_, .inl (d, 6, .inl (fun _ => 0))), (q1_, .inl (d, 36, .inl (fun _ => 0))), (q3_, .inl (z, 96, .inl (fun _ => 0))), (q4_, .inl (d, 96, .inl (fun _ => 0))), (q5_, .inl (d, 96, .inl (fun _ => 0))), (q6_, .inl (d, 12, .inl (fun _ => 0))), (q7_, .inl (d, 12, .inl (fun _ => 0))), (q8_, .inl (d, 12, .inl (fun _ => 0))), (q9_, .inl (d, 12, .inl (fun _ => 0)))] := hD
  refine lv_aload_n hx hb dX0_init_76 rfl (lv_at hl 0 rfl) ?_
  refine lv_bipush (v := 12) hx hb dX0_init_77 (by decide) ?_
  refine g_newi hx hb (hts _ q79) hK hP hD hS hA 12 (by decide) (by decide) (by decide) (Nat.le_of_ble_eq_true rfl) (Nat.le_of_ble_eq_true rfl) dX0_init_79 (fun q10_ H hP hD hS => ?_)
  have hP : va_P D vwCl [(h, .inr (0, [.ref q0_, .ref q1_, .int 0, .ref q3_, .ref q4_, .ref q5_, .ref q6_, .ref q7_, .ref q8_, .ref q9_, .null, .null, .null, .null, .null, .null, .null])), (q0_, .inl (d, 6, .inl (fun _ => 0))), (q1_, .inl (d, 36, .inl (fun _ => 0))), (q3_, .inl (z, 96, .inl (fun _ => 0))), (q4_, .inl (d, 96, .inl (fun _ => 0))), (q5_, .inl (d, 96, .inl (fun _ => 0))), (q6_, .inl (d, 12, .inl (fun _ => 0))), (q7_, .inl (d, 12, .inl (fun _ => 0))), (q8_, .inl (d, 12, .inl (fun _ => 0))), (q9_, .inl (d, 12, .inl (fun _ => 0))), (q10_, .inl (d, 12, .inl (fun _ => 0)))] H := hP
  have hD : va_D A [(h, .inr (0, [.ref q0_, .ref q1_, .int 0, .ref q3_, .ref q4_, .ref q5_, .ref q6_, .ref q7_, .ref q8_, .ref q9_, .null, .null, .null, .null, .null, .null, .null])), (q0_, .inl (d, 6, .inl (fun _ => 0))), (q1_, .inl (d, 36, .inl (fun _ => 0))), (q3_, .inl (z, 96, .inl (fun _ => 0))), (q4_, .inl (d, 96, .inl (fun _ => 0))), (q5_, .inl (d, 96, .inl (fun _ => 0))), (q6_, .inl (d, 12, .inl (fun _ => 0))), (q7_, .inl (d, 12, .inl (fun _ => 0))), (q8_, .inl (d, 12, .inl (fun _ => 0))), (q9_, .inl (d, 12, .inl (fun _ => 0))), (q10_, .inl (d, 12, .inl (fun _ => 0)))] := hD
  refine W.widen (k := 10) (n := 390) (Nat.le_of_ble_eq_true rfl) (Nat.le_of_ble_eq_true rfl) ?_
  refine va_putF (D := D) (ci := 0) (v := .ref q10_) (ty := .array .int) (C := RX0) (T := TX0) (N := 17) hx hb hts in_X0 tyX0 tyX0_ok nmX0 hown hK hP hD hS 0 rfl rfl 10 (by decide) (hts _ q37) (fun _ h9 => h9) rfl hin rfl (by decide +kernel) rfl rfl (Nat.le_of_ble_eq_true rfl) dX0_init_81 (fun H locs hP hD hS => ?_)
  have hP : va_P D vwCl [(h, .inr (0, [.ref q0_, .ref q1_, .int 0, .ref q3_, .ref q4_, .ref q5_, .ref q6_, .ref q7_, .ref q8_, .ref q9_, .ref q10_, .null, .null, .null, .null, .null, .null])), (q0_, .inl (d, 6, .inl (fun _ => 0))), (q1_, .inl (d, 36, .inl (fun _ => 0))), (q3_, .inl (z, 96, .inl (fun _ => 0))), (q4_, .inl (d, 96, .inl (fun _ => 0))), (q5_, .inl (d, 96, .inl (fun _ => 0))), (q6_, .inl (d, 12, .inl (fun _ => 0))), (q7_, .inl (d, 12, .inl (fun _ => 0))), (q8_, .inl (d, 12, .inl (fun _ => 0))), (q9_, .inl (d, 12, .inl (fun _ => 0))), (q10_, .inl (d, 12, .inl (fun _ => 0)))] H := hP
  have hD : va_D A [(h, .inr (0, [.ref q0_, .ref q1_, .int 0, .ref q3_, .ref q4_, .ref q5_, .ref q6_, .ref q7_, .ref q8_, .ref q9_, .ref q10_, .null, .null, .null, .null, .null, .null])), (q0_, .inl (d, 6, .inl (fun _ => 0))), (q1_, .inl (d, 36, .inl (fun _ => 0))), (q3_, .inl (z, 96, .inl (fun _ => 0))), (q4_, .inl (d, 96, .inl (fun _ => 0))), (q5_, .inl (d, 96, .inl (fun _ => 0))), (q6_, .inl (d, 12, .inl (fun _ => 0))), (q7_, .inl (d, 12, .inl (fun _ => 0))), (q8_, .inl (d, 12, .inl (fun _ => 0))), (q9_, .inl (d, 12, .inl (fun _ => 0))), (q10_, .inl (d, 12, .inl (fun _ => 0)))] := hD
  refine lv_aload_n hx hb dX0_init_84 rfl (lv_at hl 0 rfl) ?_
  refine lv_bipush (v := 12) hx hb dX0_init_85 (by decide) ?_
  refine g_newi hx hb (hts _ q79) hK hP hD hS hA 12 (by decide) (by decide) (by decide) (Nat.le_of_ble_eq_true rfl) (Nat.le_of_ble_eq_true rfl) dX0_init_87 (fun q11_ H hP hD hS => ?_)
  have hP : va_P D vwCl [(h, .inr (0, [.ref q0_, .ref q1_, .int 0, .ref q3_, .ref q4_, .ref q5_, .ref q6_, .ref q7_, .ref q8_, .ref q9_, .ref q10_, .null, .null, .null, .null, .null, .null])), (q0_, .inl (d, 6, .inl (fun _ => 0))), (q1_, .inl (d, 36, .inl (fun _ => 0))), (q3_, .inl (z, 96, .inl (fun _ => 0))), (q4_, .inl (d, 96, .inl (fun _ => 0))), (q5_, .inl (d, 96, .inl (fun _ => 0))), (q6_, .inl (d, 12, .inl (fun _ => 0))), (q7_, .inl (d, 12, .inl (fun _ => 0))), (q8_, .inl (d, 12, .inl (fun _ => 0))), (q9_, .inl (d, 12, .inl (fun _ => 0))), (q10_, .inl (d, 12, .inl (fun _ => 0))), (q11_, .inl (d, 12, .inl (fun _ => 0)))] H := hP
  have hD : va_D A [(h, .inr (0, [.ref q0_, .ref q1_, .int 0, .ref q3_, .ref q4_, .ref q5_, .ref q6_, .ref q7_, .ref q8_, .ref q9_, .ref q10_, .null, .null, .null, .null, .null, .null])), (q0_, .inl (d, 6, .inl (fun _ => 0))), (q1_, .inl (d, 36, .inl (fun _ => 0))), (q3_, .inl (z, 96, .inl (fun _ => 0))), (q4_, .inl (d, 96, .inl (fun _ => 0))), (q5_, .inl (d, 96, .inl (fun _ => 0))), (q6_, .inl (d, 12, .inl (fun _ => 0))), (q7_, .inl (d, 12, .inl (fun _ => 0))), (q8_, .inl (d, 12, .inl (fun _ => 0))), (q9_, .inl (d, 12, .inl (fun _ => 0))), (q10_, .inl (d, 12, .inl (fun _ => 0))), (q11_, .inl (d, 12, .inl (fun _ => 0)))] := hD
  refine W.widen (k := 11) (n := 402) (Nat.le_of_ble_eq_true rfl) (Nat.le_of_ble_eq_true rfl) ?_
  refine va_putF (D := D) (ci := 0) (v := .ref q11_) (ty := .array .int) (C := RX0) (T := TX0) (N := 17) hx hb hts in_X0 tyX0 tyX0_ok nmX0 hown hK hP hD hS 0 rfl rfl 11 (by decide) (hts _ q38) (fun _ h9 => h9) rfl hin rfl (by decide +kernel) rfl rfl (Nat.le_of_ble_eq_true rfl) dX0_init_89 (fun H locs hP hD hS => ?_)
  have hP : va_P D vwCl [(h, .inr (0, [.ref q0_, .ref q1_, .int 0, .ref q3_, .ref q4_, .ref q5_, .ref q6_, .ref q7_, .ref q8_, .ref q9_, .ref q10_, .ref q11_, .null, .null, .null, .null, .null])), (q0_, .inl (d, 6, .inl (fun _ => 0))), (q1_, .inl (d, 36, .inl (fun _ => 0))), (q3_, .inl (z, 96, .inl (fun _ => 0))), (q4_, .inl (d, 96, .inl (fun _ => 0))), (q5_, .inl (d, 96, .inl (fun _ => 0))), (q6_, .inl (d, 12, .inl (fun _ => 0))), (q7_, .inl (d, 12, .inl (fun _ => 0))), (q8_, .inl (d, 12, .inl (fun _ => 0))), (q9_, .inl (d, 12, .inl (fun _ => 0))), (q10_, .inl (d, 12, .inl (fun _ => 0))), (q11_, .inl (d, 12, .inl (fun _ => 0)))] H := hP
  have hD : va_D A [(h, .inr (0, [.ref q0_, .ref q1_, .int 0, .ref q3_, .ref q4_, .ref q5_, .ref q6_, .ref q7_, .ref q8_, .ref q9_, .ref q10_, .ref q11_, .null, .null, .null, .null, .null])), (q0_, .inl (d, 6, .inl (fun _ => 0))), (q1_, .inl (d, 36, .inl (fun _ => 0))), (q3_, .inl (z, 96, .inl (fun _ => 0))), (q4_, .inl (d, 96, .inl (fun _ => 0))), (q5_, .inl (d, 96, .inl (fun _ => 0))), (q6_, .inl (d, 12, .inl (fun _ => 0))), (q7_, .inl (d, 12, .inl (fun _ => 0))), (q8_, .inl (d, 12, .inl (fun _ => 0))), (q9_, .inl (d, 12, .inl (fun _ => 0))), (q10_, .inl (d, 12, .inl (fun _ => 0))), (q11_, .inl (d, 12, .inl (fun _ => 0)))] := hD
  refine lv_aload_n hx hb dX0_init_92 rfl (lv_at hl 0 rfl) ?_
  refine lv_bipush (v := 12) hx hb dX0_init_93 (by decide) ?_
  refine g_newi hx hb (hts _ q79) hK hP hD hS hA 12 (by decide) (by decide) (by decide) (Nat.le_of_ble_eq_true rfl) (Nat.le_of_ble_eq_true rfl) dX0_init_95 (fun q12_ H hP hD hS => ?_)
  have hP : va_P D vwCl [(h, .inr (0, [.ref q0_, .ref q1_, .int 0, .ref q3_, .ref q4_, .ref q5_, .ref q6_, .ref q7_, .ref q8_, .ref q9_, .ref q10_, .ref q11_, .null, .null, .null, .null, .null])), (q0_, .inl (d, 6, .inl (fun _ => 0))), (q1_, .inl (d, 36, .inl (fun _ => 0))), (q3_, .inl (z, 96, .inl (fun _ => 0))), (q4_, .inl (d, 96, .inl (fun _ => 0))), (q5_, .inl (d, 96, .inl (fun _ => 0))), (q6_, .inl (d, 12, .inl (fun _ => 0))), (q7_, .inl (d, 12, .inl (fun _ => 0))), (q8_, .inl (d, 12, .inl (fun _ => 0))), (q9_, .inl (d, 12, .inl (fun _ => 0))), (q10_, .inl (d, 12, .inl (fun _ => 0))), (q11_, .inl (d, 12, .inl (fun _ => 0))), (q12_, .inl (d, 12, .inl (fun _ => 0)))] H := hP
  have hD : va_D A [(h, .inr (0, [.ref q0_, .ref q1_, .int 0, .ref q3_, .ref q4_, .ref q5_, .ref q6_, .ref q7_, .ref q8_, .ref q9_, .ref q10_, .ref q11_, .null, .null, .null, .null, .null])), (q0_, .inl (d, 6, .inl (fun _ => 0))), (q1_, .inl (d, 36, .inl (fun _ => 0))), (q3_, .inl (z, 96, .inl (fun _ => 0))), (q4_, .inl (d, 96, .inl (fun _ => 0))), (q5_, .inl (d, 96, .inl (fun _ => 0))), (q6_, .inl (d, 12, .inl (fun _ => 0))), (q7_, .inl (d, 12, .inl (fun _ => 0))), (q8_, .inl (d, 12, .inl (fun _ => 0))), (q9_, .inl (d, 12, .inl (fun _ => 0))), (q10_, .inl (d, 12, .inl (fun _ => 0))), (q11_, .inl (d, 12, .inl (fun _ => 0))), (q12_, .inl (d, 12, .inl (fun _ => 0)))] := hD
  refine W.widen (k := 12) (n := 414) (Nat.le_of_ble_eq_true rfl) (Nat.le_of_ble_eq_true rfl) ?_
  refine va_putF (D := D) (ci := 0) (v := .ref q12_) (ty := .array .int) (C := RX0) (T := TX0) (N := 17) hx hb hts in_X0 tyX0 tyX0_ok nmX0 hown hK hP hD hS 0 rfl rfl 12 (by decide) (hts _ q39) (fun _ h9 => h9) rfl hin rfl (by decide +kernel) rfl rfl (Nat.le_of_ble_eq_true rfl) dX0_init_97 (fun H locs hP hD hS => ?_)
  have hP : va_P D vwCl [(h, .inr (0, [.ref q0_, .ref q1_, .int 0, .ref q3_, .ref q4_, .ref q5_, .ref q6_, .ref q7_, .ref q8_, .ref q9_, .ref q10_, .ref q11_, .ref q12_, .null, .null, .null, .null])), (q0_, .inl (d, 6, .inl (fun _ => 0))), (q1_, .inl (d, 36, .inl (fun _ => 0))), (q3_, .inl (z, 96, .inl (fun _ => 0))), (q4_, .inl (d, 96, .inl (fun _ => 0))), (q5_, .inl (d, 96, .inl (fun _ => 0))), (q6_, .inl (d, 12, .inl (fun _ => 0))), (q7_, .inl (d, 12, .inl (fun _ => 0))), (q8_, .inl (d, 12, .inl (fun _ => 0))), (q9_, .inl (d, 12, .inl (fun _ => 0))), (q10_, .inl (d, 12, .inl (fun _ => 0))), (q11_, .inl (d, 12, .inl (fun _ => 0))), (q12_, .inl (d, 12, .inl (fun _ => 0)))] H := hP
  have hD : va_D A [(h, .inr (0, [.ref q0_, .ref q1_, .int 0, .ref q3_, .ref q4_, .ref q5_, .ref q6_, .ref q7_, .ref q8_, .ref q9_, .ref q10_, .ref q11_, .ref q12_, .null, .null, .null, .null])), (q0_, .inl (d, 6, .inl (fun _ => 0))), (q1_, .inl (d, 36, .inl (fun _ => 0))), (q3_, .inl (z, 96, .inl (fun _ => 0))), (q4_, .inl (d, 96, .inl (fun _ => 0))), (q5_, .inl (d, 96, .inl (fun _ => 0))), (q6_, .inl (d, 12, .inl (fun _ => 0))), (q7_, .inl (d, 12, .inl (fun _ => 0))), (q8_, .inl (d, 12, .inl (fun _ => 0))), (q9_, .inl (d, 12, .inl (fun _ => 0))), (q10_, .inl (d, 12, .inl (fun _ => 0))), (q11_, .inl (d, 12, .inl (fun _ => 0))), (q12_, .inl (d, 12, .inl (fun _ => 0)))] := hD
  refine lv_aload_n hx hb dX0_init_100 rfl (lv_at hl 0 rfl) ?_
  refine lv_iconst (v := 2) hx hb dX0_init_101 (by decide) ?_
  refine g_newi hx hb (hts _ q79) hK hP hD hS hA 2 (by decide) (by decide) (by decide) (Nat.le_of_ble_eq_true rfl) (Nat.le_of_ble_eq_true rfl) dX0_init_102 (fun q13_ H hP hD hS => ?_)
  have hP : va_P D vwCl [(h, .inr (0, [.ref q0_, .ref q1_, .int 0, .ref q3_, .ref q4_, .ref q5_, .ref q6_, .ref q7_, .ref q8_, .ref q9_, .ref q10_, .ref q11_, .ref q12_, .null, .null, .null, .null])), (q0_, .inl (d, 6, .inl (fun _ => 0))), (q1_, .inl (d, 36, .inl (fun _ => 0))), (q3_, .inl (z, 96, .inl (fun _ => 0))), (q4_, .inl (d, 96, .inl (fun _ => 0))), (q5_, .inl (d, 96, .inl (fun _ => 0))), (q6_, .inl (d, 12, .inl (fun _ => 0))), (q7_, .inl (d, 12, .inl (fun _ => 0))), (q8_, .inl (d, 12, .inl (fun _ => 0))), (q9_, .inl (d, 12, .inl (fun _ => 0))), (q10_, .inl (d, 12, .inl (fun _ => 0))), (q11_, .inl (d, 12, .inl (fun _ => 0))), (q12_, .inl (d, 12, .inl (fun _ => 0))), (q13_, .inl (d, 2, .inl (fun _ => 0)))] H := hP
  have hD : va_D A [(h, .inr (0, [.ref q0_, .ref q1_, .int 0, .ref q3_, .ref q4_, .ref q5_, .ref q6_, .ref q7_, .ref q8_, .ref q9_, .ref q10_, .ref q11_, .ref q12_, .null, .null, .null, .null])), (q0_, .inl (d, 6, .inl (fun _ => 0))), (q1_, .inl (d, 36, .inl (fun _ => 0))), (q3_, .inl (z, 96, .inl (fun _ => 0))), (q4_, .inl (d, 96, .inl (fun _ => 0))), (q5_, .inl (d, 96, .inl (fun _ => 0))), (q6_, .inl (d, 12, .inl (fun _ => 0))), (q7_, .inl (d, 12, .inl (fun _ => 0))), (q8_, .inl (d, 12, .inl (fun _ => 0))), (q9_, .inl (d, 12, .inl (fun _ => 0))), (q10_, .inl (d, 12, .inl (fun _ => 0))), (q11_, .inl (d, 12, .inl (fun _ => 0))), (q12_, .inl (d, 12, .inl (fun _ => 0))), (q13_, .inl (d, 2, .inl (fun _ => 0)))] := hD
  refine W.widen (k := 13) (n := 416) (Nat.le_of_ble_eq_true rfl) (Nat.le_of_ble_eq_true rfl) ?_
  refine va_putF (D := D) (ci := 0) (v := .ref q13_) (ty := .array .int) (C := RX0) (T := TX0) (N := 17) hx hb hts in_X0 tyX0 tyX0_ok nmX0 hown hK hP hD hS 0 rfl rfl 13 (by decide) (hts _ q40) (fun _ h9 => h9) rfl hin rfl (by decide +kernel) rfl rfl (Nat.le_of_ble_eq_true rfl) dX0_init_104 (fun H locs hP hD hS => ?_)
  have hP : va_P D vwCl [(h, .inr (0, [.ref q0_, .ref q1_, .int 0, .ref q3_, .ref q4_, .ref q5_, .ref q6_, .ref q7_, .ref q8_, .ref q9_, .ref q10_, .ref q11_, .ref q12_, .ref q13_, .null, .null, .null])), (q0_, .inl (d, 6, .inl (fun _ => 0))), (q1_, .inl (d, 36, .inl (fun _ => 0))), (q3_, .inl (z, 96, .inl (fun _ => 0))), (q4_, .inl (d, 96, .inl (fun _ => 0))), (q5_, .inl (d, 96, .inl (fun _ => 0))), (q6_, .inl (d, 12, .inl (fun _ => 0))), (q7_, .inl (d, 12, .inl (fun _ => 0))), (q8_, .inl (d, 12, .inl (fun _ => 0))), (q9_, .inl (d, 12, .inl (fun _ => 0))), (q10_, .inl (d, 12, .inl (fun _ => 0))), (q11_, .inl (d, 12, .inl (fun _ => 0))), (q12_, .inl (d, 12, .inl (fun _ => 0))), (q13_, .inl (d, 2, .inl (fun _ => 0)))] H := hP
  have hD : va_D A [(h, .inr (0, [.ref q0_, .ref q1_, .int 0, .ref q3_, .ref q4_, .ref q5_, .ref q6_, .ref q7_, .ref q8_, .ref q9_, .ref q10_, .ref q11_, .ref q12_, .ref q13_, .null, .null, .null])), (q0_, .inl (d, 6, .inl (fun _ => 0))), (q1_, .inl (d, 36, .inl (fun _ => 0))), (q3_, .inl (z, 96, .inl (fun _ => 0))), (q4_, .inl (d, 96, .inl (fun _ => 0))), (q5_, .inl (d, 96, .inl (fun _ => 0))), (q6_, .inl (d, 12, .inl (fun _ => 0))), (q7_, .inl (d, 12, .inl (fun _ => 0))), (q8_, .inl (d, 12, .inl (fun _ => 0))), (q9_, .inl (d, 12, .inl (fun _ => 0))), (q10_, .inl (d, 12, .inl (fun _ => 0))), (q11_, .inl (d, 12, .inl (fun _ => 0))), (q12_, .inl (d, 12, .inl (fun _ => 0))), (q13_, .inl (d, 2, .inl (fun _ => 0)))] := hD
  refine lv_aload_n hx hb dX0_init_107 rfl (lv_at hl 0 rfl) ?_
  refine lv_iconst (v := 2) hx hb dX0_init_108 (by decide) ?_
  refine g_newi hx hb (hts _ q79) hK hP hD hS hA 2 (by decide) (by decide) (by decide) (Nat.le_of_ble_eq_true rfl) (Nat.le_of_ble_eq_true rfl) dX0_init_109 (fun q14_ H hP hD hS => ?_)
  have hP : va_P D vwCl [(h, .inr (0, [.ref q0_, .ref q1_, .int 0, .ref q3_, .ref q4_, .ref q5_, .ref q6_, .ref q7_, .ref q8_, .ref q9_, .ref q10_, .ref q11_, .ref q12_, .ref q13_, .null, .null, .null])), (q0_, .inl (d, 6, .inl (fun _ => 0))), (q1_, .inl (d, 36, .inl (fun _ => 0))), (q3_, .inl (z, 96, .inl (fun _ => 0))), (q4_, .inl (d, 96, .inl (fun _ => 0))), (q5_, .inl (d, 96, .inl (fun _ => 0))), (q6_, .inl (d, 12, .inl (fun _ => 0))), (q7_, .inl (d, 12, .inl (fun _ => 0))), (q8_, .inl (d, 12, .inl (fun _ => 0))), (q9_, .inl (d, 12, .inl (fun _ => 0))), (q10_, .inl (d, 12, .inl (fun _ => 0))), (q11_, .inl (d, 12, .inl (fun _ => 0))), (q12_, .inl (d, 12, .inl (fun _ => 0))), (q13_, .inl (d, 2, .inl (fun _ => 0))), (q14_, .inl (d, 2, .inl (fun _ => 0)))] H := hP
  have hD : va_D A [(h, .inr (0, [.ref q0_, .ref q1_, .int 0, .ref q3_, .ref q4_, .ref q5_, .ref q6_, .ref q7_, .ref q8_, .ref q9_, .ref q10_, .ref q11_, .ref q12_, .ref q13_, .null, .null, .null])), (q0_, .inl (d, 6, .inl (fun _ => 0))), (q1_, .inl (d, 36, .inl (fun _ => 0))), (q3_, .inl (z, 96, .inl (fun _ => 0))), (q4_, .inl (d, 96, .inl (fun _ => 0))), (q5_, .inl (d, 96, .inl (fun _ => 0))), (q6_, .inl (d, 12, .inl (fun _ => 0))), (q7_, .inl (d, 12, .inl (fun _ => 0))), (q8_, .inl (d, 12, .inl (fun _ => 0))), (q9_, .inl (d, 12, .inl (fun _ => 0))), (q10_, .inl (d, 12, .inl (fun _ => 0))), (q11_, .inl (d, 12, .inl (fun _ => 0))), (q12_, .inl (d, 12, .inl (fun _ => 0))), (q13_, .inl (d, 2, .inl (fun _ => 0))), (q14_, .inl (d, 2, .inl (fun _ => 0)))] := hD
  refine W.widen (k := 14) (n := 418) (Nat.le_of_ble_eq_true rfl) (Nat.le_of_ble_eq_true rfl) ?_
  refine va_putF (D := D) (ci := 0) (v := .ref q14_) (ty := .array .int) (C := RX0) (T := TX0) (N := 17) hx hb hts in_X0 tyX0 tyX0_ok nmX0 hown hK hP hD hS 0 rfl rfl 14 (by decide) (hts _ q41) (fun _ h9 => h9) rfl hin rfl (by decide +kernel) rfl rfl (Nat.le_of_ble_eq_true rfl) dX0_init_111 (fun H locs hP hD hS => ?_)
  have hP : va_P D vwCl [(h, .inr (0, [.ref q0_, .ref q1_, .int 0, .ref q3_, .ref q4_, .ref q5_, .ref q6_, .ref q7_, .ref q8_, .ref q9_, .ref q10_, .ref q11_, .ref q12_, .ref q13_, .ref q14_, .null, .null])), (q0_, .inl (d, 6, .inl (fun _ => 0))), (q1_, .inl (d, 36, .inl (fun _ => 0))), (q3_, .inl (z, 96, .inl (fun _ => 0))), (q4_, .inl (d, 96, .inl (fun _ => 0))), (q5_, .inl (d, 96, .inl (fun _ => 0))), (q6_, .inl (d, 12, .inl (fun _ => 0))), (q7_, .inl (d, 12, .inl (fun _ => 0))), (q8_, .inl (d, 12, .inl (fun _ => 0))), (q9_, .inl (d, 12, .inl (fun _ => 0))), (q10_, .inl (d, 12, .inl (fun _ => 0))), (q11_, .inl (d, 12, .inl (fun _ => 0))), (q12_, .inl (d, 12, .inl (fun _ => 0))), (q13_, .inl (d, 2, .inl (fun _ => 0))), (q14_, .inl (d, 2, .inl (fun _ => 0)))] H := hP
  have hD : va_D A [(h, .inr (0, [.ref q0_, .ref q1_, .int 0, .ref q3_, .ref q4_, .ref q5_, .ref q6_, .ref q7_, .ref q8_, .ref q9_, .ref q10_, .ref q11_, .ref q12_, .ref q13_, .ref q14_, .null, .null])), (q0_, .inl (d, 6, .inl (fun _ => 0))), (q1_, .inl (d, 36, .inl (fun _ => 0))), (q3_, .inl (z, 96, .inl (fun _ => 0))), (q4_, .inl (d, 96, .inl (fun _ => 0))), (q5_, .inl (d, 96, .inl (fun _ => 0))), (q6_, .inl (d, 12, .inl (fun _ => 0))), (q7_, .inl (d, 12, .inl (fun _ => 0))), (q8_, .inl (d, 12, .inl (fun _ => 0))), (q9_, .inl (d, 12, .inl (fun _ => 0))), (q10_, .inl (d, 12, .inl (fun _ => 0))), (q11_, .inl (d, 12, .inl (fun _ => 0))), (q12_, .inl (d, 12, .inl (fun _ => 0))), (q13_, .inl (d, 2, .inl (fun _ => 0))), (q14_, .inl (d, 2, .inl (fun _ => 0)))] := hD
  refine lv_aload_n hx hb dX0_init_114 rfl (lv_at hl 0 rfl) ?_
  refine lv_bipush (v := 16) hx hb dX0_init_115 (by decide) ?_
  refine g_newi hx hb (hts _ q79) hK hP hD hS hA 16 (by decide) (by decide) (by decide) (Nat.le_of_ble_eq_true rfl) (Nat.le_of_ble_eq_true rfl) dX0_init_117 (fun q15_ H hP hD hS => ?_)
  have hP : va_P D vwCl [(h, .inr (0, [.ref q0_, .ref q1_, .int 0, .ref q3_, .ref q4_, .ref q5_, .ref q6_, .ref q7_, .ref q8_, .ref q9_, .ref q10_, .ref q11_, .ref q12_, .ref q13_, .ref q14_, .null, .null])), (q0_, .inl (d, 6, .inl (fun _ => 0))), (q1_, .inl (d, 36, .inl (fun _ => 0))), (q3_, .inl (z, 96, .inl (fun _ => 0))), (q4_, .inl (d, 96, .inl (fun _ => 0))), (q5_, .inl (d, 96, .inl (fun _ => 0))), (q6_, .inl (d, 12, .inl (fun _ => 0))), (q7_, .inl (d, 12, .inl (fun _ => 0))), (q8_, .inl (d, 12, .inl (fun _ => 0))), (q9_, .inl (d, 12, .inl (fun _ => 0))), (q10_, .inl (d, 12, .inl (fun _ => 0))), (q11_, .inl (d, 12, .inl (fun _ => 0))), (q12_, .inl (d, 12, .inl (fun _ => 0))), (q13_, .inl (d, 2, .inl (fun _ => 0))), (q14_, .inl (d, 2, .inl (fun _ => 0))), (q15_, .inl (d, 16, .inl (fun _ => 0)))] H := hP
  have hD : va_D A [(h, .inr (0, [.ref q0_, .ref q1_, .int 0, .ref q3_, .ref q4_, .ref q5_, .ref q6_, .ref q7_, .ref q8_, .ref q9_, .ref q10_, .ref q11_, .ref q12_, .ref q13_, .ref q14_, .null, .null])), (q0_, .inl (d, 6, .inl (fun _ => 0))), (q1_, .inl (d, 36, .inl (fun _ => 0))), (q3_, .inl (z, 96, .inl (fun _ => 0))), (q4_, .inl (d, 96, .inl (fun _ => 0))), (q5_, .inl (d, 96, .inl (fun _ => 0))), (q6_, .inl (d, 12, .inl (fun _ => 0))), (q7_, .inl (d, 12, .inl (fun _ => 0))), (q8_, .inl (d, 12, .inl (fun _ => 0))), (q9_, .inl (d, 12, .inl (fun _ => 0))), (q10_, .inl (d, 12, .inl (fun _ => 0))), (q11_, .inl (d, 12, .inl (fun _ => 0))), (q12_, .inl (d, 12, .inl (fun _ => 0))), (q13_, .inl (d, 2, .inl (fun _ => 0))), (q14_, .inl (d, 2, .inl (fun _ => 0))), (q15_, .inl (d, 16, .inl (fun _ => 0)))] := hD
  refine W.widen (k := 15) (n := 434) (Nat.le_of_ble_eq_true rfl) (Nat.le_of_ble_eq_true rfl) ?_
  refine va_putF (D := D) (ci := 0) (v := .ref q15_) (ty := .array .int) (C := RX0) (T := TX0) (N := 17) hx hb hts in_X0 tyX0 tyX0_ok nmX0 hown hK hP hD hS 0 rfl rfl 15 (by decide) (hts _ q42) (fun _ h9 => h9) rfl hin rfl (by decide +kernel) rfl rfl (Nat.le_of_ble_eq_true rfl) dX0_init_119 (fun H locs hP hD hS => ?_)
  have hP : va_P D vwCl [(h, .inr (0, [.ref q0_, .ref q1_, .int 0, .ref q3_, .ref q4_, .ref q5_, .ref q6_, .ref q7_, .ref q8_, .ref q9_, .ref q10_, .ref q11_, .ref q12_, .ref q13_, .ref q14_, .ref q15_, .null])), (q0_, .inl (d, 6, .inl (fun _ => 0))), (q1_, .inl (d, 36, .inl (fun _ => 0))), (q3_, .inl (z, 96, .inl (fun _ => 0))), (q4_, .inl (d, 96, .inl (fun _ => 0))), (q5_, .inl (d, 96, .inl (fun _ => 0))), (q6_, .inl (d, 12, .inl (fun _ => 0))), (q7_, .inl (d, 12, .inl (fun _ => 0))), (q8_, .inl (d, 12, .inl (fun _ => 0))), (q9_, .inl (d, 12, .inl (fun _ => 0))), (q10_, .inl (d, 12, .inl (fun _ => 0))), (q11_, .inl (d, 12, .inl (fun _ => 0))), (q12_, .inl (d, 12, .inl (fun _ => 0))), (q13_, .inl (d, 2, .inl (fun _ => 0))), (q14_, .inl (d, 2, .inl (fun _ => 0))), (q15_, .inl (d, 16, .inl (fun _ => 0)))] H := hP
  have hD : va_D A [(h, .inr (0, [.ref q0_, .ref q1_, .int 0, .ref q3_, .ref q4_, .ref q5_, .ref q6_, .ref q7_, .ref q8_, .ref q9_, .ref q10_, .ref q11_, .ref q12_, .ref q13_, .ref q14_, .ref q15_, .null])), (q0_, .inl (d, 6, .inl (fun _ => 0))), (q1_, .inl (d, 36, .inl (fun _ => 0))), (q3_, .inl (z, 96, .inl (fun _ => 0))), (q4_, .inl (d, 96, .inl (fun _ => 0))), (q5_, .inl (d, 96, .inl (fun _ => 0))), (q6_, .inl (d, 12, .inl (fun _ => 0))), (q7_, .inl (d, 12, .inl (fun _ => 0))), (q8_, .inl (d, 12, .inl (fun _ => 0))), (q9_, .inl (d, 12, .inl (fun _ => 0))), (q10_, .inl (d, 12, .inl (fun _ => 0))), (q11_, .inl (d, 12, .inl (fun _ => 0))), (q12_, .inl (d, 12, .inl (fun _ => 0))), (q13_, .inl (d, 2, .inl (fun _ => 0))), (q14_, .inl (d, 2, .inl (fun _ => 0))), (q15_, .inl (d, 16, .inl (fun _ => 0)))] := hD
  refine lv_aload_n hx hb dX0_init_122 rfl (lv_at hl 0 rfl) ?_
  refine lv_bipush (v := 16) hx hb dX0_init_123 (by decide) ?_
  refine g_newi hx hb (hts _ q79) hK hP hD hS hA 16 (by decide) (by decide) (by decide) (Nat.le_of_ble_eq_true rfl) (Nat.le_of_ble_eq_true rfl) dX0_init_125 (fun q16_ H hP hD hS => ?_)
  have hP : va_P D vwCl [(h, .inr (0, [.ref q0_, .ref q1_, .int 0, .ref q3_, .ref q4_, .ref q5_, .ref q6_, .ref q7_, .ref q8_, .ref q9_, .ref q10_, .ref q11_, .ref q12_, .ref q13_, .ref q14_, .ref q15_, .null])), (q0_, .inl (d, 6, .inl (fun _ => 0))), (q1_, .inl (d, 36, .inl (fun _ => 0))), (q3_, .inl (z, 96, .inl (fun _ => 0))), (q4_, .inl (d, 96, .inl (fun _ => 0))), (q5_, .inl (d, 96, .inl (fun _ => 0))), (q6_, .inl (d, 12, .inl (fun _ => 0))), (q7_, .inl (d, 12, .inl (fun _ => 0))), (q8_, .inl (d, 12, .inl (fun _ => 0))), (q9_, .inl (d, 12, .inl (fun _ => 0))), (q10_, .inl (d, 12, .inl (fun _ => 0))), (q11_, .inl (d, 12, .inl (fun _ => 0))), (q12_, .inl (d, 12, .inl (fun _ => 0))), (q13_, .inl (d, 2, .inl (fun _ => 0))), (q14_, .inl (d, 2, .inl (fun _ => 0))), (q15_, .inl (d, 16, .inl (fun _ => 0))), (q16_, .inl (d, 16, .inl (fun _ => 0)))] H := hP
  have hD : va_D A [(h, .inr (0, [.ref q0_, .ref q1_, .int 0, .ref q3_, .ref q4_, .ref q5_, .ref q6_, .ref q7_, .ref q8_, .ref q9_, .ref q10_, .ref q11_, .ref q12_, .ref q13_, .ref q14_, .ref q15_, .null])), (q0_, .inl (d, 6, .inl (fun _ => 0))), (q1_, .inl (d, 36, .inl (fun _ => 0))), (q3_, .inl (z, 96, .inl (fun _ => 0))), (q4_, .inl (d, 96, .inl (fun _ => 0))), (q5_, .inl (d, 96, .inl (fun _ => 0))), (q6_, .inl (d, 12, .inl (fun _ => 0))), (q7_, .inl (d, 12, .inl (fun _ => 0))), (q8_, .inl (d, 12, .inl (fun _ => 0))), (q9_, .inl (d, 12, .inl (fun _ => 0))), (q10_, .inl (d, 12, .inl (fun _ => 0))), (q11_, .inl (d, 12, .inl (fun _ => 0))), (q12_, .inl (d, 12, .inl (fun _ => 0))), (q13_, .inl (d, 2, .inl (fun _ => 0))), (q14_, .inl (d, 2, .inl (fun _ => 0))), (q15_, .inl (d, 16, .inl (fun _ => 0))), (q16_, .inl (d, 16, .inl (fun _ => 0)))] := hD
  refine W.widen (k := 16) (n := 450) (Nat.le_of_ble_eq_true rfl) (Nat.le_of_ble_eq_true rfl) ?_
  refine va_putF (D := D) (ci := 0) (v := .ref q16_) (ty := .array .int) (C := RX0) (T := TX0) (N := 17) hx hb hts in_X0 tyX0 tyX0_ok nmX0 hown hK hP hD hS 0 rfl rfl 16 (by decide) (hts _ q43) (fun _ h9 => h9) rfl hin rfl (by decide +kernel) rfl rfl (Nat.le_of_ble_eq_true rfl) dX0_init_127 (fun H locs hP hD hS => ?_)
  have hP : va_P D vwCl [(h, .inr (0, [.ref q0_, .ref q1_, .int 0, .ref q3_, .ref q4_, .ref q5_, .ref q6_, .ref q7_, .ref q8_, .ref q9_, .ref q10_, .ref q11_, .ref q12_, .ref q13_, .ref q14_, .ref q15_, .ref q16_])), (q0_, .inl (d, 6, .inl (fun _ => 0))), (q1_, .inl (d, 36, .inl (fun _ => 0))), (q3_, .inl (z, 96, .inl (fun _ => 0))), (q4_, .inl (d, 96, .inl (fun _ => 0))), (q5_, .inl (d, 96, .inl (fun _ => 0))), (q6_, .inl (d, 12, .inl (fun _ => 0))), (q7_, .inl (d, 12, .inl (fun _ => 0))), (q8_, .inl (d, 12, .inl (fun _ => 0))), (q9_, .inl (d, 12, .inl (fun _ => 0))), (q10_, .inl (d, 12, .inl (fun _ => 0))), (q11_, .inl (d, 12, .inl (fun _ => 0))), (q12_, .inl (d, 12, .inl (fun _ => 0))), (q13_, .inl (d, 2, .inl (fun _ => 0))), (q14_, .inl (d, 2, .inl (fun _ => 0))), (q15_, .inl (d, 16, .inl (fun _ => 0))), (q16_, .inl (d, 16, .inl (fun _ => 0)))] H := hP
  have hD : va_D A [(h, .inr (0, [.ref q0_, .ref q1_, .int 0, .ref q3_, .ref q4_, .ref q5_, .ref q6_, .ref q7_, .ref q8_, .ref q9_, .ref q10_, .ref q11_, .ref q12_, .ref q13_, .ref q14_, .ref q15_, .ref q16_])), (q0_, .inl (d, 6, .inl (fun _ => 0))), (q1_, .inl (d, 36, .inl (fun _ => 0))), (q3_, .inl (z, 96, .inl (fun _ => 0))), (q4_, .inl (d, 96, .inl (fun _ => 0))), (q5_, .inl (d, 96, .inl (fun _ => 0))), (q6_, .inl (d, 12, .inl (fun _ => 0))), (q7_, .inl (d, 12, .inl (fun _ => 0))), (q8_, .inl (d, 12, .inl (fun _ => 0))), (q9_, .inl (d, 12, .inl (fun _ => 0))), (q10_, .inl (d, 12, .inl (fun _ => 0))), (q11_, .inl (d, 12, .inl (fun _ => 0))), (q12_, .inl (d, 12, .inl (fun _ => 0))), (q13_, .inl (d, 2, .inl (fun _ => 0))), (q14_, .inl (d, 2, .inl (fun _ => 0))), (q15_, .inl (d, 16, .inl (fun _ => 0))), (q16_, .inl (d, 16, .inl (fun _ => 0)))] := hD
  refine lv_aload_n hx hb dX0_init_130 rfl (lv_at hl 0 rfl) ?_
  refine lv_iconst (v := 0) hx hb dX0_init_131 (by decide) ?_
  refine va_put (D := D) (ci := 0) (v := .int 0) (ty := .int) (C := RX0) (T := TX0) (N := 17) hx hb hts in_X0 tyX0 tyX0_ok nmX0 hown hK hP hD hS 0 rfl rfl 2 (by decide) (hts _ q29) (fun _ h9 => h9) rfl (by decide +kernel) rfl rfl (Nat.le_of_ble_eq_true rfl) dX0_init_132 (fun H locs hP hD hS => ?_)
  exact W.vret hx hb hr (fun t ht hW => ⟨⟨(fun k => ([q0_, q1_, 0, q3_, q4_, q5_, q6_, q7_, q8_, q9_, q10_, q11_, q12_, q13_, q14_, q15_, q16_] : List Nat).getD k 0), rfl, trivial, by rw [ht]; exact hP, va_K.moved hW.alike hK, hD⟩, hS.F ht⟩) hS.2.2 dX0_init_135
def m_n (h : Nat) : va_W := [(h, .inr (1, [.null, .null, .null, .int 0, .null, .null, .null, .null, .null]))]
theorem m_init_loop {p : Program} {l : Launch} {e : Env} {R : Room} {s : State} {m : MethodId} {args : Array Value} {below : List Frame} {meth : Method} {c : Code} {D : va_G} {d z : ClassId} {A : Nat → Prop} {h : Nat} {a : Nat → Nat} {cells slots : Nat} (K : g_K p s m args meth c D d z A RX1 cX1_init 2 none) {Q : State → Prop} (kk : ∀ (H : Heap) (locs : List Loc) (ls : Array Slot), g_B D A (m_w h a d z) s H locs (m_fill 96) → W p l e R s m args below meth c H locs cells slots Q (F0 m 87 ls [])) : ∀ n k : Nat, k ≤ 96 → 97 ≤ k + n → ∀ (H : Heap) (locs : List Loc) (ls : Array Slot), g_B D A (m_w h a d z) s H locs (m_fill k) → lv_has ls 2 [(0, .ref h), (1, .int (nI k))] → W p l e R s m args below meth c H locs cells slots Q (F0 m 68 ls []) := by
  have hx := K.1
  have hb := K.2.1
  intro n
  induction n with
  | zero =>
    intro k h1 h2
    exact absurd h2 (by omega)
  | succ n ih =>
    intro k hk hkn H locs ls B hl
    refine lv_iload_n hx hb dX1_init_68 rfl (lv_at hl 1 rfl) ?_
    refine lv_bipush (v := 96) hx hb dX1_init_69 (by decide) ?_
    refine lv_icmp_ge (tgt := 87) hx hb dX1_init_71 (by decide) (fun c71 => ?_) (fun c71 => ?_)
    · have c71 : 96 ≤ k := (nI_leI (a := 96) (b := k) (by omega) (by omega)).mp c71
      obtain rfl : k = 96 := by omega
      exact kk _ _ _ B
    · have c71 : ¬ 96 ≤ k := fun h9 => c71 ((nI_leI (a := 96) (b := k) (by omega) (by omega)).mpr h9)
      refine lv_aload_n hx hb dX1_init_74 rfl (lv_at hl 0 rfl) ?_
      refine m_get0 K B dX1_init_75 ?_
      refine lv_iload_n hx hb dX1_init_78 rfl (lv_at hl 1 rfl) ?_
      refine lv_iconst (v := -1) hx hb dX1_init_79 (by decide) ?_
      refine m_ast0 K B (by omega) dX1_init_80 (fun H locs B => ?_)
      refine lv_iinc (v := nI (k + 1)) (lv' := [(1, .int (nI (k + 1))), (0, .ref h)]) hx hb dX1_init_81 hl (k := 1) rfl (n_i1 _) (by decide) rfl (fun ls hl => ?_)
      refine lv_goto (tgt := 68) hx hb dX1_init_84 (by decide) ?_
      exact ih (k + 1) (by omega) (by omega) _ _ ls B (lv_sub hl [1, 0] rfl)
theorem mm_init (l : Launch) (D : va_G) (d z : ClassId) (h sz : Nat) : Met l yX1_init (ws_ yX1_init cX1_init 2 none) ({ frames := 1, cells := 8, slots := 186, locals := 12 }) (va_Pc [.ref h] (fun U => U.heap.size = sz ∧ va_P D vwCl (m_n h) U.heap ∧ va_K D vwCl (g_T d z) U ∧ va_D (fun _ => True) (m_n h))) (va_Qv (fun _ : Nat → Nat => True) (fun (a : Nat → Nat) (t : State) => g_E D d z (m_w h a d z) (va_A (m_n h) sz) (m_fill 96) t) (va_A (m_n h) sz)) 8 186 (va_A (m_n h) sz) := by
  refine Met.ofW (cc := cX1_init) (maxL := 2) (ret := none) (by decide) rfl ?_
  intro p e s m args below meth c s₁ B hml hv
  obtain ⟨rfl, hsz, hP, hK, hD0⟩ := hv
  have hx := B.exec
  have hb := B.bytes
  have hr := B.returns
  have hts := atoms_spec (ws := ws_ yX1_init cX1_init 2 none) B.pre
  have hts : ∀ w ∈ lw_all, w.before _ s = true := fun w h => hts w (List.mem_cons_of_mem _ h)
  have hown : s.vm.findClass RX1 = some m.cls := findClass_of_methodNamed B.named
  have hlocks := B.notSynchronized
  have hin : meth.name = "<init>" := (name_of_methodNamed B.named B.method).1
  subst hsz
  have hD := hD0.self (sz := s.heap.size)
  generalize hAe : va_A (m_n h) s.heap.size = A at hD ⊢
  have hA : ∀ q : Nat, s.heap.size ≤ q → A q := fun q h => by rw [← hAe]; exact Or.inr h
  have hS : va_S A s.heap s.heap [] := va_S.rf
  have hl := lv_entry ([.ref h]) (n := 2) (Nat.le_of_ble_eq_true rfl)
  rw [lg_entry_eq]
  generalize (lg_sl ([.ref h]) ++ List.replicate (2 - (lg_sl ([.ref h])).length) Slot.unset).toArray = ls at hl ⊢
  have hl : lv_has ls 2 [(0, .ref h)] := hl
  refine lv_aload_n hx hb dX1_init_0 rfl (lv_at hl 0 rfl) ?_
  refine W.objInit hx hb hown (hts _ q172) (hts _ q25) (hts _ q26) rfl (by rw [hml]; exact hl.1) rfl dX1_init_1 (Nat.le_of_ble_eq_true rfl) (Nat.le_of_ble_eq_true rfl) ?_
  refine W.eq (g2 := F0 m 4 ls []) rfl ?_
  refine lv_aload_n hx hb dX1_init_4 rfl (lv_at hl 0 rfl) ?_
  refine lv_bipush (v := 96) hx hb dX1_init_5 (by decide) ?_
  refine g_newi hx hb (hts _ q79) hK hP hD hS hA 96 (by decide) (by decide) (by decide) (Nat.le_of_ble_eq_true rfl) (Nat.le_of_ble_eq_true rfl) dX1_init_7 (fun q0_ H hP hD hS => ?_)
  have hP : va_P D vwCl [(h, .inr (1, [.null, .null, .null, .int 0, .null, .null, .null, .null, .null])), (q0_, .inl (d, 96, .inl (fun _ => 0)))] H := hP
  have hD : va_D A [(h, .inr (1, [.null, .null, .null, .int 0, .null, .null, .null, .null, .null])), (q0_, .inl (d, 96, .inl (fun _ => 0)))] := hD
  refine W.widen (k := 1) (n := 96) (Nat.le_of_ble_eq_true rfl) (Nat.le_of_ble_eq_true rfl) ?_
  refine va_putF (D := D) (ci := 1) (v := .ref q0_) (ty := .array .int) (C := RX1) (T := TX1) (N := 9) hx hb hts in_X1 tyX1 tyX1_ok nmX1 hown hK hP hD hS 0 rfl rfl 0 (by decide) (hts _ q173) (fun _ h9 => h9) rfl hin rfl (by decide +kernel) rfl rfl (Nat.le_of_ble_eq_true rfl) dX1_init_9 (fun H locs hP hD hS => ?_)
  have hP : va_P D vwCl [(h, .inr (1, [.ref q0_, .null, .null, .int 0, .null, .null, .null, .null, .null])), (q0_, .inl (d, 96, .inl (fun _ => 0)))] H := hP
  have hD : va_D A [(h, .inr (1, [.ref q0_, .null, .null, .int 0, .null, .null, .null, .null, .null])), (q0_, .inl (d, 96, .inl (fun _ => 0)))] := hD
  refine lv_aload_n hx hb dX1_init_12 rfl (lv_at hl 0 rfl) ?_
  refine lv_bipush (v := 6) hx hb dX1_init_13 (by decide) ?_
  refine g_newi hx hb (hts _ q79) hK hP hD hS hA 6 (by decide) (by decide) (by decide) (Nat.le_of_ble_eq_true rfl) (Nat.le_of_ble_eq_true rfl) dX1_init_15 (fun q1_ H hP hD hS => ?_)
  have hP : va_P D vwCl [(h, .inr (1, [.ref q0_, .null, .null, .int 0, .null, .null, .null, .null, .null])), (q0_, .inl (d, 96, .inl (fun _ => 0))), (q1_, .inl (d, 6, .inl (fun _ => 0)))] H := hP
  have hD : va_D A [(h, .inr (1, [.ref q0_, .null, .null, .int 0, .null, .null, .null, .null, .null])), (q0_, .inl (d, 96, .inl (fun _ => 0))), (q1_, .inl (d, 6, .inl (fun _ => 0)))] := hD
  refine W.widen (k := 2) (n := 102) (Nat.le_of_ble_eq_true rfl) (Nat.le_of_ble_eq_true rfl) ?_
  refine va_putF (D := D) (ci := 1) (v := .ref q1_) (ty := .array .int) (C := RX1) (T := TX1) (N := 9) hx hb hts in_X1 tyX1 tyX1_ok nmX1 hown hK hP hD hS 0 rfl rfl 1 (by decide) (hts _ q174) (fun _ h9 => h9) rfl hin rfl (by decide +kernel) rfl rfl (Nat.le_of_ble_eq_true rfl) dX1_init_17 (fun H locs hP hD hS => ?_)
  have hP : va_P D vwCl [(h, .inr (1, [.ref q0_, .ref q1_, .null, .int 0, .null, .null, .null, .null, .null])), (q0_, .inl (d, 96, .inl (fun _ => 0))), (q1_, .inl (d, 6, .inl (fun _ => 0)))] H := hP
  have hD : va_D A [(h, .inr (1, [.ref q0_, .ref q1_, .null, .int 0, .null, .null, .null, .null, .null])), (q0_, .inl (d, 96, .inl (fun _ => 0))), (q1_, .inl (d, 6, .inl (fun _ => 0)))] := hD
  refine lv_aload_n hx hb dX1_init_20 rfl (lv_at hl 0 rfl) ?_
  refine lv_bipush (v := 36) hx hb dX1_init_21 (by decide) ?_
  refine g_newi hx hb (hts _ q79) hK hP hD hS hA 36 (by decide) (by decide) (by decide) (Nat.le_of_ble_eq_true rfl) (Nat.le_of_ble_eq_true rfl) dX1_init_23 (fun q2_ H hP hD hS => ?_)
  have hP : va_P D vwCl [(h, .inr (1, [.ref q0_, .ref q1_, .null, .int 0, .null, .null, .null, .null, .null])), (q0_, .inl (d, 96, .inl (fun _ => 0))), (q1_, .inl (d, 6, .inl (fun _ => 0))), (q2_, .inl (d, 36, .inl (fun _ => 0)))] H := hP
  have hD : va_D A [(h, .inr (1, [.ref q0_, .ref q1_, .null, .int 0, .null, .null, .null, .null, .null])), (q0_, .inl (d, 96, .inl (fun _ => 0))), (q1_, .inl (d, 6, .inl (fun _ => 0))), (q2_, .inl (d, 36, .inl (fun _ => 0)))] := hD
  refine W.widen (k := 3) (n := 138) (Nat.le_of_ble_eq_true rfl) (Nat.le_of_ble_eq_true rfl) ?_
  refine va_putF (D := D) (ci := 1) (v := .ref q2_) (ty := .array .int) (C := RX1) (T := TX1) (N := 9) hx hb hts in_X1 tyX1 tyX1_ok nmX1 hown hK hP hD hS 0 rfl rfl 2 (by decide) (hts _ q175) (fun _ h9 => h9) rfl hin rfl (by decide +kernel) rfl rfl (Nat.le_of_ble_eq_true rfl) dX1_init_25 (fun H locs hP hD hS => ?_)
  have hP : va_P D vwCl [(h, .inr (1, [.ref q0_, .ref q1_, .ref q2_, .int 0, .null, .null, .null, .null, .null])), (q0_, .inl (d, 96, .inl (fun _ => 0))), (q1_, .inl (d, 6, .inl (fun _ => 0))), (q2_, .inl (d, 36, .inl (fun _ => 0)))] H := hP
  have hD : va_D A [(h, .inr (1, [.ref q0_, .ref q1_, .ref q2_, .int 0, .null, .null, .null, .null, .null])), (q0_, .inl (d, 96, .inl (fun _ => 0))), (q1_, .inl (d, 6, .inl (fun _ => 0))), (q2_, .inl (d, 36, .inl (fun _ => 0)))] := hD
  refine lv_aload_n hx hb dX1_init_28 rfl (lv_at hl 0 rfl) ?_
  refine lv_bipush (v := 12) hx hb dX1_init_29 (by decide) ?_
  refine g_newi hx hb (hts _ q79) hK hP hD hS hA 12 (by decide) (by decide) (by decide) (Nat.le_of_ble_eq_true rfl) (Nat.le_of_ble_eq_true rfl) dX1_init_31 (fun q4_ H hP hD hS => ?_)
  have hP : va_P D vwCl [(h, .inr (1, [.ref q0_, .ref q1_, .ref q2_, .int 0, .null, .null, .null, .null, .null])), (q0_, .inl (d, 96, .inl (fun _ => 0))), (q1_, .inl (d, 6, .inl (fun _ => 0))), (q2_, .inl (d, 36, .inl (fun _ => 0))), (q4_, .inl (d, 12, .inl (fun _ => 0)))] H := hP
  have hD : va_D A [(h, .inr (1, [.ref q0_, .ref q1_, .ref q2_, .int 0, .null, .null, .null, .null, .null])), (q0_, .inl (d, 96, .inl (fun _ => 0))), (q1_, .inl (d, 6, .inl (fun _ => 0))), (q2_, .inl (d, 36, .inl (fun _ => 0))), (q4_, .inl (d, 12, .inl (fun _ => 0)))] := hD
  refine W.widen (k := 4) (n := 150) (Nat.le_of_ble_eq_true rfl) (Nat.le_of_ble_eq_true rfl) ?_
  refine va_putF (D := D) (ci := 1) (v := .ref q4_) (ty := .array .int) (C := RX1) (T := TX1) (N := 9) hx hb hts in_X1 tyX1 tyX1_ok nmX1 hown hK hP hD hS 0 rfl rfl 4 (by decide) (hts _ q177) (fun _ h9 => h9) rfl hin rfl (by decide +kernel) rfl rfl (Nat.le_of_ble_eq_true rfl) dX1_init_33 (fun H locs hP hD hS => ?_)
  have hP : va_P D vwCl [(h, .inr (1, [.ref q0_, .ref q1_, .ref q2_, .int 0, .ref q4_, .null, .null, .null, .null])), (q0_, .inl (d, 96, .inl (fun _ => 0))), (q1_, .inl (d, 6, .inl (fun _ => 0))), (q2_, .inl (d, 36, .inl (fun _ => 0))), (q4_, .inl (d, 12, .inl (fun _ => 0)))] H := hP
  have hD : va_D A [(h, .inr (1, [.ref q0_, .ref q1_, .ref q2_, .int 0, .ref q4_, .null, .null, .null, .null])), (q0_, .inl (d, 96, .inl (fun _ => 0))), (q1_, .inl (d, 6, .inl (fun _ => 0))), (q2_, .inl (d, 36, .inl (fun _ => 0))), (q4_, .inl (d, 12, .inl (fun _ => 0)))] := hD
  refine lv_aload_n hx hb dX1_init_36 rfl (lv_at hl 0 rfl) ?_
  refine lv_iconst (v := 2) hx hb dX1_init_37 (by decide) ?_
  refine g_newi hx hb (hts _ q79) hK hP hD hS hA 2 (by decide) (by decide) (by decide) (Nat.le_of_ble_eq_true rfl) (Nat.le_of_ble_eq_true rfl) dX1_init_38 (fun q5_ H hP hD hS => ?_)
  have hP : va_P D vwCl [(h, .inr (1, [.ref q0_, .ref q1_, .ref q2_, .int 0, .ref q4_, .null, .null, .null, .null])), (q0_, .inl (d, 96, .inl (fun _ => 0))), (q1_, .inl (d, 6, .inl (fun _ => 0))), (q2_, .inl (d, 36, .inl (fun _ => 0))), (q4_, .inl (d, 12, .inl (fun _ => 0))), (q5_, .inl (d, 2, .inl (fun _ => 0)))] H := hP
  have hD : va_D A [(h, .inr (1, [.ref q0_, .ref q1_, .ref q2_, .int 0, .ref q4_, .null, .null, .null, .null])), (q0_, .inl (d, 96, .inl (fun _ => 0))), (q1_, .inl (d, 6, .inl (fun _ => 0))), (q2_, .inl (d, 36, .inl (fun _ => 0))), (q4_, .inl (d, 12, .inl (fun _ => 0))), (q5_, .inl (d, 2, .inl (fun _ => 0)))] := hD
  refine W.widen (k := 5) (n := 152) (Nat.le_of_ble_eq_true rfl) (Nat.le_of_ble_eq_true rfl) ?_
  refine va_putF (D := D) (ci := 1) (v := .ref q5_) (ty := .array .int) (C := RX1) (T := TX1) (N := 9) hx hb hts in_X1 tyX1 tyX1_ok nmX1 hown hK hP hD hS 0 rfl rfl 5 (by decide) (hts _ q178) (fun _ h9 => h9) rfl hin rfl (by decide +kernel) rfl rfl (Nat.le_of_ble_eq_true rfl) dX1_init_40 (fun H locs hP hD hS => ?_)
  have hP : va_P D vwCl [(h, .inr (1, [.ref q0_, .ref q1_, .ref q2_, .int 0, .ref q4_, .ref q5_, .null, .null, .null])), (q0_, .inl (d, 96, .inl (fun _ => 0))), (q1_, .inl (d, 6, .inl (fun _ => 0))), (q2_, .inl (d, 36, .inl (fun _ => 0))), (q4_, .inl (d, 12, .inl (fun _ => 0))), (q5_, .inl (d, 2, .inl (fun _ => 0)))] H := hP
  have hD : va_D A [(h, .inr (1, [.ref q0_, .ref q1_, .ref q2_, .int 0, .ref q4_, .ref q5_, .null, .null, .null])), (q0_, .inl (d, 96, .inl (fun _ => 0))), (q1_, .inl (d, 6, .inl (fun _ => 0))), (q2_, .inl (d, 36, .inl (fun _ => 0))), (q4_, .inl (d, 12, .inl (fun _ => 0))), (q5_, .inl (d, 2, .inl (fun _ => 0)))] := hD
  refine lv_aload_n hx hb dX1_init_43 rfl (lv_at hl 0 rfl) ?_
  refine lv_iconst (v := 2) hx hb dX1_init_44 (by decide) ?_
  refine g_newi hx hb (hts _ q79) hK hP hD hS hA 2 (by decide) (by decide) (by decide) (Nat.le_of_ble_eq_true rfl) (Nat.le_of_ble_eq_true rfl) dX1_init_45 (fun q6_ H hP hD hS => ?_)
  have hP : va_P D vwCl [(h, .inr (1, [.ref q0_, .ref q1_, .ref q2_, .int 0, .ref q4_, .ref q5_, .null, .null, .null])), (q0_, .inl (d, 96, .inl (fun _ => 0))), (q1_, .inl (d, 6, .inl (fun _ => 0))), (q2_, .inl (d, 36, .inl (fun _ => 0))), (q4_, .inl (d, 12, .inl (fun _ => 0))), (q5_, .inl (d, 2, .inl (fun _ => 0))), (q6_, .inl (d, 2, .inl (fun _ => 0)))] H := hP
  have hD : va_D A [(h, .inr (1, [.ref q0_, .ref q1_, .ref q2_, .int 0, .ref q4_, .ref q5_, .null, .null, .null])), (q0_, .inl (d, 96, .inl (fun _ => 0))), (q1_, .inl (d, 6, .inl (fun _ => 0))), (q2_, .inl (d, 36, .inl (fun _ => 0))), (q4_, .inl (d, 12, .inl (fun _ => 0))), (q5_, .inl (d, 2, .inl (fun _ => 0))), (q6_, .inl (d, 2, .inl (fun _ => 0)))] := hD
  refine W.widen (k := 6) (n := 154) (Nat.le_of_ble_eq_true rfl) (Nat.le_of_ble_eq_true rfl) ?_
  refine va_putF (D := D) (ci := 1) (v := .ref q6_) (ty := .array .int) (C := RX1) (T := TX1) (N := 9) hx hb hts in_X1 tyX1 tyX1_ok nmX1 hown hK hP hD hS 0 rfl rfl 6 (by decide) (hts _ q179) (fun _ h9 => h9) rfl hin rfl (by decide +kernel) rfl rfl (Nat.le_of_ble_eq_true rfl) dX1_init_47 (fun H locs hP hD hS => ?_)
  have hP : va_P D vwCl [(h, .inr (1, [.ref q0_, .ref q1_, .ref q2_, .int 0, .ref q4_, .ref q5_, .ref q6_, .null, .null])), (q0_, .inl (d, 96, .inl (fun _ => 0))), (q1_, .inl (d, 6, .inl (fun _ => 0))), (q2_, .inl (d, 36, .inl (fun _ => 0))), (q4_, .inl (d, 12, .inl (fun _ => 0))), (q5_, .inl (d, 2, .inl (fun _ => 0))), (q6_, .inl (d, 2, .inl (fun _ => 0)))] H := hP
  have hD : va_D A [(h, .inr (1, [.ref q0_, .ref q1_, .ref q2_, .int 0, .ref q4_, .ref q5_, .ref q6_, .null, .null])), (q0_, .inl (d, 96, .inl (fun _ => 0))), (q1_, .inl (d, 6, .inl (fun _ => 0))), (q2_, .inl (d, 36, .inl (fun _ => 0))), (q4_, .inl (d, 12, .inl (fun _ => 0))), (q5_, .inl (d, 2, .inl (fun _ => 0))), (q6_, .inl (d, 2, .inl (fun _ => 0)))] := hD
  refine lv_aload_n hx hb dX1_init_50 rfl (lv_at hl 0 rfl) ?_
  refine lv_bipush (v := 16) hx hb dX1_init_51 (by decide) ?_
  refine g_newi hx hb (hts _ q79) hK hP hD hS hA 16 (by decide) (by decide) (by decide) (Nat.le_of_ble_eq_true rfl) (Nat.le_of_ble_eq_true rfl) dX1_init_53 (fun q7_ H hP hD hS => ?_)
  have hP : va_P D vwCl [(h, .inr (1, [.ref q0_, .ref q1_, .ref q2_, .int 0, .ref q4_, .ref q5_, .ref q6_, .null, .null])), (q0_, .inl (d, 96, .inl (fun _ => 0))), (q1_, .inl (d, 6, .inl (fun _ => 0))), (q2_, .inl (d, 36, .inl (fun _ => 0))), (q4_, .inl (d, 12, .inl (fun _ => 0))), (q5_, .inl (d, 2, .inl (fun _ => 0))), (q6_, .inl (d, 2, .inl (fun _ => 0))), (q7_, .inl (d, 16, .inl (fun _ => 0)))] H := hP
  have hD : va_D A [(h, .inr (1, [.ref q0_, .ref q1_, .ref q2_, .int 0, .ref q4_, .ref q5_, .ref q6_, .null, .null])), (q0_, .inl (d, 96, .inl (fun _ => 0))), (q1_, .inl (d, 6, .inl (fun _ => 0))), (q2_, .inl (d, 36, .inl (fun _ => 0))), (q4_, .inl (d, 12, .inl (fun _ => 0))), (q5_, .inl (d, 2, .inl (fun _ => 0))), (q6_, .inl (d, 2, .inl (fun _ => 0))), (q7_, .inl (d, 16, .inl (fun _ => 0)))] := hD
  refine W.widen (k := 7) (n := 170) (Nat.le_of_ble_eq_true rfl) (Nat.le_of_ble_eq_true rfl) ?_
  refine va_putF (D := D) (ci := 1) (v := .ref q7_) (ty := .array .int) (C := RX1) (T := TX1) (N := 9) hx hb hts in_X1 tyX1 tyX1_ok nmX1 hown hK hP hD hS 0 rfl rfl 7 (by decide) (hts _ q180) (fun _ h9 => h9) rfl hin rfl (by decide +kernel) rfl rfl (Nat.le_of_ble_eq_true rfl) dX1_init_55 (fun H locs hP hD hS => ?_)
  have hP : va_P D vwCl [(h, .inr (1, [.ref q0_, .ref q1_, .ref q2_, .int 0, .ref q4_, .ref q5_, .ref q6_, .ref q7_, .null])), (q0_, .inl (d, 96, .inl (fun _ => 0))), (q1_, .inl (d, 6, .inl (fun _ => 0))), (q2_, .inl (d, 36, .inl (fun _ => 0))), (q4_, .inl (d, 12, .inl (fun _ => 0))), (q5_, .inl (d, 2, .inl (fun _ => 0))), (q6_, .inl (d, 2, .inl (fun _ => 0))), (q7_, .inl (d, 16, .inl (fun _ => 0)))] H := hP
  have hD : va_D A [(h, .inr (1, [.ref q0_, .ref q1_, .ref q2_, .int 0, .ref q4_, .ref q5_, .ref q6_, .ref q7_, .null])), (q0_, .inl (d, 96, .inl (fun _ => 0))), (q1_, .inl (d, 6, .inl (fun _ => 0))), (q2_, .inl (d, 36, .inl (fun _ => 0))), (q4_, .inl (d, 12, .inl (fun _ => 0))), (q5_, .inl (d, 2, .inl (fun _ => 0))), (q6_, .inl (d, 2, .inl (fun _ => 0))), (q7_, .inl (d, 16, .inl (fun _ => 0)))] := hD
  refine lv_aload_n hx hb dX1_init_58 rfl (lv_at hl 0 rfl) ?_
  refine lv_bipush (v := 16) hx hb dX1_init_59 (by decide) ?_
  refine g_newi hx hb (hts _ q79) hK hP hD hS hA 16 (by decide) (by decide) (by decide) (Nat.le_of_ble_eq_true rfl) (Nat.le_of_ble_eq_true rfl) dX1_init_61 (fun q8_ H hP hD hS => ?_)
  have hP : va_P D vwCl [(h, .inr (1, [.ref q0_, .ref q1_, .ref q2_, .int 0, .ref q4_, .ref q5_, .ref q6_, .ref q7_, .null])), (q0_, .inl (d, 96, .inl (fun _ => 0))), (q1_, .inl (d, 6, .inl (fun _ => 0))), (q2_, .inl (d, 36, .inl (fun _ => 0))), (q4_, .inl (d, 12, .inl (fun _ => 0))), (q5_, .inl (d, 2, .inl (fun _ => 0))), (q6_, .inl (d, 2, .inl (fun _ => 0))), (q7_, .inl (d, 16, .inl (fun _ => 0))), (q8_, .inl (d, 16, .inl (fun _ => 0)))] H := hP
  have hD : va_D A [(h, .inr (1, [.ref q0_, .ref q1_, .ref q2_, .int 0, .ref q4_, .ref q5_, .ref q6_, .ref q7_, .null])), (q0_, .inl (d, 96, .inl (fun _ => 0))), (q1_, .inl (d, 6, .inl (fun _ => 0))), (q2_, .inl (d, 36, .inl (fun _ => 0))), (q4_, .inl (d, 12, .inl (fun _ => 0))), (q5_, .inl (d, 2, .inl (fun _ => 0))), (q6_, .inl (d, 2, .inl (fun _ => 0))), (q7_, .inl (d, 16, .inl (fun _ => 0))), (q8_, .inl (d, 16, .inl (fun _ => 0)))] := hD
  refine W.widen (k := 8) (n := 186) (Nat.le_of_ble_eq_true rfl) (Nat.le_of_ble_eq_true rfl) ?_
  refine va_putF (D := D) (ci := 1) (v := .ref q8_) (ty := .array .int) (C := RX1) (T := TX1) (N := 9) hx hb hts in_X1 tyX1 tyX1_ok nmX1 hown hK hP hD hS 0 rfl rfl 8 (by decide) (hts _ q181) (fun _ h9 => h9) rfl hin rfl (by decide +kernel) rfl rfl (Nat.le_of_ble_eq_true rfl) dX1_init_63 (fun H locs hP hD hS => ?_)
  have hP : va_P D vwCl [(h, .inr (1, [.ref q0_, .ref q1_, .ref q2_, .int 0, .ref q4_, .ref q5_, .ref q6_, .ref q7_, .ref q8_])), (q0_, .inl (d, 96, .inl (fun _ => 0))), (q1_, .inl (d, 6, .inl (fun _ => 0))), (q2_, .inl (d, 36, .inl (fun _ => 0))), (q4_, .inl (d, 12, .inl (fun _ => 0))), (q5_, .inl (d, 2, .inl (fun _ => 0))), (q6_, .inl (d, 2, .inl (fun _ => 0))), (q7_, .inl (d, 16, .inl (fun _ => 0))), (q8_, .inl (d, 16, .inl (fun _ => 0)))] H := hP
  have hD : va_D A [(h, .inr (1, [.ref q0_, .ref q1_, .ref q2_, .int 0, .ref q4_, .ref q5_, .ref q6_, .ref q7_, .ref q8_])), (q0_, .inl (d, 96, .inl (fun _ => 0))), (q1_, .inl (d, 6, .inl (fun _ => 0))), (q2_, .inl (d, 36, .inl (fun _ => 0))), (q4_, .inl (d, 12, .inl (fun _ => 0))), (q5_, .inl (d, 2, .inl (fun _ => 0))), (q6_, .inl (d, 2, .inl (fun _ => 0))), (q7_, .inl (d, 16, .inl (fun _ => 0))), (q8_, .inl (d, 16, .inl (fun _ => 0)))] := hD
  refine lv_iconst (v := 0) hx hb dX1_init_66 (by decide) ?_
  refine tp (y := nI 0) rfl ?_
  refine lv_istore_n (lv' := [(1, .int (nI 0)), (0, .ref h)]) hx hb dX1_init_67 rfl hl (by decide) rfl (fun ls hl => ?_)
  refine m_init_loop (a := (fun k => ([q0_, q1_, q2_, 0, q4_, q5_, q6_, q7_, q8_] : List Nat).getD k 0)) (d := d) (z := z) (A := A) ⟨hx, hb, hr, hlocks, hml, hown, hts, hK, hA⟩ (fun H locs ls B => ?_) 97 0 (by omega) (by omega) _ _ ls ⟨hP, hD, hS⟩ (lv_sub hl [1, 0] rfl)
  exact W.vret hx hb hr (fun t ht hW => ⟨⟨(fun k => ([q0_, q1_, q2_, 0, q4_, q5_, q6_, q7_, q8_] : List Nat).getD k 0), rfl, trivial, by rw [ht]; exact B.1, va_K.moved hW.alike hK, B.2.1⟩, B.2.2.F ht⟩) B.2.2.2.2 dX1_init_87
end
section
set_option maxRecDepth 100000
set_option maxHeartbeats 1000000
/-! plain laws 1: order, sums over a period, looking back, the greatest -/
theorem i_tr {a b c : Int32} (h1 : a ≤ b) (h2 : b ≤ c) : a ≤ c := by
  rw [Int32.le_iff_toInt_le] at *; omega
theorem i_as {a b : Int32} (h1 : a ≤ b) (h2 : b ≤ a) : a = b := by
  rw [Int32.le_iff_toInt_le] at *; exact Int32.toInt_inj.mp (by omega)
theorem i_rf (a : Int32) : a ≤ a := by rw [Int32.le_iff_toInt_le]; omega
theorem i_nl {a b : Int32} (h : ¬ a ≤ b) : b ≤ a := by
  rw [Int32.le_iff_toInt_le] at *; omega
theorem i_nt {a b : Int32} (h : ¬ a < b) : b ≤ a := by
  rw [Int32.lt_iff_toInt_lt] at h; rw [Int32.le_iff_toInt_le]; omega
theorem i_lt {a b : Int32} (h : a < b) : a ≤ b := by
  rw [Int32.lt_iff_toInt_lt] at h; rw [Int32.le_iff_toInt_le]; omega
theorem i_ln {a b : Int32} (h : a ≤ b) : ¬ b < a := by
  rw [Int32.le_iff_toInt_le] at h; rw [Int32.lt_iff_toInt_lt]; omega
/-- the sum over the places n with n / 8 = q -/
def gs (g : Nat → Int32) (q : Nat) : Nat → Int32
  | 0 => 0
  | n + 1 => if n / 8 = q then gs g q n + g n else gs g q n
theorem gs_congr {g g' : Nat → Int32} {q : Nat} : ∀ n : Nat, (∀ i, i < n → i / 8 = q → g' i = g i) → gs g' q n = gs g q n := by
  intro n
  induction n with
  | zero => intro _; rfl
  | succ n ih =>
    intro h
    rw [gs, gs, ih (fun i hi hq => h i (by omega) hq)]
    by_cases hq : n / 8 = q
    · rw [if_pos hq, if_pos hq, h n (by omega) hq]
    · rw [if_neg hq, if_neg hq]
theorem gs_upd {g g' : Nat → Int32} {q iv : Nat} (hv : iv / 8 = q) (h : ∀ i, i ≠ iv → g' i = g i) : ∀ n : Nat, iv < n → gs g' q n = gs g q n + (g' iv - g iv) := by
  intro n
  induction n with
  | zero => intro h0; omega
  | succ n ih =>
    intro hn
    rw [gs, gs]
    by_cases e : iv = n
    · subst e
      rw [gs_congr (g := g) (g' := g') iv (fun i hi _ => h i (by omega)), if_pos hv, if_pos hv]
      grind
    · rw [ih (by omega)]
      by_cases hq : n / 8 = q
      · rw [if_pos hq, if_pos hq, h n (fun e2 => e e2.symm)]
        grind
      · rw [if_neg hq, if_neg hq]
def f_c1 (x : Int32) : Int32 := if x < 0 then 0 else 1
def f_s1 (x : Int32) : Int32 := if x < 0 then 0 else x
theorem m_sum_gs (M : g_S) (ac q n : Nat) : m_sum M ac q n = gs (fun i => f_s1 (M 0 (ac * 48 + i))) q n := by
  induction n with
  | zero => rfl
  | succ n ih =>
    rw [m_sum, gs, ih]
    by_cases hq : n / 8 = q
    · rw [if_pos hq, if_pos hq]
      by_cases hx : M 0 (ac * 48 + n) < 0
      · have e : f_s1 (M 0 (ac * 48 + n)) = 0 := by rw [f_s1, if_pos hx]
        rw [if_pos hx, e]; grind
      · have e : f_s1 (M 0 (ac * 48 + n)) = M 0 (ac * 48 + n) := by rw [f_s1, if_neg hx]
        rw [if_neg hx, e]
    · rw [if_neg hq, if_neg hq]
theorem m_cnt_gs (M : g_S) (ac q n : Nat) : nI (m_cnt M ac q n) = gs (fun i => f_c1 (M 0 (ac * 48 + i))) q n := by
  induction n with
  | zero => rfl
  | succ n ih =>
    rw [m_cnt, gs, ← ih]
    by_cases hq : n / 8 = q
    · rw [if_pos hq, if_pos hq]
      by_cases hx : M 0 (ac * 48 + n) < 0
      · have e : f_c1 (M 0 (ac * 48 + n)) = 0 := by rw [f_c1, if_pos hx]
        rw [if_pos hx, e]; grind
      · have e : f_c1 (M 0 (ac * 48 + n)) = 1 := by rw [f_c1, if_neg hx]
        rw [if_neg hx, e]; exact (nI_1 _).symm
    · rw [if_neg hq, if_neg hq]
/-! looking back -/
theorem x_mean_congr {S S' : g_S} {ac q : Nat} (h6 : S' 6 (ac * 6 + q) = S 6 (ac * 6 + q)) (h7 : S' 7 (ac * 6 + q) = S 7 (ac * 6 + q)) : x_mean S' ac q = x_mean S ac q := by
  rw [x_mean, x_mean, h6, h7]
theorem x_look_congr {S S' : g_S} {ac iv r : Nat} (hm : x_mean S' ac (iv / 8) = x_mean S ac (iv / 8)) : ∀ k : Nat, (∀ t, t ≤ k → S' 3 (ac * 48 + (t * 8 + r)) = S 3 (ac * 48 + (t * 8 + r)) ∧ S' 4 (ac * 48 + (t * 8 + r)) = S 4 (ac * 48 + (t * 8 + r))) → x_look S' ac iv r k = x_look S ac iv r k := by
  intro k
  induction k with
  | zero =>
    intro h
    obtain ⟨h3, h4⟩ := h 0 (Nat.le_refl 0)
    rw [x_look, x_look, h3, h4, hm]
  | succ k ih =>
    intro h
    obtain ⟨h3, h4⟩ := h (k + 1) (Nat.le_refl _)
    rw [x_look, x_look, h3, h4, ih (fun t ht => h t (by omega))]
theorem x_look_stop {S S' : g_S} {ac iv r t0 : Nat} (hz : ¬ S' 3 (ac * 48 + (t0 * 8 + r)) = 0) : ∀ k : Nat, t0 ≤ k → (∀ t, t0 ≤ t → t ≤ k → S' 3 (ac * 48 + (t * 8 + r)) = S 3 (ac * 48 + (t * 8 + r)) ∧ S' 4 (ac * 48 + (t * 8 + r)) = S 4 (ac * 48 + (t * 8 + r))) → x_look S' ac iv r k = x_look S ac iv r k := by
  intro k
  induction k with
  | zero =>
    intro h0 h
    obtain rfl : t0 = 0 := by omega
    obtain ⟨h3, h4⟩ := h 0 (Nat.le_refl 0) (Nat.le_refl 0)
    have hz' : ¬ S 3 (ac * 48 + (0 * 8 + r)) = 0 := by rw [← h3]; exact hz
    rw [x_look, x_look, if_neg hz, if_neg hz', h4]
  | succ k ih =>
    intro h0 h
    obtain ⟨h3, h4⟩ := h (k + 1) h0 (Nat.le_refl _)
    by_cases e : t0 = k + 1
    · subst e
      have hz' : ¬ S 3 (ac * 48 + ((k + 1) * 8 + r)) = 0 := by rw [← h3]; exact hz
      rw [x_look, x_look, if_neg hz, if_neg hz', h4]
    · rw [x_look, x_look, h3, h4, ih (by omega) (fun t h1 h2 => h t h1 (by omega))]
theorem x_rule_congr {S S' : g_S} (h3 : S' 3 = S 3) (h4 : S' 4 = S 4) (h6 : S' 6 = S 6) (h7 : S' 7 = S 7) (ac iv : Nat) : x_rule S' ac iv = x_rule S ac iv := by
  rw [x_rule, x_rule]
  exact x_look_congr (x_mean_congr (by rw [h6]) (by rw [h7])) _ (fun t _ => ⟨by rw [h3], by rw [h4]⟩)
/-! the greatest -/
def mxf (f : Nat → Int32) : Nat → Int32
  | 0 => 0
  | n + 1 => if f n ≤ mxf f n then mxf f n else f n
theorem x_most_mxf (S : g_S) (st n : Nat) : x_most S st n = mxf (fun i => S 5 (st + i)) n := by
  induction n with
  | zero => rfl
  | succ n ih => rw [x_most, mxf, ih]
theorem m_mo_mxf (M : g_S) (ac p n : Nat) : m_mo M ac p n = mxf (fun i => m_use M ac (p * 8 + i)) n := by
  induction n with
  | zero => rfl
  | succ n ih => rw [m_mo, mxf, ih]
theorem mxf_congr {f g : Nat → Int32} : ∀ n : Nat, (∀ i, i < n → f i = g i) → mxf f n = mxf g n := by
  intro n
  induction n with
  | zero => intro _; rfl
  | succ n ih =>
    intro h
    rw [mxf, mxf, ih (fun i hi => h i (by omega)), h n (by omega)]
theorem mxf_ub (f : Nat → Int32) : ∀ n : Nat, 0 ≤ mxf f n ∧ ∀ i, i < n → f i ≤ mxf f n := by
  intro n
  induction n with
  | zero => exact ⟨by rw [mxf]; exact i_rf 0, fun i hi => by omega⟩
  | succ n ih =>
    rw [mxf]
    by_cases h : f n ≤ mxf f n
    · rw [if_pos h]
      refine ⟨ih.1, fun i hi => ?_⟩
      by_cases e : i = n
      · rw [e]; exact h
      · exact ih.2 i (by omega)
    · rw [if_neg h]
      refine ⟨i_tr ih.1 (i_nl h), fun i hi => ?_⟩
      by_cases e : i = n
      · rw [e]; exact i_rf _
      · exact i_tr (ih.2 i (by omega)) (i_nl h)
theorem mxf_at (f : Nat → Int32) : ∀ n : Nat, mxf f n = 0 ∨ ∃ i, i < n ∧ f i = mxf f n := by
  intro n
  induction n with
  | zero => exact Or.inl rfl
  | succ n ih =>
    rw [mxf]
    by_cases h : f n ≤ mxf f n
    · rw [if_pos h]
      rcases ih with e | ⟨i, hi, e⟩
      · exact Or.inl e
      · exact Or.inr ⟨i, by omega, e⟩
    · rw [if_neg h]
      exact Or.inr ⟨n, by omega, rfl⟩
theorem mxf_uniq {f : Nat → Int32} {n : Nat} {v : Int32} (h0 : 0 ≤ v) (hu : ∀ i, i < n → f i ≤ v) (ha : v = 0 ∨ ∃ i, i < n ∧ f i = v) : mxf f n = v := by
  apply i_as
  · rcases mxf_at f n with e | ⟨i, hi, e⟩
    · rw [e]; exact h0
    · rw [← e]; exact hu i hi
  · rcases ha with e | ⟨i, hi, e⟩
    · rw [e]; exact (mxf_ub f n).1
    · rw [← e]; exact (mxf_ub f n).2 i hi
/-- one value changes, and the greatest is at most it -/
theorem mxf_up {f f' : Nat → Int32} {n r : Nat} (hr : r < n) (ho : ∀ i, i ≠ r → f' i = f i) (h : mxf f n ≤ f' r) : mxf f' n = f' r := by
  refine mxf_uniq (i_tr (mxf_ub f n).1 h) (fun i hi => ?_) (Or.inr ⟨r, hr, rfl⟩)
  by_cases e : i = r
  · rw [e]; exact i_rf _
  · rw [ho i e]; exact i_tr ((mxf_ub f n).2 i hi) h
/-- one value changes that was not the greatest, and stays below it -/
theorem mxf_stay {f f' : Nat → Int32} {n r : Nat} (ho : ∀ i, i ≠ r → f' i = f i) (h : f' r < mxf f n) (hb : ¬ f r = mxf f n) : mxf f' n = mxf f n := by
  refine mxf_uniq (mxf_ub f n).1 (fun i hi => ?_) ?_
  · by_cases e : i = r
    · rw [e]; exact i_lt h
    · rw [ho i e]; exact (mxf_ub f n).2 i hi
  · rcases mxf_at f n with e | ⟨i, hi, e⟩
    · exact Or.inl e
    · refine Or.inr ⟨i, hi, ?_⟩
      rw [ho i (fun q => hb (by rw [← q]; exact e))]
      exact e
end
section
set_option maxRecDepth 100000
set_option maxHeartbeats 2000000
/-! plain laws 2: the sums and the greatest of a period, kept by an update; usages brought up to date -/
/-- the kept sums and greatest of period q are those of its usages -/
def agg1 (S : g_S) (ac q : Nat) : Prop := S 8 (ac * 6 + q) = S 5 (ac * 48 + q * 8) + S 5 (ac * 48 + q * 8 + 1) + S 5 (ac * 48 + q * 8 + 2) ∧ S 9 (ac * 6 + q) = S 5 (ac * 48 + q * 8 + 3) + S 5 (ac * 48 + q * 8 + 4) ∧ S 10 (ac * 6 + q) = S 5 (ac * 48 + q * 8 + 5) + S 5 (ac * 48 + q * 8 + 6) + S 5 (ac * 48 + q * 8 + 7) ∧ S 11 (ac * 6 + q) = x_most S (ac * 48 + q * 8) 8
def r_ag (S : g_S) : Prop := ∀ ac q : Nat, ac < 2 → q < 6 → agg1 S ac q
def r_us (S : g_S) : Prop := ∀ ac iv : Nat, ac < 2 → iv < 48 → S 5 (ac * 48 + iv) = x_rule S ac iv
theorem upd_s (f : Nat → Int32) (k : Nat) (x : Int32) : upd f k x k = x := by simp [upd]
theorem upd_o (f : Nat → Int32) {k j : Nat} (x : Int32) (h : j ≠ k) : upd f k x j = f j := by simp [upd, h]
theorem upd_id (f : Nat → Int32) (k : Nat) : upd f k (f k) = f := by
  funext j
  by_cases h : j = k
  · rw [h, upd_s]
  · rw [upd_o _ _ h]
theorem x_upd_5 (S : g_S) (ac iv : Nat) : x_upd S ac iv 5 = upd (S 5) (ac * 48 + iv) (x_rule S ac iv) := by
  unfold x_upd
  by_cases h : x_rule S ac iv = S 5 (ac * 48 + iv)
  · rw [if_pos h, h, upd_id]
  · rw [if_neg h, x_grt_o _ _ _ _ (by decide), x_band_o _ _ _ _ (by decide) (by decide) (by decide), up2_s]
theorem agg1_congr {S S' : g_S} {ac q : Nat} (h5 : ∀ n, n < 8 → S' 5 (ac * 48 + q * 8 + n) = S 5 (ac * 48 + q * 8 + n)) (h8 : S' 8 (ac * 6 + q) = S 8 (ac * 6 + q)) (h9 : S' 9 (ac * 6 + q) = S 9 (ac * 6 + q)) (h10 : S' 10 (ac * 6 + q) = S 10 (ac * 6 + q)) (h11 : S' 11 (ac * 6 + q) = S 11 (ac * 6 + q)) (h : agg1 S ac q) : agg1 S' ac q := by
  obtain ⟨a1, a2, a3, a4⟩ := h
  have e0 := h5 0 (by decide)
  rw [Nat.add_zero] at e0
  refine ⟨?_, ?_, ?_, ?_⟩
  · rw [h8, a1, e0, h5 1 (by decide), h5 2 (by decide)]
  · rw [h9, a2, h5 3 (by decide), h5 4 (by decide)]
  · rw [h10, a3, h5 5 (by decide), h5 6 (by decide), h5 7 (by decide)]
  · rw [h11, a4, x_most_mxf, x_most_mxf]
    exact (mxf_congr 8 (fun i hi => (h5 i hi))).symm
theorem band_ok (S : g_S) (c b r : Nat) (now : Int32) (hr : r < 8) (h8 : S 8 c = S 5 b + S 5 (b + 1) + S 5 (b + 2)) (h9 : S 9 c = S 5 (b + 3) + S 5 (b + 4)) (h10 : S 10 c = S 5 (b + 5) + S 5 (b + 6) + S 5 (b + 7)) :
    x_band (up2 S 5 (b + r) now) c r (now - S 5 (b + r)) 8 c = upd (S 5) (b + r) now b + upd (S 5) (b + r) now (b + 1) + upd (S 5) (b + r) now (b + 2)
    ∧ x_band (up2 S 5 (b + r) now) c r (now - S 5 (b + r)) 9 c = upd (S 5) (b + r) now (b + 3) + upd (S 5) (b + r) now (b + 4)
    ∧ x_band (up2 S 5 (b + r) now) c r (now - S 5 (b + r)) 10 c = upd (S 5) (b + r) now (b + 5) + upd (S 5) (b + r) now (b + 6) + upd (S 5) (b + r) now (b + 7) := by
  have hr8 : r = 0 ∨ r = 1 ∨ r = 2 ∨ r = 3 ∨ r = 4 ∨ r = 5 ∨ r = 6 ∨ r = 7 := by omega
  rcases hr8 with rfl | rfl | rfl | rfl | rfl | rfl | rfl | rfl
  · refine ⟨?_, ?_, ?_⟩ <;> simp [x_band, g_inc, up2, upd, h8, h9, h10] <;> grind
  · refine ⟨?_, ?_, ?_⟩ <;> simp [x_band, g_inc, up2, upd, h8, h9, h10] <;> grind
  · refine ⟨?_, ?_, ?_⟩ <;> simp [x_band, g_inc, up2, upd, h8, h9, h10] <;> grind
  · refine ⟨?_, ?_, ?_⟩ <;> simp [x_band, g_inc, up2, upd, h8, h9, h10] <;> grind
  · refine ⟨?_, ?_, ?_⟩ <;> simp [x_band, g_inc, up2, upd, h8, h9, h10] <;> grind
  · refine ⟨?_, ?_, ?_⟩ <;> simp [x_band, g_inc, up2, upd, h8, h9, h10] <;> grind
  · refine ⟨?_, ?_, ?_⟩ <;> simp [x_band, g_inc, up2, upd, h8, h9, h10] <;> grind
  · refine ⟨?_, ?_, ?_⟩ <;> simp [x_band, g_inc, up2, upd, h8, h9, h10] <;> grind
theorem x_band_c (S : g_S) (cell slot : Nat) (v : Int32) (k : Nat) {c : Nat} (h : c ≠ cell) : x_band S cell slot v k c = S k c := by
  unfold x_band g_inc up2
  split
  · split
    · by_cases e : k = 10
      · subst e; simp only [if_true]; exact upd_o _ _ h
      · simp only [e, if_false]
    · by_cases e : k = 9
      · subst e; simp only [if_true]; exact upd_o _ _ h
      · simp only [e, if_false]
  · by_cases e : k = 8
    · subst e; simp only [if_true]; exact upd_o _ _ h
    · simp only [e, if_false]
theorem x_grt_c (S : g_S) (cell : Nat) (now before : Int32) (k : Nat) {c : Nat} (h : c ≠ cell) : x_grt S cell now before k c = S k c := by
  unfold x_grt x_resc up2
  split
  · split
    · by_cases e : k = 11
      · subst e; simp only [if_true]; exact upd_o _ _ h
      · simp only [e, if_false]
    · rfl
  · by_cases e : k = 11
    · subst e; simp only [if_true]; exact upd_o _ _ h
    · simp only [e, if_false]
theorem x_upd_c (S : g_S) (ac iv k : Nat) {c : Nat} (h5 : k ≠ 5) (h : c ≠ ac * 6 + iv / 8) : x_upd S ac iv k c = S k c := by
  unfold x_upd
  split
  · rfl
  · rw [x_grt_c _ _ _ _ _ h, x_band_c _ _ _ _ _ h, up2_o _ _ _ h5]
theorem x_upd_ag {S : g_S} {ac iv : Nat} (hac : ac < 2) (hiv : iv < 48) (h : r_ag S) : r_ag (x_upd S ac iv) := by
  intro ac' q' hac' hq'
  by_cases e : ac' * 6 + q' = ac * 6 + iv / 8
  · obtain rfl : ac' = ac := by omega
    obtain rfl : q' = iv / 8 := by omega
    obtain ⟨a1, a2, a3, a4⟩ := h ac' (iv / 8) hac' hq'
    by_cases hc : x_rule S ac' iv = S 5 (ac' * 48 + iv)
    · have e0 : x_upd S ac' iv = S := by rw [x_upd, if_pos hc]
      rw [e0]
      exact ⟨a1, a2, a3, a4⟩
    · have hr : iv % 8 < 8 := Nat.mod_lt _ (by decide)
      have eat : ac' * 48 + iv = ac' * 48 + iv / 8 * 8 + iv % 8 := by omega
      have h5 := x_upd_5 S ac' iv
      have hb := band_ok S (ac' * 6 + iv / 8) (ac' * 48 + iv / 8 * 8) (iv % 8) (x_rule S ac' iv) hr a1 a2 a3
      have ex : x_upd S ac' iv = x_grt (x_band (up2 S 5 (ac' * 48 + iv) (x_rule S ac' iv)) (ac' * 6 + iv / 8) (iv % 8) (x_rule S ac' iv - S 5 (ac' * 48 + iv))) (ac' * 6 + iv / 8) (x_rule S ac' iv) (S 5 (ac' * 48 + iv)) := by rw [x_upd, if_neg hc]
      rw [← eat] at hb
      obtain ⟨b1, b2, b3⟩ := hb
      unfold agg1
      rw [h5]
      refine ⟨?_, ?_, ?_, ?_⟩
      · rw [ex, x_grt_o _ _ _ _ (by decide)]; exact b1
      · rw [ex, x_grt_o _ _ _ _ (by decide)]; exact b2
      · rw [ex, x_grt_o _ _ _ _ (by decide)]; exact b3
      · rw [x_most_mxf, h5, ex]
        have e11 : ∀ c, x_band (up2 S 5 (ac' * 48 + iv) (x_rule S ac' iv)) (ac' * 6 + iv / 8) (iv % 8) (x_rule S ac' iv - S 5 (ac' * 48 + iv)) 11 c = S 11 c := fun c => by
          rw [x_band_o _ _ _ _ (by decide) (by decide) (by decide), up2_o _ _ _ (by decide)]
        have e5 : x_band (up2 S 5 (ac' * 48 + iv) (x_rule S ac' iv)) (ac' * 6 + iv / 8) (iv % 8) (x_rule S ac' iv - S 5 (ac' * 48 + iv)) 5 = upd (S 5) (ac' * 48 + iv) (x_rule S ac' iv) := by
          rw [x_band_o _ _ _ _ (by decide) (by decide) (by decide), up2_s]
        generalize x_band (up2 S 5 (ac' * 48 + iv) (x_rule S ac' iv)) (ac' * 6 + iv / 8) (iv % 8) (x_rule S ac' iv - S 5 (ac' * 48 + iv)) = S2 at e11 e5
        rw [x_most_mxf] at a4
        have ho : ∀ i, i ≠ iv % 8 → upd (S 5) (ac' * 48 + iv) (x_rule S ac' iv) (ac' * 48 + iv / 8 * 8 + i) = S 5 (ac' * 48 + iv / 8 * 8 + i) := fun i hi => upd_o _ _ (by omega)
        have hn : upd (S 5) (ac' * 48 + iv) (x_rule S ac' iv) (ac' * 48 + iv / 8 * 8 + iv % 8) = x_rule S ac' iv := by rw [← eat, upd_s]
        unfold x_grt
        by_cases h1 : x_rule S ac' iv < S2 11 (ac' * 6 + iv / 8)
        · rw [if_pos h1]
          by_cases h2 : S 5 (ac' * 48 + iv) = S2 11 (ac' * 6 + iv / 8)
          · rw [if_pos h2, x_resc, up2_s, upd_s, x_most_mxf, e5]
            rw [show (ac' * 6 + iv / 8) / 6 * 48 + (ac' * 6 + iv / 8) % 6 * 8 = ac' * 48 + iv / 8 * 8 by omega]
          · rw [if_neg h2, e11, a4]
            rw [e11, a4] at h1 h2
            refine (mxf_stay (f := fun i => S 5 (ac' * 48 + iv / 8 * 8 + i)) (r := iv % 8) ho ?_ ?_).symm
            · rw [hn]; exact h1
            · intro q
              exact h2 (by rw [eat]; exact q)
        · rw [if_neg h1, up2_s, upd_s]
          rw [e11, a4] at h1
          refine ((mxf_up (f := fun i => S 5 (ac' * 48 + iv / 8 * 8 + i)) (r := iv % 8) hr ho ?_).trans hn).symm
          rw [hn]; exact i_nt h1
  · refine agg1_congr (S := S) (fun n hn => ?_) (x_upd_c _ _ _ _ (by decide) e) (x_upd_c _ _ _ _ (by decide) e) (x_upd_c _ _ _ _ (by decide) e) (x_upd_c _ _ _ _ (by decide) e) (h ac' q' hac' hq')
    rw [x_upd_5, upd_o _ _ (by omega)]
theorem x_own_ag {S : g_S} {ac P : Nat} (hac : ac < 2) (hP : P < 6) (h : r_ag S) : ∀ n : Nat, n ≤ 8 → r_ag (x_own S ac P n) := by
  intro n
  induction n with
  | zero => intro _; exact h
  | succ n ih => intro hn; rw [x_own]; exact x_upd_ag hac (by omega) (ih (by omega))
theorem x_chain_ag {ac r : Nat} (hac : ac < 2) (hr : r < 8) : ∀ (k : Nat) (S : g_S), k ≤ 5 → r_ag S → r_ag (x_chain ac r k S) := by
  intro k
  induction k with
  | zero => intro S _ h; exact h
  | succ k ih =>
    intro S hk h
    rw [x_chain]
    split
    · exact ih _ (by omega) (x_upd_ag hac (by omega) h)
    · exact h
theorem x_used_ag {S : g_S} {ac iv : Nat} (hac : ac < 2) (hiv : iv < 48) (h : r_ag S) : r_ag (x_used S ac iv) :=
  x_chain_ag hac (Nat.mod_lt _ (by decide)) _ _ (by omega) (x_own_ag hac (by omega) h 8 (Nat.le_refl 8))
theorem x_upd_rule (S : g_S) (ac iv ac' iv' : Nat) : x_rule (x_upd S ac iv) ac' iv' = x_rule S ac' iv' :=
  x_rule_congr (x_upd_o _ _ _ (by decide) (by decide) (by decide) (by decide) (by decide)) (x_upd_o _ _ _ (by decide) (by decide) (by decide) (by decide) (by decide)) (x_upd_o _ _ _ (by decide) (by decide) (by decide) (by decide) (by decide)) (x_upd_o _ _ _ (by decide) (by decide) (by decide) (by decide) (by decide)) ac' iv'
theorem x_own_rule (S : g_S) (ac P n ac' iv' : Nat) : x_rule (x_own S ac P n) ac' iv' = x_rule S ac' iv' := by
  induction n with
  | zero => rfl
  | succ n ih => rw [x_own, x_upd_rule, ih]
theorem x_own_5 (S : g_S) (ac P : Nat) : ∀ n : Nat, (∀ i, i < n → x_own S ac P n 5 (ac * 48 + (P * 8 + i)) = x_rule S ac (P * 8 + i)) ∧ ∀ j, (∀ i, i < n → j ≠ ac * 48 + (P * 8 + i)) → x_own S ac P n 5 j = S 5 j := by
  intro n
  induction n with
  | zero => exact ⟨fun i hi => by omega, fun j _ => rfl⟩
  | succ n ih =>
    rw [x_own, x_upd_5, x_own_rule]
    refine ⟨fun i hi => ?_, fun j hj => ?_⟩
    · by_cases e : i = n
      · rw [e, upd_s]
      · rw [upd_o _ _ (by omega)]
        exact ih.1 i (by omega)
    · rw [upd_o _ _ (hj n (by omega))]
      exact ih.2 j (fun i hi => hj i (by omega))
theorem x_chain_5 (ac r : Nat) : ∀ (k : Nat) (S : g_S), k ≤ 5 → (∀ t, 6 - k ≤ t → t < 6 → (∀ u, 6 - k ≤ u → u ≤ t → S 3 (ac * 48 + (u * 8 + r)) = 0) → x_chain ac r k S 5 (ac * 48 + (t * 8 + r)) = x_rule S ac (t * 8 + r)) ∧ ∀ j, (∀ t, 6 - k ≤ t → t < 6 → (∀ u, 6 - k ≤ u → u ≤ t → S 3 (ac * 48 + (u * 8 + r)) = 0) → j ≠ ac * 48 + (t * 8 + r)) → x_chain ac r k S 5 j = S 5 j := by
  intro k
  induction k with
  | zero => intro S hk; exact ⟨fun t h1 h2 => by omega, fun j _ => rfl⟩
  | succ k ih =>
    intro S hk
    rw [x_chain]
    by_cases h3 : S 3 (ac * 48 + ((5 - k) * 8 + r)) = 0
    · rw [if_pos h3]
      obtain ⟨ih1, ih2⟩ := ih (x_upd S ac ((5 - k) * 8 + r)) (by omega)
      have e3 : x_upd S ac ((5 - k) * 8 + r) 3 = S 3 := x_upd_o _ _ _ (by decide) (by decide) (by decide) (by decide) (by decide)
      rw [e3] at ih1 ih2
      refine ⟨fun t h1 h2 hu => ?_, fun j hj => ?_⟩
      · by_cases e : t = 5 - k
        · rw [ih2 _ (fun t' h1' h2' _ => by omega), x_upd_5, e, upd_s]
        · rw [ih1 t (by omega) h2 (fun u hu1 hu2 => hu u (by omega) hu2), x_upd_rule]
      · rw [ih2 j (fun t h1 h2 hu => hj t (by omega) h2 (fun u hu1 hu2 => ?_)), x_upd_5]
        · exact upd_o _ _ (hj (5 - k) (by omega) (by omega) (fun u hu1 hu2 => by rw [show u = 5 - k by omega]; exact h3))
        · by_cases e : u = 5 - k
          · rw [e]; exact h3
          · exact hu u (by omega) hu2
    · rw [if_neg h3]
      exact ⟨fun t h1 h2 hu => absurd (hu (5 - k) (by omega) (by omega)) h3, fun j _ => rfl⟩
theorem x_used_rule (S : g_S) (ac iv ac' iv' : Nat) : x_rule (x_used S ac iv) ac' iv' = x_rule S ac' iv' :=
  x_rule_congr (x_used_o _ _ _ (by decide) (by decide) (by decide) (by decide) (by decide)) (x_used_o _ _ _ (by decide) (by decide) (by decide) (by decide) (by decide)) (x_used_o _ _ _ (by decide) (by decide) (by decide) (by decide) (by decide)) (x_used_o _ _ _ (by decide) (by decide) (by decide) (by decide) (by decide)) ac' iv'
/-- a usage that a change of one read can't reach stays -/
theorem x_used_same (S : g_S) {ac iv ac' iv' : Nat} (hac : ac < 2) (hiv : iv < 48) (hac' : ac' < 2) (hiv' : iv' < 48) (h : ac' ≠ ac ∨ iv' / 8 < iv / 8 ∨ (iv / 8 < iv' / 8 ∧ iv' % 8 ≠ iv % 8)) : x_used S ac iv 5 (ac' * 48 + iv') = S 5 (ac' * 48 + iv') := by
  rw [x_used, (x_chain_5 ac (iv % 8) (5 - iv / 8) _ (by omega)).2 _ (fun t h1 h2 _ => by omega), (x_own_5 S ac (iv / 8) 8).2 _ (fun i hi => by omega)]
/-- after a change of one read the usages are brought up to date -/
theorem used_ok {S0 S1 : g_S} {ac iv : Nat} (hac : ac < 2) (hiv : iv < 48) (hus : r_us S0) (h5 : S1 5 = S0 5) (h3 : ∀ j, j ≠ ac * 48 + iv → S1 3 j = S0 3 j ∧ S1 4 j = S0 4 j) (h6 : ∀ j, j ≠ ac * 6 + iv / 8 → S1 6 j = S0 6 j ∧ S1 7 j = S0 7 j) : r_us (x_used S1 ac iv) := by
  intro ac' iv' hac' hiv'
  rw [x_used_rule]
  by_cases hA : ac' = ac ∧ iv' / 8 = iv / 8
  · obtain ⟨rfl, hq⟩ := hA
    rw [x_used, (x_chain_5 ac' (iv % 8) (5 - iv / 8) _ (by omega)).2 _ (fun t h1 h2 _ => by omega)]
    have h := (x_own_5 S1 ac' (iv / 8) 8).1 (iv' % 8) (Nat.mod_lt _ (by decide))
    rw [show iv / 8 * 8 + iv' % 8 = iv' by omega] at h
    exact h
  · by_cases hB : ac' = ac ∧ iv / 8 < iv' / 8 ∧ iv' % 8 = iv % 8
    · obtain ⟨rfl, hq, hr⟩ := hB
      have e3 : x_own S1 ac' (iv / 8) 8 3 = S1 3 := x_own_o _ _ _ (by decide) (by decide) (by decide) (by decide) (by decide) 8
      obtain ⟨c1, c2⟩ := x_chain_5 ac' (iv % 8) (5 - iv / 8) (x_own S1 ac' (iv / 8) 8) (by omega)
      rw [e3] at c1 c2
      by_cases hz : ∀ u, 6 - (5 - iv / 8) ≤ u → u ≤ iv' / 8 → S1 3 (ac' * 48 + (u * 8 + iv % 8)) = 0
      · have h := c1 (iv' / 8) (by omega) (by omega) hz
        rw [x_own_rule, show iv' / 8 * 8 + iv % 8 = iv' by omega] at h
        exact h
      · have hn : ∃ u, (6 - (5 - iv / 8) ≤ u ∧ u ≤ iv' / 8) ∧ ¬ S1 3 (ac' * 48 + (u * 8 + iv % 8)) = 0 := by
          refine Classical.byContradiction (fun hno => hz (fun u h1 h2 => Classical.byContradiction (fun hne => hno ⟨u, ⟨h1, h2⟩, hne⟩)))
        obtain ⟨u, ⟨hu1, hu2⟩, hne⟩ := hn
        rw [x_used, c2 _ (fun t h1 h2 hall e => hz (fun u' h1' h2' => hall u' h1' (by omega))), (x_own_5 S1 ac' (iv / 8) 8).2 _ (fun i hi => by omega), h5, hus ac' iv' hac' hiv', x_rule, x_rule, hr]
        exact (x_look_stop hne _ hu2 (fun t h1 h2 => h3 _ (by omega))).symm
    · have hC : ac' ≠ ac ∨ iv' / 8 < iv / 8 ∨ (iv / 8 < iv' / 8 ∧ iv' % 8 ≠ iv % 8) := by omega
      rw [x_used_same S1 hac hiv hac' hiv' hC, h5, hus ac' iv' hac' hiv', x_rule, x_rule]
      exact (x_look_congr (x_mean_congr (h6 _ (by omega)).1 (h6 _ (by omega)).2) _ (fun t ht => h3 _ (by omega))).symm
end
section
set_option maxRecDepth 100000
set_option maxHeartbeats 2000000
/-! plain laws 3: what ties the class' state S to the model's state M; amounts are the same -/
def r_cl (S M : g_S) (cl : Nat) : Prop := cl ≤ 6 ∧ S 2 0 = nI cl ∧ M 3 0 = nI cl
def r_it (S M : g_S) : Prop := (∀ i, i < 6 → S 0 i = M 1 i) ∧ ∀ i, i < 36 → S 1 i = M 2 i
def r_kn (S M : g_S) : Prop := ∀ j, j < 96 → (S 3 j = 0 ∧ M 0 j = -1) ∨ (S 3 j = 1 ∧ 0 ≤ M 0 j ∧ S 4 j = M 0 j)
def r_rc (S M : g_S) : Prop := ∀ ac q : Nat, ac < 2 → q < 6 → S 6 (ac * 6 + q) = nI (m_cnt M ac q 48) ∧ S 7 (ac * 6 + q) = m_sum M ac q 48
def r_base (S M : g_S) (cl : Nat) : Prop := r_cl S M cl ∧ r_it S M ∧ r_kn S M ∧ r_rc S M ∧ r_us S ∧ r_ag S
def r_bl (S : g_S) (cl : Nat) : Prop := ∀ ac p : Nat, ac < 2 → p < cl → S 12 (ac * 6 + p) = x_rate S ac p
def r_bm (S M : g_S) : Prop := ∀ i, i < 12 → S 12 i = M 4 i
def r_ln (S M : g_S) : Prop := ∀ ac, ac < 2 → S 13 ac = M 6 ac ∧ S 14 ac = M 5 ac ∧ ∀ b, b < 8 → M 7 (ac * 8 + b) = S 15 (ac * 8 + f_ix (S 14 ac - 1 - nI b)) ∧ M 8 (ac * 8 + b) = S 16 (ac * 8 + f_ix (S 14 ac - 1 - nI b))
def rel (S M : g_S) (cl : Nat) : Prop := r_base S M cl ∧ r_bl S cl ∧ r_bm S M ∧ r_ln S M
theorem kn_z {S M : g_S} (h : r_kn S M) {j : Nat} (hj : j < 96) : S 3 j = 0 ↔ M 0 j < 0 := by
  rcases h j hj with ⟨h1, h2⟩ | ⟨h1, h2, h3⟩
  · rw [h1, h2]
    exact ⟨fun _ => by decide, fun _ => rfl⟩
  · rw [h1]
    exact ⟨fun q => absurd q (by decide), fun q => absurd q (i_ln h2)⟩
theorem kn_v {S M : g_S} (h : r_kn S M) {j : Nat} (hj : j < 96) (hz : ¬ S 3 j = 0) : S 4 j = M 0 j := by
  rcases h j hj with ⟨h1, h2⟩ | ⟨h1, h2, h3⟩
  · exact absurd h1 hz
  · exact h3
theorem mean_eq {S M : g_S} (hr : r_rc S M) {ac q : Nat} (hac : ac < 2) (hq : q < 6) : x_mean S ac q = m_mean M ac q := by
  obtain ⟨h6, h7⟩ := hr ac q hac hq
  have hc := m_cnt_le M ac q 48
  rw [x_mean, m_mean, h6, h7]
  by_cases e : m_cnt M ac q 48 = 0
  · rw [if_pos e, e, if_pos (show nI 0 ≤ 0 from i_rf 0)]
  · rw [if_neg e, if_neg (fun q => e (by have := (nI_leI (a := m_cnt M ac _ 48) (b := 0) (by omega) (by omega)).mp q; omega))]
theorem rule_eq {S M : g_S} (hk : r_kn S M) (hr : r_rc S M) {ac iv : Nat} (hac : ac < 2) (hiv : iv < 48) : x_rule S ac iv = m_use M ac iv := by
  rw [x_rule, m_use]
  have hm := mean_eq hr hac (q := iv / 8) (by omega)
  have hk8 : iv % 8 < 8 := Nat.mod_lt _ (by decide)
  have : ∀ k, k * 8 + iv % 8 < 48 → x_look S ac iv (iv % 8) k = m_look M ac iv (iv % 8) k := by
    intro k
    induction k with
    | zero =>
      intro hlt
      rw [x_look, m_look, hm]
      by_cases hz : S 3 (ac * 48 + (0 * 8 + iv % 8)) = 0
      · rw [if_pos hz, if_pos ((kn_z hk (by omega)).mp hz)]
      · rw [if_neg hz, if_neg (fun q => hz ((kn_z hk (by omega)).mpr q)), kn_v hk (by omega) hz]
    | succ k ih =>
      intro hlt
      rw [x_look, m_look, ih (by omega)]
      by_cases hz : S 3 (ac * 48 + ((k + 1) * 8 + iv % 8)) = 0
      · rw [if_pos hz, if_pos ((kn_z hk (by omega)).mp hz)]
      · rw [if_neg hz, if_neg (fun q => hz ((kn_z hk (by omega)).mpr q)), kn_v hk (by omega) hz]
  exact this _ (by omega)
theorem item_eq {S M : g_S} {cl : Nat} (hc : r_cl S M cl) (hi : r_it S M) {p i : Nat} (hp : p < 6) (hi6 : i < 6) : x_item S p i = m_item M p i := by
  rw [x_item, m_item, hc.2.1, hc.2.2, hi.1 i hi6, hi.2 (p * 6 + i) (by omega)]
theorem over_ab (a t i : Int32) : f_over a t i = a + f_ab t * i := by
  rw [f_over, f_ab]
  split
  · grind
  · rfl
theorem amt_eq {S M : g_S} {cl : Nat} (h : r_base S M cl) {ac p : Nat} (hac : ac < 2) (hp : p < 6) : x_rate S ac p = m_amt M ac p := by
  obtain ⟨hc, hi, hk, hr, hu, ha⟩ := h
  obtain ⟨a1, a2, a3, a4⟩ := ha ac p hac hp
  have hus : ∀ n, n < 8 → m_use M ac (p * 8 + n) = S 5 (ac * 48 + p * 8 + n) := fun n hn => by
    rw [← rule_eq hk hr hac (show p * 8 + n < 48 by omega), ← hu ac (p * 8 + n) hac (by omega)]
    rw [show ac * 48 + (p * 8 + n) = ac * 48 + p * 8 + n by omega]
  have e0 := hus 0 (by decide)
  rw [Nat.add_zero, Nat.add_zero] at e0
  have hmo : m_mo M ac p 8 = x_most S (ac * 48 + p * 8) 8 := by
    rw [m_mo_mxf, x_most_mxf]
    exact mxf_congr 8 hus
  have hsu : m_su M ac p 8 = S 8 (ac * 6 + p) + S 9 (ac * 6 + p) + S 10 (ac * 6 + p) := by
    simp only [m_su]
    rw [Nat.add_zero, e0, hus 1 (by decide), hus 2 (by decide), hus 3 (by decide), hus 4 (by decide), hus 5 (by decide), hus 6 (by decide), hus 7 (by decide), a1, a2, a3]
    grind
  have ham : m_am M ac p 8 = S 8 (ac * 6 + p) * m_item M p 0 + S 9 (ac * 6 + p) * m_item M p 1 + S 10 (ac * 6 + p) * m_item M p 2 := by
    simp only [m_am]
    rw [Nat.add_zero, e0, hus 1 (by decide), hus 2 (by decide), hus 3 (by decide), hus 4 (by decide), hus 5 (by decide), hus 6 (by decide), hus 7 (by decide), a1, a2, a3]
    rw [show f_bi 0 = 0 from rfl, show f_bi 1 = 0 from rfl, show f_bi 2 = 0 from rfl, show f_bi 3 = 1 from rfl, show f_bi 4 = 1 from rfl, show f_bi 5 = 2 from rfl, show f_bi 6 = 2 from rfl, show f_bi 7 = 2 from rfl]
    grind
  rw [x_rate, m_amt, over_ab, ham, hmo, hsu, ← a4, item_eq hc hi hp (i := 0) (by decide), item_eq hc hi hp (i := 1) (by decide), item_eq hc hi hp (i := 2) (by decide), item_eq hc hi hp (i := 3) (by decide), item_eq hc hi hp (i := 4) (by decide), item_eq hc hi hp (i := 5) (by decide)]
/-! states that agree on what the base speaks of -/
theorem m_sum_congr {M M' : g_S} (h : M' 0 = M 0) (ac q n : Nat) : m_sum M' ac q n = m_sum M ac q n := by
  rw [m_sum_gs, m_sum_gs, h]
theorem m_cnt_congr {M M' : g_S} (h : M' 0 = M 0) (ac q n : Nat) : m_cnt M' ac q n = m_cnt M ac q n := by
  induction n with
  | zero => rfl
  | succ n ih => rw [m_cnt, m_cnt, ih, h]
theorem base_congr {S S' M M' : g_S} {cl : Nat} (hS : ∀ k, k ≤ 11 → S' k = S k) (hM : ∀ k, k ≤ 3 → M' k = M k) (h : r_base S M cl) : r_base S' M' cl := by
  obtain ⟨hc, hi, hk, hr, hu, ha⟩ := h
  have s0 := hS 0 (by decide)
  have s1 := hS 1 (by decide)
  have s2 := hS 2 (by decide)
  have s3 := hS 3 (by decide)
  have s4 := hS 4 (by decide)
  have s5 := hS 5 (by decide)
  have s6 := hS 6 (by decide)
  have s7 := hS 7 (by decide)
  have m0 := hM 0 (by decide)
  refine ⟨⟨hc.1, by rw [s2]; exact hc.2.1, by rw [hM 3 (by decide)]; exact hc.2.2⟩, ⟨fun i h => by rw [s0, hM 1 (by decide)]; exact hi.1 i h, fun i h => by rw [s1, hM 2 (by decide)]; exact hi.2 i h⟩, fun j hj => by rw [s3, s4, m0]; exact hk j hj, fun ac q h1 h2 => by rw [s6, s7, m_cnt_congr m0, m_sum_congr m0]; exact hr ac q h1 h2, fun ac iv h1 h2 => ?_, fun ac q h1 h2 => ?_⟩
  · rw [s5, x_rule_congr s3 s4 s6 s7]; exact hu ac iv h1 h2
  · exact agg1_congr (fun n _ => by rw [s5]) (by rw [hS 8 (by decide)]) (by rw [hS 9 (by decide)]) (by rw [hS 10 (by decide)]) (by rw [hS 11 (by decide)]) (ha ac q h1 h2)
theorem x_rate_congr {S S' : g_S} (hS : ∀ k, k ≤ 11 → S' k = S k) (ac p : Nat) : x_rate S' ac p = x_rate S ac p := by
  simp only [x_rate, x_item]
  rw [hS 0 (by decide), hS 1 (by decide), hS 2 (by decide), hS 8 (by decide), hS 9 (by decide), hS 10 (by decide), hS 11 (by decide)]
/-! lines -/
theorem f_ix_n (c : Int32) : f_ix c = c.toBitVec.toNat % 8 := by
  rw [f_ix, pk_and c (m := 7) 3 rfl]
  exact nI_clamp (by omega)
theorem f_ix_sub (c : Int32) {b : Nat} (hb : b < 8) : f_ix (c - nI b) = (f_ix c + 8 - b) % 8 := by
  rw [f_ix_n, f_ix_n]
  have e : (c - nI b).toBitVec = c.toBitVec - (nI b).toBitVec := rfl
  rw [e, BitVec.toNat_sub, pk_tn (by omega)]
  have hc := c.toBitVec.isLt
  omega
theorem m_sh_7 (M : g_S) (ac : Nat) : ∀ n : Nat, n ≤ 7 → ∀ j, m_sh M ac n 7 j = if ac * 8 + (7 - n) < j ∧ j ≤ ac * 8 + 7 then M 7 (j - 1) else M 7 j := by
  intro n
  induction n with
  | zero =>
    intro _ j
    rw [m_sh, if_neg (by omega)]
  | succ n ih =>
    intro hn j
    rw [m_sh, up2_o _ _ _ (by decide), up2_s]
    by_cases e : j = ac * 8 + (7 - n)
    · subst e
      rw [upd_s, ih (by omega), if_neg (by omega), if_pos (by omega)]
    · rw [upd_o _ _ e, ih (by omega)]
      by_cases hc : ac * 8 + (7 - n) < j ∧ j ≤ ac * 8 + 7
      · rw [if_pos hc, if_pos (by omega)]
      · rw [if_neg hc, if_neg (by omega)]
theorem m_sh_8 (M : g_S) (ac : Nat) : ∀ n : Nat, n ≤ 7 → ∀ j, m_sh M ac n 8 j = if ac * 8 + (7 - n) < j ∧ j ≤ ac * 8 + 7 then M 8 (j - 1) else M 8 j := by
  intro n
  induction n with
  | zero =>
    intro _ j
    rw [m_sh, if_neg (by omega)]
  | succ n ih =>
    intro hn j
    rw [m_sh, up2_s, up2_o _ _ _ (by decide)]
    by_cases e : j = ac * 8 + (7 - n)
    · subst e
      rw [upd_s, ih (by omega), if_neg (by omega), if_pos (by omega)]
    · rw [upd_o _ _ e, ih (by omega)]
      by_cases hc : ac * 8 + (7 - n) < j ∧ j ≤ ac * 8 + 7
      · rw [if_pos hc, if_pos (by omega)]
      · rw [if_neg hc, if_neg (by omega)]
theorem m_line_7 (M : g_S) (ac p : Nat) (v : Int32) (j : Nat) : m_line M ac p v 7 j = if j = ac * 8 then v else if ac * 8 < j ∧ j ≤ ac * 8 + 7 then M 7 (j - 1) else M 7 j := by
  simp only [m_line, g_inc]
  rw [up2_o _ _ _ (by decide), up2_o _ _ _ (by decide), up2_o _ _ _ (by decide), up2_s]
  by_cases e : j = ac * 8
  · rw [if_pos e, e, upd_s]
  · rw [if_neg e, upd_o _ _ e, m_sh_7 M ac 7 (by decide), Nat.sub_self, Nat.add_zero]
theorem m_line_8 (M : g_S) (ac p : Nat) (v : Int32) (j : Nat) : m_line M ac p v 8 j = if j = ac * 8 then nI p else if ac * 8 < j ∧ j ≤ ac * 8 + 7 then M 8 (j - 1) else M 8 j := by
  simp only [m_line, g_inc]
  rw [up2_o _ _ _ (by decide), up2_o _ _ _ (by decide), up2_s, up2_o _ _ _ (by decide)]
  by_cases e : j = ac * 8
  · rw [if_pos e, e, upd_s]
  · rw [if_neg e, upd_o _ _ e, m_sh_8 M ac 7 (by decide), Nat.sub_self, Nat.add_zero]
theorem m_line_5 (M : g_S) (ac p : Nat) (v : Int32) : m_line M ac p v 5 = upd (M 5) ac (M 5 ac + 1) := by
  simp only [m_line, g_inc]
  rw [up2_o _ _ _ (by decide), up2_s, up2_o _ _ _ (by decide), up2_o _ _ _ (by decide), m_sh_o _ _ _ (by decide) (by decide)]
theorem m_line_6 (M : g_S) (ac p : Nat) (v : Int32) : m_line M ac p v 6 = upd (M 6) ac (M 6 ac + v) := by
  simp only [m_line, g_inc]
  rw [up2_s, up2_o _ _ _ (by decide), up2_o _ _ _ (by decide), up2_o _ _ _ (by decide), m_sh_o _ _ _ (by decide) (by decide)]
theorem x_add_13 (S : g_S) (ac p : Nat) (v : Int32) : x_add S ac p v 13 = upd (S 13) ac (S 13 ac + v) := by
  simp only [x_add, g_inc]
  rw [up2_o _ _ _ (by decide), up2_s, up2_o _ _ _ (by decide), up2_o _ _ _ (by decide)]
theorem x_add_14 (S : g_S) (ac p : Nat) (v : Int32) : x_add S ac p v 14 = upd (S 14) ac (S 14 ac + 1) := by
  simp only [x_add, g_inc]
  rw [up2_s, up2_o _ _ _ (by decide), up2_o _ _ _ (by decide), up2_o _ _ _ (by decide)]
theorem x_add_15 (S : g_S) (ac p : Nat) (v : Int32) : x_add S ac p v 15 = upd (S 15) (ac * 8 + f_ix (S 14 ac)) v := by
  simp only [x_add, g_inc]
  rw [up2_o _ _ _ (by decide), up2_o _ _ _ (by decide), up2_o _ _ _ (by decide), up2_s]
theorem x_add_16 (S : g_S) (ac p : Nat) (v : Int32) : x_add S ac p v 16 = upd (S 16) (ac * 8 + f_ix (S 14 ac)) (nI p) := by
  simp only [x_add, g_inc]
  rw [up2_o _ _ _ (by decide), up2_o _ _ _ (by decide), up2_s, up2_o _ _ _ (by decide)]
/-- a line goes onto both ledgers -/
theorem ln_add {S M : g_S} (h : r_ln S M) {ac : Nat} (hac : ac < 2) (p : Nat) (v : Int32) : r_ln (x_add S ac p v) (m_line M ac p v) := by
  intro a2 ha2
  obtain ⟨l1, l2, l3⟩ := h a2 ha2
  rw [x_add_13, x_add_14, x_add_15, x_add_16, m_line_5, m_line_6]
  by_cases e : a2 = ac
  · subst e
    refine ⟨by rw [upd_s, upd_s, l1], by rw [upd_s, upd_s, l2], fun b hb => ?_⟩
    rw [upd_s, m_line_7, m_line_8]
    have ec : S 14 a2 + 1 - 1 - nI b = S 14 a2 - nI b := by grind
    have hf := (f_ix_lt (S 14 a2)).1
    rw [ec, f_ix_sub _ hb]
    by_cases e0 : b = 0
    · subst e0
      rw [Nat.add_zero, if_pos rfl, if_pos rfl, show (f_ix (S 14 a2) + 8 - 0) % 8 = f_ix (S 14 a2) by omega, upd_s, upd_s]
      exact ⟨rfl, rfl⟩
    · obtain ⟨b1, rfl⟩ : ∃ b1, b = b1 + 1 := ⟨b - 1, by omega⟩
      have n1 : ¬ a2 * 8 + (b1 + 1) = a2 * 8 := by omega
      have n2 : a2 * 8 < a2 * 8 + (b1 + 1) ∧ a2 * 8 + (b1 + 1) ≤ a2 * 8 + 7 := by omega
      simp only [if_neg n1, if_pos n2]
      rw [upd_o _ _ (by omega), upd_o _ _ (by omega)]
      have l4 := l3 b1 (by omega)
      have ec2 : S 14 a2 - 1 - nI b1 = S 14 a2 - nI (b1 + 1) := by
        rw [← nI_1]; grind
      rw [ec2, f_ix_sub _ hb] at l4
      rw [show a2 * 8 + (b1 + 1) - 1 = a2 * 8 + b1 by omega]
      exact l4
  · refine ⟨by rw [upd_o _ _ e, upd_o _ _ e, l1], by rw [upd_o _ _ e, upd_o _ _ e, l2], fun b hb => ?_⟩
    have hf := (f_ix_lt (S 14 ac)).1
    have hf2 := (f_ix_lt (S 14 a2 - 1 - nI b)).1
    rw [upd_o _ _ e, m_line_7, m_line_8, if_neg (by omega), if_neg (by omega), if_neg (by omega), if_neg (by omega), upd_o _ _ (by omega), upd_o _ _ (by omega)]
    exact l3 b hb
theorem ln_congr {S S' M M' : g_S} (h13 : S' 13 = S 13) (h14 : S' 14 = S 14) (h15 : S' 15 = S 15) (h16 : S' 16 = S 16) (h5 : M' 5 = M 5) (h6 : M' 6 = M 6) (h7 : M' 7 = M 7) (h8 : M' 8 = M 8) (h : r_ln S M) : r_ln S' M' := by
  intro ac hac
  rw [h13, h14, h15, h16, h5, h6, h7, h8]
  exact h ac hac
end
section
set_option maxRecDepth 100000
set_option maxHeartbeats 2000000
/-! plain laws 4: billing anew, one period and all; a read, an unread -/
theorem reb_step {S M : g_S} {cl : Nat} (hb : r_base S M cl) (hm : r_bm S M) (hl : r_ln S M) {ac p : Nat} (hac : ac < 2) (hp : p < 6) :
    r_base (x_rebS S ac p) (m_rebS M ac p) cl ∧ r_bm (x_rebS S ac p) (m_rebS M ac p) ∧ r_ln (x_rebS S ac p) (m_rebS M ac p) ∧ (∀ k, k ≤ 11 → x_rebS S ac p k = S k) ∧ x_rebS S ac p 12 (ac * 6 + p) = x_rate S ac p ∧ (∀ j, j ≠ ac * 6 + p → x_rebS S ac p 12 j = S 12 j) ∧ (x_rebR S ac p = 0 ↔ m_amt M ac p = M 4 (ac * 6 + p)) := by
  have ha := amt_eq hb hac hp
  have h4 := hm (ac * 6 + p) (by omega)
  have hS : ∀ k, k ≤ 11 → x_rebS S ac p k = S k := fun k hk => x_rebS_o _ _ _ (by omega) (by omega) (by omega) (by omega) (by omega)
  have hM : ∀ k, k ≤ 3 → m_rebS M ac p k = M k := fun k hk => m_rebS_o _ _ _ (by omega) (by omega) (by omega) (by omega) (by omega)
  refine ⟨base_congr hS hM hb, ?_⟩
  by_cases e : x_rate S ac p = S 12 (ac * 6 + p)
  · have e' : m_amt M ac p = M 4 (ac * 6 + p) := by rw [← ha, e, h4]
    have eS : x_rebS S ac p = S := by rw [x_rebS, if_pos e]
    have eM : m_rebS M ac p = M := by rw [m_rebS, if_pos e']
    rw [eS, eM, x_rebR, if_pos e]
    exact ⟨hm, hl, fun _ _ => rfl, e.symm, fun _ _ => rfl, fun _ => e', fun _ => rfl⟩
  · have e' : ¬ m_amt M ac p = M 4 (ac * 6 + p) := by rw [← ha, ← h4]; exact e
    refine ⟨?_, ?_, hS, ?_, ?_, ?_⟩
    · intro i hi
      rw [x_rebS, if_neg e, m_rebS, if_neg e', up2_s, up2_s, x_add_o _ _ _ _ (by decide) (by decide) (by decide) (by decide), x_add_o _ _ _ _ (by decide) (by decide) (by decide) (by decide), m_line_o _ _ _ _ (by decide) (by decide) (by decide) (by decide), m_line_o _ _ _ _ (by decide) (by decide) (by decide) (by decide)]
      by_cases ei : i = ac * 6 + p
      · rw [ei, upd_s, upd_s, ha]
      · rw [upd_o _ _ ei, upd_o _ _ ei, hm i hi]
    · rw [x_rebS, if_neg e, m_rebS, if_neg e', ← ha, ← h4]
      exact ln_congr (up2_o _ _ _ (by decide)) (up2_o _ _ _ (by decide)) (up2_o _ _ _ (by decide)) (up2_o _ _ _ (by decide)) (up2_o _ _ _ (by decide)) (up2_o _ _ _ (by decide)) (up2_o _ _ _ (by decide)) (up2_o _ _ _ (by decide)) (ln_add (ln_add hl hac p _) hac p _)
    · rw [x_rebS, if_neg e, up2_s, upd_s]
    · intro j hj
      rw [x_rebS, if_neg e, up2_s, upd_o _ _ hj, x_add_o _ _ _ _ (by decide) (by decide) (by decide) (by decide), x_add_o _ _ _ _ (by decide) (by decide) (by decide) (by decide)]
    · rw [x_rebR, if_neg e]
      exact ⟨fun q => absurd q (by decide), fun q => absurd q e'⟩
theorem reb_loop {ac cl : Nat} (hac : ac < 2) : ∀ (k q : Nat) (S M : g_S) (n : Int32), q + k ≤ 6 → r_base S M cl → r_bm S M → r_ln S M →
    r_base (x_rbS ac k q S) (m_rbS ac k q M) cl ∧ r_bm (x_rbS ac k q S) (m_rbS ac k q M) ∧ r_ln (x_rbS ac k q S) (m_rbS ac k q M) ∧ (∀ j, j ≤ 11 → x_rbS ac k q S j = S j) ∧ (∀ t, q ≤ t → t < q + k → x_rbS ac k q S 12 (ac * 6 + t) = x_rate S ac t) ∧ (∀ j, (∀ t, q ≤ t → t < q + k → j ≠ ac * 6 + t) → x_rbS ac k q S 12 j = S 12 j) ∧ x_rbR ac k q S n = m_rbR ac k q M n := by
  intro k
  induction k with
  | zero =>
    intro q S M n _ hb hm hl
    exact ⟨hb, hm, hl, fun _ _ => rfl, fun t h1 h2 => by omega, fun _ _ => rfl, rfl⟩
  | succ k ih =>
    intro q S M n hq hb hm hl
    obtain ⟨b1, m1, l1, s1, t1, o1, r1⟩ := reb_step hb hm hl hac (p := q) (by omega)
    have ei : (if x_rebR S ac q = 0 then n else n + 1) = if m_amt M ac q = M 4 (ac * 6 + q) then n else n + 1 := by
      by_cases e : x_rebR S ac q = 0
      · rw [if_pos e, if_pos (r1.mp e)]
      · rw [if_neg e, if_neg (fun q => e (r1.mpr q))]
    obtain ⟨b2, m2, l2, s2, t2, o2, r2⟩ := ih (q + 1) (x_rebS S ac q) (m_rebS M ac q) (if x_rebR S ac q = 0 then n else n + 1) (by omega) b1 m1 l1
    rw [x_rbS, m_rbS, x_rbR, m_rbR]
    refine ⟨b2, m2, l2, fun j hj => by rw [s2 j hj, s1 j hj], fun t h1 h2 => ?_, fun j hj => ?_, by rw [r2, ei]⟩
    · by_cases e : t = q
      · subst e
        rw [o2 _ (fun t' h1' h2' => by omega), t1]
      · rw [t2 t (by omega) (by omega), x_rate_congr s1]
    · rw [o2 j (fun t h1 h2 => hj t (by omega) (by omega)), o1 j (hj q (by omega) (by omega))]
theorem m_rb_skip {M : g_S} {ac : Nat} : ∀ j k p : Nat, (∀ i, i < j → m_amt M ac (p + i) = M 4 (ac * 6 + (p + i))) → m_rbS ac (j + k) p M = m_rbS ac k (p + j) M ∧ ∀ n, m_rbR ac (j + k) p M n = m_rbR ac k (p + j) M n := by
  intro j
  induction j with
  | zero => intro k p _; rw [Nat.zero_add, Nat.add_zero]; exact ⟨rfl, fun _ => rfl⟩
  | succ j ih =>
    intro k p h
    have h0 := h 0 (by omega)
    rw [Nat.add_zero] at h0
    have eM : m_rebS M ac p = M := by rw [m_rebS, if_pos h0]
    obtain ⟨i1, i2⟩ := ih k (p + 1) (fun i hi => by
      have := h (i + 1) (by omega)
      rw [show p + (i + 1) = p + 1 + i by omega] at this
      exact this)
    rw [show j + 1 + k = (j + k) + 1 by omega, show p + (j + 1) = p + 1 + j by omega]
    refine ⟨by rw [m_rbS, eM, i1], fun n => ?_⟩
    rw [m_rbR, eM, if_pos h0, i2]
theorem base2_congr {S S' M M' : g_S} {cl : Nat} (hS : ∀ k, 3 ≤ k → k ≤ 11 → S' k = S k) (m0 : M' 0 = M 0) (h : r_base S M cl) : r_kn S' M' ∧ r_rc S' M' ∧ r_us S' ∧ r_ag S' := by
  obtain ⟨hc, hi, hk, hr, hu, ha⟩ := h
  have s3 := hS 3 (by decide) (by decide)
  have s4 := hS 4 (by decide) (by decide)
  have s5 := hS 5 (by decide) (by decide)
  have s6 := hS 6 (by decide) (by decide)
  have s7 := hS 7 (by decide) (by decide)
  refine ⟨fun j hj => by rw [s3, s4, m0]; exact hk j hj, fun ac q h1 h2 => by rw [s6, s7, m_cnt_congr m0, m_sum_congr m0]; exact hr ac q h1 h2, fun ac iv h1 h2 => ?_, fun ac q h1 h2 => ?_⟩
  · rw [s5, x_rule_congr s3 s4 s6 s7]; exact hu ac iv h1 h2
  · exact agg1_congr (fun n _ => by rw [s5]) (by rw [hS 8 (by decide) (by decide)]) (by rw [hS 9 (by decide) (by decide)]) (by rw [hS 10 (by decide) (by decide)]) (by rw [hS 11 (by decide) (by decide)]) (ha ac q h1 h2)
/-- the same usages, the same items: the same rate -/
theorem rate_same {S T : g_S} {ac p : Nat} (hS : agg1 S ac p) (hT : agg1 T ac p) (h5 : ∀ n, n < 8 → T 5 (ac * 48 + p * 8 + n) = S 5 (ac * 48 + p * 8 + n)) (h0 : T 0 = S 0) (h1 : T 1 = S 1) (h2 : T 2 = S 2) : x_rate T ac p = x_rate S ac p := by
  obtain ⟨a1, a2, a3, a4⟩ := hS
  obtain ⟨b1, b2, b3, b4⟩ := hT
  have e0 := h5 0 (by decide)
  rw [Nat.add_zero] at e0
  have e8 : T 8 (ac * 6 + p) = S 8 (ac * 6 + p) := by rw [a1, b1, e0, h5 1 (by decide), h5 2 (by decide)]
  have e9 : T 9 (ac * 6 + p) = S 9 (ac * 6 + p) := by rw [a2, b2, h5 3 (by decide), h5 4 (by decide)]
  have e10 : T 10 (ac * 6 + p) = S 10 (ac * 6 + p) := by rw [a3, b3, h5 5 (by decide), h5 6 (by decide), h5 7 (by decide)]
  have e11 : T 11 (ac * 6 + p) = S 11 (ac * 6 + p) := by
    rw [a4, b4, x_most_mxf, x_most_mxf]
    exact mxf_congr 8 h5
  simp only [x_rate, x_item]
  rw [e8, e9, e10, e11, h0, h1, h2]
/-- after a change of one read: usages, bills and ledgers of both agree -/
theorem ref_ok {S0 M0 S1 M1 : g_S} {cl ac iv : Nat} (hac : ac < 2) (hiv : iv < 48) (h0 : rel S0 M0 cl) (hS : ∀ k, k ≠ 3 → k ≠ 4 → k ≠ 6 → k ≠ 7 → S1 k = S0 k) (h3 : ∀ j, j ≠ ac * 48 + iv → S1 3 j = S0 3 j ∧ S1 4 j = S0 4 j) (h6 : ∀ j, j ≠ ac * 6 + iv / 8 → S1 6 j = S0 6 j ∧ S1 7 j = S0 7 j) (hM : ∀ k, k ≠ 0 → M1 k = M0 k) (hk : r_kn S1 M1) (hr : r_rc S1 M1) :
    x_refR S1 ac iv cl = m_rbR ac cl 0 M1 0 ∧ rel (x_refS S1 ac iv cl) (m_rbS ac cl 0 M1) cl := by
  obtain ⟨⟨hc0, hi0, hk0, hr0, hu0, ha0⟩, hbl, hbm, hln⟩ := h0
  have hT : ∀ k, k ≠ 5 → k ≠ 8 → k ≠ 9 → k ≠ 10 → k ≠ 11 → x_used S1 ac iv k = S1 k := fun k a b c d e => x_used_o _ _ _ a b c d e
  have hT0 : ∀ k, (k ≤ 2 ∨ 12 ≤ k) → x_used S1 ac iv k = S0 k := fun k h => by rw [hT k (by omega) (by omega) (by omega) (by omega) (by omega), hS k (by omega) (by omega) (by omega) (by omega)]
  have haS1 : r_ag S1 := fun a2 q h1 h2 => agg1_congr (fun n _ => by rw [hS 5 (by decide) (by decide) (by decide) (by decide)]) (by rw [hS 8 (by decide) (by decide) (by decide) (by decide)]) (by rw [hS 9 (by decide) (by decide) (by decide) (by decide)]) (by rw [hS 10 (by decide) (by decide) (by decide) (by decide)]) (by rw [hS 11 (by decide) (by decide) (by decide) (by decide)]) (ha0 a2 q h1 h2)
  have haT : r_ag (x_used S1 ac iv) := x_used_ag hac hiv haS1
  have huT : r_us (x_used S1 ac iv) := used_ok hac hiv hu0 (hS 5 (by decide) (by decide) (by decide) (by decide)) h3 h6
  have hbT : r_base (x_used S1 ac iv) M1 cl := by
    refine ⟨⟨hc0.1, by rw [hT0 2 (by decide)]; exact hc0.2.1, by rw [hM 3 (by decide)]; exact hc0.2.2⟩, ⟨fun i h => by rw [hT0 0 (by decide), hM 1 (by decide)]; exact hi0.1 i h, fun i h => by rw [hT0 1 (by decide), hM 2 (by decide)]; exact hi0.2 i h⟩, fun j hj => ?_, fun a2 q h1 h2 => ?_, huT, haT⟩
    · rw [hT 3 (by decide) (by decide) (by decide) (by decide) (by decide), hT 4 (by decide) (by decide) (by decide) (by decide) (by decide)]; exact hk j hj
    · rw [hT 6 (by decide) (by decide) (by decide) (by decide) (by decide), hT 7 (by decide) (by decide) (by decide) (by decide) (by decide)]; exact hr a2 q h1 h2
  have hmT : r_bm (x_used S1 ac iv) M1 := fun i hi => by rw [hT0 12 (by decide), hM 4 (by decide)]; exact hbm i hi
  have hlT : r_ln (x_used S1 ac iv) M1 := ln_congr (hT0 13 (by decide)) (hT0 14 (by decide)) (hT0 15 (by decide)) (hT0 16 (by decide)) (hM 5 (by decide)) (hM 6 (by decide)) (hM 7 (by decide)) (hM 8 (by decide)) hln
  have hold : ∀ a2 p, a2 < 2 → p < cl → (a2 ≠ ac ∨ p < iv / 8) → x_used S1 ac iv 12 (a2 * 6 + p) = x_rate (x_used S1 ac iv) a2 p := fun a2 p h1 h2 hor => by
    have hp6 : p < 6 := Nat.lt_of_lt_of_le h2 hc0.1
    rw [hT0 12 (by decide), hbl a2 p h1 h2]
    refine (rate_same (ha0 a2 p h1 hp6) (haT a2 p h1 hp6) (fun n hn => ?_) (hT0 0 (by decide)) (hT0 1 (by decide)) (hT0 2 (by decide))).symm
    rw [show a2 * 48 + p * 8 + n = a2 * 48 + (p * 8 + n) by omega, x_used_same S1 hac hiv h1 (by omega) (by omega), hS 5 (by decide) (by decide) (by decide) (by decide)]
  have hc6 : cl ≤ 6 := hc0.1
  rw [x_refR, x_refS]
  by_cases hPc : iv / 8 ≤ cl
  · obtain ⟨k1, k2⟩ := m_rb_skip (M := M1) (ac := ac) (iv / 8) (cl - iv / 8) 0 (fun i hi => by
      rw [Nat.zero_add, ← amt_eq hbT hac (by omega), ← hold ac i hac (by omega) (Or.inr hi), hmT _ (by omega)])
    rw [show iv / 8 + (cl - iv / 8) = cl by omega, Nat.zero_add] at k1 k2
    rw [k1, k2]
    obtain ⟨b2, m2, l2, s2, t2, o2, r2⟩ := reb_loop (cl := cl) hac (cl - iv / 8) (iv / 8) (x_used S1 ac iv) M1 0 (by omega) hbT hmT hlT
    refine ⟨r2, b2, fun a2 p h1 h2 => ?_, m2, l2⟩
    rw [x_rate_congr s2]
    by_cases hin : a2 = ac ∧ iv / 8 ≤ p
    · rw [hin.1]
      exact t2 p hin.2 (by omega)
    · rw [o2 _ (fun t h1' h2' => by omega)]
      exact hold a2 p h1 h2 (by omega)
  · obtain ⟨k1, k2⟩ := m_rb_skip (M := M1) (ac := ac) cl 0 0 (fun i hi => by
      rw [Nat.zero_add, ← amt_eq hbT hac (by omega), ← hold ac i hac (by omega) (Or.inr (by omega)), hmT _ (by omega)])
    rw [Nat.add_zero, Nat.zero_add] at k1 k2
    rw [k1, k2, show cl - iv / 8 = 0 by omega]
    rw [x_rbR, x_rbS, m_rbR, m_rbS]
    exact ⟨rfl, hbT, fun a2 p h1 h2 => hold a2 p h1 h2 (by omega), hmT, hlT⟩
/-! a read's own cells -/
theorem x_forget_3 (S : g_S) (ac iv : Nat) : x_forget S ac iv 3 = upd (S 3) (ac * 48 + iv) 0 := by
  unfold x_forget
  by_cases h : S 3 (ac * 48 + iv) = 0
  · rw [if_pos h]
    have := upd_id (S 3) (ac * 48 + iv)
    rw [h] at this
    exact this.symm
  · rw [if_neg h]
    simp only [g_dec]
    rw [up2_o _ _ _ (by decide), up2_o _ _ _ (by decide), up2_s]
theorem x_forget_4 (S : g_S) (ac iv : Nat) : x_forget S ac iv 4 = S 4 := by
  exact x_forget_o _ _ _ (by decide) (by decide) (by decide)
theorem x_forget_6 {S M : g_S} (hk : r_kn S M) {ac iv : Nat} (hac : ac < 2) (hiv : iv < 48) : x_forget S ac iv 6 = upd (S 6) (ac * 6 + iv / 8) (S 6 (ac * 6 + iv / 8) - f_c1 (M 0 (ac * 48 + iv))) := by
  unfold x_forget
  by_cases h : S 3 (ac * 48 + iv) = 0
  · have e : f_c1 (M 0 (ac * 48 + iv)) = 0 := by rw [f_c1, if_pos ((kn_z hk (by omega)).mp h)]
    rw [if_pos h, e, show S 6 (ac * 6 + iv / 8) - 0 = S 6 (ac * 6 + iv / 8) by grind, upd_id]
  · have e : f_c1 (M 0 (ac * 48 + iv)) = 1 := by rw [f_c1, if_neg (fun q => h ((kn_z hk (by omega)).mpr q))]
    rw [if_neg h, e]
    simp only [g_dec]
    rw [up2_o _ _ _ (by decide), up2_s, up2_o _ _ _ (by decide)]
theorem x_forget_7 {S M : g_S} (hk : r_kn S M) {ac iv : Nat} (hac : ac < 2) (hiv : iv < 48) : x_forget S ac iv 7 = upd (S 7) (ac * 6 + iv / 8) (S 7 (ac * 6 + iv / 8) - f_s1 (M 0 (ac * 48 + iv))) := by
  unfold x_forget
  by_cases h : S 3 (ac * 48 + iv) = 0
  · have e : f_s1 (M 0 (ac * 48 + iv)) = 0 := by rw [f_s1, if_pos ((kn_z hk (by omega)).mp h)]
    rw [if_pos h, e, show S 7 (ac * 6 + iv / 8) - 0 = S 7 (ac * 6 + iv / 8) by grind, upd_id]
  · have e : f_s1 (M 0 (ac * 48 + iv)) = S 4 (ac * 48 + iv) := by rw [f_s1, if_neg (fun q => h ((kn_z hk (by omega)).mpr q)), kn_v hk (by omega) h]
    rw [if_neg h, e]
    simp only [g_dec]
    rw [up2_s, up2_o _ _ _ (by decide), up2_o _ _ _ (by decide), up2_o (k := 6) (j := 4) _ _ _ (by decide), up2_o _ _ _ (by decide)]
/-- counts and sums of reads follow one read's change -/
theorem rc_upd {S0 S1 M0 : g_S} {ac iv : Nat} {v : Int32} (hac : ac < 2) (hiv : iv < 48) (hr : r_rc S0 M0) (h6 : S1 6 = upd (S0 6) (ac * 6 + iv / 8) (S0 6 (ac * 6 + iv / 8) + (f_c1 v - f_c1 (M0 0 (ac * 48 + iv))))) (h7 : S1 7 = upd (S0 7) (ac * 6 + iv / 8) (S0 7 (ac * 6 + iv / 8) + (f_s1 v - f_s1 (M0 0 (ac * 48 + iv))))) : r_rc S1 (up2 M0 0 (ac * 48 + iv) v) := by
  intro a2 q ha2 hq
  obtain ⟨r6, r7⟩ := hr a2 q ha2 hq
  rw [m_cnt_gs, m_sum_gs, h6, h7, up2_s]
  by_cases e : a2 * 6 + q = ac * 6 + iv / 8
  · obtain rfl : a2 = ac := by omega
    obtain rfl : q = iv / 8 := by omega
    rw [upd_s, upd_s, r6, r7, m_cnt_gs, m_sum_gs]
    have hg : ∀ (f : Int32 → Int32), gs (fun i => f (upd (M0 0) (a2 * 48 + iv) v (a2 * 48 + i))) (iv / 8) 48 = gs (fun i => f (M0 0 (a2 * 48 + i))) (iv / 8) 48 + (f v - f (M0 0 (a2 * 48 + iv))) := fun f => by
      have := gs_upd (g := fun i => f (M0 0 (a2 * 48 + i))) (g' := fun i => f (upd (M0 0) (a2 * 48 + iv) v (a2 * 48 + i))) (q := iv / 8) (iv := iv) rfl (fun i hi => by
        show f (upd (M0 0) (a2 * 48 + iv) v (a2 * 48 + i)) = f (M0 0 (a2 * 48 + i))
        rw [upd_o _ _ (by omega)]) 48 hiv
      rw [this]
      show _ + (f (upd (M0 0) (a2 * 48 + iv) v (a2 * 48 + iv)) - _) = _
      rw [upd_s]
    exact ⟨(hg f_c1).symm, (hg f_s1).symm⟩
  · rw [upd_o _ _ e, upd_o _ _ e, r6, r7, m_cnt_gs, m_sum_gs]
    have hg : ∀ (f : Int32 → Int32), gs (fun i => f (upd (M0 0) (ac * 48 + iv) v (a2 * 48 + i))) q 48 = gs (fun i => f (M0 0 (a2 * 48 + i))) q 48 := fun f => gs_congr 48 (fun i hi hiq => by
      show f (upd (M0 0) (ac * 48 + iv) v (a2 * 48 + i)) = f (M0 0 (a2 * 48 + i))
      rw [upd_o _ _ (by omega)])
    exact ⟨(hg f_c1).symm, (hg f_s1).symm⟩
end
section
set_option maxRecDepth 100000
set_option maxHeartbeats 2000000
/-! plain laws 5: every call answers the same on both sides, and keeps the tie -/
theorem rel_read {S M : g_S} {cl : Nat} (h : rel S M cl) (p0 p1 p2 : Int32) : x_rdR S cl p0 p1 p2 = m_rdR M cl p0 p1 p2 ∧ rel (x_rdS S cl p0 p1 p2) (m_rdS M cl p0 p1 p2) cl := by
  rw [x_rdR, x_rdS, m_rdR, m_rdS, f_badI_47]
  by_cases c0 : f_bad 1 p0 = 0
  · simp only [if_pos c0]
    by_cases c1 : f_bad 47 p1 = 0
    · simp only [if_pos c1]
      by_cases c2 : p2 < 0
      · simp only [if_pos c2]
        exact ⟨by trivial, h⟩
      · simp only [if_neg c2]
        by_cases c3 : p2 ≤ 999
        · simp only [if_pos c3]
          obtain ⟨ac, hac, rfl⟩ := f_bad1 c0
          obtain ⟨iv, hiv, rfl⟩ := f_bad47 c1
          rw [f_cl (n := ac) (by omega), f_cl (n := iv) (by omega)]
          have hk := h.1.2.2.1
          have hr := h.1.2.2.2.1
          have s3 : x_putr (x_forget S ac iv) ac iv p2 3 = upd (upd (S 3) (ac * 48 + iv) 0) (ac * 48 + iv) 1 := by
            simp only [x_putr, g_inc]
            rw [up2_o _ _ _ (by decide), up2_o _ _ _ (by decide), up2_o _ _ _ (by decide), up2_s, x_forget_3]
          have s4 : x_putr (x_forget S ac iv) ac iv p2 4 = upd (S 4) (ac * 48 + iv) p2 := by
            simp only [x_putr, g_inc]
            rw [up2_o _ _ _ (by decide), up2_o _ _ _ (by decide), up2_s, up2_o _ _ _ (by decide), x_forget_4]
          have s6 : x_putr (x_forget S ac iv) ac iv p2 6 = upd (x_forget S ac iv 6) (ac * 6 + iv / 8) (x_forget S ac iv 6 (ac * 6 + iv / 8) + 1) := by
            simp only [x_putr, g_inc]
            rw [up2_o _ _ _ (by decide), up2_s, up2_o _ _ _ (by decide), up2_o _ _ _ (by decide)]
          have s7 : x_putr (x_forget S ac iv) ac iv p2 7 = upd (x_forget S ac iv 7) (ac * 6 + iv / 8) (x_forget S ac iv 7 (ac * 6 + iv / 8) + p2) := by
            simp only [x_putr, g_inc]
            rw [up2_s, up2_o _ _ _ (by decide), up2_o _ _ _ (by decide), up2_o _ _ _ (by decide)]
          have uu : ∀ (f : Nat → Int32) (k : Nat) (x y : Int32), upd (upd f k x) k y = upd f k y := fun f k x y => by
            funext j
            by_cases e : j = k
            · rw [e, upd_s, upd_s]
            · rw [upd_o _ _ e, upd_o _ _ e, upd_o _ _ e]
          rw [x_forget_6 hk hac hiv, upd_s, uu] at s6
          rw [x_forget_7 hk hac hiv, upd_s, uu] at s7
          rw [uu] at s3
          have v1 : f_c1 p2 = 1 := by rw [f_c1, if_neg c2]
          have v2 : f_s1 p2 = p2 := by rw [f_s1, if_neg c2]
          refine ref_ok hac hiv h (fun k a b c d => ?_) (fun j hj => ?_) (fun j hj => ?_) (fun k hk0 => up2_o _ _ _ hk0) (fun j hj => ?_) (rc_upd hac hiv hr ?_ ?_)
          · rw [x_putr_o _ _ _ _ a b c d, x_forget_o _ _ _ a c d]
          · rw [s3, s4, upd_o _ _ hj, upd_o _ _ hj]; exact ⟨rfl, rfl⟩
          · rw [s6, s7, upd_o _ _ hj, upd_o _ _ hj]; exact ⟨rfl, rfl⟩
          · rw [s3, s4, up2_s]
            by_cases e : j = ac * 48 + iv
            · rw [e, upd_s, upd_s, upd_s]
              exact Or.inr ⟨rfl, i_nt c2, rfl⟩
            · rw [upd_o _ _ e, upd_o _ _ e, upd_o _ _ e]
              exact hk j hj
          · rw [s6, v1, show S 6 (ac * 6 + iv / 8) - f_c1 (M 0 (ac * 48 + iv)) + 1 = S 6 (ac * 6 + iv / 8) + (1 - f_c1 (M 0 (ac * 48 + iv))) by grind]
          · rw [s7, v2, show S 7 (ac * 6 + iv / 8) - f_s1 (M 0 (ac * 48 + iv)) + p2 = S 7 (ac * 6 + iv / 8) + (p2 - f_s1 (M 0 (ac * 48 + iv))) by grind]
        · simp only [if_neg c3]
          exact ⟨by trivial, h⟩
    · simp only [if_neg c1]
      exact ⟨by trivial, h⟩
  · simp only [if_neg c0]
    exact ⟨by trivial, h⟩
theorem rel_unread {S M : g_S} {cl : Nat} (h : rel S M cl) (p0 p1 : Int32) : x_urR S cl p0 p1 = m_urR M cl p0 p1 ∧ rel (x_urS S cl p0 p1) (m_urS M cl p0 p1) cl := by
  rw [x_urR, x_urS, m_urR, m_urS, f_badI_47]
  by_cases c0 : f_bad 1 p0 = 0
  · simp only [if_pos c0]
    by_cases c1 : f_bad 47 p1 = 0
    · simp only [if_pos c1]
      obtain ⟨ac, hac, rfl⟩ := f_bad1 c0
      obtain ⟨iv, hiv, rfl⟩ := f_bad47 c1
      rw [f_cl (n := ac) (by omega), f_cl (n := iv) (by omega)]
      have hk := h.1.2.2.1
      have hr := h.1.2.2.2.1
      by_cases c2 : S 3 (ac * 48 + iv) = 0
      · have c3 : ¬ 0 ≤ M 0 (ac * 48 + iv) := fun q => i_ln q ((kn_z hk (by omega)).mp c2)
        simp only [if_pos c2, if_neg c3]
        exact ⟨by trivial, h⟩
      · have c3 : 0 ≤ M 0 (ac * 48 + iv) := i_nt (fun q => c2 ((kn_z hk (by omega)).mpr q))
        simp only [if_neg c2, if_pos c3]
        have s3 := x_forget_3 S ac iv
        have s4 := x_forget_4 S ac iv
        have s6 := x_forget_6 hk hac hiv
        have s7 := x_forget_7 hk hac hiv
        have v1 : f_c1 (-1) = 0 := rfl
        have v2 : f_s1 (-1) = 0 := rfl
        refine ref_ok hac hiv h (fun k a b c d => x_forget_o _ _ _ a c d) (fun j hj => ?_) (fun j hj => ?_) (fun k hk0 => up2_o _ _ _ hk0) (fun j hj => ?_) (rc_upd hac hiv hr ?_ ?_)
        · rw [s3, s4, upd_o _ _ hj]; exact ⟨rfl, rfl⟩
        · rw [s6, s7, upd_o _ _ hj, upd_o _ _ hj]; exact ⟨rfl, rfl⟩
        · rw [s3, s4, up2_s]
          by_cases e : j = ac * 48 + iv
          · rw [e, upd_s, upd_s]
            exact Or.inl ⟨rfl, rfl⟩
          · rw [upd_o _ _ e, upd_o _ _ e]
            exact hk j hj
        · rw [s6, v1, show S 6 (ac * 6 + iv / 8) - f_c1 (M 0 (ac * 48 + iv)) = S 6 (ac * 6 + iv / 8) + (0 - f_c1 (M 0 (ac * 48 + iv))) by grind]
        · rw [s7, v2, show S 7 (ac * 6 + iv / 8) - f_s1 (M 0 (ac * 48 + iv)) = S 7 (ac * 6 + iv / 8) + (0 - f_s1 (M 0 (ac * 48 + iv))) by grind]
    · simp only [if_neg c1]
      exact ⟨by trivial, h⟩
  · simp only [if_neg c0]
    exact ⟨by trivial, h⟩
/-- a closed period's rate hangs on its fixed items alone -/
theorem rate_closed {S S' : g_S} {cl cl' p : Nat} (ac : Nat) (h2 : S 2 0 = nI cl) (h2' : S' 2 0 = nI cl') (hc : cl ≤ 6) (hc' : cl' ≤ 6) (hp : p < cl) (hp' : p < cl') (h1 : ∀ i, i < 6 → S' 1 (p * 6 + i) = S 1 (p * 6 + i)) (h8 : S' 8 = S 8) (h9 : S' 9 = S 9) (h10 : S' 10 = S 10) (h11 : S' 11 = S 11) : x_rate S' ac p = x_rate S ac p := by
  have n1 : ¬ S 2 0 ≤ nI p := by rw [h2]; exact fun q => by have := (nI_leI (a := cl) (b := p) (by omega) (by omega)).mp q; omega
  have n2 : ¬ S' 2 0 ≤ nI p := by rw [h2']; exact fun q => by have := (nI_leI (a := cl') (b := p) (by omega) (by omega)).mp q; omega
  have hi : ∀ i, i < 6 → x_item S' p i = x_item S p i := fun i hi => by rw [x_item, x_item, if_neg n1, if_neg n2, h1 i hi]
  rw [x_rate, x_rate, hi 0 (by decide), hi 1 (by decide), hi 2 (by decide), hi 3 (by decide), hi 4 (by decide), hi 5 (by decide), h8, h9, h10, h11]
theorem rel_tariff {S M : g_S} {cl : Nat} (h : rel S M cl) (p0 p1 : Int32) : f_tarR S 0 p0 p1 = f_tarR M 1 p0 p1 ∧ rel (f_tarS S 0 p0 p1) (f_tarS M 1 p0 p1) cl := by
  rw [f_tarR, f_tarR, f_tarS, f_tarS]
  by_cases c0 : p0 < 0
  · simp only [if_pos c0]
    exact ⟨by trivial, h⟩
  · simp only [if_neg c0]
    by_cases c1 : p0 ≤ 5
    · simp only [if_pos c1]
      by_cases c2 : p1 < 0
      · simp only [if_pos c2]
        exact ⟨by trivial, h⟩
      · simp only [if_neg c2]
        by_cases c3 : p1 ≤ 99
        · simp only [if_pos c3]
          obtain ⟨j, hj, rfl⟩ := f_upto 5 5 rfl c0 c1
          rw [f_cl (n := j) (by omega)]
          obtain ⟨hb, hbl, hbm, hln⟩ := h
          have hc := hb.1
          have hi := hb.2.1
          refine ⟨hi.1 j (by omega), ⟨⟨hc.1, by rw [up2_o _ _ _ (by decide)]; exact hc.2.1, by rw [up2_o _ _ _ (by decide)]; exact hc.2.2⟩, ⟨fun i hi6 => ?_, fun i hi36 => ?_⟩, base2_congr (fun k h1 _ => up2_o _ _ _ (by omega)) (up2_o _ _ _ (by decide)) hb⟩, fun ac p h1 h2 => ?_, fun i hi12 => ?_, ?_⟩
          · rw [up2_s, up2_s]
            by_cases e : i = j
            · rw [e, upd_s, upd_s]
            · rw [upd_o _ _ e, upd_o _ _ e]; exact hi.1 i hi6
          · rw [up2_o _ _ _ (by decide), up2_o _ _ _ (by decide)]; exact hi.2 i hi36
          · rw [up2_o _ _ _ (by decide), hbl ac p h1 h2]
            exact (rate_closed ac hc.2.1 (by rw [up2_o _ _ _ (by decide)]; exact hc.2.1) hc.1 hc.1 h2 h2 (fun i _ => by rw [up2_o _ _ _ (by decide)]) (up2_o _ _ _ (by decide)) (up2_o _ _ _ (by decide)) (up2_o _ _ _ (by decide)) (up2_o _ _ _ (by decide))).symm
          · rw [up2_o _ _ _ (by decide), up2_o _ _ _ (by decide)]; exact hbm i hi12
          · exact ln_congr (up2_o _ _ _ (by decide)) (up2_o _ _ _ (by decide)) (up2_o _ _ _ (by decide)) (up2_o _ _ _ (by decide)) (up2_o _ _ _ (by decide)) (up2_o _ _ _ (by decide)) (up2_o _ _ _ (by decide)) (up2_o _ _ _ (by decide)) hln
        · simp only [if_neg c3]
          exact ⟨by trivial, h⟩
    · simp only [if_neg c1]
      exact ⟨by trivial, h⟩
theorem rel_usage {S M : g_S} {cl : Nat} (h : rel S M cl) (p0 p1 : Int32) : x_usR S p0 p1 = m_usR M p0 p1 := by
  rw [x_usR, m_usR, f_badI_47]
  by_cases c0 : f_bad 1 p0 = 0
  · simp only [if_pos c0]
    by_cases c1 : f_bad 47 p1 = 0
    · simp only [if_pos c1]
      obtain ⟨ac, hac, rfl⟩ := f_bad1 c0
      obtain ⟨iv, hiv, rfl⟩ := f_bad47 c1
      rw [f_cl (n := ac) (by omega), f_cl (n := iv) (by omega), h.1.2.2.2.2.1 ac iv hac hiv, rule_eq h.1.2.2.1 h.1.2.2.2.1 hac hiv]
    · simp only [if_neg c1]
  · simp only [if_neg c0]
theorem lt6_le5 (x : Int32) : x < 6 ↔ x ≤ 5 := by
  rw [Int32.lt_iff_toInt_lt, Int32.le_iff_toInt_le]
  have h1 : (6 : Int32).toInt = 6 := rfl
  have h2 : (5 : Int32).toInt = 5 := rfl
  omega
theorem rel_amount {S M : g_S} {cl : Nat} (h : rel S M cl) (p0 p1 : Int32) : x_amR S p0 p1 = m_amR M p0 p1 := by
  rw [x_amR, m_amR]
  by_cases c0 : f_bad 1 p0 = 0
  · simp only [if_pos c0]
    by_cases c1 : p1 < 0
    · simp only [if_pos c1]
    · simp only [if_neg c1]
      by_cases c2 : p1 < 6
      · simp only [if_pos c2, if_pos ((lt6_le5 p1).mp c2)]
        obtain ⟨ac, hac, rfl⟩ := f_bad1 c0
        obtain ⟨p, hp, rfl⟩ := f_lt6 c1 c2
        rw [f_cl (n := ac) (by omega), f_cl (n := p) (by omega), ← amt_eq h.1 hac hp]
        by_cases c3 : S 2 0 ≤ nI p
        · rw [if_pos c3]
        · rw [if_neg c3]
          have hcl := h.1.1
          exact h.2.1 ac p hac (Nat.lt_of_not_le (fun q => c3 (by rw [hcl.2.1]; exact (nI_leI (by omega) (by omega)).mpr q)))
      · simp only [if_neg c2, if_neg (fun q => c2 ((lt6_le5 p1).mpr q))]
  · simp only [if_neg c0]
theorem rel_balance {S M : g_S} {cl : Nat} (h : rel S M cl) (e p0 : Int32) : f_acc S 13 e p0 = f_acc M 6 e p0 := by
  rw [f_acc, f_acc]
  by_cases c0 : f_bad 1 p0 = 0
  · simp only [if_pos c0]
    obtain ⟨ac, hac, rfl⟩ := f_bad1 c0
    rw [f_cl (n := ac) (by omega), (h.2.2.2 ac hac).1]
  · simp only [if_neg c0]
theorem rel_lines {S M : g_S} {cl : Nat} (h : rel S M cl) (e p0 : Int32) : f_acc S 14 e p0 = f_acc M 5 e p0 := by
  rw [f_acc, f_acc]
  by_cases c0 : f_bad 1 p0 = 0
  · simp only [if_pos c0]
    obtain ⟨ac, hac, rfl⟩ := f_bad1 c0
    rw [f_cl (n := ac) (by omega), (h.2.2.2 ac hac).2.1]
  · simp only [if_neg c0]
theorem rel_noL {S M : g_S} {cl : Nat} (h : rel S M cl) (p0 p1 : Int32) : f_noL S 14 p0 p1 = f_noL M 5 p0 p1 := by
  rw [f_noL, f_noL]
  by_cases c0 : f_bad 1 p0 = 0
  · simp only [if_pos c0]
    obtain ⟨ac, hac, rfl⟩ := f_bad1 c0
    rw [f_cl (n := ac) (by omega), (h.2.2.2 ac hac).2.1]
  · simp only [if_neg c0]
theorem rel_lineA {S M : g_S} {cl : Nat} (h : rel S M cl) (e p0 p1 : Int32) : x_lnR S 15 e p0 p1 = m_lnR M 7 e p0 p1 := by
  rw [x_lnR, m_lnR, rel_noL h]
  by_cases c0 : f_noL M 5 p0 p1 = 0
  · simp only [if_pos c0]
    obtain ⟨ac, b, hac, hb, rfl, rfl⟩ := f_noL_in c0
    rw [f_cl (n := ac) (by omega), f_cl (n := b) (by omega), ((h.2.2.2 ac hac).2.2 b hb).1]
  · simp only [if_neg c0]
theorem rel_lineP {S M : g_S} {cl : Nat} (h : rel S M cl) (e p0 p1 : Int32) : x_lnR S 16 e p0 p1 = m_lnR M 8 e p0 p1 := by
  rw [x_lnR, m_lnR, rel_noL h]
  by_cases c0 : f_noL M 5 p0 p1 = 0
  · simp only [if_pos c0]
    obtain ⟨ac, b, hac, hb, rfl, rfl⟩ := f_noL_in c0
    rw [f_cl (n := ac) (by omega), f_cl (n := b) (by omega), ((h.2.2.2 ac hac).2.2 b hb).2]
  · simp only [if_neg c0]
/-! closing a period -/
theorem x_copy_1 (S : g_S) (p : Nat) : ∀ n : Nat, ∀ j, x_copy S p n 1 j = if p * 6 ≤ j ∧ j < p * 6 + n then S 0 (j - p * 6) else S 1 j := by
  intro n
  induction n with
  | zero => intro j; rw [x_copy, if_neg (by omega)]
  | succ n ih =>
    intro j
    rw [x_copy, up2_s, x_copy_o (k := 0) _ _ _ (by decide)]
    by_cases e : j = p * 6 + n
    · rw [e, upd_s, if_pos (by omega), show p * 6 + n - p * 6 = n by omega]
    · rw [upd_o _ _ e, ih]
      by_cases hc : p * 6 ≤ j ∧ j < p * 6 + n
      · rw [if_pos hc, if_pos (by omega)]
      · rw [if_neg hc, if_neg (by omega)]
theorem m_copy_2 (M : g_S) (p : Nat) : ∀ n : Nat, ∀ j, m_copy M p n 2 j = if p * 6 ≤ j ∧ j < p * 6 + n then M 1 (j - p * 6) else M 2 j := by
  intro n
  induction n with
  | zero => intro j; rw [m_copy, if_neg (by omega)]
  | succ n ih =>
    intro j
    rw [m_copy, up2_s, m_copy_o (k := 1) _ _ _ (by decide)]
    by_cases e : j = p * 6 + n
    · rw [e, upd_s, if_pos (by omega), show p * 6 + n - p * 6 = n by omega]
    · rw [upd_o _ _ e, ih]
      by_cases hc : p * 6 ≤ j ∧ j < p * 6 + n
      · rw [if_pos hc, if_pos (by omega)]
      · rw [if_neg hc, if_neg (by omega)]
theorem bill_step {S M : g_S} {cl : Nat} (hb : r_base S M cl) (hm : r_bm S M) (hl : r_ln S M) {ac p : Nat} (hac : ac < 2) (hp : p < 6) :
    r_base (x_bill S ac p) (m_bill M ac p) cl ∧ r_bm (x_bill S ac p) (m_bill M ac p) ∧ r_ln (x_bill S ac p) (m_bill M ac p) ∧ (∀ k, k ≤ 11 → x_bill S ac p k = S k) ∧ x_bill S ac p 12 = upd (S 12) (ac * 6 + p) (x_rate S ac p) := by
  have ha := amt_eq hb hac hp
  have hS : ∀ k, k ≤ 11 → x_bill S ac p k = S k := fun k hk => by
    rw [x_bill, x_add_o _ _ _ _ (by omega) (by omega) (by omega) (by omega), up2_o _ _ _ (by omega)]
  have hM : ∀ k, k ≤ 3 → m_bill M ac p k = M k := fun k hk => by
    rw [m_bill, m_line_o _ _ _ _ (by omega) (by omega) (by omega) (by omega), up2_o _ _ _ (by omega)]
  have h12 : x_bill S ac p 12 = upd (S 12) (ac * 6 + p) (x_rate S ac p) := by
    rw [x_bill, x_add_o _ _ _ _ (by decide) (by decide) (by decide) (by decide), up2_s]
  have h4 : m_bill M ac p 4 = upd (M 4) (ac * 6 + p) (m_amt M ac p) := by
    rw [m_bill, m_line_o _ _ _ _ (by decide) (by decide) (by decide) (by decide), up2_s]
  refine ⟨base_congr hS hM hb, fun i hi => ?_, ?_, hS, h12⟩
  · rw [h12, h4, ha]
    by_cases e : i = ac * 6 + p
    · rw [e, upd_s, upd_s]
    · rw [upd_o _ _ e, upd_o _ _ e, hm i hi]
  · rw [x_bill, m_bill, ha]
    exact ln_add (ln_congr (up2_o _ _ _ (by decide)) (up2_o _ _ _ (by decide)) (up2_o _ _ _ (by decide)) (up2_o _ _ _ (by decide)) (up2_o _ _ _ (by decide)) (up2_o _ _ _ (by decide)) (up2_o _ _ _ (by decide)) (up2_o _ _ _ (by decide)) hl) hac p _
theorem rel_close {S M : g_S} {cl : Nat} (h : rel S M cl) : ∃ cl', rel (x_clS S cl) (m_clS M cl) cl' := by
  rw [x_clS, m_clS]
  by_cases c : cl < 6
  · simp only [if_pos c]
    refine ⟨cl + 1, ?_⟩
    obtain ⟨hb, hbl, hbm, hln⟩ := h
    have hc := hb.1
    have hi := hb.2.1
    have k1 : ∀ k, k ≠ 1 → k ≠ 2 → up2 (x_copy S cl 6) 2 0 (nI (cl + 1)) k = S k := fun k a b => by rw [up2_o _ _ _ b, x_copy_o _ _ _ a]
    have k2 : ∀ k, k ≠ 2 → k ≠ 3 → up2 (m_copy M cl 6) 3 0 (nI (cl + 1)) k = M k := fun k a b => by rw [up2_o _ _ _ b, m_copy_o _ _ _ a]
    have hs2 : up2 (x_copy S cl 6) 2 0 (nI (cl + 1)) 2 0 = nI (cl + 1) := by rw [up2_s, upd_s]
    have hb1 : r_base (up2 (x_copy S cl 6) 2 0 (nI (cl + 1))) (up2 (m_copy M cl 6) 3 0 (nI (cl + 1))) (cl + 1) := by
      refine ⟨⟨by omega, hs2, by rw [up2_s, upd_s]⟩, ⟨fun i h6 => ?_, fun i h36 => ?_⟩, base2_congr (fun k a _ => k1 k (by omega) (by omega)) (k2 0 (by decide) (by decide)) hb⟩
      · rw [k1 0 (by decide) (by decide), k2 1 (by decide) (by decide)]; exact hi.1 i h6
      · rw [up2_o _ _ _ (by decide), up2_o _ _ _ (by decide), x_copy_1, m_copy_2]
        by_cases e : cl * 6 ≤ i ∧ i < cl * 6 + 6
        · rw [if_pos e, if_pos e]; exact hi.1 _ (by omega)
        · rw [if_neg e, if_neg e]; exact hi.2 i h36
    have hm1 : r_bm (up2 (x_copy S cl 6) 2 0 (nI (cl + 1))) (up2 (m_copy M cl 6) 3 0 (nI (cl + 1))) := fun i hi12 => by
      rw [k1 12 (by decide) (by decide), k2 4 (by decide) (by decide)]; exact hbm i hi12
    have hl1 : r_ln (up2 (x_copy S cl 6) 2 0 (nI (cl + 1))) (up2 (m_copy M cl 6) 3 0 (nI (cl + 1))) :=
      ln_congr (k1 13 (by decide) (by decide)) (k1 14 (by decide) (by decide)) (k1 15 (by decide) (by decide)) (k1 16 (by decide) (by decide)) (k2 5 (by decide) (by decide)) (k2 6 (by decide) (by decide)) (k2 7 (by decide) (by decide)) (k2 8 (by decide) (by decide)) hln
    have ho1 : ∀ ac p, ac < 2 → p < cl → up2 (x_copy S cl 6) 2 0 (nI (cl + 1)) 12 (ac * 6 + p) = x_rate (up2 (x_copy S cl 6) 2 0 (nI (cl + 1))) ac p := fun ac p h1 h2 => by
      rw [k1 12 (by decide) (by decide), hbl ac p h1 h2]
      refine (rate_closed ac hc.2.1 hs2 hc.1 (by omega) h2 (by omega) (fun i hi6 => ?_) (k1 8 (by decide) (by decide)) (k1 9 (by decide) (by decide)) (k1 10 (by decide) (by decide)) (k1 11 (by decide) (by decide))).symm
      rw [up2_o _ _ _ (by decide), x_copy_1, if_neg (by omega)]
    generalize up2 (x_copy S cl 6) 2 0 (nI (cl + 1)) = S1 at hb1 hm1 hl1 ho1 ⊢
    generalize up2 (m_copy M cl 6) 3 0 (nI (cl + 1)) = M1 at hb1 hm1 hl1 ⊢
    obtain ⟨b2, m2, l2, f2, t2⟩ := bill_step hb1 hm1 hl1 (ac := 0) (p := cl) (by omega) c
    obtain ⟨b3, m3, l3, f3, t3⟩ := bill_step b2 m2 l2 (ac := 1) (p := cl) (by omega) c
    refine ⟨b3, fun ac p h1 h2 => ?_, m3, l3⟩
    rw [x_rate_congr f3, x_rate_congr f2, t3, x_rate_congr f2, t2]
    by_cases ep : p = cl
    · rw [ep]
      by_cases e1 : ac = 1
      · rw [e1, upd_s]
      · obtain rfl : ac = 0 := by omega
        rw [upd_o _ _ (by omega), upd_s]
    · rw [upd_o _ _ (by omega), upd_o _ _ (by omega)]
      exact ho1 ac p h1 (by omega)
  · simp only [if_neg c]
    exact ⟨cl, h⟩
/-! the start -/
theorem m_fill_o (n : Nat) {k : Nat} (h : k ≠ 0) : m_fill n k = g_Z k := by
  induction n with
  | zero => rfl
  | succ n ih => rw [m_fill, up2_o _ _ _ h, ih]
theorem m_fill_0 : ∀ n j : Nat, j < n → m_fill n 0 j = -1 := by
  intro n
  induction n with
  | zero => intro j h; omega
  | succ n ih =>
    intro j h
    rw [m_fill, up2_s]
    by_cases e : j = n
    · rw [e, upd_s]
    · rw [upd_o _ _ e]; exact ih j (by omega)
theorem rel_start_of {M0 : g_S} (h0 : ∀ j, j < 96 → M0 0 j = -1) (ho : ∀ k, k ≠ 0 → M0 k = g_Z k) : rel g_Z M0 0 := by
  have hneg : (-1 : Int32) < 0 := by decide
  have hcs : ∀ ac q n, ac < 2 → n ≤ 48 → m_cnt M0 ac q n = 0 ∧ m_sum M0 ac q n = 0 := by
    intro ac q n hac
    induction n with
    | zero => intro _; exact ⟨rfl, rfl⟩
    | succ n ih =>
      intro hn
      obtain ⟨i1, i2⟩ := ih (by omega)
      have hx : M0 0 (ac * 48 + n) < 0 := by rw [h0 _ (by omega)]; exact hneg
      rw [m_cnt, m_sum, if_pos hx, if_pos hx, i1, i2]
      exact ⟨by split <;> rfl, by split <;> rfl⟩
  have hlook : ∀ ac iv r k, x_look g_Z ac iv r k = 0 := by
    intro ac iv r k
    induction k with
    | zero =>
      rw [x_look, if_pos (show g_Z 3 (ac * 48 + (0 * 8 + r)) = 0 from rfl), x_mean, if_pos (show g_Z 6 (ac * 6 + iv / 8) ≤ 0 from i_rf 0)]
    | succ k ih => rw [x_look, if_pos (show g_Z 3 (ac * 48 + ((k + 1) * 8 + r)) = 0 from rfl), ih]
  have hmost : ∀ st n, x_most g_Z st n = 0 := by
    intro st n
    induction n with
    | zero => rfl
    | succ n ih => rw [x_most, ih, if_pos (show g_Z 5 (st + n) ≤ 0 from i_rf 0)]
  have hz : ∀ k j, g_Z k j = 0 := fun _ _ => rfl
  refine ⟨⟨⟨by decide, hz _ _, by rw [ho 3 (by decide)]; exact hz _ _⟩, ⟨fun i _ => by rw [ho 1 (by decide)]; exact hz _ _, fun i _ => by rw [ho 2 (by decide)]; exact hz _ _⟩, fun j hj => Or.inl ⟨hz _ _, h0 j hj⟩, fun ac q h1 _ => ?_, fun ac iv _ _ => ?_, fun ac q _ _ => ?_⟩, fun ac p _ h => by omega, fun i _ => by rw [ho 4 (by decide), hz, hz], fun ac _ => ?_⟩
  · obtain ⟨e1, e2⟩ := hcs ac q 48 h1 (Nat.le_refl 48)
    rw [e1, e2, hz, hz]; exact ⟨nI_0.symm, rfl⟩
  · rw [x_rule, hlook, hz]
  · unfold agg1
    simp only [hz, hmost]
    exact ⟨by decide, by decide, by decide, trivial⟩
  · rw [ho 6 (by decide), ho 5 (by decide), ho 7 (by decide), ho 8 (by decide)]
    simp only [hz]
    exact ⟨trivial, trivial, fun b _ => ⟨trivial, trivial⟩⟩
theorem rel_start : rel g_Z (m_fill 96) 0 := rel_start_of (m_fill_0 96) (fun k h => m_fill_o 96 h)
end
section
set_option maxRecDepth 100000
/-! THE CLAIM OUT OF ONE WALK OF THE LAW'S BODY. Your part is whole_start (and what it stands on); all else here is the same for every law, but numbers. -/
def R_law : String := "UtilityRebillerLaw"
def lw_P (b : Addr) (xs : List Int32) (args : Array Value) (s : State) : Prop := args = #[.ref b] ∧ s.IntsAt b xs ∧ xs.length ≤ 256 ∧ (Jvm.Cond.and given_1 narrow_1).before args s = true
def lw_Q (_ : Array Value) (s : State) (o : Outcome) (t : State) : Prop := o = .returned (some (.int 1)) ∧ Framed s o t [] 600000 7290000
def lw_Z (below : List Frame) (a : Array Value) (s : State) : State → Prop := fun t => ∃ o, t.status = .running ∧ Ended t below o ∧ lw_Q a s o t
/-- the law's own end, with 1 on the stack, nothing written that was there before, its room as the claim has it -/
theorem lw_ret {p : Program} {l : Launch} {e : Env} {s : State} {m : MethodId} {below : List Frame} {meth : Method} {c : Code} {b : Nat} (hx : p.tables.exec = Jvm.exec) (hb : c.code = code) (hr : meth.sig.returnType = ret) (hlocks : meth.locks = false) {pc : Nat} {H : Heap} {ls : Array Slot} (hdg : decode code pc = .ok (.ireturn, 1)) : W p l e room_1 s m #[Value.ref b] below meth c H [] 600000 7290000 (lw_Z below #[Value.ref b] s) (F0 m pc ls [.int 1]) := by
  intro T hT X
  obtain ⟨fs, hret, hrun, hended, hW, hframe⟩ := X.leave (v := some (.int 1)) (hlocks := hlocks) (fun h => by rw [hr] at h; cases h)
  have hmeth' : T.vm.method? m = some meth := X.method'
  refine ⟨T.setFrames fs, ?_, .returned (some (.int 1)), hrun, hended, rfl, ⟨_, rfl⟩, hW, hframe⟩
  jvm_step X.here [X.here.top, hx, hb, hdg, hmeth', hr, ret, narrow_b1]
  (try refine ⟨rfl, ?_⟩); (try refine ⟨rfl, ?_⟩)
  first | (intro acts; rw [hret _ acts rfl rfl rfl]) | rw [hret _ _ rfl rfl rfl]
  exact Steps.refl _
/-- what holds at the law's entry: the machine, the code, the tables' words (any of lw_tbl by 'hts w (by decide +kernel)'), the script of L ints xs at the cell b, what the Statement gives of the start (any of its parts by flat_of_before) -/
def lw_At (p : Program) (s : State) (m : MethodId) (meth : Method) (c : Code) (b L : Nat) (xs : Nat → Int32) : Prop :=
  p.tables.exec = Jvm.exec ∧ c.code = code ∧ meth.sig.returnType = ret ∧ c.maxLocals = 4 ∧ s.vm.findClass R_law = some m.cls ∧ (∀ w ∈ lw_tbl, w.before #[Value.ref b] s = true) ∧ va_X b L xs s s.heap ∧ b < s.heap.size ∧ meth.locks = false ∧ (Jvm.Cond.and given_1 narrow_1).before #[Value.ref b] s = true
end
section
set_option maxRecDepth 100000
set_option maxHeartbeats 4000000
theorem lxv_tariff : GoodIn lw_all (wsV R_law 13 RX0 yX0_tariff (ws_ yX0_tariff cX0_tariff 4 (some .int))) := lw_V q81 q82 q83 q17 q84
theorem lxd_tariff : yX0_tariff.cls = RX0 ∧ yX0_tariff.cls ≠ "java/lang/invoke/MethodHandle" ∧ yX0_tariff.cls ≠ "java/lang/invoke/VarHandle" ∧ (parseMethodDescriptor yX0_tariff.desc).map (fun d => d.parameters.length) = some 2 := by decide +kernel
theorem lxv_read : GoodIn lw_all (wsV R_law 18 RX0 yX0_read (ws_ yX0_read cX0_read 6 (some .int))) := lw_V q85 q86 q87 q17 q88
theorem lxd_read : yX0_read.cls = RX0 ∧ yX0_read.cls ≠ "java/lang/invoke/MethodHandle" ∧ yX0_read.cls ≠ "java/lang/invoke/VarHandle" ∧ (parseMethodDescriptor yX0_read.desc).map (fun d => d.parameters.length) = some 3 := by decide +kernel
theorem lxv_unread : GoodIn lw_all (wsV R_law 23 RX0 yX0_unread (ws_ yX0_unread cX0_unread 3 (some .int))) := lw_V q131 q132 q133 q17 q134
theorem lxd_unread : yX0_unread.cls = RX0 ∧ yX0_unread.cls ≠ "java/lang/invoke/MethodHandle" ∧ yX0_unread.cls ≠ "java/lang/invoke/VarHandle" ∧ (parseMethodDescriptor yX0_unread.desc).map (fun d => d.parameters.length) = some 2 := by decide +kernel
theorem lxv_close : GoodIn lw_all (wsV R_law 27 RX0 yX0_close (ws_ yX0_close cX0_close 4 (some .int))) := lw_V q135 q136 q137 q17 q138
theorem lxd_close : yX0_close.cls = RX0 ∧ yX0_close.cls ≠ "java/lang/invoke/MethodHandle" ∧ yX0_close.cls ≠ "java/lang/invoke/VarHandle" ∧ (parseMethodDescriptor yX0_close.desc).map (fun d => d.parameters.length) = some 0 := by decide +kernel
theorem lxv_usage : GoodIn lw_all (wsV R_law 32 RX0 yX0_usage (ws_ yX0_usage cX0_usage 3 (some .int))) := lw_V q139 q140 q141 q17 q142
theorem lxd_usage : yX0_usage.cls = RX0 ∧ yX0_usage.cls ≠ "java/lang/invoke/MethodHandle" ∧ yX0_usage.cls ≠ "java/lang/invoke/VarHandle" ∧ (parseMethodDescriptor yX0_usage.desc).map (fun d => d.parameters.length) = some 2 := by decide +kernel
theorem lxv_amount : GoodIn lw_all (wsV R_law 36 RX0 yX0_amount (ws_ yX0_amount cX0_amount 3 (some .int))) := lw_V q143 q144 q145 q17 q146
theorem lxd_amount : yX0_amount.cls = RX0 ∧ yX0_amount.cls ≠ "java/lang/invoke/MethodHandle" ∧ yX0_amount.cls ≠ "java/lang/invoke/VarHandle" ∧ (parseMethodDescriptor yX0_amount.desc).map (fun d => d.parameters.length) = some 2 := by decide +kernel
theorem lxv_balance : GoodIn lw_all (wsV R_law 40 RX0 yX0_balance (ws_ yX0_balance cX0_balance 2 (some .int))) := lw_V q147 q148 q149 q17 q150
theorem lxd_balance : yX0_balance.cls = RX0 ∧ yX0_balance.cls ≠ "java/lang/invoke/MethodHandle" ∧ yX0_balance.cls ≠ "java/lang/invoke/VarHandle" ∧ (parseMethodDescriptor yX0_balance.desc).map (fun d => d.parameters.length) = some 1 := by decide +kernel
theorem lxv_lines : GoodIn lw_all (wsV R_law 45 RX0 yX0_lines (ws_ yX0_lines cX0_lines 2 (some .int))) := lw_V q151 q152 q153 q17 q154
theorem lxd_lines : yX0_lines.cls = RX0 ∧ yX0_lines.cls ≠ "java/lang/invoke/MethodHandle" ∧ yX0_lines.cls ≠ "java/lang/invoke/VarHandle" ∧ (parseMethodDescriptor yX0_lines.desc).map (fun d => d.parameters.length) = some 1 := by decide +kernel
theorem lxv_lineAmount : GoodIn lw_all (wsV R_law 49 RX0 yX0_lineAmount (ws_ yX0_lineAmount cX0_lineAmount 3 (some .int))) := lw_V q155 q156 q157 q17 q158
theorem lxd_lineAmount : yX0_lineAmount.cls = RX0 ∧ yX0_lineAmount.cls ≠ "java/lang/invoke/MethodHandle" ∧ yX0_lineAmount.cls ≠ "java/lang/invoke/VarHandle" ∧ (parseMethodDescriptor yX0_lineAmount.desc).map (fun d => d.parameters.length) = some 2 := by decide +kernel
theorem lxv_linePeriod : GoodIn lw_all (wsV R_law 53 RX0 yX0_linePeriod (ws_ yX0_linePeriod cX0_linePeriod 3 (some .int))) := lw_V q163 q164 q165 q17 q166
theorem lxd_linePeriod : yX0_linePeriod.cls = RX0 ∧ yX0_linePeriod.cls ≠ "java/lang/invoke/MethodHandle" ∧ yX0_linePeriod.cls ≠ "java/lang/invoke/VarHandle" ∧ (parseMethodDescriptor yX0_linePeriod.desc).map (fun d => d.parameters.length) = some 2 := by decide +kernel
theorem lmv_tariff : GoodIn lw_all (wsV R_law 17 RX1 yX1_tariff (ws_ yX1_tariff cX1_tariff 4 (some .int))) := lw_V q201 q202 q203 q18 q204
theorem lmd_tariff : yX1_tariff.cls = RX1 ∧ yX1_tariff.cls ≠ "java/lang/invoke/MethodHandle" ∧ yX1_tariff.cls ≠ "java/lang/invoke/VarHandle" ∧ (parseMethodDescriptor yX1_tariff.desc).map (fun d => d.parameters.length) = some 2 := by decide +kernel
theorem lmv_read : GoodIn lw_all (wsV R_law 22 RX1 yX1_read (ws_ yX1_read cX1_read 4 (some .int))) := lw_V q205 q206 q207 q18 q208
theorem lmd_read : yX1_read.cls = RX1 ∧ yX1_read.cls ≠ "java/lang/invoke/MethodHandle" ∧ yX1_read.cls ≠ "java/lang/invoke/VarHandle" ∧ (parseMethodDescriptor yX1_read.desc).map (fun d => d.parameters.length) = some 3 := by decide +kernel
theorem lmv_unread : GoodIn lw_all (wsV R_law 26 RX1 yX1_unread (ws_ yX1_unread cX1_unread 3 (some .int))) := lw_V q237 q238 q239 q18 q240
theorem lmd_unread : yX1_unread.cls = RX1 ∧ yX1_unread.cls ≠ "java/lang/invoke/MethodHandle" ∧ yX1_unread.cls ≠ "java/lang/invoke/VarHandle" ∧ (parseMethodDescriptor yX1_unread.desc).map (fun d => d.parameters.length) = some 2 := by decide +kernel
theorem lmv_close : GoodIn lw_all (wsV R_law 31 RX1 yX1_close (ws_ yX1_close cX1_close 4 (some .int))) := lw_V q241 q242 q243 q18 q244
theorem lmd_close : yX1_close.cls = RX1 ∧ yX1_close.cls ≠ "java/lang/invoke/MethodHandle" ∧ yX1_close.cls ≠ "java/lang/invoke/VarHandle" ∧ (parseMethodDescriptor yX1_close.desc).map (fun d => d.parameters.length) = some 0 := by decide +kernel
theorem lmv_usage : GoodIn lw_all (wsV R_law 35 RX1 yX1_usage (ws_ yX1_usage cX1_usage 6 (some .int))) := lw_V q245 q226 q227 q18 q228
theorem lmd_usage : yX1_usage.cls = RX1 ∧ yX1_usage.cls ≠ "java/lang/invoke/MethodHandle" ∧ yX1_usage.cls ≠ "java/lang/invoke/VarHandle" ∧ (parseMethodDescriptor yX1_usage.desc).map (fun d => d.parameters.length) = some 2 := by decide +kernel
theorem lmv_amount : GoodIn lw_all (wsV R_law 39 RX1 yX1_amount (ws_ yX1_amount cX1_amount 10 (some .int))) := lw_V q246 q222 q223 q18 q224
theorem lmd_amount : yX1_amount.cls = RX1 ∧ yX1_amount.cls ≠ "java/lang/invoke/MethodHandle" ∧ yX1_amount.cls ≠ "java/lang/invoke/VarHandle" ∧ (parseMethodDescriptor yX1_amount.desc).map (fun d => d.parameters.length) = some 2 := by decide +kernel
theorem lmv_balance : GoodIn lw_all (wsV R_law 44 RX1 yX1_balance (ws_ yX1_balance cX1_balance 2 (some .int))) := lw_V q247 q248 q249 q18 q250
theorem lmd_balance : yX1_balance.cls = RX1 ∧ yX1_balance.cls ≠ "java/lang/invoke/MethodHandle" ∧ yX1_balance.cls ≠ "java/lang/invoke/VarHandle" ∧ (parseMethodDescriptor yX1_balance.desc).map (fun d => d.parameters.length) = some 1 := by decide +kernel
theorem lmv_lines : GoodIn lw_all (wsV R_law 48 RX1 yX1_lines (ws_ yX1_lines cX1_lines 2 (some .int))) := lw_V q251 q252 q253 q18 q254
theorem lmd_lines : yX1_lines.cls = RX1 ∧ yX1_lines.cls ≠ "java/lang/invoke/MethodHandle" ∧ yX1_lines.cls ≠ "java/lang/invoke/VarHandle" ∧ (parseMethodDescriptor yX1_lines.desc).map (fun d => d.parameters.length) = some 1 := by decide +kernel
theorem lmv_lineAmount : GoodIn lw_all (wsV R_law 52 RX1 yX1_lineAmount (ws_ yX1_lineAmount cX1_lineAmount 3 (some .int))) := lw_V q255 q256 q257 q18 q258
theorem lmd_lineAmount : yX1_lineAmount.cls = RX1 ∧ yX1_lineAmount.cls ≠ "java/lang/invoke/MethodHandle" ∧ yX1_lineAmount.cls ≠ "java/lang/invoke/VarHandle" ∧ (parseMethodDescriptor yX1_lineAmount.desc).map (fun d => d.parameters.length) = some 2 := by decide +kernel
theorem lmv_linePeriod : GoodIn lw_all (wsV R_law 56 RX1 yX1_linePeriod (ws_ yX1_linePeriod cX1_linePeriod 3 (some .int))) := lw_V q263 q264 q265 q18 q266
theorem lmd_linePeriod : yX1_linePeriod.cls = RX1 ∧ yX1_linePeriod.cls ≠ "java/lang/invoke/MethodHandle" ∧ yX1_linePeriod.cls ≠ "java/lang/invoke/VarHandle" ∧ (parseMethodDescriptor yX1_linePeriod.desc).map (fun d => d.parameters.length) = some 2 := by decide +kernel
/-- the law's world: both objects -/
def l_B (D : va_G) (A : Nat → Prop) (d z : ClassId) (h : Nat) (a : Nat → Nat) (h2 : Nat) (a2 : Nat → Nat) (s : State) (H : Heap) (locs : List Loc) (S M : g_S) : Prop := va_P D vwCl (x_w h a d z S ++ m_w h2 a2 d z M) H ∧ va_D A (x_w h a d z S ++ m_w h2 a2 d z M) ∧ va_S A s.heap H locs
section LAWW
variable {p : Program} {l : Launch} {e : Env} {R : Room} {s : State} {m : MethodId} {args : Array Value} {below : List Frame} {meth : Method} {c : Code} {H : Heap} {locs : List Loc} {Q : State → Prop}
variable {D : va_G} {d z : ClassId} {A : Nat → Prop} {h h2 : Nat} {a a2 : Nat → Nat} {own : String} {cc : ByteArray} {nL : Nat} {ret0 : Option FieldType} {S S' M M' : g_S} {pc : Nat} {ls : Array Slot} {rest st0 : List Value} {cells slots : Nat}
variable {y : MethodName} {cy : ByteArray} {nLy fr lo index n : Nat} {rt : FieldType} {av : List Value} {r : Int32}
theorem l_callX (K : g_K p s m args meth c D d z A own cc nL ret0) (B : l_B D A d z h a h2 a2 s H locs S M) (hM : g_mi l D d z (x_w h a d z) y cy nLy rt fr lo (.ref h :: av) S r S')
    (hG : GoodIn lw_all (wsV own index RX0 y (ws_ y cy nLy (some rt)))) (hd : y.cls = RX0 ∧ y.cls ≠ "java/lang/invoke/MethodHandle" ∧ y.cls ≠ "java/lang/invoke/VarHandle" ∧ (parseMethodDescriptor y.desc).map (fun d => d.parameters.length) = some n) (hR : fr + 1 ≤ R.frames ∧ 8 + (nLy + 11) + lo ≤ R.locals)
    (hn : av.length = n) (hl : ls.size = nL) (hst : st0 = av.reverse ++ .ref h :: rest) (hW : (rest.map fun v => v.category).sum ≤ 8) (hdg : decode cc pc = .ok (.invokevirtual index, 3)) (hf : cells ≤ R.cells ∧ slots ≤ R.slots)
    (kk : ∀ (H1 : Heap) (locs1 : List Loc), l_B D A d z h a h2 a2 s H1 locs1 S' M → W p l e R s m args below meth c H1 locs1 cells slots Q (F0 m (pc + 3) ls (.int r :: rest))) : W p l e R s m args below meth c H locs cells slots Q (F0 m pc ls st0) := by
  obtain ⟨hP, hD, hS⟩ := B
  have hPc := hP.sub (ws' := x_w h a d z S) [0, 1, 2, 3, 4, 5, 6, 7, 8, 9, 10, 11, 12, 13, 14, 15, 16] rfl
  have hDc := hD.sub (ws' := x_w h a d z S) [0, 1, 2, 3, 4, 5, 6, 7, 8, 9, 10, 11, 12, 13, 14, 15, 16] (by decide) rfl
  have hFc := va_free (wc := x_w h a d z S) hD hS K.2.2.2.2.2.2.2.2 [0, 1, 2, 3, 4, 5, 6, 7, 8, 9, 10, 11, 12, 13, 14, 15, 16] rfl
  have B1 : g_B D A (x_w h a d z) s H locs S := ⟨hPc, hDc, hS⟩
  refine va_calli (va_runV (As := av) (rest := rest) ⟨K.1, K.2.1, K.2.2.2.2.1, K.2.2.2.2.2.1, K.2.2.2.2.2.2.1⟩ (hM H.size) (cwV n K.2.2.2.2.2.2.1 hG rfl rfl rfl hd hR) ⟨g_blind, va_recv K.2.2.2.2.2.2.2.1 hPc (ci := 0) (q0 := 0) rfl rfl, g_preU K B1 _⟩ rfl hn hl hst (lv_room hW) hdg hf) hS (fun q _ h => hFc q h) hFc (fun r2 u t H1 locs1 ht hvm hp hB hz hk hS => ?_)
  obtain ⟨rfl, rfl⟩ := hp
  obtain ⟨hP1, hK1, hD1⟩ := hB
  rw [ht] at hP1
  obtain ⟨hP, hD⟩ := va_join (wr := m_w h2 a2 d z M) (w1 := x_w h a d z u) hP hD [0, 1, 2, 3, 4, 5, 6, 7, 8, 9, 10, 11, 12, 13, 14, 15, 16] [17, 18, 19, 20, 21, 22, 23, 24, 25] rfl rfl (by decide) (by decide) hk hFc hP1 hD1
  exact kk H1 locs1 ⟨hP.sub [9, 10, 11, 12, 13, 14, 15, 16, 17, 18, 19, 20, 21, 22, 23, 24, 25, 0, 1, 2, 3, 4, 5, 6, 7, 8] rfl, hD.sub [9, 10, 11, 12, 13, 14, 15, 16, 17, 18, 19, 20, 21, 22, 23, 24, 25, 0, 1, 2, 3, 4, 5, 6, 7, 8] (by decide) rfl, hS⟩
theorem l_callM (K : g_K p s m args meth c D d z A own cc nL ret0) (B : l_B D A d z h a h2 a2 s H locs S M) (hM : g_mi l D d z (m_w h2 a2 d z) y cy nLy rt fr lo (.ref h2 :: av) M r M')
    (hG : GoodIn lw_all (wsV own index RX1 y (ws_ y cy nLy (some rt)))) (hd : y.cls = RX1 ∧ y.cls ≠ "java/lang/invoke/MethodHandle" ∧ y.cls ≠ "java/lang/invoke/VarHandle" ∧ (parseMethodDescriptor y.desc).map (fun d => d.parameters.length) = some n) (hR : fr + 1 ≤ R.frames ∧ 8 + (nLy + 11) + lo ≤ R.locals)
    (hn : av.length = n) (hl : ls.size = nL) (hst : st0 = av.reverse ++ .ref h2 :: rest) (hW : (rest.map fun v => v.category).sum ≤ 8) (hdg : decode cc pc = .ok (.invokevirtual index, 3)) (hf : cells ≤ R.cells ∧ slots ≤ R.slots)
    (kk : ∀ (H1 : Heap) (locs1 : List Loc), l_B D A d z h a h2 a2 s H1 locs1 S M' → W p l e R s m args below meth c H1 locs1 cells slots Q (F0 m (pc + 3) ls (.int r :: rest))) : W p l e R s m args below meth c H locs cells slots Q (F0 m pc ls st0) := by
  obtain ⟨hP, hD, hS⟩ := B
  have hPc := hP.sub (ws' := m_w h2 a2 d z M) [17, 18, 19, 20, 21, 22, 23, 24, 25] rfl
  have hDc := hD.sub (ws' := m_w h2 a2 d z M) [17, 18, 19, 20, 21, 22, 23, 24, 25] (by decide) rfl
  have hFc := va_free (wc := m_w h2 a2 d z M) hD hS K.2.2.2.2.2.2.2.2 [17, 18, 19, 20, 21, 22, 23, 24, 25] rfl
  have B1 : g_B D A (m_w h2 a2 d z) s H locs M := ⟨hPc, hDc, hS⟩
  refine va_calli (va_runV (As := av) (rest := rest) ⟨K.1, K.2.1, K.2.2.2.2.1, K.2.2.2.2.2.1, K.2.2.2.2.2.2.1⟩ (hM H.size) (cwV n K.2.2.2.2.2.2.1 hG rfl rfl rfl hd hR) ⟨g_blind, va_recv K.2.2.2.2.2.2.2.1 hPc (ci := 1) (q0 := 0) rfl rfl, g_preU K B1 _⟩ rfl hn hl hst (lv_room hW) hdg hf) hS (fun q _ h => hFc q h) hFc (fun r2 u t H1 locs1 ht hvm hp hB hz hk hS => ?_)
  obtain ⟨rfl, rfl⟩ := hp
  obtain ⟨hP1, hK1, hD1⟩ := hB
  rw [ht] at hP1
  obtain ⟨hP, hD⟩ := va_join (wr := x_w h a d z S) (w1 := m_w h2 a2 d z u) hP hD [17, 18, 19, 20, 21, 22, 23, 24, 25] [0, 1, 2, 3, 4, 5, 6, 7, 8, 9, 10, 11, 12, 13, 14, 15, 16] rfl rfl (by decide) (by decide) hk hFc hP1 hD1
  exact kk H1 locs1 ⟨hP, hD, hS⟩
theorem l_sld {b L j : Nat} {xs : Nat → Int32} (K : g_K p s m args meth c D d z A own cc nL ret0) (hX : va_X b L xs s s.heap) (hbl : b < s.heap.size) (hbA : ¬ A b) (hS : va_S A s.heap H locs) (hL : L ≤ 256) (hj : j < L) (hdg : decode cc pc = .ok (.iaload, 1))
    (kk : W p l e R s m args below meth c H locs cells slots Q (F0 m (pc + 1) ls (.int (xs j) :: rest))) : W p l e R s m args below meth c H locs cells slots Q (F0 m pc ls (.int (nI j) :: .ref b :: rest)) := by
  refine va_sld K.1 K.2.1 hX hbl hbA hS (vp_in_nI hj (by omega)) hdg ?_
  rw [nI_clamp (by omega)]
  exact kk
end LAWW
section LAWOPS
variable {p : Program} {l : Launch} {e : Env} {s : State} {m : MethodId} {below : List Frame} {meth : Method} {c : Code} {D : va_G} {d z : ClassId} {A : Nat → Prop} {h h2 b L : Nat} {a a2 : Nat → Nat} {xs : Nat → Int32} {Q : State → Prop}
/-- tariff on both sides -/
theorem l_op0 (K : g_K p s m #[Value.ref b] meth c D d z A R_law code 4 ret) (hX : va_X b L xs s s.heap) (hbl : b < s.heap.size) (hbA : ¬ A b) (hL : L ≤ 256) {S M : g_S} {cl j : Nat} (hj : j + 4 ≤ L) {H : Heap} {locs : List Loc} {ls : Array Slot} (B : l_B D A d z h a h2 a2 s H locs S M) (hr : rel S M cl) (hl : lv_has ls 4 [(0, .ref b), (1, .ref h), (2, .ref h2), (3, .int (nI j))]) (kk : ∀ (S1 M1 : g_S) (cl1 : Nat) (H1 : Heap) (locs1 : List Loc), l_B D A d z h a h2 a2 s H1 locs1 S1 M1 → rel S1 M1 cl1 → W p l e room_1 s m #[Value.ref b] below meth c H1 locs1 600000 7290000 Q (F0 m 388 ls [])) : W p l e room_1 s m #[Value.ref b] below meth c H locs 600000 7290000 Q (F0 m 88 ls []) := by
  have hx := K.1
  have hb := K.2.1
  refine lv_aload_n hx hb dL_law_88 rfl (lv_at hl 1 rfl) ?_
  refine lv_aload_n hx hb dL_law_89 rfl (lv_at hl 0 rfl) ?_
  refine lv_iload_n hx hb dL_law_90 rfl (lv_at hl 3 rfl) ?_
  refine lv_iconst (v := 1) hx hb dL_law_91 (by decide) ?_
  refine lv_iadd hx hb dL_law_92 ?_
  refine tp (n_a1 _) ?_
  refine l_sld K hX hbl hbA B.2.2 hL (by omega) dL_law_93 ?_
  refine lv_aload_n hx hb dL_law_94 rfl (lv_at hl 0 rfl) ?_
  refine lv_iload_n hx hb dL_law_95 rfl (lv_at hl 3 rfl) ?_
  refine lv_iconst (v := 2) hx hb dL_law_96 (by decide) ?_
  refine lv_iadd hx hb dL_law_97 ?_
  refine tp (n_a2 _) ?_
  refine l_sld K hX hbl hbA B.2.2 hL (by omega) dL_law_98 ?_
  refine l_callX (av := [.int (xs (j + 1)), .int (xs (j + 2))]) (rest := []) (r := f_tarR S 0 (xs (j + 1)) (xs (j + 2))) (S' := f_tarS S 0 (xs (j + 1)) (xs (j + 2))) K B (xm_tariff l D d z h a S (xs (j + 1)) (xs (j + 2)) ) lxv_tariff lxd_tariff ⟨Nat.le_of_ble_eq_true rfl, Nat.le_of_ble_eq_true rfl⟩ rfl hl.1 rfl (Nat.le_of_ble_eq_true rfl) dL_law_99 ⟨Nat.le_refl 600000, Nat.le_refl 7290000⟩ (fun H locs B => ?_)
  refine lv_aload_n hx hb dL_law_102 rfl (lv_at hl 2 rfl) ?_
  refine lv_aload_n hx hb dL_law_103 rfl (lv_at hl 0 rfl) ?_
  refine lv_iload_n hx hb dL_law_104 rfl (lv_at hl 3 rfl) ?_
  refine lv_iconst (v := 1) hx hb dL_law_105 (by decide) ?_
  refine lv_iadd hx hb dL_law_106 ?_
  refine tp (n_a1 _) ?_
  refine l_sld K hX hbl hbA B.2.2 hL (by omega) dL_law_107 ?_
  refine lv_aload_n hx hb dL_law_108 rfl (lv_at hl 0 rfl) ?_
  refine lv_iload_n hx hb dL_law_109 rfl (lv_at hl 3 rfl) ?_
  refine lv_iconst (v := 2) hx hb dL_law_110 (by decide) ?_
  refine lv_iadd hx hb dL_law_111 ?_
  refine tp (n_a2 _) ?_
  refine l_sld K hX hbl hbA B.2.2 hL (by omega) dL_law_112 ?_
  refine l_callM (av := [.int (xs (j + 1)), .int (xs (j + 2))]) (rest := [.int (f_tarR S 0 (xs (j + 1)) (xs (j + 2)))]) (r := f_tarR M 1 (xs (j + 1)) (xs (j + 2))) (M' := f_tarS M 1 (xs (j + 1)) (xs (j + 2))) K B (mm_tariff l D d z h2 a2 M (xs (j + 1)) (xs (j + 2)) ) lmv_tariff lmd_tariff ⟨Nat.le_of_ble_eq_true rfl, Nat.le_of_ble_eq_true rfl⟩ rfl hl.1 rfl (Nat.le_of_ble_eq_true rfl) dL_law_113 ⟨Nat.le_refl 600000, Nat.le_refl 7290000⟩ (fun H locs B => ?_)
  refine lv_icmp_eq (tgt := 388) hx hb dL_law_116 (by decide) (fun c1 => ?_) (fun c1 => ?_)
  · exact kk _ _ cl _ _ B (rel_tariff hr (xs (j + 1)) (xs (j + 2))).2
  · exact absurd (rel_tariff hr (xs (j + 1)) (xs (j + 2))).1 c1
/-- read on both sides -/
theorem l_op1 (K : g_K p s m #[Value.ref b] meth c D d z A R_law code 4 ret) (hX : va_X b L xs s s.heap) (hbl : b < s.heap.size) (hbA : ¬ A b) (hL : L ≤ 256) {S M : g_S} {cl j : Nat} (hj : j + 4 ≤ L) {H : Heap} {locs : List Loc} {ls : Array Slot} (B : l_B D A d z h a h2 a2 s H locs S M) (hr : rel S M cl) (hl : lv_has ls 4 [(0, .ref b), (1, .ref h), (2, .ref h2), (3, .int (nI j))]) (kk : ∀ (S1 M1 : g_S) (cl1 : Nat) (H1 : Heap) (locs1 : List Loc), l_B D A d z h a h2 a2 s H1 locs1 S1 M1 → rel S1 M1 cl1 → W p l e room_1 s m #[Value.ref b] below meth c H1 locs1 600000 7290000 Q (F0 m 388 ls [])) : W p l e room_1 s m #[Value.ref b] below meth c H locs 600000 7290000 Q (F0 m 121 ls []) := by
  have hx := K.1
  have hb := K.2.1
  refine lv_aload_n hx hb dL_law_121 rfl (lv_at hl 1 rfl) ?_
  refine lv_aload_n hx hb dL_law_122 rfl (lv_at hl 0 rfl) ?_
  refine lv_iload_n hx hb dL_law_123 rfl (lv_at hl 3 rfl) ?_
  refine lv_iconst (v := 1) hx hb dL_law_124 (by decide) ?_
  refine lv_iadd hx hb dL_law_125 ?_
  refine tp (n_a1 _) ?_
  refine l_sld K hX hbl hbA B.2.2 hL (by omega) dL_law_126 ?_
  refine lv_aload_n hx hb dL_law_127 rfl (lv_at hl 0 rfl) ?_
  refine lv_iload_n hx hb dL_law_128 rfl (lv_at hl 3 rfl) ?_
  refine lv_iconst (v := 2) hx hb dL_law_129 (by decide) ?_
  refine lv_iadd hx hb dL_law_130 ?_
  refine tp (n_a2 _) ?_
  refine l_sld K hX hbl hbA B.2.2 hL (by omega) dL_law_131 ?_
  refine lv_aload_n hx hb dL_law_132 rfl (lv_at hl 0 rfl) ?_
  refine lv_iload_n hx hb dL_law_133 rfl (lv_at hl 3 rfl) ?_
  refine lv_iconst (v := 3) hx hb dL_law_134 (by decide) ?_
  refine lv_iadd hx hb dL_law_135 ?_
  refine tp (n_a3 _) ?_
  refine l_sld K hX hbl hbA B.2.2 hL (by omega) dL_law_136 ?_
  refine l_callX (av := [.int (xs (j + 1)), .int (xs (j + 2)), .int (xs (j + 3))]) (rest := []) (r := x_rdR S cl (xs (j + 1)) (xs (j + 2)) (xs (j + 3))) (S' := x_rdS S cl (xs (j + 1)) (xs (j + 2)) (xs (j + 3))) K B (xm_read l D d z h a S (xs (j + 1)) (xs (j + 2)) (xs (j + 3)) hr.1.1.2.1 hr.1.1.1) lxv_read lxd_read ⟨Nat.le_of_ble_eq_true rfl, Nat.le_of_ble_eq_true rfl⟩ rfl hl.1 rfl (Nat.le_of_ble_eq_true rfl) dL_law_137 ⟨Nat.le_refl 600000, Nat.le_refl 7290000⟩ (fun H locs B => ?_)
  refine lv_aload_n hx hb dL_law_140 rfl (lv_at hl 2 rfl) ?_
  refine lv_aload_n hx hb dL_law_141 rfl (lv_at hl 0 rfl) ?_
  refine lv_iload_n hx hb dL_law_142 rfl (lv_at hl 3 rfl) ?_
  refine lv_iconst (v := 1) hx hb dL_law_143 (by decide) ?_
  refine lv_iadd hx hb dL_law_144 ?_
  refine tp (n_a1 _) ?_
  refine l_sld K hX hbl hbA B.2.2 hL (by omega) dL_law_145 ?_
  refine lv_aload_n hx hb dL_law_146 rfl (lv_at hl 0 rfl) ?_
  refine lv_iload_n hx hb dL_law_147 rfl (lv_at hl 3 rfl) ?_
  refine lv_iconst (v := 2) hx hb dL_law_148 (by decide) ?_
  refine lv_iadd hx hb dL_law_149 ?_
  refine tp (n_a2 _) ?_
  refine l_sld K hX hbl hbA B.2.2 hL (by omega) dL_law_150 ?_
  refine lv_aload_n hx hb dL_law_151 rfl (lv_at hl 0 rfl) ?_
  refine lv_iload_n hx hb dL_law_152 rfl (lv_at hl 3 rfl) ?_
  refine lv_iconst (v := 3) hx hb dL_law_153 (by decide) ?_
  refine lv_iadd hx hb dL_law_154 ?_
  refine tp (n_a3 _) ?_
  refine l_sld K hX hbl hbA B.2.2 hL (by omega) dL_law_155 ?_
  refine l_callM (av := [.int (xs (j + 1)), .int (xs (j + 2)), .int (xs (j + 3))]) (rest := [.int (x_rdR S cl (xs (j + 1)) (xs (j + 2)) (xs (j + 3)))]) (r := m_rdR M cl (xs (j + 1)) (xs (j + 2)) (xs (j + 3))) (M' := m_rdS M cl (xs (j + 1)) (xs (j + 2)) (xs (j + 3))) K B (mm_read l D d z h2 a2 M (xs (j + 1)) (xs (j + 2)) (xs (j + 3)) hr.1.1.2.2 hr.1.1.1) lmv_read lmd_read ⟨Nat.le_of_ble_eq_true rfl, Nat.le_of_ble_eq_true rfl⟩ rfl hl.1 rfl (Nat.le_of_ble_eq_true rfl) dL_law_156 ⟨Nat.le_refl 600000, Nat.le_refl 7290000⟩ (fun H locs B => ?_)
  refine lv_icmp_eq (tgt := 388) hx hb dL_law_159 (by decide) (fun c1 => ?_) (fun c1 => ?_)
  · exact kk _ _ cl _ _ B (rel_read hr (xs (j + 1)) (xs (j + 2)) (xs (j + 3))).2
  · exact absurd (rel_read hr (xs (j + 1)) (xs (j + 2)) (xs (j + 3))).1 c1
/-- unread on both sides -/
theorem l_op2 (K : g_K p s m #[Value.ref b] meth c D d z A R_law code 4 ret) (hX : va_X b L xs s s.heap) (hbl : b < s.heap.size) (hbA : ¬ A b) (hL : L ≤ 256) {S M : g_S} {cl j : Nat} (hj : j + 4 ≤ L) {H : Heap} {locs : List Loc} {ls : Array Slot} (B : l_B D A d z h a h2 a2 s H locs S M) (hr : rel S M cl) (hl : lv_has ls 4 [(0, .ref b), (1, .ref h), (2, .ref h2), (3, .int (nI j))]) (kk : ∀ (S1 M1 : g_S) (cl1 : Nat) (H1 : Heap) (locs1 : List Loc), l_B D A d z h a h2 a2 s H1 locs1 S1 M1 → rel S1 M1 cl1 → W p l e room_1 s m #[Value.ref b] below meth c H1 locs1 600000 7290000 Q (F0 m 388 ls [])) : W p l e room_1 s m #[Value.ref b] below meth c H locs 600000 7290000 Q (F0 m 164 ls []) := by
  have hx := K.1
  have hb := K.2.1
  refine lv_aload_n hx hb dL_law_164 rfl (lv_at hl 1 rfl) ?_
  refine lv_aload_n hx hb dL_law_165 rfl (lv_at hl 0 rfl) ?_
  refine lv_iload_n hx hb dL_law_166 rfl (lv_at hl 3 rfl) ?_
  refine lv_iconst (v := 1) hx hb dL_law_167 (by decide) ?_
  refine lv_iadd hx hb dL_law_168 ?_
  refine tp (n_a1 _) ?_
  refine l_sld K hX hbl hbA B.2.2 hL (by omega) dL_law_169 ?_
  refine lv_aload_n hx hb dL_law_170 rfl (lv_at hl 0 rfl) ?_
  refine lv_iload_n hx hb dL_law_171 rfl (lv_at hl 3 rfl) ?_
  refine lv_iconst (v := 2) hx hb dL_law_172 (by decide) ?_
  refine lv_iadd hx hb dL_law_173 ?_
  refine tp (n_a2 _) ?_
  refine l_sld K hX hbl hbA B.2.2 hL (by omega) dL_law_174 ?_
  refine l_callX (av := [.int (xs (j + 1)), .int (xs (j + 2))]) (rest := []) (r := x_urR S cl (xs (j + 1)) (xs (j + 2))) (S' := x_urS S cl (xs (j + 1)) (xs (j + 2))) K B (xm_unread l D d z h a S (xs (j + 1)) (xs (j + 2)) hr.1.1.2.1 hr.1.1.1) lxv_unread lxd_unread ⟨Nat.le_of_ble_eq_true rfl, Nat.le_of_ble_eq_true rfl⟩ rfl hl.1 rfl (Nat.le_of_ble_eq_true rfl) dL_law_175 ⟨Nat.le_refl 600000, Nat.le_refl 7290000⟩ (fun H locs B => ?_)
  refine lv_aload_n hx hb dL_law_178 rfl (lv_at hl 2 rfl) ?_
  refine lv_aload_n hx hb dL_law_179 rfl (lv_at hl 0 rfl) ?_
  refine lv_iload_n hx hb dL_law_180 rfl (lv_at hl 3 rfl) ?_
  refine lv_iconst (v := 1) hx hb dL_law_181 (by decide) ?_
  refine lv_iadd hx hb dL_law_182 ?_
  refine tp (n_a1 _) ?_
  refine l_sld K hX hbl hbA B.2.2 hL (by omega) dL_law_183 ?_
  refine lv_aload_n hx hb dL_law_184 rfl (lv_at hl 0 rfl) ?_
  refine lv_iload_n hx hb dL_law_185 rfl (lv_at hl 3 rfl) ?_
  refine lv_iconst (v := 2) hx hb dL_law_186 (by decide) ?_
  refine lv_iadd hx hb dL_law_187 ?_
  refine tp (n_a2 _) ?_
  refine l_sld K hX hbl hbA B.2.2 hL (by omega) dL_law_188 ?_
  refine l_callM (av := [.int (xs (j + 1)), .int (xs (j + 2))]) (rest := [.int (x_urR S cl (xs (j + 1)) (xs (j + 2)))]) (r := m_urR M cl (xs (j + 1)) (xs (j + 2))) (M' := m_urS M cl (xs (j + 1)) (xs (j + 2))) K B (mm_unread l D d z h2 a2 M (xs (j + 1)) (xs (j + 2)) hr.1.1.2.2 hr.1.1.1) lmv_unread lmd_unread ⟨Nat.le_of_ble_eq_true rfl, Nat.le_of_ble_eq_true rfl⟩ rfl hl.1 rfl (Nat.le_of_ble_eq_true rfl) dL_law_189 ⟨Nat.le_refl 600000, Nat.le_refl 7290000⟩ (fun H locs B => ?_)
  refine lv_icmp_eq (tgt := 388) hx hb dL_law_192 (by decide) (fun c1 => ?_) (fun c1 => ?_)
  · exact kk _ _ cl _ _ B (rel_unread hr (xs (j + 1)) (xs (j + 2))).2
  · exact absurd (rel_unread hr (xs (j + 1)) (xs (j + 2))).1 c1
/-- close on both sides -/
theorem l_op3 (K : g_K p s m #[Value.ref b] meth c D d z A R_law code 4 ret) (hX : va_X b L xs s s.heap) (hbl : b < s.heap.size) (hbA : ¬ A b) (hL : L ≤ 256) {S M : g_S} {cl j : Nat} (hj : j + 4 ≤ L) {H : Heap} {locs : List Loc} {ls : Array Slot} (B : l_B D A d z h a h2 a2 s H locs S M) (hr : rel S M cl) (hl : lv_has ls 4 [(0, .ref b), (1, .ref h), (2, .ref h2), (3, .int (nI j))]) (kk : ∀ (S1 M1 : g_S) (cl1 : Nat) (H1 : Heap) (locs1 : List Loc), l_B D A d z h a h2 a2 s H1 locs1 S1 M1 → rel S1 M1 cl1 → W p l e room_1 s m #[Value.ref b] below meth c H1 locs1 600000 7290000 Q (F0 m 388 ls [])) : W p l e room_1 s m #[Value.ref b] below meth c H locs 600000 7290000 Q (F0 m 197 ls []) := by
  have hx := K.1
  have hb := K.2.1
  refine lv_aload_n hx hb dL_law_197 rfl (lv_at hl 1 rfl) ?_
  refine l_callX (av := []) (rest := []) (r := f_clR cl) (S' := x_clS S cl) K B (xm_close l D d z h a S hr.1.1.2.1 hr.1.1.1) lxv_close lxd_close ⟨Nat.le_of_ble_eq_true rfl, Nat.le_of_ble_eq_true rfl⟩ rfl hl.1 rfl (Nat.le_of_ble_eq_true rfl) dL_law_198 ⟨Nat.le_refl 600000, Nat.le_refl 7290000⟩ (fun H locs B => ?_)
  refine lv_aload_n hx hb dL_law_201 rfl (lv_at hl 2 rfl) ?_
  refine l_callM (av := []) (rest := [.int (f_clR cl)]) (r := f_clR cl) (M' := m_clS M cl) K B (mm_close l D d z h2 a2 M hr.1.1.2.2 hr.1.1.1) lmv_close lmd_close ⟨Nat.le_of_ble_eq_true rfl, Nat.le_of_ble_eq_true rfl⟩ rfl hl.1 rfl (Nat.le_of_ble_eq_true rfl) dL_law_202 ⟨Nat.le_refl 600000, Nat.le_refl 7290000⟩ (fun H locs B => ?_)
  refine lv_icmp_eq (tgt := 388) hx hb dL_law_205 (by decide) (fun c1 => ?_) (fun c1 => ?_)
  · obtain ⟨cl1, hr1⟩ := rel_close hr
    exact kk _ _ cl1 _ _ B hr1
  · exact absurd rfl c1
/-- usage on both sides -/
theorem l_op4 (K : g_K p s m #[Value.ref b] meth c D d z A R_law code 4 ret) (hX : va_X b L xs s s.heap) (hbl : b < s.heap.size) (hbA : ¬ A b) (hL : L ≤ 256) {S M : g_S} {cl j : Nat} (hj : j + 4 ≤ L) {H : Heap} {locs : List Loc} {ls : Array Slot} (B : l_B D A d z h a h2 a2 s H locs S M) (hr : rel S M cl) (hl : lv_has ls 4 [(0, .ref b), (1, .ref h), (2, .ref h2), (3, .int (nI j))]) (kk : ∀ (S1 M1 : g_S) (cl1 : Nat) (H1 : Heap) (locs1 : List Loc), l_B D A d z h a h2 a2 s H1 locs1 S1 M1 → rel S1 M1 cl1 → W p l e room_1 s m #[Value.ref b] below meth c H1 locs1 600000 7290000 Q (F0 m 388 ls [])) : W p l e room_1 s m #[Value.ref b] below meth c H locs 600000 7290000 Q (F0 m 210 ls []) := by
  have hx := K.1
  have hb := K.2.1
  refine lv_aload_n hx hb dL_law_210 rfl (lv_at hl 1 rfl) ?_
  refine lv_aload_n hx hb dL_law_211 rfl (lv_at hl 0 rfl) ?_
  refine lv_iload_n hx hb dL_law_212 rfl (lv_at hl 3 rfl) ?_
  refine lv_iconst (v := 1) hx hb dL_law_213 (by decide) ?_
  refine lv_iadd hx hb dL_law_214 ?_
  refine tp (n_a1 _) ?_
  refine l_sld K hX hbl hbA B.2.2 hL (by omega) dL_law_215 ?_
  refine lv_aload_n hx hb dL_law_216 rfl (lv_at hl 0 rfl) ?_
  refine lv_iload_n hx hb dL_law_217 rfl (lv_at hl 3 rfl) ?_
  refine lv_iconst (v := 2) hx hb dL_law_218 (by decide) ?_
  refine lv_iadd hx hb dL_law_219 ?_
  refine tp (n_a2 _) ?_
  refine l_sld K hX hbl hbA B.2.2 hL (by omega) dL_law_220 ?_
  refine l_callX (av := [.int (xs (j + 1)), .int (xs (j + 2))]) (rest := []) (r := x_usR S (xs (j + 1)) (xs (j + 2))) (S' := S) K B (xm_usage l D d z h a S (xs (j + 1)) (xs (j + 2)) ) lxv_usage lxd_usage ⟨Nat.le_of_ble_eq_true rfl, Nat.le_of_ble_eq_true rfl⟩ rfl hl.1 rfl (Nat.le_of_ble_eq_true rfl) dL_law_221 ⟨Nat.le_refl 600000, Nat.le_refl 7290000⟩ (fun H locs B => ?_)
  refine lv_aload_n hx hb dL_law_224 rfl (lv_at hl 2 rfl) ?_
  refine lv_aload_n hx hb dL_law_225 rfl (lv_at hl 0 rfl) ?_
  refine lv_iload_n hx hb dL_law_226 rfl (lv_at hl 3 rfl) ?_
  refine lv_iconst (v := 1) hx hb dL_law_227 (by decide) ?_
  refine lv_iadd hx hb dL_law_228 ?_
  refine tp (n_a1 _) ?_
  refine l_sld K hX hbl hbA B.2.2 hL (by omega) dL_law_229 ?_
  refine lv_aload_n hx hb dL_law_230 rfl (lv_at hl 0 rfl) ?_
  refine lv_iload_n hx hb dL_law_231 rfl (lv_at hl 3 rfl) ?_
  refine lv_iconst (v := 2) hx hb dL_law_232 (by decide) ?_
  refine lv_iadd hx hb dL_law_233 ?_
  refine tp (n_a2 _) ?_
  refine l_sld K hX hbl hbA B.2.2 hL (by omega) dL_law_234 ?_
  refine l_callM (av := [.int (xs (j + 1)), .int (xs (j + 2))]) (rest := [.int (x_usR S (xs (j + 1)) (xs (j + 2)))]) (r := m_usR M (xs (j + 1)) (xs (j + 2))) (M' := M) K B (mm_usage l D d z h2 a2 M (xs (j + 1)) (xs (j + 2)) ) lmv_usage lmd_usage ⟨Nat.le_of_ble_eq_true rfl, Nat.le_of_ble_eq_true rfl⟩ rfl hl.1 rfl (Nat.le_of_ble_eq_true rfl) dL_law_235 ⟨Nat.le_refl 600000, Nat.le_refl 7290000⟩ (fun H locs B => ?_)
  refine lv_icmp_eq (tgt := 388) hx hb dL_law_238 (by decide) (fun c1 => ?_) (fun c1 => ?_)
  · exact kk _ _ cl _ _ B hr
  · exact absurd (rel_usage hr (xs (j + 1)) (xs (j + 2))) c1
/-- amount on both sides -/
theorem l_op5 (K : g_K p s m #[Value.ref b] meth c D d z A R_law code 4 ret) (hX : va_X b L xs s s.heap) (hbl : b < s.heap.size) (hbA : ¬ A b) (hL : L ≤ 256) {S M : g_S} {cl j : Nat} (hj : j + 4 ≤ L) {H : Heap} {locs : List Loc} {ls : Array Slot} (B : l_B D A d z h a h2 a2 s H locs S M) (hr : rel S M cl) (hl : lv_has ls 4 [(0, .ref b), (1, .ref h), (2, .ref h2), (3, .int (nI j))]) (kk : ∀ (S1 M1 : g_S) (cl1 : Nat) (H1 : Heap) (locs1 : List Loc), l_B D A d z h a h2 a2 s H1 locs1 S1 M1 → rel S1 M1 cl1 → W p l e room_1 s m #[Value.ref b] below meth c H1 locs1 600000 7290000 Q (F0 m 388 ls [])) : W p l e room_1 s m #[Value.ref b] below meth c H locs 600000 7290000 Q (F0 m 243 ls []) := by
  have hx := K.1
  have hb := K.2.1
  refine lv_aload_n hx hb dL_law_243 rfl (lv_at hl 1 rfl) ?_
  refine lv_aload_n hx hb dL_law_244 rfl (lv_at hl 0 rfl) ?_
  refine lv_iload_n hx hb dL_law_245 rfl (lv_at hl 3 rfl) ?_
  refine lv_iconst (v := 1) hx hb dL_law_246 (by decide) ?_
  refine lv_iadd hx hb dL_law_247 ?_
  refine tp (n_a1 _) ?_
  refine l_sld K hX hbl hbA B.2.2 hL (by omega) dL_law_248 ?_
  refine lv_aload_n hx hb dL_law_249 rfl (lv_at hl 0 rfl) ?_
  refine lv_iload_n hx hb dL_law_250 rfl (lv_at hl 3 rfl) ?_
  refine lv_iconst (v := 2) hx hb dL_law_251 (by decide) ?_
  refine lv_iadd hx hb dL_law_252 ?_
  refine tp (n_a2 _) ?_
  refine l_sld K hX hbl hbA B.2.2 hL (by omega) dL_law_253 ?_
  refine l_callX (av := [.int (xs (j + 1)), .int (xs (j + 2))]) (rest := []) (r := x_amR S (xs (j + 1)) (xs (j + 2))) (S' := S) K B (xm_amount l D d z h a S (xs (j + 1)) (xs (j + 2)) ) lxv_amount lxd_amount ⟨Nat.le_of_ble_eq_true rfl, Nat.le_of_ble_eq_true rfl⟩ rfl hl.1 rfl (Nat.le_of_ble_eq_true rfl) dL_law_254 ⟨Nat.le_refl 600000, Nat.le_refl 7290000⟩ (fun H locs B => ?_)
  refine lv_aload_n hx hb dL_law_257 rfl (lv_at hl 2 rfl) ?_
  refine lv_aload_n hx hb dL_law_258 rfl (lv_at hl 0 rfl) ?_
  refine lv_iload_n hx hb dL_law_259 rfl (lv_at hl 3 rfl) ?_
  refine lv_iconst (v := 1) hx hb dL_law_260 (by decide) ?_
  refine lv_iadd hx hb dL_law_261 ?_
  refine tp (n_a1 _) ?_
  refine l_sld K hX hbl hbA B.2.2 hL (by omega) dL_law_262 ?_
  refine lv_aload_n hx hb dL_law_263 rfl (lv_at hl 0 rfl) ?_
  refine lv_iload_n hx hb dL_law_264 rfl (lv_at hl 3 rfl) ?_
  refine lv_iconst (v := 2) hx hb dL_law_265 (by decide) ?_
  refine lv_iadd hx hb dL_law_266 ?_
  refine tp (n_a2 _) ?_
  refine l_sld K hX hbl hbA B.2.2 hL (by omega) dL_law_267 ?_
  refine l_callM (av := [.int (xs (j + 1)), .int (xs (j + 2))]) (rest := [.int (x_amR S (xs (j + 1)) (xs (j + 2)))]) (r := m_amR M (xs (j + 1)) (xs (j + 2))) (M' := M) K B (mm_amount l D d z h2 a2 M (xs (j + 1)) (xs (j + 2)) ) lmv_amount lmd_amount ⟨Nat.le_of_ble_eq_true rfl, Nat.le_of_ble_eq_true rfl⟩ rfl hl.1 rfl (Nat.le_of_ble_eq_true rfl) dL_law_268 ⟨Nat.le_refl 600000, Nat.le_refl 7290000⟩ (fun H locs B => ?_)
  refine lv_icmp_eq (tgt := 388) hx hb dL_law_271 (by decide) (fun c1 => ?_) (fun c1 => ?_)
  · exact kk _ _ cl _ _ B hr
  · exact absurd (rel_amount hr (xs (j + 1)) (xs (j + 2))) c1
/-- balance on both sides -/
theorem l_op6 (K : g_K p s m #[Value.ref b] meth c D d z A R_law code 4 ret) (hX : va_X b L xs s s.heap) (hbl : b < s.heap.size) (hbA : ¬ A b) (hL : L ≤ 256) {S M : g_S} {cl j : Nat} (hj : j + 4 ≤ L) {H : Heap} {locs : List Loc} {ls : Array Slot} (B : l_B D A d z h a h2 a2 s H locs S M) (hr : rel S M cl) (hl : lv_has ls 4 [(0, .ref b), (1, .ref h), (2, .ref h2), (3, .int (nI j))]) (kk : ∀ (S1 M1 : g_S) (cl1 : Nat) (H1 : Heap) (locs1 : List Loc), l_B D A d z h a h2 a2 s H1 locs1 S1 M1 → rel S1 M1 cl1 → W p l e room_1 s m #[Value.ref b] below meth c H1 locs1 600000 7290000 Q (F0 m 388 ls [])) : W p l e room_1 s m #[Value.ref b] below meth c H locs 600000 7290000 Q (F0 m 276 ls []) := by
  have hx := K.1
  have hb := K.2.1
  refine lv_aload_n hx hb dL_law_276 rfl (lv_at hl 1 rfl) ?_
  refine lv_aload_n hx hb dL_law_277 rfl (lv_at hl 0 rfl) ?_
  refine lv_iload_n hx hb dL_law_278 rfl (lv_at hl 3 rfl) ?_
  refine lv_iconst (v := 1) hx hb dL_law_279 (by decide) ?_
  refine lv_iadd hx hb dL_law_280 ?_
  refine tp (n_a1 _) ?_
  refine l_sld K hX hbl hbA B.2.2 hL (by omega) dL_law_281 ?_
  refine l_callX (av := [.int (xs (j + 1))]) (rest := []) (r := f_acc S 13 0 (xs (j + 1))) (S' := S) K B (xm_balance l D d z h a S (xs (j + 1)) ) lxv_balance lxd_balance ⟨Nat.le_of_ble_eq_true rfl, Nat.le_of_ble_eq_true rfl⟩ rfl hl.1 rfl (Nat.le_of_ble_eq_true rfl) dL_law_282 ⟨Nat.le_refl 600000, Nat.le_refl 7290000⟩ (fun H locs B => ?_)
  refine lv_aload_n hx hb dL_law_285 rfl (lv_at hl 2 rfl) ?_
  refine lv_aload_n hx hb dL_law_286 rfl (lv_at hl 0 rfl) ?_
  refine lv_iload_n hx hb dL_law_287 rfl (lv_at hl 3 rfl) ?_
  refine lv_iconst (v := 1) hx hb dL_law_288 (by decide) ?_
  refine lv_iadd hx hb dL_law_289 ?_
  refine tp (n_a1 _) ?_
  refine l_sld K hX hbl hbA B.2.2 hL (by omega) dL_law_290 ?_
  refine l_callM (av := [.int (xs (j + 1))]) (rest := [.int (f_acc S 13 0 (xs (j + 1)))]) (r := f_acc M 6 0 (xs (j + 1))) (M' := M) K B (mm_balance l D d z h2 a2 M (xs (j + 1)) ) lmv_balance lmd_balance ⟨Nat.le_of_ble_eq_true rfl, Nat.le_of_ble_eq_true rfl⟩ rfl hl.1 rfl (Nat.le_of_ble_eq_true rfl) dL_law_291 ⟨Nat.le_refl 600000, Nat.le_refl 7290000⟩ (fun H locs B => ?_)
  refine lv_icmp_eq (tgt := 388) hx hb dL_law_294 (by decide) (fun c1 => ?_) (fun c1 => ?_)
  · exact kk _ _ cl _ _ B hr
  · exact absurd (rel_balance hr 0 (xs (j + 1))) c1
/-- lines on both sides -/
theorem l_op7 (K : g_K p s m #[Value.ref b] meth c D d z A R_law code 4 ret) (hX : va_X b L xs s s.heap) (hbl : b < s.heap.size) (hbA : ¬ A b) (hL : L ≤ 256) {S M : g_S} {cl j : Nat} (hj : j + 4 ≤ L) {H : Heap} {locs : List Loc} {ls : Array Slot} (B : l_B D A d z h a h2 a2 s H locs S M) (hr : rel S M cl) (hl : lv_has ls 4 [(0, .ref b), (1, .ref h), (2, .ref h2), (3, .int (nI j))]) (kk : ∀ (S1 M1 : g_S) (cl1 : Nat) (H1 : Heap) (locs1 : List Loc), l_B D A d z h a h2 a2 s H1 locs1 S1 M1 → rel S1 M1 cl1 → W p l e room_1 s m #[Value.ref b] below meth c H1 locs1 600000 7290000 Q (F0 m 388 ls [])) : W p l e room_1 s m #[Value.ref b] below meth c H locs 600000 7290000 Q (F0 m 299 ls []) := by
  have hx := K.1
  have hb := K.2.1
  refine lv_aload_n hx hb dL_law_299 rfl (lv_at hl 1 rfl) ?_
  refine lv_aload_n hx hb dL_law_300 rfl (lv_at hl 0 rfl) ?_
  refine lv_iload_n hx hb dL_law_301 rfl (lv_at hl 3 rfl) ?_
  refine lv_iconst (v := 1) hx hb dL_law_302 (by decide) ?_
  refine lv_iadd hx hb dL_law_303 ?_
  refine tp (n_a1 _) ?_
  refine l_sld K hX hbl hbA B.2.2 hL (by omega) dL_law_304 ?_
  refine l_callX (av := [.int (xs (j + 1))]) (rest := []) (r := f_acc S 14 (-1) (xs (j + 1))) (S' := S) K B (xm_lines l D d z h a S (xs (j + 1)) ) lxv_lines lxd_lines ⟨Nat.le_of_ble_eq_true rfl, Nat.le_of_ble_eq_true rfl⟩ rfl hl.1 rfl (Nat.le_of_ble_eq_true rfl) dL_law_305 ⟨Nat.le_refl 600000, Nat.le_refl 7290000⟩ (fun H locs B => ?_)
  refine lv_aload_n hx hb dL_law_308 rfl (lv_at hl 2 rfl) ?_
  refine lv_aload_n hx hb dL_law_309 rfl (lv_at hl 0 rfl) ?_
  refine lv_iload_n hx hb dL_law_310 rfl (lv_at hl 3 rfl) ?_
  refine lv_iconst (v := 1) hx hb dL_law_311 (by decide) ?_
  refine lv_iadd hx hb dL_law_312 ?_
  refine tp (n_a1 _) ?_
  refine l_sld K hX hbl hbA B.2.2 hL (by omega) dL_law_313 ?_
  refine l_callM (av := [.int (xs (j + 1))]) (rest := [.int (f_acc S 14 (-1) (xs (j + 1)))]) (r := f_acc M 5 (-1) (xs (j + 1))) (M' := M) K B (mm_lines l D d z h2 a2 M (xs (j + 1)) ) lmv_lines lmd_lines ⟨Nat.le_of_ble_eq_true rfl, Nat.le_of_ble_eq_true rfl⟩ rfl hl.1 rfl (Nat.le_of_ble_eq_true rfl) dL_law_314 ⟨Nat.le_refl 600000, Nat.le_refl 7290000⟩ (fun H locs B => ?_)
  refine lv_icmp_eq (tgt := 388) hx hb dL_law_317 (by decide) (fun c1 => ?_) (fun c1 => ?_)
  · exact kk _ _ cl _ _ B hr
  · exact absurd (rel_lines hr (-1) (xs (j + 1))) c1
/-- lineAmount on both sides -/
theorem l_op8 (K : g_K p s m #[Value.ref b] meth c D d z A R_law code 4 ret) (hX : va_X b L xs s s.heap) (hbl : b < s.heap.size) (hbA : ¬ A b) (hL : L ≤ 256) {S M : g_S} {cl j : Nat} (hj : j + 4 ≤ L) {H : Heap} {locs : List Loc} {ls : Array Slot} (B : l_B D A d z h a h2 a2 s H locs S M) (hr : rel S M cl) (hl : lv_has ls 4 [(0, .ref b), (1, .ref h), (2, .ref h2), (3, .int (nI j))]) (kk : ∀ (S1 M1 : g_S) (cl1 : Nat) (H1 : Heap) (locs1 : List Loc), l_B D A d z h a h2 a2 s H1 locs1 S1 M1 → rel S1 M1 cl1 → W p l e room_1 s m #[Value.ref b] below meth c H1 locs1 600000 7290000 Q (F0 m 388 ls [])) : W p l e room_1 s m #[Value.ref b] below meth c H locs 600000 7290000 Q (F0 m 322 ls []) := by
  have hx := K.1
  have hb := K.2.1
  refine lv_aload_n hx hb dL_law_322 rfl (lv_at hl 1 rfl) ?_
  refine lv_aload_n hx hb dL_law_323 rfl (lv_at hl 0 rfl) ?_
  refine lv_iload_n hx hb dL_law_324 rfl (lv_at hl 3 rfl) ?_
  refine lv_iconst (v := 1) hx hb dL_law_325 (by decide) ?_
  refine lv_iadd hx hb dL_law_326 ?_
  refine tp (n_a1 _) ?_
  refine l_sld K hX hbl hbA B.2.2 hL (by omega) dL_law_327 ?_
  refine lv_aload_n hx hb dL_law_328 rfl (lv_at hl 0 rfl) ?_
  refine lv_iload_n hx hb dL_law_329 rfl (lv_at hl 3 rfl) ?_
  refine lv_iconst (v := 2) hx hb dL_law_330 (by decide) ?_
  refine lv_iadd hx hb dL_law_331 ?_
  refine tp (n_a2 _) ?_
  refine l_sld K hX hbl hbA B.2.2 hL (by omega) dL_law_332 ?_
  refine l_callX (av := [.int (xs (j + 1)), .int (xs (j + 2))]) (rest := []) (r := x_lnR S 15 0 (xs (j + 1)) (xs (j + 2))) (S' := S) K B (xm_lineAmount l D d z h a S (xs (j + 1)) (xs (j + 2)) ) lxv_lineAmount lxd_lineAmount ⟨Nat.le_of_ble_eq_true rfl, Nat.le_of_ble_eq_true rfl⟩ rfl hl.1 rfl (Nat.le_of_ble_eq_true rfl) dL_law_333 ⟨Nat.le_refl 600000, Nat.le_refl 7290000⟩ (fun H locs B => ?_)
  refine lv_aload_n hx hb dL_law_336 rfl (lv_at hl 2 rfl) ?_
  refine lv_aload_n hx hb dL_law_337 rfl (lv_at hl 0 rfl) ?_
  refine lv_iload_n hx hb dL_law_338 rfl (lv_at hl 3 rfl) ?_
  refine lv_iconst (v := 1) hx hb dL_law_339 (by decide) ?_
  refine lv_iadd hx hb dL_law_340 ?_
  refine tp (n_a1 _) ?_
  refine l_sld K hX hbl hbA B.2.2 hL (by omega) dL_law_341 ?_
  refine lv_aload_n hx hb dL_law_342 rfl (lv_at hl 0 rfl) ?_
  refine lv_iload_n hx hb dL_law_343 rfl (lv_at hl 3 rfl) ?_
  refine lv_iconst (v := 2) hx hb dL_law_344 (by decide) ?_
  refine lv_iadd hx hb dL_law_345 ?_
  refine tp (n_a2 _) ?_
  refine l_sld K hX hbl hbA B.2.2 hL (by omega) dL_law_346 ?_
  refine l_callM (av := [.int (xs (j + 1)), .int (xs (j + 2))]) (rest := [.int (x_lnR S 15 0 (xs (j + 1)) (xs (j + 2)))]) (r := m_lnR M 7 0 (xs (j + 1)) (xs (j + 2))) (M' := M) K B (mm_lineAmount l D d z h2 a2 M (xs (j + 1)) (xs (j + 2)) ) lmv_lineAmount lmd_lineAmount ⟨Nat.le_of_ble_eq_true rfl, Nat.le_of_ble_eq_true rfl⟩ rfl hl.1 rfl (Nat.le_of_ble_eq_true rfl) dL_law_347 ⟨Nat.le_refl 600000, Nat.le_refl 7290000⟩ (fun H locs B => ?_)
  refine lv_icmp_eq (tgt := 388) hx hb dL_law_350 (by decide) (fun c1 => ?_) (fun c1 => ?_)
  · exact kk _ _ cl _ _ B hr
  · exact absurd (rel_lineA hr 0 (xs (j + 1)) (xs (j + 2))) c1
/-- linePeriod on both sides -/
theorem l_op9 (K : g_K p s m #[Value.ref b] meth c D d z A R_law code 4 ret) (hX : va_X b L xs s s.heap) (hbl : b < s.heap.size) (hbA : ¬ A b) (hL : L ≤ 256) {S M : g_S} {cl j : Nat} (hj : j + 4 ≤ L) {H : Heap} {locs : List Loc} {ls : Array Slot} (B : l_B D A d z h a h2 a2 s H locs S M) (hr : rel S M cl) (hl : lv_has ls 4 [(0, .ref b), (1, .ref h), (2, .ref h2), (3, .int (nI j))]) (kk : ∀ (S1 M1 : g_S) (cl1 : Nat) (H1 : Heap) (locs1 : List Loc), l_B D A d z h a h2 a2 s H1 locs1 S1 M1 → rel S1 M1 cl1 → W p l e room_1 s m #[Value.ref b] below meth c H1 locs1 600000 7290000 Q (F0 m 388 ls [])) : W p l e room_1 s m #[Value.ref b] below meth c H locs 600000 7290000 Q (F0 m 355 ls []) := by
  have hx := K.1
  have hb := K.2.1
  refine lv_aload_n hx hb dL_law_355 rfl (lv_at hl 1 rfl) ?_
  refine lv_aload_n hx hb dL_law_356 rfl (lv_at hl 0 rfl) ?_
  refine lv_iload_n hx hb dL_law_357 rfl (lv_at hl 3 rfl) ?_
  refine lv_iconst (v := 1) hx hb dL_law_358 (by decide) ?_
  refine lv_iadd hx hb dL_law_359 ?_
  refine tp (n_a1 _) ?_
  refine l_sld K hX hbl hbA B.2.2 hL (by omega) dL_law_360 ?_
  refine lv_aload_n hx hb dL_law_361 rfl (lv_at hl 0 rfl) ?_
  refine lv_iload_n hx hb dL_law_362 rfl (lv_at hl 3 rfl) ?_
  refine lv_iconst (v := 2) hx hb dL_law_363 (by decide) ?_
  refine lv_iadd hx hb dL_law_364 ?_
  refine tp (n_a2 _) ?_
  refine l_sld K hX hbl hbA B.2.2 hL (by omega) dL_law_365 ?_
  refine l_callX (av := [.int (xs (j + 1)), .int (xs (j + 2))]) (rest := []) (r := x_lnR S 16 (-8) (xs (j + 1)) (xs (j + 2))) (S' := S) K B (xm_linePeriod l D d z h a S (xs (j + 1)) (xs (j + 2)) ) lxv_linePeriod lxd_linePeriod ⟨Nat.le_of_ble_eq_true rfl, Nat.le_of_ble_eq_true rfl⟩ rfl hl.1 rfl (Nat.le_of_ble_eq_true rfl) dL_law_366 ⟨Nat.le_refl 600000, Nat.le_refl 7290000⟩ (fun H locs B => ?_)
  refine lv_aload_n hx hb dL_law_369 rfl (lv_at hl 2 rfl) ?_
  refine lv_aload_n hx hb dL_law_370 rfl (lv_at hl 0 rfl) ?_
  refine lv_iload_n hx hb dL_law_371 rfl (lv_at hl 3 rfl) ?_
  refine lv_iconst (v := 1) hx hb dL_law_372 (by decide) ?_
  refine lv_iadd hx hb dL_law_373 ?_
  refine tp (n_a1 _) ?_
  refine l_sld K hX hbl hbA B.2.2 hL (by omega) dL_law_374 ?_
  refine lv_aload_n hx hb dL_law_375 rfl (lv_at hl 0 rfl) ?_
  refine lv_iload_n hx hb dL_law_376 rfl (lv_at hl 3 rfl) ?_
  refine lv_iconst (v := 2) hx hb dL_law_377 (by decide) ?_
  refine lv_iadd hx hb dL_law_378 ?_
  refine tp (n_a2 _) ?_
  refine l_sld K hX hbl hbA B.2.2 hL (by omega) dL_law_379 ?_
  refine l_callM (av := [.int (xs (j + 1)), .int (xs (j + 2))]) (rest := [.int (x_lnR S 16 (-8) (xs (j + 1)) (xs (j + 2)))]) (r := m_lnR M 8 (-8) (xs (j + 1)) (xs (j + 2))) (M' := M) K B (mm_linePeriod l D d z h2 a2 M (xs (j + 1)) (xs (j + 2)) ) lmv_linePeriod lmd_linePeriod ⟨Nat.le_of_ble_eq_true rfl, Nat.le_of_ble_eq_true rfl⟩ rfl hl.1 rfl (Nat.le_of_ble_eq_true rfl) dL_law_380 ⟨Nat.le_refl 600000, Nat.le_refl 7290000⟩ (fun H locs B => ?_)
  refine lv_icmp_eq (tgt := 388) hx hb dL_law_383 (by decide) (fun c1 => ?_) (fun c1 => ?_)
  · exact kk _ _ cl _ _ B hr
  · exact absurd (rel_lineP hr (-8) (xs (j + 1)) (xs (j + 2))) c1
end LAWOPS
end
section
set_option maxRecDepth 100000
set_option maxHeartbeats 4000000
theorem n_gt {L j : Nat} (hL : L < 2 ^ 30) (hj : j < 2 ^ 30) (h : ¬ nI L - 4 < nI j) : j + 4 ≤ L := by
  rw [Int32.lt_iff_toInt_lt, show nI L - 4 = nI L - nI 4 from rfl, pk_sub_toInt hL (by decide), nI_toInt (by omega)] at h
  omega
/-- the law's loop, at its head: j ints read, both sides tied -/
theorem law_loop {p : Program} {l : Launch} {e : Env} {s : State} {m : MethodId} {below : List Frame} {meth : Method} {c : Code} {D : va_G} {d z : ClassId} {h h2 b L : Nat} {a a2 : Nat → Nat} {xs : Nat → Int32} (K : g_K p s m #[Value.ref b] meth c D d z (fun q : Nat => s.heap.size ≤ q) R_law code 4 ret) (hX : va_X b L xs s s.heap) (hbl : b < s.heap.size) (hL : L ≤ 256) :
    ∀ n j : Nat, j ≤ L → L + 1 ≤ j + n → ∀ (S M : g_S) (cl : Nat) (H : Heap) (locs : List Loc) (ls : Array Slot), l_B D (fun q : Nat => s.heap.size ≤ q) d z h a h2 a2 s H locs S M → rel S M cl → lv_has ls 4 [(0, .ref b), (1, .ref h), (2, .ref h2), (3, .int (nI j))] → W p l e room_1 s m #[Value.ref b] below meth c H locs 600000 7290000 (lw_Z below #[Value.ref b] s) (F0 m 18 ls []) := by
  have hx := K.1
  have hb := K.2.1
  have hbA : ¬ (fun q : Nat => s.heap.size ≤ q) b := Nat.not_le.mpr hbl
  intro n
  induction n with
  | zero =>
    intro j h1 h2
    exact absurd h2 (by omega)
  | succ n ih =>
    intro j hj hjn S M cl H locs ls B hr hl
    refine lv_iload_n hx hb dL_law_18 rfl (lv_at hl 3 rfl) ?_
    refine lv_aload_n hx hb dL_law_19 rfl (lv_at hl 0 rfl) ?_
    refine va_slen hx hb hX hbl hbA B.2.2 dL_law_20 ?_
    refine tp (y := nI L) rfl ?_
    refine lv_iconst (v := 4) hx hb dL_law_21 (by decide) ?_
    refine lv_isub hx hb dL_law_22 ?_
    refine lv_icmp_gt (tgt := 394) hx hb dL_law_23 (by decide) (fun c23 => ?_) (fun c23 => ?_)
    · refine lv_iconst (v := 1) hx hb dL_law_394 (by decide) ?_
      refine va_forget (fun q hq => B.2.2.2.2 q hq) ?_
      exact lw_ret hx hb K.2.2.1 K.2.2.2.1 dL_law_395
    · have hj4 : j + 4 ≤ L := n_gt (by omega) (by omega) c23
      have hnext : ∀ (S1 M1 : g_S) (cl1 : Nat) (H1 : Heap) (locs1 : List Loc), l_B D (fun q : Nat => s.heap.size ≤ q) d z h a h2 a2 s H1 locs1 S1 M1 → rel S1 M1 cl1 → W p l e room_1 s m #[Value.ref b] below meth c H1 locs1 600000 7290000 (lw_Z below #[Value.ref b] s) (F0 m 388 ls []) := by
        intro S1 M1 cl1 H1 locs1 B1 hr1
        refine lv_iinc (v := nI (j + 4)) (lv' := [(3, .int (nI (j + 4))), (0, .ref b), (1, .ref h), (2, .ref h2)]) hx hb dL_law_388 hl (k := 3) rfl (n_i4 _) (by decide) rfl (fun ls hl => ?_)
        refine lv_goto (tgt := 18) hx hb dL_law_391 (by decide) ?_
        exact ih (j + 4) (by omega) (by omega) S1 M1 cl1 H1 locs1 ls B1 hr1 (lv_sub hl [1, 2, 3, 0] rfl)
      refine lv_aload_n hx hb dL_law_26 rfl (lv_at hl 0 rfl) ?_
      refine lv_iload_n hx hb dL_law_27 rfl (lv_at hl 3 rfl) ?_
      refine l_sld K hX hbl hbA B.2.2 hL (by omega) dL_law_28 ?_
      refine lv_bipush (v := 15) hx hb dL_law_29 (by decide) ?_
      refine lv_iand hx hb dL_law_31 ?_
      obtain ⟨t, ht, et⟩ := pk_andE (xs j) (m := 15) 4 rfl
      refine tp et ?_
      have hcases : t = 0 ∨ t = 1 ∨ t = 2 ∨ t = 3 ∨ t = 4 ∨ t = 5 ∨ t = 6 ∨ t = 7 ∨ t = 8 ∨ t = 9 ∨ 10 ≤ t := by omega
      rcases hcases with rfl | rfl | rfl | rfl | rfl | rfl | rfl | rfl | rfl | rfl | h10
      · refine lv_tableIn (tgt := 88) (off := 56) hx hb dL_law_32 (by decide) (by decide) rfl (by decide) ?_
        exact l_op0 K hX hbl hbA hL hj4 B hr hl hnext
      · refine lv_tableIn (tgt := 121) (off := 89) hx hb dL_law_32 (by decide) (by decide) rfl (by decide) ?_
        exact l_op1 K hX hbl hbA hL hj4 B hr hl hnext
      · refine lv_tableIn (tgt := 164) (off := 132) hx hb dL_law_32 (by decide) (by decide) rfl (by decide) ?_
        exact l_op2 K hX hbl hbA hL hj4 B hr hl hnext
      · refine lv_tableIn (tgt := 197) (off := 165) hx hb dL_law_32 (by decide) (by decide) rfl (by decide) ?_
        exact l_op3 K hX hbl hbA hL hj4 B hr hl hnext
      · refine lv_tableIn (tgt := 210) (off := 178) hx hb dL_law_32 (by decide) (by decide) rfl (by decide) ?_
        exact l_op4 K hX hbl hbA hL hj4 B hr hl hnext
      · refine lv_tableIn (tgt := 243) (off := 211) hx hb dL_law_32 (by decide) (by decide) rfl (by decide) ?_
        exact l_op5 K hX hbl hbA hL hj4 B hr hl hnext
      · refine lv_tableIn (tgt := 276) (off := 244) hx hb dL_law_32 (by decide) (by decide) rfl (by decide) ?_
        exact l_op6 K hX hbl hbA hL hj4 B hr hl hnext
      · refine lv_tableIn (tgt := 299) (off := 267) hx hb dL_law_32 (by decide) (by decide) rfl (by decide) ?_
        exact l_op7 K hX hbl hbA hL hj4 B hr hl hnext
      · refine lv_tableIn (tgt := 322) (off := 290) hx hb dL_law_32 (by decide) (by decide) rfl (by decide) ?_
        exact l_op8 K hX hbl hbA hL hj4 B hr hl hnext
      · refine lv_tableIn (tgt := 355) (off := 323) hx hb dL_law_32 (by decide) (by decide) rfl (by decide) ?_
        exact l_op9 K hX hbl hbA hL hj4 B hr hl hnext
      · refine lv_tableOut (tgt := 388) hx hb dL_law_32 (Or.inr ?_) (by decide) ?_
        · rw [nI_toInt (by omega)]
          omega
        · exact hnext S M cl H locs B hr
/-- YOUR PART: from the entry, for every script of at most 256 ints, the law comes to its end with true -/
theorem whole_start {p : Program} {e : Env} {s : State} {m : MethodId} {below : List Frame} {meth : Method} {c : Code} (l : Launch) {b L : Nat} {xs : Nat → Int32} (hL : L ≤ 256) (C0 : lw_At p s m meth c b L xs) : W p l e room_1 s m #[Value.ref b] below meth c s.heap [] 0 0 (lw_Z below #[Value.ref b] s) (entryFrame m ([Value.ref b] : List Value).toArray 4) := by
  obtain ⟨hx, hb, hr, hml, hown, hts0, hX, hbl, hlocks, hgv⟩ := C0
  have hts : ∀ w ∈ lw_all, w.before #[Value.ref b] s = true := fun w h => hts0 w (lw_all_tbl h)
  obtain ⟨c0_, iS0, hKn0⟩ := u_known (C := RX0) (T := TX0) (N := 17) (n := 17) hts in_X0 (hts _ q20)
  obtain ⟨c1_, iS1, hKn1⟩ := u_known (C := RX1) (T := TX1) (N := 9) (n := 9) hts in_X1 (hts _ q168)
  obtain ⟨d, kA, comp, hf1, hf2, hf3⟩ := Cond.arrayClass_spec (hts _ q79)
  obtain ⟨z, kZ, compZ, hz1, hz2, hz3⟩ := Cond.arrayClass_spec (hts _ q80)
  obtain ⟨D, hKD⟩ : ∃ D : va_G, ∀ (k : Nat) (q : vw_C), vwCl[k]? = some q → u_Kn s q.1 q.2.1 q.2.2 (D.1 k) (D.2 k) := by
    refine ⟨(fun k => if k = 0 then c0_ else c1_, fun k => if k = 0 then iS0 else iS1), ?_⟩
    intro k q hq
    match k, hq with
    | 0, hq => cases hq; exact hKn0
    | 1, hq => cases hq; exact hKn1
    | k + 2, hq => simp [vwCl] at hq
  have hK : va_K D vwCl (g_T d z) s := by
    refine ⟨hKD, ?_⟩
    intro k q hq
    match k, hq with
    | 0, hq => cases hq; exact ⟨fun n y => ⟨fun k h => (by cases h), kA, hf2, comp, hf3⟩, hf1⟩
    | 1, hq => cases hq; exact ⟨fun n y => ⟨fun k h => (by cases h), kZ, hz2, compZ, hz3⟩, hz1⟩
    | k + 2, hq => simp [g_T] at hq
  have hA : ∀ q : Nat, s.heap.size ≤ q → (fun q : Nat => s.heap.size ≤ q) q := fun _ h => h
  have hP : va_P D vwCl [] s.heap := fun k q h => by simp at h
  have hD : va_D (fun q : Nat => s.heap.size ≤ q) [] := ⟨fun i j p q h => by simp at h, fun k q h => by simp at h⟩
  have hS : va_S (fun q : Nat => s.heap.size ≤ q) s.heap s.heap [] := va_S.rf
  have hl := lv_entry ([.ref b]) (n := 4) (Nat.le_of_ble_eq_true rfl)
  rw [lg_entry_eq]
  generalize (lg_sl ([.ref b]) ++ List.replicate (4 - (lg_sl ([.ref b])).length) Slot.unset).toArray = ls at hl ⊢
  have hl : lv_has ls 4 [(0, .ref b)] := hl
  refine va_new (ci := 0) (fs := [.null, .null, .int 0, .null, .null, .null, .null, .null, .null, .null, .null, .null, .null, .null, .null, .null, .null]) (C := RX0) (T := TX0) (N := 17) hx hb hts in_X0 tyX0 tyX0_ok hown (hts _ q19) (hts _ q20) (hts _ q17) hK hP hD hS hA rfl (fun j hj => by rcases (show j = 0 ∨ j = 1 ∨ j = 2 ∨ j = 3 ∨ j = 4 ∨ j = 5 ∨ j = 6 ∨ j = 7 ∨ j = 8 ∨ j = 9 ∨ j = 10 ∨ j = 11 ∨ j = 12 ∨ j = 13 ∨ j = 14 ∨ j = 15 ∨ j = 16 by omega) with rfl | rfl | rfl | rfl | rfl | rfl | rfl | rfl | rfl | rfl | rfl | rfl | rfl | rfl | rfl | rfl | rfl <;> rfl) (Nat.le_of_ble_eq_true rfl) (Nat.le_of_ble_eq_true rfl) dL_law_0 (fun h H hP hD hS => ?_)
  have hP : va_P D vwCl (x_n h) H := hP
  have hD : va_D (fun q : Nat => s.heap.size ≤ q) (x_n h) := hD
  refine W.widen (k := 1) (n := 17) (Nat.le_of_ble_eq_true rfl) (Nat.le_of_ble_eq_true rfl) ?_
  refine lv_dup hx hb dL_law_3 rfl ?_
  have hFc := va_free (wc := x_n h) hD hS hA [0] rfl
  refine va_callv (va_runI (As := []) (rest := [.ref h]) ⟨hx, hb, hml, hown, hts⟩ (xm_init l D d z h H.size) (cwI 0 hts (lw_meth q23) rfl rfl rfl (hts _ q17) (hts _ q21) (hts _ q22) rfl (by decide +kernel) ⟨Nat.le_of_ble_eq_true rfl, Nat.le_of_ble_eq_true rfl⟩) ⟨fun a U g mk q => by obtain ⟨q0, q1, qP, qK, qD⟩ := q; exact ⟨q0, q1, qP, va_K.moved (u := U) (U := U.calling g mk a) (Vm.Alike.refl U.vm) qK, qD⟩, fun U hU hW => ⟨rfl, by rw [hU], by rw [hU]; exact hP, va_K.moved hW.alike hK, hD.weaken (fun _ _ _ _ => trivial)⟩⟩ rfl rfl hl.1 rfl (lv_room (Nat.le_of_ble_eq_true rfl)) dL_law_4 ⟨Nat.le_of_ble_eq_true rfl, Nat.le_of_ble_eq_true rfl⟩) hS (fun q _ h => hFc q h) hFc (fun a t H1 locs ht hvm hw1 hB hz1 hk1 hS => ?_)
  obtain ⟨hP1, hK1, hD1⟩ := hB
  rw [ht] at hP1
  have hD1 := hD1.weaken (B := fun q : Nat => s.heap.size ≤ q) (fun k q _ h => hFc q.1 h)
  refine W.widen (k := 17) (n := 467) (Nat.le_of_ble_eq_true rfl) (Nat.le_of_ble_eq_true rfl) ?_
  refine lv_astore_n (lv' := [(1, .ref h), (0, .ref b)]) hx hb dL_law_7 rfl hl (by decide) rfl (fun ls hl => ?_)
  refine va_new (ci := 1) (fs := [.null, .null, .null, .int 0, .null, .null, .null, .null, .null]) (C := RX1) (T := TX1) (N := 9) hx hb hts in_X1 tyX1 tyX1_ok hown (hts _ q167) (hts _ q168) (hts _ q18) hK hP1 hD1 hS hA rfl (fun j hj => by rcases (show j = 0 ∨ j = 1 ∨ j = 2 ∨ j = 3 ∨ j = 4 ∨ j = 5 ∨ j = 6 ∨ j = 7 ∨ j = 8 by omega) with rfl | rfl | rfl | rfl | rfl | rfl | rfl | rfl | rfl <;> rfl) (Nat.le_of_ble_eq_true rfl) (Nat.le_of_ble_eq_true rfl) dL_law_8 (fun h2 H hP hD hS => ?_)
  have hP : va_P D vwCl (x_w h a d z g_Z ++ m_n h2) H := hP
  have hD : va_D (fun q : Nat => s.heap.size ≤ q) (x_w h a d z g_Z ++ m_n h2) := hD
  refine W.widen (k := 18) (n := 476) (Nat.le_of_ble_eq_true rfl) (Nat.le_of_ble_eq_true rfl) ?_
  refine lv_dup hx hb dL_law_11 rfl ?_
  have hPc := hP.sub (ws' := m_n h2) [17] rfl
  have hDc := hD.sub (ws' := m_n h2) [17] (by decide) rfl
  have hFc := va_free (wc := m_n h2) hD hS hA [17] rfl
  refine va_callv (va_runI (As := []) (rest := [.ref h2]) ⟨hx, hb, hml, hown, hts⟩ (mm_init l D d z h2 H.size) (cwI 0 hts (lw_meth q171) rfl rfl rfl (hts _ q18) (hts _ q169) (hts _ q170) rfl (by decide +kernel) ⟨Nat.le_of_ble_eq_true rfl, Nat.le_of_ble_eq_true rfl⟩) ⟨fun a U g mk q => by obtain ⟨q0, q1, qP, qK, qD⟩ := q; exact ⟨q0, q1, qP, va_K.moved (u := U) (U := U.calling g mk a) (Vm.Alike.refl U.vm) qK, qD⟩, fun U hU hW => ⟨rfl, by rw [hU], by rw [hU]; exact hPc, va_K.moved hW.alike hK, hDc.weaken (fun _ _ _ _ => trivial)⟩⟩ rfl rfl hl.1 rfl (lv_room (Nat.le_of_ble_eq_true rfl)) dL_law_12 ⟨Nat.le_of_ble_eq_true rfl, Nat.le_of_ble_eq_true rfl⟩) hS (fun q _ h => hFc q h) hFc (fun a2 t H1 locs ht hvm hw1 hB hz1 hk1 hS => ?_)
  obtain ⟨hP1, hK1, hD1⟩ := hB
  rw [ht] at hP1
  obtain ⟨hP, hD⟩ := va_join (wr := x_w h a d z g_Z) (w1 := m_w h2 a2 d z (m_fill 96)) hP hD [17] [0, 1, 2, 3, 4, 5, 6, 7, 8, 9, 10, 11, 12, 13, 14, 15, 16] rfl rfl (by decide) (by decide) hk1 hFc hP1 hD1
  refine W.widen (k := 600000) (n := 7290000) (Nat.le_of_ble_eq_true rfl) (Nat.le_of_ble_eq_true rfl) ?_
  refine lv_astore_n (lv' := [(2, .ref h2), (1, .ref h), (0, .ref b)]) hx hb dL_law_15 rfl hl (by decide) rfl (fun ls hl => ?_)
  refine lv_iconst (v := 0) hx hb dL_law_16 (by decide) ?_
  refine tp (y := nI 0) rfl ?_
  refine lv_istore_n (lv' := [(3, .int (nI 0)), (2, .ref h2), (1, .ref h), (0, .ref b)]) hx hb dL_law_17 rfl hl (by decide) rfl (fun ls hl => ?_)
  exact law_loop ⟨hx, hb, hr, hlocks, hml, hown, hts, hK, hA⟩ hX hbl hL (L + 1) 0 (Nat.zero_le _) (by omega) g_Z (m_fill 96) 0 _ _ ls ⟨hP, hD, hS⟩ rel_start (lv_sub hl [3, 2, 1, 0] rfl)
end
section
set_option maxRecDepth 100000
-- ===== YOUR PART ENDS =====
set_option maxHeartbeats 4000000 in
theorem lw_walk (l : Launch) (b : Addr) (xs : List Int32) : MetFree l x (headSpec (Jvm.Cond.code x code maxLocals ret :: tables_1) room_1) (lw_P b xs) (fun _ _ _ _ _ => True) lw_Q := by
  refine MetFree.of_bodyS (code := code) (maxLocals := maxLocals) (ret := ret) (by decide) ?_ ?_
  · intro args s m h hn
    obtain ⟨meth, c, h1, h2, h3, h4, h5, h6, -, -⟩ := Cond.code_spec hn (atoms_spec (ws := Jvm.Cond.code x code maxLocals ret :: tables_1) h _ List.mem_cons_self)
    exact ⟨meth, c, h1, h2, h3, h4, h5, h6⟩
  · intro p e s m args below meth c s₁ B hml0 hP _
    obtain ⟨rfl, hx, hbd, hgv⟩ := hP
    obtain ⟨scr, harrAt, hlist, hof, hsmall⟩ := hx
    obtain ⟨hcb, hkn, -, -⟩ := State.arrayAt?_spec harrAt
    have hown : s.vm.findClass R_law = some m.cls := findClass_of_methodNamed B.named
    have hts0 : ∀ c ∈ (Jvm.Cond.code x code maxLocals ret :: tables_1), c.before #[Value.ref b] s = true := atoms_spec (ws := Jvm.Cond.code x code maxLocals ret :: tables_1) B.pre
    have hts : ∀ w ∈ lw_tbl, w.before #[Value.ref b] s = true := k2_hts_sels lw_privs (fun w hw => hts0 w (List.mem_cons_of_mem _ hw)) lw_privs_ok
    have hml : c.maxLocals = 4 := B.maxLocals_eq (hts0 _ List.mem_cons_self)
    have X₀ : Stand p l e room_1 s m #[Value.ref b] below meth c s₁ [] 0 0 := Stand.of_body B
    have hh0 : s₁.heap = s.heap := by rw [B.state]; rfl
    have hsz : scr.slots.size = xs.length := by rw [← Array.length_toList, hlist, List.length_map]
    have hval : ∀ j : Nat, j < xs.length → scr.slots[j]? = some (.int (xs.getD j 0)) := fun j hj => by
      rw [← Array.getElem?_toList, hlist]
      simp [hj]
    have hbl : b < s.heap.size := (Array.getElem?_eq_some_iff.mp hcb).1
    have hX : va_X b xs.length (fun j => xs.getD j 0) s s.heap := ⟨scr, hcb, hof, hkn, hsz, hval⟩
    have K : W p l e room_1 s m #[Value.ref b] below meth c s₁.heap [] 0 0 (lw_Z below #[Value.ref b] s) (entryFrame m ([Value.ref b] : List Value).toArray 4) := by
      rw [hh0]
      exact whole_start l hbd ⟨B.exec, B.bytes, B.returns, hml, hown, hts, hX, hbl, B.notSynchronized, hgv⟩
    obtain ⟨t, a1, o, b1, b2, b3⟩ := K s₁ rfl X₀
    exact ⟨t, o, a1, b1, b2, b3⟩
theorem lw_pre_spec {args : Array Value} {s : State} (h : (Jvm.Cond.and given_1 narrow_1).before args s = true) (hr : rest_1_c.before args s = true) : ∃ (b : Addr) (xs : List Int32), lw_P b xs args s := by
  have hs := flat_of_before _ h
  have hq := flat_of_before _ hr
  have hc : (Cond.count 1).before args s = true := hs _ (by decide +kernel)
  have harr : (Cond.arrayOf (.arg 0) .int).before args s = true := hs _ (by decide +kernel)
  have hle : (Cond.le (.length (.arg 0)) (.int 256)).before args s = true := hs _ (by decide +kernel)
  have hlen : (Cond.isInt (.length (.arg 0))).before args s = true := hq _ (by decide +kernel)
  have hall : (Cond.all (.arg 0) (.isInt (.elem (.arg 0) (.index 0)))).before args s = true := hq _ (by decide +kernel)
  obtain ⟨b, xs, hb, hx⟩ := State.ints_of_pre rfl harr hlen hall
  have hsm : xs.length < 2 ^ 31 := hx.choose_spec.2.2.2
  have hev : (Term.length (.arg 0)).eval args s none [] s = some (.int xs.length.toInt32) := hx.length_eval hb
  have hv := Cond.le_ints hev (show (Term.int 256).eval args s none [] s = some (.int 256) from rfl)
  have hd : xs.length.toInt32 ≤ 256 := by
    simpa [Cond.before, Cond.holds, hv] using hle
  have hN : xs.length ≤ 256 := (Int32.ofNat_le_ofNat hsm (by decide)).mp (show Int32.ofNat xs.length ≤ Int32.ofNat 256 from hd)
  exact ⟨b, xs, Cond.one_arg hc (show args[0]? = some (.ref b) from hb), hx, hN, h⟩
theorem lw_comes (l : Launch) : Comes l x (Jvm.Cond.code x code maxLocals ret :: tables_1) room_1 (fun tb e args s => Calls_1 tb e args s ∧ rest_1 tb e args s ∧ Pre_1 tb e args s)
    (fun _ _ args s o t => lw_Q args s o t) := by
  intro p e ha hc hk s m args below hf hfit hheap happ hpre
  obtain ⟨b, xs, hP⟩ := lw_pre_spec hpre.2.2 hpre.2.1
  obtain ⟨k, o, h1, h2, h3, hQ⟩ := lw_walk l b xs p e ha hc hk s m args below hf ((Spec.applies_iff_loose hf).mp happ).1 hP trivial
  exact ⟨k, o, h1, h2, h3, hQ⟩
theorem lw_frame {s t : State} {o : Outcome} {args : Array Value} (h : Framed s o t [] 600000 7290000) :
    Framed s o t (fieldLocs frame_1_writes args s ++ arrayLocs frame_1_arrays args s ++ staticLocs frame_1_statics s) 600000 7290000 := h
theorem lw_limb (L : Cond) (hL : ∀ (args : Array Value) (s t : State), L.after args s (.returned (some (.int 1))) t = true) :
    ArmFor flags0 classFile x code maxLocals ret World_1 tables_1 room_1 Calls_1 rest_1 Pre_1
      (fun tb e a s o t => postC L tb e a s o t ∧ Framed s o t (fieldLocs frame_1_writes a s ++ arrayLocs frame_1_arrays a s ++ staticLocs frame_1_statics s) 600000 7290000) := by
  intro l _ _ _ p e ha hc hk s m args below hf hfit hheap happ hpre
  obtain ⟨k, o, h1, h2, h3, rfl, hF⟩ := lw_comes l p e ha hc hk s m args below hf hfit hheap happ hpre
  exact ⟨k, _, h1, h2, h3, hL args s _, lw_frame hF⟩
theorem i_vc : Claimed_1_1 ∧ Claimed_1_2 := ⟨lw_limb limb_1_1 (fun args s t => by simp [limb_1_1, Cond.after, Cond.holds, Cond.value]), lw_limb limb_1_2 (fun args s t => Cond.after_iff.mpr (by
  first | (rw [show limb_1_2 = Cond.eq .result (.int 1) from rfl, Cond.eq_ints (x := 1) (y := 1) rfl rfl]; simp; done) | (simp [limb_1_2, Cond.value, Term.eval]; done)))⟩
end
