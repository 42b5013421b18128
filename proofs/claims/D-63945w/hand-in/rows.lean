section
-- ===== PART A: goes FIRST, ahead of the names: the tables' words, and 'selects' of the private methods out of them =====
/-- a private method of a class that the tables say can be made, by its rows of tables_1 -/
def lw_okq (q : MethodName × Nat) : Prop := (q.1.cls ≠ "java/lang/invoke/MethodHandle" ∧ q.1.cls ≠ "java/lang/invoke/VarHandle") ∧ Cond.instantiable q.1.cls q.2 ∈ tables_1 ∧ Cond.privateMethod q.1 ∈ tables_1 ∧ Cond.instanceMethod q.1 ∈ tables_1
set_option maxRecDepth 100000
theorem lw_p0 : lw_okq (⟨"ReadPhaser", "noRead", "(I)Z"⟩, 11) := ⟨⟨by decide +kernel, by decide +kernel⟩, List.mem_of_getElem? (i := 4) rfl, List.mem_of_getElem? (i := 55) rfl, List.mem_of_getElem? (i := 56) rfl⟩
theorem lw_p1 : lw_okq (⟨"ReadPhaser", "solve", "(IZ)V"⟩, 11) := ⟨⟨by decide +kernel, by decide +kernel⟩, List.mem_of_getElem? (i := 4) rfl, List.mem_of_getElem? (i := 73) rfl, List.mem_of_getElem? (i := 74) rfl⟩
theorem lw_p2 : lw_okq (⟨"ReadPhaser", "firstSite", "(I)I"⟩, 11) := ⟨⟨by decide +kernel, by decide +kernel⟩, List.mem_of_getElem? (i := 4) rfl, List.mem_of_getElem? (i := 77) rfl, List.mem_of_getElem? (i := 78) rfl⟩
theorem lw_p3 : lw_okq (⟨"ReadPhaser", "beginRead", "(I)V"⟩, 11) := ⟨⟨by decide +kernel, by decide +kernel⟩, List.mem_of_getElem? (i := 4) rfl, List.mem_of_getElem? (i := 81) rfl, List.mem_of_getElem? (i := 82) rfl⟩
theorem lw_p4 : lw_okq (⟨"ReadPhaser", "addSite", "(IZ)V"⟩, 11) := ⟨⟨by decide +kernel, by decide +kernel⟩, List.mem_of_getElem? (i := 4) rfl, List.mem_of_getElem? (i := 86) rfl, List.mem_of_getElem? (i := 87) rfl⟩
theorem lw_p5 : lw_okq (⟨"ReadPhaser", "siteCost", "(IIIZ)I"⟩, 11) := ⟨⟨by decide +kernel, by decide +kernel⟩, List.mem_of_getElem? (i := 4) rfl, List.mem_of_getElem? (i := 90) rfl, List.mem_of_getElem? (i := 91) rfl⟩
theorem lw_p6 : lw_okq (⟨"ReadPhaser", "weigh", "(III)V"⟩, 11) := ⟨⟨by decide +kernel, by decide +kernel⟩, List.mem_of_getElem? (i := 4) rfl, List.mem_of_getElem? (i := 94) rfl, List.mem_of_getElem? (i := 95) rfl⟩
theorem lw_p7 : lw_okq (⟨"ReadPhaser", "weighRead", "(II)V"⟩, 11) := ⟨⟨by decide +kernel, by decide +kernel⟩, List.mem_of_getElem? (i := 4) rfl, List.mem_of_getElem? (i := 98) rfl, List.mem_of_getElem? (i := 99) rfl⟩
theorem lw_p8 : lw_okq (⟨"ReadPhaser", "lastSite", "(I)I"⟩, 11) := ⟨⟨by decide +kernel, by decide +kernel⟩, List.mem_of_getElem? (i := 4) rfl, List.mem_of_getElem? (i := 105) rfl, List.mem_of_getElem? (i := 106) rfl⟩
theorem lw_p9 : lw_okq (⟨"ReadPhaser", "endRead", "(I)V"⟩, 11) := ⟨⟨by decide +kernel, by decide +kernel⟩, List.mem_of_getElem? (i := 4) rfl, List.mem_of_getElem? (i := 109) rfl, List.mem_of_getElem? (i := 110) rfl⟩
theorem lw_p10 : lw_okq (⟨"ReadPhaser", "join", "(II)V"⟩, 11) := ⟨⟨by decide +kernel, by decide +kernel⟩, List.mem_of_getElem? (i := 4) rfl, List.mem_of_getElem? (i := 113) rfl, List.mem_of_getElem? (i := 114) rfl⟩
theorem lw_p11 : lw_okq (⟨"ReadPhaserModel", "bad", "(I)Z"⟩, 3) := ⟨⟨by decide +kernel, by decide +kernel⟩, List.mem_of_getElem? (i := 145) rfl, List.mem_of_getElem? (i := 169) rfl, List.mem_of_getElem? (i := 170) rfl⟩
theorem lw_p12 : lw_okq (⟨"ReadPhaserModel", "best", "(Z)I"⟩, 3) := ⟨⟨by decide +kernel, by decide +kernel⟩, List.mem_of_getElem? (i := 145) rfl, List.mem_of_getElem? (i := 186) rfl, List.mem_of_getElem? (i := 187) rfl⟩
theorem lw_p13 : lw_okq (⟨"ReadPhaserModel", "isSorting", "(I)Z"⟩, 3) := ⟨⟨by decide +kernel, by decide +kernel⟩, List.mem_of_getElem? (i := 145) rfl, List.mem_of_getElem? (i := 191) rfl, List.mem_of_getElem? (i := 192) rfl⟩
theorem lw_p14 : lw_okq (⟨"ReadPhaserModel", "cost", "(IZ)I"⟩, 3) := ⟨⟨by decide +kernel, by decide +kernel⟩, List.mem_of_getElem? (i := 145) rfl, List.mem_of_getElem? (i := 195) rfl, List.mem_of_getElem? (i := 196) rfl⟩
theorem lw_p15 : lw_okq (⟨"ReadPhaserModel", "trust", "(IIII)I"⟩, 3) := ⟨⟨by decide +kernel, by decide +kernel⟩, List.mem_of_getElem? (i := 145) rfl, List.mem_of_getElem? (i := 199) rfl, List.mem_of_getElem? (i := 200) rfl⟩
def lw_privs_1 : List (MethodName × Nat) := [(⟨"ReadPhaser", "noRead", "(I)Z"⟩, 11), (⟨"ReadPhaser", "solve", "(IZ)V"⟩, 11), (⟨"ReadPhaser", "firstSite", "(I)I"⟩, 11), (⟨"ReadPhaser", "beginRead", "(I)V"⟩, 11), (⟨"ReadPhaser", "addSite", "(IZ)V"⟩, 11), (⟨"ReadPhaser", "siteCost", "(IIIZ)I"⟩, 11), (⟨"ReadPhaser", "weigh", "(III)V"⟩, 11), (⟨"ReadPhaser", "weighRead", "(II)V"⟩, 11), (⟨"ReadPhaser", "lastSite", "(I)I"⟩, 11), (⟨"ReadPhaser", "endRead", "(I)V"⟩, 11), (⟨"ReadPhaser", "join", "(II)V"⟩, 11), (⟨"ReadPhaserModel", "bad", "(I)Z"⟩, 3), (⟨"ReadPhaserModel", "best", "(Z)I"⟩, 3), (⟨"ReadPhaserModel", "isSorting", "(I)Z"⟩, 3), (⟨"ReadPhaserModel", "cost", "(IZ)I"⟩, 3), (⟨"ReadPhaserModel", "trust", "(IIII)I"⟩, 3)]
theorem lw_r1 : ∀ q ∈ lw_privs_1, lw_okq q := List.forall_mem_cons.mpr ⟨lw_p0, List.forall_mem_cons.mpr ⟨lw_p1, List.forall_mem_cons.mpr ⟨lw_p2, List.forall_mem_cons.mpr ⟨lw_p3, List.forall_mem_cons.mpr ⟨lw_p4, List.forall_mem_cons.mpr ⟨lw_p5, List.forall_mem_cons.mpr ⟨lw_p6, List.forall_mem_cons.mpr ⟨lw_p7, List.forall_mem_cons.mpr ⟨lw_p8, List.forall_mem_cons.mpr ⟨lw_p9, List.forall_mem_cons.mpr ⟨lw_p10, List.forall_mem_cons.mpr ⟨lw_p11, List.forall_mem_cons.mpr ⟨lw_p12, List.forall_mem_cons.mpr ⟨lw_p13, List.forall_mem_cons.mpr ⟨lw_p14, List.forall_mem_cons.mpr ⟨lw_p15, fun _ h => absurd h List.not_mem_nil⟩⟩⟩⟩⟩⟩⟩⟩⟩⟩⟩⟩⟩⟩⟩⟩
theorem lw_p16 : lw_okq (⟨"ReadPhaserModel", "smaller", "(II)I"⟩, 3) := ⟨⟨by decide +kernel, by decide +kernel⟩, List.mem_of_getElem? (i := 145) rfl, List.mem_of_getElem? (i := 203) rfl, List.mem_of_getElem? (i := 204) rfl⟩
theorem lw_p17 : lw_okq (⟨"ReadPhaserModel", "first", "(Z)I"⟩, 3) := ⟨⟨by decide +kernel, by decide +kernel⟩, List.mem_of_getElem? (i := 145) rfl, List.mem_of_getElem? (i := 211) rfl, List.mem_of_getElem? (i := 212) rfl⟩
def lw_privs_2 : List (MethodName × Nat) := [(⟨"ReadPhaserModel", "smaller", "(II)I"⟩, 3), (⟨"ReadPhaserModel", "first", "(Z)I"⟩, 3)]
theorem lw_r2 : ∀ q ∈ lw_privs_2, lw_okq q := List.forall_mem_cons.mpr ⟨lw_p16, List.forall_mem_cons.mpr ⟨lw_p17, fun _ h => absurd h List.not_mem_nil⟩⟩
def lw_privs : List (MethodName × Nat) := lw_privs_1 ++ (lw_privs_2)
def lw_tbl : List Cond := k2_sels lw_privs ++ tables_1
theorem lw_privs_ok : ∀ q ∈ lw_privs, lw_okq q := by
  show ∀ q ∈ lw_privs_1 ++ (lw_privs_2), lw_okq q
  exact List.forall_mem_append.mpr ⟨lw_r1, lw_r2⟩
-- ===== ONE list of words for every method: the tables' words that hold all through a run =====
def lw_all : List Cond := lw_tbl.filter goodWord
/-- a word of the tables by its place: claim/WORDS.tsv -/
theorem lw_w {w : Cond} (i : Nat) (h : lw_tbl[i]? = some w) (g : goodWord w = true) : w ∈ lw_all := List.mem_filter.mpr ⟨List.mem_of_getElem? h, g⟩
theorem lw_all_tbl {w : Cond} (h : w ∈ lw_all) : w ∈ lw_tbl := (List.mem_filter.mp h).1
theorem lw_self : GoodIn lw_all lw_all := fun w h => ⟨h, good_of_word (List.mem_filter.mp h).2⟩
/-- a class's field words, by their places -/
theorem lw_in (ws : List Cond) (ps : List Nat) (hp : ws = ps.filterMap (fun i => lw_tbl[i]?)) (hg : ws.all goodWord = true) : ∀ w ∈ ws, w ∈ lw_all := by
  intro w h
  have h1 := List.all_eq_true.mp hg w h
  rw [hp] at h
  obtain ⟨i, -, hi⟩ := List.mem_filterMap.mp h
  exact lw_w i hi h1
/-- the words of a contract for the method y with code b, L locals, answer r -/
abbrev ws_ (y : MethodName) (b : ByteArray) (L : Nat) (r : Option FieldType) : List Cond := Cond.code y b L r :: lw_all
theorem lw_meth {y : MethodName} {b : ByteArray} {L : Nat} {r : Option FieldType} (h : Cond.code y b L r ∈ lw_all) : GoodIn lw_all (ws_ y b L r) := by
  intro w hw
  rcases List.mem_cons.mp hw with e | e
  · rw [e]
    exact lw_self _ h
  · exact lw_self _ e
theorem lw_app {a c : List Cond} (ha : ∀ w ∈ a, w ∈ lw_all) (hc : GoodIn lw_all c) : GoodIn lw_all (a ++ c) := by
  intro w hw
  rcases List.mem_append.mp hw with e | e
  · exact lw_self w (ha w e)
  · exact hc w e
/-- what a call through an object asks: cwV n hts (lw_V ..) -/
theorem lw_V {own : String} {idx : Nat} {C : String} {y : MethodName} {b : ByteArray} {L : Nat} {r : Option FieldType} (h1 : Cond.methodLink own idx y ∈ lw_all) (h2 : Cond.instanceMethod y ∈ lw_all) (h3 : Cond.selects C y y ∈ lw_all) (h4 : Cond.initialized C ∈ lw_all) (h5 : Cond.code y b L r ∈ lw_all) : GoodIn lw_all (wsV own idx C y (ws_ y b L r)) := by
  refine lw_app ?_ (lw_meth h5)
  intro w hw
  simp only [List.mem_cons, List.not_mem_nil, or_false] at hw
  rcases hw with e | e | e | e
  · rw [e]; exact h1
  · rw [e]; exact h2
  · rw [e]; exact h3
  · rw [e]; exact h4
/-- what a static call asks: va_cwS n hts (lw_S ..) -/
theorem lw_S {own : String} {idx : Nat} {y : MethodName} {b : ByteArray} {L : Nat} {r : Option FieldType} (h1 : Cond.methodLink own idx y ∈ lw_all) (h2 : Cond.static y ∈ lw_all) (h3 : Cond.initialized y.cls ∈ lw_all) (h4 : Cond.code y b L r ∈ lw_all) : GoodIn lw_all (va_wsS own idx y (ws_ y b L r)) := by
  refine lw_app ?_ (lw_meth h4)
  intro w hw
  simp only [List.mem_cons, List.not_mem_nil, or_false] at hw
  rcases hw with e | e | e
  · rw [e]; exact h1
  · rw [e]; exact h2
  · rw [e]; exact h3
/-- the words of a contract for a method WITH HANDLERS (hh: its table) -/
abbrev wsW_ (y : MethodName) (b : ByteArray) (L : Nat) (r : Option FieldType) (hh : List (Nat × Nat × Nat × Nat)) : List Cond := Cond.codeWith y b L r hh :: lw_all
theorem lw_methW {y : MethodName} {b : ByteArray} {L : Nat} {r : Option FieldType} {hh : List (Nat × Nat × Nat × Nat)} (h : Cond.codeWith y b L r hh ∈ lw_all) : GoodIn lw_all (wsW_ y b L r hh) := by
  intro w hw
  rcases List.mem_cons.mp hw with e | e
  · rw [e]
    exact lw_self _ h
  · exact lw_self _ e
/-- any list of words by their places (lw_in), good -/
theorem lw_good {ws : List Cond} (h : ∀ w ∈ ws, w ∈ lw_all) : GoodIn lw_all ws := fun w hw => lw_self w (h w hw)
/-- what a call of a method with handlers asks: vx_cwVW n hts (lw_VW ..), vx_cwSW n hts (lw_SW ..) -/
theorem lw_VW {own : String} {idx : Nat} {C : String} {y : MethodName} {b : ByteArray} {L : Nat} {r : Option FieldType} {hh : List (Nat × Nat × Nat × Nat)} (h1 : Cond.methodLink own idx y ∈ lw_all) (h2 : Cond.instanceMethod y ∈ lw_all) (h3 : Cond.selects C y y ∈ lw_all) (h4 : Cond.initialized C ∈ lw_all) (h5 : Cond.codeWith y b L r hh ∈ lw_all) : GoodIn lw_all (wsV own idx C y (wsW_ y b L r hh)) := by
  refine lw_app ?_ (lw_methW h5)
  intro w hw
  simp only [List.mem_cons, List.not_mem_nil, or_false] at hw
  rcases hw with e | e | e | e
  · rw [e]; exact h1
  · rw [e]; exact h2
  · rw [e]; exact h3
  · rw [e]; exact h4
theorem lw_SW {own : String} {idx : Nat} {y : MethodName} {b : ByteArray} {L : Nat} {r : Option FieldType} {hh : List (Nat × Nat × Nat × Nat)} (h1 : Cond.methodLink own idx y ∈ lw_all) (h2 : Cond.static y ∈ lw_all) (h3 : Cond.initialized y.cls ∈ lw_all) (h4 : Cond.codeWith y b L r hh ∈ lw_all) : GoodIn lw_all (va_wsS own idx y (wsW_ y b L r hh)) := by
  refine lw_app ?_ (lw_methW h4)
  intro w hw
  simp only [List.mem_cons, List.not_mem_nil, or_false] at hw
  rcases hw with e | e | e
  · rw [e]; exact h1
  · rw [e]; exact h2
  · rw [e]; exact h3
/-- a word by its place in its run of the tables -/
theorem lw_at {r : List Cond} (hr : ∀ w ∈ r, w ∈ lw_tbl) {w : Cond} (i : Nat) (h : r[i]? = some w) : w ∈ lw_tbl := hr w (List.mem_of_getElem? h)
theorem lw_g {w : Cond} (h : w ∈ lw_tbl) (g : goodWord w = true) : w ∈ lw_all := List.mem_filter.mpr ⟨h, g⟩
theorem lw_ms : ∀ w ∈ k2_sels lw_privs, w ∈ lw_tbl := fun w h => show w ∈ k2_sels lw_privs ++ tables_1 from List.mem_append_left _ h
theorem lw_m0 : ∀ w ∈ tables_1, w ∈ lw_tbl := fun w h => show w ∈ k2_sels lw_privs ++ tables_1 from List.mem_append_right (k2_sels lw_privs) h
theorem qs0 : (Cond.selects "ReadPhaser" ⟨"ReadPhaser", "noRead", "(I)Z"⟩ ⟨"ReadPhaser", "noRead", "(I)Z"⟩) ∈ lw_all := lw_g (lw_at lw_ms 0 rfl) rfl
theorem qs1 : (Cond.selects "ReadPhaser" ⟨"ReadPhaser", "solve", "(IZ)V"⟩ ⟨"ReadPhaser", "solve", "(IZ)V"⟩) ∈ lw_all := lw_g (lw_at lw_ms 1 rfl) rfl
theorem qs2 : (Cond.selects "ReadPhaser" ⟨"ReadPhaser", "firstSite", "(I)I"⟩ ⟨"ReadPhaser", "firstSite", "(I)I"⟩) ∈ lw_all := lw_g (lw_at lw_ms 2 rfl) rfl
theorem qs3 : (Cond.selects "ReadPhaser" ⟨"ReadPhaser", "beginRead", "(I)V"⟩ ⟨"ReadPhaser", "beginRead", "(I)V"⟩) ∈ lw_all := lw_g (lw_at lw_ms 3 rfl) rfl
theorem qs4 : (Cond.selects "ReadPhaser" ⟨"ReadPhaser", "addSite", "(IZ)V"⟩ ⟨"ReadPhaser", "addSite", "(IZ)V"⟩) ∈ lw_all := lw_g (lw_at lw_ms 4 rfl) rfl
theorem qs5 : (Cond.selects "ReadPhaser" ⟨"ReadPhaser", "siteCost", "(IIIZ)I"⟩ ⟨"ReadPhaser", "siteCost", "(IIIZ)I"⟩) ∈ lw_all := lw_g (lw_at lw_ms 5 rfl) rfl
theorem qs6 : (Cond.selects "ReadPhaser" ⟨"ReadPhaser", "weigh", "(III)V"⟩ ⟨"ReadPhaser", "weigh", "(III)V"⟩) ∈ lw_all := lw_g (lw_at lw_ms 6 rfl) rfl
theorem qs7 : (Cond.selects "ReadPhaser" ⟨"ReadPhaser", "weighRead", "(II)V"⟩ ⟨"ReadPhaser", "weighRead", "(II)V"⟩) ∈ lw_all := lw_g (lw_at lw_ms 7 rfl) rfl
theorem qs8 : (Cond.selects "ReadPhaser" ⟨"ReadPhaser", "lastSite", "(I)I"⟩ ⟨"ReadPhaser", "lastSite", "(I)I"⟩) ∈ lw_all := lw_g (lw_at lw_ms 8 rfl) rfl
theorem qs9 : (Cond.selects "ReadPhaser" ⟨"ReadPhaser", "endRead", "(I)V"⟩ ⟨"ReadPhaser", "endRead", "(I)V"⟩) ∈ lw_all := lw_g (lw_at lw_ms 9 rfl) rfl
theorem qs10 : (Cond.selects "ReadPhaser" ⟨"ReadPhaser", "join", "(II)V"⟩ ⟨"ReadPhaser", "join", "(II)V"⟩) ∈ lw_all := lw_g (lw_at lw_ms 10 rfl) rfl
theorem qs11 : (Cond.selects "ReadPhaserModel" ⟨"ReadPhaserModel", "bad", "(I)Z"⟩ ⟨"ReadPhaserModel", "bad", "(I)Z"⟩) ∈ lw_all := lw_g (lw_at lw_ms 11 rfl) rfl
theorem qs12 : (Cond.selects "ReadPhaserModel" ⟨"ReadPhaserModel", "best", "(Z)I"⟩ ⟨"ReadPhaserModel", "best", "(Z)I"⟩) ∈ lw_all := lw_g (lw_at lw_ms 12 rfl) rfl
theorem qs13 : (Cond.selects "ReadPhaserModel" ⟨"ReadPhaserModel", "isSorting", "(I)Z"⟩ ⟨"ReadPhaserModel", "isSorting", "(I)Z"⟩) ∈ lw_all := lw_g (lw_at lw_ms 13 rfl) rfl
theorem qs14 : (Cond.selects "ReadPhaserModel" ⟨"ReadPhaserModel", "cost", "(IZ)I"⟩ ⟨"ReadPhaserModel", "cost", "(IZ)I"⟩) ∈ lw_all := lw_g (lw_at lw_ms 14 rfl) rfl
theorem qs15 : (Cond.selects "ReadPhaserModel" ⟨"ReadPhaserModel", "trust", "(IIII)I"⟩ ⟨"ReadPhaserModel", "trust", "(IIII)I"⟩) ∈ lw_all := lw_g (lw_at lw_ms 15 rfl) rfl
theorem qs16 : (Cond.selects "ReadPhaserModel" ⟨"ReadPhaserModel", "smaller", "(II)I"⟩ ⟨"ReadPhaserModel", "smaller", "(II)I"⟩) ∈ lw_all := lw_g (lw_at lw_ms 16 rfl) rfl
theorem qs17 : (Cond.selects "ReadPhaserModel" ⟨"ReadPhaserModel", "first", "(Z)I"⟩ ⟨"ReadPhaserModel", "first", "(Z)I"⟩) ∈ lw_all := lw_g (lw_at lw_ms 17 rfl) rfl
end
section
/-! ReadPhaser -/
set_option maxRecDepth 100000
def RX0 : String := "ReadPhaser"
def TX0 : u_T := fun k => match k with
  | 0 => ("ReadPhaser", "reads", "I", false)
  | 1 => ("ReadPhaser", "trust", "[I", true)
  | 2 => ("ReadPhaser", "value", "[I", true)
  | 3 => ("ReadPhaser", "atWork", "I", false)
  | 4 => ("ReadPhaser", "cost", "[I", true)
  | 5 => ("ReadPhaser", "best", "[I", true)
  | 6 => ("ReadPhaser", "ways", "[I", true)
  | 7 => ("ReadPhaser", "a0", "I", false)
  | 8 => ("ReadPhaser", "a1", "I", false)
  | 9 => ("ReadPhaser", "b0", "I", false)
  | _ => ("ReadPhaser", "b1", "I", false)
def tyX0 : Nat → FieldType := fun k => match k with
  | 0 => .int
  | 1 => .array .int
  | 2 => .array .int
  | 3 => .int
  | 4 => .array .int
  | 5 => .array .int
  | 6 => .array .int
  | 7 => .int
  | 8 => .int
  | 9 => .int
  | _ => .int
abbrev wsX00 : List Cond := u_ws RX0 TX0 11
theorem nmX0 : ∀ a, a < 11 → ∀ b, b < 11 → a ≠ b → (TX0 a).2.1 ≠ (TX0 b).2.1 := by decide +kernel
theorem tyX0_ok : ∀ k, k < 11 → parseFieldDescriptor (TX0 k).2.2.1 = some (tyX0 k) := by decide +kernel
abbrev cX0_init : ByteArray := prog_1_method_1_code
def yX0_init : MethodName := ⟨RX0, "<init>", "()V"⟩
theorem dX0_init_0 : decode cX0_init 0 = .ok (.aload_n 0, 1) := by decide +kernel
theorem dX0_init_1 : decode cX0_init 1 = .ok (.invokespecial 1, 3) := by decide +kernel
theorem dX0_init_4 : decode cX0_init 4 = .ok (.aload_n 0, 1) := by decide +kernel
theorem dX0_init_5 : decode cX0_init 5 = .ok (.bipush 64, 2) := by decide +kernel
theorem dX0_init_7 : decode cX0_init 7 = .ok (.newarray .int, 2) := by decide +kernel
theorem dX0_init_9 : decode cX0_init 9 = .ok (.putfield 7, 3) := by decide +kernel
theorem dX0_init_12 : decode cX0_init 12 = .ok (.aload_n 0, 1) := by decide +kernel
theorem dX0_init_13 : decode cX0_init 13 = .ok (.bipush 64, 2) := by decide +kernel
theorem dX0_init_15 : decode cX0_init 15 = .ok (.newarray .int, 2) := by decide +kernel
theorem dX0_init_17 : decode cX0_init 17 = .ok (.putfield 13, 3) := by decide +kernel
theorem dX0_init_20 : decode cX0_init 20 = .ok (.aload_n 0, 1) := by decide +kernel
theorem dX0_init_21 : decode cX0_init 21 = .ok (.sipush 256, 3) := by decide +kernel
theorem dX0_init_24 : decode cX0_init 24 = .ok (.newarray .int, 2) := by decide +kernel
theorem dX0_init_26 : decode cX0_init 26 = .ok (.putfield 16, 3) := by decide +kernel
theorem dX0_init_29 : decode cX0_init 29 = .ok (.aload_n 0, 1) := by decide +kernel
theorem dX0_init_30 : decode cX0_init 30 = .ok (.sipush 256, 3) := by decide +kernel
theorem dX0_init_33 : decode cX0_init 33 = .ok (.newarray .int, 2) := by decide +kernel
theorem dX0_init_35 : decode cX0_init 35 = .ok (.putfield 19, 3) := by decide +kernel
theorem dX0_init_38 : decode cX0_init 38 = .ok (.aload_n 0, 1) := by decide +kernel
theorem dX0_init_39 : decode cX0_init 39 = .ok (.sipush 256, 3) := by decide +kernel
theorem dX0_init_42 : decode cX0_init 42 = .ok (.newarray .int, 2) := by decide +kernel
theorem dX0_init_44 : decode cX0_init 44 = .ok (.putfield 22, 3) := by decide +kernel
theorem dX0_init_47 : decode cX0_init 47 = .ok (.aload_n 0, 1) := by decide +kernel
theorem dX0_init_48 : decode cX0_init 48 = .ok (.iconst 0, 1) := by decide +kernel
theorem dX0_init_49 : decode cX0_init 49 = .ok (.putfield 25, 3) := by decide +kernel
theorem dX0_init_52 : decode cX0_init 52 = .ok (.return_, 1) := by decide +kernel
abbrev cX0_read : ByteArray := prog_1_method_3_code
def yX0_read : MethodName := ⟨RX0, "read", "()I"⟩
theorem dX0_read_0 : decode cX0_read 0 = .ok (.aload_n 0, 1) := by decide +kernel
theorem dX0_read_1 : decode cX0_read 1 = .ok (.getfield 25, 3) := by decide +kernel
theorem dX0_read_4 : decode cX0_read 4 = .ok (.bipush 8, 2) := by decide +kernel
theorem dX0_read_6 : decode cX0_read 6 = .ok (.if_icmp .lt 6, 3) := by decide +kernel
theorem dX0_read_9 : decode cX0_read 9 = .ok (.bipush (-4), 2) := by decide +kernel
theorem dX0_read_11 : decode cX0_read 11 = .ok (.ireturn, 1) := by decide +kernel
theorem dX0_read_12 : decode cX0_read 12 = .ok (.iconst 0, 1) := by decide +kernel
theorem dX0_read_13 : decode cX0_read 13 = .ok (.istore_n 1, 1) := by decide +kernel
theorem dX0_read_14 : decode cX0_read 14 = .ok (.iload_n 1, 1) := by decide +kernel
theorem dX0_read_15 : decode cX0_read 15 = .ok (.bipush 8, 2) := by decide +kernel
theorem dX0_read_17 : decode cX0_read 17 = .ok (.if_icmp .ge 24, 3) := by decide +kernel
theorem dX0_read_20 : decode cX0_read 20 = .ok (.aload_n 0, 1) := by decide +kernel
theorem dX0_read_21 : decode cX0_read 21 = .ok (.getfield 7, 3) := by decide +kernel
theorem dX0_read_24 : decode cX0_read 24 = .ok (.aload_n 0, 1) := by decide +kernel
theorem dX0_read_25 : decode cX0_read 25 = .ok (.getfield 25, 3) := by decide +kernel
theorem dX0_read_28 : decode cX0_read 28 = .ok (.bipush 8, 2) := by decide +kernel
theorem dX0_read_30 : decode cX0_read 30 = .ok (.imul, 1) := by decide +kernel
theorem dX0_read_31 : decode cX0_read 31 = .ok (.iload_n 1, 1) := by decide +kernel
theorem dX0_read_32 : decode cX0_read 32 = .ok (.iadd, 1) := by decide +kernel
theorem dX0_read_33 : decode cX0_read 33 = .ok (.iconst 0, 1) := by decide +kernel
theorem dX0_read_34 : decode cX0_read 34 = .ok (.iastore, 1) := by decide +kernel
theorem dX0_read_35 : decode cX0_read 35 = .ok (.iinc 1 1, 3) := by decide +kernel
theorem dX0_read_38 : decode cX0_read 38 = .ok (.goto (-24), 3) := by decide +kernel
theorem dX0_read_41 : decode cX0_read 41 = .ok (.aload_n 0, 1) := by decide +kernel
theorem dX0_read_42 : decode cX0_read 42 = .ok (.dup, 1) := by decide +kernel
theorem dX0_read_43 : decode cX0_read 43 = .ok (.getfield 25, 3) := by decide +kernel
theorem dX0_read_46 : decode cX0_read 46 = .ok (.iconst 1, 1) := by decide +kernel
theorem dX0_read_47 : decode cX0_read 47 = .ok (.iadd, 1) := by decide +kernel
theorem dX0_read_48 : decode cX0_read 48 = .ok (.putfield 25, 3) := by decide +kernel
theorem dX0_read_51 : decode cX0_read 51 = .ok (.aload_n 0, 1) := by decide +kernel
theorem dX0_read_52 : decode cX0_read 52 = .ok (.getfield 25, 3) := by decide +kernel
theorem dX0_read_55 : decode cX0_read 55 = .ok (.iconst 1, 1) := by decide +kernel
theorem dX0_read_56 : decode cX0_read 56 = .ok (.isub, 1) := by decide +kernel
theorem dX0_read_57 : decode cX0_read 57 = .ok (.ireturn, 1) := by decide +kernel
abbrev cX0_say : ByteArray := prog_1_method_4_code
def yX0_say : MethodName := ⟨RX0, "say", "(IIII)I"⟩
theorem dX0_say_0 : decode cX0_say 0 = .ok (.aload_n 0, 1) := by decide +kernel
theorem dX0_say_1 : decode cX0_say 1 = .ok (.iload_n 1, 1) := by decide +kernel
theorem dX0_say_2 : decode cX0_say 2 = .ok (.invokevirtual 29, 3) := by decide +kernel
theorem dX0_say_5 : decode cX0_say 5 = .ok (.ifCond .eq 5, 3) := by decide +kernel
theorem dX0_say_8 : decode cX0_say 8 = .ok (.iconst (-1), 1) := by decide +kernel
theorem dX0_say_9 : decode cX0_say 9 = .ok (.ireturn, 1) := by decide +kernel
theorem dX0_say_10 : decode cX0_say 10 = .ok (.iload_n 2, 1) := by decide +kernel
theorem dX0_say_11 : decode cX0_say 11 = .ok (.ifCond .lt 9, 3) := by decide +kernel
theorem dX0_say_14 : decode cX0_say 14 = .ok (.iload_n 2, 1) := by decide +kernel
theorem dX0_say_15 : decode cX0_say 15 = .ok (.bipush 8, 2) := by decide +kernel
theorem dX0_say_17 : decode cX0_say 17 = .ok (.if_icmp .lt 6, 3) := by decide +kernel
theorem dX0_say_20 : decode cX0_say 20 = .ok (.bipush (-2), 2) := by decide +kernel
theorem dX0_say_22 : decode cX0_say 22 = .ok (.ireturn, 1) := by decide +kernel
theorem dX0_say_23 : decode cX0_say 23 = .ok (.iload 4, 2) := by decide +kernel
theorem dX0_say_25 : decode cX0_say 25 = .ok (.ifCond .lt 10, 3) := by decide +kernel
theorem dX0_say_28 : decode cX0_say 28 = .ok (.iload 4, 2) := by decide +kernel
theorem dX0_say_30 : decode cX0_say 30 = .ok (.bipush 9, 2) := by decide +kernel
theorem dX0_say_32 : decode cX0_say 32 = .ok (.if_icmp .le 6, 3) := by decide +kernel
theorem dX0_say_35 : decode cX0_say 35 = .ok (.bipush (-3), 2) := by decide +kernel
theorem dX0_say_37 : decode cX0_say 37 = .ok (.ireturn, 1) := by decide +kernel
theorem dX0_say_38 : decode cX0_say 38 = .ok (.iload_n 1, 1) := by decide +kernel
theorem dX0_say_39 : decode cX0_say 39 = .ok (.bipush 8, 2) := by decide +kernel
theorem dX0_say_41 : decode cX0_say 41 = .ok (.imul, 1) := by decide +kernel
theorem dX0_say_42 : decode cX0_say 42 = .ok (.iload_n 2, 1) := by decide +kernel
theorem dX0_say_43 : decode cX0_say 43 = .ok (.iadd, 1) := by decide +kernel
theorem dX0_say_44 : decode cX0_say 44 = .ok (.istore 5, 2) := by decide +kernel
theorem dX0_say_46 : decode cX0_say 46 = .ok (.aload_n 0, 1) := by decide +kernel
theorem dX0_say_47 : decode cX0_say 47 = .ok (.getfield 7, 3) := by decide +kernel
theorem dX0_say_50 : decode cX0_say 50 = .ok (.iload 5, 2) := by decide +kernel
theorem dX0_say_52 : decode cX0_say 52 = .ok (.iaload, 1) := by decide +kernel
theorem dX0_say_53 : decode cX0_say 53 = .ok (.istore 6, 2) := by decide +kernel
theorem dX0_say_55 : decode cX0_say 55 = .ok (.aload_n 0, 1) := by decide +kernel
theorem dX0_say_56 : decode cX0_say 56 = .ok (.getfield 7, 3) := by decide +kernel
theorem dX0_say_59 : decode cX0_say 59 = .ok (.iload 5, 2) := by decide +kernel
theorem dX0_say_61 : decode cX0_say 61 = .ok (.iload 4, 2) := by decide +kernel
theorem dX0_say_63 : decode cX0_say 63 = .ok (.iastore, 1) := by decide +kernel
theorem dX0_say_64 : decode cX0_say 64 = .ok (.aload_n 0, 1) := by decide +kernel
theorem dX0_say_65 : decode cX0_say 65 = .ok (.getfield 13, 3) := by decide +kernel
theorem dX0_say_68 : decode cX0_say 68 = .ok (.iload 5, 2) := by decide +kernel
theorem dX0_say_70 : decode cX0_say 70 = .ok (.iload_n 3, 1) := by decide +kernel
theorem dX0_say_71 : decode cX0_say 71 = .ok (.iconst 1, 1) := by decide +kernel
theorem dX0_say_72 : decode cX0_say 72 = .ok (.iand, 1) := by decide +kernel
theorem dX0_say_73 : decode cX0_say 73 = .ok (.iastore, 1) := by decide +kernel
theorem dX0_say_74 : decode cX0_say 74 = .ok (.iload 6, 2) := by decide +kernel
theorem dX0_say_76 : decode cX0_say 76 = .ok (.ireturn, 1) := by decide +kernel
abbrev cX0_noRead : ByteArray := prog_1_method_2_code
def yX0_noRead : MethodName := ⟨RX0, "noRead", "(I)Z"⟩
theorem dX0_noRead_0 : decode cX0_noRead 0 = .ok (.iload_n 1, 1) := by decide +kernel
theorem dX0_noRead_1 : decode cX0_noRead 1 = .ok (.ifCond .lt 11, 3) := by decide +kernel
theorem dX0_noRead_4 : decode cX0_noRead 4 = .ok (.iload_n 1, 1) := by decide +kernel
theorem dX0_noRead_5 : decode cX0_noRead 5 = .ok (.aload_n 0, 1) := by decide +kernel
theorem dX0_noRead_6 : decode cX0_noRead 6 = .ok (.getfield 25, 3) := by decide +kernel
theorem dX0_noRead_9 : decode cX0_noRead 9 = .ok (.if_icmp .lt 7, 3) := by decide +kernel
theorem dX0_noRead_12 : decode cX0_noRead 12 = .ok (.iconst 1, 1) := by decide +kernel
theorem dX0_noRead_13 : decode cX0_noRead 13 = .ok (.goto 4, 3) := by decide +kernel
theorem dX0_noRead_16 : decode cX0_noRead 16 = .ok (.iconst 0, 1) := by decide +kernel
theorem dX0_noRead_17 : decode cX0_noRead 17 = .ok (.ireturn, 1) := by decide +kernel
abbrev cX0_stretch : ByteArray := prog_1_method_5_code
def yX0_stretch : MethodName := ⟨RX0, "stretch", "(III)I"⟩
theorem dX0_stretch_0 : decode cX0_stretch 0 = .ok (.iload_n 1, 1) := by decide +kernel
theorem dX0_stretch_1 : decode cX0_stretch 1 = .ok (.bipush 7, 2) := by decide +kernel
theorem dX0_stretch_3 : decode cX0_stretch 3 = .ok (.iand, 1) := by decide +kernel
theorem dX0_stretch_4 : decode cX0_stretch 4 = .ok (.istore 4, 2) := by decide +kernel
theorem dX0_stretch_6 : decode cX0_stretch 6 = .ok (.iload_n 1, 1) := by decide +kernel
theorem dX0_stretch_7 : decode cX0_stretch 7 = .ok (.iconst 3, 1) := by decide +kernel
theorem dX0_stretch_8 : decode cX0_stretch 8 = .ok (.ishr, 1) := by decide +kernel
theorem dX0_stretch_9 : decode cX0_stretch 9 = .ok (.bipush 15, 2) := by decide +kernel
theorem dX0_stretch_11 : decode cX0_stretch 11 = .ok (.iand, 1) := by decide +kernel
theorem dX0_stretch_12 : decode cX0_stretch 12 = .ok (.istore 5, 2) := by decide +kernel
theorem dX0_stretch_14 : decode cX0_stretch 14 = .ok (.iload 5, 2) := by decide +kernel
theorem dX0_stretch_16 : decode cX0_stretch 16 = .ok (.iconst 1, 1) := by decide +kernel
theorem dX0_stretch_17 : decode cX0_stretch 17 = .ok (.if_icmp .lt 20, 3) := by decide +kernel
theorem dX0_stretch_20 : decode cX0_stretch 20 = .ok (.iload 5, 2) := by decide +kernel
theorem dX0_stretch_22 : decode cX0_stretch 22 = .ok (.bipush 8, 2) := by decide +kernel
theorem dX0_stretch_24 : decode cX0_stretch 24 = .ok (.if_icmp .gt 13, 3) := by decide +kernel
theorem dX0_stretch_27 : decode cX0_stretch 27 = .ok (.iload 4, 2) := by decide +kernel
theorem dX0_stretch_29 : decode cX0_stretch 29 = .ok (.iload 5, 2) := by decide +kernel
theorem dX0_stretch_31 : decode cX0_stretch 31 = .ok (.iadd, 1) := by decide +kernel
theorem dX0_stretch_32 : decode cX0_stretch 32 = .ok (.bipush 8, 2) := by decide +kernel
theorem dX0_stretch_34 : decode cX0_stretch 34 = .ok (.if_icmp .le 6, 3) := by decide +kernel
theorem dX0_stretch_37 : decode cX0_stretch 37 = .ok (.bipush (-2), 2) := by decide +kernel
theorem dX0_stretch_39 : decode cX0_stretch 39 = .ok (.ireturn, 1) := by decide +kernel
theorem dX0_stretch_40 : decode cX0_stretch 40 = .ok (.iload_n 3, 1) := by decide +kernel
theorem dX0_stretch_41 : decode cX0_stretch 41 = .ok (.iconst 1, 1) := by decide +kernel
theorem dX0_stretch_42 : decode cX0_stretch 42 = .ok (.if_icmp .lt 9, 3) := by decide +kernel
theorem dX0_stretch_45 : decode cX0_stretch 45 = .ok (.iload_n 3, 1) := by decide +kernel
theorem dX0_stretch_46 : decode cX0_stretch 46 = .ok (.bipush 9, 2) := by decide +kernel
theorem dX0_stretch_48 : decode cX0_stretch 48 = .ok (.if_icmp .le 6, 3) := by decide +kernel
theorem dX0_stretch_51 : decode cX0_stretch 51 = .ok (.bipush (-3), 2) := by decide +kernel
theorem dX0_stretch_53 : decode cX0_stretch 53 = .ok (.ireturn, 1) := by decide +kernel
theorem dX0_stretch_54 : decode cX0_stretch 54 = .ok (.aload_n 0, 1) := by decide +kernel
theorem dX0_stretch_55 : decode cX0_stretch 55 = .ok (.invokevirtual 33, 3) := by decide +kernel
theorem dX0_stretch_58 : decode cX0_stretch 58 = .ok (.istore 6, 2) := by decide +kernel
theorem dX0_stretch_60 : decode cX0_stretch 60 = .ok (.iload 6, 2) := by decide +kernel
theorem dX0_stretch_62 : decode cX0_stretch 62 = .ok (.ifCond .ge 6, 3) := by decide +kernel
theorem dX0_stretch_65 : decode cX0_stretch 65 = .ok (.bipush (-4), 2) := by decide +kernel
theorem dX0_stretch_67 : decode cX0_stretch 67 = .ok (.ireturn, 1) := by decide +kernel
theorem dX0_stretch_68 : decode cX0_stretch 68 = .ok (.iconst 0, 1) := by decide +kernel
theorem dX0_stretch_69 : decode cX0_stretch 69 = .ok (.istore 7, 2) := by decide +kernel
theorem dX0_stretch_71 : decode cX0_stretch 71 = .ok (.iload 7, 2) := by decide +kernel
theorem dX0_stretch_73 : decode cX0_stretch 73 = .ok (.iload 5, 2) := by decide +kernel
theorem dX0_stretch_75 : decode cX0_stretch 75 = .ok (.if_icmp .ge 28, 3) := by decide +kernel
theorem dX0_stretch_78 : decode cX0_stretch 78 = .ok (.aload_n 0, 1) := by decide +kernel
theorem dX0_stretch_79 : decode cX0_stretch 79 = .ok (.iload 6, 2) := by decide +kernel
theorem dX0_stretch_81 : decode cX0_stretch 81 = .ok (.iload 4, 2) := by decide +kernel
theorem dX0_stretch_83 : decode cX0_stretch 83 = .ok (.iload 7, 2) := by decide +kernel
theorem dX0_stretch_85 : decode cX0_stretch 85 = .ok (.iadd, 1) := by decide +kernel
theorem dX0_stretch_86 : decode cX0_stretch 86 = .ok (.iload_n 2, 1) := by decide +kernel
theorem dX0_stretch_87 : decode cX0_stretch 87 = .ok (.iload 7, 2) := by decide +kernel
theorem dX0_stretch_89 : decode cX0_stretch 89 = .ok (.ishr, 1) := by decide +kernel
theorem dX0_stretch_90 : decode cX0_stretch 90 = .ok (.iconst 1, 1) := by decide +kernel
theorem dX0_stretch_91 : decode cX0_stretch 91 = .ok (.iand, 1) := by decide +kernel
theorem dX0_stretch_92 : decode cX0_stretch 92 = .ok (.iload_n 3, 1) := by decide +kernel
theorem dX0_stretch_93 : decode cX0_stretch 93 = .ok (.invokevirtual 37, 3) := by decide +kernel
theorem dX0_stretch_96 : decode cX0_stretch 96 = .ok (.pop, 1) := by decide +kernel
theorem dX0_stretch_97 : decode cX0_stretch 97 = .ok (.iinc 7 1, 3) := by decide +kernel
theorem dX0_stretch_100 : decode cX0_stretch 100 = .ok (.goto (-29), 3) := by decide +kernel
theorem dX0_stretch_103 : decode cX0_stretch 103 = .ok (.iload 6, 2) := by decide +kernel
theorem dX0_stretch_105 : decode cX0_stretch 105 = .ok (.ireturn, 1) := by decide +kernel
abbrev cX0_drop : ByteArray := prog_1_method_6_code
def yX0_drop : MethodName := ⟨RX0, "drop", "()I"⟩
theorem dX0_drop_0 : decode cX0_drop 0 = .ok (.aload_n 0, 1) := by decide +kernel
theorem dX0_drop_1 : decode cX0_drop 1 = .ok (.getfield 25, 3) := by decide +kernel
theorem dX0_drop_4 : decode cX0_drop 4 = .ok (.ifCond .ne 5, 3) := by decide +kernel
theorem dX0_drop_7 : decode cX0_drop 7 = .ok (.iconst (-1), 1) := by decide +kernel
theorem dX0_drop_8 : decode cX0_drop 8 = .ok (.ireturn, 1) := by decide +kernel
theorem dX0_drop_9 : decode cX0_drop 9 = .ok (.aload_n 0, 1) := by decide +kernel
theorem dX0_drop_10 : decode cX0_drop 10 = .ok (.dup, 1) := by decide +kernel
theorem dX0_drop_11 : decode cX0_drop 11 = .ok (.getfield 25, 3) := by decide +kernel
theorem dX0_drop_14 : decode cX0_drop 14 = .ok (.iconst 1, 1) := by decide +kernel
theorem dX0_drop_15 : decode cX0_drop 15 = .ok (.isub, 1) := by decide +kernel
theorem dX0_drop_16 : decode cX0_drop 16 = .ok (.putfield 25, 3) := by decide +kernel
theorem dX0_drop_19 : decode cX0_drop 19 = .ok (.aload_n 0, 1) := by decide +kernel
theorem dX0_drop_20 : decode cX0_drop 20 = .ok (.getfield 25, 3) := by decide +kernel
theorem dX0_drop_23 : decode cX0_drop 23 = .ok (.ireturn, 1) := by decide +kernel
abbrev cX0_least : ByteArray := prog_1_method_18_code
def yX0_least : MethodName := ⟨RX0, "least", "()I"⟩
theorem dX0_least_0 : decode cX0_least 0 = .ok (.aload_n 0, 1) := by decide +kernel
theorem dX0_least_1 : decode cX0_least 1 = .ok (.iconst 0, 1) := by decide +kernel
theorem dX0_least_2 : decode cX0_least 2 = .ok (.iconst 0, 1) := by decide +kernel
theorem dX0_least_3 : decode cX0_least 3 = .ok (.invokevirtual 94, 3) := by decide +kernel
theorem dX0_least_6 : decode cX0_least 6 = .ok (.aload_n 0, 1) := by decide +kernel
theorem dX0_least_7 : decode cX0_least 7 = .ok (.getfield 16, 3) := by decide +kernel
theorem dX0_least_10 : decode cX0_least 10 = .ok (.iconst 0, 1) := by decide +kernel
theorem dX0_least_11 : decode cX0_least 11 = .ok (.iaload, 1) := by decide +kernel
theorem dX0_least_12 : decode cX0_least 12 = .ok (.ireturn, 1) := by decide +kernel
abbrev cX0_solve : ByteArray := prog_1_method_17_code
def yX0_solve : MethodName := ⟨RX0, "solve", "(IZ)V"⟩
theorem dX0_solve_0 : decode cX0_solve 0 = .ok (.aload_n 0, 1) := by decide +kernel
theorem dX0_solve_1 : decode cX0_solve 1 = .ok (.iconst 0, 1) := by decide +kernel
theorem dX0_solve_2 : decode cX0_solve 2 = .ok (.putfield 65, 3) := by decide +kernel
theorem dX0_solve_5 : decode cX0_solve 5 = .ok (.aload_n 0, 1) := by decide +kernel
theorem dX0_solve_6 : decode cX0_solve 6 = .ok (.getfield 16, 3) := by decide +kernel
theorem dX0_solve_9 : decode cX0_solve 9 = .ok (.iconst 0, 1) := by decide +kernel
theorem dX0_solve_10 : decode cX0_solve 10 = .ok (.iconst 0, 1) := by decide +kernel
theorem dX0_solve_11 : decode cX0_solve 11 = .ok (.iastore, 1) := by decide +kernel
theorem dX0_solve_12 : decode cX0_solve 12 = .ok (.aload_n 0, 1) := by decide +kernel
theorem dX0_solve_13 : decode cX0_solve 13 = .ok (.getfield 19, 3) := by decide +kernel
theorem dX0_solve_16 : decode cX0_solve 16 = .ok (.iconst 0, 1) := by decide +kernel
theorem dX0_solve_17 : decode cX0_solve 17 = .ok (.iconst 0, 1) := by decide +kernel
theorem dX0_solve_18 : decode cX0_solve 18 = .ok (.iastore, 1) := by decide +kernel
theorem dX0_solve_19 : decode cX0_solve 19 = .ok (.aload_n 0, 1) := by decide +kernel
theorem dX0_solve_20 : decode cX0_solve 20 = .ok (.getfield 22, 3) := by decide +kernel
theorem dX0_solve_23 : decode cX0_solve 23 = .ok (.iconst 0, 1) := by decide +kernel
theorem dX0_solve_24 : decode cX0_solve 24 = .ok (.iconst 1, 1) := by decide +kernel
theorem dX0_solve_25 : decode cX0_solve 25 = .ok (.iastore, 1) := by decide +kernel
theorem dX0_solve_26 : decode cX0_solve 26 = .ok (.iconst 0, 1) := by decide +kernel
theorem dX0_solve_27 : decode cX0_solve 27 = .ok (.istore_n 3, 1) := by decide +kernel
theorem dX0_solve_28 : decode cX0_solve 28 = .ok (.iload_n 3, 1) := by decide +kernel
theorem dX0_solve_29 : decode cX0_solve 29 = .ok (.aload_n 0, 1) := by decide +kernel
theorem dX0_solve_30 : decode cX0_solve 30 = .ok (.getfield 25, 3) := by decide +kernel
theorem dX0_solve_33 : decode cX0_solve 33 = .ok (.if_icmp .ge 37, 3) := by decide +kernel
theorem dX0_solve_36 : decode cX0_solve 36 = .ok (.aload_n 0, 1) := by decide +kernel
theorem dX0_solve_37 : decode cX0_solve 37 = .ok (.iload_n 3, 1) := by decide +kernel
theorem dX0_solve_38 : decode cX0_solve 38 = .ok (.invokevirtual 76, 3) := by decide +kernel
theorem dX0_solve_41 : decode cX0_solve 41 = .ok (.istore 4, 2) := by decide +kernel
theorem dX0_solve_43 : decode cX0_solve 43 = .ok (.iload_n 1, 1) := by decide +kernel
theorem dX0_solve_44 : decode cX0_solve 44 = .ok (.iload_n 3, 1) := by decide +kernel
theorem dX0_solve_45 : decode cX0_solve 45 = .ok (.ishr, 1) := by decide +kernel
theorem dX0_solve_46 : decode cX0_solve 46 = .ok (.iconst 1, 1) := by decide +kernel
theorem dX0_solve_47 : decode cX0_solve 47 = .ok (.iand, 1) := by decide +kernel
theorem dX0_solve_48 : decode cX0_solve 48 = .ok (.iconst 1, 1) := by decide +kernel
theorem dX0_solve_49 : decode cX0_solve 49 = .ok (.if_icmp .eq 10, 3) := by decide +kernel
theorem dX0_solve_52 : decode cX0_solve 52 = .ok (.iload 4, 2) := by decide +kernel
theorem dX0_solve_54 : decode cX0_solve 54 = .ok (.bipush 8, 2) := by decide +kernel
theorem dX0_solve_56 : decode cX0_solve 56 = .ok (.if_icmp .ne 8, 3) := by decide +kernel
theorem dX0_solve_59 : decode cX0_solve 59 = .ok (.aload_n 0, 1) := by decide +kernel
theorem dX0_solve_60 : decode cX0_solve 60 = .ok (.iload_n 3, 1) := by decide +kernel
theorem dX0_solve_61 : decode cX0_solve 61 = .ok (.invokevirtual 80, 3) := by decide +kernel
theorem dX0_solve_64 : decode cX0_solve 64 = .ok (.iinc 3 1, 3) := by decide +kernel
theorem dX0_solve_67 : decode cX0_solve 67 = .ok (.goto (-39), 3) := by decide +kernel
theorem dX0_solve_70 : decode cX0_solve 70 = .ok (.iconst 0, 1) := by decide +kernel
theorem dX0_solve_71 : decode cX0_solve 71 = .ok (.istore_n 3, 1) := by decide +kernel
theorem dX0_solve_72 : decode cX0_solve 72 = .ok (.iload_n 3, 1) := by decide +kernel
theorem dX0_solve_73 : decode cX0_solve 73 = .ok (.bipush 8, 2) := by decide +kernel
theorem dX0_solve_75 : decode cX0_solve 75 = .ok (.if_icmp .ge 112, 3) := by decide +kernel
theorem dX0_solve_78 : decode cX0_solve 78 = .ok (.iconst 0, 1) := by decide +kernel
theorem dX0_solve_79 : decode cX0_solve 79 = .ok (.istore 4, 2) := by decide +kernel
theorem dX0_solve_81 : decode cX0_solve 81 = .ok (.iload 4, 2) := by decide +kernel
theorem dX0_solve_83 : decode cX0_solve 83 = .ok (.aload_n 0, 1) := by decide +kernel
theorem dX0_solve_84 : decode cX0_solve 84 = .ok (.getfield 25, 3) := by decide +kernel
theorem dX0_solve_87 : decode cX0_solve 87 = .ok (.if_icmp .ge 41, 3) := by decide +kernel
theorem dX0_solve_90 : decode cX0_solve 90 = .ok (.aload_n 0, 1) := by decide +kernel
theorem dX0_solve_91 : decode cX0_solve 91 = .ok (.iload 4, 2) := by decide +kernel
theorem dX0_solve_93 : decode cX0_solve 93 = .ok (.invokevirtual 76, 3) := by decide +kernel
theorem dX0_solve_96 : decode cX0_solve 96 = .ok (.istore 5, 2) := by decide +kernel
theorem dX0_solve_98 : decode cX0_solve 98 = .ok (.iload 5, 2) := by decide +kernel
theorem dX0_solve_100 : decode cX0_solve 100 = .ok (.iload_n 3, 1) := by decide +kernel
theorem dX0_solve_101 : decode cX0_solve 101 = .ok (.if_icmp .ne 21, 3) := by decide +kernel
theorem dX0_solve_104 : decode cX0_solve 104 = .ok (.aload_n 0, 1) := by decide +kernel
theorem dX0_solve_105 : decode cX0_solve 105 = .ok (.getfield 65, 3) := by decide +kernel
theorem dX0_solve_108 : decode cX0_solve 108 = .ok (.iload 4, 2) := by decide +kernel
theorem dX0_solve_110 : decode cX0_solve 110 = .ok (.ishr, 1) := by decide +kernel
theorem dX0_solve_111 : decode cX0_solve 111 = .ok (.iconst 1, 1) := by decide +kernel
theorem dX0_solve_112 : decode cX0_solve 112 = .ok (.iand, 1) := by decide +kernel
theorem dX0_solve_113 : decode cX0_solve 113 = .ok (.ifCond .ne 9, 3) := by decide +kernel
theorem dX0_solve_116 : decode cX0_solve 116 = .ok (.aload_n 0, 1) := by decide +kernel
theorem dX0_solve_117 : decode cX0_solve 117 = .ok (.iload 4, 2) := by decide +kernel
theorem dX0_solve_119 : decode cX0_solve 119 = .ok (.invokevirtual 80, 3) := by decide +kernel
theorem dX0_solve_122 : decode cX0_solve 122 = .ok (.iinc 4 1, 3) := by decide +kernel
theorem dX0_solve_125 : decode cX0_solve 125 = .ok (.goto (-44), 3) := by decide +kernel
theorem dX0_solve_128 : decode cX0_solve 128 = .ok (.aload_n 0, 1) := by decide +kernel
theorem dX0_solve_129 : decode cX0_solve 129 = .ok (.iload_n 3, 1) := by decide +kernel
theorem dX0_solve_130 : decode cX0_solve 130 = .ok (.iload_n 2, 1) := by decide +kernel
theorem dX0_solve_131 : decode cX0_solve 131 = .ok (.invokevirtual 84, 3) := by decide +kernel
theorem dX0_solve_134 : decode cX0_solve 134 = .ok (.iconst 0, 1) := by decide +kernel
theorem dX0_solve_135 : decode cX0_solve 135 = .ok (.istore 4, 2) := by decide +kernel
theorem dX0_solve_137 : decode cX0_solve 137 = .ok (.iload 4, 2) := by decide +kernel
theorem dX0_solve_139 : decode cX0_solve 139 = .ok (.aload_n 0, 1) := by decide +kernel
theorem dX0_solve_140 : decode cX0_solve 140 = .ok (.getfield 25, 3) := by decide +kernel
theorem dX0_solve_143 : decode cX0_solve 143 = .ok (.if_icmp .ge 38, 3) := by decide +kernel
theorem dX0_solve_146 : decode cX0_solve 146 = .ok (.aload_n 0, 1) := by decide +kernel
theorem dX0_solve_147 : decode cX0_solve 147 = .ok (.iload 4, 2) := by decide +kernel
theorem dX0_solve_149 : decode cX0_solve 149 = .ok (.invokevirtual 88, 3) := by decide +kernel
theorem dX0_solve_152 : decode cX0_solve 152 = .ok (.istore 5, 2) := by decide +kernel
theorem dX0_solve_154 : decode cX0_solve 154 = .ok (.iload 5, 2) := by decide +kernel
theorem dX0_solve_156 : decode cX0_solve 156 = .ok (.iload_n 3, 1) := by decide +kernel
theorem dX0_solve_157 : decode cX0_solve 157 = .ok (.if_icmp .ne 18, 3) := by decide +kernel
theorem dX0_solve_160 : decode cX0_solve 160 = .ok (.iload_n 1, 1) := by decide +kernel
theorem dX0_solve_161 : decode cX0_solve 161 = .ok (.iload 4, 2) := by decide +kernel
theorem dX0_solve_163 : decode cX0_solve 163 = .ok (.ishr, 1) := by decide +kernel
theorem dX0_solve_164 : decode cX0_solve 164 = .ok (.iconst 1, 1) := by decide +kernel
theorem dX0_solve_165 : decode cX0_solve 165 = .ok (.iand, 1) := by decide +kernel
theorem dX0_solve_166 : decode cX0_solve 166 = .ok (.ifCond .ne 9, 3) := by decide +kernel
theorem dX0_solve_169 : decode cX0_solve 169 = .ok (.aload_n 0, 1) := by decide +kernel
theorem dX0_solve_170 : decode cX0_solve 170 = .ok (.iload 4, 2) := by decide +kernel
theorem dX0_solve_172 : decode cX0_solve 172 = .ok (.invokevirtual 91, 3) := by decide +kernel
theorem dX0_solve_175 : decode cX0_solve 175 = .ok (.iinc 4 1, 3) := by decide +kernel
theorem dX0_solve_178 : decode cX0_solve 178 = .ok (.goto (-41), 3) := by decide +kernel
theorem dX0_solve_181 : decode cX0_solve 181 = .ok (.iinc 3 1, 3) := by decide +kernel
theorem dX0_solve_184 : decode cX0_solve 184 = .ok (.goto (-112), 3) := by decide +kernel
theorem dX0_solve_187 : decode cX0_solve 187 = .ok (.iconst 0, 1) := by decide +kernel
theorem dX0_solve_188 : decode cX0_solve 188 = .ok (.istore_n 3, 1) := by decide +kernel
theorem dX0_solve_189 : decode cX0_solve 189 = .ok (.iload_n 3, 1) := by decide +kernel
theorem dX0_solve_190 : decode cX0_solve 190 = .ok (.aload_n 0, 1) := by decide +kernel
theorem dX0_solve_191 : decode cX0_solve 191 = .ok (.getfield 25, 3) := by decide +kernel
theorem dX0_solve_194 : decode cX0_solve 194 = .ok (.if_icmp .ge 34, 3) := by decide +kernel
theorem dX0_solve_197 : decode cX0_solve 197 = .ok (.iload_n 1, 1) := by decide +kernel
theorem dX0_solve_198 : decode cX0_solve 198 = .ok (.iload_n 3, 1) := by decide +kernel
theorem dX0_solve_199 : decode cX0_solve 199 = .ok (.ishr, 1) := by decide +kernel
theorem dX0_solve_200 : decode cX0_solve 200 = .ok (.iconst 1, 1) := by decide +kernel
theorem dX0_solve_201 : decode cX0_solve 201 = .ok (.iand, 1) := by decide +kernel
theorem dX0_solve_202 : decode cX0_solve 202 = .ok (.ifCond .ne 20, 3) := by decide +kernel
theorem dX0_solve_205 : decode cX0_solve 205 = .ok (.aload_n 0, 1) := by decide +kernel
theorem dX0_solve_206 : decode cX0_solve 206 = .ok (.getfield 65, 3) := by decide +kernel
theorem dX0_solve_209 : decode cX0_solve 209 = .ok (.iload_n 3, 1) := by decide +kernel
theorem dX0_solve_210 : decode cX0_solve 210 = .ok (.ishr, 1) := by decide +kernel
theorem dX0_solve_211 : decode cX0_solve 211 = .ok (.iconst 1, 1) := by decide +kernel
theorem dX0_solve_212 : decode cX0_solve 212 = .ok (.iand, 1) := by decide +kernel
theorem dX0_solve_213 : decode cX0_solve 213 = .ok (.iconst 1, 1) := by decide +kernel
theorem dX0_solve_214 : decode cX0_solve 214 = .ok (.if_icmp .ne 8, 3) := by decide +kernel
theorem dX0_solve_217 : decode cX0_solve 217 = .ok (.aload_n 0, 1) := by decide +kernel
theorem dX0_solve_218 : decode cX0_solve 218 = .ok (.iload_n 3, 1) := by decide +kernel
theorem dX0_solve_219 : decode cX0_solve 219 = .ok (.invokevirtual 91, 3) := by decide +kernel
theorem dX0_solve_222 : decode cX0_solve 222 = .ok (.iinc 3 1, 3) := by decide +kernel
theorem dX0_solve_225 : decode cX0_solve 225 = .ok (.goto (-36), 3) := by decide +kernel
theorem dX0_solve_228 : decode cX0_solve 228 = .ok (.return_, 1) := by decide +kernel
abbrev cX0_firstSite : ByteArray := prog_1_method_11_code
def yX0_firstSite : MethodName := ⟨RX0, "firstSite", "(I)I"⟩
theorem dX0_firstSite_0 : decode cX0_firstSite 0 = .ok (.iconst 0, 1) := by decide +kernel
theorem dX0_firstSite_1 : decode cX0_firstSite 1 = .ok (.istore_n 2, 1) := by decide +kernel
theorem dX0_firstSite_2 : decode cX0_firstSite 2 = .ok (.iload_n 2, 1) := by decide +kernel
theorem dX0_firstSite_3 : decode cX0_firstSite 3 = .ok (.bipush 8, 2) := by decide +kernel
theorem dX0_firstSite_5 : decode cX0_firstSite 5 = .ok (.if_icmp .ge 23, 3) := by decide +kernel
theorem dX0_firstSite_8 : decode cX0_firstSite 8 = .ok (.aload_n 0, 1) := by decide +kernel
theorem dX0_firstSite_9 : decode cX0_firstSite 9 = .ok (.getfield 7, 3) := by decide +kernel
theorem dX0_firstSite_12 : decode cX0_firstSite 12 = .ok (.iload_n 1, 1) := by decide +kernel
theorem dX0_firstSite_13 : decode cX0_firstSite 13 = .ok (.bipush 8, 2) := by decide +kernel
theorem dX0_firstSite_15 : decode cX0_firstSite 15 = .ok (.imul, 1) := by decide +kernel
theorem dX0_firstSite_16 : decode cX0_firstSite 16 = .ok (.iload_n 2, 1) := by decide +kernel
theorem dX0_firstSite_17 : decode cX0_firstSite 17 = .ok (.iadd, 1) := by decide +kernel
theorem dX0_firstSite_18 : decode cX0_firstSite 18 = .ok (.iaload, 1) := by decide +kernel
theorem dX0_firstSite_19 : decode cX0_firstSite 19 = .ok (.ifCond .ne 9, 3) := by decide +kernel
theorem dX0_firstSite_22 : decode cX0_firstSite 22 = .ok (.iinc 2 1, 3) := by decide +kernel
theorem dX0_firstSite_25 : decode cX0_firstSite 25 = .ok (.goto (-23), 3) := by decide +kernel
theorem dX0_firstSite_28 : decode cX0_firstSite 28 = .ok (.iload_n 2, 1) := by decide +kernel
theorem dX0_firstSite_29 : decode cX0_firstSite 29 = .ok (.ireturn, 1) := by decide +kernel
abbrev cX0_beginRead : ByteArray := prog_1_method_13_code
def yX0_beginRead : MethodName := ⟨RX0, "beginRead", "(I)V"⟩
theorem dX0_beginRead_0 : decode cX0_beginRead 0 = .ok (.iconst 1, 1) := by decide +kernel
theorem dX0_beginRead_1 : decode cX0_beginRead 1 = .ok (.iload_n 1, 1) := by decide +kernel
theorem dX0_beginRead_2 : decode cX0_beginRead 2 = .ok (.ishl, 1) := by decide +kernel
theorem dX0_beginRead_3 : decode cX0_beginRead 3 = .ok (.istore_n 2, 1) := by decide +kernel
theorem dX0_beginRead_4 : decode cX0_beginRead 4 = .ok (.iconst 0, 1) := by decide +kernel
theorem dX0_beginRead_5 : decode cX0_beginRead 5 = .ok (.istore_n 3, 1) := by decide +kernel
theorem dX0_beginRead_6 : decode cX0_beginRead 6 = .ok (.iload_n 3, 1) := by decide +kernel
theorem dX0_beginRead_7 : decode cX0_beginRead 7 = .ok (.sipush 256, 3) := by decide +kernel
theorem dX0_beginRead_10 : decode cX0_beginRead 10 = .ok (.if_icmp .ge 73, 3) := by decide +kernel
theorem dX0_beginRead_13 : decode cX0_beginRead 13 = .ok (.iload_n 3, 1) := by decide +kernel
theorem dX0_beginRead_14 : decode cX0_beginRead 14 = .ok (.aload_n 0, 1) := by decide +kernel
theorem dX0_beginRead_15 : decode cX0_beginRead 15 = .ok (.getfield 65, 3) := by decide +kernel
theorem dX0_beginRead_18 : decode cX0_beginRead 18 = .ok (.iconst (-1), 1) := by decide +kernel
theorem dX0_beginRead_19 : decode cX0_beginRead 19 = .ok (.ixor, 1) := by decide +kernel
theorem dX0_beginRead_20 : decode cX0_beginRead 20 = .ok (.iand, 1) := by decide +kernel
theorem dX0_beginRead_21 : decode cX0_beginRead 21 = .ok (.ifCond .ne 56, 3) := by decide +kernel
theorem dX0_beginRead_24 : decode cX0_beginRead 24 = .ok (.aload_n 0, 1) := by decide +kernel
theorem dX0_beginRead_25 : decode cX0_beginRead 25 = .ok (.getfield 16, 3) := by decide +kernel
theorem dX0_beginRead_28 : decode cX0_beginRead 28 = .ok (.iload_n 3, 1) := by decide +kernel
theorem dX0_beginRead_29 : decode cX0_beginRead 29 = .ok (.iload_n 2, 1) := by decide +kernel
theorem dX0_beginRead_30 : decode cX0_beginRead 30 = .ok (.ior, 1) := by decide +kernel
theorem dX0_beginRead_31 : decode cX0_beginRead 31 = .ok (.iload_n 1, 1) := by decide +kernel
theorem dX0_beginRead_32 : decode cX0_beginRead 32 = .ok (.ifCond .ne 8, 3) := by decide +kernel
theorem dX0_beginRead_35 : decode cX0_beginRead 35 = .ok (.ldc 68, 2) := by decide +kernel
theorem dX0_beginRead_37 : decode cX0_beginRead 37 = .ok (.goto 9, 3) := by decide +kernel
theorem dX0_beginRead_40 : decode cX0_beginRead 40 = .ok (.aload_n 0, 1) := by decide +kernel
theorem dX0_beginRead_41 : decode cX0_beginRead 41 = .ok (.getfield 16, 3) := by decide +kernel
theorem dX0_beginRead_44 : decode cX0_beginRead 44 = .ok (.iload_n 3, 1) := by decide +kernel
theorem dX0_beginRead_45 : decode cX0_beginRead 45 = .ok (.iaload, 1) := by decide +kernel
theorem dX0_beginRead_46 : decode cX0_beginRead 46 = .ok (.iastore, 1) := by decide +kernel
theorem dX0_beginRead_47 : decode cX0_beginRead 47 = .ok (.aload_n 0, 1) := by decide +kernel
theorem dX0_beginRead_48 : decode cX0_beginRead 48 = .ok (.getfield 19, 3) := by decide +kernel
theorem dX0_beginRead_51 : decode cX0_beginRead 51 = .ok (.iload_n 3, 1) := by decide +kernel
theorem dX0_beginRead_52 : decode cX0_beginRead 52 = .ok (.iload_n 2, 1) := by decide +kernel
theorem dX0_beginRead_53 : decode cX0_beginRead 53 = .ok (.ior, 1) := by decide +kernel
theorem dX0_beginRead_54 : decode cX0_beginRead 54 = .ok (.aload_n 0, 1) := by decide +kernel
theorem dX0_beginRead_55 : decode cX0_beginRead 55 = .ok (.getfield 19, 3) := by decide +kernel
theorem dX0_beginRead_58 : decode cX0_beginRead 58 = .ok (.iload_n 3, 1) := by decide +kernel
theorem dX0_beginRead_59 : decode cX0_beginRead 59 = .ok (.iaload, 1) := by decide +kernel
theorem dX0_beginRead_60 : decode cX0_beginRead 60 = .ok (.iload_n 2, 1) := by decide +kernel
theorem dX0_beginRead_61 : decode cX0_beginRead 61 = .ok (.ior, 1) := by decide +kernel
theorem dX0_beginRead_62 : decode cX0_beginRead 62 = .ok (.iastore, 1) := by decide +kernel
theorem dX0_beginRead_63 : decode cX0_beginRead 63 = .ok (.aload_n 0, 1) := by decide +kernel
theorem dX0_beginRead_64 : decode cX0_beginRead 64 = .ok (.getfield 22, 3) := by decide +kernel
theorem dX0_beginRead_67 : decode cX0_beginRead 67 = .ok (.iload_n 3, 1) := by decide +kernel
theorem dX0_beginRead_68 : decode cX0_beginRead 68 = .ok (.iload_n 2, 1) := by decide +kernel
theorem dX0_beginRead_69 : decode cX0_beginRead 69 = .ok (.ior, 1) := by decide +kernel
theorem dX0_beginRead_70 : decode cX0_beginRead 70 = .ok (.aload_n 0, 1) := by decide +kernel
theorem dX0_beginRead_71 : decode cX0_beginRead 71 = .ok (.getfield 22, 3) := by decide +kernel
theorem dX0_beginRead_74 : decode cX0_beginRead 74 = .ok (.iload_n 3, 1) := by decide +kernel
theorem dX0_beginRead_75 : decode cX0_beginRead 75 = .ok (.iaload, 1) := by decide +kernel
theorem dX0_beginRead_76 : decode cX0_beginRead 76 = .ok (.iastore, 1) := by decide +kernel
theorem dX0_beginRead_77 : decode cX0_beginRead 77 = .ok (.iinc 3 1, 3) := by decide +kernel
theorem dX0_beginRead_80 : decode cX0_beginRead 80 = .ok (.goto (-74), 3) := by decide +kernel
theorem dX0_beginRead_83 : decode cX0_beginRead 83 = .ok (.aload_n 0, 1) := by decide +kernel
theorem dX0_beginRead_84 : decode cX0_beginRead 84 = .ok (.dup, 1) := by decide +kernel
theorem dX0_beginRead_85 : decode cX0_beginRead 85 = .ok (.getfield 65, 3) := by decide +kernel
theorem dX0_beginRead_88 : decode cX0_beginRead 88 = .ok (.iload_n 2, 1) := by decide +kernel
theorem dX0_beginRead_89 : decode cX0_beginRead 89 = .ok (.ior, 1) := by decide +kernel
theorem dX0_beginRead_90 : decode cX0_beginRead 90 = .ok (.putfield 65, 3) := by decide +kernel
theorem dX0_beginRead_93 : decode cX0_beginRead 93 = .ok (.return_, 1) := by decide +kernel
end
section
set_option maxRecDepth 100000
abbrev cX0_addSite : ByteArray := prog_1_method_16_code
def yX0_addSite : MethodName := ⟨RX0, "addSite", "(IZ)V"⟩
theorem dX0_addSite_0 : decode cX0_addSite 0 = .ok (.iconst 0, 1) := by decide +kernel
theorem dX0_addSite_1 : decode cX0_addSite 1 = .ok (.istore_n 3, 1) := by decide +kernel
theorem dX0_addSite_2 : decode cX0_addSite 2 = .ok (.iload_n 3, 1) := by decide +kernel
theorem dX0_addSite_3 : decode cX0_addSite 3 = .ok (.sipush 256, 3) := by decide +kernel
theorem dX0_addSite_6 : decode cX0_addSite 6 = .ok (.if_icmp .ge 51, 3) := by decide +kernel
theorem dX0_addSite_9 : decode cX0_addSite 9 = .ok (.iload_n 3, 1) := by decide +kernel
theorem dX0_addSite_10 : decode cX0_addSite 10 = .ok (.aload_n 0, 1) := by decide +kernel
theorem dX0_addSite_11 : decode cX0_addSite 11 = .ok (.getfield 65, 3) := by decide +kernel
theorem dX0_addSite_14 : decode cX0_addSite 14 = .ok (.iconst (-1), 1) := by decide +kernel
theorem dX0_addSite_15 : decode cX0_addSite 15 = .ok (.ixor, 1) := by decide +kernel
theorem dX0_addSite_16 : decode cX0_addSite 16 = .ok (.iand, 1) := by decide +kernel
theorem dX0_addSite_17 : decode cX0_addSite 17 = .ok (.ifCond .ne 34, 3) := by decide +kernel
theorem dX0_addSite_20 : decode cX0_addSite 20 = .ok (.aload_n 0, 1) := by decide +kernel
theorem dX0_addSite_21 : decode cX0_addSite 21 = .ok (.getfield 16, 3) := by decide +kernel
theorem dX0_addSite_24 : decode cX0_addSite 24 = .ok (.iload_n 3, 1) := by decide +kernel
theorem dX0_addSite_25 : decode cX0_addSite 25 = .ok (.iaload, 1) := by decide +kernel
theorem dX0_addSite_26 : decode cX0_addSite 26 = .ok (.ldc 68, 2) := by decide +kernel
theorem dX0_addSite_28 : decode cX0_addSite 28 = .ok (.if_icmp .ge 23, 3) := by decide +kernel
theorem dX0_addSite_31 : decode cX0_addSite 31 = .ok (.aload_n 0, 1) := by decide +kernel
theorem dX0_addSite_32 : decode cX0_addSite 32 = .ok (.getfield 16, 3) := by decide +kernel
theorem dX0_addSite_35 : decode cX0_addSite 35 = .ok (.iload_n 3, 1) := by decide +kernel
theorem dX0_addSite_36 : decode cX0_addSite 36 = .ok (.dup2, 1) := by decide +kernel
theorem dX0_addSite_37 : decode cX0_addSite 37 = .ok (.iaload, 1) := by decide +kernel
theorem dX0_addSite_38 : decode cX0_addSite 38 = .ok (.aload_n 0, 1) := by decide +kernel
theorem dX0_addSite_39 : decode cX0_addSite 39 = .ok (.iload_n 1, 1) := by decide +kernel
theorem dX0_addSite_40 : decode cX0_addSite 40 = .ok (.iload_n 3, 1) := by decide +kernel
theorem dX0_addSite_41 : decode cX0_addSite 41 = .ok (.aload_n 0, 1) := by decide +kernel
theorem dX0_addSite_42 : decode cX0_addSite 42 = .ok (.getfield 65, 3) := by decide +kernel
theorem dX0_addSite_45 : decode cX0_addSite 45 = .ok (.iload_n 2, 1) := by decide +kernel
theorem dX0_addSite_46 : decode cX0_addSite 46 = .ok (.invokevirtual 72, 3) := by decide +kernel
theorem dX0_addSite_49 : decode cX0_addSite 49 = .ok (.iadd, 1) := by decide +kernel
theorem dX0_addSite_50 : decode cX0_addSite 50 = .ok (.iastore, 1) := by decide +kernel
theorem dX0_addSite_51 : decode cX0_addSite 51 = .ok (.iinc 3 1, 3) := by decide +kernel
theorem dX0_addSite_54 : decode cX0_addSite 54 = .ok (.goto (-52), 3) := by decide +kernel
theorem dX0_addSite_57 : decode cX0_addSite 57 = .ok (.return_, 1) := by decide +kernel
abbrev cX0_siteCost : ByteArray := prog_1_method_10_code
def yX0_siteCost : MethodName := ⟨RX0, "siteCost", "(IIIZ)I"⟩
theorem dX0_siteCost_0 : decode cX0_siteCost 0 = .ok (.aload_n 0, 1) := by decide +kernel
theorem dX0_siteCost_1 : decode cX0_siteCost 1 = .ok (.iload_n 1, 1) := by decide +kernel
theorem dX0_siteCost_2 : decode cX0_siteCost 2 = .ok (.iload_n 2, 1) := by decide +kernel
theorem dX0_siteCost_3 : decode cX0_siteCost 3 = .ok (.iload_n 3, 1) := by decide +kernel
theorem dX0_siteCost_4 : decode cX0_siteCost 4 = .ok (.invokevirtual 57, 3) := by decide +kernel
theorem dX0_siteCost_7 : decode cX0_siteCost 7 = .ok (.iload 4, 2) := by decide +kernel
theorem dX0_siteCost_9 : decode cX0_siteCost 9 = .ok (.ifCond .eq 25, 3) := by decide +kernel
theorem dX0_siteCost_12 : decode cX0_siteCost 12 = .ok (.aload_n 0, 1) := by decide +kernel
theorem dX0_siteCost_13 : decode cX0_siteCost 13 = .ok (.getfield 41, 3) := by decide +kernel
theorem dX0_siteCost_16 : decode cX0_siteCost 16 = .ok (.aload_n 0, 1) := by decide +kernel
theorem dX0_siteCost_17 : decode cX0_siteCost 17 = .ok (.getfield 50, 3) := by decide +kernel
theorem dX0_siteCost_20 : decode cX0_siteCost 20 = .ok (.iadd, 1) := by decide +kernel
theorem dX0_siteCost_21 : decode cX0_siteCost 21 = .ok (.aload_n 0, 1) := by decide +kernel
theorem dX0_siteCost_22 : decode cX0_siteCost 22 = .ok (.getfield 44, 3) := by decide +kernel
theorem dX0_siteCost_25 : decode cX0_siteCost 25 = .ok (.aload_n 0, 1) := by decide +kernel
theorem dX0_siteCost_26 : decode cX0_siteCost 26 = .ok (.getfield 47, 3) := by decide +kernel
theorem dX0_siteCost_29 : decode cX0_siteCost 29 = .ok (.iadd, 1) := by decide +kernel
theorem dX0_siteCost_30 : decode cX0_siteCost 30 = .ok (.invokestatic 61, 3) := by decide +kernel
theorem dX0_siteCost_33 : decode cX0_siteCost 33 = .ok (.ireturn, 1) := by decide +kernel
theorem dX0_siteCost_34 : decode cX0_siteCost 34 = .ok (.aload_n 0, 1) := by decide +kernel
theorem dX0_siteCost_35 : decode cX0_siteCost 35 = .ok (.getfield 41, 3) := by decide +kernel
theorem dX0_siteCost_38 : decode cX0_siteCost 38 = .ok (.aload_n 0, 1) := by decide +kernel
theorem dX0_siteCost_39 : decode cX0_siteCost 39 = .ok (.getfield 44, 3) := by decide +kernel
theorem dX0_siteCost_42 : decode cX0_siteCost 42 = .ok (.invokestatic 61, 3) := by decide +kernel
theorem dX0_siteCost_45 : decode cX0_siteCost 45 = .ok (.aload_n 0, 1) := by decide +kernel
theorem dX0_siteCost_46 : decode cX0_siteCost 46 = .ok (.getfield 47, 3) := by decide +kernel
theorem dX0_siteCost_49 : decode cX0_siteCost 49 = .ok (.aload_n 0, 1) := by decide +kernel
theorem dX0_siteCost_50 : decode cX0_siteCost 50 = .ok (.getfield 50, 3) := by decide +kernel
theorem dX0_siteCost_53 : decode cX0_siteCost 53 = .ok (.invokestatic 61, 3) := by decide +kernel
theorem dX0_siteCost_56 : decode cX0_siteCost 56 = .ok (.iadd, 1) := by decide +kernel
theorem dX0_siteCost_57 : decode cX0_siteCost 57 = .ok (.ireturn, 1) := by decide +kernel
abbrev cX0_weigh : ByteArray := prog_1_method_7_code
def yX0_weigh : MethodName := ⟨RX0, "weigh", "(III)V"⟩
theorem dX0_weigh_0 : decode cX0_weigh 0 = .ok (.aload_n 0, 1) := by decide +kernel
theorem dX0_weigh_1 : decode cX0_weigh 1 = .ok (.iconst 0, 1) := by decide +kernel
theorem dX0_weigh_2 : decode cX0_weigh 2 = .ok (.putfield 41, 3) := by decide +kernel
theorem dX0_weigh_5 : decode cX0_weigh 5 = .ok (.aload_n 0, 1) := by decide +kernel
theorem dX0_weigh_6 : decode cX0_weigh 6 = .ok (.iconst 0, 1) := by decide +kernel
theorem dX0_weigh_7 : decode cX0_weigh 7 = .ok (.putfield 44, 3) := by decide +kernel
theorem dX0_weigh_10 : decode cX0_weigh 10 = .ok (.aload_n 0, 1) := by decide +kernel
theorem dX0_weigh_11 : decode cX0_weigh 11 = .ok (.iconst 0, 1) := by decide +kernel
theorem dX0_weigh_12 : decode cX0_weigh 12 = .ok (.putfield 47, 3) := by decide +kernel
theorem dX0_weigh_15 : decode cX0_weigh 15 = .ok (.aload_n 0, 1) := by decide +kernel
theorem dX0_weigh_16 : decode cX0_weigh 16 = .ok (.iconst 0, 1) := by decide +kernel
theorem dX0_weigh_17 : decode cX0_weigh 17 = .ok (.putfield 50, 3) := by decide +kernel
theorem dX0_weigh_20 : decode cX0_weigh 20 = .ok (.iconst 0, 1) := by decide +kernel
theorem dX0_weigh_21 : decode cX0_weigh 21 = .ok (.istore 4, 2) := by decide +kernel
theorem dX0_weigh_23 : decode cX0_weigh 23 = .ok (.iload 4, 2) := by decide +kernel
theorem dX0_weigh_25 : decode cX0_weigh 25 = .ok (.aload_n 0, 1) := by decide +kernel
theorem dX0_weigh_26 : decode cX0_weigh 26 = .ok (.getfield 25, 3) := by decide +kernel
theorem dX0_weigh_29 : decode cX0_weigh 29 = .ok (.if_icmp .ge 36, 3) := by decide +kernel
theorem dX0_weigh_32 : decode cX0_weigh 32 = .ok (.iload_n 3, 1) := by decide +kernel
theorem dX0_weigh_33 : decode cX0_weigh 33 = .ok (.iload 4, 2) := by decide +kernel
theorem dX0_weigh_35 : decode cX0_weigh 35 = .ok (.ishr, 1) := by decide +kernel
theorem dX0_weigh_36 : decode cX0_weigh 36 = .ok (.iconst 1, 1) := by decide +kernel
theorem dX0_weigh_37 : decode cX0_weigh 37 = .ok (.iand, 1) := by decide +kernel
theorem dX0_weigh_38 : decode cX0_weigh 38 = .ok (.iconst 1, 1) := by decide +kernel
theorem dX0_weigh_39 : decode cX0_weigh 39 = .ok (.if_icmp .ne 20, 3) := by decide +kernel
theorem dX0_weigh_42 : decode cX0_weigh 42 = .ok (.aload_n 0, 1) := by decide +kernel
theorem dX0_weigh_43 : decode cX0_weigh 43 = .ok (.iload 4, 2) := by decide +kernel
theorem dX0_weigh_45 : decode cX0_weigh 45 = .ok (.bipush 8, 2) := by decide +kernel
theorem dX0_weigh_47 : decode cX0_weigh 47 = .ok (.imul, 1) := by decide +kernel
theorem dX0_weigh_48 : decode cX0_weigh 48 = .ok (.iload_n 1, 1) := by decide +kernel
theorem dX0_weigh_49 : decode cX0_weigh 49 = .ok (.iadd, 1) := by decide +kernel
theorem dX0_weigh_50 : decode cX0_weigh 50 = .ok (.iload_n 2, 1) := by decide +kernel
theorem dX0_weigh_51 : decode cX0_weigh 51 = .ok (.iload 4, 2) := by decide +kernel
theorem dX0_weigh_53 : decode cX0_weigh 53 = .ok (.ishr, 1) := by decide +kernel
theorem dX0_weigh_54 : decode cX0_weigh 54 = .ok (.iconst 1, 1) := by decide +kernel
theorem dX0_weigh_55 : decode cX0_weigh 55 = .ok (.iand, 1) := by decide +kernel
theorem dX0_weigh_56 : decode cX0_weigh 56 = .ok (.invokevirtual 53, 3) := by decide +kernel
theorem dX0_weigh_59 : decode cX0_weigh 59 = .ok (.iinc 4 1, 3) := by decide +kernel
theorem dX0_weigh_62 : decode cX0_weigh 62 = .ok (.goto (-39), 3) := by decide +kernel
theorem dX0_weigh_65 : decode cX0_weigh 65 = .ok (.return_, 1) := by decide +kernel
abbrev cX0_weighRead : ByteArray := prog_1_method_8_code
def yX0_weighRead : MethodName := ⟨RX0, "weighRead", "(II)V"⟩
theorem dX0_weighRead_0 : decode cX0_weighRead 0 = .ok (.aload_n 0, 1) := by decide +kernel
theorem dX0_weighRead_1 : decode cX0_weighRead 1 = .ok (.getfield 7, 3) := by decide +kernel
theorem dX0_weighRead_4 : decode cX0_weighRead 4 = .ok (.iload_n 1, 1) := by decide +kernel
theorem dX0_weighRead_5 : decode cX0_weighRead 5 = .ok (.iaload, 1) := by decide +kernel
theorem dX0_weighRead_6 : decode cX0_weighRead 6 = .ok (.istore_n 3, 1) := by decide +kernel
theorem dX0_weighRead_7 : decode cX0_weighRead 7 = .ok (.iload_n 2, 1) := by decide +kernel
theorem dX0_weighRead_8 : decode cX0_weighRead 8 = .ok (.ifCond .ne 25, 3) := by decide +kernel
theorem dX0_weighRead_11 : decode cX0_weighRead 11 = .ok (.aload_n 0, 1) := by decide +kernel
theorem dX0_weighRead_12 : decode cX0_weighRead 12 = .ok (.getfield 13, 3) := by decide +kernel
theorem dX0_weighRead_15 : decode cX0_weighRead 15 = .ok (.iload_n 1, 1) := by decide +kernel
theorem dX0_weighRead_16 : decode cX0_weighRead 16 = .ok (.iaload, 1) := by decide +kernel
theorem dX0_weighRead_17 : decode cX0_weighRead 17 = .ok (.ifCond .ne 16, 3) := by decide +kernel
theorem dX0_weighRead_20 : decode cX0_weighRead 20 = .ok (.aload_n 0, 1) := by decide +kernel
theorem dX0_weighRead_21 : decode cX0_weighRead 21 = .ok (.dup, 1) := by decide +kernel
theorem dX0_weighRead_22 : decode cX0_weighRead 22 = .ok (.getfield 41, 3) := by decide +kernel
theorem dX0_weighRead_25 : decode cX0_weighRead 25 = .ok (.iload_n 3, 1) := by decide +kernel
theorem dX0_weighRead_26 : decode cX0_weighRead 26 = .ok (.iadd, 1) := by decide +kernel
theorem dX0_weighRead_27 : decode cX0_weighRead 27 = .ok (.putfield 41, 3) := by decide +kernel
theorem dX0_weighRead_30 : decode cX0_weighRead 30 = .ok (.goto 52, 3) := by decide +kernel
theorem dX0_weighRead_33 : decode cX0_weighRead 33 = .ok (.iload_n 2, 1) := by decide +kernel
theorem dX0_weighRead_34 : decode cX0_weighRead 34 = .ok (.ifCond .ne 16, 3) := by decide +kernel
theorem dX0_weighRead_37 : decode cX0_weighRead 37 = .ok (.aload_n 0, 1) := by decide +kernel
theorem dX0_weighRead_38 : decode cX0_weighRead 38 = .ok (.dup, 1) := by decide +kernel
theorem dX0_weighRead_39 : decode cX0_weighRead 39 = .ok (.getfield 44, 3) := by decide +kernel
theorem dX0_weighRead_42 : decode cX0_weighRead 42 = .ok (.iload_n 3, 1) := by decide +kernel
theorem dX0_weighRead_43 : decode cX0_weighRead 43 = .ok (.iadd, 1) := by decide +kernel
theorem dX0_weighRead_44 : decode cX0_weighRead 44 = .ok (.putfield 44, 3) := by decide +kernel
theorem dX0_weighRead_47 : decode cX0_weighRead 47 = .ok (.goto 35, 3) := by decide +kernel
theorem dX0_weighRead_50 : decode cX0_weighRead 50 = .ok (.aload_n 0, 1) := by decide +kernel
theorem dX0_weighRead_51 : decode cX0_weighRead 51 = .ok (.getfield 13, 3) := by decide +kernel
theorem dX0_weighRead_54 : decode cX0_weighRead 54 = .ok (.iload_n 1, 1) := by decide +kernel
theorem dX0_weighRead_55 : decode cX0_weighRead 55 = .ok (.iaload, 1) := by decide +kernel
theorem dX0_weighRead_56 : decode cX0_weighRead 56 = .ok (.ifCond .ne 16, 3) := by decide +kernel
theorem dX0_weighRead_59 : decode cX0_weighRead 59 = .ok (.aload_n 0, 1) := by decide +kernel
theorem dX0_weighRead_60 : decode cX0_weighRead 60 = .ok (.dup, 1) := by decide +kernel
theorem dX0_weighRead_61 : decode cX0_weighRead 61 = .ok (.getfield 47, 3) := by decide +kernel
theorem dX0_weighRead_64 : decode cX0_weighRead 64 = .ok (.iload_n 3, 1) := by decide +kernel
theorem dX0_weighRead_65 : decode cX0_weighRead 65 = .ok (.iadd, 1) := by decide +kernel
theorem dX0_weighRead_66 : decode cX0_weighRead 66 = .ok (.putfield 47, 3) := by decide +kernel
theorem dX0_weighRead_69 : decode cX0_weighRead 69 = .ok (.goto 13, 3) := by decide +kernel
theorem dX0_weighRead_72 : decode cX0_weighRead 72 = .ok (.aload_n 0, 1) := by decide +kernel
theorem dX0_weighRead_73 : decode cX0_weighRead 73 = .ok (.dup, 1) := by decide +kernel
theorem dX0_weighRead_74 : decode cX0_weighRead 74 = .ok (.getfield 50, 3) := by decide +kernel
theorem dX0_weighRead_77 : decode cX0_weighRead 77 = .ok (.iload_n 3, 1) := by decide +kernel
theorem dX0_weighRead_78 : decode cX0_weighRead 78 = .ok (.iadd, 1) := by decide +kernel
theorem dX0_weighRead_79 : decode cX0_weighRead 79 = .ok (.putfield 50, 3) := by decide +kernel
theorem dX0_weighRead_82 : decode cX0_weighRead 82 = .ok (.return_, 1) := by decide +kernel
abbrev cX0_smaller : ByteArray := prog_1_method_9_code
def yX0_smaller : MethodName := ⟨RX0, "smaller", "(II)I"⟩
theorem dX0_smaller_0 : decode cX0_smaller 0 = .ok (.iload_n 0, 1) := by decide +kernel
theorem dX0_smaller_1 : decode cX0_smaller 1 = .ok (.iload_n 1, 1) := by decide +kernel
theorem dX0_smaller_2 : decode cX0_smaller 2 = .ok (.if_icmp .ge 7, 3) := by decide +kernel
theorem dX0_smaller_5 : decode cX0_smaller 5 = .ok (.iload_n 0, 1) := by decide +kernel
theorem dX0_smaller_6 : decode cX0_smaller 6 = .ok (.goto 4, 3) := by decide +kernel
theorem dX0_smaller_9 : decode cX0_smaller 9 = .ok (.iload_n 1, 1) := by decide +kernel
theorem dX0_smaller_10 : decode cX0_smaller 10 = .ok (.ireturn, 1) := by decide +kernel
abbrev cX0_lastSite : ByteArray := prog_1_method_12_code
def yX0_lastSite : MethodName := ⟨RX0, "lastSite", "(I)I"⟩
theorem dX0_lastSite_0 : decode cX0_lastSite 0 = .ok (.bipush 7, 2) := by decide +kernel
theorem dX0_lastSite_2 : decode cX0_lastSite 2 = .ok (.istore_n 2, 1) := by decide +kernel
theorem dX0_lastSite_3 : decode cX0_lastSite 3 = .ok (.iload_n 2, 1) := by decide +kernel
theorem dX0_lastSite_4 : decode cX0_lastSite 4 = .ok (.ifCond .lt 23, 3) := by decide +kernel
theorem dX0_lastSite_7 : decode cX0_lastSite 7 = .ok (.aload_n 0, 1) := by decide +kernel
theorem dX0_lastSite_8 : decode cX0_lastSite 8 = .ok (.getfield 7, 3) := by decide +kernel
theorem dX0_lastSite_11 : decode cX0_lastSite 11 = .ok (.iload_n 1, 1) := by decide +kernel
theorem dX0_lastSite_12 : decode cX0_lastSite 12 = .ok (.bipush 8, 2) := by decide +kernel
theorem dX0_lastSite_14 : decode cX0_lastSite 14 = .ok (.imul, 1) := by decide +kernel
theorem dX0_lastSite_15 : decode cX0_lastSite 15 = .ok (.iload_n 2, 1) := by decide +kernel
theorem dX0_lastSite_16 : decode cX0_lastSite 16 = .ok (.iadd, 1) := by decide +kernel
theorem dX0_lastSite_17 : decode cX0_lastSite 17 = .ok (.iaload, 1) := by decide +kernel
theorem dX0_lastSite_18 : decode cX0_lastSite 18 = .ok (.ifCond .ne 9, 3) := by decide +kernel
theorem dX0_lastSite_21 : decode cX0_lastSite 21 = .ok (.iinc 2 (-1), 3) := by decide +kernel
theorem dX0_lastSite_24 : decode cX0_lastSite 24 = .ok (.goto (-21), 3) := by decide +kernel
theorem dX0_lastSite_27 : decode cX0_lastSite 27 = .ok (.iload_n 2, 1) := by decide +kernel
theorem dX0_lastSite_28 : decode cX0_lastSite 28 = .ok (.ireturn, 1) := by decide +kernel
abbrev cX0_endRead : ByteArray := prog_1_method_14_code
def yX0_endRead : MethodName := ⟨RX0, "endRead", "(I)V"⟩
theorem dX0_endRead_0 : decode cX0_endRead 0 = .ok (.iconst 1, 1) := by decide +kernel
theorem dX0_endRead_1 : decode cX0_endRead 1 = .ok (.iload_n 1, 1) := by decide +kernel
theorem dX0_endRead_2 : decode cX0_endRead 2 = .ok (.ishl, 1) := by decide +kernel
theorem dX0_endRead_3 : decode cX0_endRead 3 = .ok (.istore_n 2, 1) := by decide +kernel
theorem dX0_endRead_4 : decode cX0_endRead 4 = .ok (.aload_n 0, 1) := by decide +kernel
theorem dX0_endRead_5 : decode cX0_endRead 5 = .ok (.dup, 1) := by decide +kernel
theorem dX0_endRead_6 : decode cX0_endRead 6 = .ok (.getfield 65, 3) := by decide +kernel
theorem dX0_endRead_9 : decode cX0_endRead 9 = .ok (.iload_n 2, 1) := by decide +kernel
theorem dX0_endRead_10 : decode cX0_endRead 10 = .ok (.iconst (-1), 1) := by decide +kernel
theorem dX0_endRead_11 : decode cX0_endRead 11 = .ok (.ixor, 1) := by decide +kernel
theorem dX0_endRead_12 : decode cX0_endRead 12 = .ok (.iand, 1) := by decide +kernel
theorem dX0_endRead_13 : decode cX0_endRead 13 = .ok (.putfield 65, 3) := by decide +kernel
theorem dX0_endRead_16 : decode cX0_endRead 16 = .ok (.iconst 0, 1) := by decide +kernel
theorem dX0_endRead_17 : decode cX0_endRead 17 = .ok (.istore_n 3, 1) := by decide +kernel
theorem dX0_endRead_18 : decode cX0_endRead 18 = .ok (.iload_n 3, 1) := by decide +kernel
theorem dX0_endRead_19 : decode cX0_endRead 19 = .ok (.sipush 256, 3) := by decide +kernel
theorem dX0_endRead_22 : decode cX0_endRead 22 = .ok (.if_icmp .ge 28, 3) := by decide +kernel
theorem dX0_endRead_25 : decode cX0_endRead 25 = .ok (.iload_n 3, 1) := by decide +kernel
theorem dX0_endRead_26 : decode cX0_endRead 26 = .ok (.aload_n 0, 1) := by decide +kernel
theorem dX0_endRead_27 : decode cX0_endRead 27 = .ok (.getfield 65, 3) := by decide +kernel
theorem dX0_endRead_30 : decode cX0_endRead 30 = .ok (.iconst (-1), 1) := by decide +kernel
theorem dX0_endRead_31 : decode cX0_endRead 31 = .ok (.ixor, 1) := by decide +kernel
theorem dX0_endRead_32 : decode cX0_endRead 32 = .ok (.iand, 1) := by decide +kernel
theorem dX0_endRead_33 : decode cX0_endRead 33 = .ok (.ifCond .ne 11, 3) := by decide +kernel
theorem dX0_endRead_36 : decode cX0_endRead 36 = .ok (.aload_n 0, 1) := by decide +kernel
theorem dX0_endRead_37 : decode cX0_endRead 37 = .ok (.iload_n 3, 1) := by decide +kernel
theorem dX0_endRead_38 : decode cX0_endRead 38 = .ok (.iload_n 3, 1) := by decide +kernel
theorem dX0_endRead_39 : decode cX0_endRead 39 = .ok (.iload_n 2, 1) := by decide +kernel
theorem dX0_endRead_40 : decode cX0_endRead 40 = .ok (.ior, 1) := by decide +kernel
theorem dX0_endRead_41 : decode cX0_endRead 41 = .ok (.invokevirtual 69, 3) := by decide +kernel
theorem dX0_endRead_44 : decode cX0_endRead 44 = .ok (.iinc 3 1, 3) := by decide +kernel
theorem dX0_endRead_47 : decode cX0_endRead 47 = .ok (.goto (-29), 3) := by decide +kernel
theorem dX0_endRead_50 : decode cX0_endRead 50 = .ok (.return_, 1) := by decide +kernel
abbrev cX0_join : ByteArray := prog_1_method_15_code
def yX0_join : MethodName := ⟨RX0, "join", "(II)V"⟩
theorem dX0_join_0 : decode cX0_join 0 = .ok (.aload_n 0, 1) := by decide +kernel
theorem dX0_join_1 : decode cX0_join 1 = .ok (.getfield 16, 3) := by decide +kernel
theorem dX0_join_4 : decode cX0_join 4 = .ok (.iload_n 2, 1) := by decide +kernel
theorem dX0_join_5 : decode cX0_join 5 = .ok (.iaload, 1) := by decide +kernel
theorem dX0_join_6 : decode cX0_join 6 = .ok (.aload_n 0, 1) := by decide +kernel
theorem dX0_join_7 : decode cX0_join 7 = .ok (.getfield 16, 3) := by decide +kernel
theorem dX0_join_10 : decode cX0_join 10 = .ok (.iload_n 1, 1) := by decide +kernel
theorem dX0_join_11 : decode cX0_join 11 = .ok (.iaload, 1) := by decide +kernel
theorem dX0_join_12 : decode cX0_join 12 = .ok (.if_icmp .ge 42, 3) := by decide +kernel
theorem dX0_join_15 : decode cX0_join 15 = .ok (.aload_n 0, 1) := by decide +kernel
theorem dX0_join_16 : decode cX0_join 16 = .ok (.getfield 16, 3) := by decide +kernel
theorem dX0_join_19 : decode cX0_join 19 = .ok (.iload_n 1, 1) := by decide +kernel
theorem dX0_join_20 : decode cX0_join 20 = .ok (.aload_n 0, 1) := by decide +kernel
theorem dX0_join_21 : decode cX0_join 21 = .ok (.getfield 16, 3) := by decide +kernel
theorem dX0_join_24 : decode cX0_join 24 = .ok (.iload_n 2, 1) := by decide +kernel
theorem dX0_join_25 : decode cX0_join 25 = .ok (.iaload, 1) := by decide +kernel
theorem dX0_join_26 : decode cX0_join 26 = .ok (.iastore, 1) := by decide +kernel
theorem dX0_join_27 : decode cX0_join 27 = .ok (.aload_n 0, 1) := by decide +kernel
theorem dX0_join_28 : decode cX0_join 28 = .ok (.getfield 19, 3) := by decide +kernel
theorem dX0_join_31 : decode cX0_join 31 = .ok (.iload_n 1, 1) := by decide +kernel
theorem dX0_join_32 : decode cX0_join 32 = .ok (.aload_n 0, 1) := by decide +kernel
theorem dX0_join_33 : decode cX0_join 33 = .ok (.getfield 19, 3) := by decide +kernel
theorem dX0_join_36 : decode cX0_join 36 = .ok (.iload_n 2, 1) := by decide +kernel
theorem dX0_join_37 : decode cX0_join 37 = .ok (.iaload, 1) := by decide +kernel
theorem dX0_join_38 : decode cX0_join 38 = .ok (.iastore, 1) := by decide +kernel
theorem dX0_join_39 : decode cX0_join 39 = .ok (.aload_n 0, 1) := by decide +kernel
theorem dX0_join_40 : decode cX0_join 40 = .ok (.getfield 22, 3) := by decide +kernel
theorem dX0_join_43 : decode cX0_join 43 = .ok (.iload_n 1, 1) := by decide +kernel
theorem dX0_join_44 : decode cX0_join 44 = .ok (.aload_n 0, 1) := by decide +kernel
theorem dX0_join_45 : decode cX0_join 45 = .ok (.getfield 22, 3) := by decide +kernel
theorem dX0_join_48 : decode cX0_join 48 = .ok (.iload_n 2, 1) := by decide +kernel
theorem dX0_join_49 : decode cX0_join 49 = .ok (.iaload, 1) := by decide +kernel
theorem dX0_join_50 : decode cX0_join 50 = .ok (.iastore, 1) := by decide +kernel
theorem dX0_join_51 : decode cX0_join 51 = .ok (.goto 60, 3) := by decide +kernel
theorem dX0_join_54 : decode cX0_join 54 = .ok (.aload_n 0, 1) := by decide +kernel
theorem dX0_join_55 : decode cX0_join 55 = .ok (.getfield 16, 3) := by decide +kernel
theorem dX0_join_58 : decode cX0_join 58 = .ok (.iload_n 2, 1) := by decide +kernel
theorem dX0_join_59 : decode cX0_join 59 = .ok (.iaload, 1) := by decide +kernel
theorem dX0_join_60 : decode cX0_join 60 = .ok (.aload_n 0, 1) := by decide +kernel
theorem dX0_join_61 : decode cX0_join 61 = .ok (.getfield 16, 3) := by decide +kernel
theorem dX0_join_64 : decode cX0_join 64 = .ok (.iload_n 1, 1) := by decide +kernel
theorem dX0_join_65 : decode cX0_join 65 = .ok (.iaload, 1) := by decide +kernel
theorem dX0_join_66 : decode cX0_join 66 = .ok (.if_icmp .ne 45, 3) := by decide +kernel
theorem dX0_join_69 : decode cX0_join 69 = .ok (.aload_n 0, 1) := by decide +kernel
theorem dX0_join_70 : decode cX0_join 70 = .ok (.getfield 19, 3) := by decide +kernel
theorem dX0_join_73 : decode cX0_join 73 = .ok (.iload_n 2, 1) := by decide +kernel
theorem dX0_join_74 : decode cX0_join 74 = .ok (.iaload, 1) := by decide +kernel
theorem dX0_join_75 : decode cX0_join 75 = .ok (.aload_n 0, 1) := by decide +kernel
theorem dX0_join_76 : decode cX0_join 76 = .ok (.getfield 19, 3) := by decide +kernel
theorem dX0_join_79 : decode cX0_join 79 = .ok (.iload_n 1, 1) := by decide +kernel
theorem dX0_join_80 : decode cX0_join 80 = .ok (.iaload, 1) := by decide +kernel
theorem dX0_join_81 : decode cX0_join 81 = .ok (.if_icmp .ge 15, 3) := by decide +kernel
theorem dX0_join_84 : decode cX0_join 84 = .ok (.aload_n 0, 1) := by decide +kernel
theorem dX0_join_85 : decode cX0_join 85 = .ok (.getfield 19, 3) := by decide +kernel
theorem dX0_join_88 : decode cX0_join 88 = .ok (.iload_n 1, 1) := by decide +kernel
theorem dX0_join_89 : decode cX0_join 89 = .ok (.aload_n 0, 1) := by decide +kernel
theorem dX0_join_90 : decode cX0_join 90 = .ok (.getfield 19, 3) := by decide +kernel
theorem dX0_join_93 : decode cX0_join 93 = .ok (.iload_n 2, 1) := by decide +kernel
theorem dX0_join_94 : decode cX0_join 94 = .ok (.iaload, 1) := by decide +kernel
theorem dX0_join_95 : decode cX0_join 95 = .ok (.iastore, 1) := by decide +kernel
theorem dX0_join_96 : decode cX0_join 96 = .ok (.aload_n 0, 1) := by decide +kernel
theorem dX0_join_97 : decode cX0_join 97 = .ok (.getfield 22, 3) := by decide +kernel
theorem dX0_join_100 : decode cX0_join 100 = .ok (.iload_n 1, 1) := by decide +kernel
theorem dX0_join_101 : decode cX0_join 101 = .ok (.dup2, 1) := by decide +kernel
theorem dX0_join_102 : decode cX0_join 102 = .ok (.iaload, 1) := by decide +kernel
theorem dX0_join_103 : decode cX0_join 103 = .ok (.aload_n 0, 1) := by decide +kernel
theorem dX0_join_104 : decode cX0_join 104 = .ok (.getfield 22, 3) := by decide +kernel
theorem dX0_join_107 : decode cX0_join 107 = .ok (.iload_n 2, 1) := by decide +kernel
theorem dX0_join_108 : decode cX0_join 108 = .ok (.iaload, 1) := by decide +kernel
theorem dX0_join_109 : decode cX0_join 109 = .ok (.iadd, 1) := by decide +kernel
theorem dX0_join_110 : decode cX0_join 110 = .ok (.iastore, 1) := by decide +kernel
theorem dX0_join_111 : decode cX0_join 111 = .ok (.return_, 1) := by decide +kernel
abbrev cX0_sorting : ByteArray := prog_1_method_19_code
def yX0_sorting : MethodName := ⟨RX0, "sorting", "()I"⟩
theorem dX0_sorting_0 : decode cX0_sorting 0 = .ok (.aload_n 0, 1) := by decide +kernel
theorem dX0_sorting_1 : decode cX0_sorting 1 = .ok (.iconst 0, 1) := by decide +kernel
theorem dX0_sorting_2 : decode cX0_sorting 2 = .ok (.iconst 0, 1) := by decide +kernel
theorem dX0_sorting_3 : decode cX0_sorting 3 = .ok (.invokevirtual 94, 3) := by decide +kernel
theorem dX0_sorting_6 : decode cX0_sorting 6 = .ok (.aload_n 0, 1) := by decide +kernel
theorem dX0_sorting_7 : decode cX0_sorting 7 = .ok (.getfield 19, 3) := by decide +kernel
theorem dX0_sorting_10 : decode cX0_sorting 10 = .ok (.iconst 0, 1) := by decide +kernel
theorem dX0_sorting_11 : decode cX0_sorting 11 = .ok (.iaload, 1) := by decide +kernel
theorem dX0_sorting_12 : decode cX0_sorting 12 = .ok (.ireturn, 1) := by decide +kernel
abbrev cX0_ties : ByteArray := prog_1_method_20_code
def yX0_ties : MethodName := ⟨RX0, "ties", "()I"⟩
theorem dX0_ties_0 : decode cX0_ties 0 = .ok (.aload_n 0, 1) := by decide +kernel
theorem dX0_ties_1 : decode cX0_ties 1 = .ok (.iconst 0, 1) := by decide +kernel
theorem dX0_ties_2 : decode cX0_ties 2 = .ok (.iconst 0, 1) := by decide +kernel
theorem dX0_ties_3 : decode cX0_ties 3 = .ok (.invokevirtual 94, 3) := by decide +kernel
theorem dX0_ties_6 : decode cX0_ties 6 = .ok (.aload_n 0, 1) := by decide +kernel
theorem dX0_ties_7 : decode cX0_ties 7 = .ok (.getfield 22, 3) := by decide +kernel
theorem dX0_ties_10 : decode cX0_ties 10 = .ok (.iconst 0, 1) := by decide +kernel
theorem dX0_ties_11 : decode cX0_ties 11 = .ok (.iaload, 1) := by decide +kernel
theorem dX0_ties_12 : decode cX0_ties 12 = .ok (.ireturn, 1) := by decide +kernel
abbrev cX0_costOf : ByteArray := prog_1_method_21_code
def yX0_costOf : MethodName := ⟨RX0, "costOf", "(I)I"⟩
theorem dX0_costOf_0 : decode cX0_costOf 0 = .ok (.iconst 1, 1) := by decide +kernel
theorem dX0_costOf_1 : decode cX0_costOf 1 = .ok (.aload_n 0, 1) := by decide +kernel
theorem dX0_costOf_2 : decode cX0_costOf 2 = .ok (.getfield 25, 3) := by decide +kernel
theorem dX0_costOf_5 : decode cX0_costOf 5 = .ok (.ishl, 1) := by decide +kernel
theorem dX0_costOf_6 : decode cX0_costOf 6 = .ok (.iconst 1, 1) := by decide +kernel
theorem dX0_costOf_7 : decode cX0_costOf 7 = .ok (.isub, 1) := by decide +kernel
theorem dX0_costOf_8 : decode cX0_costOf 8 = .ok (.istore_n 2, 1) := by decide +kernel
theorem dX0_costOf_9 : decode cX0_costOf 9 = .ok (.iload_n 1, 1) := by decide +kernel
theorem dX0_costOf_10 : decode cX0_costOf 10 = .ok (.iload_n 2, 1) := by decide +kernel
theorem dX0_costOf_11 : decode cX0_costOf 11 = .ok (.iand, 1) := by decide +kernel
theorem dX0_costOf_12 : decode cX0_costOf 12 = .ok (.bipush (-2), 2) := by decide +kernel
theorem dX0_costOf_14 : decode cX0_costOf 14 = .ok (.iand, 1) := by decide +kernel
theorem dX0_costOf_15 : decode cX0_costOf 15 = .ok (.istore_n 3, 1) := by decide +kernel
theorem dX0_costOf_16 : decode cX0_costOf 16 = .ok (.iconst 0, 1) := by decide +kernel
theorem dX0_costOf_17 : decode cX0_costOf 17 = .ok (.istore 4, 2) := by decide +kernel
theorem dX0_costOf_19 : decode cX0_costOf 19 = .ok (.iconst 0, 1) := by decide +kernel
theorem dX0_costOf_20 : decode cX0_costOf 20 = .ok (.istore 5, 2) := by decide +kernel
theorem dX0_costOf_22 : decode cX0_costOf 22 = .ok (.iload 5, 2) := by decide +kernel
theorem dX0_costOf_24 : decode cX0_costOf 24 = .ok (.bipush 8, 2) := by decide +kernel
theorem dX0_costOf_26 : decode cX0_costOf 26 = .ok (.if_icmp .ge 23, 3) := by decide +kernel
theorem dX0_costOf_29 : decode cX0_costOf 29 = .ok (.iload 4, 2) := by decide +kernel
theorem dX0_costOf_31 : decode cX0_costOf 31 = .ok (.aload_n 0, 1) := by decide +kernel
theorem dX0_costOf_32 : decode cX0_costOf 32 = .ok (.iload 5, 2) := by decide +kernel
theorem dX0_costOf_34 : decode cX0_costOf 34 = .ok (.iload_n 3, 1) := by decide +kernel
theorem dX0_costOf_35 : decode cX0_costOf 35 = .ok (.iload_n 2, 1) := by decide +kernel
theorem dX0_costOf_36 : decode cX0_costOf 36 = .ok (.iconst 0, 1) := by decide +kernel
theorem dX0_costOf_37 : decode cX0_costOf 37 = .ok (.invokevirtual 72, 3) := by decide +kernel
theorem dX0_costOf_40 : decode cX0_costOf 40 = .ok (.iadd, 1) := by decide +kernel
theorem dX0_costOf_41 : decode cX0_costOf 41 = .ok (.istore 4, 2) := by decide +kernel
theorem dX0_costOf_43 : decode cX0_costOf 43 = .ok (.iinc 5 1, 3) := by decide +kernel
theorem dX0_costOf_46 : decode cX0_costOf 46 = .ok (.goto (-24), 3) := by decide +kernel
theorem dX0_costOf_49 : decode cX0_costOf 49 = .ok (.iload 4, 2) := by decide +kernel
theorem dX0_costOf_51 : decode cX0_costOf 51 = .ok (.ireturn, 1) := by decide +kernel
abbrev cX0_leastForced : ByteArray := prog_1_method_22_code
def yX0_leastForced : MethodName := ⟨RX0, "leastForced", "()I"⟩
theorem dX0_leastForced_0 : decode cX0_leastForced 0 = .ok (.aload_n 0, 1) := by decide +kernel
theorem dX0_leastForced_1 : decode cX0_leastForced 1 = .ok (.iconst 0, 1) := by decide +kernel
theorem dX0_leastForced_2 : decode cX0_leastForced 2 = .ok (.iconst 1, 1) := by decide +kernel
theorem dX0_leastForced_3 : decode cX0_leastForced 3 = .ok (.invokevirtual 94, 3) := by decide +kernel
theorem dX0_leastForced_6 : decode cX0_leastForced 6 = .ok (.aload_n 0, 1) := by decide +kernel
theorem dX0_leastForced_7 : decode cX0_leastForced 7 = .ok (.getfield 16, 3) := by decide +kernel
theorem dX0_leastForced_10 : decode cX0_leastForced 10 = .ok (.iconst 0, 1) := by decide +kernel
theorem dX0_leastForced_11 : decode cX0_leastForced 11 = .ok (.iaload, 1) := by decide +kernel
theorem dX0_leastForced_12 : decode cX0_leastForced 12 = .ok (.ireturn, 1) := by decide +kernel
abbrev cX0_sortingForced : ByteArray := prog_1_method_23_code
def yX0_sortingForced : MethodName := ⟨RX0, "sortingForced", "()I"⟩
theorem dX0_sortingForced_0 : decode cX0_sortingForced 0 = .ok (.aload_n 0, 1) := by decide +kernel
theorem dX0_sortingForced_1 : decode cX0_sortingForced 1 = .ok (.iconst 0, 1) := by decide +kernel
theorem dX0_sortingForced_2 : decode cX0_sortingForced 2 = .ok (.iconst 1, 1) := by decide +kernel
theorem dX0_sortingForced_3 : decode cX0_sortingForced 3 = .ok (.invokevirtual 94, 3) := by decide +kernel
theorem dX0_sortingForced_6 : decode cX0_sortingForced 6 = .ok (.aload_n 0, 1) := by decide +kernel
theorem dX0_sortingForced_7 : decode cX0_sortingForced 7 = .ok (.getfield 19, 3) := by decide +kernel
theorem dX0_sortingForced_10 : decode cX0_sortingForced 10 = .ok (.iconst 0, 1) := by decide +kernel
theorem dX0_sortingForced_11 : decode cX0_sortingForced 11 = .ok (.iaload, 1) := by decide +kernel
theorem dX0_sortingForced_12 : decode cX0_sortingForced 12 = .ok (.ireturn, 1) := by decide +kernel
abbrev cX0_leastWith : ByteArray := prog_1_method_24_code
def yX0_leastWith : MethodName := ⟨RX0, "leastWith", "(IIZ)I"⟩
theorem dX0_leastWith_0 : decode cX0_leastWith 0 = .ok (.aload_n 0, 1) := by decide +kernel
theorem dX0_leastWith_1 : decode cX0_leastWith 1 = .ok (.iload_n 1, 1) := by decide +kernel
theorem dX0_leastWith_2 : decode cX0_leastWith 2 = .ok (.invokevirtual 29, 3) := by decide +kernel
theorem dX0_leastWith_5 : decode cX0_leastWith 5 = .ok (.ifCond .ne 20, 3) := by decide +kernel
theorem dX0_leastWith_8 : decode cX0_leastWith 8 = .ok (.aload_n 0, 1) := by decide +kernel
theorem dX0_leastWith_9 : decode cX0_leastWith 9 = .ok (.iload_n 2, 1) := by decide +kernel
theorem dX0_leastWith_10 : decode cX0_leastWith 10 = .ok (.invokevirtual 29, 3) := by decide +kernel
theorem dX0_leastWith_13 : decode cX0_leastWith 13 = .ok (.ifCond .ne 12, 3) := by decide +kernel
theorem dX0_leastWith_16 : decode cX0_leastWith 16 = .ok (.iload_n 1, 1) := by decide +kernel
theorem dX0_leastWith_17 : decode cX0_leastWith 17 = .ok (.iload_n 2, 1) := by decide +kernel
theorem dX0_leastWith_18 : decode cX0_leastWith 18 = .ok (.if_icmp .ne 9, 3) := by decide +kernel
theorem dX0_leastWith_21 : decode cX0_leastWith 21 = .ok (.iload_n 3, 1) := by decide +kernel
theorem dX0_leastWith_22 : decode cX0_leastWith 22 = .ok (.ifCond .eq 5, 3) := by decide +kernel
theorem dX0_leastWith_25 : decode cX0_leastWith 25 = .ok (.iconst (-1), 1) := by decide +kernel
theorem dX0_leastWith_26 : decode cX0_leastWith 26 = .ok (.ireturn, 1) := by decide +kernel
theorem dX0_leastWith_27 : decode cX0_leastWith 27 = .ok (.iconst 1, 1) := by decide +kernel
theorem dX0_leastWith_28 : decode cX0_leastWith 28 = .ok (.iload_n 1, 1) := by decide +kernel
theorem dX0_leastWith_29 : decode cX0_leastWith 29 = .ok (.ishl, 1) := by decide +kernel
theorem dX0_leastWith_30 : decode cX0_leastWith 30 = .ok (.istore 4, 2) := by decide +kernel
theorem dX0_leastWith_32 : decode cX0_leastWith 32 = .ok (.iconst 1, 1) := by decide +kernel
theorem dX0_leastWith_33 : decode cX0_leastWith 33 = .ok (.iload_n 2, 1) := by decide +kernel
theorem dX0_leastWith_34 : decode cX0_leastWith 34 = .ok (.ishl, 1) := by decide +kernel
theorem dX0_leastWith_35 : decode cX0_leastWith 35 = .ok (.istore 5, 2) := by decide +kernel
theorem dX0_leastWith_37 : decode cX0_leastWith 37 = .ok (.aload_n 0, 1) := by decide +kernel
theorem dX0_leastWith_38 : decode cX0_leastWith 38 = .ok (.iload 4, 2) := by decide +kernel
theorem dX0_leastWith_40 : decode cX0_leastWith 40 = .ok (.iload 5, 2) := by decide +kernel
theorem dX0_leastWith_42 : decode cX0_leastWith 42 = .ok (.ior, 1) := by decide +kernel
theorem dX0_leastWith_43 : decode cX0_leastWith 43 = .ok (.iconst 0, 1) := by decide +kernel
theorem dX0_leastWith_44 : decode cX0_leastWith 44 = .ok (.invokevirtual 94, 3) := by decide +kernel
theorem dX0_leastWith_47 : decode cX0_leastWith 47 = .ok (.ldc 68, 2) := by decide +kernel
theorem dX0_leastWith_49 : decode cX0_leastWith 49 = .ok (.istore 6, 2) := by decide +kernel
theorem dX0_leastWith_51 : decode cX0_leastWith 51 = .ok (.iconst 0, 1) := by decide +kernel
theorem dX0_leastWith_52 : decode cX0_leastWith 52 = .ok (.istore 7, 2) := by decide +kernel
theorem dX0_leastWith_54 : decode cX0_leastWith 54 = .ok (.iload 7, 2) := by decide +kernel
theorem dX0_leastWith_56 : decode cX0_leastWith 56 = .ok (.sipush 256, 3) := by decide +kernel
theorem dX0_leastWith_59 : decode cX0_leastWith 59 = .ok (.if_icmp .ge 85, 3) := by decide +kernel
theorem dX0_leastWith_62 : decode cX0_leastWith 62 = .ok (.iload 7, 2) := by decide +kernel
theorem dX0_leastWith_64 : decode cX0_leastWith 64 = .ok (.iload 4, 2) := by decide +kernel
theorem dX0_leastWith_66 : decode cX0_leastWith 66 = .ok (.iand, 1) := by decide +kernel
theorem dX0_leastWith_67 : decode cX0_leastWith 67 = .ok (.ifCond .ne 7, 3) := by decide +kernel
theorem dX0_leastWith_70 : decode cX0_leastWith 70 = .ok (.iconst 1, 1) := by decide +kernel
theorem dX0_leastWith_71 : decode cX0_leastWith 71 = .ok (.goto 4, 3) := by decide +kernel
theorem dX0_leastWith_74 : decode cX0_leastWith 74 = .ok (.iconst 0, 1) := by decide +kernel
theorem dX0_leastWith_75 : decode cX0_leastWith 75 = .ok (.iload 7, 2) := by decide +kernel
theorem dX0_leastWith_77 : decode cX0_leastWith 77 = .ok (.iload 5, 2) := by decide +kernel
theorem dX0_leastWith_79 : decode cX0_leastWith 79 = .ok (.iand, 1) := by decide +kernel
theorem dX0_leastWith_80 : decode cX0_leastWith 80 = .ok (.ifCond .ne 7, 3) := by decide +kernel
theorem dX0_leastWith_83 : decode cX0_leastWith 83 = .ok (.iconst 1, 1) := by decide +kernel
theorem dX0_leastWith_84 : decode cX0_leastWith 84 = .ok (.goto 4, 3) := by decide +kernel
theorem dX0_leastWith_87 : decode cX0_leastWith 87 = .ok (.iconst 0, 1) := by decide +kernel
theorem dX0_leastWith_88 : decode cX0_leastWith 88 = .ok (.if_icmp .eq 7, 3) := by decide +kernel
theorem dX0_leastWith_91 : decode cX0_leastWith 91 = .ok (.iconst 1, 1) := by decide +kernel
theorem dX0_leastWith_92 : decode cX0_leastWith 92 = .ok (.goto 4, 3) := by decide +kernel
theorem dX0_leastWith_95 : decode cX0_leastWith 95 = .ok (.iconst 0, 1) := by decide +kernel
theorem dX0_leastWith_96 : decode cX0_leastWith 96 = .ok (.istore 8, 2) := by decide +kernel
theorem dX0_leastWith_98 : decode cX0_leastWith 98 = .ok (.iload 7, 2) := by decide +kernel
theorem dX0_leastWith_100 : decode cX0_leastWith 100 = .ok (.iload 4, 2) := by decide +kernel
theorem dX0_leastWith_102 : decode cX0_leastWith 102 = .ok (.iload 5, 2) := by decide +kernel
theorem dX0_leastWith_104 : decode cX0_leastWith 104 = .ok (.ior, 1) := by decide +kernel
theorem dX0_leastWith_105 : decode cX0_leastWith 105 = .ok (.iconst (-1), 1) := by decide +kernel
theorem dX0_leastWith_106 : decode cX0_leastWith 106 = .ok (.ixor, 1) := by decide +kernel
theorem dX0_leastWith_107 : decode cX0_leastWith 107 = .ok (.iand, 1) := by decide +kernel
theorem dX0_leastWith_108 : decode cX0_leastWith 108 = .ok (.ifCond .ne 30, 3) := by decide +kernel
theorem dX0_leastWith_111 : decode cX0_leastWith 111 = .ok (.iload 8, 2) := by decide +kernel
theorem dX0_leastWith_113 : decode cX0_leastWith 113 = .ok (.iload_n 3, 1) := by decide +kernel
theorem dX0_leastWith_114 : decode cX0_leastWith 114 = .ok (.if_icmp .ne 24, 3) := by decide +kernel
theorem dX0_leastWith_117 : decode cX0_leastWith 117 = .ok (.aload_n 0, 1) := by decide +kernel
theorem dX0_leastWith_118 : decode cX0_leastWith 118 = .ok (.getfield 16, 3) := by decide +kernel
theorem dX0_leastWith_121 : decode cX0_leastWith 121 = .ok (.iload 7, 2) := by decide +kernel
theorem dX0_leastWith_123 : decode cX0_leastWith 123 = .ok (.iaload, 1) := by decide +kernel
theorem dX0_leastWith_124 : decode cX0_leastWith 124 = .ok (.iload 6, 2) := by decide +kernel
theorem dX0_leastWith_126 : decode cX0_leastWith 126 = .ok (.if_icmp .ge 12, 3) := by decide +kernel
theorem dX0_leastWith_129 : decode cX0_leastWith 129 = .ok (.aload_n 0, 1) := by decide +kernel
theorem dX0_leastWith_130 : decode cX0_leastWith 130 = .ok (.getfield 16, 3) := by decide +kernel
theorem dX0_leastWith_133 : decode cX0_leastWith 133 = .ok (.iload 7, 2) := by decide +kernel
theorem dX0_leastWith_135 : decode cX0_leastWith 135 = .ok (.iaload, 1) := by decide +kernel
theorem dX0_leastWith_136 : decode cX0_leastWith 136 = .ok (.istore 6, 2) := by decide +kernel
theorem dX0_leastWith_138 : decode cX0_leastWith 138 = .ok (.iinc 7 1, 3) := by decide +kernel
theorem dX0_leastWith_141 : decode cX0_leastWith 141 = .ok (.goto (-87), 3) := by decide +kernel
theorem dX0_leastWith_144 : decode cX0_leastWith 144 = .ok (.iload 6, 2) := by decide +kernel
theorem dX0_leastWith_146 : decode cX0_leastWith 146 = .ok (.ireturn, 1) := by decide +kernel
abbrev cX0_cover : ByteArray := prog_1_method_25_code
def yX0_cover : MethodName := ⟨RX0, "cover", "(I)I"⟩
theorem dX0_cover_0 : decode cX0_cover 0 = .ok (.iload_n 1, 1) := by decide +kernel
theorem dX0_cover_1 : decode cX0_cover 1 = .ok (.ifCond .lt 9, 3) := by decide +kernel
theorem dX0_cover_4 : decode cX0_cover 4 = .ok (.iload_n 1, 1) := by decide +kernel
theorem dX0_cover_5 : decode cX0_cover 5 = .ok (.bipush 8, 2) := by decide +kernel
theorem dX0_cover_7 : decode cX0_cover 7 = .ok (.if_icmp .lt 6, 3) := by decide +kernel
theorem dX0_cover_10 : decode cX0_cover 10 = .ok (.bipush (-2), 2) := by decide +kernel
theorem dX0_cover_12 : decode cX0_cover 12 = .ok (.ireturn, 1) := by decide +kernel
theorem dX0_cover_13 : decode cX0_cover 13 = .ok (.iconst 0, 1) := by decide +kernel
theorem dX0_cover_14 : decode cX0_cover 14 = .ok (.istore_n 2, 1) := by decide +kernel
theorem dX0_cover_15 : decode cX0_cover 15 = .ok (.iconst 0, 1) := by decide +kernel
theorem dX0_cover_16 : decode cX0_cover 16 = .ok (.istore_n 3, 1) := by decide +kernel
theorem dX0_cover_17 : decode cX0_cover 17 = .ok (.iload_n 3, 1) := by decide +kernel
theorem dX0_cover_18 : decode cX0_cover 18 = .ok (.aload_n 0, 1) := by decide +kernel
theorem dX0_cover_19 : decode cX0_cover 19 = .ok (.getfield 25, 3) := by decide +kernel
theorem dX0_cover_22 : decode cX0_cover 22 = .ok (.if_icmp .ge 26, 3) := by decide +kernel
theorem dX0_cover_25 : decode cX0_cover 25 = .ok (.aload_n 0, 1) := by decide +kernel
theorem dX0_cover_26 : decode cX0_cover 26 = .ok (.getfield 7, 3) := by decide +kernel
theorem dX0_cover_29 : decode cX0_cover 29 = .ok (.iload_n 3, 1) := by decide +kernel
theorem dX0_cover_30 : decode cX0_cover 30 = .ok (.bipush 8, 2) := by decide +kernel
theorem dX0_cover_32 : decode cX0_cover 32 = .ok (.imul, 1) := by decide +kernel
theorem dX0_cover_33 : decode cX0_cover 33 = .ok (.iload_n 1, 1) := by decide +kernel
theorem dX0_cover_34 : decode cX0_cover 34 = .ok (.iadd, 1) := by decide +kernel
theorem dX0_cover_35 : decode cX0_cover 35 = .ok (.iaload, 1) := by decide +kernel
theorem dX0_cover_36 : decode cX0_cover 36 = .ok (.ifCond .le 6, 3) := by decide +kernel
theorem dX0_cover_39 : decode cX0_cover 39 = .ok (.iinc 2 1, 3) := by decide +kernel
theorem dX0_cover_42 : decode cX0_cover 42 = .ok (.iinc 3 1, 3) := by decide +kernel
theorem dX0_cover_45 : decode cX0_cover 45 = .ok (.goto (-28), 3) := by decide +kernel
theorem dX0_cover_48 : decode cX0_cover 48 = .ok (.iload_n 2, 1) := by decide +kernel
theorem dX0_cover_49 : decode cX0_cover 49 = .ok (.ireturn, 1) := by decide +kernel
end
section
set_option maxRecDepth 100000
theorem q19 : (Jvm.Cond.initialized "ReadPhaser") ∈ lw_all := lw_g (lw_at lw_m0 1 rfl) rfl
theorem q22 : (Jvm.Cond.instantiable "ReadPhaser" (11 : Nat)) ∈ lw_all := lw_g (lw_at lw_m0 4 rfl) rfl
theorem q24 : (Jvm.Cond.instanceMethod ({ cls := "ReadPhaser", name := "<init>", desc := "()V" } : Jvm.MethodName)) ∈ lw_all := lw_g (lw_at lw_m0 6 rfl) rfl
theorem q25 : (Jvm.Cond.code ({ cls := "ReadPhaser", name := "<init>", desc := "()V" } : Jvm.MethodName) prog_1_method_1_code (1 : Nat) (Option.none : Option Jvm.ClassFile.FieldType)) ∈ lw_all := lw_g (lw_at lw_m0 7 rfl) rfl
theorem q26 : (Jvm.Cond.methodLink "ReadPhaser" (1 : Nat) ({ cls := "java/lang/Object", name := "<init>", desc := "()V" } : Jvm.MethodName)) ∈ lw_all := lw_g (lw_at lw_m0 8 rfl) rfl
theorem q29 : (Jvm.Cond.fieldLink "ReadPhaser" (25 : Nat) "ReadPhaser" "reads" "I") ∈ lw_all := lw_g (lw_at lw_m0 11 rfl) rfl
theorem q30 : (Jvm.Cond.fieldLink "ReadPhaser" (7 : Nat) "ReadPhaser" "trust" "[I") ∈ lw_all := lw_g (lw_at lw_m0 12 rfl) rfl
theorem q31 : (Jvm.Cond.fieldLink "ReadPhaser" (13 : Nat) "ReadPhaser" "value" "[I") ∈ lw_all := lw_g (lw_at lw_m0 13 rfl) rfl
theorem q32 : (Jvm.Cond.fieldLink "ReadPhaser" (65 : Nat) "ReadPhaser" "atWork" "I") ∈ lw_all := lw_g (lw_at lw_m0 14 rfl) rfl
theorem q33 : (Jvm.Cond.fieldLink "ReadPhaser" (16 : Nat) "ReadPhaser" "cost" "[I") ∈ lw_all := lw_g (lw_at lw_m0 15 rfl) rfl
theorem q34 : (Jvm.Cond.fieldLink "ReadPhaser" (19 : Nat) "ReadPhaser" "best" "[I") ∈ lw_all := lw_g (lw_at lw_m0 16 rfl) rfl
theorem q35 : (Jvm.Cond.fieldLink "ReadPhaser" (22 : Nat) "ReadPhaser" "ways" "[I") ∈ lw_all := lw_g (lw_at lw_m0 17 rfl) rfl
theorem q36 : (Jvm.Cond.fieldLink "ReadPhaser" (41 : Nat) "ReadPhaser" "a0" "I") ∈ lw_all := lw_g (lw_at lw_m0 18 rfl) rfl
theorem q37 : (Jvm.Cond.fieldLink "ReadPhaser" (44 : Nat) "ReadPhaser" "a1" "I") ∈ lw_all := lw_g (lw_at lw_m0 19 rfl) rfl
theorem q38 : (Jvm.Cond.fieldLink "ReadPhaser" (47 : Nat) "ReadPhaser" "b0" "I") ∈ lw_all := lw_g (lw_at lw_m0 20 rfl) rfl
theorem q39 : (Jvm.Cond.fieldLink "ReadPhaser" (50 : Nat) "ReadPhaser" "b1" "I") ∈ lw_all := lw_g (lw_at lw_m0 21 rfl) rfl
theorem q40 : (Jvm.Cond.lays "ReadPhaser" "ReadPhaser" "reads" "I") ∈ lw_all := lw_g (lw_at lw_m0 22 rfl) rfl
theorem q41 : (Jvm.Cond.soleField "ReadPhaser" "reads") ∈ lw_all := lw_g (lw_at lw_m0 23 rfl) rfl
theorem q42 : (Jvm.Cond.laysFinal "ReadPhaser" "ReadPhaser" "trust" "[I") ∈ lw_all := lw_g (lw_at lw_m0 24 rfl) rfl
theorem q43 : (Jvm.Cond.soleField "ReadPhaser" "trust") ∈ lw_all := lw_g (lw_at lw_m0 25 rfl) rfl
theorem q44 : (Jvm.Cond.laysFinal "ReadPhaser" "ReadPhaser" "value" "[I") ∈ lw_all := lw_g (lw_at lw_m0 26 rfl) rfl
theorem q45 : (Jvm.Cond.soleField "ReadPhaser" "value") ∈ lw_all := lw_g (lw_at lw_m0 27 rfl) rfl
theorem q46 : (Jvm.Cond.lays "ReadPhaser" "ReadPhaser" "atWork" "I") ∈ lw_all := lw_g (lw_at lw_m0 28 rfl) rfl
theorem q47 : (Jvm.Cond.soleField "ReadPhaser" "atWork") ∈ lw_all := lw_g (lw_at lw_m0 29 rfl) rfl
theorem q48 : (Jvm.Cond.laysFinal "ReadPhaser" "ReadPhaser" "cost" "[I") ∈ lw_all := lw_g (lw_at lw_m0 30 rfl) rfl
theorem q49 : (Jvm.Cond.soleField "ReadPhaser" "cost") ∈ lw_all := lw_g (lw_at lw_m0 31 rfl) rfl
theorem q50 : (Jvm.Cond.laysFinal "ReadPhaser" "ReadPhaser" "best" "[I") ∈ lw_all := lw_g (lw_at lw_m0 32 rfl) rfl
theorem q51 : (Jvm.Cond.soleField "ReadPhaser" "best") ∈ lw_all := lw_g (lw_at lw_m0 33 rfl) rfl
theorem q52 : (Jvm.Cond.laysFinal "ReadPhaser" "ReadPhaser" "ways" "[I") ∈ lw_all := lw_g (lw_at lw_m0 34 rfl) rfl
theorem q53 : (Jvm.Cond.soleField "ReadPhaser" "ways") ∈ lw_all := lw_g (lw_at lw_m0 35 rfl) rfl
theorem q54 : (Jvm.Cond.lays "ReadPhaser" "ReadPhaser" "a0" "I") ∈ lw_all := lw_g (lw_at lw_m0 36 rfl) rfl
theorem q55 : (Jvm.Cond.soleField "ReadPhaser" "a0") ∈ lw_all := lw_g (lw_at lw_m0 37 rfl) rfl
theorem q56 : (Jvm.Cond.lays "ReadPhaser" "ReadPhaser" "a1" "I") ∈ lw_all := lw_g (lw_at lw_m0 38 rfl) rfl
theorem q57 : (Jvm.Cond.soleField "ReadPhaser" "a1") ∈ lw_all := lw_g (lw_at lw_m0 39 rfl) rfl
theorem q58 : (Jvm.Cond.lays "ReadPhaser" "ReadPhaser" "b0" "I") ∈ lw_all := lw_g (lw_at lw_m0 40 rfl) rfl
theorem q59 : (Jvm.Cond.soleField "ReadPhaser" "b0") ∈ lw_all := lw_g (lw_at lw_m0 41 rfl) rfl
theorem q60 : (Jvm.Cond.lays "ReadPhaser" "ReadPhaser" "b1" "I") ∈ lw_all := lw_g (lw_at lw_m0 42 rfl) rfl
theorem q61 : (Jvm.Cond.soleField "ReadPhaser" "b1") ∈ lw_all := lw_g (lw_at lw_m0 43 rfl) rfl
theorem q62 : (Jvm.Cond.superclass "ReadPhaser" "java/lang/Object") ∈ lw_all := lw_g (lw_at lw_m0 44 rfl) rfl
theorem q65 : (Jvm.Cond.instanceMethod ({ cls := "ReadPhaser", name := "read", desc := "()I" } : Jvm.MethodName)) ∈ lw_all := lw_g (lw_at lw_m0 47 rfl) rfl
theorem q66 : (Jvm.Cond.selects "ReadPhaser" ({ cls := "ReadPhaser", name := "read", desc := "()I" } : Jvm.MethodName) ({ cls := "ReadPhaser", name := "read", desc := "()I" } : Jvm.MethodName)) ∈ lw_all := lw_g (lw_at lw_m0 48 rfl) rfl
theorem q67 : (Jvm.Cond.code ({ cls := "ReadPhaser", name := "read", desc := "()I" } : Jvm.MethodName) prog_1_method_3_code (2 : Nat) (Option.some Jvm.ClassFile.FieldType.int)) ∈ lw_all := lw_g (lw_at lw_m0 49 rfl) rfl
theorem q69 : (Jvm.Cond.instanceMethod ({ cls := "ReadPhaser", name := "say", desc := "(IIII)I" } : Jvm.MethodName)) ∈ lw_all := lw_g (lw_at lw_m0 51 rfl) rfl
theorem q70 : (Jvm.Cond.selects "ReadPhaser" ({ cls := "ReadPhaser", name := "say", desc := "(IIII)I" } : Jvm.MethodName) ({ cls := "ReadPhaser", name := "say", desc := "(IIII)I" } : Jvm.MethodName)) ∈ lw_all := lw_g (lw_at lw_m0 52 rfl) rfl
theorem q71 : (Jvm.Cond.code ({ cls := "ReadPhaser", name := "say", desc := "(IIII)I" } : Jvm.MethodName) prog_1_method_4_code (7 : Nat) (Option.some Jvm.ClassFile.FieldType.int)) ∈ lw_all := lw_g (lw_at lw_m0 53 rfl) rfl
theorem q72 : (Jvm.Cond.methodLink "ReadPhaser" (29 : Nat) ({ cls := "ReadPhaser", name := "noRead", desc := "(I)Z" } : Jvm.MethodName)) ∈ lw_all := lw_g (lw_at lw_m0 54 rfl) rfl
theorem q73 : (Jvm.Cond.privateMethod ({ cls := "ReadPhaser", name := "noRead", desc := "(I)Z" } : Jvm.MethodName)) ∈ lw_tbl := lw_at lw_m0 55 rfl
theorem q74 : (Jvm.Cond.instanceMethod ({ cls := "ReadPhaser", name := "noRead", desc := "(I)Z" } : Jvm.MethodName)) ∈ lw_all := lw_g (lw_at lw_m0 56 rfl) rfl
theorem q75 : (Jvm.Cond.code ({ cls := "ReadPhaser", name := "noRead", desc := "(I)Z" } : Jvm.MethodName) prog_1_method_2_code (2 : Nat) (Option.some Jvm.ClassFile.FieldType.boolean)) ∈ lw_all := lw_g (lw_at lw_m0 57 rfl) rfl
theorem q77 : (Jvm.Cond.instanceMethod ({ cls := "ReadPhaser", name := "stretch", desc := "(III)I" } : Jvm.MethodName)) ∈ lw_all := lw_g (lw_at lw_m0 59 rfl) rfl
theorem q78 : (Jvm.Cond.selects "ReadPhaser" ({ cls := "ReadPhaser", name := "stretch", desc := "(III)I" } : Jvm.MethodName) ({ cls := "ReadPhaser", name := "stretch", desc := "(III)I" } : Jvm.MethodName)) ∈ lw_all := lw_g (lw_at lw_m0 60 rfl) rfl
theorem q79 : (Jvm.Cond.code ({ cls := "ReadPhaser", name := "stretch", desc := "(III)I" } : Jvm.MethodName) prog_1_method_5_code (8 : Nat) (Option.some Jvm.ClassFile.FieldType.int)) ∈ lw_all := lw_g (lw_at lw_m0 61 rfl) rfl
theorem q80 : (Jvm.Cond.methodLink "ReadPhaser" (33 : Nat) ({ cls := "ReadPhaser", name := "read", desc := "()I" } : Jvm.MethodName)) ∈ lw_all := lw_g (lw_at lw_m0 62 rfl) rfl
theorem q81 : (Jvm.Cond.methodLink "ReadPhaser" (37 : Nat) ({ cls := "ReadPhaser", name := "say", desc := "(IIII)I" } : Jvm.MethodName)) ∈ lw_all := lw_g (lw_at lw_m0 63 rfl) rfl
theorem q83 : (Jvm.Cond.instanceMethod ({ cls := "ReadPhaser", name := "drop", desc := "()I" } : Jvm.MethodName)) ∈ lw_all := lw_g (lw_at lw_m0 65 rfl) rfl
theorem q84 : (Jvm.Cond.selects "ReadPhaser" ({ cls := "ReadPhaser", name := "drop", desc := "()I" } : Jvm.MethodName) ({ cls := "ReadPhaser", name := "drop", desc := "()I" } : Jvm.MethodName)) ∈ lw_all := lw_g (lw_at lw_m0 66 rfl) rfl
theorem q85 : (Jvm.Cond.code ({ cls := "ReadPhaser", name := "drop", desc := "()I" } : Jvm.MethodName) prog_1_method_6_code (1 : Nat) (Option.some Jvm.ClassFile.FieldType.int)) ∈ lw_all := lw_g (lw_at lw_m0 67 rfl) rfl
theorem q87 : (Jvm.Cond.instanceMethod ({ cls := "ReadPhaser", name := "least", desc := "()I" } : Jvm.MethodName)) ∈ lw_all := lw_g (lw_at lw_m0 69 rfl) rfl
theorem q88 : (Jvm.Cond.selects "ReadPhaser" ({ cls := "ReadPhaser", name := "least", desc := "()I" } : Jvm.MethodName) ({ cls := "ReadPhaser", name := "least", desc := "()I" } : Jvm.MethodName)) ∈ lw_all := lw_g (lw_at lw_m0 70 rfl) rfl
theorem q89 : (Jvm.Cond.code ({ cls := "ReadPhaser", name := "least", desc := "()I" } : Jvm.MethodName) prog_1_method_18_code (1 : Nat) (Option.some Jvm.ClassFile.FieldType.int)) ∈ lw_all := lw_g (lw_at lw_m0 71 rfl) rfl
theorem q90 : (Jvm.Cond.methodLink "ReadPhaser" (94 : Nat) ({ cls := "ReadPhaser", name := "solve", desc := "(IZ)V" } : Jvm.MethodName)) ∈ lw_all := lw_g (lw_at lw_m0 72 rfl) rfl
theorem q91 : (Jvm.Cond.privateMethod ({ cls := "ReadPhaser", name := "solve", desc := "(IZ)V" } : Jvm.MethodName)) ∈ lw_tbl := lw_at lw_m0 73 rfl
theorem q92 : (Jvm.Cond.instanceMethod ({ cls := "ReadPhaser", name := "solve", desc := "(IZ)V" } : Jvm.MethodName)) ∈ lw_all := lw_g (lw_at lw_m0 74 rfl) rfl
theorem q93 : (Jvm.Cond.code ({ cls := "ReadPhaser", name := "solve", desc := "(IZ)V" } : Jvm.MethodName) prog_1_method_17_code (6 : Nat) (Option.none : Option Jvm.ClassFile.FieldType)) ∈ lw_all := lw_g (lw_at lw_m0 75 rfl) rfl
theorem q94 : (Jvm.Cond.methodLink "ReadPhaser" (76 : Nat) ({ cls := "ReadPhaser", name := "firstSite", desc := "(I)I" } : Jvm.MethodName)) ∈ lw_all := lw_g (lw_at lw_m0 76 rfl) rfl
theorem q95 : (Jvm.Cond.privateMethod ({ cls := "ReadPhaser", name := "firstSite", desc := "(I)I" } : Jvm.MethodName)) ∈ lw_tbl := lw_at lw_m0 77 rfl
theorem q96 : (Jvm.Cond.instanceMethod ({ cls := "ReadPhaser", name := "firstSite", desc := "(I)I" } : Jvm.MethodName)) ∈ lw_all := lw_g (lw_at lw_m0 78 rfl) rfl
theorem q97 : (Jvm.Cond.code ({ cls := "ReadPhaser", name := "firstSite", desc := "(I)I" } : Jvm.MethodName) prog_1_method_11_code (3 : Nat) (Option.some Jvm.ClassFile.FieldType.int)) ∈ lw_all := lw_g (lw_at lw_m0 79 rfl) rfl
theorem q98 : (Jvm.Cond.methodLink "ReadPhaser" (80 : Nat) ({ cls := "ReadPhaser", name := "beginRead", desc := "(I)V" } : Jvm.MethodName)) ∈ lw_all := lw_g (lw_at lw_m0 80 rfl) rfl
theorem q99 : (Jvm.Cond.privateMethod ({ cls := "ReadPhaser", name := "beginRead", desc := "(I)V" } : Jvm.MethodName)) ∈ lw_tbl := lw_at lw_m0 81 rfl
theorem q100 : (Jvm.Cond.instanceMethod ({ cls := "ReadPhaser", name := "beginRead", desc := "(I)V" } : Jvm.MethodName)) ∈ lw_all := lw_g (lw_at lw_m0 82 rfl) rfl
theorem q101 : (Jvm.Cond.code ({ cls := "ReadPhaser", name := "beginRead", desc := "(I)V" } : Jvm.MethodName) prog_1_method_13_code (4 : Nat) (Option.none : Option Jvm.ClassFile.FieldType)) ∈ lw_all := lw_g (lw_at lw_m0 83 rfl) rfl
theorem q102 : (Jvm.Cond.constant "ReadPhaser" (68 : Nat) (1000000 : Int32)) ∈ lw_all := lw_g (lw_at lw_m0 84 rfl) rfl
theorem q103 : (Jvm.Cond.methodLink "ReadPhaser" (84 : Nat) ({ cls := "ReadPhaser", name := "addSite", desc := "(IZ)V" } : Jvm.MethodName)) ∈ lw_all := lw_g (lw_at lw_m0 85 rfl) rfl
theorem q104 : (Jvm.Cond.privateMethod ({ cls := "ReadPhaser", name := "addSite", desc := "(IZ)V" } : Jvm.MethodName)) ∈ lw_tbl := lw_at lw_m0 86 rfl
theorem q105 : (Jvm.Cond.instanceMethod ({ cls := "ReadPhaser", name := "addSite", desc := "(IZ)V" } : Jvm.MethodName)) ∈ lw_all := lw_g (lw_at lw_m0 87 rfl) rfl
theorem q106 : (Jvm.Cond.code ({ cls := "ReadPhaser", name := "addSite", desc := "(IZ)V" } : Jvm.MethodName) prog_1_method_16_code (4 : Nat) (Option.none : Option Jvm.ClassFile.FieldType)) ∈ lw_all := lw_g (lw_at lw_m0 88 rfl) rfl
theorem q107 : (Jvm.Cond.methodLink "ReadPhaser" (72 : Nat) ({ cls := "ReadPhaser", name := "siteCost", desc := "(IIIZ)I" } : Jvm.MethodName)) ∈ lw_all := lw_g (lw_at lw_m0 89 rfl) rfl
theorem q108 : (Jvm.Cond.privateMethod ({ cls := "ReadPhaser", name := "siteCost", desc := "(IIIZ)I" } : Jvm.MethodName)) ∈ lw_tbl := lw_at lw_m0 90 rfl
theorem q109 : (Jvm.Cond.instanceMethod ({ cls := "ReadPhaser", name := "siteCost", desc := "(IIIZ)I" } : Jvm.MethodName)) ∈ lw_all := lw_g (lw_at lw_m0 91 rfl) rfl
theorem q110 : (Jvm.Cond.code ({ cls := "ReadPhaser", name := "siteCost", desc := "(IIIZ)I" } : Jvm.MethodName) prog_1_method_10_code (5 : Nat) (Option.some Jvm.ClassFile.FieldType.int)) ∈ lw_all := lw_g (lw_at lw_m0 92 rfl) rfl
theorem q111 : (Jvm.Cond.methodLink "ReadPhaser" (57 : Nat) ({ cls := "ReadPhaser", name := "weigh", desc := "(III)V" } : Jvm.MethodName)) ∈ lw_all := lw_g (lw_at lw_m0 93 rfl) rfl
theorem q112 : (Jvm.Cond.privateMethod ({ cls := "ReadPhaser", name := "weigh", desc := "(III)V" } : Jvm.MethodName)) ∈ lw_tbl := lw_at lw_m0 94 rfl
theorem q113 : (Jvm.Cond.instanceMethod ({ cls := "ReadPhaser", name := "weigh", desc := "(III)V" } : Jvm.MethodName)) ∈ lw_all := lw_g (lw_at lw_m0 95 rfl) rfl
theorem q114 : (Jvm.Cond.code ({ cls := "ReadPhaser", name := "weigh", desc := "(III)V" } : Jvm.MethodName) prog_1_method_7_code (5 : Nat) (Option.none : Option Jvm.ClassFile.FieldType)) ∈ lw_all := lw_g (lw_at lw_m0 96 rfl) rfl
theorem q115 : (Jvm.Cond.methodLink "ReadPhaser" (53 : Nat) ({ cls := "ReadPhaser", name := "weighRead", desc := "(II)V" } : Jvm.MethodName)) ∈ lw_all := lw_g (lw_at lw_m0 97 rfl) rfl
theorem q116 : (Jvm.Cond.privateMethod ({ cls := "ReadPhaser", name := "weighRead", desc := "(II)V" } : Jvm.MethodName)) ∈ lw_tbl := lw_at lw_m0 98 rfl
theorem q117 : (Jvm.Cond.instanceMethod ({ cls := "ReadPhaser", name := "weighRead", desc := "(II)V" } : Jvm.MethodName)) ∈ lw_all := lw_g (lw_at lw_m0 99 rfl) rfl
theorem q118 : (Jvm.Cond.code ({ cls := "ReadPhaser", name := "weighRead", desc := "(II)V" } : Jvm.MethodName) prog_1_method_8_code (4 : Nat) (Option.none : Option Jvm.ClassFile.FieldType)) ∈ lw_all := lw_g (lw_at lw_m0 100 rfl) rfl
theorem q119 : (Jvm.Cond.methodLink "ReadPhaser" (61 : Nat) ({ cls := "ReadPhaser", name := "smaller", desc := "(II)I" } : Jvm.MethodName)) ∈ lw_all := lw_g (lw_at lw_m0 101 rfl) rfl
theorem q120 : (Jvm.Cond.static ({ cls := "ReadPhaser", name := "smaller", desc := "(II)I" } : Jvm.MethodName)) ∈ lw_all := lw_g (lw_at lw_m0 102 rfl) rfl
theorem q121 : (Jvm.Cond.code ({ cls := "ReadPhaser", name := "smaller", desc := "(II)I" } : Jvm.MethodName) prog_1_method_9_code (2 : Nat) (Option.some Jvm.ClassFile.FieldType.int)) ∈ lw_all := lw_g (lw_at lw_m0 103 rfl) rfl
theorem q122 : (Jvm.Cond.methodLink "ReadPhaser" (88 : Nat) ({ cls := "ReadPhaser", name := "lastSite", desc := "(I)I" } : Jvm.MethodName)) ∈ lw_all := lw_g (lw_at lw_m0 104 rfl) rfl
theorem q123 : (Jvm.Cond.privateMethod ({ cls := "ReadPhaser", name := "lastSite", desc := "(I)I" } : Jvm.MethodName)) ∈ lw_tbl := lw_at lw_m0 105 rfl
theorem q124 : (Jvm.Cond.instanceMethod ({ cls := "ReadPhaser", name := "lastSite", desc := "(I)I" } : Jvm.MethodName)) ∈ lw_all := lw_g (lw_at lw_m0 106 rfl) rfl
theorem q125 : (Jvm.Cond.code ({ cls := "ReadPhaser", name := "lastSite", desc := "(I)I" } : Jvm.MethodName) prog_1_method_12_code (3 : Nat) (Option.some Jvm.ClassFile.FieldType.int)) ∈ lw_all := lw_g (lw_at lw_m0 107 rfl) rfl
theorem q126 : (Jvm.Cond.methodLink "ReadPhaser" (91 : Nat) ({ cls := "ReadPhaser", name := "endRead", desc := "(I)V" } : Jvm.MethodName)) ∈ lw_all := lw_g (lw_at lw_m0 108 rfl) rfl
theorem q127 : (Jvm.Cond.privateMethod ({ cls := "ReadPhaser", name := "endRead", desc := "(I)V" } : Jvm.MethodName)) ∈ lw_tbl := lw_at lw_m0 109 rfl
theorem q128 : (Jvm.Cond.instanceMethod ({ cls := "ReadPhaser", name := "endRead", desc := "(I)V" } : Jvm.MethodName)) ∈ lw_all := lw_g (lw_at lw_m0 110 rfl) rfl
theorem q129 : (Jvm.Cond.code ({ cls := "ReadPhaser", name := "endRead", desc := "(I)V" } : Jvm.MethodName) prog_1_method_14_code (4 : Nat) (Option.none : Option Jvm.ClassFile.FieldType)) ∈ lw_all := lw_g (lw_at lw_m0 111 rfl) rfl
theorem q130 : (Jvm.Cond.methodLink "ReadPhaser" (69 : Nat) ({ cls := "ReadPhaser", name := "join", desc := "(II)V" } : Jvm.MethodName)) ∈ lw_all := lw_g (lw_at lw_m0 112 rfl) rfl
theorem q131 : (Jvm.Cond.privateMethod ({ cls := "ReadPhaser", name := "join", desc := "(II)V" } : Jvm.MethodName)) ∈ lw_tbl := lw_at lw_m0 113 rfl
theorem q132 : (Jvm.Cond.instanceMethod ({ cls := "ReadPhaser", name := "join", desc := "(II)V" } : Jvm.MethodName)) ∈ lw_all := lw_g (lw_at lw_m0 114 rfl) rfl
theorem q133 : (Jvm.Cond.code ({ cls := "ReadPhaser", name := "join", desc := "(II)V" } : Jvm.MethodName) prog_1_method_15_code (3 : Nat) (Option.none : Option Jvm.ClassFile.FieldType)) ∈ lw_all := lw_g (lw_at lw_m0 115 rfl) rfl
theorem q135 : (Jvm.Cond.instanceMethod ({ cls := "ReadPhaser", name := "sorting", desc := "()I" } : Jvm.MethodName)) ∈ lw_all := lw_g (lw_at lw_m0 117 rfl) rfl
theorem q136 : (Jvm.Cond.selects "ReadPhaser" ({ cls := "ReadPhaser", name := "sorting", desc := "()I" } : Jvm.MethodName) ({ cls := "ReadPhaser", name := "sorting", desc := "()I" } : Jvm.MethodName)) ∈ lw_all := lw_g (lw_at lw_m0 118 rfl) rfl
theorem q137 : (Jvm.Cond.code ({ cls := "ReadPhaser", name := "sorting", desc := "()I" } : Jvm.MethodName) prog_1_method_19_code (1 : Nat) (Option.some Jvm.ClassFile.FieldType.int)) ∈ lw_all := lw_g (lw_at lw_m0 119 rfl) rfl
theorem q139 : (Jvm.Cond.instanceMethod ({ cls := "ReadPhaser", name := "ties", desc := "()I" } : Jvm.MethodName)) ∈ lw_all := lw_g (lw_at lw_m0 121 rfl) rfl
theorem q140 : (Jvm.Cond.selects "ReadPhaser" ({ cls := "ReadPhaser", name := "ties", desc := "()I" } : Jvm.MethodName) ({ cls := "ReadPhaser", name := "ties", desc := "()I" } : Jvm.MethodName)) ∈ lw_all := lw_g (lw_at lw_m0 122 rfl) rfl
theorem q141 : (Jvm.Cond.code ({ cls := "ReadPhaser", name := "ties", desc := "()I" } : Jvm.MethodName) prog_1_method_20_code (1 : Nat) (Option.some Jvm.ClassFile.FieldType.int)) ∈ lw_all := lw_g (lw_at lw_m0 123 rfl) rfl
theorem q143 : (Jvm.Cond.instanceMethod ({ cls := "ReadPhaser", name := "costOf", desc := "(I)I" } : Jvm.MethodName)) ∈ lw_all := lw_g (lw_at lw_m0 125 rfl) rfl
theorem q144 : (Jvm.Cond.selects "ReadPhaser" ({ cls := "ReadPhaser", name := "costOf", desc := "(I)I" } : Jvm.MethodName) ({ cls := "ReadPhaser", name := "costOf", desc := "(I)I" } : Jvm.MethodName)) ∈ lw_all := lw_g (lw_at lw_m0 126 rfl) rfl
theorem q145 : (Jvm.Cond.code ({ cls := "ReadPhaser", name := "costOf", desc := "(I)I" } : Jvm.MethodName) prog_1_method_21_code (6 : Nat) (Option.some Jvm.ClassFile.FieldType.int)) ∈ lw_all := lw_g (lw_at lw_m0 127 rfl) rfl
theorem q147 : (Jvm.Cond.instanceMethod ({ cls := "ReadPhaser", name := "leastForced", desc := "()I" } : Jvm.MethodName)) ∈ lw_all := lw_g (lw_at lw_m0 129 rfl) rfl
theorem q148 : (Jvm.Cond.selects "ReadPhaser" ({ cls := "ReadPhaser", name := "leastForced", desc := "()I" } : Jvm.MethodName) ({ cls := "ReadPhaser", name := "leastForced", desc := "()I" } : Jvm.MethodName)) ∈ lw_all := lw_g (lw_at lw_m0 130 rfl) rfl
theorem q149 : (Jvm.Cond.code ({ cls := "ReadPhaser", name := "leastForced", desc := "()I" } : Jvm.MethodName) prog_1_method_22_code (1 : Nat) (Option.some Jvm.ClassFile.FieldType.int)) ∈ lw_all := lw_g (lw_at lw_m0 131 rfl) rfl
theorem q151 : (Jvm.Cond.instanceMethod ({ cls := "ReadPhaser", name := "sortingForced", desc := "()I" } : Jvm.MethodName)) ∈ lw_all := lw_g (lw_at lw_m0 133 rfl) rfl
theorem q152 : (Jvm.Cond.selects "ReadPhaser" ({ cls := "ReadPhaser", name := "sortingForced", desc := "()I" } : Jvm.MethodName) ({ cls := "ReadPhaser", name := "sortingForced", desc := "()I" } : Jvm.MethodName)) ∈ lw_all := lw_g (lw_at lw_m0 134 rfl) rfl
theorem q153 : (Jvm.Cond.code ({ cls := "ReadPhaser", name := "sortingForced", desc := "()I" } : Jvm.MethodName) prog_1_method_23_code (1 : Nat) (Option.some Jvm.ClassFile.FieldType.int)) ∈ lw_all := lw_g (lw_at lw_m0 135 rfl) rfl
theorem q155 : (Jvm.Cond.instanceMethod ({ cls := "ReadPhaser", name := "leastWith", desc := "(IIZ)I" } : Jvm.MethodName)) ∈ lw_all := lw_g (lw_at lw_m0 137 rfl) rfl
theorem q156 : (Jvm.Cond.selects "ReadPhaser" ({ cls := "ReadPhaser", name := "leastWith", desc := "(IIZ)I" } : Jvm.MethodName) ({ cls := "ReadPhaser", name := "leastWith", desc := "(IIZ)I" } : Jvm.MethodName)) ∈ lw_all := lw_g (lw_at lw_m0 138 rfl) rfl
theorem q157 : (Jvm.Cond.code ({ cls := "ReadPhaser", name := "leastWith", desc := "(IIZ)I" } : Jvm.MethodName) prog_1_method_24_code (9 : Nat) (Option.some Jvm.ClassFile.FieldType.int)) ∈ lw_all := lw_g (lw_at lw_m0 139 rfl) rfl
theorem q159 : (Jvm.Cond.instanceMethod ({ cls := "ReadPhaser", name := "cover", desc := "(I)I" } : Jvm.MethodName)) ∈ lw_all := lw_g (lw_at lw_m0 141 rfl) rfl
theorem q160 : (Jvm.Cond.selects "ReadPhaser" ({ cls := "ReadPhaser", name := "cover", desc := "(I)I" } : Jvm.MethodName) ({ cls := "ReadPhaser", name := "cover", desc := "(I)I" } : Jvm.MethodName)) ∈ lw_all := lw_g (lw_at lw_m0 142 rfl) rfl
theorem q161 : (Jvm.Cond.code ({ cls := "ReadPhaser", name := "cover", desc := "(I)I" } : Jvm.MethodName) prog_1_method_25_code (4 : Nat) (Option.some Jvm.ClassFile.FieldType.int)) ∈ lw_all := lw_g (lw_at lw_m0 143 rfl) rfl
theorem in_X0 : ∀ w ∈ wsX00, w ∈ lw_all := lw_in wsX00 [40, 42, 44, 46, 48, 50, 52, 54, 56, 58, 60] (by decide +kernel) (by decide +kernel)
/-! java/lang/Object -/
def RJ0 : String := "java/lang/Object"
abbrev cJ0_init : ByteArray := object_method_1_code
def yJ0_init : MethodName := ⟨RJ0, "<init>", "()V"⟩
theorem dJ0_init_0 : decode cJ0_init 0 = .ok (.return_, 1) := by decide +kernel
theorem q27 : (Jvm.Cond.instanceMethod ({ cls := "java/lang/Object", name := "<init>", desc := "()V" } : Jvm.MethodName)) ∈ lw_all := lw_g (lw_at lw_m0 9 rfl) rfl
theorem q28 : (Jvm.Cond.code ({ cls := "java/lang/Object", name := "<init>", desc := "()V" } : Jvm.MethodName) object_method_1_code (1 : Nat) (Option.none : Option Jvm.ClassFile.FieldType)) ∈ lw_all := lw_g (lw_at lw_m0 10 rfl) rfl

theorem q18 : (Jvm.Cond.initialized "ReadPhaserLaw") ∈ lw_all := lw_g (lw_at lw_m0 0 rfl) rfl
theorem q21 : (Jvm.Cond.classLink "ReadPhaserLaw" (7 : Nat) "ReadPhaser") ∈ lw_all := lw_g (lw_at lw_m0 3 rfl) rfl
theorem q23 : (Jvm.Cond.methodLink "ReadPhaserLaw" (9 : Nat) ({ cls := "ReadPhaser", name := "<init>", desc := "()V" } : Jvm.MethodName)) ∈ lw_all := lw_g (lw_at lw_m0 5 rfl) rfl
theorem q64 : (Jvm.Cond.methodLink "ReadPhaserLaw" (13 : Nat) ({ cls := "ReadPhaser", name := "read", desc := "()I" } : Jvm.MethodName)) ∈ lw_all := lw_g (lw_at lw_m0 46 rfl) rfl
theorem q68 : (Jvm.Cond.methodLink "ReadPhaserLaw" (18 : Nat) ({ cls := "ReadPhaser", name := "say", desc := "(IIII)I" } : Jvm.MethodName)) ∈ lw_all := lw_g (lw_at lw_m0 50 rfl) rfl
theorem q76 : (Jvm.Cond.methodLink "ReadPhaserLaw" (23 : Nat) ({ cls := "ReadPhaser", name := "stretch", desc := "(III)I" } : Jvm.MethodName)) ∈ lw_all := lw_g (lw_at lw_m0 58 rfl) rfl
theorem q82 : (Jvm.Cond.methodLink "ReadPhaserLaw" (28 : Nat) ({ cls := "ReadPhaser", name := "drop", desc := "()I" } : Jvm.MethodName)) ∈ lw_all := lw_g (lw_at lw_m0 64 rfl) rfl
theorem q86 : (Jvm.Cond.methodLink "ReadPhaserLaw" (32 : Nat) ({ cls := "ReadPhaser", name := "least", desc := "()I" } : Jvm.MethodName)) ∈ lw_all := lw_g (lw_at lw_m0 68 rfl) rfl
theorem q134 : (Jvm.Cond.methodLink "ReadPhaserLaw" (36 : Nat) ({ cls := "ReadPhaser", name := "sorting", desc := "()I" } : Jvm.MethodName)) ∈ lw_all := lw_g (lw_at lw_m0 116 rfl) rfl
theorem q138 : (Jvm.Cond.methodLink "ReadPhaserLaw" (40 : Nat) ({ cls := "ReadPhaser", name := "ties", desc := "()I" } : Jvm.MethodName)) ∈ lw_all := lw_g (lw_at lw_m0 120 rfl) rfl
theorem q142 : (Jvm.Cond.methodLink "ReadPhaserLaw" (44 : Nat) ({ cls := "ReadPhaser", name := "costOf", desc := "(I)I" } : Jvm.MethodName)) ∈ lw_all := lw_g (lw_at lw_m0 124 rfl) rfl
theorem q146 : (Jvm.Cond.methodLink "ReadPhaserLaw" (49 : Nat) ({ cls := "ReadPhaser", name := "leastForced", desc := "()I" } : Jvm.MethodName)) ∈ lw_all := lw_g (lw_at lw_m0 128 rfl) rfl
theorem q150 : (Jvm.Cond.methodLink "ReadPhaserLaw" (53 : Nat) ({ cls := "ReadPhaser", name := "sortingForced", desc := "()I" } : Jvm.MethodName)) ∈ lw_all := lw_g (lw_at lw_m0 132 rfl) rfl
theorem q154 : (Jvm.Cond.methodLink "ReadPhaserLaw" (57 : Nat) ({ cls := "ReadPhaser", name := "leastWith", desc := "(IIZ)I" } : Jvm.MethodName)) ∈ lw_all := lw_g (lw_at lw_m0 136 rfl) rfl
theorem q158 : (Jvm.Cond.methodLink "ReadPhaserLaw" (62 : Nat) ({ cls := "ReadPhaser", name := "cover", desc := "(I)I" } : Jvm.MethodName)) ∈ lw_all := lw_g (lw_at lw_m0 140 rfl) rfl
theorem q162 : (Jvm.Cond.classLink "ReadPhaserLaw" (10 : Nat) "ReadPhaserModel") ∈ lw_all := lw_g (lw_at lw_m0 144 rfl) rfl
theorem q164 : (Jvm.Cond.methodLink "ReadPhaserLaw" (12 : Nat) ({ cls := "ReadPhaserModel", name := "<init>", desc := "()V" } : Jvm.MethodName)) ∈ lw_all := lw_g (lw_at lw_m0 146 rfl) rfl
theorem q178 : (Jvm.Cond.methodLink "ReadPhaserLaw" (17 : Nat) ({ cls := "ReadPhaserModel", name := "read", desc := "()I" } : Jvm.MethodName)) ∈ lw_all := lw_g (lw_at lw_m0 160 rfl) rfl
theorem q182 : (Jvm.Cond.methodLink "ReadPhaserLaw" (22 : Nat) ({ cls := "ReadPhaserModel", name := "say", desc := "(IIII)I" } : Jvm.MethodName)) ∈ lw_all := lw_g (lw_at lw_m0 164 rfl) rfl
theorem q190 : (Jvm.Cond.methodLink "ReadPhaserLaw" (27 : Nat) ({ cls := "ReadPhaserModel", name := "stretch", desc := "(III)I" } : Jvm.MethodName)) ∈ lw_all := lw_g (lw_at lw_m0 172 rfl) rfl
theorem q195 : (Jvm.Cond.methodLink "ReadPhaserLaw" (31 : Nat) ({ cls := "ReadPhaserModel", name := "drop", desc := "()I" } : Jvm.MethodName)) ∈ lw_all := lw_g (lw_at lw_m0 177 rfl) rfl
theorem q199 : (Jvm.Cond.methodLink "ReadPhaserLaw" (35 : Nat) ({ cls := "ReadPhaserModel", name := "least", desc := "()I" } : Jvm.MethodName)) ∈ lw_all := lw_g (lw_at lw_m0 181 rfl) rfl
theorem q224 : (Jvm.Cond.methodLink "ReadPhaserLaw" (39 : Nat) ({ cls := "ReadPhaserModel", name := "sorting", desc := "()I" } : Jvm.MethodName)) ∈ lw_all := lw_g (lw_at lw_m0 206 rfl) rfl
theorem q232 : (Jvm.Cond.methodLink "ReadPhaserLaw" (43 : Nat) ({ cls := "ReadPhaserModel", name := "ties", desc := "()I" } : Jvm.MethodName)) ∈ lw_all := lw_g (lw_at lw_m0 214 rfl) rfl
theorem q236 : (Jvm.Cond.methodLink "ReadPhaserLaw" (48 : Nat) ({ cls := "ReadPhaserModel", name := "costOf", desc := "(I)I" } : Jvm.MethodName)) ∈ lw_all := lw_g (lw_at lw_m0 218 rfl) rfl
theorem q240 : (Jvm.Cond.methodLink "ReadPhaserLaw" (52 : Nat) ({ cls := "ReadPhaserModel", name := "leastForced", desc := "()I" } : Jvm.MethodName)) ∈ lw_all := lw_g (lw_at lw_m0 222 rfl) rfl
theorem q244 : (Jvm.Cond.methodLink "ReadPhaserLaw" (56 : Nat) ({ cls := "ReadPhaserModel", name := "sortingForced", desc := "()I" } : Jvm.MethodName)) ∈ lw_all := lw_g (lw_at lw_m0 226 rfl) rfl
theorem q248 : (Jvm.Cond.methodLink "ReadPhaserLaw" (61 : Nat) ({ cls := "ReadPhaserModel", name := "leastWith", desc := "(IIZ)I" } : Jvm.MethodName)) ∈ lw_all := lw_g (lw_at lw_m0 230 rfl) rfl
theorem q252 : (Jvm.Cond.methodLink "ReadPhaserLaw" (65 : Nat) ({ cls := "ReadPhaserModel", name := "cover", desc := "(I)I" } : Jvm.MethodName)) ∈ lw_all := lw_g (lw_at lw_m0 234 rfl) rfl

theorem q63 : (Jvm.Cond.arrayClass Jvm.ClassFile.FieldType.int) ∈ lw_all := lw_g (lw_at lw_m0 45 rfl) rfl
end
section
/-! ReadPhaserModel -/
set_option maxRecDepth 100000
def RX1 : String := "ReadPhaserModel"
def TX1 : u_T := fun k => match k with
  | 0 => ("ReadPhaserModel", "count", "I", false)
  | 1 => ("ReadPhaserModel", "values", "[I", true)
  | _ => ("ReadPhaserModel", "trusts", "[I", true)
def tyX1 : Nat → FieldType := fun k => match k with
  | 0 => .int
  | 1 => .array .int
  | _ => .array .int
abbrev wsX10 : List Cond := u_ws RX1 TX1 3
theorem nmX1 : ∀ a, a < 3 → ∀ b, b < 3 → a ≠ b → (TX1 a).2.1 ≠ (TX1 b).2.1 := by decide +kernel
theorem tyX1_ok : ∀ k, k < 3 → parseFieldDescriptor (TX1 k).2.2.1 = some (tyX1 k) := by decide +kernel
abbrev cX1_init : ByteArray := prog_3_method_1_code
def yX1_init : MethodName := ⟨RX1, "<init>", "()V"⟩
theorem dX1_init_0 : decode cX1_init 0 = .ok (.aload_n 0, 1) := by decide +kernel
theorem dX1_init_1 : decode cX1_init 1 = .ok (.invokespecial 1, 3) := by decide +kernel
theorem dX1_init_4 : decode cX1_init 4 = .ok (.aload_n 0, 1) := by decide +kernel
theorem dX1_init_5 : decode cX1_init 5 = .ok (.bipush 64, 2) := by decide +kernel
theorem dX1_init_7 : decode cX1_init 7 = .ok (.newarray .int, 2) := by decide +kernel
theorem dX1_init_9 : decode cX1_init 9 = .ok (.putfield 7, 3) := by decide +kernel
theorem dX1_init_12 : decode cX1_init 12 = .ok (.aload_n 0, 1) := by decide +kernel
theorem dX1_init_13 : decode cX1_init 13 = .ok (.bipush 64, 2) := by decide +kernel
theorem dX1_init_15 : decode cX1_init 15 = .ok (.newarray .int, 2) := by decide +kernel
theorem dX1_init_17 : decode cX1_init 17 = .ok (.putfield 13, 3) := by decide +kernel
theorem dX1_init_20 : decode cX1_init 20 = .ok (.return_, 1) := by decide +kernel
abbrev cX1_read : ByteArray := prog_3_method_2_code
def yX1_read : MethodName := ⟨RX1, "read", "()I"⟩
theorem dX1_read_0 : decode cX1_read 0 = .ok (.aload_n 0, 1) := by decide +kernel
theorem dX1_read_1 : decode cX1_read 1 = .ok (.getfield 16, 3) := by decide +kernel
theorem dX1_read_4 : decode cX1_read 4 = .ok (.bipush 8, 2) := by decide +kernel
theorem dX1_read_6 : decode cX1_read 6 = .ok (.if_icmp .ne 6, 3) := by decide +kernel
theorem dX1_read_9 : decode cX1_read 9 = .ok (.bipush (-4), 2) := by decide +kernel
theorem dX1_read_11 : decode cX1_read 11 = .ok (.ireturn, 1) := by decide +kernel
theorem dX1_read_12 : decode cX1_read 12 = .ok (.iconst 0, 1) := by decide +kernel
theorem dX1_read_13 : decode cX1_read 13 = .ok (.istore_n 1, 1) := by decide +kernel
theorem dX1_read_14 : decode cX1_read 14 = .ok (.iload_n 1, 1) := by decide +kernel
theorem dX1_read_15 : decode cX1_read 15 = .ok (.bipush 8, 2) := by decide +kernel
theorem dX1_read_17 : decode cX1_read 17 = .ok (.if_icmp .ge 24, 3) := by decide +kernel
theorem dX1_read_20 : decode cX1_read 20 = .ok (.aload_n 0, 1) := by decide +kernel
theorem dX1_read_21 : decode cX1_read 21 = .ok (.getfield 13, 3) := by decide +kernel
theorem dX1_read_24 : decode cX1_read 24 = .ok (.aload_n 0, 1) := by decide +kernel
theorem dX1_read_25 : decode cX1_read 25 = .ok (.getfield 16, 3) := by decide +kernel
theorem dX1_read_28 : decode cX1_read 28 = .ok (.bipush 8, 2) := by decide +kernel
theorem dX1_read_30 : decode cX1_read 30 = .ok (.imul, 1) := by decide +kernel
theorem dX1_read_31 : decode cX1_read 31 = .ok (.iload_n 1, 1) := by decide +kernel
theorem dX1_read_32 : decode cX1_read 32 = .ok (.iadd, 1) := by decide +kernel
theorem dX1_read_33 : decode cX1_read 33 = .ok (.iconst 0, 1) := by decide +kernel
theorem dX1_read_34 : decode cX1_read 34 = .ok (.iastore, 1) := by decide +kernel
theorem dX1_read_35 : decode cX1_read 35 = .ok (.iinc 1 1, 3) := by decide +kernel
theorem dX1_read_38 : decode cX1_read 38 = .ok (.goto (-24), 3) := by decide +kernel
theorem dX1_read_41 : decode cX1_read 41 = .ok (.aload_n 0, 1) := by decide +kernel
theorem dX1_read_42 : decode cX1_read 42 = .ok (.aload_n 0, 1) := by decide +kernel
theorem dX1_read_43 : decode cX1_read 43 = .ok (.getfield 16, 3) := by decide +kernel
theorem dX1_read_46 : decode cX1_read 46 = .ok (.iconst 1, 1) := by decide +kernel
theorem dX1_read_47 : decode cX1_read 47 = .ok (.iadd, 1) := by decide +kernel
theorem dX1_read_48 : decode cX1_read 48 = .ok (.putfield 16, 3) := by decide +kernel
theorem dX1_read_51 : decode cX1_read 51 = .ok (.aload_n 0, 1) := by decide +kernel
theorem dX1_read_52 : decode cX1_read 52 = .ok (.getfield 16, 3) := by decide +kernel
theorem dX1_read_55 : decode cX1_read 55 = .ok (.iconst 1, 1) := by decide +kernel
theorem dX1_read_56 : decode cX1_read 56 = .ok (.isub, 1) := by decide +kernel
theorem dX1_read_57 : decode cX1_read 57 = .ok (.ireturn, 1) := by decide +kernel
abbrev cX1_say : ByteArray := prog_3_method_4_code
def yX1_say : MethodName := ⟨RX1, "say", "(IIII)I"⟩
theorem dX1_say_0 : decode cX1_say 0 = .ok (.aload_n 0, 1) := by decide +kernel
theorem dX1_say_1 : decode cX1_say 1 = .ok (.iload_n 1, 1) := by decide +kernel
theorem dX1_say_2 : decode cX1_say 2 = .ok (.invokevirtual 20, 3) := by decide +kernel
theorem dX1_say_5 : decode cX1_say 5 = .ok (.ifCond .eq 5, 3) := by decide +kernel
theorem dX1_say_8 : decode cX1_say 8 = .ok (.iconst (-1), 1) := by decide +kernel
theorem dX1_say_9 : decode cX1_say 9 = .ok (.ireturn, 1) := by decide +kernel
theorem dX1_say_10 : decode cX1_say 10 = .ok (.iload_n 2, 1) := by decide +kernel
theorem dX1_say_11 : decode cX1_say 11 = .ok (.ifCond .lt 9, 3) := by decide +kernel
theorem dX1_say_14 : decode cX1_say 14 = .ok (.iload_n 2, 1) := by decide +kernel
theorem dX1_say_15 : decode cX1_say 15 = .ok (.bipush 7, 2) := by decide +kernel
theorem dX1_say_17 : decode cX1_say 17 = .ok (.if_icmp .le 6, 3) := by decide +kernel
theorem dX1_say_20 : decode cX1_say 20 = .ok (.bipush (-2), 2) := by decide +kernel
theorem dX1_say_22 : decode cX1_say 22 = .ok (.ireturn, 1) := by decide +kernel
theorem dX1_say_23 : decode cX1_say 23 = .ok (.iload 4, 2) := by decide +kernel
theorem dX1_say_25 : decode cX1_say 25 = .ok (.ifCond .lt 10, 3) := by decide +kernel
theorem dX1_say_28 : decode cX1_say 28 = .ok (.iload 4, 2) := by decide +kernel
theorem dX1_say_30 : decode cX1_say 30 = .ok (.bipush 9, 2) := by decide +kernel
theorem dX1_say_32 : decode cX1_say 32 = .ok (.if_icmp .le 6, 3) := by decide +kernel
theorem dX1_say_35 : decode cX1_say 35 = .ok (.bipush (-3), 2) := by decide +kernel
theorem dX1_say_37 : decode cX1_say 37 = .ok (.ireturn, 1) := by decide +kernel
theorem dX1_say_38 : decode cX1_say 38 = .ok (.aload_n 0, 1) := by decide +kernel
theorem dX1_say_39 : decode cX1_say 39 = .ok (.getfield 13, 3) := by decide +kernel
theorem dX1_say_42 : decode cX1_say 42 = .ok (.iload_n 1, 1) := by decide +kernel
theorem dX1_say_43 : decode cX1_say 43 = .ok (.bipush 8, 2) := by decide +kernel
theorem dX1_say_45 : decode cX1_say 45 = .ok (.imul, 1) := by decide +kernel
theorem dX1_say_46 : decode cX1_say 46 = .ok (.iload_n 2, 1) := by decide +kernel
theorem dX1_say_47 : decode cX1_say 47 = .ok (.iadd, 1) := by decide +kernel
theorem dX1_say_48 : decode cX1_say 48 = .ok (.iaload, 1) := by decide +kernel
theorem dX1_say_49 : decode cX1_say 49 = .ok (.istore 5, 2) := by decide +kernel
theorem dX1_say_51 : decode cX1_say 51 = .ok (.aload_n 0, 1) := by decide +kernel
theorem dX1_say_52 : decode cX1_say 52 = .ok (.getfield 7, 3) := by decide +kernel
theorem dX1_say_55 : decode cX1_say 55 = .ok (.iload_n 1, 1) := by decide +kernel
theorem dX1_say_56 : decode cX1_say 56 = .ok (.bipush 8, 2) := by decide +kernel
theorem dX1_say_58 : decode cX1_say 58 = .ok (.imul, 1) := by decide +kernel
theorem dX1_say_59 : decode cX1_say 59 = .ok (.iload_n 2, 1) := by decide +kernel
theorem dX1_say_60 : decode cX1_say 60 = .ok (.iadd, 1) := by decide +kernel
theorem dX1_say_61 : decode cX1_say 61 = .ok (.iload_n 3, 1) := by decide +kernel
theorem dX1_say_62 : decode cX1_say 62 = .ok (.iconst 1, 1) := by decide +kernel
theorem dX1_say_63 : decode cX1_say 63 = .ok (.iand, 1) := by decide +kernel
theorem dX1_say_64 : decode cX1_say 64 = .ok (.iastore, 1) := by decide +kernel
theorem dX1_say_65 : decode cX1_say 65 = .ok (.aload_n 0, 1) := by decide +kernel
theorem dX1_say_66 : decode cX1_say 66 = .ok (.getfield 13, 3) := by decide +kernel
theorem dX1_say_69 : decode cX1_say 69 = .ok (.iload_n 1, 1) := by decide +kernel
theorem dX1_say_70 : decode cX1_say 70 = .ok (.bipush 8, 2) := by decide +kernel
theorem dX1_say_72 : decode cX1_say 72 = .ok (.imul, 1) := by decide +kernel
theorem dX1_say_73 : decode cX1_say 73 = .ok (.iload_n 2, 1) := by decide +kernel
theorem dX1_say_74 : decode cX1_say 74 = .ok (.iadd, 1) := by decide +kernel
theorem dX1_say_75 : decode cX1_say 75 = .ok (.iload 4, 2) := by decide +kernel
theorem dX1_say_77 : decode cX1_say 77 = .ok (.iastore, 1) := by decide +kernel
theorem dX1_say_78 : decode cX1_say 78 = .ok (.iload 5, 2) := by decide +kernel
theorem dX1_say_80 : decode cX1_say 80 = .ok (.ireturn, 1) := by decide +kernel
abbrev cX1_bad : ByteArray := prog_3_method_3_code
def yX1_bad : MethodName := ⟨RX1, "bad", "(I)Z"⟩
theorem dX1_bad_0 : decode cX1_bad 0 = .ok (.iload_n 1, 1) := by decide +kernel
theorem dX1_bad_1 : decode cX1_bad 1 = .ok (.ifCond .lt 11, 3) := by decide +kernel
theorem dX1_bad_4 : decode cX1_bad 4 = .ok (.iload_n 1, 1) := by decide +kernel
theorem dX1_bad_5 : decode cX1_bad 5 = .ok (.aload_n 0, 1) := by decide +kernel
theorem dX1_bad_6 : decode cX1_bad 6 = .ok (.getfield 16, 3) := by decide +kernel
theorem dX1_bad_9 : decode cX1_bad 9 = .ok (.if_icmp .lt 7, 3) := by decide +kernel
theorem dX1_bad_12 : decode cX1_bad 12 = .ok (.iconst 1, 1) := by decide +kernel
theorem dX1_bad_13 : decode cX1_bad 13 = .ok (.goto 4, 3) := by decide +kernel
theorem dX1_bad_16 : decode cX1_bad 16 = .ok (.iconst 0, 1) := by decide +kernel
theorem dX1_bad_17 : decode cX1_bad 17 = .ok (.ireturn, 1) := by decide +kernel
abbrev cX1_stretch : ByteArray := prog_3_method_5_code
def yX1_stretch : MethodName := ⟨RX1, "stretch", "(III)I"⟩
theorem dX1_stretch_0 : decode cX1_stretch 0 = .ok (.iload_n 1, 1) := by decide +kernel
theorem dX1_stretch_1 : decode cX1_stretch 1 = .ok (.bipush 7, 2) := by decide +kernel
theorem dX1_stretch_3 : decode cX1_stretch 3 = .ok (.iand, 1) := by decide +kernel
theorem dX1_stretch_4 : decode cX1_stretch 4 = .ok (.istore 4, 2) := by decide +kernel
theorem dX1_stretch_6 : decode cX1_stretch 6 = .ok (.iload_n 1, 1) := by decide +kernel
theorem dX1_stretch_7 : decode cX1_stretch 7 = .ok (.iconst 3, 1) := by decide +kernel
theorem dX1_stretch_8 : decode cX1_stretch 8 = .ok (.ishr, 1) := by decide +kernel
theorem dX1_stretch_9 : decode cX1_stretch 9 = .ok (.bipush 15, 2) := by decide +kernel
theorem dX1_stretch_11 : decode cX1_stretch 11 = .ok (.iand, 1) := by decide +kernel
theorem dX1_stretch_12 : decode cX1_stretch 12 = .ok (.istore 5, 2) := by decide +kernel
theorem dX1_stretch_14 : decode cX1_stretch 14 = .ok (.iload 5, 2) := by decide +kernel
theorem dX1_stretch_16 : decode cX1_stretch 16 = .ok (.iconst 1, 1) := by decide +kernel
theorem dX1_stretch_17 : decode cX1_stretch 17 = .ok (.if_icmp .lt 20, 3) := by decide +kernel
theorem dX1_stretch_20 : decode cX1_stretch 20 = .ok (.iload 5, 2) := by decide +kernel
theorem dX1_stretch_22 : decode cX1_stretch 22 = .ok (.bipush 8, 2) := by decide +kernel
theorem dX1_stretch_24 : decode cX1_stretch 24 = .ok (.if_icmp .gt 13, 3) := by decide +kernel
theorem dX1_stretch_27 : decode cX1_stretch 27 = .ok (.iload 4, 2) := by decide +kernel
theorem dX1_stretch_29 : decode cX1_stretch 29 = .ok (.iload 5, 2) := by decide +kernel
theorem dX1_stretch_31 : decode cX1_stretch 31 = .ok (.iadd, 1) := by decide +kernel
theorem dX1_stretch_32 : decode cX1_stretch 32 = .ok (.bipush 8, 2) := by decide +kernel
theorem dX1_stretch_34 : decode cX1_stretch 34 = .ok (.if_icmp .le 6, 3) := by decide +kernel
theorem dX1_stretch_37 : decode cX1_stretch 37 = .ok (.bipush (-2), 2) := by decide +kernel
theorem dX1_stretch_39 : decode cX1_stretch 39 = .ok (.ireturn, 1) := by decide +kernel
theorem dX1_stretch_40 : decode cX1_stretch 40 = .ok (.iload_n 3, 1) := by decide +kernel
theorem dX1_stretch_41 : decode cX1_stretch 41 = .ok (.iconst 1, 1) := by decide +kernel
theorem dX1_stretch_42 : decode cX1_stretch 42 = .ok (.if_icmp .lt 9, 3) := by decide +kernel
theorem dX1_stretch_45 : decode cX1_stretch 45 = .ok (.iload_n 3, 1) := by decide +kernel
theorem dX1_stretch_46 : decode cX1_stretch 46 = .ok (.bipush 9, 2) := by decide +kernel
theorem dX1_stretch_48 : decode cX1_stretch 48 = .ok (.if_icmp .le 6, 3) := by decide +kernel
theorem dX1_stretch_51 : decode cX1_stretch 51 = .ok (.bipush (-3), 2) := by decide +kernel
theorem dX1_stretch_53 : decode cX1_stretch 53 = .ok (.ireturn, 1) := by decide +kernel
theorem dX1_stretch_54 : decode cX1_stretch 54 = .ok (.aload_n 0, 1) := by decide +kernel
theorem dX1_stretch_55 : decode cX1_stretch 55 = .ok (.invokevirtual 24, 3) := by decide +kernel
theorem dX1_stretch_58 : decode cX1_stretch 58 = .ok (.istore 6, 2) := by decide +kernel
theorem dX1_stretch_60 : decode cX1_stretch 60 = .ok (.iconst 0, 1) := by decide +kernel
theorem dX1_stretch_61 : decode cX1_stretch 61 = .ok (.istore 7, 2) := by decide +kernel
theorem dX1_stretch_63 : decode cX1_stretch 63 = .ok (.iload 7, 2) := by decide +kernel
theorem dX1_stretch_65 : decode cX1_stretch 65 = .ok (.iload 5, 2) := by decide +kernel
theorem dX1_stretch_67 : decode cX1_stretch 67 = .ok (.if_icmp .ge 53, 3) := by decide +kernel
theorem dX1_stretch_70 : decode cX1_stretch 70 = .ok (.iload 6, 2) := by decide +kernel
theorem dX1_stretch_72 : decode cX1_stretch 72 = .ok (.ifCond .lt 42, 3) := by decide +kernel
theorem dX1_stretch_75 : decode cX1_stretch 75 = .ok (.aload_n 0, 1) := by decide +kernel
theorem dX1_stretch_76 : decode cX1_stretch 76 = .ok (.getfield 7, 3) := by decide +kernel
theorem dX1_stretch_79 : decode cX1_stretch 79 = .ok (.iload 6, 2) := by decide +kernel
theorem dX1_stretch_81 : decode cX1_stretch 81 = .ok (.bipush 8, 2) := by decide +kernel
theorem dX1_stretch_83 : decode cX1_stretch 83 = .ok (.imul, 1) := by decide +kernel
theorem dX1_stretch_84 : decode cX1_stretch 84 = .ok (.iload 4, 2) := by decide +kernel
theorem dX1_stretch_86 : decode cX1_stretch 86 = .ok (.iadd, 1) := by decide +kernel
theorem dX1_stretch_87 : decode cX1_stretch 87 = .ok (.iload 7, 2) := by decide +kernel
theorem dX1_stretch_89 : decode cX1_stretch 89 = .ok (.iadd, 1) := by decide +kernel
theorem dX1_stretch_90 : decode cX1_stretch 90 = .ok (.iload_n 2, 1) := by decide +kernel
theorem dX1_stretch_91 : decode cX1_stretch 91 = .ok (.iload 7, 2) := by decide +kernel
theorem dX1_stretch_93 : decode cX1_stretch 93 = .ok (.ishr, 1) := by decide +kernel
theorem dX1_stretch_94 : decode cX1_stretch 94 = .ok (.iconst 1, 1) := by decide +kernel
theorem dX1_stretch_95 : decode cX1_stretch 95 = .ok (.iand, 1) := by decide +kernel
theorem dX1_stretch_96 : decode cX1_stretch 96 = .ok (.iastore, 1) := by decide +kernel
theorem dX1_stretch_97 : decode cX1_stretch 97 = .ok (.aload_n 0, 1) := by decide +kernel
theorem dX1_stretch_98 : decode cX1_stretch 98 = .ok (.getfield 13, 3) := by decide +kernel
theorem dX1_stretch_101 : decode cX1_stretch 101 = .ok (.iload 6, 2) := by decide +kernel
theorem dX1_stretch_103 : decode cX1_stretch 103 = .ok (.bipush 8, 2) := by decide +kernel
theorem dX1_stretch_105 : decode cX1_stretch 105 = .ok (.imul, 1) := by decide +kernel
theorem dX1_stretch_106 : decode cX1_stretch 106 = .ok (.iload 4, 2) := by decide +kernel
theorem dX1_stretch_108 : decode cX1_stretch 108 = .ok (.iadd, 1) := by decide +kernel
theorem dX1_stretch_109 : decode cX1_stretch 109 = .ok (.iload 7, 2) := by decide +kernel
theorem dX1_stretch_111 : decode cX1_stretch 111 = .ok (.iadd, 1) := by decide +kernel
theorem dX1_stretch_112 : decode cX1_stretch 112 = .ok (.iload_n 3, 1) := by decide +kernel
theorem dX1_stretch_113 : decode cX1_stretch 113 = .ok (.iastore, 1) := by decide +kernel
theorem dX1_stretch_114 : decode cX1_stretch 114 = .ok (.iinc 7 1, 3) := by decide +kernel
theorem dX1_stretch_117 : decode cX1_stretch 117 = .ok (.goto (-54), 3) := by decide +kernel
theorem dX1_stretch_120 : decode cX1_stretch 120 = .ok (.iload 6, 2) := by decide +kernel
theorem dX1_stretch_122 : decode cX1_stretch 122 = .ok (.ireturn, 1) := by decide +kernel
abbrev cX1_drop : ByteArray := prog_3_method_6_code
def yX1_drop : MethodName := ⟨RX1, "drop", "()I"⟩
theorem dX1_drop_0 : decode cX1_drop 0 = .ok (.aload_n 0, 1) := by decide +kernel
theorem dX1_drop_1 : decode cX1_drop 1 = .ok (.getfield 16, 3) := by decide +kernel
theorem dX1_drop_4 : decode cX1_drop 4 = .ok (.ifCond .ne 5, 3) := by decide +kernel
theorem dX1_drop_7 : decode cX1_drop 7 = .ok (.iconst (-1), 1) := by decide +kernel
theorem dX1_drop_8 : decode cX1_drop 8 = .ok (.ireturn, 1) := by decide +kernel
theorem dX1_drop_9 : decode cX1_drop 9 = .ok (.aload_n 0, 1) := by decide +kernel
theorem dX1_drop_10 : decode cX1_drop 10 = .ok (.aload_n 0, 1) := by decide +kernel
theorem dX1_drop_11 : decode cX1_drop 11 = .ok (.getfield 16, 3) := by decide +kernel
theorem dX1_drop_14 : decode cX1_drop 14 = .ok (.iconst 1, 1) := by decide +kernel
theorem dX1_drop_15 : decode cX1_drop 15 = .ok (.isub, 1) := by decide +kernel
theorem dX1_drop_16 : decode cX1_drop 16 = .ok (.putfield 16, 3) := by decide +kernel
theorem dX1_drop_19 : decode cX1_drop 19 = .ok (.aload_n 0, 1) := by decide +kernel
theorem dX1_drop_20 : decode cX1_drop 20 = .ok (.getfield 16, 3) := by decide +kernel
theorem dX1_drop_23 : decode cX1_drop 23 = .ok (.ireturn, 1) := by decide +kernel
abbrev cX1_least : ByteArray := prog_3_method_13_code
def yX1_least : MethodName := ⟨RX1, "least", "()I"⟩
theorem dX1_least_0 : decode cX1_least 0 = .ok (.aload_n 0, 1) := by decide +kernel
theorem dX1_least_1 : decode cX1_least 1 = .ok (.iconst 0, 1) := by decide +kernel
theorem dX1_least_2 : decode cX1_least 2 = .ok (.invokevirtual 44, 3) := by decide +kernel
theorem dX1_least_5 : decode cX1_least 5 = .ok (.ireturn, 1) := by decide +kernel
abbrev cX1_best : ByteArray := prog_3_method_11_code
def yX1_best : MethodName := ⟨RX1, "best", "(Z)I"⟩
theorem dX1_best_0 : decode cX1_best 0 = .ok (.ldc 36, 2) := by decide +kernel
theorem dX1_best_2 : decode cX1_best 2 = .ok (.istore_n 2, 1) := by decide +kernel
theorem dX1_best_3 : decode cX1_best 3 = .ok (.iconst 0, 1) := by decide +kernel
theorem dX1_best_4 : decode cX1_best 4 = .ok (.istore_n 3, 1) := by decide +kernel
theorem dX1_best_5 : decode cX1_best 5 = .ok (.iload_n 3, 1) := by decide +kernel
theorem dX1_best_6 : decode cX1_best 6 = .ok (.sipush 256, 3) := by decide +kernel
theorem dX1_best_9 : decode cX1_best 9 = .ok (.if_icmp .ge 33, 3) := by decide +kernel
theorem dX1_best_12 : decode cX1_best 12 = .ok (.aload_n 0, 1) := by decide +kernel
theorem dX1_best_13 : decode cX1_best 13 = .ok (.iload_n 3, 1) := by decide +kernel
theorem dX1_best_14 : decode cX1_best 14 = .ok (.invokevirtual 37, 3) := by decide +kernel
theorem dX1_best_17 : decode cX1_best 17 = .ok (.ifCond .eq 19, 3) := by decide +kernel
theorem dX1_best_20 : decode cX1_best 20 = .ok (.aload_n 0, 1) := by decide +kernel
theorem dX1_best_21 : decode cX1_best 21 = .ok (.iload_n 3, 1) := by decide +kernel
theorem dX1_best_22 : decode cX1_best 22 = .ok (.iload_n 1, 1) := by decide +kernel
theorem dX1_best_23 : decode cX1_best 23 = .ok (.invokevirtual 40, 3) := by decide +kernel
theorem dX1_best_26 : decode cX1_best 26 = .ok (.istore 4, 2) := by decide +kernel
theorem dX1_best_28 : decode cX1_best 28 = .ok (.aload_n 0, 1) := by decide +kernel
theorem dX1_best_29 : decode cX1_best 29 = .ok (.iload_n 2, 1) := by decide +kernel
theorem dX1_best_30 : decode cX1_best 30 = .ok (.iload 4, 2) := by decide +kernel
theorem dX1_best_32 : decode cX1_best 32 = .ok (.invokevirtual 32, 3) := by decide +kernel
theorem dX1_best_35 : decode cX1_best 35 = .ok (.istore_n 2, 1) := by decide +kernel
theorem dX1_best_36 : decode cX1_best 36 = .ok (.iinc 3 1, 3) := by decide +kernel
theorem dX1_best_39 : decode cX1_best 39 = .ok (.goto (-34), 3) := by decide +kernel
theorem dX1_best_42 : decode cX1_best 42 = .ok (.iload_n 2, 1) := by decide +kernel
theorem dX1_best_43 : decode cX1_best 43 = .ok (.ireturn, 1) := by decide +kernel
abbrev cX1_isSorting : ByteArray := prog_3_method_10_code
def yX1_isSorting : MethodName := ⟨RX1, "isSorting", "(I)Z"⟩
theorem dX1_isSorting_0 : decode cX1_isSorting 0 = .ok (.iload_n 1, 1) := by decide +kernel
theorem dX1_isSorting_1 : decode cX1_isSorting 1 = .ok (.iconst 1, 1) := by decide +kernel
theorem dX1_isSorting_2 : decode cX1_isSorting 2 = .ok (.iand, 1) := by decide +kernel
theorem dX1_isSorting_3 : decode cX1_isSorting 3 = .ok (.ifCond .ne 16, 3) := by decide +kernel
theorem dX1_isSorting_6 : decode cX1_isSorting 6 = .ok (.iload_n 1, 1) := by decide +kernel
theorem dX1_isSorting_7 : decode cX1_isSorting 7 = .ok (.aload_n 0, 1) := by decide +kernel
theorem dX1_isSorting_8 : decode cX1_isSorting 8 = .ok (.getfield 16, 3) := by decide +kernel
theorem dX1_isSorting_11 : decode cX1_isSorting 11 = .ok (.ishr, 1) := by decide +kernel
theorem dX1_isSorting_12 : decode cX1_isSorting 12 = .ok (.ifCond .ne 7, 3) := by decide +kernel
theorem dX1_isSorting_15 : decode cX1_isSorting 15 = .ok (.iconst 1, 1) := by decide +kernel
theorem dX1_isSorting_16 : decode cX1_isSorting 16 = .ok (.goto 4, 3) := by decide +kernel
theorem dX1_isSorting_19 : decode cX1_isSorting 19 = .ok (.iconst 0, 1) := by decide +kernel
theorem dX1_isSorting_20 : decode cX1_isSorting 20 = .ok (.ireturn, 1) := by decide +kernel
abbrev cX1_cost : ByteArray := prog_3_method_9_code
def yX1_cost : MethodName := ⟨RX1, "cost", "(IZ)I"⟩
theorem dX1_cost_0 : decode cX1_cost 0 = .ok (.iconst 0, 1) := by decide +kernel
theorem dX1_cost_1 : decode cX1_cost 1 = .ok (.istore_n 3, 1) := by decide +kernel
theorem dX1_cost_2 : decode cX1_cost 2 = .ok (.iconst 0, 1) := by decide +kernel
theorem dX1_cost_3 : decode cX1_cost 3 = .ok (.istore 4, 2) := by decide +kernel
theorem dX1_cost_5 : decode cX1_cost 5 = .ok (.iload 4, 2) := by decide +kernel
theorem dX1_cost_7 : decode cX1_cost 7 = .ok (.bipush 8, 2) := by decide +kernel
theorem dX1_cost_9 : decode cX1_cost 9 = .ok (.if_icmp .ge 98, 3) := by decide +kernel
theorem dX1_cost_12 : decode cX1_cost 12 = .ok (.aload_n 0, 1) := by decide +kernel
theorem dX1_cost_13 : decode cX1_cost 13 = .ok (.iload_n 1, 1) := by decide +kernel
theorem dX1_cost_14 : decode cX1_cost 14 = .ok (.iconst 0, 1) := by decide +kernel
theorem dX1_cost_15 : decode cX1_cost 15 = .ok (.iload 4, 2) := by decide +kernel
theorem dX1_cost_17 : decode cX1_cost 17 = .ok (.iconst 0, 1) := by decide +kernel
theorem dX1_cost_18 : decode cX1_cost 18 = .ok (.invokevirtual 28, 3) := by decide +kernel
theorem dX1_cost_21 : decode cX1_cost 21 = .ok (.istore 5, 2) := by decide +kernel
theorem dX1_cost_23 : decode cX1_cost 23 = .ok (.aload_n 0, 1) := by decide +kernel
theorem dX1_cost_24 : decode cX1_cost 24 = .ok (.iload_n 1, 1) := by decide +kernel
theorem dX1_cost_25 : decode cX1_cost 25 = .ok (.iconst 0, 1) := by decide +kernel
theorem dX1_cost_26 : decode cX1_cost 26 = .ok (.iload 4, 2) := by decide +kernel
theorem dX1_cost_28 : decode cX1_cost 28 = .ok (.iconst 1, 1) := by decide +kernel
theorem dX1_cost_29 : decode cX1_cost 29 = .ok (.invokevirtual 28, 3) := by decide +kernel
theorem dX1_cost_32 : decode cX1_cost 32 = .ok (.istore 6, 2) := by decide +kernel
theorem dX1_cost_34 : decode cX1_cost 34 = .ok (.aload_n 0, 1) := by decide +kernel
theorem dX1_cost_35 : decode cX1_cost 35 = .ok (.iload_n 1, 1) := by decide +kernel
theorem dX1_cost_36 : decode cX1_cost 36 = .ok (.iconst 1, 1) := by decide +kernel
theorem dX1_cost_37 : decode cX1_cost 37 = .ok (.iload 4, 2) := by decide +kernel
theorem dX1_cost_39 : decode cX1_cost 39 = .ok (.iconst 0, 1) := by decide +kernel
theorem dX1_cost_40 : decode cX1_cost 40 = .ok (.invokevirtual 28, 3) := by decide +kernel
theorem dX1_cost_43 : decode cX1_cost 43 = .ok (.istore 7, 2) := by decide +kernel
theorem dX1_cost_45 : decode cX1_cost 45 = .ok (.aload_n 0, 1) := by decide +kernel
theorem dX1_cost_46 : decode cX1_cost 46 = .ok (.iload_n 1, 1) := by decide +kernel
theorem dX1_cost_47 : decode cX1_cost 47 = .ok (.iconst 1, 1) := by decide +kernel
theorem dX1_cost_48 : decode cX1_cost 48 = .ok (.iload 4, 2) := by decide +kernel
theorem dX1_cost_50 : decode cX1_cost 50 = .ok (.iconst 1, 1) := by decide +kernel
theorem dX1_cost_51 : decode cX1_cost 51 = .ok (.invokevirtual 28, 3) := by decide +kernel
theorem dX1_cost_54 : decode cX1_cost 54 = .ok (.istore 8, 2) := by decide +kernel
theorem dX1_cost_56 : decode cX1_cost 56 = .ok (.iload_n 2, 1) := by decide +kernel
theorem dX1_cost_57 : decode cX1_cost 57 = .ok (.ifCond .eq 20, 3) := by decide +kernel
theorem dX1_cost_60 : decode cX1_cost 60 = .ok (.aload_n 0, 1) := by decide +kernel
theorem dX1_cost_61 : decode cX1_cost 61 = .ok (.iload 5, 2) := by decide +kernel
theorem dX1_cost_63 : decode cX1_cost 63 = .ok (.iload 8, 2) := by decide +kernel
theorem dX1_cost_65 : decode cX1_cost 65 = .ok (.iadd, 1) := by decide +kernel
theorem dX1_cost_66 : decode cX1_cost 66 = .ok (.iload 6, 2) := by decide +kernel
theorem dX1_cost_68 : decode cX1_cost 68 = .ok (.iload 7, 2) := by decide +kernel
theorem dX1_cost_70 : decode cX1_cost 70 = .ok (.iadd, 1) := by decide +kernel
theorem dX1_cost_71 : decode cX1_cost 71 = .ok (.invokevirtual 32, 3) := by decide +kernel
theorem dX1_cost_74 : decode cX1_cost 74 = .ok (.goto 20, 3) := by decide +kernel
theorem dX1_cost_77 : decode cX1_cost 77 = .ok (.aload_n 0, 1) := by decide +kernel
theorem dX1_cost_78 : decode cX1_cost 78 = .ok (.iload 5, 2) := by decide +kernel
theorem dX1_cost_80 : decode cX1_cost 80 = .ok (.iload 6, 2) := by decide +kernel
theorem dX1_cost_82 : decode cX1_cost 82 = .ok (.invokevirtual 32, 3) := by decide +kernel
theorem dX1_cost_85 : decode cX1_cost 85 = .ok (.aload_n 0, 1) := by decide +kernel
theorem dX1_cost_86 : decode cX1_cost 86 = .ok (.iload 7, 2) := by decide +kernel
theorem dX1_cost_88 : decode cX1_cost 88 = .ok (.iload 8, 2) := by decide +kernel
theorem dX1_cost_90 : decode cX1_cost 90 = .ok (.invokevirtual 32, 3) := by decide +kernel
theorem dX1_cost_93 : decode cX1_cost 93 = .ok (.iadd, 1) := by decide +kernel
theorem dX1_cost_94 : decode cX1_cost 94 = .ok (.istore 9, 2) := by decide +kernel
theorem dX1_cost_96 : decode cX1_cost 96 = .ok (.iload_n 3, 1) := by decide +kernel
theorem dX1_cost_97 : decode cX1_cost 97 = .ok (.iload 9, 2) := by decide +kernel
theorem dX1_cost_99 : decode cX1_cost 99 = .ok (.iadd, 1) := by decide +kernel
theorem dX1_cost_100 : decode cX1_cost 100 = .ok (.istore_n 3, 1) := by decide +kernel
theorem dX1_cost_101 : decode cX1_cost 101 = .ok (.iinc 4 1, 3) := by decide +kernel
theorem dX1_cost_104 : decode cX1_cost 104 = .ok (.goto (-99), 3) := by decide +kernel
theorem dX1_cost_107 : decode cX1_cost 107 = .ok (.iload_n 3, 1) := by decide +kernel
theorem dX1_cost_108 : decode cX1_cost 108 = .ok (.ireturn, 1) := by decide +kernel
abbrev cX1_trust : ByteArray := prog_3_method_7_code
def yX1_trust : MethodName := ⟨RX1, "trust", "(IIII)I"⟩
theorem dX1_trust_0 : decode cX1_trust 0 = .ok (.iconst 0, 1) := by decide +kernel
theorem dX1_trust_1 : decode cX1_trust 1 = .ok (.istore 5, 2) := by decide +kernel
theorem dX1_trust_3 : decode cX1_trust 3 = .ok (.iconst 0, 1) := by decide +kernel
theorem dX1_trust_4 : decode cX1_trust 4 = .ok (.istore 6, 2) := by decide +kernel
theorem dX1_trust_6 : decode cX1_trust 6 = .ok (.iload 6, 2) := by decide +kernel
theorem dX1_trust_8 : decode cX1_trust 8 = .ok (.aload_n 0, 1) := by decide +kernel
theorem dX1_trust_9 : decode cX1_trust 9 = .ok (.getfield 16, 3) := by decide +kernel
theorem dX1_trust_12 : decode cX1_trust 12 = .ok (.if_icmp .ge 52, 3) := by decide +kernel
theorem dX1_trust_15 : decode cX1_trust 15 = .ok (.iload 6, 2) := by decide +kernel
theorem dX1_trust_17 : decode cX1_trust 17 = .ok (.bipush 8, 2) := by decide +kernel
theorem dX1_trust_19 : decode cX1_trust 19 = .ok (.imul, 1) := by decide +kernel
theorem dX1_trust_20 : decode cX1_trust 20 = .ok (.iload_n 3, 1) := by decide +kernel
theorem dX1_trust_21 : decode cX1_trust 21 = .ok (.iadd, 1) := by decide +kernel
theorem dX1_trust_22 : decode cX1_trust 22 = .ok (.istore 7, 2) := by decide +kernel
theorem dX1_trust_24 : decode cX1_trust 24 = .ok (.iload_n 1, 1) := by decide +kernel
theorem dX1_trust_25 : decode cX1_trust 25 = .ok (.iload 6, 2) := by decide +kernel
theorem dX1_trust_27 : decode cX1_trust 27 = .ok (.ishr, 1) := by decide +kernel
theorem dX1_trust_28 : decode cX1_trust 28 = .ok (.iconst 1, 1) := by decide +kernel
theorem dX1_trust_29 : decode cX1_trust 29 = .ok (.iand, 1) := by decide +kernel
theorem dX1_trust_30 : decode cX1_trust 30 = .ok (.iload_n 2, 1) := by decide +kernel
theorem dX1_trust_31 : decode cX1_trust 31 = .ok (.if_icmp .ne 27, 3) := by decide +kernel
theorem dX1_trust_34 : decode cX1_trust 34 = .ok (.aload_n 0, 1) := by decide +kernel
theorem dX1_trust_35 : decode cX1_trust 35 = .ok (.getfield 7, 3) := by decide +kernel
theorem dX1_trust_38 : decode cX1_trust 38 = .ok (.iload 7, 2) := by decide +kernel
theorem dX1_trust_40 : decode cX1_trust 40 = .ok (.iaload, 1) := by decide +kernel
theorem dX1_trust_41 : decode cX1_trust 41 = .ok (.iload 4, 2) := by decide +kernel
theorem dX1_trust_43 : decode cX1_trust 43 = .ok (.if_icmp .ne 15, 3) := by decide +kernel
theorem dX1_trust_46 : decode cX1_trust 46 = .ok (.iload 5, 2) := by decide +kernel
theorem dX1_trust_48 : decode cX1_trust 48 = .ok (.aload_n 0, 1) := by decide +kernel
theorem dX1_trust_49 : decode cX1_trust 49 = .ok (.getfield 13, 3) := by decide +kernel
theorem dX1_trust_52 : decode cX1_trust 52 = .ok (.iload 7, 2) := by decide +kernel
theorem dX1_trust_54 : decode cX1_trust 54 = .ok (.iaload, 1) := by decide +kernel
theorem dX1_trust_55 : decode cX1_trust 55 = .ok (.iadd, 1) := by decide +kernel
theorem dX1_trust_56 : decode cX1_trust 56 = .ok (.istore 5, 2) := by decide +kernel
theorem dX1_trust_58 : decode cX1_trust 58 = .ok (.iinc 6 1, 3) := by decide +kernel
theorem dX1_trust_61 : decode cX1_trust 61 = .ok (.goto (-55), 3) := by decide +kernel
theorem dX1_trust_64 : decode cX1_trust 64 = .ok (.iload 5, 2) := by decide +kernel
theorem dX1_trust_66 : decode cX1_trust 66 = .ok (.ireturn, 1) := by decide +kernel
abbrev cX1_smaller : ByteArray := prog_3_method_8_code
def yX1_smaller : MethodName := ⟨RX1, "smaller", "(II)I"⟩
theorem dX1_smaller_0 : decode cX1_smaller 0 = .ok (.iload_n 1, 1) := by decide +kernel
theorem dX1_smaller_1 : decode cX1_smaller 1 = .ok (.iload_n 2, 1) := by decide +kernel
theorem dX1_smaller_2 : decode cX1_smaller 2 = .ok (.if_icmp .ge 7, 3) := by decide +kernel
theorem dX1_smaller_5 : decode cX1_smaller 5 = .ok (.iload_n 1, 1) := by decide +kernel
theorem dX1_smaller_6 : decode cX1_smaller 6 = .ok (.goto 4, 3) := by decide +kernel
theorem dX1_smaller_9 : decode cX1_smaller 9 = .ok (.iload_n 2, 1) := by decide +kernel
theorem dX1_smaller_10 : decode cX1_smaller 10 = .ok (.ireturn, 1) := by decide +kernel
abbrev cX1_sorting : ByteArray := prog_3_method_14_code
def yX1_sorting : MethodName := ⟨RX1, "sorting", "()I"⟩
theorem dX1_sorting_0 : decode cX1_sorting 0 = .ok (.aload_n 0, 1) := by decide +kernel
theorem dX1_sorting_1 : decode cX1_sorting 1 = .ok (.iconst 0, 1) := by decide +kernel
theorem dX1_sorting_2 : decode cX1_sorting 2 = .ok (.invokevirtual 48, 3) := by decide +kernel
theorem dX1_sorting_5 : decode cX1_sorting 5 = .ok (.ireturn, 1) := by decide +kernel
abbrev cX1_first : ByteArray := prog_3_method_12_code
def yX1_first : MethodName := ⟨RX1, "first", "(Z)I"⟩
theorem dX1_first_0 : decode cX1_first 0 = .ok (.aload_n 0, 1) := by decide +kernel
theorem dX1_first_1 : decode cX1_first 1 = .ok (.iload_n 1, 1) := by decide +kernel
theorem dX1_first_2 : decode cX1_first 2 = .ok (.invokevirtual 44, 3) := by decide +kernel
theorem dX1_first_5 : decode cX1_first 5 = .ok (.istore_n 2, 1) := by decide +kernel
theorem dX1_first_6 : decode cX1_first 6 = .ok (.iconst 0, 1) := by decide +kernel
theorem dX1_first_7 : decode cX1_first 7 = .ok (.istore_n 3, 1) := by decide +kernel
theorem dX1_first_8 : decode cX1_first 8 = .ok (.iload_n 3, 1) := by decide +kernel
theorem dX1_first_9 : decode cX1_first 9 = .ok (.sipush 256, 3) := by decide +kernel
theorem dX1_first_12 : decode cX1_first 12 = .ok (.if_icmp .ge 29, 3) := by decide +kernel
theorem dX1_first_15 : decode cX1_first 15 = .ok (.aload_n 0, 1) := by decide +kernel
theorem dX1_first_16 : decode cX1_first 16 = .ok (.iload_n 3, 1) := by decide +kernel
theorem dX1_first_17 : decode cX1_first 17 = .ok (.invokevirtual 37, 3) := by decide +kernel
theorem dX1_first_20 : decode cX1_first 20 = .ok (.ifCond .eq 15, 3) := by decide +kernel
theorem dX1_first_23 : decode cX1_first 23 = .ok (.aload_n 0, 1) := by decide +kernel
theorem dX1_first_24 : decode cX1_first 24 = .ok (.iload_n 3, 1) := by decide +kernel
theorem dX1_first_25 : decode cX1_first 25 = .ok (.iload_n 1, 1) := by decide +kernel
theorem dX1_first_26 : decode cX1_first 26 = .ok (.invokevirtual 40, 3) := by decide +kernel
theorem dX1_first_29 : decode cX1_first 29 = .ok (.iload_n 2, 1) := by decide +kernel
theorem dX1_first_30 : decode cX1_first 30 = .ok (.if_icmp .ne 5, 3) := by decide +kernel
theorem dX1_first_33 : decode cX1_first 33 = .ok (.iload_n 3, 1) := by decide +kernel
theorem dX1_first_34 : decode cX1_first 34 = .ok (.ireturn, 1) := by decide +kernel
theorem dX1_first_35 : decode cX1_first 35 = .ok (.iinc 3 1, 3) := by decide +kernel
theorem dX1_first_38 : decode cX1_first 38 = .ok (.goto (-30), 3) := by decide +kernel
theorem dX1_first_41 : decode cX1_first 41 = .ok (.iconst 0, 1) := by decide +kernel
theorem dX1_first_42 : decode cX1_first 42 = .ok (.ireturn, 1) := by decide +kernel
abbrev cX1_ties : ByteArray := prog_3_method_15_code
def yX1_ties : MethodName := ⟨RX1, "ties", "()I"⟩
theorem dX1_ties_0 : decode cX1_ties 0 = .ok (.aload_n 0, 1) := by decide +kernel
theorem dX1_ties_1 : decode cX1_ties 1 = .ok (.iconst 0, 1) := by decide +kernel
theorem dX1_ties_2 : decode cX1_ties 2 = .ok (.invokevirtual 44, 3) := by decide +kernel
theorem dX1_ties_5 : decode cX1_ties 5 = .ok (.istore_n 1, 1) := by decide +kernel
theorem dX1_ties_6 : decode cX1_ties 6 = .ok (.iconst 0, 1) := by decide +kernel
theorem dX1_ties_7 : decode cX1_ties 7 = .ok (.istore_n 2, 1) := by decide +kernel
theorem dX1_ties_8 : decode cX1_ties 8 = .ok (.iconst 0, 1) := by decide +kernel
theorem dX1_ties_9 : decode cX1_ties 9 = .ok (.istore_n 3, 1) := by decide +kernel
theorem dX1_ties_10 : decode cX1_ties 10 = .ok (.iload_n 3, 1) := by decide +kernel
theorem dX1_ties_11 : decode cX1_ties 11 = .ok (.sipush 256, 3) := by decide +kernel
theorem dX1_ties_14 : decode cX1_ties 14 = .ok (.if_icmp .ge 30, 3) := by decide +kernel
theorem dX1_ties_17 : decode cX1_ties 17 = .ok (.aload_n 0, 1) := by decide +kernel
theorem dX1_ties_18 : decode cX1_ties 18 = .ok (.iload_n 3, 1) := by decide +kernel
theorem dX1_ties_19 : decode cX1_ties 19 = .ok (.invokevirtual 37, 3) := by decide +kernel
theorem dX1_ties_22 : decode cX1_ties 22 = .ok (.ifCond .eq 16, 3) := by decide +kernel
theorem dX1_ties_25 : decode cX1_ties 25 = .ok (.aload_n 0, 1) := by decide +kernel
theorem dX1_ties_26 : decode cX1_ties 26 = .ok (.iload_n 3, 1) := by decide +kernel
theorem dX1_ties_27 : decode cX1_ties 27 = .ok (.iconst 0, 1) := by decide +kernel
theorem dX1_ties_28 : decode cX1_ties 28 = .ok (.invokevirtual 40, 3) := by decide +kernel
theorem dX1_ties_31 : decode cX1_ties 31 = .ok (.iload_n 1, 1) := by decide +kernel
theorem dX1_ties_32 : decode cX1_ties 32 = .ok (.if_icmp .ne 6, 3) := by decide +kernel
theorem dX1_ties_35 : decode cX1_ties 35 = .ok (.iinc 2 1, 3) := by decide +kernel
theorem dX1_ties_38 : decode cX1_ties 38 = .ok (.iinc 3 1, 3) := by decide +kernel
theorem dX1_ties_41 : decode cX1_ties 41 = .ok (.goto (-31), 3) := by decide +kernel
theorem dX1_ties_44 : decode cX1_ties 44 = .ok (.iload_n 2, 1) := by decide +kernel
theorem dX1_ties_45 : decode cX1_ties 45 = .ok (.ireturn, 1) := by decide +kernel
abbrev cX1_costOf : ByteArray := prog_3_method_16_code
def yX1_costOf : MethodName := ⟨RX1, "costOf", "(I)I"⟩
theorem dX1_costOf_0 : decode cX1_costOf 0 = .ok (.iload_n 1, 1) := by decide +kernel
theorem dX1_costOf_1 : decode cX1_costOf 1 = .ok (.sipush 254, 3) := by decide +kernel
theorem dX1_costOf_4 : decode cX1_costOf 4 = .ok (.iand, 1) := by decide +kernel
theorem dX1_costOf_5 : decode cX1_costOf 5 = .ok (.iconst 1, 1) := by decide +kernel
theorem dX1_costOf_6 : decode cX1_costOf 6 = .ok (.aload_n 0, 1) := by decide +kernel
theorem dX1_costOf_7 : decode cX1_costOf 7 = .ok (.getfield 16, 3) := by decide +kernel
theorem dX1_costOf_10 : decode cX1_costOf 10 = .ok (.ishl, 1) := by decide +kernel
theorem dX1_costOf_11 : decode cX1_costOf 11 = .ok (.iconst 1, 1) := by decide +kernel
theorem dX1_costOf_12 : decode cX1_costOf 12 = .ok (.isub, 1) := by decide +kernel
theorem dX1_costOf_13 : decode cX1_costOf 13 = .ok (.iand, 1) := by decide +kernel
theorem dX1_costOf_14 : decode cX1_costOf 14 = .ok (.istore_n 2, 1) := by decide +kernel
theorem dX1_costOf_15 : decode cX1_costOf 15 = .ok (.aload_n 0, 1) := by decide +kernel
theorem dX1_costOf_16 : decode cX1_costOf 16 = .ok (.iload_n 2, 1) := by decide +kernel
theorem dX1_costOf_17 : decode cX1_costOf 17 = .ok (.iconst 0, 1) := by decide +kernel
theorem dX1_costOf_18 : decode cX1_costOf 18 = .ok (.invokevirtual 40, 3) := by decide +kernel
theorem dX1_costOf_21 : decode cX1_costOf 21 = .ok (.ireturn, 1) := by decide +kernel
abbrev cX1_leastForced : ByteArray := prog_3_method_17_code
def yX1_leastForced : MethodName := ⟨RX1, "leastForced", "()I"⟩
theorem dX1_leastForced_0 : decode cX1_leastForced 0 = .ok (.aload_n 0, 1) := by decide +kernel
theorem dX1_leastForced_1 : decode cX1_leastForced 1 = .ok (.iconst 1, 1) := by decide +kernel
theorem dX1_leastForced_2 : decode cX1_leastForced 2 = .ok (.invokevirtual 44, 3) := by decide +kernel
theorem dX1_leastForced_5 : decode cX1_leastForced 5 = .ok (.ireturn, 1) := by decide +kernel
abbrev cX1_sortingForced : ByteArray := prog_3_method_18_code
def yX1_sortingForced : MethodName := ⟨RX1, "sortingForced", "()I"⟩
theorem dX1_sortingForced_0 : decode cX1_sortingForced 0 = .ok (.aload_n 0, 1) := by decide +kernel
theorem dX1_sortingForced_1 : decode cX1_sortingForced 1 = .ok (.iconst 1, 1) := by decide +kernel
theorem dX1_sortingForced_2 : decode cX1_sortingForced 2 = .ok (.invokevirtual 48, 3) := by decide +kernel
theorem dX1_sortingForced_5 : decode cX1_sortingForced 5 = .ok (.ireturn, 1) := by decide +kernel
abbrev cX1_leastWith : ByteArray := prog_3_method_19_code
def yX1_leastWith : MethodName := ⟨RX1, "leastWith", "(IIZ)I"⟩
theorem dX1_leastWith_0 : decode cX1_leastWith 0 = .ok (.aload_n 0, 1) := by decide +kernel
theorem dX1_leastWith_1 : decode cX1_leastWith 1 = .ok (.iload_n 1, 1) := by decide +kernel
theorem dX1_leastWith_2 : decode cX1_leastWith 2 = .ok (.invokevirtual 20, 3) := by decide +kernel
theorem dX1_leastWith_5 : decode cX1_leastWith 5 = .ok (.ifCond .ne 20, 3) := by decide +kernel
theorem dX1_leastWith_8 : decode cX1_leastWith 8 = .ok (.aload_n 0, 1) := by decide +kernel
theorem dX1_leastWith_9 : decode cX1_leastWith 9 = .ok (.iload_n 2, 1) := by decide +kernel
theorem dX1_leastWith_10 : decode cX1_leastWith 10 = .ok (.invokevirtual 20, 3) := by decide +kernel
theorem dX1_leastWith_13 : decode cX1_leastWith 13 = .ok (.ifCond .ne 12, 3) := by decide +kernel
theorem dX1_leastWith_16 : decode cX1_leastWith 16 = .ok (.iload_n 1, 1) := by decide +kernel
theorem dX1_leastWith_17 : decode cX1_leastWith 17 = .ok (.iload_n 2, 1) := by decide +kernel
theorem dX1_leastWith_18 : decode cX1_leastWith 18 = .ok (.if_icmp .ne 9, 3) := by decide +kernel
theorem dX1_leastWith_21 : decode cX1_leastWith 21 = .ok (.iload_n 3, 1) := by decide +kernel
theorem dX1_leastWith_22 : decode cX1_leastWith 22 = .ok (.ifCond .eq 5, 3) := by decide +kernel
theorem dX1_leastWith_25 : decode cX1_leastWith 25 = .ok (.iconst (-1), 1) := by decide +kernel
theorem dX1_leastWith_26 : decode cX1_leastWith 26 = .ok (.ireturn, 1) := by decide +kernel
theorem dX1_leastWith_27 : decode cX1_leastWith 27 = .ok (.ldc 36, 2) := by decide +kernel
theorem dX1_leastWith_29 : decode cX1_leastWith 29 = .ok (.istore 4, 2) := by decide +kernel
theorem dX1_leastWith_31 : decode cX1_leastWith 31 = .ok (.iconst 0, 1) := by decide +kernel
theorem dX1_leastWith_32 : decode cX1_leastWith 32 = .ok (.istore 5, 2) := by decide +kernel
theorem dX1_leastWith_34 : decode cX1_leastWith 34 = .ok (.iload 5, 2) := by decide +kernel
theorem dX1_leastWith_36 : decode cX1_leastWith 36 = .ok (.sipush 256, 3) := by decide +kernel
theorem dX1_leastWith_39 : decode cX1_leastWith 39 = .ok (.if_icmp .ge 65, 3) := by decide +kernel
theorem dX1_leastWith_42 : decode cX1_leastWith 42 = .ok (.iload 5, 2) := by decide +kernel
theorem dX1_leastWith_44 : decode cX1_leastWith 44 = .ok (.iload_n 1, 1) := by decide +kernel
theorem dX1_leastWith_45 : decode cX1_leastWith 45 = .ok (.ishr, 1) := by decide +kernel
theorem dX1_leastWith_46 : decode cX1_leastWith 46 = .ok (.iconst 1, 1) := by decide +kernel
theorem dX1_leastWith_47 : decode cX1_leastWith 47 = .ok (.iand, 1) := by decide +kernel
theorem dX1_leastWith_48 : decode cX1_leastWith 48 = .ok (.iload 5, 2) := by decide +kernel
theorem dX1_leastWith_50 : decode cX1_leastWith 50 = .ok (.iload_n 2, 1) := by decide +kernel
theorem dX1_leastWith_51 : decode cX1_leastWith 51 = .ok (.ishr, 1) := by decide +kernel
theorem dX1_leastWith_52 : decode cX1_leastWith 52 = .ok (.iconst 1, 1) := by decide +kernel
theorem dX1_leastWith_53 : decode cX1_leastWith 53 = .ok (.iand, 1) := by decide +kernel
theorem dX1_leastWith_54 : decode cX1_leastWith 54 = .ok (.if_icmp .eq 7, 3) := by decide +kernel
theorem dX1_leastWith_57 : decode cX1_leastWith 57 = .ok (.iconst 1, 1) := by decide +kernel
theorem dX1_leastWith_58 : decode cX1_leastWith 58 = .ok (.goto 4, 3) := by decide +kernel
theorem dX1_leastWith_61 : decode cX1_leastWith 61 = .ok (.iconst 0, 1) := by decide +kernel
theorem dX1_leastWith_62 : decode cX1_leastWith 62 = .ok (.istore 6, 2) := by decide +kernel
theorem dX1_leastWith_64 : decode cX1_leastWith 64 = .ok (.aload_n 0, 1) := by decide +kernel
theorem dX1_leastWith_65 : decode cX1_leastWith 65 = .ok (.iload 5, 2) := by decide +kernel
theorem dX1_leastWith_67 : decode cX1_leastWith 67 = .ok (.invokevirtual 37, 3) := by decide +kernel
theorem dX1_leastWith_70 : decode cX1_leastWith 70 = .ok (.ifCond .eq 28, 3) := by decide +kernel
theorem dX1_leastWith_73 : decode cX1_leastWith 73 = .ok (.iload 6, 2) := by decide +kernel
theorem dX1_leastWith_75 : decode cX1_leastWith 75 = .ok (.iload_n 3, 1) := by decide +kernel
theorem dX1_leastWith_76 : decode cX1_leastWith 76 = .ok (.if_icmp .ne 22, 3) := by decide +kernel
theorem dX1_leastWith_79 : decode cX1_leastWith 79 = .ok (.aload_n 0, 1) := by decide +kernel
theorem dX1_leastWith_80 : decode cX1_leastWith 80 = .ok (.iload 5, 2) := by decide +kernel
theorem dX1_leastWith_82 : decode cX1_leastWith 82 = .ok (.iconst 0, 1) := by decide +kernel
theorem dX1_leastWith_83 : decode cX1_leastWith 83 = .ok (.invokevirtual 40, 3) := by decide +kernel
theorem dX1_leastWith_86 : decode cX1_leastWith 86 = .ok (.istore 7, 2) := by decide +kernel
theorem dX1_leastWith_88 : decode cX1_leastWith 88 = .ok (.aload_n 0, 1) := by decide +kernel
theorem dX1_leastWith_89 : decode cX1_leastWith 89 = .ok (.iload 4, 2) := by decide +kernel
theorem dX1_leastWith_91 : decode cX1_leastWith 91 = .ok (.iload 7, 2) := by decide +kernel
theorem dX1_leastWith_93 : decode cX1_leastWith 93 = .ok (.invokevirtual 32, 3) := by decide +kernel
theorem dX1_leastWith_96 : decode cX1_leastWith 96 = .ok (.istore 4, 2) := by decide +kernel
theorem dX1_leastWith_98 : decode cX1_leastWith 98 = .ok (.iinc 5 1, 3) := by decide +kernel
theorem dX1_leastWith_101 : decode cX1_leastWith 101 = .ok (.goto (-67), 3) := by decide +kernel
theorem dX1_leastWith_104 : decode cX1_leastWith 104 = .ok (.iload 4, 2) := by decide +kernel
theorem dX1_leastWith_106 : decode cX1_leastWith 106 = .ok (.ireturn, 1) := by decide +kernel
abbrev cX1_cover : ByteArray := prog_3_method_20_code
def yX1_cover : MethodName := ⟨RX1, "cover", "(I)I"⟩
theorem dX1_cover_0 : decode cX1_cover 0 = .ok (.iload_n 1, 1) := by decide +kernel
theorem dX1_cover_1 : decode cX1_cover 1 = .ok (.ifCond .lt 9, 3) := by decide +kernel
theorem dX1_cover_4 : decode cX1_cover 4 = .ok (.iload_n 1, 1) := by decide +kernel
theorem dX1_cover_5 : decode cX1_cover 5 = .ok (.bipush 7, 2) := by decide +kernel
theorem dX1_cover_7 : decode cX1_cover 7 = .ok (.if_icmp .le 6, 3) := by decide +kernel
theorem dX1_cover_10 : decode cX1_cover 10 = .ok (.bipush (-2), 2) := by decide +kernel
theorem dX1_cover_12 : decode cX1_cover 12 = .ok (.ireturn, 1) := by decide +kernel
theorem dX1_cover_13 : decode cX1_cover 13 = .ok (.iconst 0, 1) := by decide +kernel
theorem dX1_cover_14 : decode cX1_cover 14 = .ok (.istore_n 2, 1) := by decide +kernel
theorem dX1_cover_15 : decode cX1_cover 15 = .ok (.iconst 0, 1) := by decide +kernel
theorem dX1_cover_16 : decode cX1_cover 16 = .ok (.istore_n 3, 1) := by decide +kernel
theorem dX1_cover_17 : decode cX1_cover 17 = .ok (.iload_n 3, 1) := by decide +kernel
theorem dX1_cover_18 : decode cX1_cover 18 = .ok (.aload_n 0, 1) := by decide +kernel
theorem dX1_cover_19 : decode cX1_cover 19 = .ok (.getfield 16, 3) := by decide +kernel
theorem dX1_cover_22 : decode cX1_cover 22 = .ok (.if_icmp .ge 26, 3) := by decide +kernel
theorem dX1_cover_25 : decode cX1_cover 25 = .ok (.aload_n 0, 1) := by decide +kernel
theorem dX1_cover_26 : decode cX1_cover 26 = .ok (.getfield 13, 3) := by decide +kernel
theorem dX1_cover_29 : decode cX1_cover 29 = .ok (.iload_n 3, 1) := by decide +kernel
theorem dX1_cover_30 : decode cX1_cover 30 = .ok (.bipush 8, 2) := by decide +kernel
theorem dX1_cover_32 : decode cX1_cover 32 = .ok (.imul, 1) := by decide +kernel
theorem dX1_cover_33 : decode cX1_cover 33 = .ok (.iload_n 1, 1) := by decide +kernel
theorem dX1_cover_34 : decode cX1_cover 34 = .ok (.iadd, 1) := by decide +kernel
theorem dX1_cover_35 : decode cX1_cover 35 = .ok (.iaload, 1) := by decide +kernel
theorem dX1_cover_36 : decode cX1_cover 36 = .ok (.ifCond .le 6, 3) := by decide +kernel
theorem dX1_cover_39 : decode cX1_cover 39 = .ok (.iinc 2 1, 3) := by decide +kernel
theorem dX1_cover_42 : decode cX1_cover 42 = .ok (.iinc 3 1, 3) := by decide +kernel
theorem dX1_cover_45 : decode cX1_cover 45 = .ok (.goto (-28), 3) := by decide +kernel
theorem dX1_cover_48 : decode cX1_cover 48 = .ok (.iload_n 2, 1) := by decide +kernel
theorem dX1_cover_49 : decode cX1_cover 49 = .ok (.ireturn, 1) := by decide +kernel
theorem q20 : (Jvm.Cond.initialized "ReadPhaserModel") ∈ lw_all := lw_g (lw_at lw_m0 2 rfl) rfl
theorem q163 : (Jvm.Cond.instantiable "ReadPhaserModel" (3 : Nat)) ∈ lw_all := lw_g (lw_at lw_m0 145 rfl) rfl
theorem q165 : (Jvm.Cond.instanceMethod ({ cls := "ReadPhaserModel", name := "<init>", desc := "()V" } : Jvm.MethodName)) ∈ lw_all := lw_g (lw_at lw_m0 147 rfl) rfl
theorem q166 : (Jvm.Cond.code ({ cls := "ReadPhaserModel", name := "<init>", desc := "()V" } : Jvm.MethodName) prog_3_method_1_code (1 : Nat) (Option.none : Option Jvm.ClassFile.FieldType)) ∈ lw_all := lw_g (lw_at lw_m0 148 rfl) rfl
theorem q167 : (Jvm.Cond.methodLink "ReadPhaserModel" (1 : Nat) ({ cls := "java/lang/Object", name := "<init>", desc := "()V" } : Jvm.MethodName)) ∈ lw_all := lw_g (lw_at lw_m0 149 rfl) rfl
theorem q168 : (Jvm.Cond.fieldLink "ReadPhaserModel" (16 : Nat) "ReadPhaserModel" "count" "I") ∈ lw_all := lw_g (lw_at lw_m0 150 rfl) rfl
theorem q169 : (Jvm.Cond.fieldLink "ReadPhaserModel" (7 : Nat) "ReadPhaserModel" "values" "[I") ∈ lw_all := lw_g (lw_at lw_m0 151 rfl) rfl
theorem q170 : (Jvm.Cond.fieldLink "ReadPhaserModel" (13 : Nat) "ReadPhaserModel" "trusts" "[I") ∈ lw_all := lw_g (lw_at lw_m0 152 rfl) rfl
theorem q171 : (Jvm.Cond.lays "ReadPhaserModel" "ReadPhaserModel" "count" "I") ∈ lw_all := lw_g (lw_at lw_m0 153 rfl) rfl
theorem q172 : (Jvm.Cond.soleField "ReadPhaserModel" "count") ∈ lw_all := lw_g (lw_at lw_m0 154 rfl) rfl
theorem q173 : (Jvm.Cond.laysFinal "ReadPhaserModel" "ReadPhaserModel" "values" "[I") ∈ lw_all := lw_g (lw_at lw_m0 155 rfl) rfl
theorem q174 : (Jvm.Cond.soleField "ReadPhaserModel" "values") ∈ lw_all := lw_g (lw_at lw_m0 156 rfl) rfl
theorem q175 : (Jvm.Cond.laysFinal "ReadPhaserModel" "ReadPhaserModel" "trusts" "[I") ∈ lw_all := lw_g (lw_at lw_m0 157 rfl) rfl
theorem q176 : (Jvm.Cond.soleField "ReadPhaserModel" "trusts") ∈ lw_all := lw_g (lw_at lw_m0 158 rfl) rfl
theorem q177 : (Jvm.Cond.superclass "ReadPhaserModel" "java/lang/Object") ∈ lw_all := lw_g (lw_at lw_m0 159 rfl) rfl
theorem q179 : (Jvm.Cond.instanceMethod ({ cls := "ReadPhaserModel", name := "read", desc := "()I" } : Jvm.MethodName)) ∈ lw_all := lw_g (lw_at lw_m0 161 rfl) rfl
theorem q180 : (Jvm.Cond.selects "ReadPhaserModel" ({ cls := "ReadPhaserModel", name := "read", desc := "()I" } : Jvm.MethodName) ({ cls := "ReadPhaserModel", name := "read", desc := "()I" } : Jvm.MethodName)) ∈ lw_all := lw_g (lw_at lw_m0 162 rfl) rfl
theorem q181 : (Jvm.Cond.code ({ cls := "ReadPhaserModel", name := "read", desc := "()I" } : Jvm.MethodName) prog_3_method_2_code (2 : Nat) (Option.some Jvm.ClassFile.FieldType.int)) ∈ lw_all := lw_g (lw_at lw_m0 163 rfl) rfl
theorem q183 : (Jvm.Cond.instanceMethod ({ cls := "ReadPhaserModel", name := "say", desc := "(IIII)I" } : Jvm.MethodName)) ∈ lw_all := lw_g (lw_at lw_m0 165 rfl) rfl
theorem q184 : (Jvm.Cond.selects "ReadPhaserModel" ({ cls := "ReadPhaserModel", name := "say", desc := "(IIII)I" } : Jvm.MethodName) ({ cls := "ReadPhaserModel", name := "say", desc := "(IIII)I" } : Jvm.MethodName)) ∈ lw_all := lw_g (lw_at lw_m0 166 rfl) rfl
theorem q185 : (Jvm.Cond.code ({ cls := "ReadPhaserModel", name := "say", desc := "(IIII)I" } : Jvm.MethodName) prog_3_method_4_code (6 : Nat) (Option.some Jvm.ClassFile.FieldType.int)) ∈ lw_all := lw_g (lw_at lw_m0 167 rfl) rfl
theorem q186 : (Jvm.Cond.methodLink "ReadPhaserModel" (20 : Nat) ({ cls := "ReadPhaserModel", name := "bad", desc := "(I)Z" } : Jvm.MethodName)) ∈ lw_all := lw_g (lw_at lw_m0 168 rfl) rfl
theorem q187 : (Jvm.Cond.privateMethod ({ cls := "ReadPhaserModel", name := "bad", desc := "(I)Z" } : Jvm.MethodName)) ∈ lw_tbl := lw_at lw_m0 169 rfl
theorem q188 : (Jvm.Cond.instanceMethod ({ cls := "ReadPhaserModel", name := "bad", desc := "(I)Z" } : Jvm.MethodName)) ∈ lw_all := lw_g (lw_at lw_m0 170 rfl) rfl
theorem q189 : (Jvm.Cond.code ({ cls := "ReadPhaserModel", name := "bad", desc := "(I)Z" } : Jvm.MethodName) prog_3_method_3_code (2 : Nat) (Option.some Jvm.ClassFile.FieldType.boolean)) ∈ lw_all := lw_g (lw_at lw_m0 171 rfl) rfl
theorem q191 : (Jvm.Cond.instanceMethod ({ cls := "ReadPhaserModel", name := "stretch", desc := "(III)I" } : Jvm.MethodName)) ∈ lw_all := lw_g (lw_at lw_m0 173 rfl) rfl
theorem q192 : (Jvm.Cond.selects "ReadPhaserModel" ({ cls := "ReadPhaserModel", name := "stretch", desc := "(III)I" } : Jvm.MethodName) ({ cls := "ReadPhaserModel", name := "stretch", desc := "(III)I" } : Jvm.MethodName)) ∈ lw_all := lw_g (lw_at lw_m0 174 rfl) rfl
theorem q193 : (Jvm.Cond.code ({ cls := "ReadPhaserModel", name := "stretch", desc := "(III)I" } : Jvm.MethodName) prog_3_method_5_code (8 : Nat) (Option.some Jvm.ClassFile.FieldType.int)) ∈ lw_all := lw_g (lw_at lw_m0 175 rfl) rfl
theorem q194 : (Jvm.Cond.methodLink "ReadPhaserModel" (24 : Nat) ({ cls := "ReadPhaserModel", name := "read", desc := "()I" } : Jvm.MethodName)) ∈ lw_all := lw_g (lw_at lw_m0 176 rfl) rfl
theorem q196 : (Jvm.Cond.instanceMethod ({ cls := "ReadPhaserModel", name := "drop", desc := "()I" } : Jvm.MethodName)) ∈ lw_all := lw_g (lw_at lw_m0 178 rfl) rfl
theorem q197 : (Jvm.Cond.selects "ReadPhaserModel" ({ cls := "ReadPhaserModel", name := "drop", desc := "()I" } : Jvm.MethodName) ({ cls := "ReadPhaserModel", name := "drop", desc := "()I" } : Jvm.MethodName)) ∈ lw_all := lw_g (lw_at lw_m0 179 rfl) rfl
theorem q198 : (Jvm.Cond.code ({ cls := "ReadPhaserModel", name := "drop", desc := "()I" } : Jvm.MethodName) prog_3_method_6_code (1 : Nat) (Option.some Jvm.ClassFile.FieldType.int)) ∈ lw_all := lw_g (lw_at lw_m0 180 rfl) rfl
theorem q200 : (Jvm.Cond.instanceMethod ({ cls := "ReadPhaserModel", name := "least", desc := "()I" } : Jvm.MethodName)) ∈ lw_all := lw_g (lw_at lw_m0 182 rfl) rfl
theorem q201 : (Jvm.Cond.selects "ReadPhaserModel" ({ cls := "ReadPhaserModel", name := "least", desc := "()I" } : Jvm.MethodName) ({ cls := "ReadPhaserModel", name := "least", desc := "()I" } : Jvm.MethodName)) ∈ lw_all := lw_g (lw_at lw_m0 183 rfl) rfl
theorem q202 : (Jvm.Cond.code ({ cls := "ReadPhaserModel", name := "least", desc := "()I" } : Jvm.MethodName) prog_3_method_13_code (1 : Nat) (Option.some Jvm.ClassFile.FieldType.int)) ∈ lw_all := lw_g (lw_at lw_m0 184 rfl) rfl
theorem q203 : (Jvm.Cond.methodLink "ReadPhaserModel" (44 : Nat) ({ cls := "ReadPhaserModel", name := "best", desc := "(Z)I" } : Jvm.MethodName)) ∈ lw_all := lw_g (lw_at lw_m0 185 rfl) rfl
theorem q204 : (Jvm.Cond.privateMethod ({ cls := "ReadPhaserModel", name := "best", desc := "(Z)I" } : Jvm.MethodName)) ∈ lw_tbl := lw_at lw_m0 186 rfl
theorem q205 : (Jvm.Cond.instanceMethod ({ cls := "ReadPhaserModel", name := "best", desc := "(Z)I" } : Jvm.MethodName)) ∈ lw_all := lw_g (lw_at lw_m0 187 rfl) rfl
theorem q206 : (Jvm.Cond.code ({ cls := "ReadPhaserModel", name := "best", desc := "(Z)I" } : Jvm.MethodName) prog_3_method_11_code (5 : Nat) (Option.some Jvm.ClassFile.FieldType.int)) ∈ lw_all := lw_g (lw_at lw_m0 188 rfl) rfl
theorem q207 : (Jvm.Cond.constant "ReadPhaserModel" (36 : Nat) (100000 : Int32)) ∈ lw_all := lw_g (lw_at lw_m0 189 rfl) rfl
theorem q208 : (Jvm.Cond.methodLink "ReadPhaserModel" (37 : Nat) ({ cls := "ReadPhaserModel", name := "isSorting", desc := "(I)Z" } : Jvm.MethodName)) ∈ lw_all := lw_g (lw_at lw_m0 190 rfl) rfl
theorem q209 : (Jvm.Cond.privateMethod ({ cls := "ReadPhaserModel", name := "isSorting", desc := "(I)Z" } : Jvm.MethodName)) ∈ lw_tbl := lw_at lw_m0 191 rfl
theorem q210 : (Jvm.Cond.instanceMethod ({ cls := "ReadPhaserModel", name := "isSorting", desc := "(I)Z" } : Jvm.MethodName)) ∈ lw_all := lw_g (lw_at lw_m0 192 rfl) rfl
theorem q211 : (Jvm.Cond.code ({ cls := "ReadPhaserModel", name := "isSorting", desc := "(I)Z" } : Jvm.MethodName) prog_3_method_10_code (2 : Nat) (Option.some Jvm.ClassFile.FieldType.boolean)) ∈ lw_all := lw_g (lw_at lw_m0 193 rfl) rfl
theorem q212 : (Jvm.Cond.methodLink "ReadPhaserModel" (40 : Nat) ({ cls := "ReadPhaserModel", name := "cost", desc := "(IZ)I" } : Jvm.MethodName)) ∈ lw_all := lw_g (lw_at lw_m0 194 rfl) rfl
theorem q213 : (Jvm.Cond.privateMethod ({ cls := "ReadPhaserModel", name := "cost", desc := "(IZ)I" } : Jvm.MethodName)) ∈ lw_tbl := lw_at lw_m0 195 rfl
theorem q214 : (Jvm.Cond.instanceMethod ({ cls := "ReadPhaserModel", name := "cost", desc := "(IZ)I" } : Jvm.MethodName)) ∈ lw_all := lw_g (lw_at lw_m0 196 rfl) rfl
theorem q215 : (Jvm.Cond.code ({ cls := "ReadPhaserModel", name := "cost", desc := "(IZ)I" } : Jvm.MethodName) prog_3_method_9_code (10 : Nat) (Option.some Jvm.ClassFile.FieldType.int)) ∈ lw_all := lw_g (lw_at lw_m0 197 rfl) rfl
theorem q216 : (Jvm.Cond.methodLink "ReadPhaserModel" (28 : Nat) ({ cls := "ReadPhaserModel", name := "trust", desc := "(IIII)I" } : Jvm.MethodName)) ∈ lw_all := lw_g (lw_at lw_m0 198 rfl) rfl
theorem q217 : (Jvm.Cond.privateMethod ({ cls := "ReadPhaserModel", name := "trust", desc := "(IIII)I" } : Jvm.MethodName)) ∈ lw_tbl := lw_at lw_m0 199 rfl
theorem q218 : (Jvm.Cond.instanceMethod ({ cls := "ReadPhaserModel", name := "trust", desc := "(IIII)I" } : Jvm.MethodName)) ∈ lw_all := lw_g (lw_at lw_m0 200 rfl) rfl
theorem q219 : (Jvm.Cond.code ({ cls := "ReadPhaserModel", name := "trust", desc := "(IIII)I" } : Jvm.MethodName) prog_3_method_7_code (8 : Nat) (Option.some Jvm.ClassFile.FieldType.int)) ∈ lw_all := lw_g (lw_at lw_m0 201 rfl) rfl
theorem q220 : (Jvm.Cond.methodLink "ReadPhaserModel" (32 : Nat) ({ cls := "ReadPhaserModel", name := "smaller", desc := "(II)I" } : Jvm.MethodName)) ∈ lw_all := lw_g (lw_at lw_m0 202 rfl) rfl
theorem q221 : (Jvm.Cond.privateMethod ({ cls := "ReadPhaserModel", name := "smaller", desc := "(II)I" } : Jvm.MethodName)) ∈ lw_tbl := lw_at lw_m0 203 rfl
theorem q222 : (Jvm.Cond.instanceMethod ({ cls := "ReadPhaserModel", name := "smaller", desc := "(II)I" } : Jvm.MethodName)) ∈ lw_all := lw_g (lw_at lw_m0 204 rfl) rfl
theorem q223 : (Jvm.Cond.code ({ cls := "ReadPhaserModel", name := "smaller", desc := "(II)I" } : Jvm.MethodName) prog_3_method_8_code (3 : Nat) (Option.some Jvm.ClassFile.FieldType.int)) ∈ lw_all := lw_g (lw_at lw_m0 205 rfl) rfl
theorem q225 : (Jvm.Cond.instanceMethod ({ cls := "ReadPhaserModel", name := "sorting", desc := "()I" } : Jvm.MethodName)) ∈ lw_all := lw_g (lw_at lw_m0 207 rfl) rfl
theorem q226 : (Jvm.Cond.selects "ReadPhaserModel" ({ cls := "ReadPhaserModel", name := "sorting", desc := "()I" } : Jvm.MethodName) ({ cls := "ReadPhaserModel", name := "sorting", desc := "()I" } : Jvm.MethodName)) ∈ lw_all := lw_g (lw_at lw_m0 208 rfl) rfl
theorem q227 : (Jvm.Cond.code ({ cls := "ReadPhaserModel", name := "sorting", desc := "()I" } : Jvm.MethodName) prog_3_method_14_code (1 : Nat) (Option.some Jvm.ClassFile.FieldType.int)) ∈ lw_all := lw_g (lw_at lw_m0 209 rfl) rfl
theorem q228 : (Jvm.Cond.methodLink "ReadPhaserModel" (48 : Nat) ({ cls := "ReadPhaserModel", name := "first", desc := "(Z)I" } : Jvm.MethodName)) ∈ lw_all := lw_g (lw_at lw_m0 210 rfl) rfl
theorem q229 : (Jvm.Cond.privateMethod ({ cls := "ReadPhaserModel", name := "first", desc := "(Z)I" } : Jvm.MethodName)) ∈ lw_tbl := lw_at lw_m0 211 rfl
theorem q230 : (Jvm.Cond.instanceMethod ({ cls := "ReadPhaserModel", name := "first", desc := "(Z)I" } : Jvm.MethodName)) ∈ lw_all := lw_g (lw_at lw_m0 212 rfl) rfl
theorem q231 : (Jvm.Cond.code ({ cls := "ReadPhaserModel", name := "first", desc := "(Z)I" } : Jvm.MethodName) prog_3_method_12_code (4 : Nat) (Option.some Jvm.ClassFile.FieldType.int)) ∈ lw_all := lw_g (lw_at lw_m0 213 rfl) rfl
theorem q233 : (Jvm.Cond.instanceMethod ({ cls := "ReadPhaserModel", name := "ties", desc := "()I" } : Jvm.MethodName)) ∈ lw_all := lw_g (lw_at lw_m0 215 rfl) rfl
theorem q234 : (Jvm.Cond.selects "ReadPhaserModel" ({ cls := "ReadPhaserModel", name := "ties", desc := "()I" } : Jvm.MethodName) ({ cls := "ReadPhaserModel", name := "ties", desc := "()I" } : Jvm.MethodName)) ∈ lw_all := lw_g (lw_at lw_m0 216 rfl) rfl
theorem q235 : (Jvm.Cond.code ({ cls := "ReadPhaserModel", name := "ties", desc := "()I" } : Jvm.MethodName) prog_3_method_15_code (4 : Nat) (Option.some Jvm.ClassFile.FieldType.int)) ∈ lw_all := lw_g (lw_at lw_m0 217 rfl) rfl
theorem q237 : (Jvm.Cond.instanceMethod ({ cls := "ReadPhaserModel", name := "costOf", desc := "(I)I" } : Jvm.MethodName)) ∈ lw_all := lw_g (lw_at lw_m0 219 rfl) rfl
theorem q238 : (Jvm.Cond.selects "ReadPhaserModel" ({ cls := "ReadPhaserModel", name := "costOf", desc := "(I)I" } : Jvm.MethodName) ({ cls := "ReadPhaserModel", name := "costOf", desc := "(I)I" } : Jvm.MethodName)) ∈ lw_all := lw_g (lw_at lw_m0 220 rfl) rfl
theorem q239 : (Jvm.Cond.code ({ cls := "ReadPhaserModel", name := "costOf", desc := "(I)I" } : Jvm.MethodName) prog_3_method_16_code (3 : Nat) (Option.some Jvm.ClassFile.FieldType.int)) ∈ lw_all := lw_g (lw_at lw_m0 221 rfl) rfl
theorem q241 : (Jvm.Cond.instanceMethod ({ cls := "ReadPhaserModel", name := "leastForced", desc := "()I" } : Jvm.MethodName)) ∈ lw_all := lw_g (lw_at lw_m0 223 rfl) rfl
theorem q242 : (Jvm.Cond.selects "ReadPhaserModel" ({ cls := "ReadPhaserModel", name := "leastForced", desc := "()I" } : Jvm.MethodName) ({ cls := "ReadPhaserModel", name := "leastForced", desc := "()I" } : Jvm.MethodName)) ∈ lw_all := lw_g (lw_at lw_m0 224 rfl) rfl
theorem q243 : (Jvm.Cond.code ({ cls := "ReadPhaserModel", name := "leastForced", desc := "()I" } : Jvm.MethodName) prog_3_method_17_code (1 : Nat) (Option.some Jvm.ClassFile.FieldType.int)) ∈ lw_all := lw_g (lw_at lw_m0 225 rfl) rfl
theorem q245 : (Jvm.Cond.instanceMethod ({ cls := "ReadPhaserModel", name := "sortingForced", desc := "()I" } : Jvm.MethodName)) ∈ lw_all := lw_g (lw_at lw_m0 227 rfl) rfl
theorem q246 : (Jvm.Cond.selects "ReadPhaserModel" ({ cls := "ReadPhaserModel", name := "sortingForced", desc := "()I" } : Jvm.MethodName) ({ cls := "ReadPhaserModel", name := "sortingForced", desc := "()I" } : Jvm.MethodName)) ∈ lw_all := lw_g (lw_at lw_m0 228 rfl) rfl
theorem q247 : (Jvm.Cond.code ({ cls := "ReadPhaserModel", name := "sortingForced", desc := "()I" } : Jvm.MethodName) prog_3_method_18_code (1 : Nat) (Option.some Jvm.ClassFile.FieldType.int)) ∈ lw_all := lw_g (lw_at lw_m0 229 rfl) rfl
theorem q249 : (Jvm.Cond.instanceMethod ({ cls := "ReadPhaserModel", name := "leastWith", desc := "(IIZ)I" } : Jvm.MethodName)) ∈ lw_all := lw_g (lw_at lw_m0 231 rfl) rfl
theorem q250 : (Jvm.Cond.selects "ReadPhaserModel" ({ cls := "ReadPhaserModel", name := "leastWith", desc := "(IIZ)I" } : Jvm.MethodName) ({ cls := "ReadPhaserModel", name := "leastWith", desc := "(IIZ)I" } : Jvm.MethodName)) ∈ lw_all := lw_g (lw_at lw_m0 232 rfl) rfl
theorem q251 : (Jvm.Cond.code ({ cls := "ReadPhaserModel", name := "leastWith", desc := "(IIZ)I" } : Jvm.MethodName) prog_3_method_19_code (8 : Nat) (Option.some Jvm.ClassFile.FieldType.int)) ∈ lw_all := lw_g (lw_at lw_m0 233 rfl) rfl
theorem q253 : (Jvm.Cond.instanceMethod ({ cls := "ReadPhaserModel", name := "cover", desc := "(I)I" } : Jvm.MethodName)) ∈ lw_all := lw_g (lw_at lw_m0 235 rfl) rfl
theorem q254 : (Jvm.Cond.selects "ReadPhaserModel" ({ cls := "ReadPhaserModel", name := "cover", desc := "(I)I" } : Jvm.MethodName) ({ cls := "ReadPhaserModel", name := "cover", desc := "(I)I" } : Jvm.MethodName)) ∈ lw_all := lw_g (lw_at lw_m0 236 rfl) rfl
theorem q255 : (Jvm.Cond.code ({ cls := "ReadPhaserModel", name := "cover", desc := "(I)I" } : Jvm.MethodName) prog_3_method_20_code (4 : Nat) (Option.some Jvm.ClassFile.FieldType.int)) ∈ lw_all := lw_g (lw_at lw_m0 237 rfl) rfl
theorem in_X1 : ∀ w ∈ wsX10, w ∈ lw_all := lw_in wsX10 [171, 173, 175] (by decide +kernel) (by decide +kernel)
end
section
/-! the law's own entry -/
set_option maxRecDepth 100000
abbrev cL_law : ByteArray := code
theorem dL_law_0 : decode cL_law 0 = .ok (.new 7, 3) := by decide +kernel
theorem dL_law_3 : decode cL_law 3 = .ok (.dup, 1) := by decide +kernel
theorem dL_law_4 : decode cL_law 4 = .ok (.invokespecial 9, 3) := by decide +kernel
theorem dL_law_7 : decode cL_law 7 = .ok (.astore_n 1, 1) := by decide +kernel
theorem dL_law_8 : decode cL_law 8 = .ok (.new 10, 3) := by decide +kernel
theorem dL_law_11 : decode cL_law 11 = .ok (.dup, 1) := by decide +kernel
theorem dL_law_12 : decode cL_law 12 = .ok (.invokespecial 12, 3) := by decide +kernel
theorem dL_law_15 : decode cL_law 15 = .ok (.astore_n 2, 1) := by decide +kernel
theorem dL_law_16 : decode cL_law 16 = .ok (.iconst 0, 1) := by decide +kernel
theorem dL_law_17 : decode cL_law 17 = .ok (.istore_n 3, 1) := by decide +kernel
theorem dL_law_18 : decode cL_law 18 = .ok (.iload_n 3, 1) := by decide +kernel
theorem dL_law_19 : decode cL_law 19 = .ok (.aload_n 0, 1) := by decide +kernel
theorem dL_law_20 : decode cL_law 20 = .ok (.arraylength, 1) := by decide +kernel
theorem dL_law_21 : decode cL_law 21 = .ok (.iconst 5, 1) := by decide +kernel
theorem dL_law_22 : decode cL_law 22 = .ok (.isub, 1) := by decide +kernel
theorem dL_law_23 : decode cL_law 23 = .ok (.if_icmp .gt 371, 3) := by decide +kernel
theorem dL_law_26 : decode cL_law 26 = .ok (.aload_n 0, 1) := by decide +kernel
theorem dL_law_27 : decode cL_law 27 = .ok (.iload_n 3, 1) := by decide +kernel
theorem dL_law_28 : decode cL_law 28 = .ok (.iaload, 1) := by decide +kernel
theorem dL_law_29 : decode cL_law 29 = .ok (.bipush 15, 2) := by decide +kernel
theorem dL_law_31 : decode cL_law 31 = .ok (.iand, 1) := by decide +kernel
theorem dL_law_32 : decode cL_law 32 = .ok (.tableswitch 356 0 11 #[64, 77, 130, 173, 186, 199, 212, 225, 248, 261, 274, 333], 64) := by decide +kernel
theorem dL_law_96 : decode cL_law 96 = .ok (.aload_n 1, 1) := by decide +kernel
theorem dL_law_97 : decode cL_law 97 = .ok (.invokevirtual 13, 3) := by decide +kernel
theorem dL_law_100 : decode cL_law 100 = .ok (.aload_n 2, 1) := by decide +kernel
theorem dL_law_101 : decode cL_law 101 = .ok (.invokevirtual 17, 3) := by decide +kernel
theorem dL_law_104 : decode cL_law 104 = .ok (.if_icmp .eq 284, 3) := by decide +kernel
theorem dL_law_107 : decode cL_law 107 = .ok (.iconst 0, 1) := by decide +kernel
theorem dL_law_108 : decode cL_law 108 = .ok (.ireturn, 1) := by decide +kernel
theorem dL_law_109 : decode cL_law 109 = .ok (.aload_n 1, 1) := by decide +kernel
theorem dL_law_110 : decode cL_law 110 = .ok (.aload_n 0, 1) := by decide +kernel
theorem dL_law_111 : decode cL_law 111 = .ok (.iload_n 3, 1) := by decide +kernel
theorem dL_law_112 : decode cL_law 112 = .ok (.iconst 1, 1) := by decide +kernel
theorem dL_law_113 : decode cL_law 113 = .ok (.iadd, 1) := by decide +kernel
theorem dL_law_114 : decode cL_law 114 = .ok (.iaload, 1) := by decide +kernel
theorem dL_law_115 : decode cL_law 115 = .ok (.aload_n 0, 1) := by decide +kernel
theorem dL_law_116 : decode cL_law 116 = .ok (.iload_n 3, 1) := by decide +kernel
theorem dL_law_117 : decode cL_law 117 = .ok (.iconst 2, 1) := by decide +kernel
theorem dL_law_118 : decode cL_law 118 = .ok (.iadd, 1) := by decide +kernel
theorem dL_law_119 : decode cL_law 119 = .ok (.iaload, 1) := by decide +kernel
theorem dL_law_120 : decode cL_law 120 = .ok (.aload_n 0, 1) := by decide +kernel
theorem dL_law_121 : decode cL_law 121 = .ok (.iload_n 3, 1) := by decide +kernel
theorem dL_law_122 : decode cL_law 122 = .ok (.iconst 3, 1) := by decide +kernel
theorem dL_law_123 : decode cL_law 123 = .ok (.iadd, 1) := by decide +kernel
theorem dL_law_124 : decode cL_law 124 = .ok (.iaload, 1) := by decide +kernel
theorem dL_law_125 : decode cL_law 125 = .ok (.aload_n 0, 1) := by decide +kernel
theorem dL_law_126 : decode cL_law 126 = .ok (.iload_n 3, 1) := by decide +kernel
theorem dL_law_127 : decode cL_law 127 = .ok (.iconst 4, 1) := by decide +kernel
theorem dL_law_128 : decode cL_law 128 = .ok (.iadd, 1) := by decide +kernel
theorem dL_law_129 : decode cL_law 129 = .ok (.iaload, 1) := by decide +kernel
theorem dL_law_130 : decode cL_law 130 = .ok (.invokevirtual 18, 3) := by decide +kernel
theorem dL_law_133 : decode cL_law 133 = .ok (.aload_n 2, 1) := by decide +kernel
theorem dL_law_134 : decode cL_law 134 = .ok (.aload_n 0, 1) := by decide +kernel
theorem dL_law_135 : decode cL_law 135 = .ok (.iload_n 3, 1) := by decide +kernel
theorem dL_law_136 : decode cL_law 136 = .ok (.iconst 1, 1) := by decide +kernel
theorem dL_law_137 : decode cL_law 137 = .ok (.iadd, 1) := by decide +kernel
theorem dL_law_138 : decode cL_law 138 = .ok (.iaload, 1) := by decide +kernel
theorem dL_law_139 : decode cL_law 139 = .ok (.aload_n 0, 1) := by decide +kernel
theorem dL_law_140 : decode cL_law 140 = .ok (.iload_n 3, 1) := by decide +kernel
theorem dL_law_141 : decode cL_law 141 = .ok (.iconst 2, 1) := by decide +kernel
theorem dL_law_142 : decode cL_law 142 = .ok (.iadd, 1) := by decide +kernel
theorem dL_law_143 : decode cL_law 143 = .ok (.iaload, 1) := by decide +kernel
theorem dL_law_144 : decode cL_law 144 = .ok (.aload_n 0, 1) := by decide +kernel
theorem dL_law_145 : decode cL_law 145 = .ok (.iload_n 3, 1) := by decide +kernel
theorem dL_law_146 : decode cL_law 146 = .ok (.iconst 3, 1) := by decide +kernel
theorem dL_law_147 : decode cL_law 147 = .ok (.iadd, 1) := by decide +kernel
theorem dL_law_148 : decode cL_law 148 = .ok (.iaload, 1) := by decide +kernel
theorem dL_law_149 : decode cL_law 149 = .ok (.aload_n 0, 1) := by decide +kernel
theorem dL_law_150 : decode cL_law 150 = .ok (.iload_n 3, 1) := by decide +kernel
theorem dL_law_151 : decode cL_law 151 = .ok (.iconst 4, 1) := by decide +kernel
theorem dL_law_152 : decode cL_law 152 = .ok (.iadd, 1) := by decide +kernel
theorem dL_law_153 : decode cL_law 153 = .ok (.iaload, 1) := by decide +kernel
theorem dL_law_154 : decode cL_law 154 = .ok (.invokevirtual 22, 3) := by decide +kernel
theorem dL_law_157 : decode cL_law 157 = .ok (.if_icmp .eq 231, 3) := by decide +kernel
theorem dL_law_160 : decode cL_law 160 = .ok (.iconst 0, 1) := by decide +kernel
theorem dL_law_161 : decode cL_law 161 = .ok (.ireturn, 1) := by decide +kernel
theorem dL_law_162 : decode cL_law 162 = .ok (.aload_n 1, 1) := by decide +kernel
theorem dL_law_163 : decode cL_law 163 = .ok (.aload_n 0, 1) := by decide +kernel
theorem dL_law_164 : decode cL_law 164 = .ok (.iload_n 3, 1) := by decide +kernel
theorem dL_law_165 : decode cL_law 165 = .ok (.iconst 1, 1) := by decide +kernel
theorem dL_law_166 : decode cL_law 166 = .ok (.iadd, 1) := by decide +kernel
theorem dL_law_167 : decode cL_law 167 = .ok (.iaload, 1) := by decide +kernel
theorem dL_law_168 : decode cL_law 168 = .ok (.aload_n 0, 1) := by decide +kernel
theorem dL_law_169 : decode cL_law 169 = .ok (.iload_n 3, 1) := by decide +kernel
theorem dL_law_170 : decode cL_law 170 = .ok (.iconst 2, 1) := by decide +kernel
theorem dL_law_171 : decode cL_law 171 = .ok (.iadd, 1) := by decide +kernel
theorem dL_law_172 : decode cL_law 172 = .ok (.iaload, 1) := by decide +kernel
theorem dL_law_173 : decode cL_law 173 = .ok (.aload_n 0, 1) := by decide +kernel
theorem dL_law_174 : decode cL_law 174 = .ok (.iload_n 3, 1) := by decide +kernel
theorem dL_law_175 : decode cL_law 175 = .ok (.iconst 3, 1) := by decide +kernel
theorem dL_law_176 : decode cL_law 176 = .ok (.iadd, 1) := by decide +kernel
theorem dL_law_177 : decode cL_law 177 = .ok (.iaload, 1) := by decide +kernel
theorem dL_law_178 : decode cL_law 178 = .ok (.invokevirtual 23, 3) := by decide +kernel
theorem dL_law_181 : decode cL_law 181 = .ok (.aload_n 2, 1) := by decide +kernel
theorem dL_law_182 : decode cL_law 182 = .ok (.aload_n 0, 1) := by decide +kernel
theorem dL_law_183 : decode cL_law 183 = .ok (.iload_n 3, 1) := by decide +kernel
theorem dL_law_184 : decode cL_law 184 = .ok (.iconst 1, 1) := by decide +kernel
theorem dL_law_185 : decode cL_law 185 = .ok (.iadd, 1) := by decide +kernel
theorem dL_law_186 : decode cL_law 186 = .ok (.iaload, 1) := by decide +kernel
theorem dL_law_187 : decode cL_law 187 = .ok (.aload_n 0, 1) := by decide +kernel
theorem dL_law_188 : decode cL_law 188 = .ok (.iload_n 3, 1) := by decide +kernel
theorem dL_law_189 : decode cL_law 189 = .ok (.iconst 2, 1) := by decide +kernel
theorem dL_law_190 : decode cL_law 190 = .ok (.iadd, 1) := by decide +kernel
theorem dL_law_191 : decode cL_law 191 = .ok (.iaload, 1) := by decide +kernel
theorem dL_law_192 : decode cL_law 192 = .ok (.aload_n 0, 1) := by decide +kernel
theorem dL_law_193 : decode cL_law 193 = .ok (.iload_n 3, 1) := by decide +kernel
theorem dL_law_194 : decode cL_law 194 = .ok (.iconst 3, 1) := by decide +kernel
theorem dL_law_195 : decode cL_law 195 = .ok (.iadd, 1) := by decide +kernel
theorem dL_law_196 : decode cL_law 196 = .ok (.iaload, 1) := by decide +kernel
theorem dL_law_197 : decode cL_law 197 = .ok (.invokevirtual 27, 3) := by decide +kernel
theorem dL_law_200 : decode cL_law 200 = .ok (.if_icmp .eq 188, 3) := by decide +kernel
theorem dL_law_203 : decode cL_law 203 = .ok (.iconst 0, 1) := by decide +kernel
theorem dL_law_204 : decode cL_law 204 = .ok (.ireturn, 1) := by decide +kernel
theorem dL_law_205 : decode cL_law 205 = .ok (.aload_n 1, 1) := by decide +kernel
theorem dL_law_206 : decode cL_law 206 = .ok (.invokevirtual 28, 3) := by decide +kernel
theorem dL_law_209 : decode cL_law 209 = .ok (.aload_n 2, 1) := by decide +kernel
theorem dL_law_210 : decode cL_law 210 = .ok (.invokevirtual 31, 3) := by decide +kernel
theorem dL_law_213 : decode cL_law 213 = .ok (.if_icmp .eq 175, 3) := by decide +kernel
theorem dL_law_216 : decode cL_law 216 = .ok (.iconst 0, 1) := by decide +kernel
theorem dL_law_217 : decode cL_law 217 = .ok (.ireturn, 1) := by decide +kernel
theorem dL_law_218 : decode cL_law 218 = .ok (.aload_n 1, 1) := by decide +kernel
theorem dL_law_219 : decode cL_law 219 = .ok (.invokevirtual 32, 3) := by decide +kernel
theorem dL_law_222 : decode cL_law 222 = .ok (.aload_n 2, 1) := by decide +kernel
theorem dL_law_223 : decode cL_law 223 = .ok (.invokevirtual 35, 3) := by decide +kernel
theorem dL_law_226 : decode cL_law 226 = .ok (.if_icmp .eq 162, 3) := by decide +kernel
theorem dL_law_229 : decode cL_law 229 = .ok (.iconst 0, 1) := by decide +kernel
theorem dL_law_230 : decode cL_law 230 = .ok (.ireturn, 1) := by decide +kernel
theorem dL_law_231 : decode cL_law 231 = .ok (.aload_n 1, 1) := by decide +kernel
theorem dL_law_232 : decode cL_law 232 = .ok (.invokevirtual 36, 3) := by decide +kernel
theorem dL_law_235 : decode cL_law 235 = .ok (.aload_n 2, 1) := by decide +kernel
theorem dL_law_236 : decode cL_law 236 = .ok (.invokevirtual 39, 3) := by decide +kernel
theorem dL_law_239 : decode cL_law 239 = .ok (.if_icmp .eq 149, 3) := by decide +kernel
theorem dL_law_242 : decode cL_law 242 = .ok (.iconst 0, 1) := by decide +kernel
theorem dL_law_243 : decode cL_law 243 = .ok (.ireturn, 1) := by decide +kernel
theorem dL_law_244 : decode cL_law 244 = .ok (.aload_n 1, 1) := by decide +kernel
theorem dL_law_245 : decode cL_law 245 = .ok (.invokevirtual 40, 3) := by decide +kernel
theorem dL_law_248 : decode cL_law 248 = .ok (.aload_n 2, 1) := by decide +kernel
theorem dL_law_249 : decode cL_law 249 = .ok (.invokevirtual 43, 3) := by decide +kernel
theorem dL_law_252 : decode cL_law 252 = .ok (.if_icmp .eq 136, 3) := by decide +kernel
theorem dL_law_255 : decode cL_law 255 = .ok (.iconst 0, 1) := by decide +kernel
theorem dL_law_256 : decode cL_law 256 = .ok (.ireturn, 1) := by decide +kernel
theorem dL_law_257 : decode cL_law 257 = .ok (.aload_n 1, 1) := by decide +kernel
theorem dL_law_258 : decode cL_law 258 = .ok (.aload_n 0, 1) := by decide +kernel
theorem dL_law_259 : decode cL_law 259 = .ok (.iload_n 3, 1) := by decide +kernel
theorem dL_law_260 : decode cL_law 260 = .ok (.iconst 1, 1) := by decide +kernel
theorem dL_law_261 : decode cL_law 261 = .ok (.iadd, 1) := by decide +kernel
theorem dL_law_262 : decode cL_law 262 = .ok (.iaload, 1) := by decide +kernel
theorem dL_law_263 : decode cL_law 263 = .ok (.invokevirtual 44, 3) := by decide +kernel
theorem dL_law_266 : decode cL_law 266 = .ok (.aload_n 2, 1) := by decide +kernel
theorem dL_law_267 : decode cL_law 267 = .ok (.aload_n 0, 1) := by decide +kernel
theorem dL_law_268 : decode cL_law 268 = .ok (.iload_n 3, 1) := by decide +kernel
theorem dL_law_269 : decode cL_law 269 = .ok (.iconst 1, 1) := by decide +kernel
theorem dL_law_270 : decode cL_law 270 = .ok (.iadd, 1) := by decide +kernel
theorem dL_law_271 : decode cL_law 271 = .ok (.iaload, 1) := by decide +kernel
theorem dL_law_272 : decode cL_law 272 = .ok (.invokevirtual 48, 3) := by decide +kernel
theorem dL_law_275 : decode cL_law 275 = .ok (.if_icmp .eq 113, 3) := by decide +kernel
theorem dL_law_278 : decode cL_law 278 = .ok (.iconst 0, 1) := by decide +kernel
theorem dL_law_279 : decode cL_law 279 = .ok (.ireturn, 1) := by decide +kernel
theorem dL_law_280 : decode cL_law 280 = .ok (.aload_n 1, 1) := by decide +kernel
theorem dL_law_281 : decode cL_law 281 = .ok (.invokevirtual 49, 3) := by decide +kernel
theorem dL_law_284 : decode cL_law 284 = .ok (.aload_n 2, 1) := by decide +kernel
theorem dL_law_285 : decode cL_law 285 = .ok (.invokevirtual 52, 3) := by decide +kernel
theorem dL_law_288 : decode cL_law 288 = .ok (.if_icmp .eq 100, 3) := by decide +kernel
theorem dL_law_291 : decode cL_law 291 = .ok (.iconst 0, 1) := by decide +kernel
theorem dL_law_292 : decode cL_law 292 = .ok (.ireturn, 1) := by decide +kernel
theorem dL_law_293 : decode cL_law 293 = .ok (.aload_n 1, 1) := by decide +kernel
theorem dL_law_294 : decode cL_law 294 = .ok (.invokevirtual 53, 3) := by decide +kernel
theorem dL_law_297 : decode cL_law 297 = .ok (.aload_n 2, 1) := by decide +kernel
theorem dL_law_298 : decode cL_law 298 = .ok (.invokevirtual 56, 3) := by decide +kernel
theorem dL_law_301 : decode cL_law 301 = .ok (.if_icmp .eq 87, 3) := by decide +kernel
theorem dL_law_304 : decode cL_law 304 = .ok (.iconst 0, 1) := by decide +kernel
theorem dL_law_305 : decode cL_law 305 = .ok (.ireturn, 1) := by decide +kernel
theorem dL_law_306 : decode cL_law 306 = .ok (.aload_n 1, 1) := by decide +kernel
theorem dL_law_307 : decode cL_law 307 = .ok (.aload_n 0, 1) := by decide +kernel
theorem dL_law_308 : decode cL_law 308 = .ok (.iload_n 3, 1) := by decide +kernel
theorem dL_law_309 : decode cL_law 309 = .ok (.iconst 1, 1) := by decide +kernel
theorem dL_law_310 : decode cL_law 310 = .ok (.iadd, 1) := by decide +kernel
theorem dL_law_311 : decode cL_law 311 = .ok (.iaload, 1) := by decide +kernel
theorem dL_law_312 : decode cL_law 312 = .ok (.aload_n 0, 1) := by decide +kernel
theorem dL_law_313 : decode cL_law 313 = .ok (.iload_n 3, 1) := by decide +kernel
theorem dL_law_314 : decode cL_law 314 = .ok (.iconst 2, 1) := by decide +kernel
theorem dL_law_315 : decode cL_law 315 = .ok (.iadd, 1) := by decide +kernel
theorem dL_law_316 : decode cL_law 316 = .ok (.iaload, 1) := by decide +kernel
theorem dL_law_317 : decode cL_law 317 = .ok (.aload_n 0, 1) := by decide +kernel
theorem dL_law_318 : decode cL_law 318 = .ok (.iload_n 3, 1) := by decide +kernel
theorem dL_law_319 : decode cL_law 319 = .ok (.iconst 3, 1) := by decide +kernel
theorem dL_law_320 : decode cL_law 320 = .ok (.iadd, 1) := by decide +kernel
theorem dL_law_321 : decode cL_law 321 = .ok (.iaload, 1) := by decide +kernel
theorem dL_law_322 : decode cL_law 322 = .ok (.ifCond .eq 7, 3) := by decide +kernel
theorem dL_law_325 : decode cL_law 325 = .ok (.iconst 1, 1) := by decide +kernel
theorem dL_law_326 : decode cL_law 326 = .ok (.goto 4, 3) := by decide +kernel
theorem dL_law_329 : decode cL_law 329 = .ok (.iconst 0, 1) := by decide +kernel
theorem dL_law_330 : decode cL_law 330 = .ok (.invokevirtual 57, 3) := by decide +kernel
theorem dL_law_333 : decode cL_law 333 = .ok (.aload_n 2, 1) := by decide +kernel
theorem dL_law_334 : decode cL_law 334 = .ok (.aload_n 0, 1) := by decide +kernel
theorem dL_law_335 : decode cL_law 335 = .ok (.iload_n 3, 1) := by decide +kernel
theorem dL_law_336 : decode cL_law 336 = .ok (.iconst 1, 1) := by decide +kernel
theorem dL_law_337 : decode cL_law 337 = .ok (.iadd, 1) := by decide +kernel
theorem dL_law_338 : decode cL_law 338 = .ok (.iaload, 1) := by decide +kernel
theorem dL_law_339 : decode cL_law 339 = .ok (.aload_n 0, 1) := by decide +kernel
theorem dL_law_340 : decode cL_law 340 = .ok (.iload_n 3, 1) := by decide +kernel
theorem dL_law_341 : decode cL_law 341 = .ok (.iconst 2, 1) := by decide +kernel
theorem dL_law_342 : decode cL_law 342 = .ok (.iadd, 1) := by decide +kernel
theorem dL_law_343 : decode cL_law 343 = .ok (.iaload, 1) := by decide +kernel
theorem dL_law_344 : decode cL_law 344 = .ok (.aload_n 0, 1) := by decide +kernel
theorem dL_law_345 : decode cL_law 345 = .ok (.iload_n 3, 1) := by decide +kernel
theorem dL_law_346 : decode cL_law 346 = .ok (.iconst 3, 1) := by decide +kernel
theorem dL_law_347 : decode cL_law 347 = .ok (.iadd, 1) := by decide +kernel
theorem dL_law_348 : decode cL_law 348 = .ok (.iaload, 1) := by decide +kernel
theorem dL_law_349 : decode cL_law 349 = .ok (.ifCond .eq 7, 3) := by decide +kernel
theorem dL_law_352 : decode cL_law 352 = .ok (.iconst 1, 1) := by decide +kernel
theorem dL_law_353 : decode cL_law 353 = .ok (.goto 4, 3) := by decide +kernel
theorem dL_law_356 : decode cL_law 356 = .ok (.iconst 0, 1) := by decide +kernel
theorem dL_law_357 : decode cL_law 357 = .ok (.invokevirtual 61, 3) := by decide +kernel
theorem dL_law_360 : decode cL_law 360 = .ok (.if_icmp .eq 28, 3) := by decide +kernel
theorem dL_law_363 : decode cL_law 363 = .ok (.iconst 0, 1) := by decide +kernel
theorem dL_law_364 : decode cL_law 364 = .ok (.ireturn, 1) := by decide +kernel
theorem dL_law_365 : decode cL_law 365 = .ok (.aload_n 1, 1) := by decide +kernel
theorem dL_law_366 : decode cL_law 366 = .ok (.aload_n 0, 1) := by decide +kernel
theorem dL_law_367 : decode cL_law 367 = .ok (.iload_n 3, 1) := by decide +kernel
theorem dL_law_368 : decode cL_law 368 = .ok (.iconst 1, 1) := by decide +kernel
theorem dL_law_369 : decode cL_law 369 = .ok (.iadd, 1) := by decide +kernel
theorem dL_law_370 : decode cL_law 370 = .ok (.iaload, 1) := by decide +kernel
theorem dL_law_371 : decode cL_law 371 = .ok (.invokevirtual 62, 3) := by decide +kernel
theorem dL_law_374 : decode cL_law 374 = .ok (.aload_n 2, 1) := by decide +kernel
theorem dL_law_375 : decode cL_law 375 = .ok (.aload_n 0, 1) := by decide +kernel
theorem dL_law_376 : decode cL_law 376 = .ok (.iload_n 3, 1) := by decide +kernel
theorem dL_law_377 : decode cL_law 377 = .ok (.iconst 1, 1) := by decide +kernel
theorem dL_law_378 : decode cL_law 378 = .ok (.iadd, 1) := by decide +kernel
theorem dL_law_379 : decode cL_law 379 = .ok (.iaload, 1) := by decide +kernel
theorem dL_law_380 : decode cL_law 380 = .ok (.invokevirtual 65, 3) := by decide +kernel
theorem dL_law_383 : decode cL_law 383 = .ok (.if_icmp .eq 5, 3) := by decide +kernel
theorem dL_law_386 : decode cL_law 386 = .ok (.iconst 0, 1) := by decide +kernel
theorem dL_law_387 : decode cL_law 387 = .ok (.ireturn, 1) := by decide +kernel
theorem dL_law_388 : decode cL_law 388 = .ok (.iinc 3 5, 3) := by decide +kernel
theorem dL_law_391 : decode cL_law 391 = .ok (.goto (-373), 3) := by decide +kernel
theorem dL_law_394 : decode cL_law 394 = .ok (.iconst 1, 1) := by decide +kernel
theorem dL_law_395 : decode cL_law 395 = .ok (.ireturn, 1) := by decide +kernel
end
section
/-! PLAIN PART 1: what both sides compute, in natural numbers; no program in sight -/
def ph_up (f : Nat → Nat) (k x : Nat) : Nat → Nat := fun j => if j = k then x else f j
/-- an array of ints that holds natural numbers -/
def nF (f : Nat → Nat) : Nat → Int32 := fun i => nI (f i)
theorem nF_up (f : Nat → Nat) (k x : Nat) : upd (nF f) k (nI x) = nF (ph_up f k x) := by
  funext j
  simp only [upd, nF, ph_up]
  split <;> rfl
theorem ph_up_le {f : Nat → Nat} {k x b : Nat} (h : ∀ i, f i ≤ b) (hx : x ≤ b) : ∀ i, ph_up f k x i ≤ b := by
  intro i
  simp only [ph_up]
  split
  · exact hx
  · exact h i
/-- a sum over the reads below n that p picks -/
def ph_sm (p : Nat → Bool) (f : Nat → Nat) : Nat → Nat
  | 0 => 0
  | n + 1 => ph_sm p f n + (if p n = true then f n else 0)
theorem ph_sm_le {p : Nat → Bool} {f : Nat → Nat} {b : Nat} (h : ∀ r, f r ≤ b) : ∀ n, ph_sm p f n ≤ n * b := by
  intro n
  induction n with
  | zero => exact Nat.zero_le _
  | succ n ih =>
    have h1 := h n
    simp only [ph_sm]
    rw [Nat.add_mul, Nat.one_mul]
    split <;> omega
theorem ph_sm_congr {p q : Nat → Bool} {f : Nat → Nat} : ∀ n, (∀ r, r < n → p r = q r ∨ f r = 0) → ph_sm p f n = ph_sm q f n := by
  intro n
  induction n with
  | zero => intro _; rfl
  | succ n ih =>
    intro h
    simp only [ph_sm]
    rw [ih (fun r hr => h r (by omega))]
    rcases h n (by omega) with e | e
    · rw [e]
    · rw [e]; simp
/-- the trust of the reads below n, picked by 'on', that stand on strand b and say v at site s -/
def ph_w (tr va : Nat → Nat) (n s m : Nat) (on : Nat → Bool) (b : Bool) (v : Nat) : Nat :=
  ph_sm (fun r => on r && (m.testBit r == b) && (va (r * 8 + s) == v)) (fun r => tr (r * 8 + s)) n
/-- the cost of site s -/
def ph_st (tr va : Nat → Nat) (n s m : Nat) (on : Nat → Bool) (f : Bool) : Nat :=
  if f = true then min (ph_w tr va n s m on false 0 + ph_w tr va n s m on true 1) (ph_w tr va n s m on false 1 + ph_w tr va n s m on true 0)
  else min (ph_w tr va n s m on false 0) (ph_w tr va n s m on false 1) + min (ph_w tr va n s m on true 0) (ph_w tr va n s m on true 1)
/-- the cost of the sites below S -/
def ph_F (tr va : Nat → Nat) (n : Nat) (f : Bool) : Nat → Nat → Nat
  | 0, _ => 0
  | S + 1, m => ph_F tr va n f S m + ph_st tr va n S m (fun _ => true) f
theorem ph_w_le {tr va : Nat → Nat} {n s m : Nat} {on : Nat → Bool} {b : Bool} {v : Nat} (ht : ∀ i, tr i ≤ 9) (hn : n ≤ 8) : ph_w tr va n s m on b v ≤ 72 := by
  have h1 := ph_sm_le (p := fun r => on r && (m.testBit r == b) && (va (r * 8 + s) == v)) (f := fun r => tr (r * 8 + s)) (b := 9) (fun r => ht _) n
  unfold ph_w
  omega
theorem ph_st_le {tr va : Nat → Nat} {n s m : Nat} {on : Nat → Bool} {f : Bool} (ht : ∀ i, tr i ≤ 9) (hn : n ≤ 8) : ph_st tr va n s m on f ≤ 144 := by
  have h1 := ph_w_le (va := va) (s := s) (m := m) (on := on) (b := false) (v := 0) ht hn
  have h2 := ph_w_le (va := va) (s := s) (m := m) (on := on) (b := false) (v := 1) ht hn
  have h3 := ph_w_le (va := va) (s := s) (m := m) (on := on) (b := true) (v := 0) ht hn
  have h4 := ph_w_le (va := va) (s := s) (m := m) (on := on) (b := true) (v := 1) ht hn
  unfold ph_st
  split <;> omega
theorem ph_F_le {tr va : Nat → Nat} {n : Nat} {f : Bool} (ht : ∀ i, tr i ≤ 9) (hn : n ≤ 8) : ∀ S m, ph_F tr va n f S m ≤ S * 144 := by
  intro S m
  induction S with
  | zero => exact Nat.zero_le _
  | succ S ih =>
    have h1 := ph_st_le (va := va) (s := S) (m := m) (on := fun _ => true) (f := f) ht hn
    simp only [ph_F]
    omega
theorem ph_w_on {tr va : Nat → Nat} {n s m M : Nat} {on : Nat → Bool} (h : ∀ r, r < n → on r = false → tr (r * 8 + s) = 0) (hm : ∀ r, r < n → on r = true → M.testBit r = m.testBit r) (b : Bool) (v : Nat) : ph_w tr va n s m on b v = ph_w tr va n s M (fun _ => true) b v := by
  unfold ph_w
  apply ph_sm_congr
  intro r hr
  cases ho : on r with
  | false => exact Or.inr (h r hr ho)
  | true => left; rw [hm r hr ho]
theorem ph_st_on {tr va : Nat → Nat} {n s m M : Nat} {on : Nat → Bool} (h : ∀ r, r < n → on r = false → tr (r * 8 + s) = 0) (hm : ∀ r, r < n → on r = true → M.testBit r = m.testBit r) (f : Bool) : ph_st tr va n s m on f = ph_st tr va n s M (fun _ => true) f := by
  unfold ph_st
  simp only [ph_w_on h hm]
/-- a read that says nothing below S may stand on either strand -/
theorem ph_F_bit {tr va : Nat → Nat} {n r M M' : Nat} {f : Bool} (hM : ∀ i, i ≠ r → M'.testBit i = M.testBit i) : ∀ S, (∀ s, s < S → tr (r * 8 + s) = 0) → ph_F tr va n f S M' = ph_F tr va n f S M := by
  intro S
  induction S with
  | zero => intro _; rfl
  | succ S ih =>
    intro h
    simp only [ph_F]
    rw [ih (fun s hs => h s (by omega))]
    have h1 : ∀ q, q < n → (fun i => !(decide (i = r))) q = false → tr (q * 8 + S) = 0 := by
      intro q _ hq
      have e : q = r := by simpa using hq
      rw [e]
      exact h S (by omega)
    have a1 := ph_st_on (va := va) (m := M') (M := M') h1 (fun _ _ _ => rfl) f
    have a2 := ph_st_on (va := va) (m := M') (M := M) h1 (fun i _ hi => (hM i (by simpa using hi)).symm) f
    rw [← a1, a2]
/-- the least of F over the masks below k that P picks -/
def ph_mn (P : Nat → Bool) (F : Nat → Nat) : Nat → Nat
  | 0 => 100000
  | k + 1 => if P k = true then min (ph_mn P F k) (F k) else ph_mn P F k
theorem ph_mn_le {P : Nat → Bool} {F : Nat → Nat} : ∀ k, ph_mn P F k ≤ 100000 := by
  intro k
  induction k with
  | zero => exact Nat.le_refl _
  | succ k ih =>
    simp only [ph_mn]
    split <;> omega
theorem ph_mn_lo {P : Nat → Bool} {F : Nat → Nat} {c : Nat} (h3 : c ≤ 100000) : ∀ k, (∀ M, M < k → P M = true → c ≤ F M) → c ≤ ph_mn P F k := by
  intro k
  induction k with
  | zero => intro _; exact h3
  | succ k ih =>
    intro h
    have h1 := ih (fun M hM => h M (by omega))
    simp only [ph_mn]
    split
    · rename_i hp
      have h2 := h k (by omega) hp
      omega
    · exact h1
theorem ph_mn_hi {P : Nat → Bool} {F : Nat → Nat} {M : Nat} (hp : P M = true) : ∀ k, M < k → ph_mn P F k ≤ F M := by
  intro k
  induction k with
  | zero => intro h; omega
  | succ k ih =>
    intro h
    simp only [ph_mn]
    by_cases e : M = k
    · subst e
      rw [if_pos hp]
      omega
    · have h1 := ih (by omega)
      split <;> omega
theorem ph_mn_eq {P : Nat → Bool} {F : Nat → Nat} {c k : Nat} (h1 : ∀ M, M < k → P M = true → c ≤ F M) (h2 : ∃ M, M < k ∧ P M = true ∧ F M = c) (h3 : c ≤ 100000) : ph_mn P F k = c := by
  obtain ⟨M, a1, a2, a3⟩ := h2
  have b1 := ph_mn_lo h3 k h1
  have b2 := ph_mn_hi (F := F) a2 k a1
  omega
/-- how many masks below k Q picks -/
def ph_ct (Q : Nat → Bool) : Nat → Nat
  | 0 => 0
  | k + 1 => ph_ct Q k + (if Q k = true then 1 else 0)
theorem ph_ct_eq {Q : Nat → Bool} : ∀ k, ph_ct Q k = (List.range k).countP Q := by
  intro k
  induction k with
  | zero => rfl
  | succ k ih =>
    simp only [ph_ct, List.range_succ, List.countP_append, ih]
    simp [List.countP_cons]
/-- the first mask that Q picks, or 0 -/
def ph_ft (Q : Nat → Bool) : Nat := ((List.range 256).find? Q).getD 0
theorem ph_ft_eq {Q : Nat → Bool} {b : Nat} (h1 : b < 256) (h2 : Q b = true) (h3 : ∀ M, M < b → Q M = false) : ph_ft Q = b := by
  unfold ph_ft
  have e : (List.range 256).find? Q = some b := List.find?_range_eq_some.mpr ⟨h2, List.mem_range.mpr h1, fun j hj => by rw [h3 j hj]; rfl⟩
  rw [e]
  rfl
theorem ph_ft_no {Q : Nat → Bool} (h : ∀ M, M < 256 → Q M = false) : ph_ft Q = 0 := by
  unfold ph_ft
  have e : (List.range 256).find? Q = none := List.find?_range_eq_none.mpr (fun i hi => by rw [h i hi]; rfl)
  rw [e]
  rfl
/-- a mask that names a sorting of n reads, read 0 on strand A -/
def ph_so (n M : Nat) : Bool := (M.testBit 0 == false) && decide (M < 2 ^ n)
def ph_ls (tr va : Nat → Nat) (n : Nat) (f : Bool) : Nat := ph_mn (ph_so n) (ph_F tr va n f 8) 256
def ph_sr (tr va : Nat → Nat) (n : Nat) (f : Bool) : Nat := ph_ft (fun M => ph_so n M && (ph_F tr va n f 8 M == ph_ls tr va n f))
def ph_ti (tr va : Nat → Nat) (n : Nat) : Nat := ph_ct (fun M => ph_so n M && (ph_F tr va n false 8 M == ph_ls tr va n false)) 256
def ph_lw (tr va : Nat → Nat) (n a b : Nat) (ap : Bool) : Nat := ph_mn (fun M => ph_so n M && ((M.testBit a != M.testBit b) == ap)) (ph_F tr va n false 8) 256
theorem ph_so_0 (n : Nat) : ph_so n 0 = true := by
  have h : 0 < 2 ^ n := Nat.two_pow_pos n
  simp [ph_so, h]
/-! masks -/
def ph_sub (a b : Nat) : Prop := ∀ i, a.testBit i = true → b.testBit i = true
theorem ph_or_bit (m r i : Nat) : (m ||| 2 ^ r).testBit i = (m.testBit i || decide (r = i)) := by
  rw [Nat.testBit_or, Nat.testBit_two_pow]
theorem ph_xor_bit (m r i : Nat) : (m ^^^ 2 ^ r).testBit i = (m.testBit i ^^ decide (r = i)) := by
  rw [Nat.testBit_xor, Nat.testBit_two_pow]
theorem ph_lt8 {x : Nat} (h : ∀ i, 8 ≤ i → x.testBit i = false) : x < 256 := Nat.lt_pow_two_of_testBit (n := 8) x (fun i hi => h i hi)
theorem ph_hi8 {x i : Nat} (h : x < 256) (hi : 8 ≤ i) : x.testBit i = false := by
  refine Nat.testBit_lt_two_pow (Nat.lt_of_lt_of_le h ?_)
  have : 2 ^ 8 ≤ 2 ^ i := Nat.pow_le_pow_right (by decide) hi
  exact this
theorem ph_bit8 {x i : Nat} (h : x < 256) (hi : x.testBit i = true) : i < 8 := by
  rcases Nat.lt_or_ge i 8 with q | q
  · exact q
  · rw [ph_hi8 h q] at hi
    cases hi
theorem ph_sub_lt {a b : Nat} (h : ph_sub a b) (hb : b < 256) : a < 256 := by
  refine ph_lt8 (fun i hi => ?_)
  cases e : a.testBit i with
  | false => rfl
  | true => rw [← h i e, ph_hi8 hb hi]
theorem ph_sub_no {a b r : Nat} (h : ph_sub a b) (hb : b.testBit r = false) : a.testBit r = false := by
  cases e : a.testBit r with
  | false => rfl
  | true => rw [← h r e, hb]
theorem ph_or_lt {m r : Nat} (hm : m < 256) (hr : r < 8) : m ||| 2 ^ r < 256 := Nat.or_lt_two_pow (n := 8) hm (Nat.pow_lt_pow_right (by decide) hr)
theorem ph_or_add : ∀ r, r < 8 → ∀ b, b < 256 → b.testBit r = false → b ||| 2 ^ r = b + 2 ^ r := by decide +kernel
theorem ph_or_inj {a b r : Nat} (ha : a.testBit r = false) (hb : b.testBit r = false) (h : a ||| 2 ^ r = b ||| 2 ^ r) : a = b := by
  refine Nat.eq_of_testBit_eq (fun i => ?_)
  by_cases e : r = i
  · subst e
    rw [ha, hb]
  · have h1 := congrArg (fun x => x.testBit i) h
    simpa [ph_or_bit, e] using h1
/-- a mask with bit r is another one without it, and the bit -/
theorem ph_split {m r : Nat} (h : m.testBit r = true) : m = (m ^^^ 2 ^ r) ||| 2 ^ r ∧ (m ^^^ 2 ^ r).testBit r = false := by
  refine ⟨Nat.eq_of_testBit_eq (fun i => ?_), ?_⟩
  · rw [ph_or_bit, ph_xor_bit]
    by_cases e : r = i
    · subst e
      simp [h]
    · simp [e]
  · rw [ph_xor_bit]
    simp [h]
theorem ph_nor (a b : Nat) : nI a ||| nI b = nI (a ||| b) := by
  apply Int32.toBitVec_inj.1
  show BitVec.ofNat 32 a ||| BitVec.ofNat 32 b = BitVec.ofNat 32 (a ||| b)
  apply BitVec.eq_of_getLsbD_eq
  intro i hi
  simp [hi]
theorem ph_nand (a b : Nat) : nI a &&& nI b = nI (a &&& b) := by
  apply Int32.toBitVec_inj.1
  show BitVec.ofNat 32 a &&& BitVec.ofNat 32 b = BitVec.ofNat 32 (a &&& b)
  apply BitVec.eq_of_getLsbD_eq
  intro i hi
  simp [hi]
/-- (m & ~K) == 0 : m is part of K -/
theorem ph_and0 {m K : Nat} (hm : m < 256) (hK : K < 256) : nI m &&& (nI K ^^^ (-1)) = 0 ↔ ph_sub m K := by
  have key : nI m &&& (nI K ^^^ (-1)) = nI (m &&& (K ^^^ (2 ^ 32 - 1))) := by
    apply Int32.toBitVec_inj.1
    show BitVec.ofNat 32 m &&& (BitVec.ofNat 32 K ^^^ BitVec.ofNat 32 (2 ^ 32 - 1)) = BitVec.ofNat 32 (m &&& (K ^^^ (2 ^ 32 - 1)))
    apply BitVec.eq_of_getLsbD_eq
    intro i hi
    simp only [BitVec.getLsbD_and, BitVec.getLsbD_xor, BitVec.getLsbD_ofNat, Nat.testBit_and, Nat.testBit_xor, hi, decide_true, Bool.true_and]
  rw [key]
  have hlt : m &&& (K ^^^ (2 ^ 32 - 1)) < 2 ^ 31 := Nat.lt_of_le_of_lt Nat.and_le_left (by omega)
  rw [show (0 : Int32) = nI 0 from nI_0.symm, nI_eq hlt (by decide)]
  constructor
  · intro h i hi
    have h8 := ph_bit8 hm hi
    have h1 := congrArg (fun x => x.testBit i) h
    simp only [Nat.testBit_and, Nat.testBit_xor, Nat.testBit_two_pow_sub_one, Nat.zero_testBit, hi, Bool.true_and] at h1
    have h32 : i < 32 := by omega
    simpa [h32] using h1
  · intro h
    refine Nat.eq_of_testBit_eq (fun i => ?_)
    simp only [Nat.testBit_and, Nat.testBit_xor, Nat.testBit_two_pow_sub_one, Nat.zero_testBit]
    cases hi : m.testBit i with
    | false => rfl
    | true =>
      have h8 := ph_bit8 hm hi
      have h32 : i < 32 := by omega
      simp [h i hi, h32]
/-- K & ~(1 << r): the mask without bit r -/
theorem ph_andn {K r : Nat} (hK : K < 256) (hr : r < 8) : nI K &&& (nI (2 ^ r) ^^^ (-1)) = nI (K &&& (255 ^^^ 2 ^ r)) := by
  apply Int32.toBitVec_inj.1
  show BitVec.ofNat 32 K &&& (BitVec.ofNat 32 (2 ^ r) ^^^ BitVec.ofNat 32 (2 ^ 32 - 1)) = BitVec.ofNat 32 (K &&& (255 ^^^ 2 ^ r))
  apply BitVec.eq_of_getLsbD_eq
  intro i hi
  simp only [BitVec.getLsbD_and, BitVec.getLsbD_xor, BitVec.getLsbD_ofNat, Nat.testBit_and, Nat.testBit_xor, hi, decide_true, Bool.true_and, Nat.testBit_two_pow_sub_one, Nat.testBit_two_pow]
  rcases Nat.lt_or_ge i 8 with q | q
  · have e : (255 : Nat).testBit i = true := by
      rw [show (255 : Nat) = 2 ^ 8 - 1 from rfl, Nat.testBit_two_pow_sub_one]
      exact decide_eq_true q
    rw [e]
    cases K.testBit i <;> cases decide (r = i) <;> rfl
  · rw [ph_hi8 hK q]
    rfl
theorem ph_without_bit (K r i : Nat) (hK : K < 256) : (K &&& (255 ^^^ 2 ^ r)).testBit i = (K.testBit i && !decide (r = i)) := by
  simp only [Nat.testBit_and, Nat.testBit_xor, Nat.testBit_two_pow]
  rcases Nat.lt_or_ge i 8 with q | q
  · have e : (255 : Nat).testBit i = true := by
      rw [show (255 : Nat) = 2 ^ 8 - 1 from rfl, Nat.testBit_two_pow_sub_one]
      exact decide_eq_true q
    rw [e]
    simp
  · rw [ph_hi8 hK q]
    rfl
theorem ph_sh1 : ∀ r, r < 9 → nI 1 <<< (nI r &&& 31) = nI (2 ^ r) := by decide +kernel
theorem ph_sc : ∀ n, n < 32 → ((nI n &&& 31).toBitVec.smod 32).toNat = n := by decide +kernel
theorem ph_shr {m r : Nat} (hm : m < 2 ^ 31) (hr : r < 32) : nI m >>> (nI r &&& 31) = nI (m / 2 ^ r) := pk_shrN hm _ r (ph_sc r hr)
theorem ph_a1 {x : Nat} (hx : x < 2 ^ 31) : nI x &&& nI 1 = nI (x % 2) := by
  rw [ph_nand, Nat.and_one_is_mod]
theorem ph_bitN (m r : Nat) : m / 2 ^ r % 2 = (m.testBit r).toNat := (Nat.toNat_testBit m r).symm
/-- (m >> r) & 1 -/
theorem ph_bit {m r : Nat} (hm : m < 2 ^ 31) (hr : r < 32) : (nI m >>> (nI r &&& 31)) &&& nI 1 = nI (m.testBit r).toNat := by
  have h2 : m / 2 ^ r ≤ m := Nat.div_le_self _ _
  rw [ph_shr hm hr, ph_a1 (by omega), ph_bitN]
end
section
/-! PLAIN PART 2: the table over the reads at work -/
/-- M is one of the masks that the table's entry m stands for: reads at work as in m, ended reads anywhere, others (and read 0) on A -/
def ph_in (don atw m M : Nat) : Prop := M.testBit 0 = false ∧ (∀ i, atw.testBit i = true → M.testBit i = m.testBit i) ∧ (∀ i, atw.testBit i = false → M.testBit i = true → don.testBit i = true)
/-- least cost, first mask that has it, and how many have it -/
def ph_en (F : Nat → Nat) (L : List Nat) (c b w : Nat) : Prop := b ∈ L ∧ F b = c ∧ (∀ M, M ∈ L → c ≤ F M ∧ (F M = c → b ≤ M)) ∧ w = L.countP (fun M => F M == c)
def ph_rw (F : Nat → Nat) (don atw m : Nat) (x y z : Int32) : Prop := (m.testBit 0 = true → x = nI 1000000) ∧ (m.testBit 0 = false → ∃ (L : List Nat) (c b w : Nat), x = nI c ∧ y = nI b ∧ z = nI w ∧ L.Nodup ∧ (∀ M, M ∈ L ↔ ph_in don atw m M) ∧ ph_en F L c b w)
def ph_T (F : Nat → Nat) (don atw : Nat) (C B Y : Nat → Int32) : Prop := ∀ m, ph_sub m atw → ph_rw F don atw m (C m) (B m) (Y m)
theorem ph_in_lt {don atw m M : Nat} (hd : don < 256) (ha : atw < 256) (h : ph_in don atw m M) : M < 256 := by
  refine ph_lt8 (fun i hi => ?_)
  cases e : M.testBit i with
  | false => rfl
  | true => rw [← h.2.2 i (ph_hi8 ha hi) e, ph_hi8 hd hi]
theorem ph_T_init {F : Nat → Nat} {C B Y : Nat → Int32} (hF : ∀ M, F M = 0) (h1 : C 0 = nI 0) (h2 : B 0 = nI 0) (h3 : Y 0 = nI 1) : ph_T F 0 0 C B Y := by
  intro m hm
  have e : m = 0 := Nat.eq_of_testBit_eq (fun i => by
    rw [Nat.zero_testBit]
    cases e : m.testBit i with
    | false => rfl
    | true => rw [← hm i e, Nat.zero_testBit])
  subst e
  refine ⟨fun h => ?_, fun _ => ⟨[0], 0, 0, 1, h1, h2, h3, by simp, fun M => ?_, by simp, hF 0, fun M hM => ?_, by simp [hF]⟩⟩
  · rw [Nat.zero_testBit] at h
    cases h
  · constructor
    · intro h
      have e : M = 0 := by simpa using h
      subst e
      refine ⟨Nat.zero_testBit 0, fun i _ => rfl, fun i _ h => ?_⟩
      rw [Nat.zero_testBit] at h
      cases h
    · intro h
      have e : M = 0 := Nat.eq_of_testBit_eq (fun i => by
        rw [Nat.zero_testBit]
        cases e : M.testBit i with
        | false => rfl
        | true => rw [← h.2.2 i (Nat.zero_testBit i) e, Nat.zero_testBit])
      simp [e]
  · have e : M = 0 := by simpa using hM
    rw [e]
    exact ⟨by rw [hF]; exact Nat.le_refl _, fun _ => Nat.le_refl _⟩
/-- a read begins -/
theorem ph_T_begin {F : Nat → Nat} {don atw r : Nat} {C B Y C' B' Y' : Nat → Int32} (hr8 : r < 8) (hd8 : don < 256) (ha8 : atw < 256) (hd : don.testBit r = false) (ha : atw.testBit r = false) (hF : ∀ M, F (M ||| 2 ^ r) = F M) (h : ph_T F don atw C B Y)
    (h1 : ∀ m, ph_sub m atw → C' m = C m ∧ B' m = B m ∧ Y' m = Y m) (h2 : ∀ m, ph_sub m atw → C' (m ||| 2 ^ r) = (if r = 0 then nI 1000000 else C m) ∧ B' (m ||| 2 ^ r) = B m ||| nI (2 ^ r) ∧ Y' (m ||| 2 ^ r) = Y m) : ph_T F don (atw ||| 2 ^ r) C' B' Y' := by
  intro m' hm'
  cases hb : m'.testBit r with
  | true =>
    obtain ⟨es, ez⟩ := ph_split hb
    have hm : ph_sub (m' ^^^ 2 ^ r) atw := by
      intro i hi
      by_cases e : r = i
      · subst e
        rw [ez] at hi
        cases hi
      · rw [ph_xor_bit] at hi
        simp [e] at hi
        have h3 := hm' i hi
        rw [ph_or_bit] at h3
        simpa [e] using h3
    generalize m' ^^^ 2 ^ r = m at es ez hm
    subst es
    obtain ⟨c1, c2, c3⟩ := h2 m hm
    rw [c1, c2, c3]
    obtain ⟨g1, g2⟩ := h m hm
    refine ⟨fun h0 => ?_, fun h0 => ?_⟩
    · by_cases e : r = 0
      · rw [if_pos e]
      · rw [if_neg e]
        rw [ph_or_bit] at h0
        simp [e] at h0
        exact g1 (by simpa using h0)
    · rw [ph_or_bit] at h0
      have e : ¬ r = 0 := by
        intro e
        simp [e] at h0
      rw [if_neg e]
      have hm0 : m.testBit 0 = false := by
        cases q : m.testBit 0 with
        | false => rfl
        | true => rw [q] at h0; simp at h0
      obtain ⟨L, c, b, w, e1, e2, e3, hnd, hmem, k1, k2, k3, k4⟩ := g2 hm0
      have hno : ∀ M, M ∈ L → M.testBit r = false := by
        intro M hM
        cases q : M.testBit r with
        | false => rfl
        | true => rw [← hd, ((hmem M).mp hM).2.2 r ha q]
      have hlt : ∀ M, M ∈ L → M < 256 := fun M hM => ph_in_lt hd8 ha8 ((hmem M).mp hM)
      refine ⟨L.map (fun M => M ||| 2 ^ r), c, b ||| 2 ^ r, w, e1, ?_, e3, ?_, fun M' => ?_, ?_, ?_, ?_, ?_⟩
      · rw [e2, ph_nor]
      · show List.Pairwise (· ≠ ·) _
        rw [List.pairwise_map]
        exact List.Pairwise.imp_of_mem (fun {x y} hx hy hne heq => hne (ph_or_inj (hno x hx) (hno y hy) heq)) hnd
      · rw [List.mem_map]
        constructor
        · rintro ⟨M, hM, rfl⟩
          obtain ⟨q1, q2, q3⟩ := (hmem M).mp hM
          refine ⟨?_, fun i hi => ?_, fun i hi hi2 => ?_⟩
          · rw [ph_or_bit, q1]
            simp [e]
          · rw [ph_or_bit, ph_or_bit]
            by_cases ei : r = i
            · simp [ei]
            · rw [ph_or_bit] at hi
              simp [ei] at hi
              rw [q2 i hi]
          · rw [ph_or_bit] at hi hi2
            by_cases ei : r = i
            · simp [ei] at hi
            · simp [ei] at hi hi2
              exact q3 i hi hi2
        · intro hI
          obtain ⟨q1, q2, q3⟩ := hI
          have hb' : M'.testBit r = true := by
            rw [q2 r (by rw [ph_or_bit]; simp)]
            exact hb
          obtain ⟨fs, fz⟩ := ph_split hb'
          refine ⟨M' ^^^ 2 ^ r, (hmem _).mpr ⟨?_, fun i hi => ?_, fun i hi hi2 => ?_⟩, fs.symm⟩
          · rw [ph_xor_bit, q1]
            simp [e]
          · by_cases ei : r = i
            · subst ei
              rw [ha] at hi
              cases hi
            · rw [ph_xor_bit]
              have q4 := q2 i (by rw [ph_or_bit, hi]; rfl)
              rw [ph_or_bit] at q4
              simp [ei] at q4 ⊢
              exact q4
          · by_cases ei : r = i
            · subst ei
              rw [fz] at hi2
              cases hi2
            · rw [ph_xor_bit] at hi2
              simp [ei] at hi2
              exact q3 i (by rw [ph_or_bit, hi]; simp [ei]) hi2
      · exact List.mem_map.mpr ⟨b, k1, rfl⟩
      · rw [hF]
        exact k2
      · intro M' hM'
        obtain ⟨M, hM, rfl⟩ := List.mem_map.mp hM'
        rw [hF]
        refine ⟨(k3 M hM).1, fun q => ?_⟩
        have q2 := (k3 M hM).2 q
        rw [ph_or_add r hr8 b (hlt b k1) (hno b k1), ph_or_add r hr8 M (hlt M hM) (hno M hM)]
        omega
      · rw [List.countP_map, k4]
        refine List.countP_congr (fun M _ => ?_)
        simp [Function.comp, hF]
  | false =>
    have hm : ph_sub m' atw := by
      intro i hi
      have h3 := hm' i hi
      rw [ph_or_bit] at h3
      by_cases e : r = i
      · subst e
        rw [hb] at hi
        cases hi
      · simpa [e] using h3
    obtain ⟨c1, c2, c3⟩ := h1 m' hm
    rw [c1, c2, c3]
    obtain ⟨g1, g2⟩ := h m' hm
    refine ⟨g1, fun h0 => ?_⟩
    obtain ⟨L, c, b, w, e1, e2, e3, hnd, hmem, hen⟩ := g2 h0
    refine ⟨L, c, b, w, e1, e2, e3, hnd, fun M => (hmem M).trans ?_, hen⟩
    constructor
    · rintro ⟨q1, q2, q3⟩
      refine ⟨q1, fun i hi => ?_, fun i hi hi2 => ?_⟩
      · by_cases ei : r = i
        · subst ei
          rw [hb]
          cases q : M.testBit r with
          | false => rfl
          | true => rw [← hd, q3 r ha q]
        · rw [ph_or_bit] at hi
          simp [ei] at hi
          exact q2 i hi
      · rw [ph_or_bit] at hi
        by_cases ei : r = i
        · simp [ei] at hi
        · simp [ei] at hi
          exact q3 i hi hi2
    · rintro ⟨q1, q2, q3⟩
      refine ⟨q1, fun i hi => q2 i (by rw [ph_or_bit, hi]; rfl), fun i hi hi2 => ?_⟩
      by_cases ei : r = i
      · subst ei
        have q4 := q2 r (by rw [ph_or_bit]; simp)
        rw [q4, hb] at hi2
        cases hi2
      · exact q3 i (by rw [ph_or_bit, hi]; simp [ei]) hi2
/-- two entries joined -/
def ph_jC (x1 x2 : Int32) : Int32 := if x2 < x1 then x2 else x1
def ph_jB (x1 x2 y1 y2 : Int32) : Int32 := if x2 < x1 then y2 else if x2 = x1 then (if y2 < y1 then y2 else y1) else y1
def ph_jY (x1 x2 z1 z2 : Int32) : Int32 := if x2 < x1 then z2 else if x2 = x1 then z1 + z2 else z1
theorem ph_en_app {F : Nat → Nat} {L1 L2 : List Nat} {c1 b1 w1 c2 b2 w2 : Nat} (h1 : ph_en F L1 c1 b1 w1) (h2 : ph_en F L2 c2 b2 w2) :
    ph_en F (L1 ++ L2) (if c2 < c1 then c2 else c1) (if c2 < c1 then b2 else if c2 = c1 then (if b2 < b1 then b2 else b1) else b1) (if c2 < c1 then w2 else if c2 = c1 then w1 + w2 else w1) := by
  obtain ⟨p1, p2, p3, p4⟩ := h1
  obtain ⟨q1, q2, q3, q4⟩ := h2
  by_cases hlt : c2 < c1
  · simp only [if_pos hlt]
    refine ⟨List.mem_append_right _ q1, q2, fun M hM => ?_, ?_⟩
    · rcases List.mem_append.mp hM with h | h
      · have := (p3 M h).1
        exact ⟨by omega, fun e => by omega⟩
      · exact q3 M h
    · rw [List.countP_append, ← q4]
      have z : L1.countP (fun M => F M == c2) = 0 := by
        rw [List.countP_eq_zero]
        intro M hM he
        have a1 := (p3 M hM).1
        have a2 : F M = c2 := by simpa using he
        omega
      omega
  · simp only [if_neg hlt]
    by_cases heq : c2 = c1
    · subst heq
      simp only [if_true]
      refine ⟨?_, ?_, fun M hM => ?_, ?_⟩
      · split
        · exact List.mem_append_right _ q1
        · exact List.mem_append_left _ p1
      · split
        · exact q2
        · exact p2
      · rcases List.mem_append.mp hM with h | h
        · refine ⟨(p3 M h).1, fun e => ?_⟩
          have a1 := (p3 M h).2 e
          split <;> omega
        · refine ⟨(q3 M h).1, fun e => ?_⟩
          have a1 := (q3 M h).2 e
          split <;> omega
      · rw [List.countP_append, ← q4, ← p4]
    · simp only [if_neg heq]
      refine ⟨List.mem_append_left _ p1, p2, fun M hM => ?_, ?_⟩
      · rcases List.mem_append.mp hM with h | h
        · exact p3 M h
        · have := (q3 M h).1
          exact ⟨by omega, fun e => by omega⟩
      · rw [List.countP_append, ← p4]
        have z : L2.countP (fun M => F M == c1) = 0 := by
          rw [List.countP_eq_zero]
          intro M hM he
          have a1 := (q3 M hM).1
          have a2 : F M = c1 := by simpa using he
          omega
        omega
theorem ph_jC_n {c1 c2 : Nat} (h1 : c1 < 2 ^ 31) (h2 : c2 < 2 ^ 31) : ph_jC (nI c1) (nI c2) = nI (if c2 < c1 then c2 else c1) := by
  unfold ph_jC
  by_cases h : c2 < c1
  · rw [if_pos ((nI_ltI h2 h1).mpr h), if_pos h]
  · rw [if_neg (fun q => h ((nI_ltI h2 h1).mp q)), if_neg h]
theorem ph_jB_n {c1 c2 b1 b2 : Nat} (h1 : c1 < 2 ^ 31) (h2 : c2 < 2 ^ 31) (g1 : b1 < 2 ^ 31) (g2 : b2 < 2 ^ 31) : ph_jB (nI c1) (nI c2) (nI b1) (nI b2) = nI (if c2 < c1 then b2 else if c2 = c1 then (if b2 < b1 then b2 else b1) else b1) := by
  unfold ph_jB
  by_cases h : c2 < c1
  · rw [if_pos ((nI_ltI h2 h1).mpr h), if_pos h]
  · rw [if_neg (fun q => h ((nI_ltI h2 h1).mp q)), if_neg h]
    by_cases e : c2 = c1
    · rw [if_pos ((nI_eq h2 h1).mpr e), if_pos e]
      by_cases k : b2 < b1
      · rw [if_pos ((nI_ltI g2 g1).mpr k), if_pos k]
      · rw [if_neg (fun q => k ((nI_ltI g2 g1).mp q)), if_neg k]
    · rw [if_neg (fun q => e ((nI_eq h2 h1).mp q)), if_neg e]
theorem ph_jY_n {c1 c2 w1 w2 : Nat} (h1 : c1 < 2 ^ 31) (h2 : c2 < 2 ^ 31) : ph_jY (nI c1) (nI c2) (nI w1) (nI w2) = nI (if c2 < c1 then w2 else if c2 = c1 then w1 + w2 else w1) := by
  unfold ph_jY
  by_cases h : c2 < c1
  · rw [if_pos ((nI_ltI h2 h1).mpr h), if_pos h]
  · rw [if_neg (fun q => h ((nI_ltI h2 h1).mp q)), if_neg h]
    by_cases e : c2 = c1
    · rw [if_pos ((nI_eq h2 h1).mpr e), if_pos e, nI_add]
    · rw [if_neg (fun q => e ((nI_eq h2 h1).mp q)), if_neg e]
/-- a read ends -/
theorem ph_T_end {F : Nat → Nat} {don atw atw' r : Nat} {C B Y C' B' Y' : Nat → Int32} (hr8 : r < 8) (hd8 : don < 256) (ha8 : atw < 256) (ha : atw.testBit r = true) (ha' : ∀ i, atw'.testBit i = (atw.testBit i && !decide (r = i))) (hFb : ∀ M, F M < 1000000) (h : ph_T F don atw C B Y)
    (hj : ∀ m, ph_sub m atw' → C' m = ph_jC (C m) (C (m ||| 2 ^ r)) ∧ B' m = ph_jB (C m) (C (m ||| 2 ^ r)) (B m) (B (m ||| 2 ^ r)) ∧ Y' m = ph_jY (C m) (C (m ||| 2 ^ r)) (Y m) (Y (m ||| 2 ^ r))) : ph_T F (don ||| 2 ^ r) atw' C' B' Y' := by
  intro m hm
  obtain ⟨j1, j2, j3⟩ := hj m hm
  rw [j1, j2, j3]
  have hmr : m.testBit r = false := ph_sub_no hm (by rw [ha' r]; simp)
  have hma : ph_sub m atw := by
    intro i hi
    have q := hm i hi
    rw [ha' i] at q
    revert q
    cases atw.testBit i <;> simp
  have hmo : ph_sub (m ||| 2 ^ r) atw := by
    intro i hi
    rw [ph_or_bit] at hi
    by_cases e : r = i
    · subst e
      exact ha
    · simp [e] at hi
      exact hma i hi
  have split : ∀ M, ph_in (don ||| 2 ^ r) atw' m M ↔ (ph_in don atw m M ∨ ph_in don atw (m ||| 2 ^ r) M) := by
    intro M
    constructor
    · rintro ⟨q1, q2, q3⟩
      cases hMr : M.testBit r with
      | false =>
        left
        refine ⟨q1, fun i hi => ?_, fun i hi hi2 => ?_⟩
        · by_cases e : r = i
          · subst e
            rw [hMr, hmr]
          · exact q2 i (by rw [ha' i, hi]; simp [e])
        · by_cases e : r = i
          · subst e
            rw [ha] at hi
            cases hi
          · have q4 := q3 i (by rw [ha' i, hi]; rfl) hi2
            rw [ph_or_bit] at q4
            simpa [e] using q4
      | true =>
        right
        refine ⟨q1, fun i hi => ?_, fun i hi hi2 => ?_⟩
        · rw [ph_or_bit]
          by_cases e : r = i
          · subst e
            simp [hMr]
          · simp [e]
            exact q2 i (by rw [ha' i, hi]; simp [e])
        · by_cases e : r = i
          · subst e
            rw [ha] at hi
            cases hi
          · have q4 := q3 i (by rw [ha' i, hi]; rfl) hi2
            rw [ph_or_bit] at q4
            simpa [e] using q4
    · rintro (⟨q1, q2, q3⟩ | ⟨q1, q2, q3⟩)
      · refine ⟨q1, fun i hi => ?_, fun i hi hi2 => ?_⟩
        · rw [ha' i] at hi
          exact q2 i (by revert hi; cases atw.testBit i <;> simp)
        · rw [ph_or_bit]
          by_cases e : r = i
          · simp [e]
          · rw [ha' i] at hi
            simp [e] at hi ⊢
            exact q3 i hi hi2
      · refine ⟨q1, fun i hi => ?_, fun i hi hi2 => ?_⟩
        · rw [ha' i] at hi
          have hi1 : atw.testBit i = true := by revert hi; cases atw.testBit i <;> simp
          have e : ¬ r = i := by
            intro e
            simp [e] at hi
          have q4 := q2 i hi1
          rw [ph_or_bit] at q4
          simpa [e] using q4
        · rw [ph_or_bit]
          by_cases e : r = i
          · simp [e]
          · rw [ha' i] at hi
            simp [e] at hi ⊢
            exact q3 i hi hi2
  obtain ⟨g1, g2⟩ := h m hma
  obtain ⟨o1, o2⟩ := h (m ||| 2 ^ r) hmo
  by_cases e : r = 0
  · subst e
    refine ⟨fun h0 => ?_, fun h0 => ?_⟩
    · rw [hmr] at h0
      cases h0
    · obtain ⟨L, c, b, w, e1, e2, e3, hnd, hmem, k1, k2, k3, k4⟩ := g2 h0
      have x2 := o1 (by rw [ph_or_bit]; simp)
      have hc : c < 1000000 := by rw [← k2]; exact hFb b
      have n1 : ¬ C (m ||| 2 ^ 0) < C m := by
        rw [x2, e1, nI_ltI (by decide) (by omega)]
        omega
      have n2 : ¬ C (m ||| 2 ^ 0) = C m := by
        rw [x2, e1, nI_eq (by decide) (by omega)]
        omega
      refine ⟨L, c, b, w, ?_, ?_, ?_, hnd, fun M => (hmem M).trans ?_, k1, k2, k3, k4⟩
      · unfold ph_jC
        rw [if_neg n1, e1]
      · unfold ph_jB
        rw [if_neg n1, if_neg n2, e2]
      · unfold ph_jY
        rw [if_neg n1, if_neg n2, e3]
      · rw [split M]
        constructor
        · exact fun q => Or.inl q
        · rintro (q | q)
          · exact q
          · have q4 := q.2.1 0 ha
            rw [q.1, ph_or_bit] at q4
            simp at q4
  · have e0 : (m ||| 2 ^ r).testBit 0 = m.testBit 0 := by
      rw [ph_or_bit]
      simp [e]
    refine ⟨fun h0 => ?_, fun h0 => ?_⟩
    · rw [g1 h0, o1 (e0.trans h0)]
      unfold ph_jC
      split <;> rfl
    · obtain ⟨L1, c1, b1, w1, e1, e2, e3, hnd1, hmem1, hen1⟩ := g2 h0
      obtain ⟨L2, c2, b2, w2, f1, f2, f3, hnd2, hmem2, hen2⟩ := o2 (e0.trans h0)
      have hc1 : c1 < 1000000 := by rw [← hen1.2.1]; exact hFb b1
      have hc2 : c2 < 1000000 := by rw [← hen2.2.1]; exact hFb b2
      have hb1 : b1 < 256 := ph_in_lt hd8 ha8 ((hmem1 b1).mp hen1.1)
      have hb2 : b2 < 256 := ph_in_lt hd8 ha8 ((hmem2 b2).mp hen2.1)
      refine ⟨L1 ++ L2, _, _, _, ?_, ?_, ?_, ?_, fun M => ?_, ph_en_app hen1 hen2⟩
      · rw [e1, f1, ph_jC_n (by omega) (by omega)]
      · rw [e1, f1, e2, f2, ph_jB_n (by omega) (by omega) (by omega) (by omega)]
      · rw [e1, f1, e3, f3, ph_jY_n (by omega) (by omega)]
      · show List.Pairwise (· ≠ ·) _
        rw [List.pairwise_append]
        refine ⟨hnd1, hnd2, fun x hx y hy hxy => ?_⟩
        have a1 := ((hmem1 x).mp hx).2.1 r ha
        have a2 := ((hmem2 y).mp hy).2.1 r ha
        rw [hmr] at a1
        rw [← hxy, a1, ph_or_bit] at a2
        simp at a2
      · rw [List.mem_append, hmem1 M, hmem2 M, split M]
/-- a site is added -/
theorem ph_T_add {F F' g : Nat → Nat} {don atw : Nat} {C B Y C' : Nat → Int32} (hs : ∀ m M, ph_sub m atw → ph_in don atw m M → F' M = F M + g m) (hFb : ∀ M, F M < 1000000) (h : ph_T F don atw C B Y)
    (hC : ∀ m, ph_sub m atw → C' m = if C m < nI 1000000 then C m + nI (g m) else C m) : ph_T F' don atw C' B Y := by
  intro m hm
  obtain ⟨g1, g2⟩ := h m hm
  rw [hC m hm]
  refine ⟨fun h0 => ?_, fun h0 => ?_⟩
  · rw [g1 h0]
    split
    · rename_i q
      rw [nI_ltI (by decide) (by decide)] at q
      omega
    · rfl
  · obtain ⟨L, c, b, w, e1, e2, e3, hnd, hmem, k1, k2, k3, k4⟩ := g2 h0
    have hc : c < 1000000 := by rw [← k2]; exact hFb b
    have e : ∀ M, M ∈ L → F' M = F M + g m := fun M hM => hs m M hm ((hmem M).mp hM)
    refine ⟨L, c + g m, b, w, ?_, e2, e3, hnd, hmem, k1, ?_, fun M hM => ?_, ?_⟩
    · rw [e1, if_pos ((nI_ltI (by omega) (by decide)).mpr hc), nI_add]
    · rw [e b k1, k2]
    · have a1 := k3 M hM
      rw [e M hM]
      exact ⟨by omega, fun q => a1.2 (by omega)⟩
    · rw [k4]
      refine List.countP_congr (fun M hM => ?_)
      rw [e M hM]
      simp
/-- what the end of the walk through the sites says of entry 0, when no read is kept -/
theorem ph_T_get {F : Nat → Nat} {n don : Nat} {C B Y : Nat → Int32} (hn : n ≤ 8) (hd : ∀ i, don.testBit i = decide (i < n)) (hFb : ∀ M, F M ≤ 100000) (h : ph_T F don 0 C B Y) :
    C 0 = nI (ph_mn (ph_so n) F 256) ∧ B 0 = nI (ph_ft (fun M => ph_so n M && (F M == ph_mn (ph_so n) F 256))) ∧ Y 0 = nI (ph_ct (fun M => ph_so n M && (F M == ph_mn (ph_so n) F 256)) 256) := by
  obtain ⟨L, c, b, w, e1, e2, e3, hnd, hmem, k1, k2, k3, k4⟩ := (h 0 (fun i hi => hi)).2 (Nat.zero_testBit 0)
  have hso : ∀ M, M ∈ L ↔ ph_so n M = true := by
    intro M
    rw [hmem M]
    unfold ph_so
    constructor
    · rintro ⟨q1, _, q3⟩
      have hlt : M < 2 ^ n := Nat.lt_pow_two_of_testBit M (fun i hi => by
        cases q : M.testBit i with
        | false => rfl
        | true =>
          have a1 := q3 i (Nat.zero_testBit i) q
          rw [hd i, decide_eq_true_iff] at a1
          omega)
      rw [q1, decide_eq_true hlt]
      rfl
    · intro q
      have q1 : M.testBit 0 = false := by
        cases z : M.testBit 0 with
        | false => rfl
        | true => rw [z] at q; simp at q
      rw [q1] at q
      have hlt : M < 2 ^ n := by simpa using q
      refine ⟨q1, fun i hi => ?_, fun i _ hi => ?_⟩
      · rw [Nat.zero_testBit] at hi
        cases hi
      · rw [hd i, decide_eq_true_iff]
        rcases Nat.lt_or_ge i n with z | z
        · exact z
        · rw [Nat.testBit_lt_two_pow (Nat.lt_of_lt_of_le hlt (Nat.pow_le_pow_right (by decide) z))] at hi
          cases hi
  have hlt : ∀ M, M ∈ L → M < 256 := by
    intro M hM
    have q := (hso M).mp hM
    unfold ph_so at q
    have q2 : M < 2 ^ n := by
      simp at q
      exact q.2
    exact Nat.lt_of_lt_of_le q2 (Nat.pow_le_pow_right (by decide) hn)
  have hmn : ph_mn (ph_so n) F 256 = c := ph_mn_eq (fun M _ hp => (k3 M ((hso M).mpr hp)).1) ⟨b, hlt b k1, (hso b).mp k1, k2⟩ (by rw [← k2]; exact hFb b)
  rw [hmn]
  refine ⟨e1, ?_, ?_⟩
  · rw [e2]
    congr 1
    refine (ph_ft_eq (hlt b k1) ?_ (fun M hM => ?_)).symm
    · rw [(hso b).mp k1, k2]
      simp
    · cases q : ph_so n M with
      | false => rfl
      | true =>
        have a1 := (k3 M ((hso M).mpr q)).2
        have a2 : ¬ F M = c := fun z => by
          have := a1 z
          omega
        simp [a2]
  · rw [e3]
    congr 1
    rw [k4, ph_ct_eq]
    have hp : L.Perm ((List.range 256).filter (ph_so n)) := by
      refine (List.perm_ext_iff_of_nodup hnd (List.Pairwise.filter _ List.nodup_range)).mpr (fun M => ?_)
      rw [List.mem_filter, List.mem_range]
      constructor
      · exact fun q => ⟨hlt M q, (hso M).mp q⟩
      · exact fun q => (hso M).mpr q.2
    rw [hp.countP_eq, List.countP_filter]
    refine List.countP_congr (fun M _ => ?_)
    simp [and_comm]
end
section
/-! PLAIN PART 3: which reads have begun and ended on the way through the sites; what the calls do to the reads -/
/-- what firstSite answers -/
def ph_fi (tr : Nat → Nat) (r k : Nat) : Prop := k ≤ 8 ∧ (∀ s, s < k → tr (r * 8 + s) = 0) ∧ (k < 8 → tr (r * 8 + k) ≠ 0)
/-- what lastSite answers, as k with k - 1 the site -/
def ph_la (tr : Nat → Nat) (r k : Nat) : Prop := k ≤ 8 ∧ (∀ s, k ≤ s → s < 8 → tr (r * 8 + s) = 0) ∧ (0 < k → tr (r * 8 + (k - 1)) ≠ 0)
/-- reads that have not begun say nothing below u; reads that have ended say nothing from v on -/
def ph_J (tr : Nat → Nat) (n kp : Nat) (u v : Nat → Nat) (don atw : Nat) : Prop :=
  (∀ r, r < n → don.testBit r = false → atw.testBit r = false → (∀ s, s < u r → tr (r * 8 + s) = 0) ∧ ∃ s, s < 8 ∧ tr (r * 8 + s) ≠ 0) ∧
  (∀ r, r < n → don.testBit r = true → kp.testBit r = false ∧ atw.testBit r = false ∧ ∀ s, v r ≤ s → s < 8 → tr (r * 8 + s) = 0) ∧
  (∀ r, r < n → kp.testBit r = true → atw.testBit r = true) ∧
  (∀ r, n ≤ r → don.testBit r = false ∧ atw.testBit r = false)
theorem ph_J_lt {tr : Nat → Nat} {n kp don atw : Nat} {u v : Nat → Nat} (hn : n ≤ 8) (h : ph_J tr n kp u v don atw) : don < 256 ∧ atw < 256 :=
  ⟨ph_lt8 (fun i hi => (h.2.2.2 i (by omega)).1), ph_lt8 (fun i hi => (h.2.2.2 i (by omega)).2)⟩
theorem ph_J_mono {tr : Nat → Nat} {n kp don atw : Nat} {u v u' v' : Nat → Nat} (h : ph_J tr n kp u v don atw) (hu : ∀ r, r < n → u' r = u r) (hv : ∀ r, r < n → v' r = v r) : ph_J tr n kp u' v' don atw := by
  obtain ⟨h1, h2, h3, h4⟩ := h
  refine ⟨fun r hr a b => ?_, fun r hr a => ?_, h3, h4⟩
  · rw [hu r hr]
    exact h1 r hr a b
  · rw [hv r hr]
    exact h2 r hr a
/-- everything that holds on the way through the sites -/
def ph_I (tr va : Nat → Nat) (n : Nat) (f : Bool) (kp S : Nat) (u v : Nat → Nat) (don atw : Nat) (C B Y : Nat → Int32) : Prop :=
  ph_J tr n kp u v don atw ∧ ph_T (ph_F tr va n f S) don atw C B Y
/-- what beginRead does -/
def ph_bg (r K : Nat) (C B Y C' B' Y' : Nat → Int32) : Prop :=
  (∀ m, ph_sub m K → C' m = C m ∧ B' m = B m ∧ Y' m = Y m) ∧ ∀ m, ph_sub m K → C' (m ||| 2 ^ r) = (if r = 0 then nI 1000000 else C m) ∧ B' (m ||| 2 ^ r) = B m ||| nI (2 ^ r) ∧ Y' (m ||| 2 ^ r) = Y m
/-- what endRead does; K' is the set of reads at work behind it -/
def ph_ed (r K' : Nat) (C B Y C' B' Y' : Nat → Int32) : Prop :=
  ∀ m, ph_sub m K' → C' m = ph_jC (C m) (C (m ||| 2 ^ r)) ∧ B' m = ph_jB (C m) (C (m ||| 2 ^ r)) (B m) (B (m ||| 2 ^ r)) ∧ Y' m = ph_jY (C m) (C (m ||| 2 ^ r)) (Y m) (Y (m ||| 2 ^ r))
def ph_st1 (s k : Nat) : Nat → Nat := fun r => if r < k then s + 1 else s
theorem ph_F_or {tr va : Nat → Nat} {n r S : Nat} {f : Bool} (h : ∀ s, s < S → tr (r * 8 + s) = 0) (M : Nat) : ph_F tr va n f S (M ||| 2 ^ r) = ph_F tr va n f S M := by
  refine ph_F_bit (r := r) (fun i hi => ?_) S h
  rw [ph_or_bit]
  simp [Ne.symm hi]
theorem ph_F_bound {tr va : Nat → Nat} {n : Nat} {f : Bool} (ht : ∀ i, tr i ≤ 9) (hn : n ≤ 8) {S : Nat} (hS : S ≤ 8) (M : Nat) : ph_F tr va n f S M ≤ 100000 := by
  have h1 := ph_F_le (va := va) (f := f) ht hn S M
  omega
/-! the first loop: reads that are kept, or say nothing, begin -/
def ph_J0 (tr : Nat → Nat) (n kp k atw : Nat) : Prop := (∀ r, r < k → atw.testBit r = false → kp.testBit r = false ∧ ∃ s, s < 8 ∧ tr (r * 8 + s) ≠ 0) ∧ (∀ r, k ≤ r → atw.testBit r = false)
theorem ph_J0_begin {tr : Nat → Nat} {n kp k atw : Nat} (h : ph_J0 tr n kp k atw) : ph_J0 tr n kp (k + 1) (atw ||| 2 ^ k) := by
  refine ⟨fun r hr ha => ?_, fun r hr => ?_⟩
  · rw [ph_or_bit] at ha
    have e : ¬ k = r := by
      intro e
      simp [e] at ha
    simp [e] at ha
    exact h.1 r (by omega) ha
  · rw [ph_or_bit, h.2 r (by omega)]
    simp
    omega
theorem ph_J0_skip {tr : Nat → Nat} {n kp k atw j : Nat} (h : ph_J0 tr n kp k atw) (hk : kp.testBit k = false) (hf : ph_fi tr k j) (hj : j ≠ 8) : ph_J0 tr n kp (k + 1) atw := by
  refine ⟨fun r hr ha => ?_, fun r hr => h.2 r (by omega)⟩
  by_cases e : r = k
  · subst e
    have h1 := hf.1
    exact ⟨hk, j, by omega, hf.2.2 (by omega)⟩
  · exact h.1 r (by omega) ha
theorem ph_J0_end {tr : Nat → Nat} {n kp atw : Nat} (h : ph_J0 tr n kp n atw) : ph_J tr n kp (fun _ => 0) (fun _ => 0) 0 atw := by
  refine ⟨fun r hr _ ha => ⟨fun s hs => absurd hs (Nat.not_lt_zero s), (h.1 r hr ha).2⟩, fun r _ hd => ?_, fun r hr hk => ?_, fun r hr => ⟨Nat.zero_testBit r, h.2 r hr⟩⟩
  · rw [Nat.zero_testBit] at hd
    cases hd
  · cases e : atw.testBit r with
    | true => rfl
    | false => rw [(h.1 r hr e).1] at hk; cases hk
theorem ph_I0_begin {tr va : Nat → Nat} {n kp k atw : Nat} {f : Bool} {C B Y C' B' Y' : Nat → Int32} (hk8 : k < 8) (ha8 : atw < 256) (h : ph_J0 tr n kp k atw) (hT : ph_T (ph_F tr va n f 0) 0 atw C B Y) (hb : ph_bg k atw C B Y C' B' Y') : ph_T (ph_F tr va n f 0) 0 (atw ||| 2 ^ k) C' B' Y' :=
  ph_T_begin hk8 (by decide) ha8 (Nat.zero_testBit k) (h.2 k (Nat.le_refl k)) (fun M => rfl) hT hb.1 hb.2
/-! the loop that begins reads at site s -/
theorem ph_I_begin {tr va : Nat → Nat} {n kp s k don atw : Nat} {f : Bool} {C B Y C' B' Y' : Nat → Int32} (hn : n ≤ 8) (hk : k < n) (hs : s < 8) (h : ph_I tr va n f kp s (ph_st1 s k) (fun _ => s) don atw C B Y) (hf : ph_fi tr k s) (ha : atw.testBit k = false) (hb : ph_bg k atw C B Y C' B' Y') :
    ph_I tr va n f kp s (ph_st1 s (k + 1)) (fun _ => s) don (atw ||| 2 ^ k) C' B' Y' := by
  obtain ⟨hJ, hT⟩ := h
  obtain ⟨d8, a8⟩ := ph_J_lt hn hJ
  obtain ⟨h1, h2, h3, h4⟩ := hJ
  have hd : don.testBit k = false := by
    cases e : don.testBit k with
    | false => rfl
    | true => exact absurd ((h2 k hk e).2.2 s (Nat.le_refl s) hs) (hf.2.2 hs)
  refine ⟨⟨fun r hr q1 q2 => ?_, fun r hr q1 => ?_, fun r hr q1 => ?_, fun r hr => ?_⟩, ph_T_begin (by omega) d8 a8 hd ha (ph_F_or hf.2.1) hT hb.1 hb.2⟩
  · rw [ph_or_bit] at q2
    have e : ¬ k = r := by
      intro e
      simp [e] at q2
    simp [e] at q2
    obtain ⟨g1, g2⟩ := h1 r hr q1 q2
    refine ⟨fun t ht => g1 t ?_, g2⟩
    unfold ph_st1 at ht ⊢
    split at ht <;> split <;> omega
  · obtain ⟨g1, g2, g3⟩ := h2 r hr q1
    refine ⟨g1, ?_, g3⟩
    rw [ph_or_bit, g2]
    have e : ¬ k = r := by
      intro e
      rw [e, q1] at hd
      cases hd
    simp [e]
  · rw [ph_or_bit, h3 r hr q1]
    rfl
  · refine ⟨(h4 r hr).1, ?_⟩
    rw [ph_or_bit, (h4 r hr).2]
    simp
    omega
theorem ph_I_noBegin {tr va : Nat → Nat} {n kp s k j don atw : Nat} {f : Bool} {C B Y : Nat → Int32} (hs : s < 8) (h : ph_I tr va n f kp s (ph_st1 s k) (fun _ => s) don atw C B Y) (hf : ph_fi tr k j) (hno : j ≠ s ∨ atw.testBit k = true) :
    ph_I tr va n f kp s (ph_st1 s (k + 1)) (fun _ => s) don atw C B Y := by
  obtain ⟨⟨h1, h2, h3, h4⟩, hT⟩ := h
  refine ⟨⟨fun r hr q1 q2 => ?_, h2, h3, h4⟩, hT⟩
  obtain ⟨g1, g2⟩ := h1 r hr q1 q2
  refine ⟨fun t ht => ?_, g2⟩
  by_cases e : r = k
  · subst e
    have hjs : j ≠ s := by
      rcases hno with q | q
      · exact q
      · rw [q2] at q
        cases q
    have z : ∀ t, t < s → tr (r * 8 + t) = 0 := fun t ht => g1 t (by unfold ph_st1; split <;> omega)
    have hsj : s < j := by
      rcases Nat.lt_or_ge s j with q | q
      · exact q
      · exact absurd (z j (by omega)) (hf.2.2 (by omega))
    refine hf.2.1 t ?_
    unfold ph_st1 at ht
    split at ht <;> omega
  · refine g1 t ?_
    unfold ph_st1 at ht ⊢
    split at ht <;> split <;> omega
/-! the site is added -/
theorem ph_I_add {tr va : Nat → Nat} {n kp s don atw : Nat} {f : Bool} {C B Y C' : Nat → Int32} (hn : n ≤ 8) (ht : ∀ i, tr i ≤ 9) (hs : s < 8) (h : ph_I tr va n f kp s (ph_st1 s n) (fun _ => s) don atw C B Y) (hC : ∀ m, ph_sub m atw → C' m = if C m < nI 1000000 then C m + nI (ph_st tr va n s m atw.testBit f) else C m) :
    ph_I tr va n f kp (s + 1) (fun _ => s + 1) (ph_st1 s 0) don atw C' B Y := by
  obtain ⟨⟨h1, h2, h3, h4⟩, hT⟩ := h
  refine ⟨⟨fun r hr q1 q2 => ?_, fun r hr q1 => ?_, h3, h4⟩, ph_T_add (F := ph_F tr va n f s) (g := fun m => ph_st tr va n s m atw.testBit f) (fun m M hm hM => ?_) (fun M => ?_) hT hC⟩
  · obtain ⟨g1, g2⟩ := h1 r hr q1 q2
    refine ⟨fun t ht => g1 t ?_, g2⟩
    unfold ph_st1
    rw [if_pos hr]
    exact ht
  · obtain ⟨g1, g2, g3⟩ := h2 r hr q1
    refine ⟨g1, g2, fun t q2 => g3 t ?_⟩
    unfold ph_st1 at q2
    split at q2 <;> omega
  · simp only [ph_F]
    congr 1
    refine (ph_st_on (fun r hr q2 => ?_) (fun r _ q2 => hM.2.1 r q2) f).symm
    cases q1 : don.testBit r with
    | true => exact (h2 r hr q1).2.2 s (Nat.le_refl s) hs
    | false =>
      refine (h1 r hr q1 q2).1 s ?_
      unfold ph_st1
      rw [if_pos hr]
      omega
  · have := ph_F_bound (va := va) (f := f) ht hn (S := s) (by omega) M
    omega
/-! the loop that ends reads at site s -/
theorem ph_I_end {tr va : Nat → Nat} {n kp s k don atw : Nat} {f : Bool} {C B Y C' B' Y' : Nat → Int32} (hn : n ≤ 8) (ht : ∀ i, tr i ≤ 9) (hk : k < n) (hs : s < 8) (h : ph_I tr va n f kp (s + 1) (fun _ => s + 1) (ph_st1 s k) don atw C B Y) (hl : ph_la tr k (s + 1)) (hkp : kp.testBit k = false) :
    atw.testBit k = true ∧ (ph_ed k (atw &&& (255 ^^^ 2 ^ k)) C B Y C' B' Y' → ph_I tr va n f kp (s + 1) (fun _ => s + 1) (ph_st1 s (k + 1)) (don ||| 2 ^ k) (atw &&& (255 ^^^ 2 ^ k)) C' B' Y') := by
  obtain ⟨hJ, hT⟩ := h
  obtain ⟨d8, a8⟩ := ph_J_lt hn hJ
  obtain ⟨h1, h2, h3, h4⟩ := hJ
  have hne : tr (k * 8 + s) ≠ 0 := hl.2.2 (by omega)
  have ha : atw.testBit k = true := by
    cases q2 : atw.testBit k with
    | true => rfl
    | false =>
      cases q1 : don.testBit k with
      | true =>
        refine absurd ((h2 k hk q1).2.2 s ?_ hs) hne
        unfold ph_st1
        rw [if_neg (Nat.lt_irrefl k)]
        exact Nat.le_refl s
      | false => exact absurd ((h1 k hk q1 q2).1 s (Nat.lt_succ_self s)) hne
  refine ⟨ha, fun he => ⟨⟨fun r hr q1 q2 => ?_, fun r hr q1 => ?_, fun r hr q1 => ?_, fun r hr => ?_⟩, ph_T_end (by omega) d8 a8 ha (fun i => ph_without_bit atw k i a8) (fun M => ?_) hT he⟩⟩
  · rw [ph_or_bit] at q1
    have e : ¬ k = r := by
      intro e
      simp [e] at q1
    simp [e] at q1
    rw [ph_without_bit atw k r a8] at q2
    simp [e] at q2
    exact h1 r hr q1 q2
  · rw [ph_without_bit atw k r a8]
    by_cases e : k = r
    · subst e
      refine ⟨hkp, by simp, fun t q3 q4 => hl.2.1 t ?_ q4⟩
      unfold ph_st1 at q3
      rw [if_pos (by omega)] at q3
      exact q3
    · rw [ph_or_bit] at q1
      simp [e] at q1
      obtain ⟨g1, g2, g3⟩ := h2 r hr q1
      refine ⟨g1, by rw [g2]; rfl, fun t q3 q4 => g3 t ?_ q4⟩
      unfold ph_st1 at q3 ⊢
      split at q3 <;> split <;> omega
  · rw [ph_without_bit atw k r a8, h3 r hr q1]
    have e : ¬ k = r := by
      intro e
      rw [← e, hkp] at q1
      cases q1
    simp [e]
  · rw [ph_without_bit atw k r a8, ph_or_bit, (h4 r hr).1, (h4 r hr).2]
    simp
    omega
  · have := ph_F_bound (va := va) (f := f) ht hn (S := s + 1) (by omega) M
    omega
theorem ph_I_noEnd {tr va : Nat → Nat} {n kp s k don atw : Nat} {f : Bool} {C B Y : Nat → Int32} (h : ph_I tr va n f kp (s + 1) (fun _ => s + 1) (ph_st1 s k) don atw C B Y) :
    ph_I tr va n f kp (s + 1) (fun _ => s + 1) (ph_st1 s (k + 1)) don atw C B Y := by
  obtain ⟨⟨h1, h2, h3, h4⟩, hT⟩ := h
  refine ⟨⟨h1, fun r hr q1 => ?_, h3, h4⟩, hT⟩
  obtain ⟨g1, g2, g3⟩ := h2 r hr q1
  refine ⟨g1, g2, fun t q3 q4 => g3 t ?_ q4⟩
  unfold ph_st1 at q3 ⊢
  split at q3 <;> split <;> omega
theorem ph_I_next {tr va : Nat → Nat} {n kp s don atw : Nat} {f : Bool} {C B Y : Nat → Int32} (h : ph_I tr va n f kp (s + 1) (fun _ => s + 1) (ph_st1 s n) don atw C B Y) :
    ph_I tr va n f kp (s + 1) (ph_st1 (s + 1) 0) (fun _ => s + 1) don atw C B Y :=
  ⟨ph_J_mono h.1 (fun r _ => by unfold ph_st1; rw [if_neg (Nat.not_lt_zero r)]) (fun r hr => by unfold ph_st1; rw [if_pos hr]), h.2⟩
theorem ph_I_0 {tr va : Nat → Nat} {n kp atw : Nat} {f : Bool} {C B Y : Nat → Int32} (h : ph_J0 tr n kp n atw) (hT : ph_T (ph_F tr va n f 0) 0 atw C B Y) : ph_I tr va n f kp 0 (ph_st1 0 0) (fun _ => 0) 0 atw C B Y :=
  ⟨ph_J_mono (ph_J0_end h) (fun r _ => by unfold ph_st1; rw [if_neg (Nat.not_lt_zero r)]) (fun r _ => rfl), hT⟩
/-! the last loop: reads at work that are not kept end -/
def ph_K9 (tr va : Nat → Nat) (n : Nat) (f : Bool) (kp k don atw : Nat) (C B Y : Nat → Int32) : Prop :=
  (∀ r, r < n → don.testBit r = true ∨ atw.testBit r = true) ∧ (∀ r, r < n → don.testBit r = true → kp.testBit r = false ∧ atw.testBit r = false) ∧ (∀ r, r < n → kp.testBit r = true → atw.testBit r = true) ∧ (∀ r, r < k → kp.testBit r = false → atw.testBit r = false) ∧ (∀ r, n ≤ r → don.testBit r = false ∧ atw.testBit r = false) ∧ ph_T (ph_F tr va n f 8) don atw C B Y
theorem ph_K9_lt {tr va : Nat → Nat} {n kp k don atw : Nat} {f : Bool} {C B Y : Nat → Int32} (hn : n ≤ 8) (h : ph_K9 tr va n f kp k don atw C B Y) : don < 256 ∧ atw < 256 :=
  ⟨ph_lt8 (fun i hi => (h.2.2.2.2.1 i (by omega)).1), ph_lt8 (fun i hi => (h.2.2.2.2.1 i (by omega)).2)⟩
theorem ph_K9_0 {tr va : Nat → Nat} {n kp don atw : Nat} {f : Bool} {u v : Nat → Nat} {C B Y : Nat → Int32} (h : ph_I tr va n f kp 8 u v don atw C B Y) (hu : ∀ r, r < n → u r = 8) : ph_K9 tr va n f kp 0 don atw C B Y := by
  obtain ⟨⟨h1, h2, h3, h4⟩, hT⟩ := h
  refine ⟨fun r hr => ?_, fun r hr q => ⟨(h2 r hr q).1, (h2 r hr q).2.1⟩, h3, fun r hr => absurd hr (Nat.not_lt_zero r), h4, hT⟩
  cases q1 : don.testBit r with
  | true => exact Or.inl rfl
  | false =>
    cases q2 : atw.testBit r with
    | true => exact Or.inr rfl
    | false =>
      obtain ⟨g1, t, g2, g3⟩ := h1 r hr q1 q2
      rw [hu r hr] at g1
      exact absurd (g1 t g2) g3
theorem ph_K9_end {tr va : Nat → Nat} {n kp k don atw : Nat} {f : Bool} {C B Y C' B' Y' : Nat → Int32} (hn : n ≤ 8) (ht : ∀ i, tr i ≤ 9) (hk : k < n) (h : ph_K9 tr va n f kp k don atw C B Y) (hkp : kp.testBit k = false) (ha : atw.testBit k = true) (he : ph_ed k (atw &&& (255 ^^^ 2 ^ k)) C B Y C' B' Y') :
    ph_K9 tr va n f kp (k + 1) (don ||| 2 ^ k) (atw &&& (255 ^^^ 2 ^ k)) C' B' Y' := by
  obtain ⟨d8, a8⟩ := ph_K9_lt hn h
  obtain ⟨h1, h2, h3, h4, h5, hT⟩ := h
  refine ⟨fun r hr => ?_, fun r hr q1 => ?_, fun r hr q1 => ?_, fun r hr q1 => ?_, fun r hr => ?_, ph_T_end (by omega) d8 a8 ha (fun i => ph_without_bit atw k i a8) (fun M => ?_) hT he⟩
  · rw [ph_or_bit, ph_without_bit atw k r a8]
    by_cases e : k = r
    · simp [e]
    · simp [e]
      simpa using h1 r hr
  · rw [ph_without_bit atw k r a8]
    by_cases e : k = r
    · subst e
      exact ⟨hkp, by simp⟩
    · rw [ph_or_bit] at q1
      simp [e] at q1
      obtain ⟨g1, g2⟩ := h2 r hr q1
      exact ⟨g1, by rw [g2]; rfl⟩
  · rw [ph_without_bit atw k r a8, h3 r hr q1]
    have e : ¬ k = r := by
      intro e
      rw [← e, hkp] at q1
      cases q1
    simp [e]
  · rw [ph_without_bit atw k r a8]
    by_cases e : k = r
    · simp [e]
    · rw [h4 r (by omega) q1]
      rfl
  · rw [ph_without_bit atw k r a8, ph_or_bit, (h5 r hr).1, (h5 r hr).2]
    simp
    omega
  · have := ph_F_bound (va := va) (f := f) ht hn (S := 8) (by omega) M
    omega
theorem ph_K9_noEnd {tr va : Nat → Nat} {n kp k don atw : Nat} {f : Bool} {C B Y : Nat → Int32} (h : ph_K9 tr va n f kp k don atw C B Y) (hno : kp.testBit k = true ∨ atw.testBit k = false) : ph_K9 tr va n f kp (k + 1) don atw C B Y := by
  obtain ⟨h1, h2, h3, h4, h5, hT⟩ := h
  refine ⟨h1, h2, h3, fun r hr q1 => ?_, h5, hT⟩
  by_cases e : r = k
  · subst e
    rcases hno with q | q
    · rw [q1] at q
      cases q
    · exact q
  · exact h4 r (by omega) q1
/-- what solve leaves -/
def ph_Z (tr va : Nat → Nat) (n : Nat) (f : Bool) (kp : Nat) (C B Y : Nat → Int32) : Prop := ∃ don, (∀ i, don.testBit i = (decide (i < n) && !kp.testBit i)) ∧ ph_T (ph_F tr va n f 8) don kp C B Y
theorem ph_K9_Z {tr va : Nat → Nat} {n kp don atw : Nat} {f : Bool} {C B Y : Nat → Int32} (hkp : ∀ i, n ≤ i → kp.testBit i = false) (h : ph_K9 tr va n f kp n don atw C B Y) : ph_Z tr va n f kp C B Y := by
  obtain ⟨h1, h2, h3, h4, h5, hT⟩ := h
  have e : atw = kp := Nat.eq_of_testBit_eq (fun i => by
    rcases Nat.lt_or_ge i n with q | q
    · cases z : kp.testBit i with
      | true => exact h3 i q z
      | false => exact h4 i q z
    · rw [hkp i q, (h5 i q).2])
  subst e
  refine ⟨don, fun i => ?_, hT⟩
  rcases Nat.lt_or_ge i n with q | q
  · rw [decide_eq_true q]
    cases z : atw.testBit i with
    | true =>
      cases w : don.testBit i with
      | false => rfl
      | true => rw [(h2 i q w).2] at z; cases z
    | false =>
      rcases h1 i q with w | w
      · rw [w]; rfl
      · rw [z] at w; cases w
  · rw [(h5 i q).1, (h5 i q).2, decide_eq_false (by omega)]
    rfl
theorem ph_Z_get {tr va : Nat → Nat} {n : Nat} {f : Bool} {C B Y : Nat → Int32} (hn : n ≤ 8) (ht : ∀ i, tr i ≤ 9) (h : ph_Z tr va n f 0 C B Y) : C 0 = nI (ph_ls tr va n f) ∧ B 0 = nI (ph_sr tr va n f) ∧ (f = false → Y 0 = nI (ph_ti tr va n)) := by
  obtain ⟨don, hd, hT⟩ := h
  obtain ⟨a1, a2, a3⟩ := ph_T_get hn (fun i => by rw [hd i, Nat.zero_testBit]; simp) (fun M => ph_F_bound ht hn (Nat.le_refl 8) M) hT
  refine ⟨a1, a2, fun e => ?_⟩
  subst e
  exact a3
/-- the reads that leastWith looks at: entry m counts -/
def ph_q (a b : Nat) (ap : Bool) (m : Nat) : Prop := ph_sub m (2 ^ a ||| 2 ^ b) ∧ (m.testBit a != m.testBit b) = ap
theorem ph_Z_with {tr va : Nat → Nat} {n a b v : Nat} {ap : Bool} {C B Y : Nat → Int32} (hn : n ≤ 8) (ht : ∀ i, tr i ≤ 9) (ha : a < n) (hb : b < n) (hab : ¬ (a = b ∧ ap = true)) (h : ph_Z tr va n false (2 ^ a ||| 2 ^ b) C B Y)
    (h1 : ∀ m, m < 256 → ph_q a b ap m → nI v ≤ C m) (h2 : v = 1000000 ∨ ∃ m, m < 256 ∧ ph_q a b ap m ∧ C m = nI v) (hv : v ≤ 1000000) : v = ph_lw tr va n a b ap := by
  obtain ⟨don, hd, hT⟩ := h
  have kb : ∀ i, (2 ^ a ||| 2 ^ b).testBit i = (decide (a = i) || decide (b = i)) := fun i => by rw [Nat.testBit_or, Nat.testBit_two_pow, Nat.testBit_two_pow]
  have kp8 : 2 ^ a ||| 2 ^ b < 256 := Nat.or_lt_two_pow (n := 8) (Nat.pow_lt_pow_right (by decide) (by omega)) (Nat.pow_lt_pow_right (by decide) (by omega))
  have d8 : don < 256 := ph_lt8 (fun i hi => by rw [hd i, decide_eq_false (by omega)]; rfl)
  have hF := fun M => ph_F_bound (va := va) (f := false) ht hn (Nat.le_refl 8) M
  -- a mask of the law's kind stands for an entry that counts
  have hq : ∀ M, M < 256 → (ph_so n M && ((M.testBit a != M.testBit b) == ap)) = true → ∃ m, m < 256 ∧ ph_q a b ap m ∧ m.testBit 0 = false ∧ ph_in don (2 ^ a ||| 2 ^ b) m M := by
    intro M hM hp
    obtain ⟨p1, p2⟩ := Bool.and_eq_true_iff.mp hp
    unfold ph_so at p1
    obtain ⟨p3, p4⟩ := Bool.and_eq_true_iff.mp p1
    have p3 : M.testBit 0 = false := eq_of_beq p3
    have p4 : M < 2 ^ n := of_decide_eq_true p4
    have p2 : (M.testBit a != M.testBit b) = ap := eq_of_beq p2
    have mb : ∀ i, (M &&& (2 ^ a ||| 2 ^ b)).testBit i = (M.testBit i && (decide (a = i) || decide (b = i))) := fun i => by rw [Nat.testBit_and, kb i]
    refine ⟨M &&& (2 ^ a ||| 2 ^ b), Nat.lt_of_le_of_lt Nat.and_le_left hM, ⟨fun i hi => ?_, ?_⟩, ?_, p3, fun i hi => ?_, fun i hi hi2 => ?_⟩
    · rw [mb i] at hi
      rw [kb i]
      exact (Bool.and_eq_true_iff.mp hi).2
    · rw [mb a, mb b]
      simpa using p2
    · rw [mb 0, p3]
      rfl
    · rw [kb i] at hi
      rw [mb i, hi]
      simp
    · rw [hd i, hi]
      rcases Nat.lt_or_ge i n with z | z
      · simp [z]
      · rw [Nat.testBit_lt_two_pow (Nat.lt_of_lt_of_le p4 (Nat.pow_le_pow_right (by decide) z))] at hi2
        cases hi2
  -- an entry that counts, and what it holds
  have hr : ∀ m, ph_q a b ap m → m.testBit 0 = false → ∃ (L : List Nat) (c bb : Nat), C m = nI c ∧ (∀ M, M ∈ L ↔ ph_in don (2 ^ a ||| 2 ^ b) m M) ∧ bb ∈ L ∧ ph_F tr va n false 8 bb = c ∧ ∀ M, M ∈ L → c ≤ ph_F tr va n false 8 M := by
    intro m hm h0
    obtain ⟨L, c, bb, w, e1, _, _, _, hmem, k1, k2, k3, _⟩ := (hT m hm.1).2 h0
    exact ⟨L, c, bb, e1, hmem, k1, k2, fun M hM => (k3 M hM).1⟩
  have hback : ∀ m M, ph_q a b ap m → ph_in don (2 ^ a ||| 2 ^ b) m M → M < 256 ∧ (ph_so n M && ((M.testBit a != M.testBit b) == ap)) = true := by
    intro m M hm hI
    have hlt := ph_in_lt d8 kp8 hI
    refine ⟨hlt, ?_⟩
    obtain ⟨q1, q2, q3⟩ := hI
    have ea : M.testBit a = m.testBit a := q2 a (by rw [kb a]; simp)
    have eb : M.testBit b = m.testBit b := q2 b (by rw [kb b]; simp)
    have hl2 : M < 2 ^ n := Nat.lt_pow_two_of_testBit M (fun i hi => by
      cases z : M.testBit i with
      | false => rfl
      | true =>
        have a1 : a ≠ i := by omega
        have a2 : b ≠ i := by omega
        have z2 := q3 i (by rw [kb i]; simp [a1, a2]) z
        rw [hd i, decide_eq_false (by omega)] at z2
        cases z2)
    unfold ph_so
    rw [q1, ea, eb, hm.2, decide_eq_true hl2]
    simp
  -- some mask is of the law's kind
  have hex : ∃ M, M < 256 ∧ (ph_so n M && ((M.testBit a != M.testBit b) == ap)) = true := by
    cases hap : ap with
    | false => exact ⟨0, by decide, by rw [ph_so_0 n]; simp⟩
    | true =>
      have hne : a ≠ b := fun e => hab ⟨e, hap⟩
      have hz : ∃ z, z < n ∧ z ≠ 0 ∧ (decide (z = a) != decide (z = b)) = true := by
        by_cases e : a = 0
        · exact ⟨b, hb, by omega, by simp [Ne.symm hne]⟩
        · exact ⟨a, ha, e, by simp [hne]⟩
      obtain ⟨z, z1, z2, z3⟩ := hz
      refine ⟨2 ^ z, Nat.pow_lt_pow_right (n := 8) (by decide) (by omega), ?_⟩
      unfold ph_so
      rw [Nat.testBit_two_pow, Nat.testBit_two_pow, Nat.testBit_two_pow, decide_eq_true (Nat.pow_lt_pow_right (a := 2) (by decide) z1), z3]
      simp [z2]
  have hlt : v < 1000000 := by
    obtain ⟨M, hM, hp⟩ := hex
    obtain ⟨m, m1, m2, m3, m4⟩ := hq M hM hp
    obtain ⟨L, c, bb, e1, e2, e3, e4, e5⟩ := hr m m2 m3
    have a1 := h1 m m1 m2
    have a2 := hF bb
    rw [e1, nI_leI (by omega) (by omega)] at a1
    omega
  refine (ph_mn_eq (fun M hM hp => ?_) ?_ ?_).symm
  · obtain ⟨m, m1, m2, m3, m4⟩ := hq M hM hp
    obtain ⟨L, c, bb, e1, e2, e3, e4, e5⟩ := hr m m2 m3
    have a1 := h1 m m1 m2
    have a2 := hF bb
    rw [e1, nI_leI (by omega) (by omega)] at a1
    have a3 := e5 M ((e2 M).mpr m4)
    omega
  · rcases h2 with q | ⟨m, m1, m2, m3⟩
    · omega
    · have m0 : m.testBit 0 = false := by
        cases z : m.testBit 0 with
        | false => rfl
        | true =>
          have z2 := (hT m m2.1).1 z
          rw [m3, nI_eq (by omega) (by decide)] at z2
          omega
      obtain ⟨L, c, bb, e1, e2, e3, e4, e5⟩ := hr m m2 m0
      have a2 := hF bb
      rw [m3, nI_eq (by omega) (by omega)] at e1
      obtain ⟨b1, b2⟩ := hback m bb m2 ((e2 bb).mp e3)
      exact ⟨bb, b1, b2, by omega⟩
  · rcases h2 with q | ⟨m, m1, m2, m3⟩
    · omega
    · have m0 : m.testBit 0 = false := by
        cases z : m.testBit 0 with
        | false => rfl
        | true =>
          have z2 := (hT m m2.1).1 z
          rw [m3, nI_eq (by omega) (by decide)] at z2
          omega
      obtain ⟨L, c, bb, e1, e2, e3, e4, e5⟩ := hr m m2 m0
      have a2 := hF bb
      rw [m3, nI_eq (by omega) (by omega)] at e1
      omega
end
section
/-! PLAIN PART 4: what the other calls do, as functions of their ints -/
/-- k places from b on are cleared -/
def ph_cl (tr : Nat → Nat) (b : Nat) : Nat → Nat → Nat
  | 0 => tr
  | k + 1 => ph_up (ph_cl tr b k) (b + k) 0
/-- k places from b on get what g says -/
def ph_wr (tr : Nat → Nat) (b : Nat) (g : Nat → Nat) : Nat → Nat → Nat
  | 0 => tr
  | k + 1 => ph_up (ph_wr tr b g k) (b + k) (g k)
theorem ph_cl_le {tr : Nat → Nat} {b x : Nat} (h : ∀ i, tr i ≤ x) : ∀ k i, ph_cl tr b k i ≤ x := by
  intro k
  induction k with
  | zero => exact h
  | succ k ih => exact ph_up_le ih (Nat.zero_le _)
theorem ph_wr_le {tr : Nat → Nat} {b x : Nat} {g : Nat → Nat} (h : ∀ i, tr i ≤ x) (hg : ∀ i, g i ≤ x) : ∀ k i, ph_wr tr b g k i ≤ x := by
  intro k
  induction k with
  | zero => exact h
  | succ k ih => exact ph_up_le ih (hg _)
def ph_ok (n : Nat) (tr va : Nat → Nat) : Prop := n ≤ 8 ∧ (∀ i, tr i ≤ 9) ∧ ∀ i, va i ≤ 1
/-- read() -/
def ph_rd (n : Nat) (tr : Nat → Nat) : Int32 × Nat × (Nat → Nat) := if n < 8 then (nI n, n + 1, ph_cl tr (n * 8) 8) else (-4, n, tr)
/-- an int's lowest bit -/
def ph_lb (v : Int32) : Nat := v.toBitVec.toNat % 2
theorem ph_lb_le (v : Int32) : ph_lb v ≤ 1 := by
  unfold ph_lb
  omega
theorem ph_lb_and (v : Int32) : v &&& nI 1 = nI (ph_lb v) := pk_and v (m := nI 1) 1 (by decide +kernel)
theorem ph_lb_n {x : Nat} (h : x ≤ 1) : ph_lb (nI x) = x := by
  unfold ph_lb
  rw [pk_tn (by omega)]
  omega
/-- say(rd, st, vl, tu) -/
def ph_sy (n : Nat) (tr va : Nat → Nat) (rd st vl tu : Int32) : Int32 × (Nat → Nat) × (Nat → Nat) :=
  if rd < 0 ∨ nI n ≤ rd then (-1, tr, va)
  else if st < 0 ∨ nI 8 ≤ st then (-2, tr, va)
  else if tu < 0 ∨ nI 9 < tu then (-3, tr, va)
  else (nI (tr (rd.toNatClampNeg * 8 + st.toNatClampNeg)), ph_up tr (rd.toNatClampNeg * 8 + st.toNatClampNeg) tu.toNatClampNeg, ph_up va (rd.toNatClampNeg * 8 + st.toNatClampNeg) (ph_lb vl))
theorem ph_sy_n {n r k t : Nat} {tr va : Nat → Nat} {vl : Int32} (hn : n ≤ 8) (hr : r < n) (hk : k < 8) (ht : t ≤ 9) : ph_sy n tr va (nI r) (nI k) vl (nI t) = (nI (tr (r * 8 + k)), ph_up tr (r * 8 + k) t, ph_up va (r * 8 + k) (ph_lb vl)) := by
  unfold ph_sy
  rw [if_neg, if_neg, if_neg, nI_clamp (by omega), nI_clamp (by omega), nI_clamp (by omega)]
  · rintro (h | h)
    · exact nI_pos (by omega) h
    · rw [nI_ltI (by omega) (by omega)] at h
      omega
  · rintro (h | h)
    · exact nI_pos (by omega) h
    · rw [nI_leI (by omega) (by omega)] at h
      omega
  · rintro (h | h)
    · exact nI_pos (by omega) h
    · rw [nI_leI (by omega) (by omega)] at h
      omega
/-- stretch(span, bits, tu): where it begins, how many sites, what is said at the i-th -/
def ph_s0 (sp : Int32) : Nat := sp.toBitVec.toNat % 8
def ph_s1 (sp : Int32) : Nat := (sp >>> (nI 3 &&& 31)).toBitVec.toNat % 16
def ph_bi (bits : Int32) (i : Nat) : Nat := ph_lb (bits >>> (nI i &&& 31))
theorem ph_s0_and (sp : Int32) : sp &&& nI 7 = nI (ph_s0 sp) := pk_and sp (m := nI 7) 3 (by decide +kernel)
theorem ph_s1_and (sp : Int32) : (sp >>> (nI 3 &&& 31)) &&& nI 15 = nI (ph_s1 sp) := pk_and _ (m := nI 15) 4 (by decide +kernel)
theorem ph_s0_lt (sp : Int32) : ph_s0 sp < 8 := Nat.mod_lt _ (by decide)
theorem ph_s1_lt (sp : Int32) : ph_s1 sp < 16 := Nat.mod_lt _ (by decide)
def ph_sx (n : Nat) (tr va : Nat → Nat) (sp bits tu : Int32) : Int32 × Nat × (Nat → Nat) × (Nat → Nat) :=
  if ph_s1 sp < 1 ∨ 8 < ph_s1 sp ∨ 8 < ph_s0 sp + ph_s1 sp then (-2, n, tr, va)
  else if tu < nI 1 ∨ nI 9 < tu then (-3, n, tr, va)
  else if n < 8 then (nI n, n + 1, ph_wr (ph_cl tr (n * 8) 8) (n * 8 + ph_s0 sp) (fun _ => tu.toNatClampNeg) (ph_s1 sp), ph_wr va (n * 8 + ph_s0 sp) (ph_bi bits) (ph_s1 sp))
  else (-4, n, tr, va)
/-- drop() -/
def ph_dr (n : Nat) : Int32 × Nat := if n = 0 then (-1, 0) else (nI (n - 1), n - 1)
/-- costOf(mask): the reads that it names -/
def ph_mk (n : Nat) (mask : Int32) : Nat := (mask.toBitVec.toNat % 2 ^ n) &&& 254
theorem ph_mk_lt {n : Nat} (hn : n ≤ 8) (mask : Int32) : ph_mk n mask < 256 := Nat.lt_of_le_of_lt Nat.and_le_left (Nat.lt_of_lt_of_le (Nat.mod_lt _ (Nat.two_pow_pos n)) (Nat.pow_le_pow_right (n := 2) (by decide) hn))
theorem ph_m2 {x : Nat} (h : x < 256) : nI x &&& (-2) = nI (x &&& 254) := by
  apply Int32.toBitVec_inj.1
  show BitVec.ofNat 32 x &&& BitVec.ofNat 32 (2 ^ 32 - 2) = BitVec.ofNat 32 (x &&& 254)
  apply BitVec.eq_of_getLsbD_eq
  intro i hi
  simp only [BitVec.getLsbD_and, BitVec.getLsbD_ofNat, Nat.testBit_and, hi, decide_true, Bool.true_and]
  rcases Nat.lt_or_ge i 8 with q | q
  · have e : ∀ i, i < 8 → (2 ^ 32 - 2 : Nat).testBit i = (254 : Nat).testBit i := by decide +kernel
    rw [e i q]
  · rw [ph_hi8 h q]
    rfl
theorem ph_mk_x {n : Nat} (hn : n ≤ 8) (mask : Int32) : (mask &&& nI (2 ^ n - 1)) &&& (-2) = nI (ph_mk n mask) := by
  have hp : 2 ^ n ≤ 2 ^ 8 := Nat.pow_le_pow_right (by decide) hn
  rw [pk_and mask n (pk_tn (by omega)), ph_m2 (Nat.lt_of_lt_of_le (Nat.mod_lt _ (Nat.two_pow_pos n)) hp)]
  rfl
theorem ph_mk_m {n : Nat} (hn : n ≤ 8) (mask : Int32) : (mask &&& nI 254) &&& nI (2 ^ n - 1) = nI (ph_mk n mask) := by
  have hp : 2 ^ n ≤ 2 ^ 8 := Nat.pow_le_pow_right (by decide) hn
  have e : (mask &&& nI 254) &&& nI (2 ^ n - 1) = (mask &&& nI (2 ^ n - 1)) &&& nI 254 := by
    apply Int32.toBitVec_inj.1
    rw [Int32.toBitVec_and, Int32.toBitVec_and, Int32.toBitVec_and, Int32.toBitVec_and]
    apply BitVec.eq_of_getLsbD_eq
    intro i hi
    simp only [BitVec.getLsbD_and]
    cases mask.toBitVec.getLsbD i <;> cases (nI 254).toBitVec.getLsbD i <;> cases (nI (2 ^ n - 1)).toBitVec.getLsbD i <;> rfl
  rw [e, pk_and mask n (pk_tn (by omega)), ph_nand]
  rfl
/-- leastWith(a, b, apart) -/
def ph_lx (tr va : Nat → Nat) (n : Nat) (a b : Int32) (ap : Bool) : Int32 :=
  if (a < 0 ∨ nI n ≤ a) ∨ (b < 0 ∨ nI n ≤ b) ∨ (a = b ∧ ap = true) then -1 else nI (ph_lw tr va n a.toNatClampNeg b.toNatClampNeg ap)
/-- cover(site) -/
def ph_cv (tr : Nat → Nat) (s : Nat) (n : Nat) : Nat := ph_sm (fun r => decide (0 < tr (r * 8 + s))) (fun _ => 1) n
def ph_cx (tr : Nat → Nat) (n : Nat) (st : Int32) : Int32 := if st < 0 ∨ nI 8 ≤ st then -2 else nI (ph_cv tr st.toNatClampNeg n)
theorem ph_cv_le (tr : Nat → Nat) (s n : Nat) : ph_cv tr s n ≤ n := by
  have h := ph_sm_le (p := fun r => decide (0 < tr (r * 8 + s))) (f := fun _ => 1) (b := 1) (fun _ => Nat.le_refl 1) n
  unfold ph_cv
  omega
/-! the calls keep what holds of the reads -/
theorem ph_ok_rd {n : Nat} {tr va : Nat → Nat} {r : Int32} {n' : Nat} {tr' : Nat → Nat} (h : ph_ok n tr va) (e : (r, n', tr') = ph_rd n tr) : ph_ok n' tr' va := by
  obtain ⟨h1, h2, h3⟩ := h
  unfold ph_rd at e
  split at e
  · injection e with e1 e2
    injection e2 with e2 e3
    subst e2
    subst e3
    exact ⟨by omega, ph_cl_le h2 8, h3⟩
  · injection e with e1 e2
    injection e2 with e2 e3
    subst e2
    subst e3
    exact ⟨h1, h2, h3⟩
theorem ph_clamp9 {tu : Int32} (h : ¬ nI 9 < tu) : tu.toNatClampNeg ≤ 9 := by
  by_cases h0 : tu < 0
  · have h1 : tu.toInt < 0 := by
      have h2 := Int32.lt_iff_toInt_lt.mp h0
      simpa using h2
    have h3 : tu.toNatClampNeg = tu.toInt.toNat := rfl
    omega
  · obtain ⟨j, hj, rfl⟩ := nI_of h0
    rw [nI_clamp hj]
    rw [nI_ltI (by decide) hj] at h
    omega
theorem ph_ok_sy {n : Nat} {tr va : Nat → Nat} {rd st vl tu r : Int32} {tr' va' : Nat → Nat} (h : ph_ok n tr va) (e : (r, tr', va') = ph_sy n tr va rd st vl tu) : ph_ok n tr' va' := by
  obtain ⟨h1, h2, h3⟩ := h
  unfold ph_sy at e
  split at e
  · injection e with e1 e2
    injection e2 with e2 e3
    subst e2
    subst e3
    exact ⟨h1, h2, h3⟩
  · split at e
    · injection e with e1 e2
      injection e2 with e2 e3
      subst e2
      subst e3
      exact ⟨h1, h2, h3⟩
    · split at e
      · injection e with e1 e2
        injection e2 with e2 e3
        subst e2
        subst e3
        exact ⟨h1, h2, h3⟩
      · rename_i hq
        injection e with e1 e2
        injection e2 with e2 e3
        subst e2
        subst e3
        exact ⟨h1, ph_up_le h2 (ph_clamp9 (fun z => hq (Or.inr z))), ph_up_le h3 (ph_lb_le vl)⟩
theorem ph_ok_sx {n : Nat} {tr va : Nat → Nat} {sp bits tu r : Int32} {n' : Nat} {tr' va' : Nat → Nat} (h : ph_ok n tr va) (e : (r, n', tr', va') = ph_sx n tr va sp bits tu) : ph_ok n' tr' va' := by
  obtain ⟨h1, h2, h3⟩ := h
  unfold ph_sx at e
  split at e
  · injection e with e1 e2
    injection e2 with e2 e3
    injection e3 with e3 e4
    subst e2
    subst e3
    subst e4
    exact ⟨h1, h2, h3⟩
  · split at e
    · injection e with e1 e2
      injection e2 with e2 e3
      injection e3 with e3 e4
      subst e2
      subst e3
      subst e4
      exact ⟨h1, h2, h3⟩
    · rename_i hq
      split at e
      · injection e with e1 e2
        injection e2 with e2 e3
        injection e3 with e3 e4
        subst e2
        subst e3
        subst e4
        exact ⟨by omega, ph_wr_le (ph_cl_le h2 8) (fun _ => ph_clamp9 (fun z => hq (Or.inr z))) _, ph_wr_le h3 (fun i => ph_lb_le _) _⟩
      · injection e with e1 e2
        injection e2 with e2 e3
        injection e3 with e3 e4
        subst e2
        subst e3
        subst e4
        exact ⟨h1, h2, h3⟩
theorem ph_ok_dr {n : Nat} {tr va : Nat → Nat} {r : Int32} {n' : Nat} (h : ph_ok n tr va) (e : (r, n') = ph_dr n) : ph_ok n' tr va := by
  obtain ⟨h1, h2, h3⟩ := h
  unfold ph_dr at e
  split at e
  · injection e with e1 e2
    subst e2
    exact ⟨by omega, h2, h3⟩
  · injection e with e1 e2
    subst e2
    exact ⟨by omega, h2, h3⟩
theorem upd_same (f : Nat → Int32) (k : Nat) : upd f k (f k) = f := by
  funext j
  simp only [upd]
  split
  · rename_i h
    rw [h]
  · rfl
end
section
/-! PLAIN PART 5: the loops over the table, a step at a time -/
def ph_bgk (k r K : Nat) (C B Y C' B' Y' : Nat → Int32) : Prop := (∀ m, ph_sub m K → C' m = C m ∧ B' m = B m ∧ Y' m = Y m) ∧ ∀ m, m < k → ph_sub m K → C' (m ||| 2 ^ r) = (if r = 0 then nI 1000000 else C m) ∧ B' (m ||| 2 ^ r) = B m ||| nI (2 ^ r) ∧ Y' (m ||| 2 ^ r) = Y m
theorem ph_bgk_0 (r K : Nat) (C B Y : Nat → Int32) : ph_bgk 0 r K C B Y C B Y := ⟨fun _ _ => ⟨rfl, rfl, rfl⟩, fun m hm => absurd hm (Nat.not_lt_zero m)⟩
theorem ph_bgk_skip {k r K : Nat} {C B Y C' B' Y' : Nat → Int32} (h : ph_bgk k r K C B Y C' B' Y') (hs : ¬ ph_sub k K) : ph_bgk (k + 1) r K C B Y C' B' Y' :=
  ⟨h.1, fun m hm hsub => h.2 m (by
    rcases Nat.lt_or_ge m k with q | q
    · exact q
    · have e : m = k := by omega
      subst e
      exact absurd hsub hs) hsub⟩
theorem ph_upd_ne {f : Nat → Int32} {k j : Nat} {x : Int32} (h : ¬ j = k) : upd f k x j = f j := by
  simp only [upd, if_neg h]
theorem ph_upd_eq {f : Nat → Int32} {k : Nat} {x : Int32} : upd f k x k = x := by
  simp only [upd, if_true]
theorem ph_sub_ne {m k r K : Nat} (hm : ph_sub m K) (hK : K.testBit r = false) : ¬ m = k ||| 2 ^ r := by
  intro e
  have h1 := ph_sub_no hm hK
  rw [e, ph_or_bit] at h1
  simp at h1
theorem ph_bgk_put {k r K : Nat} {C B Y C' B' Y' : Nat → Int32} {x : Int32} (hK : K.testBit r = false) (h : ph_bgk k r K C B Y C' B' Y') (hs : ph_sub k K) (hx : x = if r = 0 then nI 1000000 else C' k) : ph_bgk (k + 1) r K C B Y (upd C' (k ||| 2 ^ r) x) (upd B' (k ||| 2 ^ r) (B' k ||| nI (2 ^ r))) (upd Y' (k ||| 2 ^ r) (Y' k)) := by
  refine ⟨fun m hm => ?_, fun m hm hsub => ?_⟩
  · have e := ph_sub_ne (k := k) hm hK
    rw [ph_upd_ne e, ph_upd_ne e, ph_upd_ne e]
    exact h.1 m hm
  · by_cases e : m = k
    · subst e
      obtain ⟨a1, a2, a3⟩ := h.1 m hs
      rw [ph_upd_eq, ph_upd_eq, ph_upd_eq, hx, a1, a2, a3]
      exact ⟨rfl, rfl, rfl⟩
    · have e2 : ¬ m ||| 2 ^ r = k ||| 2 ^ r := fun q => e (ph_or_inj (ph_sub_no hsub hK) (ph_sub_no hs hK) q)
      rw [ph_upd_ne e2, ph_upd_ne e2, ph_upd_ne e2]
      exact h.2 m (by omega) hsub
theorem ph_bgk_end {r K : Nat} {C B Y C' B' Y' : Nat → Int32} (hK : K < 256) (h : ph_bgk 256 r K C B Y C' B' Y') : ph_bg r K C B Y C' B' Y' := ⟨h.1, fun m hm => h.2 m (ph_sub_lt hm hK) hm⟩
/-! endRead -/
def ph_edk (k r K : Nat) (C B Y C' B' Y' : Nat → Int32) : Prop := ∀ m, ph_sub m K → (C' (m ||| 2 ^ r) = C (m ||| 2 ^ r) ∧ B' (m ||| 2 ^ r) = B (m ||| 2 ^ r) ∧ Y' (m ||| 2 ^ r) = Y (m ||| 2 ^ r)) ∧
  (m < k → C' m = ph_jC (C m) (C (m ||| 2 ^ r)) ∧ B' m = ph_jB (C m) (C (m ||| 2 ^ r)) (B m) (B (m ||| 2 ^ r)) ∧ Y' m = ph_jY (C m) (C (m ||| 2 ^ r)) (Y m) (Y (m ||| 2 ^ r))) ∧ (k ≤ m → C' m = C m ∧ B' m = B m ∧ Y' m = Y m)
theorem ph_edk_0 (r K : Nat) (C B Y : Nat → Int32) : ph_edk 0 r K C B Y C B Y := fun m _ => ⟨⟨rfl, rfl, rfl⟩, fun h => absurd h (Nat.not_lt_zero m), fun _ => ⟨rfl, rfl, rfl⟩⟩
theorem ph_edk_skip {k r K : Nat} {C B Y C' B' Y' : Nat → Int32} (h : ph_edk k r K C B Y C' B' Y') (hs : ¬ ph_sub k K) : ph_edk (k + 1) r K C B Y C' B' Y' := by
  intro m hm
  obtain ⟨h1, h2, h3⟩ := h m hm
  have e : ¬ m = k := by
    intro e
    subst e
    exact hs hm
  exact ⟨h1, fun q => h2 (by omega), fun q => h3 (by omega)⟩
theorem ph_edk_put {k r K : Nat} {C B Y C' B' Y' : Nat → Int32} (hK : K.testBit r = false) (h : ph_edk k r K C B Y C' B' Y') (hs : ph_sub k K) :
    ph_edk (k + 1) r K C B Y (upd C' k (ph_jC (C' k) (C' (k ||| 2 ^ r)))) (upd B' k (ph_jB (C' k) (C' (k ||| 2 ^ r)) (B' k) (B' (k ||| 2 ^ r)))) (upd Y' k (ph_jY (C' k) (C' (k ||| 2 ^ r)) (Y' k) (Y' (k ||| 2 ^ r)))) := by
  intro m hm
  obtain ⟨h1, h2, h3⟩ := h m hm
  have e0 : ¬ m ||| 2 ^ r = k := fun q => ph_sub_ne (k := m) hs hK q.symm
  refine ⟨?_, fun q => ?_, fun q => ?_⟩
  · rw [ph_upd_ne e0, ph_upd_ne e0, ph_upd_ne e0]
    exact h1
  · by_cases e : m = k
    · subst e
      obtain ⟨a1, a2, a3⟩ := h1
      obtain ⟨b1, b2, b3⟩ := h3 (Nat.le_refl m)
      rw [ph_upd_eq, ph_upd_eq, ph_upd_eq, a1, a2, a3, b1, b2, b3]
      exact ⟨rfl, rfl, rfl⟩
    · rw [ph_upd_ne e, ph_upd_ne e, ph_upd_ne e]
      exact h2 (by omega)
  · have e : ¬ m = k := by omega
    rw [ph_upd_ne e, ph_upd_ne e, ph_upd_ne e]
    exact h3 (by omega)
theorem ph_edk_end {r K : Nat} {C B Y C' B' Y' : Nat → Int32} (hK : K < 256) (h : ph_edk 256 r K C B Y C' B' Y') : ph_ed r K C B Y C' B' Y' := fun m hm => (h m hm).2.1 (ph_sub_lt hm hK)
/-! addSite -/
def ph_adk (k K : Nat) (g : Nat → Nat) (C C' : Nat → Int32) : Prop := ∀ m, ph_sub m K → C' m = if m < k then (if C m < nI 1000000 then C m + nI (g m) else C m) else C m
theorem ph_adk_0 (K : Nat) (g : Nat → Nat) (C : Nat → Int32) : ph_adk 0 K g C C := fun m _ => by rw [if_neg (Nat.not_lt_zero m)]
theorem ph_adk_skip {k K : Nat} {g : Nat → Nat} {C C' : Nat → Int32} (h : ph_adk k K g C C') (hs : ¬ ph_sub k K ∨ ¬ C' k < nI 1000000) : ph_adk (k + 1) K g C C' := by
  intro m hm
  by_cases e : m = k
  · subst e
    rcases hs with q | q
    · exact absurd hm q
    · have h1 := h m hm
      rw [if_neg (Nat.lt_irrefl m)] at h1
      rw [if_pos (Nat.lt_succ_self m), h1]
      rw [h1] at q
      rw [if_neg q]
  · rw [h m hm]
    by_cases q : m < k
    · rw [if_pos q, if_pos (show m < k + 1 by omega)]
    · rw [if_neg q, if_neg (show ¬ m < k + 1 by omega)]
theorem ph_adk_put {k K : Nat} {g : Nat → Nat} {C C' : Nat → Int32} (h : ph_adk k K g C C') (hs : ph_sub k K) (hc : C' k < nI 1000000) : ph_adk (k + 1) K g C (upd C' k (C' k + nI (g k))) := by
  intro m hm
  by_cases e : m = k
  · subst e
    have h1 := h m hm
    rw [if_neg (Nat.lt_irrefl m)] at h1
    rw [h1] at hc
    rw [ph_upd_eq, if_pos (Nat.lt_succ_self m), h1, if_pos hc]
  · rw [ph_upd_ne e, h m hm]
    by_cases q : m < k
    · rw [if_pos q, if_pos (show m < k + 1 by omega)]
    · rw [if_neg q, if_neg (show ¬ m < k + 1 by omega)]
theorem ph_adk_end {K : Nat} {g : Nat → Nat} {C C' : Nat → Int32} (hK : K < 256) (h : ph_adk 256 K g C C') : ∀ m, ph_sub m K → C' m = if C m < nI 1000000 then C m + nI (g m) else C m := fun m hm => by
  rw [h m hm, if_pos (ph_sub_lt hm hK)]
theorem ph_dec_eq : ∀ j, j < 9 → ∀ t, t < 8 → nI j - 1 = nI t → j = t + 1 := by decide +kernel
theorem ph_dec_ne {j t : Nat} (h : ¬ nI j - 1 = nI t) : ¬ j = t + 1 := fun e => h (by rw [e, nI_pred])
theorem ph_without_lt {K r : Nat} (hK : K < 256) : K &&& (255 ^^^ 2 ^ r) < 256 := Nat.lt_of_le_of_lt Nat.and_le_left hK
theorem ph_without_r {K r : Nat} (hK : K < 256) : (K &&& (255 ^^^ 2 ^ r)).testBit r = false := by
  rw [ph_without_bit K r r hK]
  simp
/-! leastWith's own loop -/
def ph_lk (k a b : Nat) (ap : Bool) (C : Nat → Int32) (v : Int32) : Prop := v ≤ nI 1000000 ∧ (∀ m, m < k → ph_q a b ap m → v ≤ C m) ∧ (v = nI 1000000 ∨ ∃ m, m < k ∧ ph_q a b ap m ∧ C m = v)
theorem ph_lk_0 (a b : Nat) (ap : Bool) (C : Nat → Int32) : ph_lk 0 a b ap C (nI 1000000) := ⟨Int32.le_refl _, fun m hm => absurd hm (Nat.not_lt_zero m), Or.inl rfl⟩
theorem ph_lk_skip {k a b : Nat} {ap : Bool} {C : Nat → Int32} {v : Int32} (h : ph_lk k a b ap C v) (hs : ¬ ph_q a b ap k ∨ v ≤ C k) : ph_lk (k + 1) a b ap C v := by
  obtain ⟨h1, h2, h3⟩ := h
  refine ⟨h1, fun m hm hq => ?_, ?_⟩
  · by_cases e : m = k
    · subst e
      rcases hs with q | q
      · exact absurd hq q
      · exact q
    · exact h2 m (by omega) hq
  · rcases h3 with q | ⟨m, m1, m2⟩
    · exact Or.inl q
    · exact Or.inr ⟨m, by omega, m2⟩
theorem ph_lk_take {k a b : Nat} {ap : Bool} {C : Nat → Int32} {v : Int32} (h : ph_lk k a b ap C v) (hq : ph_q a b ap k) (hv : C k < v) : ph_lk (k + 1) a b ap C (C k) := by
  obtain ⟨h1, h2, h3⟩ := h
  have hle : C k ≤ v := Int32.le_of_lt hv
  refine ⟨Int32.le_trans hle h1, fun m hm hq => ?_, Or.inr ⟨k, by omega, hq, rfl⟩⟩
  by_cases e : m = k
  · subst e
    exact Int32.le_refl _
  · exact Int32.le_trans hle (h2 m (by omega) hq)
end
section
/-! PLAIN PART 6: ends -/
theorem ph_K9_kp {tr va : Nat → Nat} {n kp don atw : Nat} {f : Bool} {C B Y : Nat → Int32} (hkp : ∀ i, n ≤ i → kp.testBit i = false) (h : ph_K9 tr va n f kp n don atw C B Y) : kp = atw := by
  obtain ⟨h1, h2, h3, h4, h5, hT⟩ := h
  exact Nat.eq_of_testBit_eq (fun i => by
    rcases Nat.lt_or_ge i n with q | q
    · cases z : kp.testBit i with
      | true => exact (h3 i q z).symm
      | false => exact (h4 i q z).symm
    · rw [hkp i q, (h5 i q).2])
theorem ph_andz {j a : Nat} (h : j &&& 2 ^ a = 0) : j.testBit a = false := by
  have h1 := congrArg (fun x => x.testBit a) h
  simpa [Nat.testBit_and, Nat.testBit_two_pow] using h1
theorem ph_andnz {j a : Nat} (h : ¬ j &&& 2 ^ a = 0) : j.testBit a = true := by
  cases e : j.testBit a with
  | true => rfl
  | false =>
    refine absurd (Nat.eq_of_testBit_eq (fun i => ?_)) h
    rw [Nat.testBit_and, Nat.testBit_two_pow, Nat.zero_testBit]
    by_cases q : a = i
    · subst q
      rw [e]
      rfl
    · simp [q]
theorem ph_lk_end {tr va : Nat → Nat} {n a b : Nat} {ap : Bool} {C B Y : Nat → Int32} {v : Int32} (hn : n ≤ 8) (ht : ∀ i, tr i ≤ 9) (ha : a < n) (hb : b < n) (hab : ¬ (a = b ∧ ap = true)) (h : ph_Z tr va n false (2 ^ a ||| 2 ^ b) C B Y) (hl : ph_lk 256 a b ap C v) : v = nI (ph_lw tr va n a b ap) := by
  obtain ⟨don, hd, hT⟩ := id h
  obtain ⟨l1, l2, l3⟩ := hl
  have hx : ∃ vn, vn ≤ 1000000 ∧ v = nI vn := by
    rcases l3 with q | ⟨m, m1, m2, m3⟩
    · exact ⟨1000000, Nat.le_refl _, q⟩
    · cases z : m.testBit 0 with
      | true => exact ⟨1000000, Nat.le_refl _, by rw [← m3]; exact (hT m m2.1).1 z⟩
      | false =>
        obtain ⟨L, c, bb, w, e1, _, _, _, _, k1, k2, _, _⟩ := (hT m m2.1).2 z
        have := ph_F_bound (va := va) (f := false) ht hn (Nat.le_refl 8) bb
        exact ⟨c, by omega, by rw [← m3]; exact e1⟩
  obtain ⟨vn, hv, rfl⟩ := hx
  congr 1
  refine ph_Z_with hn ht ha hb hab h l2 ?_ hv
  rcases l3 with q | q
  · left
    exact (nI_eq (by omega) (by decide)).mp q
  · exact Or.inr q
theorem ph_ones {n r : Nat} (hr : r < n) : (2 ^ n - 1).testBit r = true := by
  rw [Nat.testBit_two_pow_sub_one]
  exact decide_eq_true hr
theorem ph_F_ones {tr va : Nat → Nat} {n s mk : Nat} {f : Bool} : ph_F tr va n f (s + 1) mk = ph_F tr va n f s mk + ph_st tr va n s mk ((2 ^ n - 1).testBit) f := by
  simp only [ph_F]
  congr 1
  exact (ph_st_on (fun r hr q => by rw [ph_ones hr] at q; cases q) (fun _ _ _ => rfl) f).symm
theorem ph_pow8 {n : Nat} (hn : n ≤ 8) : 1 ≤ 2 ^ n ∧ 2 ^ n ≤ 256 := ⟨Nat.two_pow_pos n, Nat.pow_le_pow_right (n := 2) (by decide) hn⟩
theorem ph_kp2 {n a b : Nat} (ha : a < n) (hb : b < n) : ∀ i, n ≤ i → (2 ^ a ||| 2 ^ b).testBit i = false := by
  intro i hi
  rw [Nat.testBit_or, Nat.testBit_two_pow, Nat.testBit_two_pow, decide_eq_false (by omega), decide_eq_false (by omega)]
  rfl
end
section
/-! PLAIN PART 7: small facts for the reference -/
theorem ph_78 (st : Int32) : nI 8 ≤ st ↔ ¬ st ≤ nI 7 := by
  rw [Int32.le_iff_toInt_le, Int32.le_iff_toInt_le, nI_toInt (by decide), nI_toInt (by decide)]
  omega
theorem ph_so_f1 {n m : Nat} (h : ¬ m &&& 1 = 0) : ph_so n m = false := by
  have e : m.testBit 0 = true := by
    rw [Nat.and_one_is_mod] at h
    rw [Nat.testBit_zero]
    exact decide_eq_true (by omega)
  unfold ph_so
  rw [e]
  rfl
theorem ph_so_f2 {n m : Nat} (h : ¬ m / 2 ^ n = 0) : ph_so n m = false := by
  have e : ¬ m < 2 ^ n := fun q => h (Nat.div_eq_of_lt q)
  unfold ph_so
  rw [decide_eq_false e, Bool.and_false]
theorem ph_so_t {n m : Nat} (h1 : m &&& 1 = 0) (h2 : m / 2 ^ n = 0) : ph_so n m = true := by
  have e1 : m.testBit 0 = false := by
    rw [Nat.and_one_is_mod] at h1
    rw [Nat.testBit_zero]
    exact decide_eq_false (by omega)
  have e2 : m < 2 ^ n := by
    rcases Nat.lt_or_ge m (2 ^ n) with q | q
    · exact q
    · have h3 : 0 < m / 2 ^ n := Nat.div_pos q (Nat.two_pow_pos n)
      omega
  unfold ph_so
  rw [e1, decide_eq_true e2]
  rfl
theorem ph_F8 {tr va : Nat → Nat} {n : Nat} {f : Bool} (ht : ∀ i, tr i ≤ 9) (hn : n ≤ 8) (M : Nat) : ph_F tr va n f 8 M ≤ 1152 := ph_F_le ht hn 8 M
theorem ph_ls_le {tr va : Nat → Nat} {n : Nat} {f : Bool} : ph_ls tr va n f ≤ 100000 := ph_mn_le 256
theorem ph_ct_le {Q : Nat → Bool} : ∀ k, ph_ct Q k ≤ k := by
  intro k
  induction k with
  | zero => exact Nat.le_refl 0
  | succ k ih =>
    simp only [ph_ct]
    split <;> omega
theorem ph_mn_t {P : Nat → Bool} {F : Nat → Nat} {k : Nat} (h : P k = true) : ph_mn P F (k + 1) = min (ph_mn P F k) (F k) := by
  simp only [ph_mn, if_pos h]
theorem ph_mn_f {P : Nat → Bool} {F : Nat → Nat} {k : Nat} (h : P k = false) : ph_mn P F (k + 1) = ph_mn P F k := by
  simp only [ph_mn, h]
  rfl
theorem ph_ct_t {Q : Nat → Bool} {k : Nat} (h : Q k = true) : ph_ct Q (k + 1) = ph_ct Q k + 1 := by
  simp only [ph_ct, if_pos h]
theorem ph_ct_f {Q : Nat → Bool} {k : Nat} (h : Q k = false) : ph_ct Q (k + 1) = ph_ct Q k := by
  simp only [ph_ct, h]
  rfl
/-- no mask below j -/
def ph_no (Q : Nat → Bool) (j : Nat) : Prop := ∀ M, M < j → Q M = false
theorem ph_no_0 (Q : Nat → Bool) : ph_no Q 0 := fun M h => absurd h (Nat.not_lt_zero M)
theorem ph_no_s {Q : Nat → Bool} {j : Nat} (h : ph_no Q j) (hj : Q j = false) : ph_no Q (j + 1) := fun M hM => by
  by_cases e : M = j
  · rw [e]; exact hj
  · exact h M (by omega)
end
section
/-! ROWS OF OUR OWN: one instruction over natural numbers; calls inside a class; ends -/
set_option maxRecDepth 100000
abbrev cls2 : List vw_C := [(RX0, TX0, 11), (RX1, TX1, 3)]
/-- the cells of a ReadPhaser: the object at q 0, its arrays at q 1 .. q 5 -/
abbrev XW (q : Nat → Nat) (d : ClassId) (R : Int32) (T V : Nat → Int32) (K : Int32) (C B Y : Nat → Int32) (x0 x1 y0 y1 : Int32) : va_W :=
  [(q 0, .inr (0, [.int R, .ref (q 1), .ref (q 2), .int K, .ref (q 3), .ref (q 4), .ref (q 5), .int x0, .int x1, .int y0, .int y1])), (q 1, .inl (d, 64, .inl T)), (q 2, .inl (d, 64, .inl V)), (q 3, .inl (d, 256, .inl C)), (q 4, .inl (d, 256, .inl B)), (q 5, .inl (d, 256, .inl Y))]
/-- the cells of a ReadPhaserModel: count, values, trusts -/
abbrev MW (q : Nat → Nat) (d : ClassId) (N : Int32) (V T : Nat → Int32) : va_W :=
  [(q 0, .inr (1, [.int N, .ref (q 1), .ref (q 2)])), (q 1, .inl (d, 64, .inl V)), (q 2, .inl (d, 64, .inl T))]
abbrev xB (dC : Nat → ClassId) (dI : Nat → Nat → Nat) (A : Nat → Prop) {S : Type} (wf : S → va_W) (u : S) (t : State) : Prop := va_P (dC, dI) cls2 (wf u) t.heap ∧ va_D A (wf u)
abbrev xPc (dC : Nat → ClassId) (dI : Nat → Nat → Nat) (d : ClassId) (sz : Nat) (av : List Value) (w : va_W) : Array Value → State → Prop := va_Pc av (fun U => U.heap.size = sz ∧ va_P (dC, dI) cls2 w U.heap ∧ va_K (dC, dI) cls2 [(d, .int)] U ∧ va_D (fun _ => True) w)
/-- a contract with an int for its answer -/
abbrev xMi (l : Launch) (dC : Nat → ClassId) (dI : Nat → Nat → Nat) (d : ClassId) (sz : Nat) (y : MethodName) (cc : ByteArray) (L : Nat) (ret : Option FieldType) (rm : Room) (av : List Value) (w : va_W) {S : Type} (post : Int32 → S → Prop) (wf : S → va_W) : Prop :=
  Met l y (ws_ y cc L ret) rm (xPc dC dI d sz av w) (va_Qi post (xB dC dI (va_A w sz) wf) (va_A w sz)) 0 0 (va_A w sz)
abbrev xMv (l : Launch) (dC : Nat → ClassId) (dI : Nat → Nat → Nat) (d : ClassId) (sz : Nat) (y : MethodName) (cc : ByteArray) (L : Nat) (rm : Room) (av : List Value) (w : va_W) {S : Type} (post : S → Prop) (wf : S → va_W) : Prop :=
  Met l y (ws_ y cc L none) rm (xPc dC dI d sz av w) (va_Qv post (xB dC dI (va_A w sz) wf) (va_A w sz)) 0 0 (va_A w sz)
/-- what holds all through a method's run -/
def xC (cc : ByteArray) (L : Nat) (ret : Option FieldType) (own : String) (p : Program) (s : State) (m : MethodId) (meth : Method) (c : Code) (args : Array Value) (dC : Nat → ClassId) (dI : Nat → Nat → Nat) (d : ClassId) (A : Nat → Prop) : Prop :=
  p.tables.exec = Jvm.exec ∧ c.code = cc ∧ meth.sig.returnType = ret ∧ meth.locks = false ∧ c.maxLocals = L ∧ s.vm.findClass own = some m.cls ∧ (∀ w ∈ lw_all, w.before args s = true) ∧ va_K (dC, dI) cls2 [(d, .int)] s ∧ (∀ q : Nat, s.heap.size ≤ q → A q)
set_option maxHeartbeats 4000000 in
theorem xM_i {l : Launch} {dC : Nat → ClassId} {dI : Nat → Nat → Nat} {d : ClassId} {sz : Nat} {y : MethodName} {cc : ByteArray} {L : Nat} {ret : Option FieldType} {rm : Room} {av : List Value} {w : va_W} {S : Type} {post : Int32 → S → Prop} {wf : S → va_W}
    (hc : plainName y.cls = true) (hlen : (lg_sl av).length ≤ L)
    (body : ∀ (p : Program) (e : Env) (s : State) (m : MethodId) (below : List Frame) (meth : Method) (c : Code) (A : Nat → Prop) (ls : Array Slot), xC cc L ret y.cls p s m meth c av.toArray dC dI d A → va_P (dC, dI) cls2 w s.heap → va_D A w → va_S A s.heap s.heap [] → lv_has ls L (lv_args 0 av) →
      W p l e rm s m av.toArray below meth c s.heap [] 0 0 (MQ below (va_Qi post (xB dC dI A wf) A) av.toArray s 0 0 A) (F0 m 0 ls [])) : xMi l dC dI d sz y cc L ret rm av w post wf := by
  refine Met.ofW (cc := cc) (maxL := L) (ret := ret) hc rfl ?_
  intro p e s m args below meth c s₁ B hml hv
  obtain ⟨rfl, hsz, hP, hK, hD0⟩ := hv
  have hts := atoms_spec (ws := ws_ y cc L ret) B.pre
  have hts : ∀ w ∈ lw_all, w.before _ s = true := fun w h => hts w (List.mem_cons_of_mem _ h)
  have hown : s.vm.findClass y.cls = some m.cls := findClass_of_methodNamed B.named
  subst hsz
  have hD := hD0.self (sz := s.heap.size)
  have hl := lv_entry av hlen
  rw [lg_entry_eq]
  exact body p e s m below meth c _ _ ⟨B.exec, B.bytes, B.returns, B.notSynchronized, hml, hown, hts, hK, fun q h => Or.inr h⟩ hP hD va_S.rf hl
set_option maxHeartbeats 4000000 in
theorem xM_v {l : Launch} {dC : Nat → ClassId} {dI : Nat → Nat → Nat} {d : ClassId} {sz : Nat} {y : MethodName} {cc : ByteArray} {L : Nat} {rm : Room} {av : List Value} {w : va_W} {S : Type} {post : S → Prop} {wf : S → va_W}
    (hc : plainName y.cls = true) (hlen : (lg_sl av).length ≤ L)
    (body : ∀ (p : Program) (e : Env) (s : State) (m : MethodId) (below : List Frame) (meth : Method) (c : Code) (A : Nat → Prop) (ls : Array Slot), xC cc L none y.cls p s m meth c av.toArray dC dI d A → va_P (dC, dI) cls2 w s.heap → va_D A w → va_S A s.heap s.heap [] → lv_has ls L (lv_args 0 av) →
      W p l e rm s m av.toArray below meth c s.heap [] 0 0 (MQ below (va_Qv post (xB dC dI A wf) A) av.toArray s 0 0 A) (F0 m 0 ls [])) : xMv l dC dI d sz y cc L rm av w post wf := by
  refine Met.ofW (cc := cc) (maxL := L) (ret := none) hc rfl ?_
  intro p e s m args below meth c s₁ B hml hv
  obtain ⟨rfl, hsz, hP, hK, hD0⟩ := hv
  have hts := atoms_spec (ws := ws_ y cc L none) B.pre
  have hts : ∀ w ∈ lw_all, w.before _ s = true := fun w h => hts w (List.mem_cons_of_mem _ h)
  have hown : s.vm.findClass y.cls = some m.cls := findClass_of_methodNamed B.named
  subst hsz
  have hD := hD0.self (sz := s.heap.size)
  have hl := lv_entry av hlen
  rw [lg_entry_eq]
  exact body p e s m below meth c _ _ ⟨B.exec, B.bytes, B.returns, B.notSynchronized, hml, hown, hts, hK, fun q h => Or.inr h⟩ hP hD va_S.rf hl
theorem xr_dec (x : Int32) : x + Int32.ofInt (-1) = x - 1 := by
  rw [show Int32.ofInt (-1) = -1 by decide +kernel, Int32.sub_eq_add_neg]
section XR
variable {p : Program} {l : Launch} {e : Env} {R : Room} {s : State} {m : MethodId} {args : Array Value} {below : List Frame} {meth : Method} {c : Code} {H : Heap} {locs : List Loc} {cells slots : Nat} {Q : State → Prop}
variable {cc : ByteArray} {pc : Nat} {ls : Array Slot} {rest : List Value} {D : va_G} {cl : List vw_C} {A : Nat → Prop} {a : Nat} {tys : List (ClassId × FieldType)} {ws : va_W} {H0 : Heap}
theorem xr_v {x y : Int32} (h : x = y) (k : W p l e R s m args below meth c H locs cells slots Q (F0 m pc ls (.int y :: rest))) : W p l e R s m args below meth c H locs cells slots Q (F0 m pc ls (.int x :: rest)) := by
  subst h
  exact k
theorem xr_add (hx : p.tables.exec = Jvm.exec) (hb : c.code = cc) {x y : Nat} (hdg : decode cc pc = .ok (.iadd, 1)) (k : W p l e R s m args below meth c H locs cells slots Q (F0 m (pc + 1) ls (.int (nI (x + y)) :: rest))) : W p l e R s m args below meth c H locs cells slots Q (F0 m pc ls (.int (nI y) :: .int (nI x) :: rest)) :=
  lv_iadd hx hb hdg (xr_v (nI_add x y) k)
theorem xr_sub (hx : p.tables.exec = Jvm.exec) (hb : c.code = cc) {x y : Nat} (h : y ≤ x) (hdg : decode cc pc = .ok (.isub, 1)) (k : W p l e R s m args below meth c H locs cells slots Q (F0 m (pc + 1) ls (.int (nI (x - y)) :: rest))) : W p l e R s m args below meth c H locs cells slots Q (F0 m pc ls (.int (nI y) :: .int (nI x) :: rest)) :=
  lv_isub hx hb hdg (xr_v (pk_sub h) k)
theorem xr_mul (hx : p.tables.exec = Jvm.exec) (hb : c.code = cc) {x y : Nat} (hdg : decode cc pc = .ok (.imul, 1)) (k : W p l e R s m args below meth c H locs cells slots Q (F0 m (pc + 1) ls (.int (nI (x * y)) :: rest))) : W p l e R s m args below meth c H locs cells slots Q (F0 m pc ls (.int (nI y) :: .int (nI x) :: rest)) :=
  lv_imul hx hb hdg (xr_v (pk_mul x y) k)
theorem xr_or (hx : p.tables.exec = Jvm.exec) (hb : c.code = cc) {x y : Nat} (hdg : decode cc pc = .ok (.ior, 1)) (k : W p l e R s m args below meth c H locs cells slots Q (F0 m (pc + 1) ls (.int (nI (x ||| y)) :: rest))) : W p l e R s m args below meth c H locs cells slots Q (F0 m pc ls (.int (nI y) :: .int (nI x) :: rest)) :=
  lv_ior hx hb hdg (xr_v (ph_nor x y) k)
theorem xr_and (hx : p.tables.exec = Jvm.exec) (hb : c.code = cc) {x y : Nat} (hdg : decode cc pc = .ok (.iand, 1)) (k : W p l e R s m args below meth c H locs cells slots Q (F0 m (pc + 1) ls (.int (nI (x &&& y)) :: rest))) : W p l e R s m args below meth c H locs cells slots Q (F0 m pc ls (.int (nI y) :: .int (nI x) :: rest)) :=
  lv_iand hx hb hdg (xr_v (ph_nand x y) k)
/-- 1 << r -/
theorem xr_shl1 (hx : p.tables.exec = Jvm.exec) (hb : c.code = cc) {r : Nat} (hr : r < 9) (hdg : decode cc pc = .ok (.ishl, 1)) (k : W p l e R s m args below meth c H locs cells slots Q (F0 m (pc + 1) ls (.int (nI (2 ^ r)) :: rest))) : W p l e R s m args below meth c H locs cells slots Q (F0 m pc ls (.int (nI r) :: .int (nI 1) :: rest)) :=
  lv_ishl hx hb hdg (xr_v (ph_sh1 r hr) k)
/-- the '& 1' of (m >> r) & 1 -/
theorem xr_bit (hx : p.tables.exec = Jvm.exec) (hb : c.code = cc) {x r : Nat} (h1 : x < 2 ^ 31) (hr : r < 32) (hdg : decode cc pc = .ok (.iand, 1)) (k : W p l e R s m args below meth c H locs cells slots Q (F0 m (pc + 1) ls (.int (nI (x.testBit r).toNat) :: rest))) : W p l e R s m args below meth c H locs cells slots Q (F0 m pc ls (.int (nI 1) :: .int (nI x >>> (nI r &&& 31)) :: rest)) :=
  lv_iand hx hb hdg (xr_v (ph_bit h1 hr) k)
theorem xr_ld (hx : p.tables.exec = Jvm.exec) (hb : c.code = cc) (hK : va_K D cl tys s) (hP : va_P D cl ws H) (q0 t0 : Nat) {cA : ClassId} {n : Nat} {f : Nat → Int32} (ha : ws[q0]? = some (a, .inl (cA, n, .inl f))) (ht : tys[t0]? = some (cA, .int)) {i : Nat} {v : Int32} (hi : i < n) (hn : n < 2 ^ 31) (hv : f i = v) (hdg : decode cc pc = .ok (.iaload, 1))
    (kk : W p l e R s m args below meth c H locs cells slots Q (F0 m (pc + 1) ls (.int v :: rest))) : W p l e R s m args below meth c H locs cells slots Q (F0 m pc ls (.int (nI i) :: .ref a :: rest)) := by
  have e1 : (nI i).toNatClampNeg = i := nI_clamp (Nat.lt_trans hi hn)
  exact va_iald hx hb hK hP q0 t0 ha ht (vp_in_nI hi hn) hdg (xr_v (by rw [e1, hv]) kk)
theorem xr_st (hx : p.tables.exec = Jvm.exec) (hb : c.code = cc) (hK : va_K D cl tys s) (hP : va_P D cl ws H) (hD : va_D A ws) (hS : va_S A H0 H locs) (q0 t0 : Nat) {cA : ClassId} {n : Nat} {f g : Nat → Int32} (ha : ws[q0]? = some (a, .inl (cA, n, .inl f))) (ht : tys[t0]? = some (cA, .int)) {i : Nat} {x : Int32} (hi : i < n) (hn : n < 2 ^ 31) (hg : upd f i x = g) (hdg : decode cc pc = .ok (.iastore, 1))
    (kk : ∀ (H1 : Heap) (locs1 : List Loc), va_P D cl (ws.set q0 (a, .inl (cA, n, .inl g))) H1 → va_D A (ws.set q0 (a, .inl (cA, n, .inl g))) → va_S A H0 H1 locs1 → W p l e R s m args below meth c H1 locs1 cells slots Q (F0 m (pc + 1) ls rest)) : W p l e R s m args below meth c H locs cells slots Q (F0 m pc ls (.int x :: .int (nI i) :: .ref a :: rest)) := by
  have e1 : (nI i).toNatClampNeg = i := nI_clamp (Nat.lt_trans hi hn)
  exact va_iast hx hb hK hP hD hS q0 t0 ha ht (vp_in_nI hi hn) hdg (fun H1 l1 h1 h2 h3 => kk H1 l1 (by rw [e1, hg] at h1; exact h1) (by rw [e1, hg] at h2; exact h2) h3)
theorem xr_ge (hx : p.tables.exec = Jvm.exec) (hb : c.code = cc) {x y : Nat} (bx : x < 2 ^ 31) (bz : y < 2 ^ 31) {off : Int} {tgt : Nat} (hdg : decode cc pc = .ok (.if_icmp .ge off, 3)) (ht : (pc : Int) + off = (tgt : Int))
    (kt : y ≤ x → W p l e R s m args below meth c H locs cells slots Q (F0 m tgt ls rest)) (kf : x < y → W p l e R s m args below meth c H locs cells slots Q (F0 m (pc + 3) ls rest)) : W p l e R s m args below meth c H locs cells slots Q (F0 m pc ls (.int (nI y) :: .int (nI x) :: rest)) :=
  lv_icmp_ge hx hb hdg ht (fun h => kt ((nI_leI bz bx).mp h)) (fun h => kf (Nat.not_le.mp (fun q => h ((nI_leI bz bx).mpr q))))
theorem xr_gt (hx : p.tables.exec = Jvm.exec) (hb : c.code = cc) {x y : Nat} (bx : x < 2 ^ 31) (bz : y < 2 ^ 31) {off : Int} {tgt : Nat} (hdg : decode cc pc = .ok (.if_icmp .gt off, 3)) (ht : (pc : Int) + off = (tgt : Int))
    (kt : y < x → W p l e R s m args below meth c H locs cells slots Q (F0 m tgt ls rest)) (kf : x ≤ y → W p l e R s m args below meth c H locs cells slots Q (F0 m (pc + 3) ls rest)) : W p l e R s m args below meth c H locs cells slots Q (F0 m pc ls (.int (nI y) :: .int (nI x) :: rest)) :=
  lv_icmp_gt hx hb hdg ht (fun h => kt ((nI_ltI bz bx).mp h)) (fun h => kf (Nat.not_lt.mp (fun q => h ((nI_ltI bz bx).mpr q))))
theorem xr_lt (hx : p.tables.exec = Jvm.exec) (hb : c.code = cc) {x y : Nat} (bx : x < 2 ^ 31) (bz : y < 2 ^ 31) {off : Int} {tgt : Nat} (hdg : decode cc pc = .ok (.if_icmp .lt off, 3)) (ht : (pc : Int) + off = (tgt : Int))
    (kt : x < y → W p l e R s m args below meth c H locs cells slots Q (F0 m tgt ls rest)) (kf : y ≤ x → W p l e R s m args below meth c H locs cells slots Q (F0 m (pc + 3) ls rest)) : W p l e R s m args below meth c H locs cells slots Q (F0 m pc ls (.int (nI y) :: .int (nI x) :: rest)) :=
  lv_icmp_lt hx hb hdg ht (fun h => kt ((nI_ltI bx bz).mp h)) (fun h => kf (Nat.not_lt.mp (fun q => h ((nI_ltI bx bz).mpr q))))
theorem xr_le (hx : p.tables.exec = Jvm.exec) (hb : c.code = cc) {x y : Nat} (bx : x < 2 ^ 31) (bz : y < 2 ^ 31) {off : Int} {tgt : Nat} (hdg : decode cc pc = .ok (.if_icmp .le off, 3)) (ht : (pc : Int) + off = (tgt : Int))
    (kt : x ≤ y → W p l e R s m args below meth c H locs cells slots Q (F0 m tgt ls rest)) (kf : y < x → W p l e R s m args below meth c H locs cells slots Q (F0 m (pc + 3) ls rest)) : W p l e R s m args below meth c H locs cells slots Q (F0 m pc ls (.int (nI y) :: .int (nI x) :: rest)) :=
  lv_icmp_le hx hb hdg ht (fun h => kt ((nI_leI bx bz).mp h)) (fun h => kf (Nat.not_le.mp (fun q => h ((nI_leI bx bz).mpr q))))
theorem xr_eq (hx : p.tables.exec = Jvm.exec) (hb : c.code = cc) {x y : Nat} (bx : x < 2 ^ 31) (bz : y < 2 ^ 31) {off : Int} {tgt : Nat} (hdg : decode cc pc = .ok (.if_icmp .eq off, 3)) (ht : (pc : Int) + off = (tgt : Int))
    (kt : x = y → W p l e R s m args below meth c H locs cells slots Q (F0 m tgt ls rest)) (kf : ¬ x = y → W p l e R s m args below meth c H locs cells slots Q (F0 m (pc + 3) ls rest)) : W p l e R s m args below meth c H locs cells slots Q (F0 m pc ls (.int (nI y) :: .int (nI x) :: rest)) :=
  lv_icmp_eq hx hb hdg ht (fun h => kt ((nI_eq bx bz).mp h)) (fun h => kf (fun q => h ((nI_eq bx bz).mpr q)))
theorem xr_ne (hx : p.tables.exec = Jvm.exec) (hb : c.code = cc) {x y : Nat} (bx : x < 2 ^ 31) (bz : y < 2 ^ 31) {off : Int} {tgt : Nat} (hdg : decode cc pc = .ok (.if_icmp .ne off, 3)) (ht : (pc : Int) + off = (tgt : Int))
    (kt : ¬ x = y → W p l e R s m args below meth c H locs cells slots Q (F0 m tgt ls rest)) (kf : x = y → W p l e R s m args below meth c H locs cells slots Q (F0 m (pc + 3) ls rest)) : W p l e R s m args below meth c H locs cells slots Q (F0 m pc ls (.int (nI y) :: .int (nI x) :: rest)) :=
  lv_icmp_ne hx hb hdg ht (fun h => kt (fun q => h ((nI_eq bx bz).mpr q))) (fun h => kf ((nI_eq bx bz).mp h))
theorem xr_ifeq (hx : p.tables.exec = Jvm.exec) (hb : c.code = cc) {x : Nat} (bx : x < 2 ^ 31) {off : Int} {tgt : Nat} (hdg : decode cc pc = .ok (.ifCond .eq off, 3)) (ht : (pc : Int) + off = (tgt : Int))
    (kt : x = 0 → W p l e R s m args below meth c H locs cells slots Q (F0 m tgt ls rest)) (kf : ¬ x = 0 → W p l e R s m args below meth c H locs cells slots Q (F0 m (pc + 3) ls rest)) : W p l e R s m args below meth c H locs cells slots Q (F0 m pc ls (.int (nI x) :: rest)) :=
  lv_if_eq hx hb hdg ht (fun h => kt ((nI_eq bx (by decide)).mp (h.trans nI_0.symm))) (fun h => kf (fun q => h (by rw [q]; exact nI_0)))
theorem xr_ifne (hx : p.tables.exec = Jvm.exec) (hb : c.code = cc) {x : Nat} (bx : x < 2 ^ 31) {off : Int} {tgt : Nat} (hdg : decode cc pc = .ok (.ifCond .ne off, 3)) (ht : (pc : Int) + off = (tgt : Int))
    (kt : ¬ x = 0 → W p l e R s m args below meth c H locs cells slots Q (F0 m tgt ls rest)) (kf : x = 0 → W p l e R s m args below meth c H locs cells slots Q (F0 m (pc + 3) ls rest)) : W p l e R s m args below meth c H locs cells slots Q (F0 m pc ls (.int (nI x) :: rest)) :=
  lv_if_ne hx hb hdg ht (fun h => kt (fun q => h (by rw [q]; exact nI_0))) (fun h => kf ((nI_eq bx (by decide)).mp (h.trans nI_0.symm)))
theorem xr_ifle (hx : p.tables.exec = Jvm.exec) (hb : c.code = cc) {x : Nat} (bx : x < 2 ^ 31) {off : Int} {tgt : Nat} (hdg : decode cc pc = .ok (.ifCond .le off, 3)) (ht : (pc : Int) + off = (tgt : Int))
    (kt : x = 0 → W p l e R s m args below meth c H locs cells slots Q (F0 m tgt ls rest)) (kf : 0 < x → W p l e R s m args below meth c H locs cells slots Q (F0 m (pc + 3) ls rest)) : W p l e R s m args below meth c H locs cells slots Q (F0 m pc ls (.int (nI x) :: rest)) :=
  lv_if_le hx hb hdg ht (fun h => kt (by
    have h2 : nI x ≤ nI 0 := by rw [nI_0]; exact h
    have h3 := (nI_leI bx (by decide)).mp h2
    omega)) (fun h => kf (by
    refine Nat.pos_of_ne_zero (fun q => h ?_)
    rw [q, nI_0]
    decide))
/-! a bit, as 0 or 1 -/
theorem xb_t {b : Bool} (h : nI b.toNat = nI 1) : b = true := by cases b with | true => rfl | false => exact absurd h (by decide +kernel)
theorem xb_f {b : Bool} (h : ¬ nI b.toNat = nI 1) : b = false := by cases b with | false => rfl | true => exact absurd rfl h
theorem xb_z {b : Bool} (h : nI b.toNat = 0) : b = false := by cases b with | false => rfl | true => exact absurd h (by decide +kernel)
theorem xb_nz {b : Bool} (h : ¬ nI b.toNat = 0) : b = true := by cases b with | true => rfl | false => exact absurd (by decide +kernel) h
theorem xb_inj {a b : Bool} (h : nI a.toNat = nI b.toNat) : a = b := by cases a <;> cases b <;> first | rfl | exact absurd h (by decide +kernel)
theorem xr_bne1 (hx : p.tables.exec = Jvm.exec) (hb : c.code = cc) {b : Bool} {off : Int} {tgt : Nat} (hdg : decode cc pc = .ok (.if_icmp .ne off, 3)) (ht : (pc : Int) + off = (tgt : Int))
    (kt : b = false → W p l e R s m args below meth c H locs cells slots Q (F0 m tgt ls rest)) (kf : b = true → W p l e R s m args below meth c H locs cells slots Q (F0 m (pc + 3) ls rest)) : W p l e R s m args below meth c H locs cells slots Q (F0 m pc ls (.int (nI 1) :: .int (nI b.toNat) :: rest)) :=
  lv_icmp_ne hx hb hdg ht (fun h => kt (xb_f h)) (fun h => kf (xb_t h))
theorem xr_beq1 (hx : p.tables.exec = Jvm.exec) (hb : c.code = cc) {b : Bool} {off : Int} {tgt : Nat} (hdg : decode cc pc = .ok (.if_icmp .eq off, 3)) (ht : (pc : Int) + off = (tgt : Int))
    (kt : b = true → W p l e R s m args below meth c H locs cells slots Q (F0 m tgt ls rest)) (kf : b = false → W p l e R s m args below meth c H locs cells slots Q (F0 m (pc + 3) ls rest)) : W p l e R s m args below meth c H locs cells slots Q (F0 m pc ls (.int (nI 1) :: .int (nI b.toNat) :: rest)) :=
  lv_icmp_eq hx hb hdg ht (fun h => kt (xb_t h)) (fun h => kf (xb_f h))
theorem xr_bne (hx : p.tables.exec = Jvm.exec) (hb : c.code = cc) {b b2 : Bool} {off : Int} {tgt : Nat} (hdg : decode cc pc = .ok (.if_icmp .ne off, 3)) (ht : (pc : Int) + off = (tgt : Int))
    (kt : ¬ b = b2 → W p l e R s m args below meth c H locs cells slots Q (F0 m tgt ls rest)) (kf : b = b2 → W p l e R s m args below meth c H locs cells slots Q (F0 m (pc + 3) ls rest)) : W p l e R s m args below meth c H locs cells slots Q (F0 m pc ls (.int (nI b2.toNat) :: .int (nI b.toNat) :: rest)) :=
  lv_icmp_ne hx hb hdg ht (fun h => kt (fun q => h (by rw [q]))) (fun h => kf (xb_inj h))
theorem xr_beq (hx : p.tables.exec = Jvm.exec) (hb : c.code = cc) {b b2 : Bool} {off : Int} {tgt : Nat} (hdg : decode cc pc = .ok (.if_icmp .eq off, 3)) (ht : (pc : Int) + off = (tgt : Int))
    (kt : b = b2 → W p l e R s m args below meth c H locs cells slots Q (F0 m tgt ls rest)) (kf : ¬ b = b2 → W p l e R s m args below meth c H locs cells slots Q (F0 m (pc + 3) ls rest)) : W p l e R s m args below meth c H locs cells slots Q (F0 m pc ls (.int (nI b2.toNat) :: .int (nI b.toNat) :: rest)) :=
  lv_icmp_eq hx hb hdg ht (fun h => kt (xb_inj h)) (fun h => kf (fun q => h (by rw [q])))
theorem xr_bifne (hx : p.tables.exec = Jvm.exec) (hb : c.code = cc) {b : Bool} {off : Int} {tgt : Nat} (hdg : decode cc pc = .ok (.ifCond .ne off, 3)) (ht : (pc : Int) + off = (tgt : Int))
    (kt : b = true → W p l e R s m args below meth c H locs cells slots Q (F0 m tgt ls rest)) (kf : b = false → W p l e R s m args below meth c H locs cells slots Q (F0 m (pc + 3) ls rest)) : W p l e R s m args below meth c H locs cells slots Q (F0 m pc ls (.int (nI b.toNat) :: rest)) :=
  lv_if_ne hx hb hdg ht (fun h => kt (xb_nz h)) (fun h => kf (xb_z h))
theorem xr_bifeq (hx : p.tables.exec = Jvm.exec) (hb : c.code = cc) {b : Bool} {off : Int} {tgt : Nat} (hdg : decode cc pc = .ok (.ifCond .eq off, 3)) (ht : (pc : Int) + off = (tgt : Int))
    (kt : b = false → W p l e R s m args below meth c H locs cells slots Q (F0 m tgt ls rest)) (kf : b = true → W p l e R s m args below meth c H locs cells slots Q (F0 m (pc + 3) ls rest)) : W p l e R s m args below meth c H locs cells slots Q (F0 m pc ls (.int (nI b.toNat) :: rest)) :=
  lv_if_eq hx hb hdg ht (fun h => kt (xb_z h)) (fun h => kf (xb_nz h))
variable {dC : Nat → ClassId} {dI : Nat → Nat → Nat} {d : ClassId} {nL : Nat} {ret : Option FieldType} {own : String} {w : va_W}
/-! calls within a class: the callee has the whole world -/
theorem xw_free (hD : va_D A w) (hS : va_S A H0 H locs) (hA : ∀ q : Nat, H0.size ≤ q → A q) : ∀ q, va_A w H.size q → A q := by
  intro q h
  rcases h with ⟨k, e, h⟩ | h
  · exact hD.2 k (q, e) h
  · exact hA q (Nat.le_trans hS.1 h)
theorem xcall_i {y : MethodName} {yc : ByteArray} {yL n index q0 ci : Nat} {yret : Option FieldType} {yrm : Room} {b : Nat} {As st0 : List Value} {S : Type} {post : Int32 → S → Prop} {wf : S → va_W} {qc : vw_C} {fs : List Value} {lvs : List (Nat × Value)}
    (X : xC cc nL ret own p s m meth c args dC dI d A) (hP : va_P (dC, dI) cls2 w H) (hD : va_D A w) (hS : va_S A s.heap H locs) (hl : lv_has ls nL lvs)
    (hM : xMi l dC dI d H.size y yc yL yret yrm (.ref b :: As) w post wf) (cw : CallW R s args own qc.1 index y yc yL yret (ws_ y yc yL yret) yrm 0 0 n) (hc : cls2[ci]? = some qc) (he : w[q0]? = some (b, .inr (ci, fs)))
    (hn : As.length = n) (hst : st0 = As.reverse ++ .ref b :: rest) (hroom : (rest.map fun v => v.category).sum ≤ 8) (hdg : decode cc pc = .ok (.invokevirtual index, 3)) (hf : cells ≤ R.cells ∧ slots ≤ R.slots)
    (kk : ∀ (r : Int32) (u : S) (H1 : Heap) (locs1 : List Loc), post r u → va_P (dC, dI) cls2 (wf u) H1 → va_D A (wf u) → va_S A s.heap H1 locs1 → W p l e R s m args below meth c H1 locs1 cells slots Q (F0 m (pc + 3) ls (.int r :: rest))) : W p l e R s m args below meth c H locs cells slots Q (F0 m pc ls st0) := by
  obtain ⟨hx, hb, hr, hlocks, hml, hown, hts, hK, hA⟩ := X
  have hF := xw_free hD hS hA
  refine va_calli (va_runV (As := As) (rest := rest) ⟨hx, hb, hml, hown, hts⟩ hM cw ⟨fun a U g mk q => by obtain ⟨q0, q1, qP, qK, qD⟩ := q; exact ⟨q0, q1, qP, va_K.moved (u := U) (U := U.calling g mk a) (Vm.Alike.refl U.vm) qK, qD⟩, va_recv hK hP hc he, fun U hU hW => ⟨rfl, by rw [hU], by rw [hU]; exact hP, va_K.moved hW.alike hK, hD.weaken (fun _ _ _ _ => trivial)⟩⟩ rfl hn hl.1 hst (lv_room hroom) hdg hf) hS (fun q _ h => hF q h) hF (fun r u t H1 locs1 ht hvm hw hB hz hk hS1 => ?_)
  obtain ⟨hP1, hD1⟩ := hB
  rw [ht] at hP1
  exact kk r u H1 locs1 hw hP1 (hD1.weaken (fun k q _ h => hF q.1 h)) hS1
theorem xcall_v {y : MethodName} {yc : ByteArray} {yL n index q0 ci : Nat} {yrm : Room} {b : Nat} {As st0 : List Value} {S : Type} {post : S → Prop} {wf : S → va_W} {qc : vw_C} {fs : List Value} {lvs : List (Nat × Value)}
    (X : xC cc nL ret own p s m meth c args dC dI d A) (hP : va_P (dC, dI) cls2 w H) (hD : va_D A w) (hS : va_S A s.heap H locs) (hl : lv_has ls nL lvs)
    (hM : xMv l dC dI d H.size y yc yL yrm (.ref b :: As) w post wf) (cw : CallW R s args own qc.1 index y yc yL none (ws_ y yc yL none) yrm 0 0 n) (hc : cls2[ci]? = some qc) (he : w[q0]? = some (b, .inr (ci, fs)))
    (hn : As.length = n) (hst : st0 = As.reverse ++ .ref b :: rest) (hroom : (rest.map fun v => v.category).sum ≤ 8) (hdg : decode cc pc = .ok (.invokevirtual index, 3)) (hf : cells ≤ R.cells ∧ slots ≤ R.slots)
    (kk : ∀ (u : S) (H1 : Heap) (locs1 : List Loc), post u → va_P (dC, dI) cls2 (wf u) H1 → va_D A (wf u) → va_S A s.heap H1 locs1 → W p l e R s m args below meth c H1 locs1 cells slots Q (F0 m (pc + 3) ls rest)) : W p l e R s m args below meth c H locs cells slots Q (F0 m pc ls st0) := by
  obtain ⟨hx, hb, hr, hlocks, hml, hown, hts, hK, hA⟩ := X
  have hF := xw_free hD hS hA
  refine va_callv (va_runV (As := As) (rest := rest) ⟨hx, hb, hml, hown, hts⟩ hM cw ⟨fun a U g mk q => by obtain ⟨q0, q1, qP, qK, qD⟩ := q; exact ⟨q0, q1, qP, va_K.moved (u := U) (U := U.calling g mk a) (Vm.Alike.refl U.vm) qK, qD⟩, va_recv hK hP hc he, fun U hU hW => ⟨rfl, by rw [hU], by rw [hU]; exact hP, va_K.moved hW.alike hK, hD.weaken (fun _ _ _ _ => trivial)⟩⟩ rfl hn hl.1 hst (lv_room hroom) hdg hf) hS (fun q _ h => hF q h) hF (fun u t H1 locs1 ht hvm hw hB hz hk hS1 => ?_)
  obtain ⟨hP1, hD1⟩ := hB
  rw [ht] at hP1
  exact kk u H1 locs1 hw hP1 (hD1.weaken (fun k q _ h => hF q.1 h)) hS1
/-- a static call of a method that has no world -/
theorem xcall_s {y : MethodName} {yc : ByteArray} {yL n index : Nat} {yret : Option FieldType} {yrm : Room} {As st0 : List Value} {post : Int32 → Unit → Prop} {lvs : List (Nat × Value)}
    (X : xC cc nL ret own p s m meth c args dC dI d A) (hP : va_P (dC, dI) cls2 w H) (hD : va_D A w) (hS : va_S A s.heap H locs) (hl : lv_has ls nL lvs)
    (hM : xMi l dC dI d H.size y yc yL yret yrm As [] post (fun _ => [])) (cw : CallB R s args own index y yc yL yret (ws_ y yc yL yret) yrm 0 0 n ∧ (Cond.static y).before args s = true)
    (hn : As.length = n) (hst : st0 = As.reverse ++ rest) (hroom : (rest.map fun v => v.category).sum ≤ 8) (hdg : decode cc pc = .ok (.invokestatic index, 3)) (hf : cells ≤ R.cells ∧ slots ≤ R.slots)
    (kk : ∀ (r : Int32) (H1 : Heap) (locs1 : List Loc), post r () → va_P (dC, dI) cls2 w H1 → va_D A w → va_S A s.heap H1 locs1 → W p l e R s m args below meth c H1 locs1 cells slots Q (F0 m (pc + 3) ls (.int r :: rest))) : W p l e R s m args below meth c H locs cells slots Q (F0 m pc ls st0) := by
  obtain ⟨hx, hb, hr, hlocks, hml, hown, hts, hK, hA⟩ := X
  have hF : ∀ q, va_A [] H.size q → A q := by
    intro q h
    rcases h with ⟨k, e, h⟩ | h
    · simp at h
    · exact hA q (Nat.le_trans hS.1 h)
  refine va_calli (va_runS (As := As) (rest := rest) ⟨hx, hb, hml, hown, hts⟩ hM cw ⟨fun a U g mk q => by obtain ⟨q0, q1, qP, qK, qD⟩ := q; exact ⟨q0, q1, qP, va_K.moved (u := U) (U := U.calling g mk a) (Vm.Alike.refl U.vm) qK, qD⟩, fun U hU hW => ⟨rfl, by rw [hU], fun k q h => by simp at h, va_K.moved hW.alike hK, ⟨fun i j p q h => by simp at h, fun k q h => by simp at h⟩⟩⟩ rfl hn hl.1 hst (lv_room hroom) hdg hf) hS (fun q _ h => hF q h) hF (fun r u t H1 locs1 ht hvm hw hB hz hk hS1 => ?_)
  refine kk r H1 locs1 hw (hP.kept (fun k q hq => hk q.1 ((hP k q hq).lt) (fun h => ?_))) hD hS1
  rcases h with ⟨k2, e, h⟩ | h
  · simp at h
  · exact absurd ((hP k q hq).lt) (by omega)
/-! ends -/
theorem xret_i {S : Type} {post : Int32 → S → Prop} {wf : S → va_W} (X : xC cc nL (some .int) own p s m meth c args dC dI d A) {v : Int32} (u : S) (hP : va_P (dC, dI) cls2 (wf u) H) (hD : va_D A (wf u)) (hS : va_S A s.heap H locs) (hp : post v u) (hdg : decode cc pc = .ok (.ireturn, 1)) :
    W p l e R s m args below meth c H locs cells slots (MQ below (va_Qi post (xB dC dI A wf) A) args s cells slots A) (F0 m pc ls [.int v]) :=
  W.iret X.1 X.2.1 X.2.2.1 (fun t ht hW => ⟨⟨v, u, rfl, hp, by rw [ht]; exact hP, hD⟩, hS.F ht⟩) hS.2.2 hdg X.2.2.2.1
theorem xret_z {S : Type} {post : Int32 → S → Prop} {wf : S → va_W} (X : xC cc nL (some .boolean) own p s m meth c args dC dI d A) {v : Int32} (u : S) (hP : va_P (dC, dI) cls2 (wf u) H) (hD : va_D A (wf u)) (hS : va_S A s.heap H locs) (hp : post v u) (hv : narrow .boolean (.int v) = .int v) (hdg : decode cc pc = .ok (.ireturn, 1)) :
    W p l e R s m args below meth c H locs cells slots (MQ below (va_Qi post (xB dC dI A wf) A) args s cells slots A) (F0 m pc ls [.int v]) :=
  W.zret X.1 X.2.1 X.2.2.1 hv (fun t ht hW => ⟨⟨v, u, rfl, hp, by rw [ht]; exact hP, hD⟩, hS.F ht⟩) hS.2.2 hdg X.2.2.2.1
theorem xret_v {S : Type} {post : S → Prop} {wf : S → va_W} (X : xC cc nL none own p s m meth c args dC dI d A) (u : S) (hP : va_P (dC, dI) cls2 (wf u) H) (hD : va_D A (wf u)) (hS : va_S A s.heap H locs) (hp : post u) (hdg : decode cc pc = .ok (.return_, 1)) :
    W p l e R s m args below meth c H locs cells slots (MQ below (va_Qv post (xB dC dI A wf) A) args s cells slots A) (F0 m pc ls []) :=
  W.vret X.1 X.2.1 X.2.2.1 (fun t ht hW => ⟨⟨u, rfl, hp, by rw [ht]; exact hP, hD⟩, hS.F ht⟩) hS.2.2 hdg X.2.2.2.1
end XR
end
section
/-! ReadPhaser: contracts (printed by gen_x0.py) -/
set_option maxHeartbeats 4000000 in
set_option maxRecDepth 100000 in
/-- noRead(rd): whether rd is no read -/
theorem mX_noRead (l : Launch) (dC : Nat → ClassId) (dI : Nat → Nat → Nat) (d : ClassId) (q : Nat → Nat) (sz : Nat) (R : Int32) (T V : Nat → Int32) (K : Int32) (C B Y : Nat → Int32) (x0 x1 y0 y1 : Int32) (rd : Int32)  : xMi l dC dI d sz yX0_noRead cX0_noRead 2 (some .boolean) ({ frames := 0, cells := 0, slots := 0, locals := 0 } : Room) [.ref (q 0), .int rd] (XW q d R T V K C B Y x0 x1 y0 y1) (fun r (_ : Unit) => r = nI (decide (rd < 0 ∨ R ≤ rd)).toNat) (fun _ => XW q d R T V K C B Y x0 x1 y0 y1) := by
  refine xM_i (by decide +kernel) (Nat.le_of_ble_eq_true rfl) ?_
  intro p e s m below meth c A ls X hP hD hS hl
  have X : xC cX0_noRead 2 (some .boolean) RX0 p s m meth c _ dC dI d A := X
  obtain ⟨hx, hb, hr, hlocks, hml, hown, hts, hK, hA⟩ := id X
  have hl : lv_has ls 2 [(0, .ref (q 0)), (1, .int rd)] := hl
  refine lv_iload_n hx hb dX0_noRead_0 rfl (lv_at hl 1 rfl) ?_
  refine lv_if_lt (tgt := 12) hx hb dX0_noRead_1 (by decide) (fun h1 => ?_) (fun h1 => ?_)
  · refine lv_iconst (v := nI 1) hx hb dX0_noRead_12 (by decide +kernel) ?_
    refine lv_goto (tgt := 17) hx hb dX0_noRead_13 (by decide) ?_
    exact xret_z X () hP hD hS (by simp [h1]) (by decide +kernel) dX0_noRead_17
  · refine lv_iload_n hx hb dX0_noRead_4 rfl (lv_at hl 1 rfl) ?_
    refine lv_aload_n hx hb dX0_noRead_5 rfl (lv_at hl 0 rfl) ?_
    refine va_get (D := (dC, dI)) (ci := 0) (v := .int R) (C := RX0) (T := TX0) (N := 11) hx hb hts in_X0 hown hK hP 0 rfl rfl 0 (by decide) (hts _ q29) (fun _ h9 => h9) rfl dX0_noRead_6 ?_
    refine lv_icmp_lt (tgt := 16) hx hb dX0_noRead_9 (by decide) (fun h2 => ?_) (fun h2 => ?_)
    · refine lv_iconst (v := nI 0) hx hb dX0_noRead_16 (by decide +kernel) ?_
      exact xret_z X () hP hD hS (by simp [h1, Int32.not_le.mpr h2]) (by decide +kernel) dX0_noRead_17
    · refine lv_iconst (v := nI 1) hx hb dX0_noRead_12 (by decide +kernel) ?_
      refine lv_goto (tgt := 17) hx hb dX0_noRead_13 (by decide) ?_
      exact xret_z X () hP hD hS (by simp [Int32.not_lt.mp h2]) (by decide +kernel) dX0_noRead_17
set_option maxHeartbeats 4000000 in
set_option maxRecDepth 100000 in
theorem lX_read {p : Program} {l : Launch} {e : Env} {s : State} {m : MethodId} {args : Array Value} {below : List Frame} {meth : Method} {c : Code} {dC : Nat → ClassId} {dI : Nat → Nat → Nat} {d : ClassId} {A : Nat → Prop} {Q : State → Prop} {q : Nat → Nat} (X : xC cX0_read 2 (some .int) RX0 p s m meth c args dC dI d A) (n : Nat) (tr : Nat → Nat) {V : Nat → Int32} {K : Int32} {C B Y : Nat → Int32} {x0 x1 y0 y1 : Int32} (hn : n ≤ 8) (hn8 : n < 8)
    (kk : ∀ (H : Heap) (locs : List Loc) (ls : Array Slot), va_P (dC, dI) cls2 (XW q d (nI n) (nF (ph_cl tr (n * 8) 8)) V K C B Y x0 x1 y0 y1) H → va_D A (XW q d (nI n) (nF (ph_cl tr (n * 8) 8)) V K C B Y x0 x1 y0 y1) → va_S A s.heap H locs → lv_has ls 2 [(0, .ref (q 0)), (1, .int (nI 8))] → W p l e ({ frames := 0, cells := 0, slots := 0, locals := 0 } : Room) s m args below meth c H locs 0 0 Q (F0 m 41 ls [])) :
    ∀ (k : Nat) (i : Nat), i ≤ 8 → 8 < i + k → ∀ (H : Heap) (locs : List Loc) (ls : Array Slot), va_P (dC, dI) cls2 (XW q d (nI n) (nF (ph_cl tr (n * 8) i)) V K C B Y x0 x1 y0 y1) H → va_D A (XW q d (nI n) (nF (ph_cl tr (n * 8) i)) V K C B Y x0 x1 y0 y1) → va_S A s.heap H locs → lv_has ls 2 [(0, .ref (q 0)), (1, .int (nI i))] → W p l e ({ frames := 0, cells := 0, slots := 0, locals := 0 } : Room) s m args below meth c H locs 0 0 Q (F0 m 14 ls []) := by
  obtain ⟨hx, hb, hr, hlocks, hml, hown, hts, hK, hA⟩ := id X
  intro k
  induction k with
  | zero =>
    intro i hi hk
    exact absurd hk (by omega)
  | succ k ih =>
    intro i hi hk H locs ls hP hD hS hl
    refine lv_iload_n hx hb dX0_read_14 rfl (lv_at hl 1 rfl) ?_
    refine lv_bipush (v := nI 8) hx hb dX0_read_15 (by decide +kernel) ?_
    refine xr_ge (tgt := 41) hx hb (by omega) (by omega) dX0_read_17 (by decide) (fun h => ?_) (fun h => ?_)
    · obtain rfl : i = 8 := by omega
      exact kk _ _ _ hP hD hS hl
    · refine lv_aload_n hx hb dX0_read_20 rfl (lv_at hl 0 rfl) ?_
      refine va_get (D := (dC, dI)) (ci := 0) (v := .ref (q 1)) (C := RX0) (T := TX0) (N := 11) hx hb hts in_X0 hown hK hP 0 rfl rfl 1 (by decide) (hts _ q30) (fun _ h9 => h9) rfl dX0_read_21 ?_
      refine lv_aload_n hx hb dX0_read_24 rfl (lv_at hl 0 rfl) ?_
      refine va_get (D := (dC, dI)) (ci := 0) (v := .int (nI n)) (C := RX0) (T := TX0) (N := 11) hx hb hts in_X0 hown hK hP 0 rfl rfl 0 (by decide) (hts _ q29) (fun _ h9 => h9) rfl dX0_read_25 ?_
      refine lv_bipush (v := nI 8) hx hb dX0_read_28 (by decide +kernel) ?_
      refine xr_mul hx hb dX0_read_30 ?_
      refine lv_iload_n hx hb dX0_read_31 rfl (lv_at hl 1 rfl) ?_
      refine xr_add hx hb dX0_read_32 ?_
      refine lv_iconst (v := nI 0) hx hb dX0_read_33 (by decide +kernel) ?_
      refine xr_st (g := nF (ph_cl tr (n * 8) (i + 1))) hx hb hK hP hD hS 1 0 rfl rfl (by omega) (by decide) (nF_up _ _ _) dX0_read_34 (fun H locs hP hD hS => ?_)
      have hP : va_P (dC, dI) cls2 (XW q d (nI n) (nF (ph_cl tr (n * 8) (i + 1))) V K C B Y x0 x1 y0 y1) H := hP
      have hD : va_D A (XW q d (nI n) (nF (ph_cl tr (n * 8) (i + 1))) V K C B Y x0 x1 y0 y1) := hD
      refine lv_iinc (v := nI (i + 1)) (lv' := [(1, .int (nI (i + 1))), (0, .ref (q 0))]) hx hb dX0_read_35 hl (k := 1) rfl (nI_1 _) (by decide) rfl (fun ls hl => ?_)
      refine lv_goto (tgt := 14) hx hb dX0_read_38 (by decide) ?_
      exact ih (i + 1) (by omega) (by omega) _ _ _ hP hD hS (lv_sub hl [1, 0] rfl)
set_option maxHeartbeats 4000000 in
set_option maxRecDepth 100000 in
/-- read() -/
theorem mX_read (l : Launch) (dC : Nat → ClassId) (dI : Nat → Nat → Nat) (d : ClassId) (q : Nat → Nat) (sz : Nat) (n : Nat) (tr va : Nat → Nat) (K : Int32) (C B Y : Nat → Int32) (x0 x1 y0 y1 : Int32) (hn : n ≤ 8) : xMi l dC dI d sz yX0_read cX0_read 2 (some .int) ({ frames := 0, cells := 0, slots := 0, locals := 0 } : Room) [.ref (q 0)] (XW q d (nI n) (nF tr) (nF va) K C B Y x0 x1 y0 y1) (fun r (u : Nat × (Nat → Nat)) => (r, u.1, u.2) = ph_rd n tr) (fun u => XW q d (nI u.1) (nF u.2) (nF va) K C B Y x0 x1 y0 y1) := by
  refine xM_i (by decide +kernel) (Nat.le_of_ble_eq_true rfl) ?_
  intro p e s m below meth c A ls X hP hD hS hl
  have X : xC cX0_read 2 (some .int) RX0 p s m meth c _ dC dI d A := X
  obtain ⟨hx, hb, hr, hlocks, hml, hown, hts, hK, hA⟩ := id X
  have hl : lv_has ls 2 [(0, .ref (q 0))] := hl
  refine lv_aload_n hx hb dX0_read_0 rfl (lv_at hl 0 rfl) ?_
  refine va_get (D := (dC, dI)) (ci := 0) (v := .int (nI n)) (C := RX0) (T := TX0) (N := 11) hx hb hts in_X0 hown hK hP 0 rfl rfl 0 (by decide) (hts _ q29) (fun _ h9 => h9) rfl dX0_read_1 ?_
  refine lv_bipush (v := nI 8) hx hb dX0_read_4 (by decide +kernel) ?_
  refine xr_lt (tgt := 12) hx hb (by omega) (by omega) dX0_read_6 (by decide) (fun h => ?_) (fun h => ?_)
  · refine lv_iconst (v := nI 0) hx hb dX0_read_12 (by decide +kernel) ?_
    refine lv_istore_n (lv' := [(1, .int (nI 0)), (0, .ref (q 0))]) hx hb dX0_read_13 rfl hl (by decide) rfl (fun ls hl => ?_)
    exact lX_read X n tr hn h (fun H locs ls hP hD hS hl => by
      refine lv_aload_n hx hb dX0_read_41 rfl (lv_at hl 0 rfl) ?_
      refine lv_dup hx hb dX0_read_42 rfl ?_
      refine va_get (D := (dC, dI)) (ci := 0) (v := .int (nI n)) (C := RX0) (T := TX0) (N := 11) hx hb hts in_X0 hown hK hP 0 rfl rfl 0 (by decide) (hts _ q29) (fun _ h9 => h9) rfl dX0_read_43 ?_
      refine lv_iconst (v := nI 1) hx hb dX0_read_46 (by decide +kernel) ?_
      refine xr_add hx hb dX0_read_47 ?_
      refine va_put (D := (dC, dI)) (ci := 0) (v := .int (nI (n + 1))) (ty := .int) (C := RX0) (T := TX0) (N := 11) hx hb hts in_X0 tyX0 tyX0_ok nmX0 hown hK hP hD hS 0 rfl rfl 0 (by decide) (hts _ q29) (fun _ h9 => h9) rfl (by decide +kernel) rfl rfl (Nat.le_of_ble_eq_true rfl) dX0_read_48 (fun H locs hP hD hS => ?_)
      have hP : va_P (dC, dI) cls2 (XW q d (nI (n + 1)) (nF (ph_cl tr (n * 8) 8)) (nF va) K C B Y x0 x1 y0 y1) H := hP
      have hD : va_D A (XW q d (nI (n + 1)) (nF (ph_cl tr (n * 8) 8)) (nF va) K C B Y x0 x1 y0 y1) := hD
      refine lv_aload_n hx hb dX0_read_51 rfl (lv_at hl 0 rfl) ?_
      refine va_get (D := (dC, dI)) (ci := 0) (v := .int (nI (n + 1))) (C := RX0) (T := TX0) (N := 11) hx hb hts in_X0 hown hK hP 0 rfl rfl 0 (by decide) (hts _ q29) (fun _ h9 => h9) rfl dX0_read_52 ?_
      refine lv_iconst (v := nI 1) hx hb dX0_read_55 (by decide +kernel) ?_
      refine xr_sub hx hb (by omega) dX0_read_56 ?_
      rw [show n + 1 - 1 = n by omega]
      exact xret_i X (n + 1, ph_cl tr (n * 8) 8) hP hD hS (by unfold ph_rd; rw [if_pos h]) dX0_read_57) 9 0 (by omega) (by omega) _ _ _ hP hD hS (lv_sub hl [1, 0] rfl)
  · refine lv_bipush (v := (-4)) hx hb dX0_read_9 (by decide +kernel) ?_
    exact xret_i X (n, tr) hP hD hS (by unfold ph_rd; rw [if_neg (by omega)]) dX0_read_11
set_option maxHeartbeats 4000000 in
set_option maxRecDepth 100000 in
/-- drop() -/
theorem mX_drop (l : Launch) (dC : Nat → ClassId) (dI : Nat → Nat → Nat) (d : ClassId) (q : Nat → Nat) (sz : Nat) (n : Nat) (tr va : Nat → Nat) (K : Int32) (C B Y : Nat → Int32) (x0 x1 y0 y1 : Int32) (hn : n ≤ 8) : xMi l dC dI d sz yX0_drop cX0_drop 1 (some .int) ({ frames := 0, cells := 0, slots := 0, locals := 0 } : Room) [.ref (q 0)] (XW q d (nI n) (nF tr) (nF va) K C B Y x0 x1 y0 y1) (fun r (u : Nat) => (r, u) = ph_dr n) (fun u => XW q d (nI u) (nF tr) (nF va) K C B Y x0 x1 y0 y1) := by
  refine xM_i (by decide +kernel) (Nat.le_of_ble_eq_true rfl) ?_
  intro p e s m below meth c A ls X hP hD hS hl
  have X : xC cX0_drop 1 (some .int) RX0 p s m meth c _ dC dI d A := X
  obtain ⟨hx, hb, hr, hlocks, hml, hown, hts, hK, hA⟩ := id X
  have hl : lv_has ls 1 [(0, .ref (q 0))] := hl
  refine lv_aload_n hx hb dX0_drop_0 rfl (lv_at hl 0 rfl) ?_
  refine va_get (D := (dC, dI)) (ci := 0) (v := .int (nI n)) (C := RX0) (T := TX0) (N := 11) hx hb hts in_X0 hown hK hP 0 rfl rfl 0 (by decide) (hts _ q29) (fun _ h9 => h9) rfl dX0_drop_1 ?_
  refine xr_ifne (tgt := 9) hx hb (by omega) dX0_drop_4 (by decide) (fun h => ?_) (fun h => ?_)
  · refine lv_aload_n hx hb dX0_drop_9 rfl (lv_at hl 0 rfl) ?_
    refine lv_dup hx hb dX0_drop_10 rfl ?_
    refine va_get (D := (dC, dI)) (ci := 0) (v := .int (nI n)) (C := RX0) (T := TX0) (N := 11) hx hb hts in_X0 hown hK hP 0 rfl rfl 0 (by decide) (hts _ q29) (fun _ h9 => h9) rfl dX0_drop_11 ?_
    refine lv_iconst (v := nI 1) hx hb dX0_drop_14 (by decide +kernel) ?_
    refine xr_sub hx hb (by omega) dX0_drop_15 ?_
    refine va_put (D := (dC, dI)) (ci := 0) (v := .int (nI (n - 1))) (ty := .int) (C := RX0) (T := TX0) (N := 11) hx hb hts in_X0 tyX0 tyX0_ok nmX0 hown hK hP hD hS 0 rfl rfl 0 (by decide) (hts _ q29) (fun _ h9 => h9) rfl (by decide +kernel) rfl rfl (Nat.le_of_ble_eq_true rfl) dX0_drop_16 (fun H locs hP hD hS => ?_)
    have hP : va_P (dC, dI) cls2 (XW q d (nI (n - 1)) (nF tr) (nF va) K C B Y x0 x1 y0 y1) H := hP
    have hD : va_D A (XW q d (nI (n - 1)) (nF tr) (nF va) K C B Y x0 x1 y0 y1) := hD
    refine lv_aload_n hx hb dX0_drop_19 rfl (lv_at hl 0 rfl) ?_
    refine va_get (D := (dC, dI)) (ci := 0) (v := .int (nI (n - 1))) (C := RX0) (T := TX0) (N := 11) hx hb hts in_X0 hown hK hP 0 rfl rfl 0 (by decide) (hts _ q29) (fun _ h9 => h9) rfl dX0_drop_20 ?_
    exact xret_i X (n - 1) hP hD hS (by unfold ph_dr; rw [if_neg h]) dX0_drop_23
  · refine lv_iconst (v := (-1)) hx hb dX0_drop_7 (by decide +kernel) ?_
    exact xret_i X n hP hD hS (by unfold ph_dr; rw [if_pos h, h]) dX0_drop_8
set_option maxHeartbeats 4000000 in
set_option maxRecDepth 100000 in
/-- smaller(a, b) -/
theorem mX_smaller (l : Launch) (dC : Nat → ClassId) (dI : Nat → Nat → Nat) (d : ClassId) (q : Nat → Nat) (sz : Nat) (a b : Nat) (ha : a < 2 ^ 31) (hb2 : b < 2 ^ 31) : xMi l dC dI d sz yX0_smaller cX0_smaller 2 (some .int) ({ frames := 0, cells := 0, slots := 0, locals := 0 } : Room) [.int (nI a), .int (nI b)] ([]) (fun r (_ : Unit) => r = nI (min a b)) (fun _ => []) := by
  refine xM_i (by decide +kernel) (Nat.le_of_ble_eq_true rfl) ?_
  intro p e s m below meth c A ls X hP hD hS hl
  have X : xC cX0_smaller 2 (some .int) RX0 p s m meth c _ dC dI d A := X
  obtain ⟨hx, hb, hr, hlocks, hml, hown, hts, hK, hA⟩ := id X
  have hl : lv_has ls 2 [(0, .int (nI a)), (1, .int (nI b))] := hl
  refine lv_iload_n hx hb dX0_smaller_0 rfl (lv_at hl 0 rfl) ?_
  refine lv_iload_n hx hb dX0_smaller_1 rfl (lv_at hl 1 rfl) ?_
  refine xr_ge (tgt := 9) hx hb (by omega) (by omega) dX0_smaller_2 (by decide) (fun h => ?_) (fun h => ?_)
  · refine lv_iload_n hx hb dX0_smaller_9 rfl (lv_at hl 1 rfl) ?_
    exact xret_i X () hP hD hS (by rw [Nat.min_eq_right h]) dX0_smaller_10
  · refine lv_iload_n hx hb dX0_smaller_5 rfl (lv_at hl 0 rfl) ?_
    refine lv_goto (tgt := 10) hx hb dX0_smaller_6 (by decide) ?_
    exact xret_i X () hP hD hS (by rw [Nat.min_eq_left (Nat.le_of_lt h)]) dX0_smaller_10
set_option maxHeartbeats 4000000 in
set_option maxRecDepth 100000 in
/-- weighRead(at, strand) -/
theorem mX_weighRead (l : Launch) (dC : Nat → ClassId) (dI : Nat → Nat → Nat) (d : ClassId) (q : Nat → Nat) (sz : Nat) (R : Int32) (tr va : Nat → Nat) (K : Int32) (C B Y : Nat → Int32) (a0 a1 b0 b1 at_ : Nat) (bs : Bool) (hva : ∀ i, va i ≤ 1) (hat : at_ < 64) : xMv l dC dI d sz yX0_weighRead cX0_weighRead 4 ({ frames := 0, cells := 0, slots := 0, locals := 0 } : Room) [.ref (q 0), .int (nI at_), .int (nI bs.toNat)] (XW q d R (nF tr) (nF va) K C B Y (nI a0) (nI a1) (nI b0) (nI b1)) (fun (u : Nat × Nat × Nat × Nat) => u = (a0 + (if ((bs == false) && (va at_ == 0)) = true then tr at_ else 0), a1 + (if ((bs == false) && (va at_ == 1)) = true then tr at_ else 0), b0 + (if ((bs == true) && (va at_ == 0)) = true then tr at_ else 0), b1 + (if ((bs == true) && (va at_ == 1)) = true then tr at_ else 0))) (fun u => XW q d R (nF tr) (nF va) K C B Y (nI u.1) (nI u.2.1) (nI u.2.2.1) (nI u.2.2.2)) := by
  refine xM_v (by decide +kernel) (Nat.le_of_ble_eq_true rfl) ?_
  intro p e s m below meth c A ls X hP hD hS hl
  have X : xC cX0_weighRead 4 none RX0 p s m meth c _ dC dI d A := X
  obtain ⟨hx, hb, hr, hlocks, hml, hown, hts, hK, hA⟩ := id X
  have hl : lv_has ls 4 [(0, .ref (q 0)), (1, .int (nI at_)), (2, .int (nI bs.toNat))] := hl
  have hv2 := hva at_
  refine lv_aload_n hx hb dX0_weighRead_0 rfl (lv_at hl 0 rfl) ?_
  refine va_get (D := (dC, dI)) (ci := 0) (v := .ref (q 1)) (C := RX0) (T := TX0) (N := 11) hx hb hts in_X0 hown hK hP 0 rfl rfl 1 (by decide) (hts _ q30) (fun _ h9 => h9) rfl dX0_weighRead_1 ?_
  refine lv_iload_n hx hb dX0_weighRead_4 rfl (lv_at hl 1 rfl) ?_
  refine xr_ld (v := nI (tr at_)) hx hb hK hP 1 0 rfl rfl (by omega) (by decide) rfl dX0_weighRead_5 ?_
  refine lv_istore_n (lv' := [(3, .int (nI (tr at_))), (0, .ref (q 0)), (1, .int (nI at_)), (2, .int (nI bs.toNat))]) hx hb dX0_weighRead_6 rfl hl (by decide) rfl (fun ls hl => ?_)
  refine lv_iload_n hx hb dX0_weighRead_7 rfl (lv_at hl 3 rfl) ?_
  refine xr_bifne (tgt := 33) hx hb dX0_weighRead_8 (by decide) (fun h1 => ?_) (fun h1 => ?_)
  · refine lv_iload_n hx hb dX0_weighRead_33 rfl (lv_at hl 3 rfl) ?_
    refine xr_bifne (tgt := 50) hx hb dX0_weighRead_34 (by decide) (fun h3 => ?_) (fun h3 => ?_)
    · refine lv_aload_n hx hb dX0_weighRead_50 rfl (lv_at hl 1 rfl) ?_
      refine va_get (D := (dC, dI)) (ci := 0) (v := .ref (q 2)) (C := RX0) (T := TX0) (N := 11) hx hb hts in_X0 hown hK hP 0 rfl rfl 2 (by decide) (hts _ q31) (fun _ h9 => h9) rfl dX0_weighRead_51 ?_
      refine lv_iload_n hx hb dX0_weighRead_54 rfl (lv_at hl 2 rfl) ?_
      refine xr_ld (v := nI (va at_)) hx hb hK hP 2 0 rfl rfl (by omega) (by decide) rfl dX0_weighRead_55 ?_
      refine xr_ifne (tgt := 72) hx hb (by omega) dX0_weighRead_56 (by decide) (fun h2 => ?_) (fun h2 => ?_)
      · have h4 : va at_ = 1 := by omega
        refine lv_aload_n hx hb dX0_weighRead_72 rfl (lv_at hl 1 rfl) ?_
        refine lv_dup hx hb dX0_weighRead_73 rfl ?_
        refine va_get (D := (dC, dI)) (ci := 0) (v := .int (nI b1)) (C := RX0) (T := TX0) (N := 11) hx hb hts in_X0 hown hK hP 0 rfl rfl 10 (by decide) (hts _ q39) (fun _ h9 => h9) rfl dX0_weighRead_74 ?_
        refine lv_iload_n hx hb dX0_weighRead_77 rfl (lv_at hl 0 rfl) ?_
        refine xr_add hx hb dX0_weighRead_78 ?_
        refine va_put (D := (dC, dI)) (ci := 0) (v := .int (nI (b1 + (tr at_)))) (ty := .int) (C := RX0) (T := TX0) (N := 11) hx hb hts in_X0 tyX0 tyX0_ok nmX0 hown hK hP hD hS 0 rfl rfl 10 (by decide) (hts _ q39) (fun _ h9 => h9) rfl (by decide +kernel) rfl rfl (Nat.le_of_ble_eq_true rfl) dX0_weighRead_79 (fun H locs hP hD hS => ?_)
        have hP : va_P (dC, dI) cls2 (XW q d R (nF tr) (nF va) K C B Y (nI a0) (nI a1) (nI b0) (nI (b1 + (tr at_)))) H := hP
        have hD : va_D A (XW q d R (nF tr) (nF va) K C B Y (nI a0) (nI a1) (nI b0) (nI (b1 + (tr at_)))) := hD
        exact xret_v X (a0, a1, b0, b1 + tr at_) hP hD hS (by simp [h1, h4]) dX0_weighRead_82
      · refine lv_aload_n hx hb dX0_weighRead_59 rfl (lv_at hl 1 rfl) ?_
        refine lv_dup hx hb dX0_weighRead_60 rfl ?_
        refine va_get (D := (dC, dI)) (ci := 0) (v := .int (nI b0)) (C := RX0) (T := TX0) (N := 11) hx hb hts in_X0 hown hK hP 0 rfl rfl 9 (by decide) (hts _ q38) (fun _ h9 => h9) rfl dX0_weighRead_61 ?_
        refine lv_iload_n hx hb dX0_weighRead_64 rfl (lv_at hl 0 rfl) ?_
        refine xr_add hx hb dX0_weighRead_65 ?_
        refine va_put (D := (dC, dI)) (ci := 0) (v := .int (nI (b0 + (tr at_)))) (ty := .int) (C := RX0) (T := TX0) (N := 11) hx hb hts in_X0 tyX0 tyX0_ok nmX0 hown hK hP hD hS 0 rfl rfl 9 (by decide) (hts _ q38) (fun _ h9 => h9) rfl (by decide +kernel) rfl rfl (Nat.le_of_ble_eq_true rfl) dX0_weighRead_66 (fun H locs hP hD hS => ?_)
        have hP : va_P (dC, dI) cls2 (XW q d R (nF tr) (nF va) K C B Y (nI a0) (nI a1) (nI (b0 + (tr at_))) (nI b1)) H := hP
        have hD : va_D A (XW q d R (nF tr) (nF va) K C B Y (nI a0) (nI a1) (nI (b0 + (tr at_))) (nI b1)) := hD
        refine lv_goto (tgt := 82) hx hb dX0_weighRead_69 (by decide) ?_
        exact xret_v X (a0, a1, b0 + tr at_, b1) hP hD hS (by simp [h1, h2]) dX0_weighRead_82
    · rw [h1] at h3
      exact absurd h3 (by decide)
  · refine lv_aload_n hx hb dX0_weighRead_11 rfl (lv_at hl 1 rfl) ?_
    refine va_get (D := (dC, dI)) (ci := 0) (v := .ref (q 2)) (C := RX0) (T := TX0) (N := 11) hx hb hts in_X0 hown hK hP 0 rfl rfl 2 (by decide) (hts _ q31) (fun _ h9 => h9) rfl dX0_weighRead_12 ?_
    refine lv_iload_n hx hb dX0_weighRead_15 rfl (lv_at hl 2 rfl) ?_
    refine xr_ld (v := nI (va at_)) hx hb hK hP 2 0 rfl rfl (by omega) (by decide) rfl dX0_weighRead_16 ?_
    refine xr_ifne (tgt := 33) hx hb (by omega) dX0_weighRead_17 (by decide) (fun h2 => ?_) (fun h2 => ?_)
    · refine lv_iload_n hx hb dX0_weighRead_33 rfl (lv_at hl 3 rfl) ?_
      refine xr_bifne (tgt := 50) hx hb dX0_weighRead_34 (by decide) (fun h3 => ?_) (fun h3 => ?_)
      · rw [h1] at h3
        exact absurd h3 (by decide)
      · refine lv_aload_n hx hb dX0_weighRead_37 rfl (lv_at hl 1 rfl) ?_
        refine lv_dup hx hb dX0_weighRead_38 rfl ?_
        refine va_get (D := (dC, dI)) (ci := 0) (v := .int (nI a1)) (C := RX0) (T := TX0) (N := 11) hx hb hts in_X0 hown hK hP 0 rfl rfl 8 (by decide) (hts _ q37) (fun _ h9 => h9) rfl dX0_weighRead_39 ?_
        refine lv_iload_n hx hb dX0_weighRead_42 rfl (lv_at hl 0 rfl) ?_
        refine xr_add hx hb dX0_weighRead_43 ?_
        refine va_put (D := (dC, dI)) (ci := 0) (v := .int (nI (a1 + (tr at_)))) (ty := .int) (C := RX0) (T := TX0) (N := 11) hx hb hts in_X0 tyX0 tyX0_ok nmX0 hown hK hP hD hS 0 rfl rfl 8 (by decide) (hts _ q37) (fun _ h9 => h9) rfl (by decide +kernel) rfl rfl (Nat.le_of_ble_eq_true rfl) dX0_weighRead_44 (fun H locs hP hD hS => ?_)
        have hP : va_P (dC, dI) cls2 (XW q d R (nF tr) (nF va) K C B Y (nI a0) (nI (a1 + (tr at_))) (nI b0) (nI b1)) H := hP
        have hD : va_D A (XW q d R (nF tr) (nF va) K C B Y (nI a0) (nI (a1 + (tr at_))) (nI b0) (nI b1)) := hD
        refine lv_goto (tgt := 82) hx hb dX0_weighRead_47 (by decide) ?_
        have h4 : va at_ = 1 := by omega
        exact xret_v X (a0, a1 + tr at_, b0, b1) hP hD hS (by simp [h1, h4]) dX0_weighRead_82
    · refine lv_aload_n hx hb dX0_weighRead_20 rfl (lv_at hl 1 rfl) ?_
      refine lv_dup hx hb dX0_weighRead_21 rfl ?_
      refine va_get (D := (dC, dI)) (ci := 0) (v := .int (nI a0)) (C := RX0) (T := TX0) (N := 11) hx hb hts in_X0 hown hK hP 0 rfl rfl 7 (by decide) (hts _ q36) (fun _ h9 => h9) rfl dX0_weighRead_22 ?_
      refine lv_iload_n hx hb dX0_weighRead_25 rfl (lv_at hl 0 rfl) ?_
      refine xr_add hx hb dX0_weighRead_26 ?_
      refine va_put (D := (dC, dI)) (ci := 0) (v := .int (nI (a0 + (tr at_)))) (ty := .int) (C := RX0) (T := TX0) (N := 11) hx hb hts in_X0 tyX0 tyX0_ok nmX0 hown hK hP hD hS 0 rfl rfl 7 (by decide) (hts _ q36) (fun _ h9 => h9) rfl (by decide +kernel) rfl rfl (Nat.le_of_ble_eq_true rfl) dX0_weighRead_27 (fun H locs hP hD hS => ?_)
      have hP : va_P (dC, dI) cls2 (XW q d R (nF tr) (nF va) K C B Y (nI (a0 + (tr at_))) (nI a1) (nI b0) (nI b1)) H := hP
      have hD : va_D A (XW q d R (nF tr) (nF va) K C B Y (nI (a0 + (tr at_))) (nI a1) (nI b0) (nI b1)) := hD
      refine lv_goto (tgt := 82) hx hb dX0_weighRead_30 (by decide) ?_
      exact xret_v X (a0 + tr at_, a1, b0, b1) hP hD hS (by simp [h1, h2]) dX0_weighRead_82
set_option maxHeartbeats 4000000 in
set_option maxRecDepth 100000 in
theorem lX_weigh {p : Program} {l : Launch} {e : Env} {s : State} {m : MethodId} {args : Array Value} {below : List Frame} {meth : Method} {c : Code} {dC : Nat → ClassId} {dI : Nat → Nat → Nat} {d : ClassId} {A : Nat → Prop} {Q : State → Prop} {q : Nat → Nat} (X : xC cX0_weigh 5 none RX0 p s m meth c args dC dI d A) (n st mk am : Nat) (tr va : Nat → Nat) {K : Int32} {C B Y : Nat → Int32} (hn : n ≤ 8) (hst : st < 8) (hmk : mk < 256) (ham : am < 256) (hva : ∀ i, va i ≤ 1)
    (kk : ∀ (H : Heap) (locs : List Loc) (ls : Array Slot), va_P (dC, dI) cls2 (XW q d (nI n) (nF tr) (nF va) K C B Y (nI (ph_w tr va n st mk (am.testBit) false 0)) (nI (ph_w tr va n st mk (am.testBit) false 1)) (nI (ph_w tr va n st mk (am.testBit) true 0)) (nI (ph_w tr va n st mk (am.testBit) true 1))) H → va_D A (XW q d (nI n) (nF tr) (nF va) K C B Y (nI (ph_w tr va n st mk (am.testBit) false 0)) (nI (ph_w tr va n st mk (am.testBit) false 1)) (nI (ph_w tr va n st mk (am.testBit) true 0)) (nI (ph_w tr va n st mk (am.testBit) true 1))) → va_S A s.heap H locs → lv_has ls 5 [(0, .ref (q 0)), (1, .int (nI st)), (2, .int (nI mk)), (3, .int (nI am)), (4, .int (nI n))] → W p l e ({ frames := 1, cells := 0, slots := 0, locals := 23 } : Room) s m args below meth c H locs 0 0 Q (F0 m 65 ls [])) :
    ∀ (k : Nat) (r : Nat), r ≤ n → n < r + k → ∀ (H : Heap) (locs : List Loc) (ls : Array Slot), va_P (dC, dI) cls2 (XW q d (nI n) (nF tr) (nF va) K C B Y (nI (ph_w tr va r st mk (am.testBit) false 0)) (nI (ph_w tr va r st mk (am.testBit) false 1)) (nI (ph_w tr va r st mk (am.testBit) true 0)) (nI (ph_w tr va r st mk (am.testBit) true 1))) H → va_D A (XW q d (nI n) (nF tr) (nF va) K C B Y (nI (ph_w tr va r st mk (am.testBit) false 0)) (nI (ph_w tr va r st mk (am.testBit) false 1)) (nI (ph_w tr va r st mk (am.testBit) true 0)) (nI (ph_w tr va r st mk (am.testBit) true 1))) → va_S A s.heap H locs → lv_has ls 5 [(0, .ref (q 0)), (1, .int (nI st)), (2, .int (nI mk)), (3, .int (nI am)), (4, .int (nI r))] → W p l e ({ frames := 1, cells := 0, slots := 0, locals := 23 } : Room) s m args below meth c H locs 0 0 Q (F0 m 23 ls []) := by
  obtain ⟨hx, hb, hr, hlocks, hml, hown, hts, hK, hA⟩ := id X
  intro k
  induction k with
  | zero =>
    intro r hr0 hk
    exact absurd hk (by omega)
  | succ k ih =>
    intro r hr0 hk H locs ls hP hD hS hl
    refine lv_iload hx hb dX0_weigh_23 (lv_at hl 4 rfl) ?_
    refine lv_aload_n hx hb dX0_weigh_25 rfl (lv_at hl 0 rfl) ?_
    refine va_get (D := (dC, dI)) (ci := 0) (v := .int (nI n)) (C := RX0) (T := TX0) (N := 11) hx hb hts in_X0 hown hK hP 0 rfl rfl 0 (by decide) (hts _ q29) (fun _ h9 => h9) rfl dX0_weigh_26 ?_
    refine xr_ge (tgt := 65) hx hb (by omega) (by omega) dX0_weigh_29 (by decide) (fun h => ?_) (fun h => ?_)
    · obtain rfl : r = n := by omega
      exact kk _ _ _ hP hD hS hl
    · refine lv_iload_n hx hb dX0_weigh_32 rfl (lv_at hl 3 rfl) ?_
      refine lv_iload hx hb dX0_weigh_33 (lv_at hl 4 rfl) ?_
      refine lv_ishr hx hb dX0_weigh_35 ?_
      refine lv_iconst (v := nI 1) hx hb dX0_weigh_36 (by decide +kernel) ?_
      refine xr_bit hx hb (by omega) (by omega) dX0_weigh_37 ?_
      refine lv_iconst (v := nI 1) hx hb dX0_weigh_38 (by decide +kernel) ?_
      refine xr_bne1 (tgt := 59) hx hb dX0_weigh_39 (by decide) (fun h2 => ?_) (fun h2 => ?_)
      · have e : ∀ b v, ph_w tr va (r + 1) st mk (am.testBit) b v = ph_w tr va r st mk (am.testBit) b v := fun b v => by simp [ph_w, ph_sm, h2]
        refine lv_iinc (v := nI (r + 1)) (lv' := [(4, .int (nI (r + 1))), (0, .ref (q 0)), (1, .int (nI st)), (2, .int (nI mk)), (3, .int (nI am))]) hx hb dX0_weigh_59 hl (k := 4) rfl (nI_1 _) (by decide) rfl (fun ls hl => ?_)
        refine lv_goto (tgt := 23) hx hb dX0_weigh_62 (by decide) ?_
        exact ih (r + 1) (by omega) (by omega) _ _ _ (by simp only [e]; exact hP) (by simp only [e]; exact hD) hS (lv_sub hl [1, 2, 3, 4, 0] rfl)
      · refine lv_aload_n hx hb dX0_weigh_42 rfl (lv_at hl 0 rfl) ?_
        refine lv_iload hx hb dX0_weigh_43 (lv_at hl 4 rfl) ?_
        refine lv_bipush (v := nI 8) hx hb dX0_weigh_45 (by decide +kernel) ?_
        refine xr_mul hx hb dX0_weigh_47 ?_
        refine lv_iload_n hx hb dX0_weigh_48 rfl (lv_at hl 1 rfl) ?_
        refine xr_add hx hb dX0_weigh_49 ?_
        refine lv_iload_n hx hb dX0_weigh_50 rfl (lv_at hl 2 rfl) ?_
        refine lv_iload hx hb dX0_weigh_51 (lv_at hl 4 rfl) ?_
        refine lv_ishr hx hb dX0_weigh_53 ?_
        refine lv_iconst (v := nI 1) hx hb dX0_weigh_54 (by decide +kernel) ?_
        refine xr_bit hx hb (by omega) (by omega) dX0_weigh_55 ?_
        have e : ∀ b v, ph_w tr va (r + 1) st mk (am.testBit) b v = ph_w tr va r st mk (am.testBit) b v + (if ((mk.testBit r == b) && (va (r * 8 + st) == v)) = true then tr (r * 8 + st) else 0) := fun b v => by simp [ph_w, ph_sm, h2]
        refine xcall_v (q0 := 0) (ci := 0) (As := [.int (nI ((r * 8) + st)), .int (nI (mk.testBit r).toNat)]) (rest := []) X hP hD hS hl (mX_weighRead l dC dI d q _ (nI n) tr va K C B Y _ _ _ _ (r * 8 + st) (mk.testBit r) hva (by omega)) (cwV 2 hts (lw_V q115 q117 qs7 q19 q118) rfl rfl rfl (by decide +kernel) ⟨Nat.le_of_ble_eq_true rfl, Nat.le_of_ble_eq_true rfl⟩) rfl rfl rfl rfl (Nat.le_of_ble_eq_true rfl) dX0_weigh_56 ⟨Nat.zero_le _, Nat.zero_le _⟩ (fun u H locs hw hP hD hS => ?_)
        subst hw
        have hP : va_P (dC, dI) cls2 (XW q d (nI n) (nF tr) (nF va) K C B Y (nI (ph_w tr va r st mk (am.testBit) false 0 + (if (((mk.testBit r) == false) && (va (r * 8 + st) == 0)) = true then tr (r * 8 + st) else 0))) (nI (ph_w tr va r st mk (am.testBit) false 1 + (if (((mk.testBit r) == false) && (va (r * 8 + st) == 1)) = true then tr (r * 8 + st) else 0))) (nI (ph_w tr va r st mk (am.testBit) true 0 + (if (((mk.testBit r) == true) && (va (r * 8 + st) == 0)) = true then tr (r * 8 + st) else 0))) (nI (ph_w tr va r st mk (am.testBit) true 1 + (if (((mk.testBit r) == true) && (va (r * 8 + st) == 1)) = true then tr (r * 8 + st) else 0)))) H := hP
        have hD : va_D A (XW q d (nI n) (nF tr) (nF va) K C B Y (nI (ph_w tr va r st mk (am.testBit) false 0 + (if (((mk.testBit r) == false) && (va (r * 8 + st) == 0)) = true then tr (r * 8 + st) else 0))) (nI (ph_w tr va r st mk (am.testBit) false 1 + (if (((mk.testBit r) == false) && (va (r * 8 + st) == 1)) = true then tr (r * 8 + st) else 0))) (nI (ph_w tr va r st mk (am.testBit) true 0 + (if (((mk.testBit r) == true) && (va (r * 8 + st) == 0)) = true then tr (r * 8 + st) else 0))) (nI (ph_w tr va r st mk (am.testBit) true 1 + (if (((mk.testBit r) == true) && (va (r * 8 + st) == 1)) = true then tr (r * 8 + st) else 0)))) := hD
        refine lv_iinc (v := nI (r + 1)) (lv' := [(4, .int (nI (r + 1))), (0, .ref (q 0)), (1, .int (nI st)), (2, .int (nI mk)), (3, .int (nI am))]) hx hb dX0_weigh_59 hl (k := 4) rfl (nI_1 _) (by decide) rfl (fun ls hl => ?_)
        refine lv_goto (tgt := 23) hx hb dX0_weigh_62 (by decide) ?_
        exact ih (r + 1) (by omega) (by omega) _ _ _ (by simp only [e]; exact hP) (by simp only [e]; exact hD) hS (lv_sub hl [1, 2, 3, 4, 0] rfl)
set_option maxHeartbeats 4000000 in
set_option maxRecDepth 100000 in
/-- weigh(site, mask, among) -/
theorem mX_weigh (l : Launch) (dC : Nat → ClassId) (dI : Nat → Nat → Nat) (d : ClassId) (q : Nat → Nat) (sz : Nat) (n : Nat) (tr va : Nat → Nat) (K : Int32) (C B Y : Nat → Int32) (x0 x1 y0 y1 : Int32) (st mk am : Nat) (hn : n ≤ 8) (hst : st < 8) (hmk : mk < 256) (ham : am < 256) (hva : ∀ i, va i ≤ 1) : xMv l dC dI d sz yX0_weigh cX0_weigh 5 ({ frames := 1, cells := 0, slots := 0, locals := 23 } : Room) [.ref (q 0), .int (nI st), .int (nI mk), .int (nI am)] (XW q d (nI n) (nF tr) (nF va) K C B Y x0 x1 y0 y1) (fun (u : Unit) => u = ()) (fun _ => XW q d (nI n) (nF tr) (nF va) K C B Y (nI (ph_w tr va n st mk (am.testBit) false 0)) (nI (ph_w tr va n st mk (am.testBit) false 1)) (nI (ph_w tr va n st mk (am.testBit) true 0)) (nI (ph_w tr va n st mk (am.testBit) true 1))) := by
  refine xM_v (by decide +kernel) (Nat.le_of_ble_eq_true rfl) ?_
  intro p e s m below meth c A ls X hP hD hS hl
  have X : xC cX0_weigh 5 none RX0 p s m meth c _ dC dI d A := X
  obtain ⟨hx, hb, hr, hlocks, hml, hown, hts, hK, hA⟩ := id X
  have hl : lv_has ls 5 [(0, .ref (q 0)), (1, .int (nI st)), (2, .int (nI mk)), (3, .int (nI am))] := hl
  refine lv_aload_n hx hb dX0_weigh_0 rfl (lv_at hl 0 rfl) ?_
  refine lv_iconst (v := nI 0) hx hb dX0_weigh_1 (by decide +kernel) ?_
  refine va_put (D := (dC, dI)) (ci := 0) (v := .int (nI 0)) (ty := .int) (C := RX0) (T := TX0) (N := 11) hx hb hts in_X0 tyX0 tyX0_ok nmX0 hown hK hP hD hS 0 rfl rfl 7 (by decide) (hts _ q36) (fun _ h9 => h9) rfl (by decide +kernel) rfl rfl (Nat.le_of_ble_eq_true rfl) dX0_weigh_2 (fun H locs hP hD hS => ?_)
  have hP : va_P (dC, dI) cls2 (XW q d (nI n) (nF tr) (nF va) K C B Y (nI 0) x1 y0 y1) H := hP
  have hD : va_D A (XW q d (nI n) (nF tr) (nF va) K C B Y (nI 0) x1 y0 y1) := hD
  refine lv_aload_n hx hb dX0_weigh_5 rfl (lv_at hl 0 rfl) ?_
  refine lv_iconst (v := nI 0) hx hb dX0_weigh_6 (by decide +kernel) ?_
  refine va_put (D := (dC, dI)) (ci := 0) (v := .int (nI 0)) (ty := .int) (C := RX0) (T := TX0) (N := 11) hx hb hts in_X0 tyX0 tyX0_ok nmX0 hown hK hP hD hS 0 rfl rfl 8 (by decide) (hts _ q37) (fun _ h9 => h9) rfl (by decide +kernel) rfl rfl (Nat.le_of_ble_eq_true rfl) dX0_weigh_7 (fun H locs hP hD hS => ?_)
  have hP : va_P (dC, dI) cls2 (XW q d (nI n) (nF tr) (nF va) K C B Y (nI 0) (nI 0) y0 y1) H := hP
  have hD : va_D A (XW q d (nI n) (nF tr) (nF va) K C B Y (nI 0) (nI 0) y0 y1) := hD
  refine lv_aload_n hx hb dX0_weigh_10 rfl (lv_at hl 0 rfl) ?_
  refine lv_iconst (v := nI 0) hx hb dX0_weigh_11 (by decide +kernel) ?_
  refine va_put (D := (dC, dI)) (ci := 0) (v := .int (nI 0)) (ty := .int) (C := RX0) (T := TX0) (N := 11) hx hb hts in_X0 tyX0 tyX0_ok nmX0 hown hK hP hD hS 0 rfl rfl 9 (by decide) (hts _ q38) (fun _ h9 => h9) rfl (by decide +kernel) rfl rfl (Nat.le_of_ble_eq_true rfl) dX0_weigh_12 (fun H locs hP hD hS => ?_)
  have hP : va_P (dC, dI) cls2 (XW q d (nI n) (nF tr) (nF va) K C B Y (nI 0) (nI 0) (nI 0) y1) H := hP
  have hD : va_D A (XW q d (nI n) (nF tr) (nF va) K C B Y (nI 0) (nI 0) (nI 0) y1) := hD
  refine lv_aload_n hx hb dX0_weigh_15 rfl (lv_at hl 0 rfl) ?_
  refine lv_iconst (v := nI 0) hx hb dX0_weigh_16 (by decide +kernel) ?_
  refine va_put (D := (dC, dI)) (ci := 0) (v := .int (nI 0)) (ty := .int) (C := RX0) (T := TX0) (N := 11) hx hb hts in_X0 tyX0 tyX0_ok nmX0 hown hK hP hD hS 0 rfl rfl 10 (by decide) (hts _ q39) (fun _ h9 => h9) rfl (by decide +kernel) rfl rfl (Nat.le_of_ble_eq_true rfl) dX0_weigh_17 (fun H locs hP hD hS => ?_)
  have hP : va_P (dC, dI) cls2 (XW q d (nI n) (nF tr) (nF va) K C B Y (nI 0) (nI 0) (nI 0) (nI 0)) H := hP
  have hD : va_D A (XW q d (nI n) (nF tr) (nF va) K C B Y (nI 0) (nI 0) (nI 0) (nI 0)) := hD
  refine lv_iconst (v := nI 0) hx hb dX0_weigh_20 (by decide +kernel) ?_
  refine lv_istore (lv' := [(4, .int (nI 0)), (0, .ref (q 0)), (1, .int (nI st)), (2, .int (nI mk)), (3, .int (nI am))]) hx hb dX0_weigh_21 hl (by decide) rfl (fun ls hl => ?_)
  exact lX_weigh X n st mk am tr va hn hst hmk ham hva (fun H locs ls hP hD hS hl => xret_v X () hP hD hS rfl dX0_weigh_65) (n + 1) 0 (by omega) (by omega) _ _ _ hP hD hS (lv_sub hl [1, 2, 3, 4, 0] rfl)
set_option maxHeartbeats 4000000 in
set_option maxRecDepth 100000 in
/-- siteCost(site, mask, among, forced) -/
theorem mX_siteCost (l : Launch) (dC : Nat → ClassId) (dI : Nat → Nat → Nat) (d : ClassId) (q : Nat → Nat) (sz : Nat) (n : Nat) (tr va : Nat → Nat) (K : Int32) (C B Y : Nat → Int32) (x0 x1 y0 y1 : Int32) (st mk am : Nat) (fb : Bool) (hn : n ≤ 8) (hst : st < 8) (hmk : mk < 256) (ham : am < 256) (hva : ∀ i, va i ≤ 1) (htr : ∀ i, tr i ≤ 9) : xMi l dC dI d sz yX0_siteCost cX0_siteCost 5 (some .int) ({ frames := 2, cells := 0, slots := 0, locals := 47 } : Room) [.ref (q 0), .int (nI st), .int (nI mk), .int (nI am), .int (nI fb.toNat)] (XW q d (nI n) (nF tr) (nF va) K C B Y x0 x1 y0 y1) (fun r (_ : Unit) => r = nI (ph_st tr va n st mk (am.testBit) fb)) (fun _ => XW q d (nI n) (nF tr) (nF va) K C B Y (nI (ph_w tr va n st mk (am.testBit) false 0)) (nI (ph_w tr va n st mk (am.testBit) false 1)) (nI (ph_w tr va n st mk (am.testBit) true 0)) (nI (ph_w tr va n st mk (am.testBit) true 1))) := by
  refine xM_i (by decide +kernel) (Nat.le_of_ble_eq_true rfl) ?_
  intro p e s m below meth c A ls X hP hD hS hl
  have X : xC cX0_siteCost 5 (some .int) RX0 p s m meth c _ dC dI d A := X
  obtain ⟨hx, hb, hr, hlocks, hml, hown, hts, hK, hA⟩ := id X
  have hl : lv_has ls 5 [(0, .ref (q 0)), (1, .int (nI st)), (2, .int (nI mk)), (3, .int (nI am)), (4, .int (nI fb.toNat))] := hl
  refine lv_aload_n hx hb dX0_siteCost_0 rfl (lv_at hl 0 rfl) ?_
  refine lv_iload_n hx hb dX0_siteCost_1 rfl (lv_at hl 1 rfl) ?_
  refine lv_iload_n hx hb dX0_siteCost_2 rfl (lv_at hl 2 rfl) ?_
  refine lv_iload_n hx hb dX0_siteCost_3 rfl (lv_at hl 3 rfl) ?_
  have g1 := ph_w_le (va := va) (s := st) (m := mk) (on := am.testBit) (b := false) (v := 0) htr hn
  have g2 := ph_w_le (va := va) (s := st) (m := mk) (on := am.testBit) (b := false) (v := 1) htr hn
  have g3 := ph_w_le (va := va) (s := st) (m := mk) (on := am.testBit) (b := true) (v := 0) htr hn
  have g4 := ph_w_le (va := va) (s := st) (m := mk) (on := am.testBit) (b := true) (v := 1) htr hn
  refine xcall_v (q0 := 0) (ci := 0) (As := [.int (nI st), .int (nI mk), .int (nI am)]) (rest := []) X hP hD hS hl (mX_weigh l dC dI d q _ n tr va K C B Y x0 x1 y0 y1 st mk am hn hst hmk ham hva) (cwV 3 hts (lw_V q111 q113 qs6 q19 q114) rfl rfl rfl (by decide +kernel) ⟨Nat.le_of_ble_eq_true rfl, Nat.le_of_ble_eq_true rfl⟩) rfl rfl rfl rfl (Nat.le_of_ble_eq_true rfl) dX0_siteCost_4 ⟨Nat.zero_le _, Nat.zero_le _⟩ (fun u H locs hw hP hD hS => ?_)
  have hP : va_P (dC, dI) cls2 (XW q d (nI n) (nF tr) (nF va) K C B Y (nI (ph_w tr va n st mk (am.testBit) false 0)) (nI (ph_w tr va n st mk (am.testBit) false 1)) (nI (ph_w tr va n st mk (am.testBit) true 0)) (nI (ph_w tr va n st mk (am.testBit) true 1))) H := hP
  have hD : va_D A (XW q d (nI n) (nF tr) (nF va) K C B Y (nI (ph_w tr va n st mk (am.testBit) false 0)) (nI (ph_w tr va n st mk (am.testBit) false 1)) (nI (ph_w tr va n st mk (am.testBit) true 0)) (nI (ph_w tr va n st mk (am.testBit) true 1))) := hD
  refine lv_iload hx hb dX0_siteCost_7 (lv_at hl 4 rfl) ?_
  refine xr_bifeq (tgt := 34) hx hb dX0_siteCost_9 (by decide) (fun hf => ?_) (fun hf => ?_)
  · refine lv_aload_n hx hb dX0_siteCost_34 rfl (lv_at hl 0 rfl) ?_
    refine va_get (D := (dC, dI)) (ci := 0) (v := .int (nI (ph_w tr va n st mk (am.testBit) false 0))) (C := RX0) (T := TX0) (N := 11) hx hb hts in_X0 hown hK hP 0 rfl rfl 7 (by decide) (hts _ q36) (fun _ h9 => h9) rfl dX0_siteCost_35 ?_
    refine lv_aload_n hx hb dX0_siteCost_38 rfl (lv_at hl 0 rfl) ?_
    refine va_get (D := (dC, dI)) (ci := 0) (v := .int (nI (ph_w tr va n st mk (am.testBit) false 1))) (C := RX0) (T := TX0) (N := 11) hx hb hts in_X0 hown hK hP 0 rfl rfl 8 (by decide) (hts _ q37) (fun _ h9 => h9) rfl dX0_siteCost_39 ?_
    refine xcall_s (As := [.int (nI (ph_w tr va n st mk (am.testBit) false 0)), .int (nI (ph_w tr va n st mk (am.testBit) false 1))]) (rest := []) X hP hD hS hl (mX_smaller l dC dI d q _ (ph_w tr va n st mk (am.testBit) false 0) (ph_w tr va n st mk (am.testBit) false 1) (by omega) (by omega)) (va_cwS 2 hts (lw_S q119 q120 q19 q121) rfl rfl rfl (by decide +kernel) ⟨Nat.le_of_ble_eq_true rfl, Nat.le_of_ble_eq_true rfl⟩) rfl rfl (Nat.le_of_ble_eq_true rfl) dX0_siteCost_42 ⟨Nat.zero_le _, Nat.zero_le _⟩ (fun r H locs hw hP hD hS => ?_)
    subst hw
    refine lv_aload_n hx hb dX0_siteCost_45 rfl (lv_at hl 0 rfl) ?_
    refine va_get (D := (dC, dI)) (ci := 0) (v := .int (nI (ph_w tr va n st mk (am.testBit) true 0))) (C := RX0) (T := TX0) (N := 11) hx hb hts in_X0 hown hK hP 0 rfl rfl 9 (by decide) (hts _ q38) (fun _ h9 => h9) rfl dX0_siteCost_46 ?_
    refine lv_aload_n hx hb dX0_siteCost_49 rfl (lv_at hl 0 rfl) ?_
    refine va_get (D := (dC, dI)) (ci := 0) (v := .int (nI (ph_w tr va n st mk (am.testBit) true 1))) (C := RX0) (T := TX0) (N := 11) hx hb hts in_X0 hown hK hP 0 rfl rfl 10 (by decide) (hts _ q39) (fun _ h9 => h9) rfl dX0_siteCost_50 ?_
    refine xcall_s (As := [.int (nI (ph_w tr va n st mk (am.testBit) true 0)), .int (nI (ph_w tr va n st mk (am.testBit) true 1))]) (rest := [.int (nI (min (ph_w tr va n st mk (am.testBit) false 0) (ph_w tr va n st mk (am.testBit) false 1)))]) X hP hD hS hl (mX_smaller l dC dI d q _ (ph_w tr va n st mk (am.testBit) true 0) (ph_w tr va n st mk (am.testBit) true 1) (by omega) (by omega)) (va_cwS 2 hts (lw_S q119 q120 q19 q121) rfl rfl rfl (by decide +kernel) ⟨Nat.le_of_ble_eq_true rfl, Nat.le_of_ble_eq_true rfl⟩) rfl rfl (Nat.le_of_ble_eq_true rfl) dX0_siteCost_53 ⟨Nat.zero_le _, Nat.zero_le _⟩ (fun r H locs hw hP hD hS => ?_)
    subst hw
    refine xr_add hx hb dX0_siteCost_56 ?_
    exact xret_i X () hP hD hS (by unfold ph_st; rw [if_neg (by rw [hf]; decide)]) dX0_siteCost_57
  · refine lv_aload_n hx hb dX0_siteCost_12 rfl (lv_at hl 0 rfl) ?_
    refine va_get (D := (dC, dI)) (ci := 0) (v := .int (nI (ph_w tr va n st mk (am.testBit) false 0))) (C := RX0) (T := TX0) (N := 11) hx hb hts in_X0 hown hK hP 0 rfl rfl 7 (by decide) (hts _ q36) (fun _ h9 => h9) rfl dX0_siteCost_13 ?_
    refine lv_aload_n hx hb dX0_siteCost_16 rfl (lv_at hl 0 rfl) ?_
    refine va_get (D := (dC, dI)) (ci := 0) (v := .int (nI (ph_w tr va n st mk (am.testBit) true 1))) (C := RX0) (T := TX0) (N := 11) hx hb hts in_X0 hown hK hP 0 rfl rfl 10 (by decide) (hts _ q39) (fun _ h9 => h9) rfl dX0_siteCost_17 ?_
    refine xr_add hx hb dX0_siteCost_20 ?_
    refine lv_aload_n hx hb dX0_siteCost_21 rfl (lv_at hl 0 rfl) ?_
    refine va_get (D := (dC, dI)) (ci := 0) (v := .int (nI (ph_w tr va n st mk (am.testBit) false 1))) (C := RX0) (T := TX0) (N := 11) hx hb hts in_X0 hown hK hP 0 rfl rfl 8 (by decide) (hts _ q37) (fun _ h9 => h9) rfl dX0_siteCost_22 ?_
    refine lv_aload_n hx hb dX0_siteCost_25 rfl (lv_at hl 0 rfl) ?_
    refine va_get (D := (dC, dI)) (ci := 0) (v := .int (nI (ph_w tr va n st mk (am.testBit) true 0))) (C := RX0) (T := TX0) (N := 11) hx hb hts in_X0 hown hK hP 0 rfl rfl 9 (by decide) (hts _ q38) (fun _ h9 => h9) rfl dX0_siteCost_26 ?_
    refine xr_add hx hb dX0_siteCost_29 ?_
    refine xcall_s (As := [.int (nI ((ph_w tr va n st mk (am.testBit) false 0) + (ph_w tr va n st mk (am.testBit) true 1))), .int (nI ((ph_w tr va n st mk (am.testBit) false 1) + (ph_w tr va n st mk (am.testBit) true 0)))]) (rest := []) X hP hD hS hl (mX_smaller l dC dI d q _ (ph_w tr va n st mk (am.testBit) false 0 + ph_w tr va n st mk (am.testBit) true 1) (ph_w tr va n st mk (am.testBit) false 1 + ph_w tr va n st mk (am.testBit) true 0) (by omega) (by omega)) (va_cwS 2 hts (lw_S q119 q120 q19 q121) rfl rfl rfl (by decide +kernel) ⟨Nat.le_of_ble_eq_true rfl, Nat.le_of_ble_eq_true rfl⟩) rfl rfl (Nat.le_of_ble_eq_true rfl) dX0_siteCost_30 ⟨Nat.zero_le _, Nat.zero_le _⟩ (fun r H locs hw hP hD hS => ?_)
    subst hw
    exact xret_i X () hP hD hS (by unfold ph_st; rw [if_pos hf]) dX0_siteCost_33
set_option maxHeartbeats 4000000 in
set_option maxRecDepth 100000 in
theorem lX_firstSite {p : Program} {l : Launch} {e : Env} {s : State} {m : MethodId} {args : Array Value} {below : List Frame} {meth : Method} {c : Code} {dC : Nat → ClassId} {dI : Nat → Nat → Nat} {d : ClassId} {A : Nat → Prop} {Q : State → Prop} {q : Nat → Nat} (X : xC cX0_firstSite 3 (some .int) RX0 p s m meth c args dC dI d A) (r : Nat) (tr : Nat → Nat) {R : Int32} {V : Nat → Int32} {K : Int32} {C B Y : Nat → Int32} {x0 x1 y0 y1 : Int32} (hr8 : r < 8) (htr : ∀ i, tr i ≤ 9)
    (kk : ∀ (j : Nat), ph_fi tr r j → ∀ (H : Heap) (locs : List Loc) (ls : Array Slot), va_P (dC, dI) cls2 (XW q d R (nF tr) V K C B Y x0 x1 y0 y1) H → va_D A (XW q d R (nF tr) V K C B Y x0 x1 y0 y1) → va_S A s.heap H locs → lv_has ls 3 [(0, .ref (q 0)), (1, .int (nI r)), (2, .int (nI j))] → W p l e ({ frames := 0, cells := 0, slots := 0, locals := 0 } : Room) s m args below meth c H locs 0 0 Q (F0 m 28 ls [])) :
    ∀ (k : Nat) (j : Nat), j ≤ 8 → (∀ z, z < j → tr (r * 8 + z) = 0) → 8 < j + k → ∀ (H : Heap) (locs : List Loc) (ls : Array Slot), va_P (dC, dI) cls2 (XW q d R (nF tr) V K C B Y x0 x1 y0 y1) H → va_D A (XW q d R (nF tr) V K C B Y x0 x1 y0 y1) → va_S A s.heap H locs → lv_has ls 3 [(0, .ref (q 0)), (1, .int (nI r)), (2, .int (nI j))] → W p l e ({ frames := 0, cells := 0, slots := 0, locals := 0 } : Room) s m args below meth c H locs 0 0 Q (F0 m 2 ls []) := by
  obtain ⟨hx, hb, hr, hlocks, hml, hown, hts, hK, hA⟩ := id X
  intro k
  induction k with
  | zero =>
    intro j hj hz hk
    exact absurd hk (by omega)
  | succ k ih =>
    intro j hj hz hk H locs ls hP hD hS hl
    refine lv_iload_n hx hb dX0_firstSite_2 rfl (lv_at hl 2 rfl) ?_
    refine lv_bipush (v := nI 8) hx hb dX0_firstSite_3 (by decide +kernel) ?_
    refine xr_ge (tgt := 28) hx hb (by omega) (by omega) dX0_firstSite_5 (by decide) (fun h => ?_) (fun h => ?_)
    · obtain rfl : j = 8 := by omega
      exact kk 8 ⟨Nat.le_refl 8, hz, fun z => absurd z (by omega)⟩ _ _ _ hP hD hS hl
    · have ht9 := htr (r * 8 + j)
      refine lv_aload_n hx hb dX0_firstSite_8 rfl (lv_at hl 0 rfl) ?_
      refine va_get (D := (dC, dI)) (ci := 0) (v := .ref (q 1)) (C := RX0) (T := TX0) (N := 11) hx hb hts in_X0 hown hK hP 0 rfl rfl 1 (by decide) (hts _ q30) (fun _ h9 => h9) rfl dX0_firstSite_9 ?_
      refine lv_iload_n hx hb dX0_firstSite_12 rfl (lv_at hl 1 rfl) ?_
      refine lv_bipush (v := nI 8) hx hb dX0_firstSite_13 (by decide +kernel) ?_
      refine xr_mul hx hb dX0_firstSite_15 ?_
      refine lv_iload_n hx hb dX0_firstSite_16 rfl (lv_at hl 2 rfl) ?_
      refine xr_add hx hb dX0_firstSite_17 ?_
      refine xr_ld (v := nI (tr ((r * 8) + j))) hx hb hK hP 1 0 rfl rfl (by omega) (by decide) rfl dX0_firstSite_18 ?_
      refine xr_ifne (tgt := 28) hx hb (by omega) dX0_firstSite_19 (by decide) (fun h2 => ?_) (fun h2 => ?_)
      · exact kk j ⟨hj, hz, fun _ => h2⟩ _ _ _ hP hD hS hl
      · refine lv_iinc (v := nI (j + 1)) (lv' := [(2, .int (nI (j + 1))), (0, .ref (q 0)), (1, .int (nI r))]) hx hb dX0_firstSite_22 hl (k := 2) rfl (nI_1 _) (by decide) rfl (fun ls hl => ?_)
        refine lv_goto (tgt := 2) hx hb dX0_firstSite_25 (by decide) ?_
        exact ih (j + 1) (by omega) (fun z hz2 => by
        by_cases e : z = j
        · rw [e]; exact h2
        · exact hz z (by omega)) (by omega) _ _ _ hP hD hS (lv_sub hl [1, 2, 0] rfl)
set_option maxHeartbeats 4000000 in
set_option maxRecDepth 100000 in
/-- firstSite(r) -/
theorem mX_firstSite (l : Launch) (dC : Nat → ClassId) (dI : Nat → Nat → Nat) (d : ClassId) (q : Nat → Nat) (sz : Nat) (R : Int32) (tr : Nat → Nat) (V : Nat → Int32) (K : Int32) (C B Y : Nat → Int32) (x0 x1 y0 y1 : Int32) (r : Nat) (hr8 : r < 8) (htr : ∀ i, tr i ≤ 9) : xMi l dC dI d sz yX0_firstSite cX0_firstSite 3 (some .int) ({ frames := 0, cells := 0, slots := 0, locals := 0 } : Room) [.ref (q 0), .int (nI r)] (XW q d R (nF tr) V K C B Y x0 x1 y0 y1) (fun a (_ : Unit) => ∃ j, a = nI j ∧ ph_fi tr r j) (fun _ => XW q d R (nF tr) V K C B Y x0 x1 y0 y1) := by
  refine xM_i (by decide +kernel) (Nat.le_of_ble_eq_true rfl) ?_
  intro p e s m below meth c A ls X hP hD hS hl
  have X : xC cX0_firstSite 3 (some .int) RX0 p s m meth c _ dC dI d A := X
  obtain ⟨hx, hb, hr, hlocks, hml, hown, hts, hK, hA⟩ := id X
  have hl : lv_has ls 3 [(0, .ref (q 0)), (1, .int (nI r))] := hl
  refine lv_iconst (v := nI 0) hx hb dX0_firstSite_0 (by decide +kernel) ?_
  refine lv_istore_n (lv' := [(2, .int (nI 0)), (0, .ref (q 0)), (1, .int (nI r))]) hx hb dX0_firstSite_1 rfl hl (by decide) rfl (fun ls hl => ?_)
  exact lX_firstSite X r tr hr8 htr (fun j hj H locs ls hP hD hS hl => by
      refine lv_iload_n hx hb dX0_firstSite_28 rfl (lv_at hl 2 rfl) ?_
      exact xret_i X () hP hD hS (⟨j, rfl, hj⟩) dX0_firstSite_29) 9 0 (by omega) (fun z hz => absurd hz (Nat.not_lt_zero z)) (by omega) _ _ _ hP hD hS (lv_sub hl [1, 2, 0] rfl)
set_option maxHeartbeats 4000000 in
set_option maxRecDepth 100000 in
theorem lX_lastSite {p : Program} {l : Launch} {e : Env} {s : State} {m : MethodId} {args : Array Value} {below : List Frame} {meth : Method} {c : Code} {dC : Nat → ClassId} {dI : Nat → Nat → Nat} {d : ClassId} {A : Nat → Prop} {Q : State → Prop} {q : Nat → Nat} (X : xC cX0_lastSite 3 (some .int) RX0 p s m meth c args dC dI d A) (r : Nat) (tr : Nat → Nat) {R : Int32} {V : Nat → Int32} {K : Int32} {C B Y : Nat → Int32} {x0 x1 y0 y1 : Int32} (hr8 : r < 8) (htr : ∀ i, tr i ≤ 9)
    (kk : ∀ (j : Nat), ph_la tr r j → ∀ (H : Heap) (locs : List Loc) (ls : Array Slot), va_P (dC, dI) cls2 (XW q d R (nF tr) V K C B Y x0 x1 y0 y1) H → va_D A (XW q d R (nF tr) V K C B Y x0 x1 y0 y1) → va_S A s.heap H locs → lv_has ls 3 [(0, .ref (q 0)), (1, .int (nI r)), (2, .int (nI j - 1))] → W p l e ({ frames := 0, cells := 0, slots := 0, locals := 0 } : Room) s m args below meth c H locs 0 0 Q (F0 m 27 ls [])) :
    ∀ (k : Nat) (j : Nat), j ≤ 8 → (∀ z, j ≤ z → z < 8 → tr (r * 8 + z) = 0) → j < k → ∀ (H : Heap) (locs : List Loc) (ls : Array Slot), va_P (dC, dI) cls2 (XW q d R (nF tr) V K C B Y x0 x1 y0 y1) H → va_D A (XW q d R (nF tr) V K C B Y x0 x1 y0 y1) → va_S A s.heap H locs → lv_has ls 3 [(0, .ref (q 0)), (1, .int (nI r)), (2, .int (nI j - 1))] → W p l e ({ frames := 0, cells := 0, slots := 0, locals := 0 } : Room) s m args below meth c H locs 0 0 Q (F0 m 3 ls []) := by
  obtain ⟨hx, hb, hr, hlocks, hml, hown, hts, hK, hA⟩ := id X
  intro k
  induction k with
  | zero =>
    intro j hj hz hk
    exact absurd hk (by omega)
  | succ k ih =>
    intro j hj hz hk H locs ls hP hD hS hl
    cases j with
    | zero =>
      refine lv_iload_n hx hb dX0_lastSite_3 rfl (lv_at hl 2 rfl) ?_
      refine lv_if_lt (tgt := 27) hx hb dX0_lastSite_4 (by decide) (fun h => ?_) (fun h => ?_)
      · exact kk 0 ⟨by omega, hz, fun z => absurd z (by omega)⟩ _ _ _ hP hD hS hl
      · exact absurd (show nI 0 - 1 < (0 : Int32) by decide +kernel) h
    | succ j =>
      have hl : lv_has ls 3 [(0, .ref (q 0)), (1, .int (nI r)), (2, .int (nI j))] := by rw [← nI_pred j]; exact hl
      have ht9 := htr (r * 8 + j)
      refine lv_iload_n hx hb dX0_lastSite_3 rfl (lv_at hl 2 rfl) ?_
      refine lv_if_lt (tgt := 27) hx hb dX0_lastSite_4 (by decide) (fun h => ?_) (fun h => ?_)
      · exact absurd h (nI_pos (by omega))
      · refine lv_aload_n hx hb dX0_lastSite_7 rfl (lv_at hl 0 rfl) ?_
        refine va_get (D := (dC, dI)) (ci := 0) (v := .ref (q 1)) (C := RX0) (T := TX0) (N := 11) hx hb hts in_X0 hown hK hP 0 rfl rfl 1 (by decide) (hts _ q30) (fun _ h9 => h9) rfl dX0_lastSite_8 ?_
        refine lv_iload_n hx hb dX0_lastSite_11 rfl (lv_at hl 1 rfl) ?_
        refine lv_bipush (v := nI 8) hx hb dX0_lastSite_12 (by decide +kernel) ?_
        refine xr_mul hx hb dX0_lastSite_14 ?_
        refine lv_iload_n hx hb dX0_lastSite_15 rfl (lv_at hl 2 rfl) ?_
        refine xr_add hx hb dX0_lastSite_16 ?_
        refine xr_ld (v := nI (tr ((r * 8) + j))) hx hb hK hP 1 0 rfl rfl (by omega) (by decide) rfl dX0_lastSite_17 ?_
        refine xr_ifne (tgt := 27) hx hb (by omega) dX0_lastSite_18 (by decide) (fun h2 => ?_) (fun h2 => ?_)
        · exact kk (j + 1) ⟨hj, hz, fun _ => h2⟩ _ _ _ hP hD hS (by rw [nI_pred j]; exact hl)
        · refine lv_iinc (v := nI j - 1) (lv' := [(2, .int (nI j - 1)), (0, .ref (q 0)), (1, .int (nI r))]) hx hb dX0_lastSite_21 hl (k := 2) rfl (xr_dec _) (by decide) rfl (fun ls hl => ?_)
          refine lv_goto (tgt := 3) hx hb dX0_lastSite_24 (by decide) ?_
          exact ih j (by omega) (fun z hz2 hz3 => by
          by_cases e : z = j
          · rw [e]; exact h2
          · exact hz z (by omega) hz3) (by omega) _ _ _ hP hD hS (lv_sub hl [1, 2, 0] rfl)
set_option maxHeartbeats 4000000 in
set_option maxRecDepth 100000 in
/-- lastSite(r): j - 1 -/
theorem mX_lastSite (l : Launch) (dC : Nat → ClassId) (dI : Nat → Nat → Nat) (d : ClassId) (q : Nat → Nat) (sz : Nat) (R : Int32) (tr : Nat → Nat) (V : Nat → Int32) (K : Int32) (C B Y : Nat → Int32) (x0 x1 y0 y1 : Int32) (r : Nat) (hr8 : r < 8) (htr : ∀ i, tr i ≤ 9) : xMi l dC dI d sz yX0_lastSite cX0_lastSite 3 (some .int) ({ frames := 0, cells := 0, slots := 0, locals := 0 } : Room) [.ref (q 0), .int (nI r)] (XW q d R (nF tr) V K C B Y x0 x1 y0 y1) (fun a (_ : Unit) => ∃ j, a = nI j - 1 ∧ ph_la tr r j) (fun _ => XW q d R (nF tr) V K C B Y x0 x1 y0 y1) := by
  refine xM_i (by decide +kernel) (Nat.le_of_ble_eq_true rfl) ?_
  intro p e s m below meth c A ls X hP hD hS hl
  have X : xC cX0_lastSite 3 (some .int) RX0 p s m meth c _ dC dI d A := X
  obtain ⟨hx, hb, hr, hlocks, hml, hown, hts, hK, hA⟩ := id X
  have hl : lv_has ls 3 [(0, .ref (q 0)), (1, .int (nI r))] := hl
  refine lv_bipush (v := nI 7) hx hb dX0_lastSite_0 (by decide +kernel) ?_
  refine lv_istore_n (lv' := [(2, .int (nI 7)), (0, .ref (q 0)), (1, .int (nI r))]) hx hb dX0_lastSite_2 rfl hl (by decide) rfl (fun ls hl => ?_)
  exact lX_lastSite X r tr hr8 htr (fun j hj H locs ls hP hD hS hl => by
      refine lv_iload_n hx hb dX0_lastSite_27 rfl (lv_at hl 2 rfl) ?_
      exact xret_i X () hP hD hS (⟨j, rfl, hj⟩) dX0_lastSite_28) 9 8 (by omega) (fun z h1 h2 => absurd h1 (by omega)) (by omega) _ _ _ hP hD hS (by rw [show nI 8 - 1 = nI 7 by decide +kernel]; exact (lv_sub hl [1, 2, 0] rfl))
end
section
/-! ReadPhaser: contracts (printed by gen_x0.py) -/
set_option maxHeartbeats 4000000 in
set_option maxRecDepth 100000 in
/-- say(rd, st, vl, tu) -/
theorem mX_say (l : Launch) (dC : Nat → ClassId) (dI : Nat → Nat → Nat) (d : ClassId) (q : Nat → Nat) (sz : Nat) (n : Nat) (tr va : Nat → Nat) (K : Int32) (C B Y : Nat → Int32) (x0 x1 y0 y1 : Int32) (rd st vl tu : Int32) (hn : n ≤ 8) : xMi l dC dI d sz yX0_say cX0_say 7 (some .int) ({ frames := 1, cells := 0, slots := 0, locals := 21 } : Room) [.ref (q 0), .int rd, .int st, .int vl, .int tu] (XW q d (nI n) (nF tr) (nF va) K C B Y x0 x1 y0 y1) (fun r (u : (Nat → Nat) × (Nat → Nat)) => (r, u.1, u.2) = ph_sy n tr va rd st vl tu) (fun u => XW q d (nI n) (nF u.1) (nF u.2) K C B Y x0 x1 y0 y1) := by
  refine xM_i (by decide +kernel) (Nat.le_of_ble_eq_true rfl) ?_
  intro p e s m below meth c A ls X hP hD hS hl
  have X : xC cX0_say 7 (some .int) RX0 p s m meth c _ dC dI d A := X
  obtain ⟨hx, hb, hr, hlocks, hml, hown, hts, hK, hA⟩ := id X
  have hl : lv_has ls 7 [(0, .ref (q 0)), (1, .int rd), (2, .int st), (3, .int vl), (4, .int tu)] := hl
  refine lv_aload_n hx hb dX0_say_0 rfl (lv_at hl 0 rfl) ?_
  refine lv_iload_n hx hb dX0_say_1 rfl (lv_at hl 1 rfl) ?_
  refine xcall_i (q0 := 0) (ci := 0) (As := [.int rd]) (rest := []) X hP hD hS hl (mX_noRead l dC dI d q _ _ _ _ _ _ _ _ _ _ _ _ rd) (cwV 1 hts (lw_V q72 q74 qs0 q19 q75) rfl rfl rfl (by decide +kernel) ⟨Nat.le_of_ble_eq_true rfl, Nat.le_of_ble_eq_true rfl⟩) rfl rfl rfl rfl (Nat.le_of_ble_eq_true rfl) dX0_say_2 ⟨Nat.zero_le _, Nat.zero_le _⟩ (fun r u H locs hw hP hD hS => ?_)
  have hP : va_P (dC, dI) cls2 (XW q d (nI n) (nF tr) (nF va) K C B Y x0 x1 y0 y1) H := hP
  have hD : va_D A (XW q d (nI n) (nF tr) (nF va) K C B Y x0 x1 y0 y1) := hD
  subst hw
  refine xr_bifeq (tgt := 10) hx hb dX0_say_5 (by decide) (fun h1 => ?_) (fun h1 => ?_)
  · have h1 := of_decide_eq_false h1
    refine lv_iload_n hx hb dX0_say_10 rfl (lv_at hl 2 rfl) ?_
    refine lv_if_lt (tgt := 20) hx hb dX0_say_11 (by decide) (fun h2 => ?_) (fun h2 => ?_)
    · refine lv_bipush (v := (-2)) hx hb dX0_say_20 (by decide +kernel) ?_
      exact xret_i X (tr, va) hP hD hS (by unfold ph_sy; rw [if_neg h1, if_pos (Or.inl h2)]) dX0_say_22
    · refine lv_iload_n hx hb dX0_say_14 rfl (lv_at hl 2 rfl) ?_
      refine lv_bipush (v := nI 8) hx hb dX0_say_15 (by decide +kernel) ?_
      refine lv_icmp_lt (tgt := 23) hx hb dX0_say_17 (by decide) (fun h3 => ?_) (fun h3 => ?_)
      · have h23 : ¬ (st < 0 ∨ nI 8 ≤ st) := fun z => z.elim h2 (fun z => Int32.not_le.mpr h3 z)
        refine lv_iload hx hb dX0_say_23 (lv_at hl 4 rfl) ?_
        refine lv_if_lt (tgt := 35) hx hb dX0_say_25 (by decide) (fun h4 => ?_) (fun h4 => ?_)
        · refine lv_bipush (v := (-3)) hx hb dX0_say_35 (by decide +kernel) ?_
          exact xret_i X (tr, va) hP hD hS (by unfold ph_sy; rw [if_neg h1, if_neg h23, if_pos (Or.inl h4)]) dX0_say_37
        · refine lv_iload hx hb dX0_say_28 (lv_at hl 4 rfl) ?_
          refine lv_bipush (v := nI 9) hx hb dX0_say_30 (by decide +kernel) ?_
          refine lv_icmp_le (tgt := 38) hx hb dX0_say_32 (by decide) (fun h5 => ?_) (fun h5 => ?_)
          · obtain ⟨rn, hr2, rfl⟩ := nI_of (fun z => h1 (Or.inl z))
            have hrn : rn < n := Nat.not_le.mp (fun z => h1 (Or.inr ((nI_leI (by omega) hr2).mpr z)))
            obtain ⟨kn, hk2, rfl⟩ := nI_of h2
            have hkn : kn < 8 := (nI_ltI hk2 (by decide)).mp h3
            obtain ⟨tn, ht2, rfl⟩ := nI_of h4
            have htn : tn ≤ 9 := (nI_leI ht2 (by decide)).mp h5
            refine lv_iload_n hx hb dX0_say_38 rfl (lv_at hl 1 rfl) ?_
            refine lv_bipush (v := nI 8) hx hb dX0_say_39 (by decide +kernel) ?_
            refine xr_mul hx hb dX0_say_41 ?_
            refine lv_iload_n hx hb dX0_say_42 rfl (lv_at hl 2 rfl) ?_
            refine xr_add hx hb dX0_say_43 ?_
            refine lv_istore (lv' := [(5, .int (nI ((rn * 8) + kn))), (0, .ref (q 0)), (1, .int (nI rn)), (2, .int (nI kn)), (3, .int vl), (4, .int (nI tn))]) hx hb dX0_say_44 hl (by decide) rfl (fun ls hl => ?_)
            refine lv_aload_n hx hb dX0_say_46 rfl (lv_at hl 1 rfl) ?_
            refine va_get (D := (dC, dI)) (ci := 0) (v := .ref (q 1)) (C := RX0) (T := TX0) (N := 11) hx hb hts in_X0 hown hK hP 0 rfl rfl 1 (by decide) (hts _ q30) (fun _ h9 => h9) rfl dX0_say_47 ?_
            refine lv_iload hx hb dX0_say_50 (lv_at hl 0 rfl) ?_
            refine xr_ld (v := nI (tr ((rn * 8) + kn))) hx hb hK hP 1 0 rfl rfl (by omega) (by decide) rfl dX0_say_52 ?_
            refine lv_istore (lv' := [(6, .int (nI (tr ((rn * 8) + kn)))), (5, .int (nI ((rn * 8) + kn))), (0, .ref (q 0)), (1, .int (nI rn)), (2, .int (nI kn)), (3, .int vl), (4, .int (nI tn))]) hx hb dX0_say_53 hl (by decide) rfl (fun ls hl => ?_)
            refine lv_aload_n hx hb dX0_say_55 rfl (lv_at hl 2 rfl) ?_
            refine va_get (D := (dC, dI)) (ci := 0) (v := .ref (q 1)) (C := RX0) (T := TX0) (N := 11) hx hb hts in_X0 hown hK hP 0 rfl rfl 1 (by decide) (hts _ q30) (fun _ h9 => h9) rfl dX0_say_56 ?_
            refine lv_iload hx hb dX0_say_59 (lv_at hl 1 rfl) ?_
            refine lv_iload hx hb dX0_say_61 (lv_at hl 6 rfl) ?_
            refine xr_st (g := nF (ph_up tr ((rn * 8) + kn) tn)) hx hb hK hP hD hS 1 0 rfl rfl (by omega) (by decide) (nF_up _ _ _) dX0_say_63 (fun H locs hP hD hS => ?_)
            have hP : va_P (dC, dI) cls2 (XW q d (nI n) (nF (ph_up tr ((rn * 8) + kn) tn)) (nF va) K C B Y x0 x1 y0 y1) H := hP
            have hD : va_D A (XW q d (nI n) (nF (ph_up tr ((rn * 8) + kn) tn)) (nF va) K C B Y x0 x1 y0 y1) := hD
            refine lv_aload_n hx hb dX0_say_64 rfl (lv_at hl 2 rfl) ?_
            refine va_get (D := (dC, dI)) (ci := 0) (v := .ref (q 2)) (C := RX0) (T := TX0) (N := 11) hx hb hts in_X0 hown hK hP 0 rfl rfl 2 (by decide) (hts _ q31) (fun _ h9 => h9) rfl dX0_say_65 ?_
            refine lv_iload hx hb dX0_say_68 (lv_at hl 1 rfl) ?_
            refine lv_iload_n hx hb dX0_say_70 rfl (lv_at hl 5 rfl) ?_
            refine lv_iconst (v := nI 1) hx hb dX0_say_71 (by decide +kernel) ?_
            refine lv_iand hx hb dX0_say_72 ?_
            refine xr_v (y := nI (ph_lb vl)) (ph_lb_and vl) ?_
            refine xr_st (g := nF (ph_up va ((rn * 8) + kn) (ph_lb vl))) hx hb hK hP hD hS 2 0 rfl rfl (by omega) (by decide) (nF_up _ _ _) dX0_say_73 (fun H locs hP hD hS => ?_)
            have hP : va_P (dC, dI) cls2 (XW q d (nI n) (nF (ph_up tr ((rn * 8) + kn) tn)) (nF (ph_up va ((rn * 8) + kn) (ph_lb vl))) K C B Y x0 x1 y0 y1) H := hP
            have hD : va_D A (XW q d (nI n) (nF (ph_up tr ((rn * 8) + kn) tn)) (nF (ph_up va ((rn * 8) + kn) (ph_lb vl))) K C B Y x0 x1 y0 y1) := hD
            refine lv_iload hx hb dX0_say_74 (lv_at hl 0 rfl) ?_
            exact xret_i X (ph_up tr (rn * 8 + kn) tn, ph_up va (rn * 8 + kn) (ph_lb vl)) hP hD hS ((ph_sy_n hn hrn hkn htn).symm) dX0_say_76
          · refine lv_bipush (v := (-3)) hx hb dX0_say_35 (by decide +kernel) ?_
            exact xret_i X (tr, va) hP hD hS (by unfold ph_sy; rw [if_neg h1, if_neg h23, if_pos (Or.inr (Int32.not_le.mp h5))]) dX0_say_37
      · refine lv_bipush (v := (-2)) hx hb dX0_say_20 (by decide +kernel) ?_
        exact xret_i X (tr, va) hP hD hS (by unfold ph_sy; rw [if_neg h1, if_pos (Or.inr (Int32.not_lt.mp h3))]) dX0_say_22
  · refine lv_iconst (v := (-1)) hx hb dX0_say_8 (by decide +kernel) ?_
    exact xret_i X (tr, va) hP hD hS (by unfold ph_sy; rw [if_pos (of_decide_eq_true h1)]) dX0_say_9
set_option maxHeartbeats 4000000 in
set_option maxRecDepth 100000 in
theorem lX_stretch {p : Program} {l : Launch} {e : Env} {s : State} {m : MethodId} {args : Array Value} {below : List Frame} {meth : Method} {c : Code} {dC : Nat → ClassId} {dI : Nat → Nat → Nat} {d : ClassId} {A : Nat → Prop} {Q : State → Prop} {q : Nat → Nat} (X : xC cX0_stretch 8 (some .int) RX0 p s m meth c args dC dI d A) (n t f0 f1 : Nat) (bits : Int32) (tr va : Nat → Nat) {K : Int32} {C B Y : Nat → Int32} {x0 x1 y0 y1 : Int32} (hn : n < 8) (ht : t ≤ 9) (hf : f0 + f1 ≤ 8)
    (kk : ∀ (H : Heap) (locs : List Loc) (ls : Array Slot), va_P (dC, dI) cls2 (XW q d (nI (n + 1)) (nF (ph_wr tr (n * 8 + f0) (fun _ => t) f1)) (nF (ph_wr va (n * 8 + f0) (ph_bi bits) f1)) K C B Y x0 x1 y0 y1) H → va_D A (XW q d (nI (n + 1)) (nF (ph_wr tr (n * 8 + f0) (fun _ => t) f1)) (nF (ph_wr va (n * 8 + f0) (ph_bi bits) f1)) K C B Y x0 x1 y0 y1) → va_S A s.heap H locs → lv_has ls 8 [(0, .ref (q 0)), (2, .int bits), (3, .int (nI t)), (4, .int (nI f0)), (5, .int (nI f1)), (6, .int (nI n)), (7, .int (nI f1))] → W p l e ({ frames := 2, cells := 0, slots := 0, locals := 47 } : Room) s m args below meth c H locs 0 0 Q (F0 m 103 ls [])) :
    ∀ (k : Nat) (i : Nat), i ≤ f1 → f1 < i + k → ∀ (H : Heap) (locs : List Loc) (ls : Array Slot), va_P (dC, dI) cls2 (XW q d (nI (n + 1)) (nF (ph_wr tr (n * 8 + f0) (fun _ => t) i)) (nF (ph_wr va (n * 8 + f0) (ph_bi bits) i)) K C B Y x0 x1 y0 y1) H → va_D A (XW q d (nI (n + 1)) (nF (ph_wr tr (n * 8 + f0) (fun _ => t) i)) (nF (ph_wr va (n * 8 + f0) (ph_bi bits) i)) K C B Y x0 x1 y0 y1) → va_S A s.heap H locs → lv_has ls 8 [(0, .ref (q 0)), (2, .int bits), (3, .int (nI t)), (4, .int (nI f0)), (5, .int (nI f1)), (6, .int (nI n)), (7, .int (nI i))] → W p l e ({ frames := 2, cells := 0, slots := 0, locals := 47 } : Room) s m args below meth c H locs 0 0 Q (F0 m 71 ls []) := by
  obtain ⟨hx, hb, hr, hlocks, hml, hown, hts, hK, hA⟩ := id X
  intro k
  induction k with
  | zero =>
    intro i hi hk
    exact absurd hk (by omega)
  | succ k ih =>
    intro i hi hk H locs ls hP hD hS hl
    refine lv_iload hx hb dX0_stretch_71 (lv_at hl 6 rfl) ?_
    refine lv_iload hx hb dX0_stretch_73 (lv_at hl 4 rfl) ?_
    refine xr_ge (tgt := 103) hx hb (by omega) (by omega) dX0_stretch_75 (by decide) (fun h => ?_) (fun h => ?_)
    · obtain rfl : i = f1 := by omega
      exact kk _ _ _ hP hD hS hl
    · refine lv_aload_n hx hb dX0_stretch_78 rfl (lv_at hl 0 rfl) ?_
      refine lv_iload hx hb dX0_stretch_79 (lv_at hl 5 rfl) ?_
      refine lv_iload hx hb dX0_stretch_81 (lv_at hl 3 rfl) ?_
      refine lv_iload hx hb dX0_stretch_83 (lv_at hl 6 rfl) ?_
      refine xr_add hx hb dX0_stretch_85 ?_
      refine lv_iload_n hx hb dX0_stretch_86 rfl (lv_at hl 1 rfl) ?_
      refine lv_iload hx hb dX0_stretch_87 (lv_at hl 6 rfl) ?_
      refine lv_ishr hx hb dX0_stretch_89 ?_
      refine lv_iconst (v := nI 1) hx hb dX0_stretch_90 (by decide +kernel) ?_
      refine lv_iand hx hb dX0_stretch_91 ?_
      refine xr_v (y := nI (ph_bi bits i)) (ph_lb_and _) ?_
      refine lv_iload_n hx hb dX0_stretch_92 rfl (lv_at hl 2 rfl) ?_
      refine xcall_i (q0 := 0) (ci := 0) (As := [.int (nI n), .int (nI (f0 + i)), .int (nI (ph_bi bits i)), .int (nI t)]) (rest := []) X hP hD hS hl (mX_say l dC dI d q _ (n + 1) (ph_wr tr (n * 8 + f0) (fun _ => t) i) (ph_wr va (n * 8 + f0) (ph_bi bits) i) _ _ _ _ _ _ _ _ (nI n) (nI (f0 + i)) (nI (ph_bi bits i)) (nI t) (by omega)) (cwV 4 hts (lw_V q81 q69 q70 q19 q71) rfl rfl rfl (by decide +kernel) ⟨Nat.le_of_ble_eq_true rfl, Nat.le_of_ble_eq_true rfl⟩) rfl rfl rfl rfl (Nat.le_of_ble_eq_true rfl) dX0_stretch_93 ⟨Nat.zero_le _, Nat.zero_le _⟩ (fun r u H locs hw hP hD hS => ?_)
      obtain ⟨tr2, va2⟩ := u
      have hP : va_P (dC, dI) cls2 (XW q d (nI (n + 1)) (nF tr2) (nF va2) K C B Y x0 x1 y0 y1) H := hP
      have hD : va_D A (XW q d (nI (n + 1)) (nF tr2) (nF va2) K C B Y x0 x1 y0 y1) := hD
      dsimp only at hw
      rw [ph_sy_n (by omega) (by omega) (by omega) (by omega), ph_lb_n (show ph_bi bits i ≤ 1 from ph_lb_le _), show n * 8 + (f0 + i) = n * 8 + f0 + i by omega] at hw
      injection hw with e1 e2
      injection e2 with e2 e3
      subst e2
      subst e3
      have hP : va_P (dC, dI) cls2 (XW q d (nI (n + 1)) (nF (ph_wr tr (n * 8 + f0) (fun _ => t) (i + 1))) (nF (ph_wr va (n * 8 + f0) (ph_bi bits) (i + 1))) K C B Y x0 x1 y0 y1) H := hP
      have hD : va_D A (XW q d (nI (n + 1)) (nF (ph_wr tr (n * 8 + f0) (fun _ => t) (i + 1))) (nF (ph_wr va (n * 8 + f0) (ph_bi bits) (i + 1))) K C B Y x0 x1 y0 y1) := hD
      refine lv_pop hx hb dX0_stretch_96 rfl ?_
      refine lv_iinc (v := nI (i + 1)) (lv' := [(7, .int (nI (i + 1))), (0, .ref (q 0)), (2, .int bits), (3, .int (nI t)), (4, .int (nI f0)), (5, .int (nI f1)), (6, .int (nI n))]) hx hb dX0_stretch_97 hl (k := 6) rfl (nI_1 _) (by decide) rfl (fun ls hl => ?_)
      refine lv_goto (tgt := 71) hx hb dX0_stretch_100 (by decide) ?_
      exact ih (i + 1) (by omega) (by omega) _ _ _ hP hD hS (lv_sub hl [1, 2, 3, 4, 5, 6, 0] rfl)
set_option maxHeartbeats 4000000 in
set_option maxRecDepth 100000 in
/-- stretch(span, bits, trust) -/
theorem mX_stretch (l : Launch) (dC : Nat → ClassId) (dI : Nat → Nat → Nat) (d : ClassId) (q : Nat → Nat) (sz : Nat) (n : Nat) (tr va : Nat → Nat) (K : Int32) (C B Y : Nat → Int32) (x0 x1 y0 y1 : Int32) (sp bits tu : Int32) (hn : n ≤ 8) : xMi l dC dI d sz yX0_stretch cX0_stretch 8 (some .int) ({ frames := 2, cells := 0, slots := 0, locals := 47 } : Room) [.ref (q 0), .int sp, .int bits, .int tu] (XW q d (nI n) (nF tr) (nF va) K C B Y x0 x1 y0 y1) (fun r (u : Nat × (Nat → Nat) × (Nat → Nat)) => (r, u.1, u.2.1, u.2.2) = ph_sx n tr va sp bits tu) (fun u => XW q d (nI u.1) (nF u.2.1) (nF u.2.2) K C B Y x0 x1 y0 y1) := by
  refine xM_i (by decide +kernel) (Nat.le_of_ble_eq_true rfl) ?_
  intro p e s m below meth c A ls X hP hD hS hl
  have X : xC cX0_stretch 8 (some .int) RX0 p s m meth c _ dC dI d A := X
  obtain ⟨hx, hb, hr, hlocks, hml, hown, hts, hK, hA⟩ := id X
  have hl : lv_has ls 8 [(0, .ref (q 0)), (1, .int sp), (2, .int bits), (3, .int tu)] := hl
  have b0 := ph_s0_lt sp
  have b1 := ph_s1_lt sp
  refine lv_iload_n hx hb dX0_stretch_0 rfl (lv_at hl 1 rfl) ?_
  refine lv_bipush (v := nI 7) hx hb dX0_stretch_1 (by decide +kernel) ?_
  refine lv_iand hx hb dX0_stretch_3 ?_
  refine xr_v (y := nI (ph_s0 sp)) (ph_s0_and sp) ?_
  refine lv_istore (lv' := [(4, .int (nI (ph_s0 sp))), (0, .ref (q 0)), (1, .int sp), (2, .int bits), (3, .int tu)]) hx hb dX0_stretch_4 hl (by decide) rfl (fun ls hl => ?_)
  refine lv_iload_n hx hb dX0_stretch_6 rfl (lv_at hl 2 rfl) ?_
  refine lv_iconst (v := nI 3) hx hb dX0_stretch_7 (by decide +kernel) ?_
  refine lv_ishr hx hb dX0_stretch_8 ?_
  refine lv_bipush (v := nI 15) hx hb dX0_stretch_9 (by decide +kernel) ?_
  refine lv_iand hx hb dX0_stretch_11 ?_
  refine xr_v (y := nI (ph_s1 sp)) (ph_s1_and sp) ?_
  refine lv_istore (lv' := [(5, .int (nI (ph_s1 sp))), (4, .int (nI (ph_s0 sp))), (0, .ref (q 0)), (1, .int sp), (2, .int bits), (3, .int tu)]) hx hb dX0_stretch_12 hl (by decide) rfl (fun ls hl => ?_)
  refine lv_iload hx hb dX0_stretch_14 (lv_at hl 0 rfl) ?_
  refine lv_iconst (v := nI 1) hx hb dX0_stretch_16 (by decide +kernel) ?_
  refine xr_lt (tgt := 37) hx hb (by omega) (by omega) dX0_stretch_17 (by decide) (fun h1 => ?_) (fun h1 => ?_)
  · refine lv_bipush (v := (-2)) hx hb dX0_stretch_37 (by decide +kernel) ?_
    exact xret_i X (n, tr, va) hP hD hS (by unfold ph_sx; rw [if_pos (Or.inl h1)]) dX0_stretch_39
  · refine lv_iload hx hb dX0_stretch_20 (lv_at hl 0 rfl) ?_
    refine lv_bipush (v := nI 8) hx hb dX0_stretch_22 (by decide +kernel) ?_
    refine xr_gt (tgt := 37) hx hb (by omega) (by omega) dX0_stretch_24 (by decide) (fun h2 => ?_) (fun h2 => ?_)
    · refine lv_bipush (v := (-2)) hx hb dX0_stretch_37 (by decide +kernel) ?_
      exact xret_i X (n, tr, va) hP hD hS (by unfold ph_sx; rw [if_pos (Or.inr (Or.inl h2))]) dX0_stretch_39
    · refine lv_iload hx hb dX0_stretch_27 (lv_at hl 1 rfl) ?_
      refine lv_iload hx hb dX0_stretch_29 (lv_at hl 0 rfl) ?_
      refine xr_add hx hb dX0_stretch_31 ?_
      refine lv_bipush (v := nI 8) hx hb dX0_stretch_32 (by decide +kernel) ?_
      refine xr_le (tgt := 40) hx hb (by omega) (by omega) dX0_stretch_34 (by decide) (fun h3 => ?_) (fun h3 => ?_)
      · have h123 : ¬ (ph_s1 sp < 1 ∨ 8 < ph_s1 sp ∨ 8 < ph_s0 sp + ph_s1 sp) := by omega
        refine lv_iload_n hx hb dX0_stretch_40 rfl (lv_at hl 5 rfl) ?_
        refine lv_iconst (v := nI 1) hx hb dX0_stretch_41 (by decide +kernel) ?_
        refine lv_icmp_lt (tgt := 51) hx hb dX0_stretch_42 (by decide) (fun h4 => ?_) (fun h4 => ?_)
        · refine lv_bipush (v := (-3)) hx hb dX0_stretch_51 (by decide +kernel) ?_
          exact xret_i X (n, tr, va) hP hD hS (by unfold ph_sx; rw [if_neg h123, if_pos (Or.inl h4)]) dX0_stretch_53
        · refine lv_iload_n hx hb dX0_stretch_45 rfl (lv_at hl 5 rfl) ?_
          refine lv_bipush (v := nI 9) hx hb dX0_stretch_46 (by decide +kernel) ?_
          refine lv_icmp_le (tgt := 54) hx hb dX0_stretch_48 (by decide) (fun h5 => ?_) (fun h5 => ?_)
          · have h45 : ¬ (tu < nI 1 ∨ nI 9 < tu) := fun z => z.elim h4 (fun z => Int32.not_lt.mpr h5 z)
            obtain ⟨t, ht2, rfl⟩ := nI_of (fun z => h4 (Int32.lt_of_lt_of_le z (show (0 : Int32) ≤ nI 1 by decide +kernel)))
            have ht9 : t ≤ 9 := (nI_leI ht2 (by decide)).mp h5
            refine lv_aload_n hx hb dX0_stretch_54 rfl (lv_at hl 2 rfl) ?_
            refine xcall_i (q0 := 0) (ci := 0) (As := []) (rest := []) X hP hD hS hl (mX_read l dC dI d q _ n tr va _ _ _ _ _ _ _ _ hn) (cwV 0 hts (lw_V q80 q65 q66 q19 q67) rfl rfl rfl (by decide +kernel) ⟨Nat.le_of_ble_eq_true rfl, Nat.le_of_ble_eq_true rfl⟩) rfl rfl rfl rfl (Nat.le_of_ble_eq_true rfl) dX0_stretch_55 ⟨Nat.zero_le _, Nat.zero_le _⟩ (fun r u H locs hw hP hD hS => ?_)
            obtain ⟨n2, tr2⟩ := u
            have hP : va_P (dC, dI) cls2 (XW q d (nI n2) (nF tr2) (nF va) K C B Y x0 x1 y0 y1) H := hP
            have hD : va_D A (XW q d (nI n2) (nF tr2) (nF va) K C B Y x0 x1 y0 y1) := hD
            dsimp only at hw
            unfold ph_rd at hw
            by_cases h8 : n < 8
            · rw [if_pos h8] at hw
              injection hw with e1 e2
              injection e2 with e2 e3
              have e2 := e2.symm
              have e3 := e3.symm
              subst e1
              subst e2
              subst e3
              have hP : va_P (dC, dI) cls2 (XW q d (nI (n + 1)) (nF (ph_cl tr (n * 8) 8)) (nF va) K C B Y x0 x1 y0 y1) H := hP
              have hD : va_D A (XW q d (nI (n + 1)) (nF (ph_cl tr (n * 8) 8)) (nF va) K C B Y x0 x1 y0 y1) := hD
              refine lv_istore (lv' := [(6, .int (nI n)), (5, .int (nI (ph_s1 sp))), (4, .int (nI (ph_s0 sp))), (0, .ref (q 0)), (1, .int sp), (2, .int bits), (3, .int (nI t))]) hx hb dX0_stretch_58 hl (by decide) rfl (fun ls hl => ?_)
              refine lv_iload hx hb dX0_stretch_60 (lv_at hl 0 rfl) ?_
              refine lv_if_ge (tgt := 68) hx hb dX0_stretch_62 (by decide) (fun h6 => ?_) (fun h6 => ?_)
              · refine lv_iconst (v := nI 0) hx hb dX0_stretch_68 (by decide +kernel) ?_
                refine lv_istore (lv' := [(7, .int (nI 0)), (6, .int (nI n)), (5, .int (nI (ph_s1 sp))), (4, .int (nI (ph_s0 sp))), (0, .ref (q 0)), (1, .int sp), (2, .int bits), (3, .int (nI t))]) hx hb dX0_stretch_69 hl (by decide) rfl (fun ls hl => ?_)
                exact lX_stretch X n t (ph_s0 sp) (ph_s1 sp) bits (ph_cl tr (n * 8) 8) va h8 ht9 (by omega) (fun H locs ls hP hD hS hl => by
        refine lv_iload hx hb dX0_stretch_103 (lv_at hl 5 rfl) ?_
        exact xret_i X (n + 1, ph_wr (ph_cl tr (n * 8) 8) (n * 8 + ph_s0 sp) (fun _ => t) (ph_s1 sp), ph_wr va (n * 8 + ph_s0 sp) (ph_bi bits) (ph_s1 sp)) hP hD hS (by unfold ph_sx; rw [if_neg h123, if_neg h45, if_pos h8, nI_clamp (by omega)]) dX0_stretch_105) (ph_s1 sp + 1) 0 (by omega) (by omega) _ _ _ hP hD hS (lv_sub hl [4, 6, 7, 3, 2, 1, 0] rfl)
              · exact absurd (nI_pos' (by omega)) h6
            · rw [if_neg h8] at hw
              injection hw with e1 e2
              injection e2 with e2 e3
              have e2 := e2.symm
              have e3 := e3.symm
              subst e1
              subst e2
              subst e3
              have hP : va_P (dC, dI) cls2 (XW q d (nI n) (nF tr) (nF va) K C B Y x0 x1 y0 y1) H := hP
              have hD : va_D A (XW q d (nI n) (nF tr) (nF va) K C B Y x0 x1 y0 y1) := hD
              refine lv_istore (lv' := [(6, .int (-4)), (5, .int (nI (ph_s1 sp))), (4, .int (nI (ph_s0 sp))), (0, .ref (q 0)), (1, .int sp), (2, .int bits), (3, .int (nI t))]) hx hb dX0_stretch_58 hl (by decide) rfl (fun ls hl => ?_)
              refine lv_iload hx hb dX0_stretch_60 (lv_at hl 0 rfl) ?_
              refine lv_if_ge (tgt := 68) hx hb dX0_stretch_62 (by decide) (fun h6 => ?_) (fun h6 => ?_)
              · exact absurd h6 (by decide +kernel)
              · refine lv_bipush (v := (-4)) hx hb dX0_stretch_65 (by decide +kernel) ?_
                exact xret_i X (n, tr, va) hP hD hS (by unfold ph_sx; rw [if_neg h123, if_neg h45, if_neg h8]) dX0_stretch_67
          · refine lv_bipush (v := (-3)) hx hb dX0_stretch_51 (by decide +kernel) ?_
            exact xret_i X (n, tr, va) hP hD hS (by unfold ph_sx; rw [if_neg h123, if_pos (Or.inr (Int32.not_le.mp h5))]) dX0_stretch_53
      · refine lv_bipush (v := (-2)) hx hb dX0_stretch_37 (by decide +kernel) ?_
        exact xret_i X (n, tr, va) hP hD hS (by unfold ph_sx; rw [if_pos (Or.inr (Or.inr h3))]) dX0_stretch_39
set_option maxHeartbeats 4000000 in
set_option maxRecDepth 100000 in
theorem lX_cover {p : Program} {l : Launch} {e : Env} {s : State} {m : MethodId} {args : Array Value} {below : List Frame} {meth : Method} {c : Code} {dC : Nat → ClassId} {dI : Nat → Nat → Nat} {d : ClassId} {A : Nat → Prop} {Q : State → Prop} {q : Nat → Nat} (X : xC cX0_cover 4 (some .int) RX0 p s m meth c args dC dI d A) (n st : Nat) (tr : Nat → Nat) {V : Nat → Int32} {K : Int32} {C B Y : Nat → Int32} {x0 x1 y0 y1 : Int32} (hn : n ≤ 8) (hst : st < 8) (htr : ∀ i, tr i ≤ 9)
    (kk : ∀ (H : Heap) (locs : List Loc) (ls : Array Slot), va_P (dC, dI) cls2 (XW q d (nI n) (nF tr) V K C B Y x0 x1 y0 y1) H → va_D A (XW q d (nI n) (nF tr) V K C B Y x0 x1 y0 y1) → va_S A s.heap H locs → lv_has ls 4 [(0, .ref (q 0)), (1, .int (nI st)), (2, .int (nI (ph_cv tr st n))), (3, .int (nI n))] → W p l e ({ frames := 0, cells := 0, slots := 0, locals := 0 } : Room) s m args below meth c H locs 0 0 Q (F0 m 48 ls [])) :
    ∀ (k : Nat) (r : Nat), r ≤ n → n < r + k → ∀ (H : Heap) (locs : List Loc) (ls : Array Slot), va_P (dC, dI) cls2 (XW q d (nI n) (nF tr) V K C B Y x0 x1 y0 y1) H → va_D A (XW q d (nI n) (nF tr) V K C B Y x0 x1 y0 y1) → va_S A s.heap H locs → lv_has ls 4 [(0, .ref (q 0)), (1, .int (nI st)), (2, .int (nI (ph_cv tr st r))), (3, .int (nI r))] → W p l e ({ frames := 0, cells := 0, slots := 0, locals := 0 } : Room) s m args below meth c H locs 0 0 Q (F0 m 17 ls []) := by
  obtain ⟨hx, hb, hr, hlocks, hml, hown, hts, hK, hA⟩ := id X
  intro k
  induction k with
  | zero =>
    intro r hr0 hk
    exact absurd hk (by omega)
  | succ k ih =>
    intro r hr0 hk H locs ls hP hD hS hl
    have hc := ph_cv_le tr st r
    refine lv_iload_n hx hb dX0_cover_17 rfl (lv_at hl 3 rfl) ?_
    refine lv_aload_n hx hb dX0_cover_18 rfl (lv_at hl 0 rfl) ?_
    refine va_get (D := (dC, dI)) (ci := 0) (v := .int (nI n)) (C := RX0) (T := TX0) (N := 11) hx hb hts in_X0 hown hK hP 0 rfl rfl 0 (by decide) (hts _ q29) (fun _ h9 => h9) rfl dX0_cover_19 ?_
    refine xr_ge (tgt := 48) hx hb (by omega) (by omega) dX0_cover_22 (by decide) (fun h => ?_) (fun h => ?_)
    · obtain rfl : r = n := by omega
      exact kk _ _ _ hP hD hS hl
    · have ht9 := htr (r * 8 + st)
      refine lv_aload_n hx hb dX0_cover_25 rfl (lv_at hl 0 rfl) ?_
      refine va_get (D := (dC, dI)) (ci := 0) (v := .ref (q 1)) (C := RX0) (T := TX0) (N := 11) hx hb hts in_X0 hown hK hP 0 rfl rfl 1 (by decide) (hts _ q30) (fun _ h9 => h9) rfl dX0_cover_26 ?_
      refine lv_iload_n hx hb dX0_cover_29 rfl (lv_at hl 3 rfl) ?_
      refine lv_bipush (v := nI 8) hx hb dX0_cover_30 (by decide +kernel) ?_
      refine xr_mul hx hb dX0_cover_32 ?_
      refine lv_iload_n hx hb dX0_cover_33 rfl (lv_at hl 1 rfl) ?_
      refine xr_add hx hb dX0_cover_34 ?_
      refine xr_ld (v := nI (tr ((r * 8) + st))) hx hb hK hP 1 0 rfl rfl (by omega) (by decide) rfl dX0_cover_35 ?_
      refine xr_ifle (tgt := 42) hx hb (by omega) dX0_cover_36 (by decide) (fun h2 => ?_) (fun h2 => ?_)
      · have e : ph_cv tr st (r + 1) = ph_cv tr st r := by simp [ph_cv, ph_sm, h2]
        refine lv_iinc (v := nI (r + 1)) (lv' := [(3, .int (nI (r + 1))), (0, .ref (q 0)), (1, .int (nI st)), (2, .int (nI (ph_cv tr st r)))]) hx hb dX0_cover_42 hl (k := 3) rfl (nI_1 _) (by decide) rfl (fun ls hl => ?_)
        refine lv_goto (tgt := 17) hx hb dX0_cover_45 (by decide) ?_
        exact ih (r + 1) (by omega) (by omega) _ _ _ hP hD hS (by rw [e]; exact (lv_sub hl [1, 2, 3, 0] rfl))
      · have e : ph_cv tr st (r + 1) = ph_cv tr st r + 1 := by simp [ph_cv, ph_sm, h2]
        refine lv_iinc (v := nI ((ph_cv tr st r) + 1)) (lv' := [(2, .int (nI ((ph_cv tr st r) + 1))), (0, .ref (q 0)), (1, .int (nI st)), (3, .int (nI r))]) hx hb dX0_cover_39 hl (k := 2) rfl (nI_1 _) (by decide) rfl (fun ls hl => ?_)
        refine lv_iinc (v := nI (r + 1)) (lv' := [(3, .int (nI (r + 1))), (2, .int (nI ((ph_cv tr st r) + 1))), (0, .ref (q 0)), (1, .int (nI st))]) hx hb dX0_cover_42 hl (k := 3) rfl (nI_1 _) (by decide) rfl (fun ls hl => ?_)
        refine lv_goto (tgt := 17) hx hb dX0_cover_45 (by decide) ?_
        exact ih (r + 1) (by omega) (by omega) _ _ _ hP hD hS (by rw [e]; exact (lv_sub hl [2, 3, 1, 0] rfl))
set_option maxHeartbeats 4000000 in
set_option maxRecDepth 100000 in
/-- cover(site) -/
theorem mX_cover (l : Launch) (dC : Nat → ClassId) (dI : Nat → Nat → Nat) (d : ClassId) (q : Nat → Nat) (sz : Nat) (n : Nat) (tr : Nat → Nat) (V : Nat → Int32) (K : Int32) (C B Y : Nat → Int32) (x0 x1 y0 y1 : Int32) (st : Int32) (hn : n ≤ 8) (htr : ∀ i, tr i ≤ 9) : xMi l dC dI d sz yX0_cover cX0_cover 4 (some .int) ({ frames := 0, cells := 0, slots := 0, locals := 0 } : Room) [.ref (q 0), .int st] (XW q d (nI n) (nF tr) V K C B Y x0 x1 y0 y1) (fun r (_ : Unit) => r = ph_cx tr n st) (fun _ => XW q d (nI n) (nF tr) V K C B Y x0 x1 y0 y1) := by
  refine xM_i (by decide +kernel) (Nat.le_of_ble_eq_true rfl) ?_
  intro p e s m below meth c A ls X hP hD hS hl
  have X : xC cX0_cover 4 (some .int) RX0 p s m meth c _ dC dI d A := X
  obtain ⟨hx, hb, hr, hlocks, hml, hown, hts, hK, hA⟩ := id X
  have hl : lv_has ls 4 [(0, .ref (q 0)), (1, .int st)] := hl
  refine lv_iload_n hx hb dX0_cover_0 rfl (lv_at hl 1 rfl) ?_
  refine lv_if_lt (tgt := 10) hx hb dX0_cover_1 (by decide) (fun h2 => ?_) (fun h2 => ?_)
  · refine lv_bipush (v := (-2)) hx hb dX0_cover_10 (by decide +kernel) ?_
    exact xret_i X () hP hD hS (by unfold ph_cx; rw [if_pos (Or.inl h2)]) dX0_cover_12
  · refine lv_iload_n hx hb dX0_cover_4 rfl (lv_at hl 1 rfl) ?_
    refine lv_bipush (v := nI 8) hx hb dX0_cover_5 (by decide +kernel) ?_
    refine lv_icmp_lt (tgt := 13) hx hb dX0_cover_7 (by decide) (fun h3 => ?_) (fun h3 => ?_)
    · have h23 : ¬ (st < 0 ∨ nI 8 ≤ st) := fun z => z.elim h2 (fun z => Int32.not_le.mpr h3 z)
      obtain ⟨kn, hk2, rfl⟩ := nI_of h2
      have hkn : kn < 8 := (nI_ltI hk2 (by decide)).mp h3
      refine lv_iconst (v := nI 0) hx hb dX0_cover_13 (by decide +kernel) ?_
      refine lv_istore_n (lv' := [(2, .int (nI 0)), (0, .ref (q 0)), (1, .int (nI kn))]) hx hb dX0_cover_14 rfl hl (by decide) rfl (fun ls hl => ?_)
      refine lv_iconst (v := nI 0) hx hb dX0_cover_15 (by decide +kernel) ?_
      refine lv_istore_n (lv' := [(3, .int (nI 0)), (2, .int (nI 0)), (0, .ref (q 0)), (1, .int (nI kn))]) hx hb dX0_cover_16 rfl hl (by decide) rfl (fun ls hl => ?_)
      exact lX_cover X n kn tr hn hkn htr (fun H locs ls hP hD hS hl => by
      refine lv_iload_n hx hb dX0_cover_48 rfl (lv_at hl 2 rfl) ?_
      exact xret_i X () hP hD hS (by unfold ph_cx; rw [if_neg h23, nI_clamp hk2]) dX0_cover_49) (n + 1) 0 (by omega) (by omega) _ _ _ hP hD hS (lv_sub hl [2, 3, 1, 0] rfl)
    · refine lv_bipush (v := (-2)) hx hb dX0_cover_10 (by decide +kernel) ?_
      exact xret_i X () hP hD hS (by unfold ph_cx; rw [if_pos (Or.inr (Int32.not_lt.mp h3))]) dX0_cover_12
set_option maxHeartbeats 4000000 in
set_option maxRecDepth 100000 in
/-- join(k, o) -/
theorem mX_join (l : Launch) (dC : Nat → ClassId) (dI : Nat → Nat → Nat) (d : ClassId) (q : Nat → Nat) (sz : Nat) (R : Int32) (T V : Nat → Int32) (K : Int32) (C B Y : Nat → Int32) (x0 x1 y0 y1 : Int32) (k o : Nat) (hk : k < 256) (ho : o < 256) : xMv l dC dI d sz yX0_join cX0_join 3 ({ frames := 0, cells := 0, slots := 0, locals := 0 } : Room) [.ref (q 0), .int (nI k), .int (nI o)] (XW q d R T V K C B Y x0 x1 y0 y1) (fun (u : (Nat → Int32) × (Nat → Int32) × (Nat → Int32)) => u = (upd C k (ph_jC (C k) (C o)), upd B k (ph_jB (C k) (C o) (B k) (B o)), upd Y k (ph_jY (C k) (C o) (Y k) (Y o)))) (fun u => XW q d R T V K u.1 u.2.1 u.2.2 x0 x1 y0 y1) := by
  refine xM_v (by decide +kernel) (Nat.le_of_ble_eq_true rfl) ?_
  intro p e s m below meth c A ls X hP hD hS hl
  have X : xC cX0_join 3 none RX0 p s m meth c _ dC dI d A := X
  obtain ⟨hx, hb, hr, hlocks, hml, hown, hts, hK, hA⟩ := id X
  have hl : lv_has ls 3 [(0, .ref (q 0)), (1, .int (nI k)), (2, .int (nI o))] := hl
  refine lv_aload_n hx hb dX0_join_0 rfl (lv_at hl 0 rfl) ?_
  refine va_get (D := (dC, dI)) (ci := 0) (v := .ref (q 3)) (C := RX0) (T := TX0) (N := 11) hx hb hts in_X0 hown hK hP 0 rfl rfl 4 (by decide) (hts _ q33) (fun _ h9 => h9) rfl dX0_join_1 ?_
  refine lv_iload_n hx hb dX0_join_4 rfl (lv_at hl 2 rfl) ?_
  refine xr_ld (v := C o) hx hb hK hP 3 0 rfl rfl (by omega) (by decide) rfl dX0_join_5 ?_
  refine lv_aload_n hx hb dX0_join_6 rfl (lv_at hl 0 rfl) ?_
  refine va_get (D := (dC, dI)) (ci := 0) (v := .ref (q 3)) (C := RX0) (T := TX0) (N := 11) hx hb hts in_X0 hown hK hP 0 rfl rfl 4 (by decide) (hts _ q33) (fun _ h9 => h9) rfl dX0_join_7 ?_
  refine lv_iload_n hx hb dX0_join_10 rfl (lv_at hl 1 rfl) ?_
  refine xr_ld (v := C k) hx hb hK hP 3 0 rfl rfl (by omega) (by decide) rfl dX0_join_11 ?_
  refine lv_icmp_ge (tgt := 54) hx hb dX0_join_12 (by decide) (fun h1 => ?_) (fun h1 => ?_)
  · have h1 : ¬ C o < C k := Int32.not_lt.mpr h1
    refine lv_aload_n hx hb dX0_join_54 rfl (lv_at hl 0 rfl) ?_
    refine va_get (D := (dC, dI)) (ci := 0) (v := .ref (q 3)) (C := RX0) (T := TX0) (N := 11) hx hb hts in_X0 hown hK hP 0 rfl rfl 4 (by decide) (hts _ q33) (fun _ h9 => h9) rfl dX0_join_55 ?_
    refine lv_iload_n hx hb dX0_join_58 rfl (lv_at hl 2 rfl) ?_
    refine xr_ld (v := C o) hx hb hK hP 3 0 rfl rfl (by omega) (by decide) rfl dX0_join_59 ?_
    refine lv_aload_n hx hb dX0_join_60 rfl (lv_at hl 0 rfl) ?_
    refine va_get (D := (dC, dI)) (ci := 0) (v := .ref (q 3)) (C := RX0) (T := TX0) (N := 11) hx hb hts in_X0 hown hK hP 0 rfl rfl 4 (by decide) (hts _ q33) (fun _ h9 => h9) rfl dX0_join_61 ?_
    refine lv_iload_n hx hb dX0_join_64 rfl (lv_at hl 1 rfl) ?_
    refine xr_ld (v := C k) hx hb hK hP 3 0 rfl rfl (by omega) (by decide) rfl dX0_join_65 ?_
    refine lv_icmp_ne (tgt := 111) hx hb dX0_join_66 (by decide) (fun h2 => ?_) (fun h2 => ?_)
    · exact xret_v X (C, B, Y) hP hD hS (by unfold ph_jC ph_jB ph_jY; rw [if_neg h1, if_neg h1, if_neg h1, if_neg h2, if_neg h2, upd_same, upd_same, upd_same]) dX0_join_111
    · refine lv_aload_n hx hb dX0_join_69 rfl (lv_at hl 0 rfl) ?_
      refine va_get (D := (dC, dI)) (ci := 0) (v := .ref (q 4)) (C := RX0) (T := TX0) (N := 11) hx hb hts in_X0 hown hK hP 0 rfl rfl 5 (by decide) (hts _ q34) (fun _ h9 => h9) rfl dX0_join_70 ?_
      refine lv_iload_n hx hb dX0_join_73 rfl (lv_at hl 2 rfl) ?_
      refine xr_ld (v := B o) hx hb hK hP 4 0 rfl rfl (by omega) (by decide) rfl dX0_join_74 ?_
      refine lv_aload_n hx hb dX0_join_75 rfl (lv_at hl 0 rfl) ?_
      refine va_get (D := (dC, dI)) (ci := 0) (v := .ref (q 4)) (C := RX0) (T := TX0) (N := 11) hx hb hts in_X0 hown hK hP 0 rfl rfl 5 (by decide) (hts _ q34) (fun _ h9 => h9) rfl dX0_join_76 ?_
      refine lv_iload_n hx hb dX0_join_79 rfl (lv_at hl 1 rfl) ?_
      refine xr_ld (v := B k) hx hb hK hP 4 0 rfl rfl (by omega) (by decide) rfl dX0_join_80 ?_
      refine lv_icmp_ge (tgt := 96) hx hb dX0_join_81 (by decide) (fun h3 => ?_) (fun h3 => ?_)
      · have h3 : ¬ B o < B k := Int32.not_lt.mpr h3
        refine lv_aload_n hx hb dX0_join_96 rfl (lv_at hl 0 rfl) ?_
        refine va_get (D := (dC, dI)) (ci := 0) (v := .ref (q 5)) (C := RX0) (T := TX0) (N := 11) hx hb hts in_X0 hown hK hP 0 rfl rfl 6 (by decide) (hts _ q35) (fun _ h9 => h9) rfl dX0_join_97 ?_
        refine lv_iload_n hx hb dX0_join_100 rfl (lv_at hl 1 rfl) ?_
        refine lv_dup2_11 hx hb dX0_join_101 rfl rfl ?_
        refine xr_ld (v := Y k) hx hb hK hP 5 0 rfl rfl (by omega) (by decide) rfl dX0_join_102 ?_
        refine lv_aload_n hx hb dX0_join_103 rfl (lv_at hl 0 rfl) ?_
        refine va_get (D := (dC, dI)) (ci := 0) (v := .ref (q 5)) (C := RX0) (T := TX0) (N := 11) hx hb hts in_X0 hown hK hP 0 rfl rfl 6 (by decide) (hts _ q35) (fun _ h9 => h9) rfl dX0_join_104 ?_
        refine lv_iload_n hx hb dX0_join_107 rfl (lv_at hl 2 rfl) ?_
        refine xr_ld (v := Y o) hx hb hK hP 5 0 rfl rfl (by omega) (by decide) rfl dX0_join_108 ?_
        refine lv_iadd hx hb dX0_join_109 ?_
        refine xr_st (g := upd Y k ((Y k) + (Y o))) hx hb hK hP hD hS 5 0 rfl rfl (by omega) (by decide) (rfl) dX0_join_110 (fun H locs hP hD hS => ?_)
        have hP : va_P (dC, dI) cls2 (XW q d R T V K C B (upd Y k ((Y k) + (Y o))) x0 x1 y0 y1) H := hP
        have hD : va_D A (XW q d R T V K C B (upd Y k ((Y k) + (Y o))) x0 x1 y0 y1) := hD
        exact xret_v X (C, B, upd Y k ((Y k) + (Y o))) hP hD hS (by unfold ph_jC ph_jB ph_jY; rw [if_neg h1, if_neg h1, if_neg h1, if_pos h2, if_pos h2, if_neg h3, upd_same, upd_same]) dX0_join_111
      · have h3 : B o < B k := Int32.not_le.mp h3
        refine lv_aload_n hx hb dX0_join_84 rfl (lv_at hl 0 rfl) ?_
        refine va_get (D := (dC, dI)) (ci := 0) (v := .ref (q 4)) (C := RX0) (T := TX0) (N := 11) hx hb hts in_X0 hown hK hP 0 rfl rfl 5 (by decide) (hts _ q34) (fun _ h9 => h9) rfl dX0_join_85 ?_
        refine lv_iload_n hx hb dX0_join_88 rfl (lv_at hl 1 rfl) ?_
        refine lv_aload_n hx hb dX0_join_89 rfl (lv_at hl 0 rfl) ?_
        refine va_get (D := (dC, dI)) (ci := 0) (v := .ref (q 4)) (C := RX0) (T := TX0) (N := 11) hx hb hts in_X0 hown hK hP 0 rfl rfl 5 (by decide) (hts _ q34) (fun _ h9 => h9) rfl dX0_join_90 ?_
        refine lv_iload_n hx hb dX0_join_93 rfl (lv_at hl 2 rfl) ?_
        refine xr_ld (v := B o) hx hb hK hP 4 0 rfl rfl (by omega) (by decide) rfl dX0_join_94 ?_
        refine xr_st (g := upd B k (B o)) hx hb hK hP hD hS 4 0 rfl rfl (by omega) (by decide) (rfl) dX0_join_95 (fun H locs hP hD hS => ?_)
        have hP : va_P (dC, dI) cls2 (XW q d R T V K C (upd B k (B o)) Y x0 x1 y0 y1) H := hP
        have hD : va_D A (XW q d R T V K C (upd B k (B o)) Y x0 x1 y0 y1) := hD
        refine lv_aload_n hx hb dX0_join_96 rfl (lv_at hl 0 rfl) ?_
        refine va_get (D := (dC, dI)) (ci := 0) (v := .ref (q 5)) (C := RX0) (T := TX0) (N := 11) hx hb hts in_X0 hown hK hP 0 rfl rfl 6 (by decide) (hts _ q35) (fun _ h9 => h9) rfl dX0_join_97 ?_
        refine lv_iload_n hx hb dX0_join_100 rfl (lv_at hl 1 rfl) ?_
        refine lv_dup2_11 hx hb dX0_join_101 rfl rfl ?_
        refine xr_ld (v := Y k) hx hb hK hP 5 0 rfl rfl (by omega) (by decide) rfl dX0_join_102 ?_
        refine lv_aload_n hx hb dX0_join_103 rfl (lv_at hl 0 rfl) ?_
        refine va_get (D := (dC, dI)) (ci := 0) (v := .ref (q 5)) (C := RX0) (T := TX0) (N := 11) hx hb hts in_X0 hown hK hP 0 rfl rfl 6 (by decide) (hts _ q35) (fun _ h9 => h9) rfl dX0_join_104 ?_
        refine lv_iload_n hx hb dX0_join_107 rfl (lv_at hl 2 rfl) ?_
        refine xr_ld (v := Y o) hx hb hK hP 5 0 rfl rfl (by omega) (by decide) rfl dX0_join_108 ?_
        refine lv_iadd hx hb dX0_join_109 ?_
        refine xr_st (g := upd Y k ((Y k) + (Y o))) hx hb hK hP hD hS 5 0 rfl rfl (by omega) (by decide) (rfl) dX0_join_110 (fun H locs hP hD hS => ?_)
        have hP : va_P (dC, dI) cls2 (XW q d R T V K C (upd B k (B o)) (upd Y k ((Y k) + (Y o))) x0 x1 y0 y1) H := hP
        have hD : va_D A (XW q d R T V K C (upd B k (B o)) (upd Y k ((Y k) + (Y o))) x0 x1 y0 y1) := hD
        exact xret_v X (C, upd B k (B o), upd Y k ((Y k) + (Y o))) hP hD hS (by unfold ph_jC ph_jB ph_jY; rw [if_neg h1, if_neg h1, if_neg h1, if_pos h2, if_pos h2, if_pos h3, upd_same]) dX0_join_111
  · have h1 : C o < C k := Int32.not_le.mp h1
    refine lv_aload_n hx hb dX0_join_15 rfl (lv_at hl 0 rfl) ?_
    refine va_get (D := (dC, dI)) (ci := 0) (v := .ref (q 3)) (C := RX0) (T := TX0) (N := 11) hx hb hts in_X0 hown hK hP 0 rfl rfl 4 (by decide) (hts _ q33) (fun _ h9 => h9) rfl dX0_join_16 ?_
    refine lv_iload_n hx hb dX0_join_19 rfl (lv_at hl 1 rfl) ?_
    refine lv_aload_n hx hb dX0_join_20 rfl (lv_at hl 0 rfl) ?_
    refine va_get (D := (dC, dI)) (ci := 0) (v := .ref (q 3)) (C := RX0) (T := TX0) (N := 11) hx hb hts in_X0 hown hK hP 0 rfl rfl 4 (by decide) (hts _ q33) (fun _ h9 => h9) rfl dX0_join_21 ?_
    refine lv_iload_n hx hb dX0_join_24 rfl (lv_at hl 2 rfl) ?_
    refine xr_ld (v := C o) hx hb hK hP 3 0 rfl rfl (by omega) (by decide) rfl dX0_join_25 ?_
    refine xr_st (g := upd C k (C o)) hx hb hK hP hD hS 3 0 rfl rfl (by omega) (by decide) (rfl) dX0_join_26 (fun H locs hP hD hS => ?_)
    have hP : va_P (dC, dI) cls2 (XW q d R T V K (upd C k (C o)) B Y x0 x1 y0 y1) H := hP
    have hD : va_D A (XW q d R T V K (upd C k (C o)) B Y x0 x1 y0 y1) := hD
    refine lv_aload_n hx hb dX0_join_27 rfl (lv_at hl 0 rfl) ?_
    refine va_get (D := (dC, dI)) (ci := 0) (v := .ref (q 4)) (C := RX0) (T := TX0) (N := 11) hx hb hts in_X0 hown hK hP 0 rfl rfl 5 (by decide) (hts _ q34) (fun _ h9 => h9) rfl dX0_join_28 ?_
    refine lv_iload_n hx hb dX0_join_31 rfl (lv_at hl 1 rfl) ?_
    refine lv_aload_n hx hb dX0_join_32 rfl (lv_at hl 0 rfl) ?_
    refine va_get (D := (dC, dI)) (ci := 0) (v := .ref (q 4)) (C := RX0) (T := TX0) (N := 11) hx hb hts in_X0 hown hK hP 0 rfl rfl 5 (by decide) (hts _ q34) (fun _ h9 => h9) rfl dX0_join_33 ?_
    refine lv_iload_n hx hb dX0_join_36 rfl (lv_at hl 2 rfl) ?_
    refine xr_ld (v := B o) hx hb hK hP 4 0 rfl rfl (by omega) (by decide) rfl dX0_join_37 ?_
    refine xr_st (g := upd B k (B o)) hx hb hK hP hD hS 4 0 rfl rfl (by omega) (by decide) (rfl) dX0_join_38 (fun H locs hP hD hS => ?_)
    have hP : va_P (dC, dI) cls2 (XW q d R T V K (upd C k (C o)) (upd B k (B o)) Y x0 x1 y0 y1) H := hP
    have hD : va_D A (XW q d R T V K (upd C k (C o)) (upd B k (B o)) Y x0 x1 y0 y1) := hD
    refine lv_aload_n hx hb dX0_join_39 rfl (lv_at hl 0 rfl) ?_
    refine va_get (D := (dC, dI)) (ci := 0) (v := .ref (q 5)) (C := RX0) (T := TX0) (N := 11) hx hb hts in_X0 hown hK hP 0 rfl rfl 6 (by decide) (hts _ q35) (fun _ h9 => h9) rfl dX0_join_40 ?_
    refine lv_iload_n hx hb dX0_join_43 rfl (lv_at hl 1 rfl) ?_
    refine lv_aload_n hx hb dX0_join_44 rfl (lv_at hl 0 rfl) ?_
    refine va_get (D := (dC, dI)) (ci := 0) (v := .ref (q 5)) (C := RX0) (T := TX0) (N := 11) hx hb hts in_X0 hown hK hP 0 rfl rfl 6 (by decide) (hts _ q35) (fun _ h9 => h9) rfl dX0_join_45 ?_
    refine lv_iload_n hx hb dX0_join_48 rfl (lv_at hl 2 rfl) ?_
    refine xr_ld (v := Y o) hx hb hK hP 5 0 rfl rfl (by omega) (by decide) rfl dX0_join_49 ?_
    refine xr_st (g := upd Y k (Y o)) hx hb hK hP hD hS 5 0 rfl rfl (by omega) (by decide) (rfl) dX0_join_50 (fun H locs hP hD hS => ?_)
    have hP : va_P (dC, dI) cls2 (XW q d R T V K (upd C k (C o)) (upd B k (B o)) (upd Y k (Y o)) x0 x1 y0 y1) H := hP
    have hD : va_D A (XW q d R T V K (upd C k (C o)) (upd B k (B o)) (upd Y k (Y o)) x0 x1 y0 y1) := hD
    refine lv_goto (tgt := 111) hx hb dX0_join_51 (by decide) ?_
    exact xret_v X (upd C k (C o), upd B k (B o), upd Y k (Y o)) hP hD hS (by unfold ph_jC ph_jB ph_jY; rw [if_pos h1, if_pos h1, if_pos h1]) dX0_join_111
set_option maxHeartbeats 4000000 in
set_option maxRecDepth 100000 in
theorem lX_beginRead {p : Program} {l : Launch} {e : Env} {s : State} {m : MethodId} {args : Array Value} {below : List Frame} {meth : Method} {c : Code} {dC : Nat → ClassId} {dI : Nat → Nat → Nat} {d : ClassId} {A : Nat → Prop} {Q : State → Prop} {q : Nat → Nat} (X : xC cX0_beginRead 4 none RX0 p s m meth c args dC dI d A) (r kw : Nat) {R : Int32} {T V : Nat → Int32} (C B Y : Nat → Int32) {x0 x1 y0 y1 : Int32} (hr8 : r < 8) (hkw : kw < 256) (hbit : kw.testBit r = false)
    (kk : ∀ (C' B' Y' : Nat → Int32), ph_bgk 256 r kw C B Y C' B' Y' → ∀ (H : Heap) (locs : List Loc) (ls : Array Slot), va_P (dC, dI) cls2 (XW q d R T V (nI kw) C' B' Y' x0 x1 y0 y1) H → va_D A (XW q d R T V (nI kw) C' B' Y' x0 x1 y0 y1) → va_S A s.heap H locs → lv_has ls 4 [(0, .ref (q 0)), (1, .int (nI r)), (2, .int (nI (2 ^ r))), (3, .int (nI 256))] → W p l e ({ frames := 0, cells := 0, slots := 0, locals := 0 } : Room) s m args below meth c H locs 0 0 Q (F0 m 83 ls [])) :
    ∀ (k : Nat) (j : Nat) (C' B' Y' : Nat → Int32), j ≤ 256 → ph_bgk j r kw C B Y C' B' Y' → 256 < j + k → ∀ (H : Heap) (locs : List Loc) (ls : Array Slot), va_P (dC, dI) cls2 (XW q d R T V (nI kw) C' B' Y' x0 x1 y0 y1) H → va_D A (XW q d R T V (nI kw) C' B' Y' x0 x1 y0 y1) → va_S A s.heap H locs → lv_has ls 4 [(0, .ref (q 0)), (1, .int (nI r)), (2, .int (nI (2 ^ r))), (3, .int (nI j))] → W p l e ({ frames := 0, cells := 0, slots := 0, locals := 0 } : Room) s m args below meth c H locs 0 0 Q (F0 m 6 ls []) := by
  obtain ⟨hx, hb, hr, hlocks, hml, hown, hts, hK, hA⟩ := id X
  intro k
  induction k with
  | zero =>
    intro j C' B' Y' hj hI hk
    exact absurd hk (by omega)
  | succ k ih =>
    intro j C' B' Y' hj hI hk H locs ls hP hD hS hl
    refine lv_iload_n hx hb dX0_beginRead_6 rfl (lv_at hl 3 rfl) ?_
    refine lv_sipush (v := nI 256) hx hb dX0_beginRead_7 (by decide +kernel) ?_
    refine xr_ge (tgt := 83) hx hb (by omega) (by omega) dX0_beginRead_10 (by decide) (fun h => ?_) (fun h => ?_)
    · obtain rfl : j = 256 := by omega
      exact kk _ _ _ hI _ _ _ hP hD hS hl
    · refine lv_iload_n hx hb dX0_beginRead_13 rfl (lv_at hl 3 rfl) ?_
      refine lv_aload_n hx hb dX0_beginRead_14 rfl (lv_at hl 0 rfl) ?_
      refine va_get (D := (dC, dI)) (ci := 0) (v := .int (nI kw)) (C := RX0) (T := TX0) (N := 11) hx hb hts in_X0 hown hK hP 0 rfl rfl 3 (by decide) (hts _ q32) (fun _ h9 => h9) rfl dX0_beginRead_15 ?_
      refine lv_iconst (v := (-1)) hx hb dX0_beginRead_18 (by decide +kernel) ?_
      refine lv_ixor hx hb dX0_beginRead_19 ?_
      refine lv_iand hx hb dX0_beginRead_20 ?_
      refine lv_if_ne (tgt := 77) hx hb dX0_beginRead_21 (by decide) (fun h2 => ?_) (fun h2 => ?_)
      · have h2 : ¬ ph_sub j kw := fun z => h2 ((ph_and0 (by omega) hkw).mpr z)
        refine lv_iinc (v := nI (j + 1)) (lv' := [(3, .int (nI (j + 1))), (0, .ref (q 0)), (1, .int (nI r)), (2, .int (nI (2 ^ r)))]) hx hb dX0_beginRead_77 hl (k := 3) rfl (nI_1 _) (by decide) rfl (fun ls hl => ?_)
        refine lv_goto (tgt := 6) hx hb dX0_beginRead_80 (by decide) ?_
        exact ih (j + 1) _ _ _ (by omega) (ph_bgk_skip hI h2) (by omega) _ _ _ hP hD hS (lv_sub hl [1, 2, 3, 0] rfl)
      · have h2 : ph_sub j kw := (ph_and0 (by omega) hkw).mp h2
        have hor : j ||| 2 ^ r < 256 := ph_or_lt (by omega) hr8
        refine lv_aload_n hx hb dX0_beginRead_24 rfl (lv_at hl 0 rfl) ?_
        refine va_get (D := (dC, dI)) (ci := 0) (v := .ref (q 3)) (C := RX0) (T := TX0) (N := 11) hx hb hts in_X0 hown hK hP 0 rfl rfl 4 (by decide) (hts _ q33) (fun _ h9 => h9) rfl dX0_beginRead_25 ?_
        refine lv_iload_n hx hb dX0_beginRead_28 rfl (lv_at hl 3 rfl) ?_
        refine lv_iload_n hx hb dX0_beginRead_29 rfl (lv_at hl 2 rfl) ?_
        refine xr_or hx hb dX0_beginRead_30 ?_
        refine lv_iload_n hx hb dX0_beginRead_31 rfl (lv_at hl 1 rfl) ?_
        refine xr_ifne (tgt := 40) hx hb (by omega) dX0_beginRead_32 (by decide) (fun h3 => ?_) (fun h3 => ?_)
        · refine lv_aload_n hx hb dX0_beginRead_40 rfl (lv_at hl 0 rfl) ?_
          refine va_get (D := (dC, dI)) (ci := 0) (v := .ref (q 3)) (C := RX0) (T := TX0) (N := 11) hx hb hts in_X0 hown hK hP 0 rfl rfl 4 (by decide) (hts _ q33) (fun _ h9 => h9) rfl dX0_beginRead_41 ?_
          refine lv_iload_n hx hb dX0_beginRead_44 rfl (lv_at hl 3 rfl) ?_
          refine xr_ld (v := C' j) hx hb hK hP 3 0 rfl rfl (by omega) (by decide) rfl dX0_beginRead_45 ?_
          refine xr_st (g := upd C' (j ||| (2 ^ r)) (C' j)) hx hb hK hP hD hS 3 0 rfl rfl (by omega) (by decide) (rfl) dX0_beginRead_46 (fun H locs hP hD hS => ?_)
          have hP : va_P (dC, dI) cls2 (XW q d R T V (nI kw) (upd C' (j ||| (2 ^ r)) (C' j)) B' Y' x0 x1 y0 y1) H := hP
          have hD : va_D A (XW q d R T V (nI kw) (upd C' (j ||| (2 ^ r)) (C' j)) B' Y' x0 x1 y0 y1) := hD
          refine lv_aload_n hx hb dX0_beginRead_47 rfl (lv_at hl 0 rfl) ?_
          refine va_get (D := (dC, dI)) (ci := 0) (v := .ref (q 4)) (C := RX0) (T := TX0) (N := 11) hx hb hts in_X0 hown hK hP 0 rfl rfl 5 (by decide) (hts _ q34) (fun _ h9 => h9) rfl dX0_beginRead_48 ?_
          refine lv_iload_n hx hb dX0_beginRead_51 rfl (lv_at hl 3 rfl) ?_
          refine lv_iload_n hx hb dX0_beginRead_52 rfl (lv_at hl 2 rfl) ?_
          refine xr_or hx hb dX0_beginRead_53 ?_
          refine lv_aload_n hx hb dX0_beginRead_54 rfl (lv_at hl 0 rfl) ?_
          refine va_get (D := (dC, dI)) (ci := 0) (v := .ref (q 4)) (C := RX0) (T := TX0) (N := 11) hx hb hts in_X0 hown hK hP 0 rfl rfl 5 (by decide) (hts _ q34) (fun _ h9 => h9) rfl dX0_beginRead_55 ?_
          refine lv_iload_n hx hb dX0_beginRead_58 rfl (lv_at hl 3 rfl) ?_
          refine xr_ld (v := B' j) hx hb hK hP 4 0 rfl rfl (by omega) (by decide) rfl dX0_beginRead_59 ?_
          refine lv_iload_n hx hb dX0_beginRead_60 rfl (lv_at hl 2 rfl) ?_
          refine lv_ior hx hb dX0_beginRead_61 ?_
          refine xr_st (g := upd B' (j ||| (2 ^ r)) ((B' j) ||| (nI (2 ^ r)))) hx hb hK hP hD hS 4 0 rfl rfl (by omega) (by decide) (rfl) dX0_beginRead_62 (fun H locs hP hD hS => ?_)
          have hP : va_P (dC, dI) cls2 (XW q d R T V (nI kw) (upd C' (j ||| (2 ^ r)) (C' j)) (upd B' (j ||| (2 ^ r)) ((B' j) ||| (nI (2 ^ r)))) Y' x0 x1 y0 y1) H := hP
          have hD : va_D A (XW q d R T V (nI kw) (upd C' (j ||| (2 ^ r)) (C' j)) (upd B' (j ||| (2 ^ r)) ((B' j) ||| (nI (2 ^ r)))) Y' x0 x1 y0 y1) := hD
          refine lv_aload_n hx hb dX0_beginRead_63 rfl (lv_at hl 0 rfl) ?_
          refine va_get (D := (dC, dI)) (ci := 0) (v := .ref (q 5)) (C := RX0) (T := TX0) (N := 11) hx hb hts in_X0 hown hK hP 0 rfl rfl 6 (by decide) (hts _ q35) (fun _ h9 => h9) rfl dX0_beginRead_64 ?_
          refine lv_iload_n hx hb dX0_beginRead_67 rfl (lv_at hl 3 rfl) ?_
          refine lv_iload_n hx hb dX0_beginRead_68 rfl (lv_at hl 2 rfl) ?_
          refine xr_or hx hb dX0_beginRead_69 ?_
          refine lv_aload_n hx hb dX0_beginRead_70 rfl (lv_at hl 0 rfl) ?_
          refine va_get (D := (dC, dI)) (ci := 0) (v := .ref (q 5)) (C := RX0) (T := TX0) (N := 11) hx hb hts in_X0 hown hK hP 0 rfl rfl 6 (by decide) (hts _ q35) (fun _ h9 => h9) rfl dX0_beginRead_71 ?_
          refine lv_iload_n hx hb dX0_beginRead_74 rfl (lv_at hl 3 rfl) ?_
          refine xr_ld (v := Y' j) hx hb hK hP 5 0 rfl rfl (by omega) (by decide) rfl dX0_beginRead_75 ?_
          refine xr_st (g := upd Y' (j ||| (2 ^ r)) (Y' j)) hx hb hK hP hD hS 5 0 rfl rfl (by omega) (by decide) (rfl) dX0_beginRead_76 (fun H locs hP hD hS => ?_)
          have hP : va_P (dC, dI) cls2 (XW q d R T V (nI kw) (upd C' (j ||| (2 ^ r)) (C' j)) (upd B' (j ||| (2 ^ r)) ((B' j) ||| (nI (2 ^ r)))) (upd Y' (j ||| (2 ^ r)) (Y' j)) x0 x1 y0 y1) H := hP
          have hD : va_D A (XW q d R T V (nI kw) (upd C' (j ||| (2 ^ r)) (C' j)) (upd B' (j ||| (2 ^ r)) ((B' j) ||| (nI (2 ^ r)))) (upd Y' (j ||| (2 ^ r)) (Y' j)) x0 x1 y0 y1) := hD
          refine lv_iinc (v := nI (j + 1)) (lv' := [(3, .int (nI (j + 1))), (0, .ref (q 0)), (1, .int (nI r)), (2, .int (nI (2 ^ r)))]) hx hb dX0_beginRead_77 hl (k := 3) rfl (nI_1 _) (by decide) rfl (fun ls hl => ?_)
          refine lv_goto (tgt := 6) hx hb dX0_beginRead_80 (by decide) ?_
          exact ih (j + 1) _ _ _ (by omega) (ph_bgk_put hbit hI h2 (by rw [if_neg h3])) (by omega) _ _ _ hP hD hS (lv_sub hl [1, 2, 3, 0] rfl)
        · refine lv_ldc hx hb hown (hts _ q102) dX0_beginRead_35 ?_
          refine xr_v (y := nI 1000000) (by decide +kernel) ?_
          refine lv_goto (tgt := 46) hx hb dX0_beginRead_37 (by decide) ?_
          refine xr_st (g := upd C' (j ||| (2 ^ r)) (nI 1000000)) hx hb hK hP hD hS 3 0 rfl rfl (by omega) (by decide) (rfl) dX0_beginRead_46 (fun H locs hP hD hS => ?_)
          have hP : va_P (dC, dI) cls2 (XW q d R T V (nI kw) (upd C' (j ||| (2 ^ r)) (nI 1000000)) B' Y' x0 x1 y0 y1) H := hP
          have hD : va_D A (XW q d R T V (nI kw) (upd C' (j ||| (2 ^ r)) (nI 1000000)) B' Y' x0 x1 y0 y1) := hD
          refine lv_aload_n hx hb dX0_beginRead_47 rfl (lv_at hl 0 rfl) ?_
          refine va_get (D := (dC, dI)) (ci := 0) (v := .ref (q 4)) (C := RX0) (T := TX0) (N := 11) hx hb hts in_X0 hown hK hP 0 rfl rfl 5 (by decide) (hts _ q34) (fun _ h9 => h9) rfl dX0_beginRead_48 ?_
          refine lv_iload_n hx hb dX0_beginRead_51 rfl (lv_at hl 3 rfl) ?_
          refine lv_iload_n hx hb dX0_beginRead_52 rfl (lv_at hl 2 rfl) ?_
          refine xr_or hx hb dX0_beginRead_53 ?_
          refine lv_aload_n hx hb dX0_beginRead_54 rfl (lv_at hl 0 rfl) ?_
          refine va_get (D := (dC, dI)) (ci := 0) (v := .ref (q 4)) (C := RX0) (T := TX0) (N := 11) hx hb hts in_X0 hown hK hP 0 rfl rfl 5 (by decide) (hts _ q34) (fun _ h9 => h9) rfl dX0_beginRead_55 ?_
          refine lv_iload_n hx hb dX0_beginRead_58 rfl (lv_at hl 3 rfl) ?_
          refine xr_ld (v := B' j) hx hb hK hP 4 0 rfl rfl (by omega) (by decide) rfl dX0_beginRead_59 ?_
          refine lv_iload_n hx hb dX0_beginRead_60 rfl (lv_at hl 2 rfl) ?_
          refine lv_ior hx hb dX0_beginRead_61 ?_
          refine xr_st (g := upd B' (j ||| (2 ^ r)) ((B' j) ||| (nI (2 ^ r)))) hx hb hK hP hD hS 4 0 rfl rfl (by omega) (by decide) (rfl) dX0_beginRead_62 (fun H locs hP hD hS => ?_)
          have hP : va_P (dC, dI) cls2 (XW q d R T V (nI kw) (upd C' (j ||| (2 ^ r)) (nI 1000000)) (upd B' (j ||| (2 ^ r)) ((B' j) ||| (nI (2 ^ r)))) Y' x0 x1 y0 y1) H := hP
          have hD : va_D A (XW q d R T V (nI kw) (upd C' (j ||| (2 ^ r)) (nI 1000000)) (upd B' (j ||| (2 ^ r)) ((B' j) ||| (nI (2 ^ r)))) Y' x0 x1 y0 y1) := hD
          refine lv_aload_n hx hb dX0_beginRead_63 rfl (lv_at hl 0 rfl) ?_
          refine va_get (D := (dC, dI)) (ci := 0) (v := .ref (q 5)) (C := RX0) (T := TX0) (N := 11) hx hb hts in_X0 hown hK hP 0 rfl rfl 6 (by decide) (hts _ q35) (fun _ h9 => h9) rfl dX0_beginRead_64 ?_
          refine lv_iload_n hx hb dX0_beginRead_67 rfl (lv_at hl 3 rfl) ?_
          refine lv_iload_n hx hb dX0_beginRead_68 rfl (lv_at hl 2 rfl) ?_
          refine xr_or hx hb dX0_beginRead_69 ?_
          refine lv_aload_n hx hb dX0_beginRead_70 rfl (lv_at hl 0 rfl) ?_
          refine va_get (D := (dC, dI)) (ci := 0) (v := .ref (q 5)) (C := RX0) (T := TX0) (N := 11) hx hb hts in_X0 hown hK hP 0 rfl rfl 6 (by decide) (hts _ q35) (fun _ h9 => h9) rfl dX0_beginRead_71 ?_
          refine lv_iload_n hx hb dX0_beginRead_74 rfl (lv_at hl 3 rfl) ?_
          refine xr_ld (v := Y' j) hx hb hK hP 5 0 rfl rfl (by omega) (by decide) rfl dX0_beginRead_75 ?_
          refine xr_st (g := upd Y' (j ||| (2 ^ r)) (Y' j)) hx hb hK hP hD hS 5 0 rfl rfl (by omega) (by decide) (rfl) dX0_beginRead_76 (fun H locs hP hD hS => ?_)
          have hP : va_P (dC, dI) cls2 (XW q d R T V (nI kw) (upd C' (j ||| (2 ^ r)) (nI 1000000)) (upd B' (j ||| (2 ^ r)) ((B' j) ||| (nI (2 ^ r)))) (upd Y' (j ||| (2 ^ r)) (Y' j)) x0 x1 y0 y1) H := hP
          have hD : va_D A (XW q d R T V (nI kw) (upd C' (j ||| (2 ^ r)) (nI 1000000)) (upd B' (j ||| (2 ^ r)) ((B' j) ||| (nI (2 ^ r)))) (upd Y' (j ||| (2 ^ r)) (Y' j)) x0 x1 y0 y1) := hD
          refine lv_iinc (v := nI (j + 1)) (lv' := [(3, .int (nI (j + 1))), (0, .ref (q 0)), (1, .int (nI r)), (2, .int (nI (2 ^ r)))]) hx hb dX0_beginRead_77 hl (k := 3) rfl (nI_1 _) (by decide) rfl (fun ls hl => ?_)
          refine lv_goto (tgt := 6) hx hb dX0_beginRead_80 (by decide) ?_
          exact ih (j + 1) _ _ _ (by omega) (ph_bgk_put hbit hI h2 (by rw [if_pos h3])) (by omega) _ _ _ hP hD hS (lv_sub hl [1, 2, 3, 0] rfl)
set_option maxHeartbeats 4000000 in
set_option maxRecDepth 100000 in
/-- beginRead(r) -/
theorem mX_beginRead (l : Launch) (dC : Nat → ClassId) (dI : Nat → Nat → Nat) (d : ClassId) (q : Nat → Nat) (sz : Nat) (R : Int32) (T V : Nat → Int32) (C B Y : Nat → Int32) (x0 x1 y0 y1 : Int32) (kw r : Nat) (hr8 : r < 8) (hkw : kw < 256) (hbit : kw.testBit r = false) : xMv l dC dI d sz yX0_beginRead cX0_beginRead 4 ({ frames := 0, cells := 0, slots := 0, locals := 0 } : Room) [.ref (q 0), .int (nI r)] (XW q d R T V (nI kw) C B Y x0 x1 y0 y1) (fun (u : (Nat → Int32) × (Nat → Int32) × (Nat → Int32)) => ph_bg r kw C B Y u.1 u.2.1 u.2.2) (fun u => XW q d R T V (nI (kw ||| 2 ^ r)) u.1 u.2.1 u.2.2 x0 x1 y0 y1) := by
  refine xM_v (by decide +kernel) (Nat.le_of_ble_eq_true rfl) ?_
  intro p e s m below meth c A ls X hP hD hS hl
  have X : xC cX0_beginRead 4 none RX0 p s m meth c _ dC dI d A := X
  obtain ⟨hx, hb, hr, hlocks, hml, hown, hts, hK, hA⟩ := id X
  have hl : lv_has ls 4 [(0, .ref (q 0)), (1, .int (nI r))] := hl
  refine lv_iconst (v := nI 1) hx hb dX0_beginRead_0 (by decide +kernel) ?_
  refine lv_iload_n hx hb dX0_beginRead_1 rfl (lv_at hl 1 rfl) ?_
  refine xr_shl1 hx hb (by omega) dX0_beginRead_2 ?_
  refine lv_istore_n (lv' := [(2, .int (nI (2 ^ r))), (0, .ref (q 0)), (1, .int (nI r))]) hx hb dX0_beginRead_3 rfl hl (by decide) rfl (fun ls hl => ?_)
  refine lv_iconst (v := nI 0) hx hb dX0_beginRead_4 (by decide +kernel) ?_
  refine lv_istore_n (lv' := [(3, .int (nI 0)), (2, .int (nI (2 ^ r))), (0, .ref (q 0)), (1, .int (nI r))]) hx hb dX0_beginRead_5 rfl hl (by decide) rfl (fun ls hl => ?_)
  exact lX_beginRead X r kw C B Y hr8 hkw hbit (fun C' B' Y' hI H locs ls hP hD hS hl => by
      refine lv_aload_n hx hb dX0_beginRead_83 rfl (lv_at hl 0 rfl) ?_
      refine lv_dup hx hb dX0_beginRead_84 rfl ?_
      refine va_get (D := (dC, dI)) (ci := 0) (v := .int (nI kw)) (C := RX0) (T := TX0) (N := 11) hx hb hts in_X0 hown hK hP 0 rfl rfl 3 (by decide) (hts _ q32) (fun _ h9 => h9) rfl dX0_beginRead_85 ?_
      refine lv_iload_n hx hb dX0_beginRead_88 rfl (lv_at hl 2 rfl) ?_
      refine xr_or hx hb dX0_beginRead_89 ?_
      refine va_put (D := (dC, dI)) (ci := 0) (v := .int (nI (kw ||| (2 ^ r)))) (ty := .int) (C := RX0) (T := TX0) (N := 11) hx hb hts in_X0 tyX0 tyX0_ok nmX0 hown hK hP hD hS 0 rfl rfl 3 (by decide) (hts _ q32) (fun _ h9 => h9) rfl (by decide +kernel) rfl rfl (Nat.le_of_ble_eq_true rfl) dX0_beginRead_90 (fun H locs hP hD hS => ?_)
      have hP : va_P (dC, dI) cls2 (XW q d R T V (nI (kw ||| (2 ^ r))) C' B' Y' x0 x1 y0 y1) H := hP
      have hD : va_D A (XW q d R T V (nI (kw ||| (2 ^ r))) C' B' Y' x0 x1 y0 y1) := hD
      exact xret_v X (C', B', Y') hP hD hS (ph_bgk_end hkw hI) dX0_beginRead_93) 257 0 C B Y (by omega) (ph_bgk_0 r kw C B Y) (by omega) _ _ _ hP hD hS (lv_sub hl [2, 3, 1, 0] rfl)
set_option maxHeartbeats 4000000 in
set_option maxRecDepth 100000 in
theorem lX_endRead {p : Program} {l : Launch} {e : Env} {s : State} {m : MethodId} {args : Array Value} {below : List Frame} {meth : Method} {c : Code} {dC : Nat → ClassId} {dI : Nat → Nat → Nat} {d : ClassId} {A : Nat → Prop} {Q : State → Prop} {q : Nat → Nat} (X : xC cX0_endRead 4 none RX0 p s m meth c args dC dI d A) (r kw : Nat) {R : Int32} {T V : Nat → Int32} (C B Y : Nat → Int32) {x0 x1 y0 y1 : Int32} (hr8 : r < 8) (hkw : kw < 256) (hbit : kw.testBit r = false)
    (kk : ∀ (C' B' Y' : Nat → Int32), ph_edk 256 r kw C B Y C' B' Y' → ∀ (H : Heap) (locs : List Loc) (ls : Array Slot), va_P (dC, dI) cls2 (XW q d R T V (nI kw) C' B' Y' x0 x1 y0 y1) H → va_D A (XW q d R T V (nI kw) C' B' Y' x0 x1 y0 y1) → va_S A s.heap H locs → lv_has ls 4 [(0, .ref (q 0)), (1, .int (nI r)), (2, .int (nI (2 ^ r))), (3, .int (nI 256))] → W p l e ({ frames := 1, cells := 0, slots := 0, locals := 22 } : Room) s m args below meth c H locs 0 0 Q (F0 m 50 ls [])) :
    ∀ (k : Nat) (j : Nat) (C' B' Y' : Nat → Int32), j ≤ 256 → ph_edk j r kw C B Y C' B' Y' → 256 < j + k → ∀ (H : Heap) (locs : List Loc) (ls : Array Slot), va_P (dC, dI) cls2 (XW q d R T V (nI kw) C' B' Y' x0 x1 y0 y1) H → va_D A (XW q d R T V (nI kw) C' B' Y' x0 x1 y0 y1) → va_S A s.heap H locs → lv_has ls 4 [(0, .ref (q 0)), (1, .int (nI r)), (2, .int (nI (2 ^ r))), (3, .int (nI j))] → W p l e ({ frames := 1, cells := 0, slots := 0, locals := 22 } : Room) s m args below meth c H locs 0 0 Q (F0 m 18 ls []) := by
  obtain ⟨hx, hb, hr, hlocks, hml, hown, hts, hK, hA⟩ := id X
  intro k
  induction k with
  | zero =>
    intro j C' B' Y' hj hI hk
    exact absurd hk (by omega)
  | succ k ih =>
    intro j C' B' Y' hj hI hk H locs ls hP hD hS hl
    refine lv_iload_n hx hb dX0_endRead_18 rfl (lv_at hl 3 rfl) ?_
    refine lv_sipush (v := nI 256) hx hb dX0_endRead_19 (by decide +kernel) ?_
    refine xr_ge (tgt := 50) hx hb (by omega) (by omega) dX0_endRead_22 (by decide) (fun h => ?_) (fun h => ?_)
    · obtain rfl : j = 256 := by omega
      exact kk _ _ _ hI _ _ _ hP hD hS hl
    · refine lv_iload_n hx hb dX0_endRead_25 rfl (lv_at hl 3 rfl) ?_
      refine lv_aload_n hx hb dX0_endRead_26 rfl (lv_at hl 0 rfl) ?_
      refine va_get (D := (dC, dI)) (ci := 0) (v := .int (nI kw)) (C := RX0) (T := TX0) (N := 11) hx hb hts in_X0 hown hK hP 0 rfl rfl 3 (by decide) (hts _ q32) (fun _ h9 => h9) rfl dX0_endRead_27 ?_
      refine lv_iconst (v := (-1)) hx hb dX0_endRead_30 (by decide +kernel) ?_
      refine lv_ixor hx hb dX0_endRead_31 ?_
      refine lv_iand hx hb dX0_endRead_32 ?_
      refine lv_if_ne (tgt := 44) hx hb dX0_endRead_33 (by decide) (fun h2 => ?_) (fun h2 => ?_)
      · have h2 : ¬ ph_sub j kw := fun z => h2 ((ph_and0 (by omega) hkw).mpr z)
        refine lv_iinc (v := nI (j + 1)) (lv' := [(3, .int (nI (j + 1))), (0, .ref (q 0)), (1, .int (nI r)), (2, .int (nI (2 ^ r)))]) hx hb dX0_endRead_44 hl (k := 3) rfl (nI_1 _) (by decide) rfl (fun ls hl => ?_)
        refine lv_goto (tgt := 18) hx hb dX0_endRead_47 (by decide) ?_
        exact ih (j + 1) _ _ _ (by omega) (ph_edk_skip hI h2) (by omega) _ _ _ hP hD hS (lv_sub hl [1, 2, 3, 0] rfl)
      · have h2 : ph_sub j kw := (ph_and0 (by omega) hkw).mp h2
        have hor : j ||| 2 ^ r < 256 := ph_or_lt (by omega) hr8
        refine lv_aload_n hx hb dX0_endRead_36 rfl (lv_at hl 0 rfl) ?_
        refine lv_iload_n hx hb dX0_endRead_37 rfl (lv_at hl 3 rfl) ?_
        refine lv_iload_n hx hb dX0_endRead_38 rfl (lv_at hl 3 rfl) ?_
        refine lv_iload_n hx hb dX0_endRead_39 rfl (lv_at hl 2 rfl) ?_
        refine xr_or hx hb dX0_endRead_40 ?_
        refine xcall_v (q0 := 0) (ci := 0) (As := [.int (nI j), .int (nI (j ||| (2 ^ r)))]) (rest := []) X hP hD hS hl (mX_join l dC dI d q _ R T V _ C' B' Y' _ _ _ _ j (j ||| 2 ^ r) (by omega) hor) (cwV 2 hts (lw_V q130 q132 qs10 q19 q133) rfl rfl rfl (by decide +kernel) ⟨Nat.le_of_ble_eq_true rfl, Nat.le_of_ble_eq_true rfl⟩) rfl rfl rfl rfl (Nat.le_of_ble_eq_true rfl) dX0_endRead_41 ⟨Nat.zero_le _, Nat.zero_le _⟩ (fun u H locs hw hP hD hS => ?_)
        subst hw
        have hP : va_P (dC, dI) cls2 (XW q d R T V (nI kw) (upd C' j (ph_jC (C' j) (C' (j ||| 2 ^ r)))) (upd B' j (ph_jB (C' j) (C' (j ||| 2 ^ r)) (B' j) (B' (j ||| 2 ^ r)))) (upd Y' j (ph_jY (C' j) (C' (j ||| 2 ^ r)) (Y' j) (Y' (j ||| 2 ^ r)))) x0 x1 y0 y1) H := hP
        have hD : va_D A (XW q d R T V (nI kw) (upd C' j (ph_jC (C' j) (C' (j ||| 2 ^ r)))) (upd B' j (ph_jB (C' j) (C' (j ||| 2 ^ r)) (B' j) (B' (j ||| 2 ^ r)))) (upd Y' j (ph_jY (C' j) (C' (j ||| 2 ^ r)) (Y' j) (Y' (j ||| 2 ^ r)))) x0 x1 y0 y1) := hD
        refine lv_iinc (v := nI (j + 1)) (lv' := [(3, .int (nI (j + 1))), (0, .ref (q 0)), (1, .int (nI r)), (2, .int (nI (2 ^ r)))]) hx hb dX0_endRead_44 hl (k := 3) rfl (nI_1 _) (by decide) rfl (fun ls hl => ?_)
        refine lv_goto (tgt := 18) hx hb dX0_endRead_47 (by decide) ?_
        exact ih (j + 1) _ _ _ (by omega) (ph_edk_put hbit hI h2) (by omega) _ _ _ hP hD hS (lv_sub hl [1, 2, 3, 0] rfl)
set_option maxHeartbeats 4000000 in
set_option maxRecDepth 100000 in
/-- endRead(r) -/
theorem mX_endRead (l : Launch) (dC : Nat → ClassId) (dI : Nat → Nat → Nat) (d : ClassId) (q : Nat → Nat) (sz : Nat) (R : Int32) (T V : Nat → Int32) (C B Y : Nat → Int32) (x0 x1 y0 y1 : Int32) (kw r : Nat) (hr8 : r < 8) (hkw : kw < 256) : xMv l dC dI d sz yX0_endRead cX0_endRead 4 ({ frames := 1, cells := 0, slots := 0, locals := 22 } : Room) [.ref (q 0), .int (nI r)] (XW q d R T V (nI kw) C B Y x0 x1 y0 y1) (fun (u : (Nat → Int32) × (Nat → Int32) × (Nat → Int32)) => ph_ed r (kw &&& (255 ^^^ 2 ^ r)) C B Y u.1 u.2.1 u.2.2) (fun u => XW q d R T V (nI (kw &&& (255 ^^^ 2 ^ r))) u.1 u.2.1 u.2.2 x0 x1 y0 y1) := by
  refine xM_v (by decide +kernel) (Nat.le_of_ble_eq_true rfl) ?_
  intro p e s m below meth c A ls X hP hD hS hl
  have X : xC cX0_endRead 4 none RX0 p s m meth c _ dC dI d A := X
  obtain ⟨hx, hb, hr, hlocks, hml, hown, hts, hK, hA⟩ := id X
  have hl : lv_has ls 4 [(0, .ref (q 0)), (1, .int (nI r))] := hl
  refine lv_iconst (v := nI 1) hx hb dX0_endRead_0 (by decide +kernel) ?_
  refine lv_iload_n hx hb dX0_endRead_1 rfl (lv_at hl 1 rfl) ?_
  refine xr_shl1 hx hb (by omega) dX0_endRead_2 ?_
  refine lv_istore_n (lv' := [(2, .int (nI (2 ^ r))), (0, .ref (q 0)), (1, .int (nI r))]) hx hb dX0_endRead_3 rfl hl (by decide) rfl (fun ls hl => ?_)
  refine lv_aload_n hx hb dX0_endRead_4 rfl (lv_at hl 1 rfl) ?_
  refine lv_dup hx hb dX0_endRead_5 rfl ?_
  refine va_get (D := (dC, dI)) (ci := 0) (v := .int (nI kw)) (C := RX0) (T := TX0) (N := 11) hx hb hts in_X0 hown hK hP 0 rfl rfl 3 (by decide) (hts _ q32) (fun _ h9 => h9) rfl dX0_endRead_6 ?_
  refine lv_iload_n hx hb dX0_endRead_9 rfl (lv_at hl 0 rfl) ?_
  refine lv_iconst (v := (-1)) hx hb dX0_endRead_10 (by decide +kernel) ?_
  refine lv_ixor hx hb dX0_endRead_11 ?_
  refine lv_iand hx hb dX0_endRead_12 ?_
  refine xr_v (y := nI (kw &&& (255 ^^^ 2 ^ r))) (ph_andn hkw hr8) ?_
  refine va_put (D := (dC, dI)) (ci := 0) (v := .int (nI (kw &&& (255 ^^^ 2 ^ r)))) (ty := .int) (C := RX0) (T := TX0) (N := 11) hx hb hts in_X0 tyX0 tyX0_ok nmX0 hown hK hP hD hS 0 rfl rfl 3 (by decide) (hts _ q32) (fun _ h9 => h9) rfl (by decide +kernel) rfl rfl (Nat.le_of_ble_eq_true rfl) dX0_endRead_13 (fun H locs hP hD hS => ?_)
  have hP : va_P (dC, dI) cls2 (XW q d R T V (nI (kw &&& (255 ^^^ 2 ^ r))) C B Y x0 x1 y0 y1) H := hP
  have hD : va_D A (XW q d R T V (nI (kw &&& (255 ^^^ 2 ^ r))) C B Y x0 x1 y0 y1) := hD
  refine lv_iconst (v := nI 0) hx hb dX0_endRead_16 (by decide +kernel) ?_
  refine lv_istore_n (lv' := [(3, .int (nI 0)), (2, .int (nI (2 ^ r))), (0, .ref (q 0)), (1, .int (nI r))]) hx hb dX0_endRead_17 rfl hl (by decide) rfl (fun ls hl => ?_)
  exact lX_endRead X r (kw &&& (255 ^^^ 2 ^ r)) C B Y hr8 (ph_without_lt hkw) (ph_without_r hkw) (fun C' B' Y' hI H locs ls hP hD hS hl => xret_v X (C', B', Y') hP hD hS (ph_edk_end (ph_without_lt hkw) hI) dX0_endRead_50) 257 0 C B Y (by omega) (ph_edk_0 r _ C B Y) (by omega) _ _ _ hP hD hS (lv_sub hl [2, 3, 1, 0] rfl)
set_option maxHeartbeats 4000000 in
set_option maxRecDepth 100000 in
theorem lX_addSite {p : Program} {l : Launch} {e : Env} {s : State} {m : MethodId} {args : Array Value} {below : List Frame} {meth : Method} {c : Code} {dC : Nat → ClassId} {dI : Nat → Nat → Nat} {d : ClassId} {A : Nat → Prop} {Q : State → Prop} {q : Nat → Nat} (X : xC cX0_addSite 4 none RX0 p s m meth c args dC dI d A) (n st kw : Nat) (tr va : Nat → Nat) (C : Nat → Int32) {B Y : Nat → Int32} (fb : Bool) (hn : n ≤ 8) (hst : st < 8) (hkw : kw < 256) (hva : ∀ i, va i ≤ 1) (htr : ∀ i, tr i ≤ 9)
    (kk : ∀ (C' : Nat → Int32) (x0 x1 y0 y1 : Int32), ph_adk 256 kw (fun m => ph_st tr va n st m (kw.testBit) fb) C C' → ∀ (H : Heap) (locs : List Loc) (ls : Array Slot), va_P (dC, dI) cls2 (XW q d (nI n) (nF tr) (nF va) (nI kw) C' B Y x0 x1 y0 y1) H → va_D A (XW q d (nI n) (nF tr) (nF va) (nI kw) C' B Y x0 x1 y0 y1) → va_S A s.heap H locs → lv_has ls 4 [(0, .ref (q 0)), (1, .int (nI st)), (2, .int (nI fb.toNat)), (3, .int (nI 256))] → W p l e ({ frames := 3, cells := 0, slots := 0, locals := 71 } : Room) s m args below meth c H locs 0 0 Q (F0 m 57 ls [])) :
    ∀ (k : Nat) (j : Nat) (C' : Nat → Int32) (x0 x1 y0 y1 : Int32), j ≤ 256 → ph_adk j kw (fun m => ph_st tr va n st m (kw.testBit) fb) C C' → 256 < j + k → ∀ (H : Heap) (locs : List Loc) (ls : Array Slot), va_P (dC, dI) cls2 (XW q d (nI n) (nF tr) (nF va) (nI kw) C' B Y x0 x1 y0 y1) H → va_D A (XW q d (nI n) (nF tr) (nF va) (nI kw) C' B Y x0 x1 y0 y1) → va_S A s.heap H locs → lv_has ls 4 [(0, .ref (q 0)), (1, .int (nI st)), (2, .int (nI fb.toNat)), (3, .int (nI j))] → W p l e ({ frames := 3, cells := 0, slots := 0, locals := 71 } : Room) s m args below meth c H locs 0 0 Q (F0 m 2 ls []) := by
  obtain ⟨hx, hb, hr, hlocks, hml, hown, hts, hK, hA⟩ := id X
  intro k
  induction k with
  | zero =>
    intro j C' x0 x1 y0 y1 hj hI hk
    exact absurd hk (by omega)
  | succ k ih =>
    intro j C' x0 x1 y0 y1 hj hI hk H locs ls hP hD hS hl
    refine lv_iload_n hx hb dX0_addSite_2 rfl (lv_at hl 3 rfl) ?_
    refine lv_sipush (v := nI 256) hx hb dX0_addSite_3 (by decide +kernel) ?_
    refine xr_ge (tgt := 57) hx hb (by omega) (by omega) dX0_addSite_6 (by decide) (fun h => ?_) (fun h => ?_)
    · obtain rfl : j = 256 := by omega
      exact kk _ _ _ _ _ hI _ _ _ hP hD hS hl
    · refine lv_iload_n hx hb dX0_addSite_9 rfl (lv_at hl 3 rfl) ?_
      refine lv_aload_n hx hb dX0_addSite_10 rfl (lv_at hl 0 rfl) ?_
      refine va_get (D := (dC, dI)) (ci := 0) (v := .int (nI kw)) (C := RX0) (T := TX0) (N := 11) hx hb hts in_X0 hown hK hP 0 rfl rfl 3 (by decide) (hts _ q32) (fun _ h9 => h9) rfl dX0_addSite_11 ?_
      refine lv_iconst (v := (-1)) hx hb dX0_addSite_14 (by decide +kernel) ?_
      refine lv_ixor hx hb dX0_addSite_15 ?_
      refine lv_iand hx hb dX0_addSite_16 ?_
      refine lv_if_ne (tgt := 51) hx hb dX0_addSite_17 (by decide) (fun h2 => ?_) (fun h2 => ?_)
      · have h2 : ¬ ph_sub j kw := fun z => h2 ((ph_and0 (by omega) hkw).mpr z)
        refine lv_iinc (v := nI (j + 1)) (lv' := [(3, .int (nI (j + 1))), (0, .ref (q 0)), (1, .int (nI st)), (2, .int (nI fb.toNat))]) hx hb dX0_addSite_51 hl (k := 3) rfl (nI_1 _) (by decide) rfl (fun ls hl => ?_)
        refine lv_goto (tgt := 2) hx hb dX0_addSite_54 (by decide) ?_
        exact ih (j + 1) _ _ _ _ _ (by omega) (ph_adk_skip hI (Or.inl h2)) (by omega) _ _ _ hP hD hS (lv_sub hl [1, 2, 3, 0] rfl)
      · have h2 : ph_sub j kw := (ph_and0 (by omega) hkw).mp h2
        refine lv_aload_n hx hb dX0_addSite_20 rfl (lv_at hl 0 rfl) ?_
        refine va_get (D := (dC, dI)) (ci := 0) (v := .ref (q 3)) (C := RX0) (T := TX0) (N := 11) hx hb hts in_X0 hown hK hP 0 rfl rfl 4 (by decide) (hts _ q33) (fun _ h9 => h9) rfl dX0_addSite_21 ?_
        refine lv_iload_n hx hb dX0_addSite_24 rfl (lv_at hl 3 rfl) ?_
        refine xr_ld (v := C' j) hx hb hK hP 3 0 rfl rfl (by omega) (by decide) rfl dX0_addSite_25 ?_
        refine lv_ldc hx hb hown (hts _ q102) dX0_addSite_26 ?_
        refine xr_v (y := nI 1000000) (by decide +kernel) ?_
        refine lv_icmp_ge (tgt := 51) hx hb dX0_addSite_28 (by decide) (fun h3 => ?_) (fun h3 => ?_)
        · refine lv_iinc (v := nI (j + 1)) (lv' := [(3, .int (nI (j + 1))), (0, .ref (q 0)), (1, .int (nI st)), (2, .int (nI fb.toNat))]) hx hb dX0_addSite_51 hl (k := 3) rfl (nI_1 _) (by decide) rfl (fun ls hl => ?_)
          refine lv_goto (tgt := 2) hx hb dX0_addSite_54 (by decide) ?_
          exact ih (j + 1) _ _ _ _ _ (by omega) (ph_adk_skip hI (Or.inr (Int32.not_lt.mpr h3))) (by omega) _ _ _ hP hD hS (lv_sub hl [1, 2, 3, 0] rfl)
        · refine lv_aload_n hx hb dX0_addSite_31 rfl (lv_at hl 0 rfl) ?_
          refine va_get (D := (dC, dI)) (ci := 0) (v := .ref (q 3)) (C := RX0) (T := TX0) (N := 11) hx hb hts in_X0 hown hK hP 0 rfl rfl 4 (by decide) (hts _ q33) (fun _ h9 => h9) rfl dX0_addSite_32 ?_
          refine lv_iload_n hx hb dX0_addSite_35 rfl (lv_at hl 3 rfl) ?_
          refine lv_dup2_11 hx hb dX0_addSite_36 rfl rfl ?_
          refine xr_ld (v := C' j) hx hb hK hP 3 0 rfl rfl (by omega) (by decide) rfl dX0_addSite_37 ?_
          refine lv_aload_n hx hb dX0_addSite_38 rfl (lv_at hl 0 rfl) ?_
          refine lv_iload_n hx hb dX0_addSite_39 rfl (lv_at hl 1 rfl) ?_
          refine lv_iload_n hx hb dX0_addSite_40 rfl (lv_at hl 3 rfl) ?_
          refine lv_aload_n hx hb dX0_addSite_41 rfl (lv_at hl 0 rfl) ?_
          refine va_get (D := (dC, dI)) (ci := 0) (v := .int (nI kw)) (C := RX0) (T := TX0) (N := 11) hx hb hts in_X0 hown hK hP 0 rfl rfl 3 (by decide) (hts _ q32) (fun _ h9 => h9) rfl dX0_addSite_42 ?_
          refine lv_iload_n hx hb dX0_addSite_45 rfl (lv_at hl 2 rfl) ?_
          refine xcall_i (q0 := 0) (ci := 0) (As := [.int (nI st), .int (nI j), .int (nI kw), .int (nI fb.toNat)]) (rest := [.int (C' j), .int (nI j), .ref (q 3)]) X hP hD hS hl (mX_siteCost l dC dI d q _ n tr va _ C' B Y _ _ _ _ st j kw fb hn hst (by omega) hkw hva htr) (cwV 4 hts (lw_V q107 q109 qs5 q19 q110) rfl rfl rfl (by decide +kernel) ⟨Nat.le_of_ble_eq_true rfl, Nat.le_of_ble_eq_true rfl⟩) rfl rfl rfl rfl (Nat.le_of_ble_eq_true rfl) dX0_addSite_46 ⟨Nat.zero_le _, Nat.zero_le _⟩ (fun r u H locs hw hP hD hS => ?_)
          subst hw
          have hP : va_P (dC, dI) cls2 (XW q d (nI n) (nF tr) (nF va) (nI kw) C' B Y (nI (ph_w tr va n st j (kw.testBit) false 0)) (nI (ph_w tr va n st j (kw.testBit) false 1)) (nI (ph_w tr va n st j (kw.testBit) true 0)) (nI (ph_w tr va n st j (kw.testBit) true 1))) H := hP
          have hD : va_D A (XW q d (nI n) (nF tr) (nF va) (nI kw) C' B Y (nI (ph_w tr va n st j (kw.testBit) false 0)) (nI (ph_w tr va n st j (kw.testBit) false 1)) (nI (ph_w tr va n st j (kw.testBit) true 0)) (nI (ph_w tr va n st j (kw.testBit) true 1))) := hD
          refine lv_iadd hx hb dX0_addSite_49 ?_
          refine xr_st (g := upd C' j ((C' j) + (nI (ph_st tr va n st j (kw.testBit) fb)))) hx hb hK hP hD hS 3 0 rfl rfl (by omega) (by decide) (rfl) dX0_addSite_50 (fun H locs hP hD hS => ?_)
          have hP : va_P (dC, dI) cls2 (XW q d (nI n) (nF tr) (nF va) (nI kw) (upd C' j ((C' j) + (nI (ph_st tr va n st j (kw.testBit) fb)))) B Y (nI (ph_w tr va n st j (kw.testBit) false 0)) (nI (ph_w tr va n st j (kw.testBit) false 1)) (nI (ph_w tr va n st j (kw.testBit) true 0)) (nI (ph_w tr va n st j (kw.testBit) true 1))) H := hP
          have hD : va_D A (XW q d (nI n) (nF tr) (nF va) (nI kw) (upd C' j ((C' j) + (nI (ph_st tr va n st j (kw.testBit) fb)))) B Y (nI (ph_w tr va n st j (kw.testBit) false 0)) (nI (ph_w tr va n st j (kw.testBit) false 1)) (nI (ph_w tr va n st j (kw.testBit) true 0)) (nI (ph_w tr va n st j (kw.testBit) true 1))) := hD
          refine lv_iinc (v := nI (j + 1)) (lv' := [(3, .int (nI (j + 1))), (0, .ref (q 0)), (1, .int (nI st)), (2, .int (nI fb.toNat))]) hx hb dX0_addSite_51 hl (k := 3) rfl (nI_1 _) (by decide) rfl (fun ls hl => ?_)
          refine lv_goto (tgt := 2) hx hb dX0_addSite_54 (by decide) ?_
          exact ih (j + 1) _ _ _ _ _ (by omega) (ph_adk_put hI h2 (Int32.not_le.mp h3)) (by omega) _ _ _ hP hD hS (lv_sub hl [1, 2, 3, 0] rfl)
set_option maxHeartbeats 4000000 in
set_option maxRecDepth 100000 in
/-- addSite(site, forced) -/
theorem mX_addSite (l : Launch) (dC : Nat → ClassId) (dI : Nat → Nat → Nat) (d : ClassId) (q : Nat → Nat) (sz : Nat) (n : Nat) (tr va : Nat → Nat) (C B Y : Nat → Int32) (x0 x1 y0 y1 : Int32) (kw st : Nat) (fb : Bool) (hn : n ≤ 8) (hst : st < 8) (hkw : kw < 256) (hva : ∀ i, va i ≤ 1) (htr : ∀ i, tr i ≤ 9) : xMv l dC dI d sz yX0_addSite cX0_addSite 4 ({ frames := 3, cells := 0, slots := 0, locals := 71 } : Room) [.ref (q 0), .int (nI st), .int (nI fb.toNat)] (XW q d (nI n) (nF tr) (nF va) (nI kw) C B Y x0 x1 y0 y1) (fun (u : (Nat → Int32) × Int32 × Int32 × Int32 × Int32) => ∀ m, ph_sub m kw → u.1 m = if C m < nI 1000000 then C m + nI (ph_st tr va n st m (kw.testBit) fb) else C m) (fun u => XW q d (nI n) (nF tr) (nF va) (nI kw) u.1 B Y u.2.1 u.2.2.1 u.2.2.2.1 u.2.2.2.2) := by
  refine xM_v (by decide +kernel) (Nat.le_of_ble_eq_true rfl) ?_
  intro p e s m below meth c A ls X hP hD hS hl
  have X : xC cX0_addSite 4 none RX0 p s m meth c _ dC dI d A := X
  obtain ⟨hx, hb, hr, hlocks, hml, hown, hts, hK, hA⟩ := id X
  have hl : lv_has ls 4 [(0, .ref (q 0)), (1, .int (nI st)), (2, .int (nI fb.toNat))] := hl
  refine lv_iconst (v := nI 0) hx hb dX0_addSite_0 (by decide +kernel) ?_
  refine lv_istore_n (lv' := [(3, .int (nI 0)), (0, .ref (q 0)), (1, .int (nI st)), (2, .int (nI fb.toNat))]) hx hb dX0_addSite_1 rfl hl (by decide) rfl (fun ls hl => ?_)
  exact lX_addSite X n st kw tr va C fb hn hst hkw hva htr (fun C' x0 x1 y0 y1 hI H locs ls hP hD hS hl => xret_v X (C', x0, x1, y0, y1) hP hD hS (ph_adk_end hkw hI) dX0_addSite_57) 257 0 C x0 x1 y0 y1 (by omega) (ph_adk_0 kw _ C) (by omega) _ _ _ hP hD hS (lv_sub hl [1, 2, 3, 0] rfl)
end
section
/-! ReadPhaser: contracts (printed by gen_x0.py) -/
set_option maxHeartbeats 4000000 in
set_option maxRecDepth 100000 in
theorem lX_solve1 {p : Program} {l : Launch} {e : Env} {s : State} {m : MethodId} {args : Array Value} {below : List Frame} {meth : Method} {c : Code} {dC : Nat → ClassId} {dI : Nat → Nat → Nat} {d : ClassId} {A : Nat → Prop} {Q : State → Prop} {q : Nat → Nat} (X : xC cX0_solve 6 none RX0 p s m meth c args dC dI d A) (n kp : Nat) (tr va : Nat → Nat) (fb : Bool) {x0 x1 y0 y1 : Int32} (hn : n ≤ 8) (hkp : kp < 256) (hva : ∀ i, va i ≤ 1) (htr : ∀ i, tr i ≤ 9)
    (kk : ∀ (atw : Nat) (C B Y : Nat → Int32), atw < 256 → ph_J0 tr n kp n atw → ph_T (ph_F tr va n fb 0) 0 atw C B Y → ∀ (H : Heap) (locs : List Loc) (ls : Array Slot), va_P (dC, dI) cls2 (XW q d (nI n) (nF tr) (nF va) (nI atw) C B Y x0 x1 y0 y1) H → va_D A (XW q d (nI n) (nF tr) (nF va) (nI atw) C B Y x0 x1 y0 y1) → va_S A s.heap H locs → lv_has ls 6 [(0, .ref (q 0)), (1, .int (nI kp)), (2, .int (nI fb.toNat)), (3, .int (nI n))] → W p l e ({ frames := 4, cells := 0, slots := 0, locals := 94 } : Room) s m args below meth c H locs 0 0 Q (F0 m 70 ls [])) :
    ∀ (k : Nat) (r atw : Nat) (C B Y : Nat → Int32), r ≤ n → atw < 256 → ph_J0 tr n kp r atw → ph_T (ph_F tr va n fb 0) 0 atw C B Y → n < r + k → ∀ (H : Heap) (locs : List Loc) (ls : Array Slot), va_P (dC, dI) cls2 (XW q d (nI n) (nF tr) (nF va) (nI atw) C B Y x0 x1 y0 y1) H → va_D A (XW q d (nI n) (nF tr) (nF va) (nI atw) C B Y x0 x1 y0 y1) → va_S A s.heap H locs → lv_has ls 6 [(0, .ref (q 0)), (1, .int (nI kp)), (2, .int (nI fb.toNat)), (3, .int (nI r))] → W p l e ({ frames := 4, cells := 0, slots := 0, locals := 94 } : Room) s m args below meth c H locs 0 0 Q (F0 m 28 ls []) := by
  obtain ⟨hx, hb, hr, hlocks, hml, hown, hts, hK, hA⟩ := id X
  intro k
  induction k with
  | zero =>
    intro r atw C B Y hr0 ha8 hJ hT hk
    exact absurd hk (by omega)
  | succ k ih =>
    intro r atw C B Y hr0 ha8 hJ hT hk H locs ls hP hD hS hl
    refine lv_iload_n hx hb dX0_solve_28 rfl (lv_at hl 3 rfl) ?_
    refine lv_aload_n hx hb dX0_solve_29 rfl (lv_at hl 0 rfl) ?_
    refine va_get (D := (dC, dI)) (ci := 0) (v := .int (nI n)) (C := RX0) (T := TX0) (N := 11) hx hb hts in_X0 hown hK hP 0 rfl rfl 0 (by decide) (hts _ q29) (fun _ h9 => h9) rfl dX0_solve_30 ?_
    refine xr_ge (tgt := 70) hx hb (by omega) (by omega) dX0_solve_33 (by decide) (fun h => ?_) (fun h => ?_)
    · obtain rfl : r = n := by omega
      exact kk _ _ _ _ ha8 hJ hT _ _ _ hP hD hS hl
    · refine lv_aload_n hx hb dX0_solve_36 rfl (lv_at hl 0 rfl) ?_
      refine lv_iload_n hx hb dX0_solve_37 rfl (lv_at hl 3 rfl) ?_
      refine xcall_i (q0 := 0) (ci := 0) (As := [.int (nI r)]) (rest := []) X hP hD hS hl (mX_firstSite l dC dI d q _ _ tr _ _ _ _ _ _ _ _ _ r (by omega) htr) (cwV 1 hts (lw_V q94 q96 qs2 q19 q97) rfl rfl rfl (by decide +kernel) ⟨Nat.le_of_ble_eq_true rfl, Nat.le_of_ble_eq_true rfl⟩) rfl rfl rfl rfl (Nat.le_of_ble_eq_true rfl) dX0_solve_38 ⟨Nat.zero_le _, Nat.zero_le _⟩ (fun a u H locs hw hP hD hS => ?_)
      have hP : va_P (dC, dI) cls2 (XW q d (nI n) (nF tr) (nF va) (nI atw) C B Y x0 x1 y0 y1) H := hP
      have hD : va_D A (XW q d (nI n) (nF tr) (nF va) (nI atw) C B Y x0 x1 y0 y1) := hD
      obtain ⟨j, rfl, hj⟩ := hw
      have hj8 : j ≤ 8 := hj.1
      refine lv_istore (lv' := [(4, .int (nI j)), (0, .ref (q 0)), (1, .int (nI kp)), (2, .int (nI fb.toNat)), (3, .int (nI r))]) hx hb dX0_solve_41 hl (by decide) rfl (fun ls hl => ?_)
      refine lv_iload_n hx hb dX0_solve_43 rfl (lv_at hl 2 rfl) ?_
      refine lv_iload_n hx hb dX0_solve_44 rfl (lv_at hl 4 rfl) ?_
      refine lv_ishr hx hb dX0_solve_45 ?_
      refine lv_iconst (v := nI 1) hx hb dX0_solve_46 (by decide +kernel) ?_
      refine xr_bit hx hb (by omega) (by omega) dX0_solve_47 ?_
      refine lv_iconst (v := nI 1) hx hb dX0_solve_48 (by decide +kernel) ?_
      refine xr_beq1 (tgt := 59) hx hb dX0_solve_49 (by decide) (fun h2 => ?_) (fun h2 => ?_)
      · refine lv_aload_n hx hb dX0_solve_59 rfl (lv_at hl 1 rfl) ?_
        refine lv_iload_n hx hb dX0_solve_60 rfl (lv_at hl 4 rfl) ?_
        refine xcall_v (q0 := 0) (ci := 0) (As := [.int (nI r)]) (rest := []) X hP hD hS hl (mX_beginRead l dC dI d q _ _ _ _ C B Y _ _ _ _ atw r (by omega) ha8 (hJ.2 r (Nat.le_refl r))) (cwV 1 hts (lw_V q98 q100 qs3 q19 q101) rfl rfl rfl (by decide +kernel) ⟨Nat.le_of_ble_eq_true rfl, Nat.le_of_ble_eq_true rfl⟩) rfl rfl rfl rfl (Nat.le_of_ble_eq_true rfl) dX0_solve_61 ⟨Nat.zero_le _, Nat.zero_le _⟩ (fun u H locs hw hP hD hS => ?_)
        obtain ⟨C2, B2, Y2⟩ := u
        have hP : va_P (dC, dI) cls2 (XW q d (nI n) (nF tr) (nF va) (nI (atw ||| 2 ^ r)) C2 B2 Y2 x0 x1 y0 y1) H := hP
        have hD : va_D A (XW q d (nI n) (nF tr) (nF va) (nI (atw ||| 2 ^ r)) C2 B2 Y2 x0 x1 y0 y1) := hD
        have hw : ph_bg r atw C B Y C2 B2 Y2 := hw
        refine lv_iinc (v := nI (r + 1)) (lv' := [(3, .int (nI (r + 1))), (4, .int (nI j)), (0, .ref (q 0)), (1, .int (nI kp)), (2, .int (nI fb.toNat))]) hx hb dX0_solve_64 hl (k := 4) rfl (nI_1 _) (by decide) rfl (fun ls hl => ?_)
        refine lv_goto (tgt := 28) hx hb dX0_solve_67 (by decide) ?_
        exact ih (r + 1) _ _ _ _ (by omega) (ph_or_lt ha8 (by omega)) (ph_J0_begin hJ) (ph_I0_begin (by omega) ha8 hJ hT hw) (by omega) _ _ _ hP hD hS (lv_sub hl [2, 3, 4, 0] rfl)
      · refine lv_iload hx hb dX0_solve_52 (lv_at hl 0 rfl) ?_
        refine lv_bipush (v := nI 8) hx hb dX0_solve_54 (by decide +kernel) ?_
        refine xr_ne (tgt := 64) hx hb (by omega) (by omega) dX0_solve_56 (by decide) (fun h3 => ?_) (fun h3 => ?_)
        · refine lv_iinc (v := nI (r + 1)) (lv' := [(3, .int (nI (r + 1))), (4, .int (nI j)), (0, .ref (q 0)), (1, .int (nI kp)), (2, .int (nI fb.toNat))]) hx hb dX0_solve_64 hl (k := 4) rfl (nI_1 _) (by decide) rfl (fun ls hl => ?_)
          refine lv_goto (tgt := 28) hx hb dX0_solve_67 (by decide) ?_
          exact ih (r + 1) _ _ _ _ (by omega) ha8 (ph_J0_skip hJ h2 hj h3) hT (by omega) _ _ _ hP hD hS (lv_sub hl [2, 3, 4, 0] rfl)
        · refine lv_aload_n hx hb dX0_solve_59 rfl (lv_at hl 1 rfl) ?_
          refine lv_iload_n hx hb dX0_solve_60 rfl (lv_at hl 4 rfl) ?_
          refine xcall_v (q0 := 0) (ci := 0) (As := [.int (nI r)]) (rest := []) X hP hD hS hl (mX_beginRead l dC dI d q _ _ _ _ C B Y _ _ _ _ atw r (by omega) ha8 (hJ.2 r (Nat.le_refl r))) (cwV 1 hts (lw_V q98 q100 qs3 q19 q101) rfl rfl rfl (by decide +kernel) ⟨Nat.le_of_ble_eq_true rfl, Nat.le_of_ble_eq_true rfl⟩) rfl rfl rfl rfl (Nat.le_of_ble_eq_true rfl) dX0_solve_61 ⟨Nat.zero_le _, Nat.zero_le _⟩ (fun u H locs hw hP hD hS => ?_)
          obtain ⟨C2, B2, Y2⟩ := u
          have hP : va_P (dC, dI) cls2 (XW q d (nI n) (nF tr) (nF va) (nI (atw ||| 2 ^ r)) C2 B2 Y2 x0 x1 y0 y1) H := hP
          have hD : va_D A (XW q d (nI n) (nF tr) (nF va) (nI (atw ||| 2 ^ r)) C2 B2 Y2 x0 x1 y0 y1) := hD
          have hw : ph_bg r atw C B Y C2 B2 Y2 := hw
          refine lv_iinc (v := nI (r + 1)) (lv' := [(3, .int (nI (r + 1))), (4, .int (nI j)), (0, .ref (q 0)), (1, .int (nI kp)), (2, .int (nI fb.toNat))]) hx hb dX0_solve_64 hl (k := 4) rfl (nI_1 _) (by decide) rfl (fun ls hl => ?_)
          refine lv_goto (tgt := 28) hx hb dX0_solve_67 (by decide) ?_
          exact ih (r + 1) _ _ _ _ (by omega) (ph_or_lt ha8 (by omega)) (ph_J0_begin hJ) (ph_I0_begin (by omega) ha8 hJ hT hw) (by omega) _ _ _ hP hD hS (lv_sub hl [2, 3, 4, 0] rfl)
set_option maxHeartbeats 4000000 in
set_option maxRecDepth 100000 in
theorem lX_solve3 {p : Program} {l : Launch} {e : Env} {s : State} {m : MethodId} {args : Array Value} {below : List Frame} {meth : Method} {c : Code} {dC : Nat → ClassId} {dI : Nat → Nat → Nat} {d : ClassId} {A : Nat → Prop} {Q : State → Prop} {q : Nat → Nat} (X : xC cX0_solve 6 none RX0 p s m meth c args dC dI d A) (n kp : Nat) (tr va : Nat → Nat) (fb : Bool) (st : Nat) {x0 x1 y0 y1 : Int32} (hn : n ≤ 8) (hkp : kp < 256) (hva : ∀ i, va i ≤ 1) (htr : ∀ i, tr i ≤ 9) (hst : st < 8)
    (kk : ∀ (don atw : Nat) (C B Y : Nat → Int32), ph_I tr va n fb kp st (ph_st1 st n) (fun _ => st) don atw C B Y → ∀ (H : Heap) (locs : List Loc) (ls : Array Slot), va_P (dC, dI) cls2 (XW q d (nI n) (nF tr) (nF va) (nI atw) C B Y x0 x1 y0 y1) H → va_D A (XW q d (nI n) (nF tr) (nF va) (nI atw) C B Y x0 x1 y0 y1) → va_S A s.heap H locs → lv_has ls 6 [(0, .ref (q 0)), (1, .int (nI kp)), (2, .int (nI fb.toNat)), (3, .int (nI st)), (4, .int (nI n))] → W p l e ({ frames := 4, cells := 0, slots := 0, locals := 94 } : Room) s m args below meth c H locs 0 0 Q (F0 m 128 ls [])) :
    ∀ (k : Nat) (r don atw : Nat) (C B Y : Nat → Int32), r ≤ n → ph_I tr va n fb kp st (ph_st1 st r) (fun _ => st) don atw C B Y → n < r + k → ∀ (H : Heap) (locs : List Loc) (ls : Array Slot), va_P (dC, dI) cls2 (XW q d (nI n) (nF tr) (nF va) (nI atw) C B Y x0 x1 y0 y1) H → va_D A (XW q d (nI n) (nF tr) (nF va) (nI atw) C B Y x0 x1 y0 y1) → va_S A s.heap H locs → lv_has ls 6 [(0, .ref (q 0)), (1, .int (nI kp)), (2, .int (nI fb.toNat)), (3, .int (nI st)), (4, .int (nI r))] → W p l e ({ frames := 4, cells := 0, slots := 0, locals := 94 } : Room) s m args below meth c H locs 0 0 Q (F0 m 81 ls []) := by
  obtain ⟨hx, hb, hr, hlocks, hml, hown, hts, hK, hA⟩ := id X
  intro k
  induction k with
  | zero =>
    intro r don atw C B Y hr0 hI hk
    exact absurd hk (by omega)
  | succ k ih =>
    intro r don atw C B Y hr0 hI hk H locs ls hP hD hS hl
    have ha8 := (ph_J_lt hn hI.1).2
    refine lv_iload hx hb dX0_solve_81 (lv_at hl 4 rfl) ?_
    refine lv_aload_n hx hb dX0_solve_83 rfl (lv_at hl 0 rfl) ?_
    refine va_get (D := (dC, dI)) (ci := 0) (v := .int (nI n)) (C := RX0) (T := TX0) (N := 11) hx hb hts in_X0 hown hK hP 0 rfl rfl 0 (by decide) (hts _ q29) (fun _ h9 => h9) rfl dX0_solve_84 ?_
    refine xr_ge (tgt := 128) hx hb (by omega) (by omega) dX0_solve_87 (by decide) (fun h => ?_) (fun h => ?_)
    · obtain rfl : r = n := by omega
      exact kk _ _ _ _ _ hI _ _ _ hP hD hS hl
    · refine lv_aload_n hx hb dX0_solve_90 rfl (lv_at hl 0 rfl) ?_
      refine lv_iload hx hb dX0_solve_91 (lv_at hl 4 rfl) ?_
      refine xcall_i (q0 := 0) (ci := 0) (As := [.int (nI r)]) (rest := []) X hP hD hS hl (mX_firstSite l dC dI d q _ _ tr _ _ _ _ _ _ _ _ _ r (by omega) htr) (cwV 1 hts (lw_V q94 q96 qs2 q19 q97) rfl rfl rfl (by decide +kernel) ⟨Nat.le_of_ble_eq_true rfl, Nat.le_of_ble_eq_true rfl⟩) rfl rfl rfl rfl (Nat.le_of_ble_eq_true rfl) dX0_solve_93 ⟨Nat.zero_le _, Nat.zero_le _⟩ (fun a u H locs hw hP hD hS => ?_)
      have hP : va_P (dC, dI) cls2 (XW q d (nI n) (nF tr) (nF va) (nI atw) C B Y x0 x1 y0 y1) H := hP
      have hD : va_D A (XW q d (nI n) (nF tr) (nF va) (nI atw) C B Y x0 x1 y0 y1) := hD
      obtain ⟨j, rfl, hj⟩ := hw
      have hj8 : j ≤ 8 := hj.1
      refine lv_istore (lv' := [(5, .int (nI j)), (0, .ref (q 0)), (1, .int (nI kp)), (2, .int (nI fb.toNat)), (3, .int (nI st)), (4, .int (nI r))]) hx hb dX0_solve_96 hl (by decide) rfl (fun ls hl => ?_)
      refine lv_iload hx hb dX0_solve_98 (lv_at hl 0 rfl) ?_
      refine lv_iload_n hx hb dX0_solve_100 rfl (lv_at hl 4 rfl) ?_
      refine xr_ne (tgt := 122) hx hb (by omega) (by omega) dX0_solve_101 (by decide) (fun h2 => ?_) (fun h2 => ?_)
      · refine lv_iinc (v := nI (r + 1)) (lv' := [(4, .int (nI (r + 1))), (5, .int (nI j)), (0, .ref (q 0)), (1, .int (nI kp)), (2, .int (nI fb.toNat)), (3, .int (nI st))]) hx hb dX0_solve_122 hl (k := 5) rfl (nI_1 _) (by decide) rfl (fun ls hl => ?_)
        refine lv_goto (tgt := 81) hx hb dX0_solve_125 (by decide) ?_
        exact ih (r + 1) _ _ _ _ _ (by omega) (ph_I_noBegin hst hI hj (Or.inl h2)) (by omega) _ _ _ hP hD hS (lv_sub hl [2, 3, 4, 5, 0] rfl)
      · subst h2
        refine lv_aload_n hx hb dX0_solve_104 rfl (lv_at hl 1 rfl) ?_
        refine va_get (D := (dC, dI)) (ci := 0) (v := .int (nI atw)) (C := RX0) (T := TX0) (N := 11) hx hb hts in_X0 hown hK hP 0 rfl rfl 3 (by decide) (hts _ q32) (fun _ h9 => h9) rfl dX0_solve_105 ?_
        refine lv_iload hx hb dX0_solve_108 (lv_at hl 5 rfl) ?_
        refine lv_ishr hx hb dX0_solve_110 ?_
        refine lv_iconst (v := nI 1) hx hb dX0_solve_111 (by decide +kernel) ?_
        refine xr_bit hx hb (by omega) (by omega) dX0_solve_112 ?_
        refine xr_bifne (tgt := 122) hx hb dX0_solve_113 (by decide) (fun h3 => ?_) (fun h3 => ?_)
        · refine lv_iinc (v := nI (r + 1)) (lv' := [(4, .int (nI (r + 1))), (5, .int (nI j)), (0, .ref (q 0)), (1, .int (nI kp)), (2, .int (nI fb.toNat)), (3, .int (nI j))]) hx hb dX0_solve_122 hl (k := 5) rfl (nI_1 _) (by decide) rfl (fun ls hl => ?_)
          refine lv_goto (tgt := 81) hx hb dX0_solve_125 (by decide) ?_
          exact ih (r + 1) _ _ _ _ _ (by omega) (ph_I_noBegin hst hI hj (Or.inr h3)) (by omega) _ _ _ hP hD hS (lv_sub hl [2, 3, 4, 5, 0] rfl)
        · refine lv_aload_n hx hb dX0_solve_116 rfl (lv_at hl 1 rfl) ?_
          refine lv_iload hx hb dX0_solve_117 (lv_at hl 5 rfl) ?_
          refine xcall_v (q0 := 0) (ci := 0) (As := [.int (nI r)]) (rest := []) X hP hD hS hl (mX_beginRead l dC dI d q _ _ _ _ C B Y _ _ _ _ atw r (by omega) ha8 h3) (cwV 1 hts (lw_V q98 q100 qs3 q19 q101) rfl rfl rfl (by decide +kernel) ⟨Nat.le_of_ble_eq_true rfl, Nat.le_of_ble_eq_true rfl⟩) rfl rfl rfl rfl (Nat.le_of_ble_eq_true rfl) dX0_solve_119 ⟨Nat.zero_le _, Nat.zero_le _⟩ (fun u H locs hw hP hD hS => ?_)
          obtain ⟨C2, B2, Y2⟩ := u
          have hP : va_P (dC, dI) cls2 (XW q d (nI n) (nF tr) (nF va) (nI (atw ||| 2 ^ r)) C2 B2 Y2 x0 x1 y0 y1) H := hP
          have hD : va_D A (XW q d (nI n) (nF tr) (nF va) (nI (atw ||| 2 ^ r)) C2 B2 Y2 x0 x1 y0 y1) := hD
          have hw : ph_bg r atw C B Y C2 B2 Y2 := hw
          refine lv_iinc (v := nI (r + 1)) (lv' := [(4, .int (nI (r + 1))), (5, .int (nI j)), (0, .ref (q 0)), (1, .int (nI kp)), (2, .int (nI fb.toNat)), (3, .int (nI j))]) hx hb dX0_solve_122 hl (k := 5) rfl (nI_1 _) (by decide) rfl (fun ls hl => ?_)
          refine lv_goto (tgt := 81) hx hb dX0_solve_125 (by decide) ?_
          exact ih (r + 1) _ _ _ _ _ (by omega) (ph_I_begin hn (by omega) hst hI hj h3 hw) (by omega) _ _ _ hP hD hS (lv_sub hl [2, 3, 4, 5, 0] rfl)
set_option maxHeartbeats 4000000 in
set_option maxRecDepth 100000 in
theorem lX_solve4 {p : Program} {l : Launch} {e : Env} {s : State} {m : MethodId} {args : Array Value} {below : List Frame} {meth : Method} {c : Code} {dC : Nat → ClassId} {dI : Nat → Nat → Nat} {d : ClassId} {A : Nat → Prop} {Q : State → Prop} {q : Nat → Nat} (X : xC cX0_solve 6 none RX0 p s m meth c args dC dI d A) (n kp : Nat) (tr va : Nat → Nat) (fb : Bool) (st : Nat) {x0 x1 y0 y1 : Int32} (hn : n ≤ 8) (hkp : kp < 256) (hva : ∀ i, va i ≤ 1) (htr : ∀ i, tr i ≤ 9) (hst : st < 8)
    (kk : ∀ (don atw : Nat) (C B Y : Nat → Int32), ph_I tr va n fb kp (st + 1) (fun _ => st + 1) (ph_st1 st n) don atw C B Y → ∀ (H : Heap) (locs : List Loc) (ls : Array Slot), va_P (dC, dI) cls2 (XW q d (nI n) (nF tr) (nF va) (nI atw) C B Y x0 x1 y0 y1) H → va_D A (XW q d (nI n) (nF tr) (nF va) (nI atw) C B Y x0 x1 y0 y1) → va_S A s.heap H locs → lv_has ls 6 [(0, .ref (q 0)), (1, .int (nI kp)), (2, .int (nI fb.toNat)), (3, .int (nI st)), (4, .int (nI n))] → W p l e ({ frames := 4, cells := 0, slots := 0, locals := 94 } : Room) s m args below meth c H locs 0 0 Q (F0 m 181 ls [])) :
    ∀ (k : Nat) (r don atw : Nat) (C B Y : Nat → Int32), r ≤ n → ph_I tr va n fb kp (st + 1) (fun _ => st + 1) (ph_st1 st r) don atw C B Y → n < r + k → ∀ (H : Heap) (locs : List Loc) (ls : Array Slot), va_P (dC, dI) cls2 (XW q d (nI n) (nF tr) (nF va) (nI atw) C B Y x0 x1 y0 y1) H → va_D A (XW q d (nI n) (nF tr) (nF va) (nI atw) C B Y x0 x1 y0 y1) → va_S A s.heap H locs → lv_has ls 6 [(0, .ref (q 0)), (1, .int (nI kp)), (2, .int (nI fb.toNat)), (3, .int (nI st)), (4, .int (nI r))] → W p l e ({ frames := 4, cells := 0, slots := 0, locals := 94 } : Room) s m args below meth c H locs 0 0 Q (F0 m 137 ls []) := by
  obtain ⟨hx, hb, hr, hlocks, hml, hown, hts, hK, hA⟩ := id X
  intro k
  induction k with
  | zero =>
    intro r don atw C B Y hr0 hI hk
    exact absurd hk (by omega)
  | succ k ih =>
    intro r don atw C B Y hr0 hI hk H locs ls hP hD hS hl
    have ha8 := (ph_J_lt hn hI.1).2
    refine lv_iload hx hb dX0_solve_137 (lv_at hl 4 rfl) ?_
    refine lv_aload_n hx hb dX0_solve_139 rfl (lv_at hl 0 rfl) ?_
    refine va_get (D := (dC, dI)) (ci := 0) (v := .int (nI n)) (C := RX0) (T := TX0) (N := 11) hx hb hts in_X0 hown hK hP 0 rfl rfl 0 (by decide) (hts _ q29) (fun _ h9 => h9) rfl dX0_solve_140 ?_
    refine xr_ge (tgt := 181) hx hb (by omega) (by omega) dX0_solve_143 (by decide) (fun h => ?_) (fun h => ?_)
    · obtain rfl : r = n := by omega
      exact kk _ _ _ _ _ hI _ _ _ hP hD hS hl
    · refine lv_aload_n hx hb dX0_solve_146 rfl (lv_at hl 0 rfl) ?_
      refine lv_iload hx hb dX0_solve_147 (lv_at hl 4 rfl) ?_
      refine xcall_i (q0 := 0) (ci := 0) (As := [.int (nI r)]) (rest := []) X hP hD hS hl (mX_lastSite l dC dI d q _ _ tr _ _ _ _ _ _ _ _ _ r (by omega) htr) (cwV 1 hts (lw_V q122 q124 qs8 q19 q125) rfl rfl rfl (by decide +kernel) ⟨Nat.le_of_ble_eq_true rfl, Nat.le_of_ble_eq_true rfl⟩) rfl rfl rfl rfl (Nat.le_of_ble_eq_true rfl) dX0_solve_149 ⟨Nat.zero_le _, Nat.zero_le _⟩ (fun a u H locs hw hP hD hS => ?_)
      have hP : va_P (dC, dI) cls2 (XW q d (nI n) (nF tr) (nF va) (nI atw) C B Y x0 x1 y0 y1) H := hP
      have hD : va_D A (XW q d (nI n) (nF tr) (nF va) (nI atw) C B Y x0 x1 y0 y1) := hD
      obtain ⟨j, rfl, hj⟩ := hw
      have hj8 : j ≤ 8 := hj.1
      refine lv_istore (lv' := [(5, .int (nI j - 1)), (0, .ref (q 0)), (1, .int (nI kp)), (2, .int (nI fb.toNat)), (3, .int (nI st)), (4, .int (nI r))]) hx hb dX0_solve_152 hl (by decide) rfl (fun ls hl => ?_)
      refine lv_iload hx hb dX0_solve_154 (lv_at hl 0 rfl) ?_
      refine lv_iload_n hx hb dX0_solve_156 rfl (lv_at hl 4 rfl) ?_
      refine lv_icmp_ne (tgt := 175) hx hb dX0_solve_157 (by decide) (fun h2 => ?_) (fun h2 => ?_)
      · refine lv_iinc (v := nI (r + 1)) (lv' := [(4, .int (nI (r + 1))), (5, .int (nI j - 1)), (0, .ref (q 0)), (1, .int (nI kp)), (2, .int (nI fb.toNat)), (3, .int (nI st))]) hx hb dX0_solve_175 hl (k := 5) rfl (nI_1 _) (by decide) rfl (fun ls hl => ?_)
        refine lv_goto (tgt := 137) hx hb dX0_solve_178 (by decide) ?_
        exact ih (r + 1) _ _ _ _ _ (by omega) (ph_I_noEnd hI) (by omega) _ _ _ hP hD hS (lv_sub hl [2, 3, 4, 5, 0] rfl)
      · have h2 : j = st + 1 := ph_dec_eq j (by omega) st hst h2
        subst h2
        refine lv_iload_n hx hb dX0_solve_160 rfl (lv_at hl 2 rfl) ?_
        refine lv_iload hx hb dX0_solve_161 (lv_at hl 5 rfl) ?_
        refine lv_ishr hx hb dX0_solve_163 ?_
        refine lv_iconst (v := nI 1) hx hb dX0_solve_164 (by decide +kernel) ?_
        refine xr_bit hx hb (by omega) (by omega) dX0_solve_165 ?_
        refine xr_bifne (tgt := 175) hx hb dX0_solve_166 (by decide) (fun h3 => ?_) (fun h3 => ?_)
        · refine lv_iinc (v := nI (r + 1)) (lv' := [(4, .int (nI (r + 1))), (5, .int (nI (st + 1) - 1)), (0, .ref (q 0)), (1, .int (nI kp)), (2, .int (nI fb.toNat)), (3, .int (nI st))]) hx hb dX0_solve_175 hl (k := 5) rfl (nI_1 _) (by decide) rfl (fun ls hl => ?_)
          refine lv_goto (tgt := 137) hx hb dX0_solve_178 (by decide) ?_
          exact ih (r + 1) _ _ _ _ _ (by omega) (ph_I_noEnd hI) (by omega) _ _ _ hP hD hS (lv_sub hl [2, 3, 4, 5, 0] rfl)
        · refine lv_aload_n hx hb dX0_solve_169 rfl (lv_at hl 1 rfl) ?_
          refine lv_iload hx hb dX0_solve_170 (lv_at hl 5 rfl) ?_
          refine xcall_v (q0 := 0) (ci := 0) (As := [.int (nI r)]) (rest := []) X hP hD hS hl (mX_endRead l dC dI d q _ _ _ _ C B Y _ _ _ _ atw r (by omega) ha8) (cwV 1 hts (lw_V q126 q128 qs9 q19 q129) rfl rfl rfl (by decide +kernel) ⟨Nat.le_of_ble_eq_true rfl, Nat.le_of_ble_eq_true rfl⟩) rfl rfl rfl rfl (Nat.le_of_ble_eq_true rfl) dX0_solve_172 ⟨Nat.zero_le _, Nat.zero_le _⟩ (fun u H locs hw hP hD hS => ?_)
          obtain ⟨C2, B2, Y2⟩ := u
          have hP : va_P (dC, dI) cls2 (XW q d (nI n) (nF tr) (nF va) (nI (atw &&& (255 ^^^ 2 ^ r))) C2 B2 Y2 x0 x1 y0 y1) H := hP
          have hD : va_D A (XW q d (nI n) (nF tr) (nF va) (nI (atw &&& (255 ^^^ 2 ^ r))) C2 B2 Y2 x0 x1 y0 y1) := hD
          have hw : ph_ed r (atw &&& (255 ^^^ 2 ^ r)) C B Y C2 B2 Y2 := hw
          refine lv_iinc (v := nI (r + 1)) (lv' := [(4, .int (nI (r + 1))), (5, .int (nI (st + 1) - 1)), (0, .ref (q 0)), (1, .int (nI kp)), (2, .int (nI fb.toNat)), (3, .int (nI st))]) hx hb dX0_solve_175 hl (k := 5) rfl (nI_1 _) (by decide) rfl (fun ls hl => ?_)
          refine lv_goto (tgt := 137) hx hb dX0_solve_178 (by decide) ?_
          exact ih (r + 1) _ _ _ _ _ (by omega) ((ph_I_end hn htr (by omega) hst hI hj h3).2 hw) (by omega) _ _ _ hP hD hS (lv_sub hl [2, 3, 4, 5, 0] rfl)
set_option maxHeartbeats 4000000 in
set_option maxRecDepth 100000 in
theorem lX_solve2 {p : Program} {l : Launch} {e : Env} {s : State} {m : MethodId} {args : Array Value} {below : List Frame} {meth : Method} {c : Code} {dC : Nat → ClassId} {dI : Nat → Nat → Nat} {d : ClassId} {A : Nat → Prop} {Q : State → Prop} {q : Nat → Nat} (X : xC cX0_solve 6 none RX0 p s m meth c args dC dI d A) (n kp : Nat) (tr va : Nat → Nat) (fb : Bool) (hn : n ≤ 8) (hkp : kp < 256) (hva : ∀ i, va i ≤ 1) (htr : ∀ i, tr i ≤ 9)
    (kk : ∀ (don atw : Nat) (C B Y : Nat → Int32) (x0 x1 y0 y1 : Int32), ph_I tr va n fb kp 8 (ph_st1 8 0) (fun _ => 8) don atw C B Y → ∀ (H : Heap) (locs : List Loc) (ls : Array Slot), va_P (dC, dI) cls2 (XW q d (nI n) (nF tr) (nF va) (nI atw) C B Y x0 x1 y0 y1) H → va_D A (XW q d (nI n) (nF tr) (nF va) (nI atw) C B Y x0 x1 y0 y1) → va_S A s.heap H locs → lv_has ls 6 [(0, .ref (q 0)), (1, .int (nI kp)), (2, .int (nI fb.toNat)), (3, .int (nI 8))] → W p l e ({ frames := 4, cells := 0, slots := 0, locals := 94 } : Room) s m args below meth c H locs 0 0 Q (F0 m 187 ls [])) :
    ∀ (k : Nat) (st don atw : Nat) (C B Y : Nat → Int32) (x0 x1 y0 y1 : Int32), st ≤ 8 → ph_I tr va n fb kp st (ph_st1 st 0) (fun _ => st) don atw C B Y → 8 < st + k → ∀ (H : Heap) (locs : List Loc) (ls : Array Slot), va_P (dC, dI) cls2 (XW q d (nI n) (nF tr) (nF va) (nI atw) C B Y x0 x1 y0 y1) H → va_D A (XW q d (nI n) (nF tr) (nF va) (nI atw) C B Y x0 x1 y0 y1) → va_S A s.heap H locs → lv_has ls 6 [(0, .ref (q 0)), (1, .int (nI kp)), (2, .int (nI fb.toNat)), (3, .int (nI st))] → W p l e ({ frames := 4, cells := 0, slots := 0, locals := 94 } : Room) s m args below meth c H locs 0 0 Q (F0 m 72 ls []) := by
  obtain ⟨hx, hb, hr, hlocks, hml, hown, hts, hK, hA⟩ := id X
  intro k
  induction k with
  | zero =>
    intro st don atw C B Y x0 x1 y0 y1 hst hI hk
    exact absurd hk (by omega)
  | succ k ih =>
    intro st don atw C B Y x0 x1 y0 y1 hst hI hk H locs ls hP hD hS hl
    refine lv_iload_n hx hb dX0_solve_72 rfl (lv_at hl 3 rfl) ?_
    refine lv_bipush (v := nI 8) hx hb dX0_solve_73 (by decide +kernel) ?_
    refine xr_ge (tgt := 187) hx hb (by omega) (by omega) dX0_solve_75 (by decide) (fun h => ?_) (fun h => ?_)
    · obtain rfl : st = 8 := by omega
      exact kk _ _ _ _ _ _ _ _ _ hI _ _ _ hP hD hS hl
    · refine lv_iconst (v := nI 0) hx hb dX0_solve_78 (by decide +kernel) ?_
      refine lv_istore (lv' := [(4, .int (nI 0)), (0, .ref (q 0)), (1, .int (nI kp)), (2, .int (nI fb.toNat)), (3, .int (nI st))]) hx hb dX0_solve_79 hl (by decide) rfl (fun ls hl => ?_)
      exact lX_solve3 X n kp tr va fb st hn hkp hva htr (by omega) (fun don atw C B Y hI H locs ls hP hD hS hl => by
        have ha8 := (ph_J_lt hn hI.1).2
        refine lv_aload_n hx hb dX0_solve_128 rfl (lv_at hl 0 rfl) ?_
        refine lv_iload_n hx hb dX0_solve_129 rfl (lv_at hl 3 rfl) ?_
        refine lv_iload_n hx hb dX0_solve_130 rfl (lv_at hl 2 rfl) ?_
        refine xcall_v (q0 := 0) (ci := 0) (As := [.int (nI st), .int (nI fb.toNat)]) (rest := []) X hP hD hS hl (mX_addSite l dC dI d q _ n tr va C B Y _ _ _ _ atw st fb hn (by omega) ha8 hva htr) (cwV 2 hts (lw_V q103 q105 qs4 q19 q106) rfl rfl rfl (by decide +kernel) ⟨Nat.le_of_ble_eq_true rfl, Nat.le_of_ble_eq_true rfl⟩) rfl rfl rfl rfl (Nat.le_of_ble_eq_true rfl) dX0_solve_131 ⟨Nat.zero_le _, Nat.zero_le _⟩ (fun u H locs hw hP hD hS => ?_)
        obtain ⟨C2, x0, x1, y0, y1⟩ := u
        have hP : va_P (dC, dI) cls2 (XW q d (nI n) (nF tr) (nF va) (nI atw) C2 B Y x0 x1 y0 y1) H := hP
        have hD : va_D A (XW q d (nI n) (nF tr) (nF va) (nI atw) C2 B Y x0 x1 y0 y1) := hD
        have hw : ∀ m, ph_sub m atw → C2 m = if C m < nI 1000000 then C m + nI (ph_st tr va n st m (atw.testBit) fb) else C m := hw
        refine lv_iconst (v := nI 0) hx hb dX0_solve_134 (by decide +kernel) ?_
        refine lv_istore (lv' := [(4, .int (nI 0)), (0, .ref (q 0)), (1, .int (nI kp)), (2, .int (nI fb.toNat)), (3, .int (nI st))]) hx hb dX0_solve_135 hl (by decide) rfl (fun ls hl => ?_)
        exact lX_solve4 X n kp tr va fb st hn hkp hva htr (by omega) (fun don atw C B Y hI H locs ls hP hD hS hl => by
          refine lv_iinc (v := nI (st + 1)) (lv' := [(3, .int (nI (st + 1))), (0, .ref (q 0)), (1, .int (nI kp)), (2, .int (nI fb.toNat)), (4, .int (nI n))]) hx hb dX0_solve_181 hl (k := 3) rfl (nI_1 _) (by decide) rfl (fun ls hl => ?_)
          refine lv_goto (tgt := 72) hx hb dX0_solve_184 (by decide) ?_
          exact ih (st + 1) _ _ _ _ _ _ _ _ _ (by omega) (ph_I_next hI) (by omega) _ _ _ hP hD hS (lv_sub hl [1, 2, 3, 0] rfl)) (n + 1) 0 _ _ _ _ _ (by omega) (ph_I_add hn htr (by omega) hI hw) (by omega) _ _ _ hP hD hS (lv_sub hl [1, 2, 3, 4, 0] rfl)) (n + 1) 0 _ _ _ _ _ (by omega) hI (by omega) _ _ _ hP hD hS (lv_sub hl [1, 2, 3, 4, 0] rfl)
set_option maxHeartbeats 4000000 in
set_option maxRecDepth 100000 in
theorem lX_solve5 {p : Program} {l : Launch} {e : Env} {s : State} {m : MethodId} {args : Array Value} {below : List Frame} {meth : Method} {c : Code} {dC : Nat → ClassId} {dI : Nat → Nat → Nat} {d : ClassId} {A : Nat → Prop} {Q : State → Prop} {q : Nat → Nat} (X : xC cX0_solve 6 none RX0 p s m meth c args dC dI d A) (n kp : Nat) (tr va : Nat → Nat) (fb : Bool) {x0 x1 y0 y1 : Int32} (hn : n ≤ 8) (hkp : kp < 256) (hva : ∀ i, va i ≤ 1) (htr : ∀ i, tr i ≤ 9)
    (kk : ∀ (don atw : Nat) (C B Y : Nat → Int32), ph_K9 tr va n fb kp n don atw C B Y → ∀ (H : Heap) (locs : List Loc) (ls : Array Slot), va_P (dC, dI) cls2 (XW q d (nI n) (nF tr) (nF va) (nI atw) C B Y x0 x1 y0 y1) H → va_D A (XW q d (nI n) (nF tr) (nF va) (nI atw) C B Y x0 x1 y0 y1) → va_S A s.heap H locs → lv_has ls 6 [(0, .ref (q 0)), (1, .int (nI kp)), (2, .int (nI fb.toNat)), (3, .int (nI n))] → W p l e ({ frames := 4, cells := 0, slots := 0, locals := 94 } : Room) s m args below meth c H locs 0 0 Q (F0 m 228 ls [])) :
    ∀ (k : Nat) (r don atw : Nat) (C B Y : Nat → Int32), r ≤ n → ph_K9 tr va n fb kp r don atw C B Y → n < r + k → ∀ (H : Heap) (locs : List Loc) (ls : Array Slot), va_P (dC, dI) cls2 (XW q d (nI n) (nF tr) (nF va) (nI atw) C B Y x0 x1 y0 y1) H → va_D A (XW q d (nI n) (nF tr) (nF va) (nI atw) C B Y x0 x1 y0 y1) → va_S A s.heap H locs → lv_has ls 6 [(0, .ref (q 0)), (1, .int (nI kp)), (2, .int (nI fb.toNat)), (3, .int (nI r))] → W p l e ({ frames := 4, cells := 0, slots := 0, locals := 94 } : Room) s m args below meth c H locs 0 0 Q (F0 m 189 ls []) := by
  obtain ⟨hx, hb, hr, hlocks, hml, hown, hts, hK, hA⟩ := id X
  intro k
  induction k with
  | zero =>
    intro r don atw C B Y hr0 hI hk
    exact absurd hk (by omega)
  | succ k ih =>
    intro r don atw C B Y hr0 hI hk H locs ls hP hD hS hl
    have ha8 := (ph_K9_lt hn hI).2
    refine lv_iload_n hx hb dX0_solve_189 rfl (lv_at hl 3 rfl) ?_
    refine lv_aload_n hx hb dX0_solve_190 rfl (lv_at hl 0 rfl) ?_
    refine va_get (D := (dC, dI)) (ci := 0) (v := .int (nI n)) (C := RX0) (T := TX0) (N := 11) hx hb hts in_X0 hown hK hP 0 rfl rfl 0 (by decide) (hts _ q29) (fun _ h9 => h9) rfl dX0_solve_191 ?_
    refine xr_ge (tgt := 228) hx hb (by omega) (by omega) dX0_solve_194 (by decide) (fun h => ?_) (fun h => ?_)
    · obtain rfl : r = n := by omega
      exact kk _ _ _ _ _ hI _ _ _ hP hD hS hl
    · refine lv_iload_n hx hb dX0_solve_197 rfl (lv_at hl 1 rfl) ?_
      refine lv_iload_n hx hb dX0_solve_198 rfl (lv_at hl 3 rfl) ?_
      refine lv_ishr hx hb dX0_solve_199 ?_
      refine lv_iconst (v := nI 1) hx hb dX0_solve_200 (by decide +kernel) ?_
      refine xr_bit hx hb (by omega) (by omega) dX0_solve_201 ?_
      refine xr_bifne (tgt := 222) hx hb dX0_solve_202 (by decide) (fun h2 => ?_) (fun h2 => ?_)
      · refine lv_iinc (v := nI (r + 1)) (lv' := [(3, .int (nI (r + 1))), (0, .ref (q 0)), (1, .int (nI kp)), (2, .int (nI fb.toNat))]) hx hb dX0_solve_222 hl (k := 3) rfl (nI_1 _) (by decide) rfl (fun ls hl => ?_)
        refine lv_goto (tgt := 189) hx hb dX0_solve_225 (by decide) ?_
        exact ih (r + 1) _ _ _ _ _ (by omega) (ph_K9_noEnd hI (Or.inl h2)) (by omega) _ _ _ hP hD hS (lv_sub hl [1, 2, 3, 0] rfl)
      · refine lv_aload_n hx hb dX0_solve_205 rfl (lv_at hl 0 rfl) ?_
        refine va_get (D := (dC, dI)) (ci := 0) (v := .int (nI atw)) (C := RX0) (T := TX0) (N := 11) hx hb hts in_X0 hown hK hP 0 rfl rfl 3 (by decide) (hts _ q32) (fun _ h9 => h9) rfl dX0_solve_206 ?_
        refine lv_iload_n hx hb dX0_solve_209 rfl (lv_at hl 3 rfl) ?_
        refine lv_ishr hx hb dX0_solve_210 ?_
        refine lv_iconst (v := nI 1) hx hb dX0_solve_211 (by decide +kernel) ?_
        refine xr_bit hx hb (by omega) (by omega) dX0_solve_212 ?_
        refine lv_iconst (v := nI 1) hx hb dX0_solve_213 (by decide +kernel) ?_
        refine xr_bne1 (tgt := 222) hx hb dX0_solve_214 (by decide) (fun h3 => ?_) (fun h3 => ?_)
        · refine lv_iinc (v := nI (r + 1)) (lv' := [(3, .int (nI (r + 1))), (0, .ref (q 0)), (1, .int (nI kp)), (2, .int (nI fb.toNat))]) hx hb dX0_solve_222 hl (k := 3) rfl (nI_1 _) (by decide) rfl (fun ls hl => ?_)
          refine lv_goto (tgt := 189) hx hb dX0_solve_225 (by decide) ?_
          exact ih (r + 1) _ _ _ _ _ (by omega) (ph_K9_noEnd hI (Or.inr h3)) (by omega) _ _ _ hP hD hS (lv_sub hl [1, 2, 3, 0] rfl)
        · refine lv_aload_n hx hb dX0_solve_217 rfl (lv_at hl 0 rfl) ?_
          refine lv_iload_n hx hb dX0_solve_218 rfl (lv_at hl 3 rfl) ?_
          refine xcall_v (q0 := 0) (ci := 0) (As := [.int (nI r)]) (rest := []) X hP hD hS hl (mX_endRead l dC dI d q _ _ _ _ C B Y _ _ _ _ atw r (by omega) ha8) (cwV 1 hts (lw_V q126 q128 qs9 q19 q129) rfl rfl rfl (by decide +kernel) ⟨Nat.le_of_ble_eq_true rfl, Nat.le_of_ble_eq_true rfl⟩) rfl rfl rfl rfl (Nat.le_of_ble_eq_true rfl) dX0_solve_219 ⟨Nat.zero_le _, Nat.zero_le _⟩ (fun u H locs hw hP hD hS => ?_)
          obtain ⟨C2, B2, Y2⟩ := u
          have hP : va_P (dC, dI) cls2 (XW q d (nI n) (nF tr) (nF va) (nI (atw &&& (255 ^^^ 2 ^ r))) C2 B2 Y2 x0 x1 y0 y1) H := hP
          have hD : va_D A (XW q d (nI n) (nF tr) (nF va) (nI (atw &&& (255 ^^^ 2 ^ r))) C2 B2 Y2 x0 x1 y0 y1) := hD
          have hw : ph_ed r (atw &&& (255 ^^^ 2 ^ r)) C B Y C2 B2 Y2 := hw
          refine lv_iinc (v := nI (r + 1)) (lv' := [(3, .int (nI (r + 1))), (0, .ref (q 0)), (1, .int (nI kp)), (2, .int (nI fb.toNat))]) hx hb dX0_solve_222 hl (k := 3) rfl (nI_1 _) (by decide) rfl (fun ls hl => ?_)
          refine lv_goto (tgt := 189) hx hb dX0_solve_225 (by decide) ?_
          exact ih (r + 1) _ _ _ _ _ (by omega) (ph_K9_end hn htr (by omega) hI h2 h3 hw) (by omega) _ _ _ hP hD hS (lv_sub hl [1, 2, 3, 0] rfl)
set_option maxHeartbeats 4000000 in
set_option maxRecDepth 100000 in
/-- solve(kept, forced) -/
theorem mX_solve (l : Launch) (dC : Nat → ClassId) (dI : Nat → Nat → Nat) (d : ClassId) (q : Nat → Nat) (sz : Nat) (n : Nat) (tr va : Nat → Nat) (K : Int32) (C B Y : Nat → Int32) (x0 x1 y0 y1 : Int32) (kp : Nat) (fb : Bool) (hn : n ≤ 8) (hkp : kp < 256) (hva : ∀ i, va i ≤ 1) (htr : ∀ i, tr i ≤ 9) (hkn : ∀ i, n ≤ i → kp.testBit i = false) : xMv l dC dI d sz yX0_solve cX0_solve 6 ({ frames := 4, cells := 0, slots := 0, locals := 94 } : Room) [.ref (q 0), .int (nI kp), .int (nI fb.toNat)] (XW q d (nI n) (nF tr) (nF va) K C B Y x0 x1 y0 y1) (fun (u : (Nat → Int32) × (Nat → Int32) × (Nat → Int32) × Int32 × Int32 × Int32 × Int32) => ph_Z tr va n fb kp u.1 u.2.1 u.2.2.1) (fun u => XW q d (nI n) (nF tr) (nF va) (nI kp) u.1 u.2.1 u.2.2.1 u.2.2.2.1 u.2.2.2.2.1 u.2.2.2.2.2.1 u.2.2.2.2.2.2) := by
  refine xM_v (by decide +kernel) (Nat.le_of_ble_eq_true rfl) ?_
  intro p e s m below meth c A ls X hP hD hS hl
  have X : xC cX0_solve 6 none RX0 p s m meth c _ dC dI d A := X
  obtain ⟨hx, hb, hr, hlocks, hml, hown, hts, hK, hA⟩ := id X
  have hl : lv_has ls 6 [(0, .ref (q 0)), (1, .int (nI kp)), (2, .int (nI fb.toNat))] := hl
  refine lv_aload_n hx hb dX0_solve_0 rfl (lv_at hl 0 rfl) ?_
  refine lv_iconst (v := nI 0) hx hb dX0_solve_1 (by decide +kernel) ?_
  refine va_put (D := (dC, dI)) (ci := 0) (v := .int (nI 0)) (ty := .int) (C := RX0) (T := TX0) (N := 11) hx hb hts in_X0 tyX0 tyX0_ok nmX0 hown hK hP hD hS 0 rfl rfl 3 (by decide) (hts _ q32) (fun _ h9 => h9) rfl (by decide +kernel) rfl rfl (Nat.le_of_ble_eq_true rfl) dX0_solve_2 (fun H locs hP hD hS => ?_)
  have hP : va_P (dC, dI) cls2 (XW q d (nI n) (nF tr) (nF va) (nI 0) C B Y x0 x1 y0 y1) H := hP
  have hD : va_D A (XW q d (nI n) (nF tr) (nF va) (nI 0) C B Y x0 x1 y0 y1) := hD
  refine lv_aload_n hx hb dX0_solve_5 rfl (lv_at hl 0 rfl) ?_
  refine va_get (D := (dC, dI)) (ci := 0) (v := .ref (q 3)) (C := RX0) (T := TX0) (N := 11) hx hb hts in_X0 hown hK hP 0 rfl rfl 4 (by decide) (hts _ q33) (fun _ h9 => h9) rfl dX0_solve_6 ?_
  refine lv_iconst (v := nI 0) hx hb dX0_solve_9 (by decide +kernel) ?_
  refine lv_iconst (v := nI 0) hx hb dX0_solve_10 (by decide +kernel) ?_
  refine xr_st (g := upd C 0 (nI 0)) hx hb hK hP hD hS 3 0 rfl rfl (by omega) (by decide) (rfl) dX0_solve_11 (fun H locs hP hD hS => ?_)
  have hP : va_P (dC, dI) cls2 (XW q d (nI n) (nF tr) (nF va) (nI 0) (upd C 0 (nI 0)) B Y x0 x1 y0 y1) H := hP
  have hD : va_D A (XW q d (nI n) (nF tr) (nF va) (nI 0) (upd C 0 (nI 0)) B Y x0 x1 y0 y1) := hD
  refine lv_aload_n hx hb dX0_solve_12 rfl (lv_at hl 0 rfl) ?_
  refine va_get (D := (dC, dI)) (ci := 0) (v := .ref (q 4)) (C := RX0) (T := TX0) (N := 11) hx hb hts in_X0 hown hK hP 0 rfl rfl 5 (by decide) (hts _ q34) (fun _ h9 => h9) rfl dX0_solve_13 ?_
  refine lv_iconst (v := nI 0) hx hb dX0_solve_16 (by decide +kernel) ?_
  refine lv_iconst (v := nI 0) hx hb dX0_solve_17 (by decide +kernel) ?_
  refine xr_st (g := upd B 0 (nI 0)) hx hb hK hP hD hS 4 0 rfl rfl (by omega) (by decide) (rfl) dX0_solve_18 (fun H locs hP hD hS => ?_)
  have hP : va_P (dC, dI) cls2 (XW q d (nI n) (nF tr) (nF va) (nI 0) (upd C 0 (nI 0)) (upd B 0 (nI 0)) Y x0 x1 y0 y1) H := hP
  have hD : va_D A (XW q d (nI n) (nF tr) (nF va) (nI 0) (upd C 0 (nI 0)) (upd B 0 (nI 0)) Y x0 x1 y0 y1) := hD
  refine lv_aload_n hx hb dX0_solve_19 rfl (lv_at hl 0 rfl) ?_
  refine va_get (D := (dC, dI)) (ci := 0) (v := .ref (q 5)) (C := RX0) (T := TX0) (N := 11) hx hb hts in_X0 hown hK hP 0 rfl rfl 6 (by decide) (hts _ q35) (fun _ h9 => h9) rfl dX0_solve_20 ?_
  refine lv_iconst (v := nI 0) hx hb dX0_solve_23 (by decide +kernel) ?_
  refine lv_iconst (v := nI 1) hx hb dX0_solve_24 (by decide +kernel) ?_
  refine xr_st (g := upd Y 0 (nI 1)) hx hb hK hP hD hS 5 0 rfl rfl (by omega) (by decide) (rfl) dX0_solve_25 (fun H locs hP hD hS => ?_)
  have hP : va_P (dC, dI) cls2 (XW q d (nI n) (nF tr) (nF va) (nI 0) (upd C 0 (nI 0)) (upd B 0 (nI 0)) (upd Y 0 (nI 1)) x0 x1 y0 y1) H := hP
  have hD : va_D A (XW q d (nI n) (nF tr) (nF va) (nI 0) (upd C 0 (nI 0)) (upd B 0 (nI 0)) (upd Y 0 (nI 1)) x0 x1 y0 y1) := hD
  refine lv_iconst (v := nI 0) hx hb dX0_solve_26 (by decide +kernel) ?_
  refine lv_istore_n (lv' := [(3, .int (nI 0)), (0, .ref (q 0)), (1, .int (nI kp)), (2, .int (nI fb.toNat))]) hx hb dX0_solve_27 rfl hl (by decide) rfl (fun ls hl => ?_)
  exact lX_solve1 X n kp tr va fb hn hkp hva htr (fun atw C B Y ha8 hJ hT H locs ls hP hD hS hl => by
      refine lv_iconst (v := nI 0) hx hb dX0_solve_70 (by decide +kernel) ?_
      refine lv_istore_n (lv' := [(3, .int (nI 0)), (0, .ref (q 0)), (1, .int (nI kp)), (2, .int (nI fb.toNat))]) hx hb dX0_solve_71 rfl hl (by decide) rfl (fun ls hl => ?_)
      exact lX_solve2 X n kp tr va fb hn hkp hva htr (fun don atw C B Y x0 x1 y0 y1 hI H locs ls hP hD hS hl => by
        refine lv_iconst (v := nI 0) hx hb dX0_solve_187 (by decide +kernel) ?_
        refine lv_istore_n (lv' := [(3, .int (nI 0)), (0, .ref (q 0)), (1, .int (nI kp)), (2, .int (nI fb.toNat))]) hx hb dX0_solve_188 rfl hl (by decide) rfl (fun ls hl => ?_)
        exact lX_solve5 X n kp tr va fb hn hkp hva htr (fun don atw C B Y hI H locs ls hP hD hS hl => by
          obtain rfl := ph_K9_kp hkn hI
          exact xret_v X (C, B, Y, x0, x1, y0, y1) hP hD hS (ph_K9_Z hkn hI) dX0_solve_228) (n + 1) 0 _ _ _ _ _ (by omega) (ph_K9_0 hI (fun r hr => by unfold ph_st1; rw [if_neg (Nat.not_lt_zero r)])) (by omega) _ _ _ hP hD hS (lv_sub hl [1, 2, 3, 0] rfl)) 9 0 0 atw C B Y _ _ _ _ (by omega) (ph_I_0 hJ hT) (by omega) _ _ _ hP hD hS (lv_sub hl [1, 2, 3, 0] rfl)) (n + 1) 0 0 _ _ _ (by omega) (by decide) ⟨fun r h => absurd h (Nat.not_lt_zero r), fun r _ => Nat.zero_testBit r⟩ (ph_T_init (fun _ => rfl) ph_upd_eq ph_upd_eq ph_upd_eq) (by omega) _ _ _ hP hD hS (lv_sub hl [1, 2, 3, 0] rfl)
end
section
/-! ReadPhaser: contracts (printed by gen_x0.py) -/
set_option maxHeartbeats 4000000 in
set_option maxRecDepth 100000 in
/-- least() -/
theorem mX_least (l : Launch) (dC : Nat → ClassId) (dI : Nat → Nat → Nat) (d : ClassId) (q : Nat → Nat) (sz : Nat) (n : Nat) (tr va : Nat → Nat) (K : Int32) (C B Y : Nat → Int32) (x0 x1 y0 y1 : Int32) (hn : n ≤ 8) (hva : ∀ i, va i ≤ 1) (htr : ∀ i, tr i ≤ 9) : xMi l dC dI d sz yX0_least cX0_least 1 (some .int) ({ frames := 5, cells := 0, slots := 0, locals := 119 } : Room) [.ref (q 0)] (XW q d (nI n) (nF tr) (nF va) K C B Y x0 x1 y0 y1) (fun r (_ : (Nat → Int32) × (Nat → Int32) × (Nat → Int32) × Int32 × Int32 × Int32 × Int32) => r = nI (ph_ls tr va n false)) (fun u => XW q d (nI n) (nF tr) (nF va) (nI 0) u.1 u.2.1 u.2.2.1 u.2.2.2.1 u.2.2.2.2.1 u.2.2.2.2.2.1 u.2.2.2.2.2.2) := by
  refine xM_i (by decide +kernel) (Nat.le_of_ble_eq_true rfl) ?_
  intro p e s m below meth c A ls X hP hD hS hl
  have X : xC cX0_least 1 (some .int) RX0 p s m meth c _ dC dI d A := X
  obtain ⟨hx, hb, hr, hlocks, hml, hown, hts, hK, hA⟩ := id X
  have hl : lv_has ls 1 [(0, .ref (q 0))] := hl
  refine lv_aload_n hx hb dX0_least_0 rfl (lv_at hl 0 rfl) ?_
  refine lv_iconst (v := nI 0) hx hb dX0_least_1 (by decide +kernel) ?_
  refine lv_iconst (v := nI 0) hx hb dX0_least_2 (by decide +kernel) ?_
  refine xcall_v (q0 := 0) (ci := 0) (As := [.int (nI 0), .int (nI false.toNat)]) (rest := []) X hP hD hS hl (mX_solve l dC dI d q _ n tr va _ _ _ _ _ _ _ _ 0 false hn (by decide) hva htr (fun i _ => Nat.zero_testBit i)) (cwV 2 hts (lw_V q90 q92 qs1 q19 q93) rfl rfl rfl (by decide +kernel) ⟨Nat.le_of_ble_eq_true rfl, Nat.le_of_ble_eq_true rfl⟩) rfl rfl rfl rfl (Nat.le_of_ble_eq_true rfl) dX0_least_3 ⟨Nat.zero_le _, Nat.zero_le _⟩ (fun u H locs hw hP hD hS => ?_)
  obtain ⟨C2, B2, Y2, x20, x21, y20, y21⟩ := u
  have hP : va_P (dC, dI) cls2 (XW q d (nI n) (nF tr) (nF va) (nI 0) C2 B2 Y2 x20 x21 y20 y21) H := hP
  have hD : va_D A (XW q d (nI n) (nF tr) (nF va) (nI 0) C2 B2 Y2 x20 x21 y20 y21) := hD
  have hw : ph_Z tr va n false 0 C2 B2 Y2 := hw
  refine lv_aload_n hx hb dX0_least_6 rfl (lv_at hl 0 rfl) ?_
  refine va_get (D := (dC, dI)) (ci := 0) (v := .ref (q 3)) (C := RX0) (T := TX0) (N := 11) hx hb hts in_X0 hown hK hP 0 rfl rfl 4 (by decide) (hts _ q33) (fun _ h9 => h9) rfl dX0_least_7 ?_
  refine lv_iconst (v := nI 0) hx hb dX0_least_10 (by decide +kernel) ?_
  refine xr_ld (v := C2 0) hx hb hK hP 3 0 rfl rfl (by omega) (by decide) rfl dX0_least_11 ?_
  exact xret_i X (C2, B2, Y2, x20, x21, y20, y21) hP hD hS ((ph_Z_get hn htr hw).1) dX0_least_12
set_option maxHeartbeats 4000000 in
set_option maxRecDepth 100000 in
/-- sorting() -/
theorem mX_sorting (l : Launch) (dC : Nat → ClassId) (dI : Nat → Nat → Nat) (d : ClassId) (q : Nat → Nat) (sz : Nat) (n : Nat) (tr va : Nat → Nat) (K : Int32) (C B Y : Nat → Int32) (x0 x1 y0 y1 : Int32) (hn : n ≤ 8) (hva : ∀ i, va i ≤ 1) (htr : ∀ i, tr i ≤ 9) : xMi l dC dI d sz yX0_sorting cX0_sorting 1 (some .int) ({ frames := 5, cells := 0, slots := 0, locals := 119 } : Room) [.ref (q 0)] (XW q d (nI n) (nF tr) (nF va) K C B Y x0 x1 y0 y1) (fun r (_ : (Nat → Int32) × (Nat → Int32) × (Nat → Int32) × Int32 × Int32 × Int32 × Int32) => r = nI (ph_sr tr va n false)) (fun u => XW q d (nI n) (nF tr) (nF va) (nI 0) u.1 u.2.1 u.2.2.1 u.2.2.2.1 u.2.2.2.2.1 u.2.2.2.2.2.1 u.2.2.2.2.2.2) := by
  refine xM_i (by decide +kernel) (Nat.le_of_ble_eq_true rfl) ?_
  intro p e s m below meth c A ls X hP hD hS hl
  have X : xC cX0_sorting 1 (some .int) RX0 p s m meth c _ dC dI d A := X
  obtain ⟨hx, hb, hr, hlocks, hml, hown, hts, hK, hA⟩ := id X
  have hl : lv_has ls 1 [(0, .ref (q 0))] := hl
  refine lv_aload_n hx hb dX0_sorting_0 rfl (lv_at hl 0 rfl) ?_
  refine lv_iconst (v := nI 0) hx hb dX0_sorting_1 (by decide +kernel) ?_
  refine lv_iconst (v := nI 0) hx hb dX0_sorting_2 (by decide +kernel) ?_
  refine xcall_v (q0 := 0) (ci := 0) (As := [.int (nI 0), .int (nI false.toNat)]) (rest := []) X hP hD hS hl (mX_solve l dC dI d q _ n tr va _ _ _ _ _ _ _ _ 0 false hn (by decide) hva htr (fun i _ => Nat.zero_testBit i)) (cwV 2 hts (lw_V q90 q92 qs1 q19 q93) rfl rfl rfl (by decide +kernel) ⟨Nat.le_of_ble_eq_true rfl, Nat.le_of_ble_eq_true rfl⟩) rfl rfl rfl rfl (Nat.le_of_ble_eq_true rfl) dX0_sorting_3 ⟨Nat.zero_le _, Nat.zero_le _⟩ (fun u H locs hw hP hD hS => ?_)
  obtain ⟨C2, B2, Y2, x20, x21, y20, y21⟩ := u
  have hP : va_P (dC, dI) cls2 (XW q d (nI n) (nF tr) (nF va) (nI 0) C2 B2 Y2 x20 x21 y20 y21) H := hP
  have hD : va_D A (XW q d (nI n) (nF tr) (nF va) (nI 0) C2 B2 Y2 x20 x21 y20 y21) := hD
  have hw : ph_Z tr va n false 0 C2 B2 Y2 := hw
  refine lv_aload_n hx hb dX0_sorting_6 rfl (lv_at hl 0 rfl) ?_
  refine va_get (D := (dC, dI)) (ci := 0) (v := .ref (q 4)) (C := RX0) (T := TX0) (N := 11) hx hb hts in_X0 hown hK hP 0 rfl rfl 5 (by decide) (hts _ q34) (fun _ h9 => h9) rfl dX0_sorting_7 ?_
  refine lv_iconst (v := nI 0) hx hb dX0_sorting_10 (by decide +kernel) ?_
  refine xr_ld (v := B2 0) hx hb hK hP 4 0 rfl rfl (by omega) (by decide) rfl dX0_sorting_11 ?_
  exact xret_i X (C2, B2, Y2, x20, x21, y20, y21) hP hD hS ((ph_Z_get hn htr hw).2.1) dX0_sorting_12
set_option maxHeartbeats 4000000 in
set_option maxRecDepth 100000 in
/-- ties() -/
theorem mX_ties (l : Launch) (dC : Nat → ClassId) (dI : Nat → Nat → Nat) (d : ClassId) (q : Nat → Nat) (sz : Nat) (n : Nat) (tr va : Nat → Nat) (K : Int32) (C B Y : Nat → Int32) (x0 x1 y0 y1 : Int32) (hn : n ≤ 8) (hva : ∀ i, va i ≤ 1) (htr : ∀ i, tr i ≤ 9) : xMi l dC dI d sz yX0_ties cX0_ties 1 (some .int) ({ frames := 5, cells := 0, slots := 0, locals := 119 } : Room) [.ref (q 0)] (XW q d (nI n) (nF tr) (nF va) K C B Y x0 x1 y0 y1) (fun r (_ : (Nat → Int32) × (Nat → Int32) × (Nat → Int32) × Int32 × Int32 × Int32 × Int32) => r = nI (ph_ti tr va n)) (fun u => XW q d (nI n) (nF tr) (nF va) (nI 0) u.1 u.2.1 u.2.2.1 u.2.2.2.1 u.2.2.2.2.1 u.2.2.2.2.2.1 u.2.2.2.2.2.2) := by
  refine xM_i (by decide +kernel) (Nat.le_of_ble_eq_true rfl) ?_
  intro p e s m below meth c A ls X hP hD hS hl
  have X : xC cX0_ties 1 (some .int) RX0 p s m meth c _ dC dI d A := X
  obtain ⟨hx, hb, hr, hlocks, hml, hown, hts, hK, hA⟩ := id X
  have hl : lv_has ls 1 [(0, .ref (q 0))] := hl
  refine lv_aload_n hx hb dX0_ties_0 rfl (lv_at hl 0 rfl) ?_
  refine lv_iconst (v := nI 0) hx hb dX0_ties_1 (by decide +kernel) ?_
  refine lv_iconst (v := nI 0) hx hb dX0_ties_2 (by decide +kernel) ?_
  refine xcall_v (q0 := 0) (ci := 0) (As := [.int (nI 0), .int (nI false.toNat)]) (rest := []) X hP hD hS hl (mX_solve l dC dI d q _ n tr va _ _ _ _ _ _ _ _ 0 false hn (by decide) hva htr (fun i _ => Nat.zero_testBit i)) (cwV 2 hts (lw_V q90 q92 qs1 q19 q93) rfl rfl rfl (by decide +kernel) ⟨Nat.le_of_ble_eq_true rfl, Nat.le_of_ble_eq_true rfl⟩) rfl rfl rfl rfl (Nat.le_of_ble_eq_true rfl) dX0_ties_3 ⟨Nat.zero_le _, Nat.zero_le _⟩ (fun u H locs hw hP hD hS => ?_)
  obtain ⟨C2, B2, Y2, x20, x21, y20, y21⟩ := u
  have hP : va_P (dC, dI) cls2 (XW q d (nI n) (nF tr) (nF va) (nI 0) C2 B2 Y2 x20 x21 y20 y21) H := hP
  have hD : va_D A (XW q d (nI n) (nF tr) (nF va) (nI 0) C2 B2 Y2 x20 x21 y20 y21) := hD
  have hw : ph_Z tr va n false 0 C2 B2 Y2 := hw
  refine lv_aload_n hx hb dX0_ties_6 rfl (lv_at hl 0 rfl) ?_
  refine va_get (D := (dC, dI)) (ci := 0) (v := .ref (q 5)) (C := RX0) (T := TX0) (N := 11) hx hb hts in_X0 hown hK hP 0 rfl rfl 6 (by decide) (hts _ q35) (fun _ h9 => h9) rfl dX0_ties_7 ?_
  refine lv_iconst (v := nI 0) hx hb dX0_ties_10 (by decide +kernel) ?_
  refine xr_ld (v := Y2 0) hx hb hK hP 5 0 rfl rfl (by omega) (by decide) rfl dX0_ties_11 ?_
  exact xret_i X (C2, B2, Y2, x20, x21, y20, y21) hP hD hS ((ph_Z_get hn htr hw).2.2 rfl) dX0_ties_12
set_option maxHeartbeats 4000000 in
set_option maxRecDepth 100000 in
/-- leastForced() -/
theorem mX_leastForced (l : Launch) (dC : Nat → ClassId) (dI : Nat → Nat → Nat) (d : ClassId) (q : Nat → Nat) (sz : Nat) (n : Nat) (tr va : Nat → Nat) (K : Int32) (C B Y : Nat → Int32) (x0 x1 y0 y1 : Int32) (hn : n ≤ 8) (hva : ∀ i, va i ≤ 1) (htr : ∀ i, tr i ≤ 9) : xMi l dC dI d sz yX0_leastForced cX0_leastForced 1 (some .int) ({ frames := 5, cells := 0, slots := 0, locals := 119 } : Room) [.ref (q 0)] (XW q d (nI n) (nF tr) (nF va) K C B Y x0 x1 y0 y1) (fun r (_ : (Nat → Int32) × (Nat → Int32) × (Nat → Int32) × Int32 × Int32 × Int32 × Int32) => r = nI (ph_ls tr va n true)) (fun u => XW q d (nI n) (nF tr) (nF va) (nI 0) u.1 u.2.1 u.2.2.1 u.2.2.2.1 u.2.2.2.2.1 u.2.2.2.2.2.1 u.2.2.2.2.2.2) := by
  refine xM_i (by decide +kernel) (Nat.le_of_ble_eq_true rfl) ?_
  intro p e s m below meth c A ls X hP hD hS hl
  have X : xC cX0_leastForced 1 (some .int) RX0 p s m meth c _ dC dI d A := X
  obtain ⟨hx, hb, hr, hlocks, hml, hown, hts, hK, hA⟩ := id X
  have hl : lv_has ls 1 [(0, .ref (q 0))] := hl
  refine lv_aload_n hx hb dX0_leastForced_0 rfl (lv_at hl 0 rfl) ?_
  refine lv_iconst (v := nI 0) hx hb dX0_leastForced_1 (by decide +kernel) ?_
  refine lv_iconst (v := nI 1) hx hb dX0_leastForced_2 (by decide +kernel) ?_
  refine xcall_v (q0 := 0) (ci := 0) (As := [.int (nI 0), .int (nI true.toNat)]) (rest := []) X hP hD hS hl (mX_solve l dC dI d q _ n tr va _ _ _ _ _ _ _ _ 0 true hn (by decide) hva htr (fun i _ => Nat.zero_testBit i)) (cwV 2 hts (lw_V q90 q92 qs1 q19 q93) rfl rfl rfl (by decide +kernel) ⟨Nat.le_of_ble_eq_true rfl, Nat.le_of_ble_eq_true rfl⟩) rfl rfl rfl rfl (Nat.le_of_ble_eq_true rfl) dX0_leastForced_3 ⟨Nat.zero_le _, Nat.zero_le _⟩ (fun u H locs hw hP hD hS => ?_)
  obtain ⟨C2, B2, Y2, x20, x21, y20, y21⟩ := u
  have hP : va_P (dC, dI) cls2 (XW q d (nI n) (nF tr) (nF va) (nI 0) C2 B2 Y2 x20 x21 y20 y21) H := hP
  have hD : va_D A (XW q d (nI n) (nF tr) (nF va) (nI 0) C2 B2 Y2 x20 x21 y20 y21) := hD
  have hw : ph_Z tr va n true 0 C2 B2 Y2 := hw
  refine lv_aload_n hx hb dX0_leastForced_6 rfl (lv_at hl 0 rfl) ?_
  refine va_get (D := (dC, dI)) (ci := 0) (v := .ref (q 3)) (C := RX0) (T := TX0) (N := 11) hx hb hts in_X0 hown hK hP 0 rfl rfl 4 (by decide) (hts _ q33) (fun _ h9 => h9) rfl dX0_leastForced_7 ?_
  refine lv_iconst (v := nI 0) hx hb dX0_leastForced_10 (by decide +kernel) ?_
  refine xr_ld (v := C2 0) hx hb hK hP 3 0 rfl rfl (by omega) (by decide) rfl dX0_leastForced_11 ?_
  exact xret_i X (C2, B2, Y2, x20, x21, y20, y21) hP hD hS ((ph_Z_get hn htr hw).1) dX0_leastForced_12
set_option maxHeartbeats 4000000 in
set_option maxRecDepth 100000 in
/-- sortingForced() -/
theorem mX_sortingForced (l : Launch) (dC : Nat → ClassId) (dI : Nat → Nat → Nat) (d : ClassId) (q : Nat → Nat) (sz : Nat) (n : Nat) (tr va : Nat → Nat) (K : Int32) (C B Y : Nat → Int32) (x0 x1 y0 y1 : Int32) (hn : n ≤ 8) (hva : ∀ i, va i ≤ 1) (htr : ∀ i, tr i ≤ 9) : xMi l dC dI d sz yX0_sortingForced cX0_sortingForced 1 (some .int) ({ frames := 5, cells := 0, slots := 0, locals := 119 } : Room) [.ref (q 0)] (XW q d (nI n) (nF tr) (nF va) K C B Y x0 x1 y0 y1) (fun r (_ : (Nat → Int32) × (Nat → Int32) × (Nat → Int32) × Int32 × Int32 × Int32 × Int32) => r = nI (ph_sr tr va n true)) (fun u => XW q d (nI n) (nF tr) (nF va) (nI 0) u.1 u.2.1 u.2.2.1 u.2.2.2.1 u.2.2.2.2.1 u.2.2.2.2.2.1 u.2.2.2.2.2.2) := by
  refine xM_i (by decide +kernel) (Nat.le_of_ble_eq_true rfl) ?_
  intro p e s m below meth c A ls X hP hD hS hl
  have X : xC cX0_sortingForced 1 (some .int) RX0 p s m meth c _ dC dI d A := X
  obtain ⟨hx, hb, hr, hlocks, hml, hown, hts, hK, hA⟩ := id X
  have hl : lv_has ls 1 [(0, .ref (q 0))] := hl
  refine lv_aload_n hx hb dX0_sortingForced_0 rfl (lv_at hl 0 rfl) ?_
  refine lv_iconst (v := nI 0) hx hb dX0_sortingForced_1 (by decide +kernel) ?_
  refine lv_iconst (v := nI 1) hx hb dX0_sortingForced_2 (by decide +kernel) ?_
  refine xcall_v (q0 := 0) (ci := 0) (As := [.int (nI 0), .int (nI true.toNat)]) (rest := []) X hP hD hS hl (mX_solve l dC dI d q _ n tr va _ _ _ _ _ _ _ _ 0 true hn (by decide) hva htr (fun i _ => Nat.zero_testBit i)) (cwV 2 hts (lw_V q90 q92 qs1 q19 q93) rfl rfl rfl (by decide +kernel) ⟨Nat.le_of_ble_eq_true rfl, Nat.le_of_ble_eq_true rfl⟩) rfl rfl rfl rfl (Nat.le_of_ble_eq_true rfl) dX0_sortingForced_3 ⟨Nat.zero_le _, Nat.zero_le _⟩ (fun u H locs hw hP hD hS => ?_)
  obtain ⟨C2, B2, Y2, x20, x21, y20, y21⟩ := u
  have hP : va_P (dC, dI) cls2 (XW q d (nI n) (nF tr) (nF va) (nI 0) C2 B2 Y2 x20 x21 y20 y21) H := hP
  have hD : va_D A (XW q d (nI n) (nF tr) (nF va) (nI 0) C2 B2 Y2 x20 x21 y20 y21) := hD
  have hw : ph_Z tr va n true 0 C2 B2 Y2 := hw
  refine lv_aload_n hx hb dX0_sortingForced_6 rfl (lv_at hl 0 rfl) ?_
  refine va_get (D := (dC, dI)) (ci := 0) (v := .ref (q 4)) (C := RX0) (T := TX0) (N := 11) hx hb hts in_X0 hown hK hP 0 rfl rfl 5 (by decide) (hts _ q34) (fun _ h9 => h9) rfl dX0_sortingForced_7 ?_
  refine lv_iconst (v := nI 0) hx hb dX0_sortingForced_10 (by decide +kernel) ?_
  refine xr_ld (v := B2 0) hx hb hK hP 4 0 rfl rfl (by omega) (by decide) rfl dX0_sortingForced_11 ?_
  exact xret_i X (C2, B2, Y2, x20, x21, y20, y21) hP hD hS ((ph_Z_get hn htr hw).2.1) dX0_sortingForced_12
set_option maxHeartbeats 4000000 in
set_option maxRecDepth 100000 in
theorem lX_costOf {p : Program} {l : Launch} {e : Env} {s : State} {m : MethodId} {args : Array Value} {below : List Frame} {meth : Method} {c : Code} {dC : Nat → ClassId} {dI : Nat → Nat → Nat} {d : ClassId} {A : Nat → Prop} {Q : State → Prop} {q : Nat → Nat} (X : xC cX0_costOf 6 (some .int) RX0 p s m meth c args dC dI d A) (n mk : Nat) (tr va : Nat → Nat) {K : Int32} {C B Y : Nat → Int32} (hn : n ≤ 8) (hva : ∀ i, va i ≤ 1) (htr : ∀ i, tr i ≤ 9) (hmk : mk < 256)
    (kk : ∀ (x0 x1 y0 y1 : Int32) (H : Heap) (locs : List Loc) (ls : Array Slot), va_P (dC, dI) cls2 (XW q d (nI n) (nF tr) (nF va) K C B Y x0 x1 y0 y1) H → va_D A (XW q d (nI n) (nF tr) (nF va) K C B Y x0 x1 y0 y1) → va_S A s.heap H locs → lv_has ls 6 [(0, .ref (q 0)), (2, .int (nI (2 ^ n - 1))), (3, .int (nI mk)), (4, .int (nI (ph_F tr va n false 8 mk))), (5, .int (nI 8))] → W p l e ({ frames := 3, cells := 0, slots := 0, locals := 71 } : Room) s m args below meth c H locs 0 0 Q (F0 m 49 ls [])) :
    ∀ (k : Nat) (st : Nat) (x0 x1 y0 y1 : Int32), st ≤ 8 → 8 < st + k → ∀ (H : Heap) (locs : List Loc) (ls : Array Slot), va_P (dC, dI) cls2 (XW q d (nI n) (nF tr) (nF va) K C B Y x0 x1 y0 y1) H → va_D A (XW q d (nI n) (nF tr) (nF va) K C B Y x0 x1 y0 y1) → va_S A s.heap H locs → lv_has ls 6 [(0, .ref (q 0)), (2, .int (nI (2 ^ n - 1))), (3, .int (nI mk)), (4, .int (nI (ph_F tr va n false st mk))), (5, .int (nI st))] → W p l e ({ frames := 3, cells := 0, slots := 0, locals := 71 } : Room) s m args below meth c H locs 0 0 Q (F0 m 22 ls []) := by
  obtain ⟨hx, hb, hr, hlocks, hml, hown, hts, hK, hA⟩ := id X
  intro k
  induction k with
  | zero =>
    intro st x0 x1 y0 y1 hst hk
    exact absurd hk (by omega)
  | succ k ih =>
    intro st x0 x1 y0 y1 hst hk H locs ls hP hD hS hl
    have hp := ph_pow8 hn
    have hF := ph_F_le (va := va) (f := false) htr hn st mk
    refine lv_iload hx hb dX0_costOf_22 (lv_at hl 4 rfl) ?_
    refine lv_bipush (v := nI 8) hx hb dX0_costOf_24 (by decide +kernel) ?_
    refine xr_ge (tgt := 49) hx hb (by omega) (by omega) dX0_costOf_26 (by decide) (fun h => ?_) (fun h => ?_)
    · obtain rfl : st = 8 := by omega
      exact kk _ _ _ _ _ _ _ hP hD hS hl
    · refine lv_iload hx hb dX0_costOf_29 (lv_at hl 3 rfl) ?_
      refine lv_aload_n hx hb dX0_costOf_31 rfl (lv_at hl 0 rfl) ?_
      refine lv_iload hx hb dX0_costOf_32 (lv_at hl 4 rfl) ?_
      refine lv_iload_n hx hb dX0_costOf_34 rfl (lv_at hl 2 rfl) ?_
      refine lv_iload_n hx hb dX0_costOf_35 rfl (lv_at hl 1 rfl) ?_
      refine lv_iconst (v := nI 0) hx hb dX0_costOf_36 (by decide +kernel) ?_
      refine xcall_i (q0 := 0) (ci := 0) (As := [.int (nI st), .int (nI mk), .int (nI (2 ^ n - 1)), .int (nI false.toNat)]) (rest := [.int (nI (ph_F tr va n false st mk))]) X hP hD hS hl (mX_siteCost l dC dI d q _ n tr va _ _ _ _ _ _ _ _ st mk (2 ^ n - 1) false hn (by omega) hmk (by omega) hva htr) (cwV 4 hts (lw_V q107 q109 qs5 q19 q110) rfl rfl rfl (by decide +kernel) ⟨Nat.le_of_ble_eq_true rfl, Nat.le_of_ble_eq_true rfl⟩) rfl rfl rfl rfl (Nat.le_of_ble_eq_true rfl) dX0_costOf_37 ⟨Nat.zero_le _, Nat.zero_le _⟩ (fun r u H locs hw hP hD hS => ?_)
      subst hw
      have hP : va_P (dC, dI) cls2 (XW q d (nI n) (nF tr) (nF va) K C B Y (nI (ph_w tr va n st mk ((2 ^ n - 1).testBit) false 0)) (nI (ph_w tr va n st mk ((2 ^ n - 1).testBit) false 1)) (nI (ph_w tr va n st mk ((2 ^ n - 1).testBit) true 0)) (nI (ph_w tr va n st mk ((2 ^ n - 1).testBit) true 1))) H := hP
      have hD : va_D A (XW q d (nI n) (nF tr) (nF va) K C B Y (nI (ph_w tr va n st mk ((2 ^ n - 1).testBit) false 0)) (nI (ph_w tr va n st mk ((2 ^ n - 1).testBit) false 1)) (nI (ph_w tr va n st mk ((2 ^ n - 1).testBit) true 0)) (nI (ph_w tr va n st mk ((2 ^ n - 1).testBit) true 1))) := hD
      refine xr_add hx hb dX0_costOf_40 ?_
      refine lv_istore (lv' := [(4, .int (nI ((ph_F tr va n false st mk) + (ph_st tr va n st mk ((2 ^ n - 1).testBit) false)))), (0, .ref (q 0)), (2, .int (nI (2 ^ n - 1))), (3, .int (nI mk)), (5, .int (nI st))]) hx hb dX0_costOf_41 hl (by decide) rfl (fun ls hl => ?_)
      refine lv_iinc (v := nI (st + 1)) (lv' := [(5, .int (nI (st + 1))), (4, .int (nI ((ph_F tr va n false st mk) + (ph_st tr va n st mk ((2 ^ n - 1).testBit) false)))), (0, .ref (q 0)), (2, .int (nI (2 ^ n - 1))), (3, .int (nI mk))]) hx hb dX0_costOf_43 hl (k := 4) rfl (nI_1 _) (by decide) rfl (fun ls hl => ?_)
      refine lv_goto (tgt := 22) hx hb dX0_costOf_46 (by decide) ?_
      exact ih (st + 1) _ _ _ _ (by omega) (by omega) _ _ _ hP hD hS (by rw [ph_F_ones]; exact (lv_sub hl [2, 3, 4, 1, 0] rfl))
set_option maxHeartbeats 4000000 in
set_option maxRecDepth 100000 in
/-- costOf(mask) -/
theorem mX_costOf (l : Launch) (dC : Nat → ClassId) (dI : Nat → Nat → Nat) (d : ClassId) (q : Nat → Nat) (sz : Nat) (n : Nat) (tr va : Nat → Nat) (K : Int32) (C B Y : Nat → Int32) (x0 x1 y0 y1 : Int32) (mask : Int32) (hn : n ≤ 8) (hva : ∀ i, va i ≤ 1) (htr : ∀ i, tr i ≤ 9) : xMi l dC dI d sz yX0_costOf cX0_costOf 6 (some .int) ({ frames := 3, cells := 0, slots := 0, locals := 71 } : Room) [.ref (q 0), .int mask] (XW q d (nI n) (nF tr) (nF va) K C B Y x0 x1 y0 y1) (fun r (_ : Int32 × Int32 × Int32 × Int32) => r = nI (ph_F tr va n false 8 (ph_mk n mask))) (fun u => XW q d (nI n) (nF tr) (nF va) K C B Y u.1 u.2.1 u.2.2.1 u.2.2.2) := by
  refine xM_i (by decide +kernel) (Nat.le_of_ble_eq_true rfl) ?_
  intro p e s m below meth c A ls X hP hD hS hl
  have X : xC cX0_costOf 6 (some .int) RX0 p s m meth c _ dC dI d A := X
  obtain ⟨hx, hb, hr, hlocks, hml, hown, hts, hK, hA⟩ := id X
  have hl : lv_has ls 6 [(0, .ref (q 0)), (1, .int mask)] := hl
  have hp := ph_pow8 hn
  refine lv_iconst (v := nI 1) hx hb dX0_costOf_0 (by decide +kernel) ?_
  refine lv_aload_n hx hb dX0_costOf_1 rfl (lv_at hl 0 rfl) ?_
  refine va_get (D := (dC, dI)) (ci := 0) (v := .int (nI n)) (C := RX0) (T := TX0) (N := 11) hx hb hts in_X0 hown hK hP 0 rfl rfl 0 (by decide) (hts _ q29) (fun _ h9 => h9) rfl dX0_costOf_2 ?_
  refine xr_shl1 hx hb (by omega) dX0_costOf_5 ?_
  refine lv_iconst (v := nI 1) hx hb dX0_costOf_6 (by decide +kernel) ?_
  refine xr_sub hx hb (by omega) dX0_costOf_7 ?_
  refine lv_istore_n (lv' := [(2, .int (nI ((2 ^ n) - 1))), (0, .ref (q 0)), (1, .int mask)]) hx hb dX0_costOf_8 rfl hl (by decide) rfl (fun ls hl => ?_)
  refine lv_iload_n hx hb dX0_costOf_9 rfl (lv_at hl 2 rfl) ?_
  refine lv_iload_n hx hb dX0_costOf_10 rfl (lv_at hl 0 rfl) ?_
  refine lv_iand hx hb dX0_costOf_11 ?_
  refine lv_bipush (v := (-2)) hx hb dX0_costOf_12 (by decide +kernel) ?_
  refine lv_iand hx hb dX0_costOf_14 ?_
  refine xr_v (y := nI (ph_mk n mask)) (ph_mk_x hn mask) ?_
  refine lv_istore_n (lv' := [(3, .int (nI (ph_mk n mask))), (2, .int (nI ((2 ^ n) - 1))), (0, .ref (q 0)), (1, .int mask)]) hx hb dX0_costOf_15 rfl hl (by decide) rfl (fun ls hl => ?_)
  refine lv_iconst (v := nI 0) hx hb dX0_costOf_16 (by decide +kernel) ?_
  refine lv_istore (lv' := [(4, .int (nI 0)), (3, .int (nI (ph_mk n mask))), (2, .int (nI ((2 ^ n) - 1))), (0, .ref (q 0)), (1, .int mask)]) hx hb dX0_costOf_17 hl (by decide) rfl (fun ls hl => ?_)
  refine lv_iconst (v := nI 0) hx hb dX0_costOf_19 (by decide +kernel) ?_
  refine lv_istore (lv' := [(5, .int (nI 0)), (4, .int (nI 0)), (3, .int (nI (ph_mk n mask))), (2, .int (nI ((2 ^ n) - 1))), (0, .ref (q 0)), (1, .int mask)]) hx hb dX0_costOf_20 hl (by decide) rfl (fun ls hl => ?_)
  exact lX_costOf X n (ph_mk n mask) tr va hn hva htr (ph_mk_lt hn mask) (fun x0 x1 y0 y1 H locs ls hP hD hS hl => by
      refine lv_iload hx hb dX0_costOf_49 (lv_at hl 3 rfl) ?_
      exact xret_i X (x0, x1, y0, y1) hP hD hS rfl dX0_costOf_51) 9 0 _ _ _ _ (by omega) (by omega) _ _ _ hP hD hS (lv_sub hl [4, 3, 2, 1, 0] rfl)
set_option maxHeartbeats 4000000 in
set_option maxRecDepth 100000 in
theorem lX_leastWith {p : Program} {l : Launch} {e : Env} {s : State} {m : MethodId} {args : Array Value} {below : List Frame} {meth : Method} {c : Code} {dC : Nat → ClassId} {dI : Nat → Nat → Nat} {d : ClassId} {A : Nat → Prop} {Q : State → Prop} {q : Nat → Nat} (X : xC cX0_leastWith 9 (some .int) RX0 p s m meth c args dC dI d A) (n an bn : Nat) (ap : Bool) {tr va : Nat → Nat} {K : Int32} (C : Nat → Int32) {B Y : Nat → Int32} {x0 x1 y0 y1 : Int32} (ha8 : an < 8) (hb8 : bn < 8)
    (kk : ∀ (v : Int32), ph_lk 256 an bn ap C v → ∀ (H : Heap) (locs : List Loc) (ls : Array Slot), va_P (dC, dI) cls2 (XW q d (nI n) (nF tr) (nF va) K C B Y x0 x1 y0 y1) H → va_D A (XW q d (nI n) (nF tr) (nF va) K C B Y x0 x1 y0 y1) → va_S A s.heap H locs → lv_has ls 9 [(0, .ref (q 0)), (3, .int (nI ap.toNat)), (4, .int (nI (2 ^ an))), (5, .int (nI (2 ^ bn))), (6, .int v), (7, .int (nI 256))] → W p l e ({ frames := 5, cells := 0, slots := 0, locals := 119 } : Room) s m args below meth c H locs 0 0 Q (F0 m 144 ls [])) :
    ∀ (k : Nat) (j : Nat) (v : Int32), j ≤ 256 → ph_lk j an bn ap C v → 256 < j + k → ∀ (H : Heap) (locs : List Loc) (ls : Array Slot), va_P (dC, dI) cls2 (XW q d (nI n) (nF tr) (nF va) K C B Y x0 x1 y0 y1) H → va_D A (XW q d (nI n) (nF tr) (nF va) K C B Y x0 x1 y0 y1) → va_S A s.heap H locs → lv_has ls 9 [(0, .ref (q 0)), (3, .int (nI ap.toNat)), (4, .int (nI (2 ^ an))), (5, .int (nI (2 ^ bn))), (6, .int v), (7, .int (nI j))] → W p l e ({ frames := 5, cells := 0, slots := 0, locals := 119 } : Room) s m args below meth c H locs 0 0 Q (F0 m 54 ls []) := by
  obtain ⟨hx, hb, hr, hlocks, hml, hown, hts, hK, hA⟩ := id X
  intro k
  induction k with
  | zero =>
    intro j v hj hI hk
    exact absurd hk (by omega)
  | succ k ih =>
    intro j v hj hI hk H locs ls hP hD hS hl
    have hpa : 2 ^ an < 256 := Nat.pow_lt_pow_right (n := 8) (by decide) ha8
    have hpb : 2 ^ bn < 256 := Nat.pow_lt_pow_right (n := 8) (by decide) hb8
    have hkw : 2 ^ an ||| 2 ^ bn < 256 := Nat.or_lt_two_pow (n := 8) hpa hpb
    refine lv_iload hx hb dX0_leastWith_54 (lv_at hl 5 rfl) ?_
    refine lv_sipush (v := nI 256) hx hb dX0_leastWith_56 (by decide +kernel) ?_
    refine xr_ge (tgt := 144) hx hb (by omega) (by omega) dX0_leastWith_59 (by decide) (fun h => ?_) (fun h => ?_)
    · obtain rfl : j = 256 := by omega
      exact kk _ hI _ _ _ hP hD hS hl
    · have tail : ∀ df : Bool, df = (j.testBit an != j.testBit bn) → W p l e ({ frames := 5, cells := 0, slots := 0, locals := 119 } : Room) s m args below meth c H locs 0 0 Q (F0 m 96 ls [.int (nI df.toNat)]) := by
        intro df hdf
        refine lv_istore (lv' := [(8, .int (nI df.toNat)), (0, .ref (q 0)), (3, .int (nI ap.toNat)), (4, .int (nI (2 ^ an))), (5, .int (nI (2 ^ bn))), (6, .int v), (7, .int (nI j))]) hx hb dX0_leastWith_96 hl (by decide) rfl (fun ls hl => ?_)
        refine lv_iload hx hb dX0_leastWith_98 (lv_at hl 6 rfl) ?_
        refine lv_iload hx hb dX0_leastWith_100 (lv_at hl 3 rfl) ?_
        refine lv_iload hx hb dX0_leastWith_102 (lv_at hl 4 rfl) ?_
        refine xr_or hx hb dX0_leastWith_104 ?_
        refine lv_iconst (v := (-1)) hx hb dX0_leastWith_105 (by decide +kernel) ?_
        refine lv_ixor hx hb dX0_leastWith_106 ?_
        refine lv_iand hx hb dX0_leastWith_107 ?_
        refine lv_if_ne (tgt := 138) hx hb dX0_leastWith_108 (by decide) (fun h2 => ?_) (fun h2 => ?_)
        · refine lv_iinc (v := nI (j + 1)) (lv' := [(7, .int (nI (j + 1))), (8, .int (nI df.toNat)), (0, .ref (q 0)), (3, .int (nI ap.toNat)), (4, .int (nI (2 ^ an))), (5, .int (nI (2 ^ bn))), (6, .int v)]) hx hb dX0_leastWith_138 hl (k := 6) rfl (nI_1 _) (by decide) rfl (fun ls hl => ?_)
          refine lv_goto (tgt := 54) hx hb dX0_leastWith_141 (by decide) ?_
          exact ih (j + 1) _ (by omega) (ph_lk_skip hI (Or.inl (fun z => h2 ((ph_and0 (by omega) hkw).mpr z.1)))) (by omega) _ _ _ hP hD hS (lv_sub hl [2, 3, 4, 5, 6, 0] rfl)
        · refine lv_iload hx hb dX0_leastWith_111 (lv_at hl 0 rfl) ?_
          refine lv_iload_n hx hb dX0_leastWith_113 rfl (lv_at hl 2 rfl) ?_
          refine xr_bne (tgt := 138) hx hb dX0_leastWith_114 (by decide) (fun h3 => ?_) (fun h3 => ?_)
          · refine lv_iinc (v := nI (j + 1)) (lv' := [(7, .int (nI (j + 1))), (8, .int (nI df.toNat)), (0, .ref (q 0)), (3, .int (nI ap.toNat)), (4, .int (nI (2 ^ an))), (5, .int (nI (2 ^ bn))), (6, .int v)]) hx hb dX0_leastWith_138 hl (k := 6) rfl (nI_1 _) (by decide) rfl (fun ls hl => ?_)
            refine lv_goto (tgt := 54) hx hb dX0_leastWith_141 (by decide) ?_
            exact ih (j + 1) _ (by omega) (ph_lk_skip hI (Or.inl (fun z => h3 (hdf.trans z.2)))) (by omega) _ _ _ hP hD hS (lv_sub hl [2, 3, 4, 5, 6, 0] rfl)
          · have hq : ph_q an bn ap j := ⟨(ph_and0 (by omega) hkw).mp h2, hdf.symm.trans h3⟩
            refine lv_aload_n hx hb dX0_leastWith_117 rfl (lv_at hl 1 rfl) ?_
            refine va_get (D := (dC, dI)) (ci := 0) (v := .ref (q 3)) (C := RX0) (T := TX0) (N := 11) hx hb hts in_X0 hown hK hP 0 rfl rfl 4 (by decide) (hts _ q33) (fun _ h9 => h9) rfl dX0_leastWith_118 ?_
            refine lv_iload hx hb dX0_leastWith_121 (lv_at hl 6 rfl) ?_
            refine xr_ld (v := C j) hx hb hK hP 3 0 rfl rfl (by omega) (by decide) rfl dX0_leastWith_123 ?_
            refine lv_iload hx hb dX0_leastWith_124 (lv_at hl 5 rfl) ?_
            refine lv_icmp_ge (tgt := 138) hx hb dX0_leastWith_126 (by decide) (fun h4 => ?_) (fun h4 => ?_)
            · refine lv_iinc (v := nI (j + 1)) (lv' := [(7, .int (nI (j + 1))), (8, .int (nI df.toNat)), (0, .ref (q 0)), (3, .int (nI ap.toNat)), (4, .int (nI (2 ^ an))), (5, .int (nI (2 ^ bn))), (6, .int v)]) hx hb dX0_leastWith_138 hl (k := 6) rfl (nI_1 _) (by decide) rfl (fun ls hl => ?_)
              refine lv_goto (tgt := 54) hx hb dX0_leastWith_141 (by decide) ?_
              exact ih (j + 1) _ (by omega) (ph_lk_skip hI (Or.inr h4)) (by omega) _ _ _ hP hD hS (lv_sub hl [2, 3, 4, 5, 6, 0] rfl)
            · refine lv_aload_n hx hb dX0_leastWith_129 rfl (lv_at hl 1 rfl) ?_
              refine va_get (D := (dC, dI)) (ci := 0) (v := .ref (q 3)) (C := RX0) (T := TX0) (N := 11) hx hb hts in_X0 hown hK hP 0 rfl rfl 4 (by decide) (hts _ q33) (fun _ h9 => h9) rfl dX0_leastWith_130 ?_
              refine lv_iload hx hb dX0_leastWith_133 (lv_at hl 6 rfl) ?_
              refine xr_ld (v := C j) hx hb hK hP 3 0 rfl rfl (by omega) (by decide) rfl dX0_leastWith_135 ?_
              refine lv_istore (lv' := [(6, .int (C j)), (8, .int (nI df.toNat)), (0, .ref (q 0)), (3, .int (nI ap.toNat)), (4, .int (nI (2 ^ an))), (5, .int (nI (2 ^ bn))), (7, .int (nI j))]) hx hb dX0_leastWith_136 hl (by decide) rfl (fun ls hl => ?_)
              refine lv_iinc (v := nI (j + 1)) (lv' := [(7, .int (nI (j + 1))), (6, .int (C j)), (8, .int (nI df.toNat)), (0, .ref (q 0)), (3, .int (nI ap.toNat)), (4, .int (nI (2 ^ an))), (5, .int (nI (2 ^ bn)))]) hx hb dX0_leastWith_138 hl (k := 6) rfl (nI_1 _) (by decide) rfl (fun ls hl => ?_)
              refine lv_goto (tgt := 54) hx hb dX0_leastWith_141 (by decide) ?_
              exact ih (j + 1) _ (by omega) (ph_lk_take hI hq (Int32.not_le.mp h4)) (by omega) _ _ _ hP hD hS (lv_sub hl [3, 4, 5, 6, 1, 0] rfl)
      have hj1 : j &&& 2 ^ an < 2 ^ 31 := Nat.lt_of_le_of_lt Nat.and_le_left (by omega)
      have hj2 : j &&& 2 ^ bn < 2 ^ 31 := Nat.lt_of_le_of_lt Nat.and_le_left (by omega)
      refine lv_iload hx hb dX0_leastWith_62 (lv_at hl 5 rfl) ?_
      refine lv_iload hx hb dX0_leastWith_64 (lv_at hl 2 rfl) ?_
      refine xr_and hx hb dX0_leastWith_66 ?_
      refine xr_ifne (tgt := 74) hx hb (by omega) dX0_leastWith_67 (by decide) (fun h1 => ?_) (fun h1 => ?_)
      · have g1 := ph_andnz h1
        refine lv_iconst (v := nI 0) hx hb dX0_leastWith_74 (by decide +kernel) ?_
        refine lv_iload hx hb dX0_leastWith_75 (lv_at hl 5 rfl) ?_
        refine lv_iload hx hb dX0_leastWith_77 (lv_at hl 3 rfl) ?_
        refine xr_and hx hb dX0_leastWith_79 ?_
        refine xr_ifne (tgt := 87) hx hb (by omega) dX0_leastWith_80 (by decide) (fun h2 => ?_) (fun h2 => ?_)
        · have g2 := ph_andnz h2
          refine lv_iconst (v := nI 0) hx hb dX0_leastWith_87 (by decide +kernel) ?_
          refine xr_eq (tgt := 95) hx hb (by omega) (by omega) dX0_leastWith_88 (by decide) (fun h3 => ?_) (fun h3 => ?_)
          · refine lv_iconst (v := nI 0) hx hb dX0_leastWith_95 (by decide +kernel) ?_
            exact tail false (by rw [g1, g2]; rfl)
          · exact absurd rfl h3
        · have g2 := ph_andz h2
          refine lv_iconst (v := nI 1) hx hb dX0_leastWith_83 (by decide +kernel) ?_
          refine lv_goto (tgt := 88) hx hb dX0_leastWith_84 (by decide) ?_
          refine xr_eq (tgt := 95) hx hb (by omega) (by omega) dX0_leastWith_88 (by decide) (fun h3 => ?_) (fun h3 => ?_)
          · exact absurd h3 (by decide)
          · refine lv_iconst (v := nI 1) hx hb dX0_leastWith_91 (by decide +kernel) ?_
            refine lv_goto (tgt := 96) hx hb dX0_leastWith_92 (by decide) ?_
            exact tail true (by rw [g1, g2]; rfl)
      · have g1 := ph_andz h1
        refine lv_iconst (v := nI 1) hx hb dX0_leastWith_70 (by decide +kernel) ?_
        refine lv_goto (tgt := 75) hx hb dX0_leastWith_71 (by decide) ?_
        refine lv_iload hx hb dX0_leastWith_75 (lv_at hl 5 rfl) ?_
        refine lv_iload hx hb dX0_leastWith_77 (lv_at hl 3 rfl) ?_
        refine xr_and hx hb dX0_leastWith_79 ?_
        refine xr_ifne (tgt := 87) hx hb (by omega) dX0_leastWith_80 (by decide) (fun h2 => ?_) (fun h2 => ?_)
        · have g2 := ph_andnz h2
          refine lv_iconst (v := nI 0) hx hb dX0_leastWith_87 (by decide +kernel) ?_
          refine xr_eq (tgt := 95) hx hb (by omega) (by omega) dX0_leastWith_88 (by decide) (fun h3 => ?_) (fun h3 => ?_)
          · exact absurd h3 (by decide)
          · refine lv_iconst (v := nI 1) hx hb dX0_leastWith_91 (by decide +kernel) ?_
            refine lv_goto (tgt := 96) hx hb dX0_leastWith_92 (by decide) ?_
            exact tail true (by rw [g1, g2]; rfl)
        · have g2 := ph_andz h2
          refine lv_iconst (v := nI 1) hx hb dX0_leastWith_83 (by decide +kernel) ?_
          refine lv_goto (tgt := 88) hx hb dX0_leastWith_84 (by decide) ?_
          refine xr_eq (tgt := 95) hx hb (by omega) (by omega) dX0_leastWith_88 (by decide) (fun h3 => ?_) (fun h3 => ?_)
          · refine lv_iconst (v := nI 0) hx hb dX0_leastWith_95 (by decide +kernel) ?_
            exact tail false (by rw [g1, g2]; rfl)
          · exact absurd rfl h3
set_option maxHeartbeats 4000000 in
set_option maxRecDepth 100000 in
/-- leastWith(a, b, apart) -/
theorem mX_leastWith (l : Launch) (dC : Nat → ClassId) (dI : Nat → Nat → Nat) (d : ClassId) (q : Nat → Nat) (sz : Nat) (n : Nat) (tr va : Nat → Nat) (K : Int32) (C B Y : Nat → Int32) (x0 x1 y0 y1 : Int32) (a b : Int32) (ap : Bool) (hn : n ≤ 8) (hva : ∀ i, va i ≤ 1) (htr : ∀ i, tr i ≤ 9) : xMi l dC dI d sz yX0_leastWith cX0_leastWith 9 (some .int) ({ frames := 5, cells := 0, slots := 0, locals := 119 } : Room) [.ref (q 0), .int a, .int b, .int (nI ap.toNat)] (XW q d (nI n) (nF tr) (nF va) K C B Y x0 x1 y0 y1) (fun r (_ : Int32 × (Nat → Int32) × (Nat → Int32) × (Nat → Int32) × Int32 × Int32 × Int32 × Int32) => r = ph_lx tr va n a b ap) (fun u => XW q d (nI n) (nF tr) (nF va) u.1 u.2.1 u.2.2.1 u.2.2.2.1 u.2.2.2.2.1 u.2.2.2.2.2.1 u.2.2.2.2.2.2.1 u.2.2.2.2.2.2.2) := by
  refine xM_i (by decide +kernel) (Nat.le_of_ble_eq_true rfl) ?_
  intro p e s m below meth c A ls X hP hD hS hl
  have X : xC cX0_leastWith 9 (some .int) RX0 p s m meth c _ dC dI d A := X
  obtain ⟨hx, hb, hr, hlocks, hml, hown, hts, hK, hA⟩ := id X
  have hl : lv_has ls 9 [(0, .ref (q 0)), (1, .int a), (2, .int b), (3, .int (nI ap.toNat))] := hl
  refine lv_aload_n hx hb dX0_leastWith_0 rfl (lv_at hl 0 rfl) ?_
  refine lv_iload_n hx hb dX0_leastWith_1 rfl (lv_at hl 1 rfl) ?_
  refine xcall_i (q0 := 0) (ci := 0) (As := [.int a]) (rest := []) X hP hD hS hl (mX_noRead l dC dI d q _ _ _ _ _ _ _ _ _ _ _ _ a) (cwV 1 hts (lw_V q72 q74 qs0 q19 q75) rfl rfl rfl (by decide +kernel) ⟨Nat.le_of_ble_eq_true rfl, Nat.le_of_ble_eq_true rfl⟩) rfl rfl rfl rfl (Nat.le_of_ble_eq_true rfl) dX0_leastWith_2 ⟨Nat.zero_le _, Nat.zero_le _⟩ (fun r u H locs hw hP hD hS => ?_)
  have hP : va_P (dC, dI) cls2 (XW q d (nI n) (nF tr) (nF va) K C B Y x0 x1 y0 y1) H := hP
  have hD : va_D A (XW q d (nI n) (nF tr) (nF va) K C B Y x0 x1 y0 y1) := hD
  subst hw
  refine xr_bifne (tgt := 25) hx hb dX0_leastWith_5 (by decide) (fun h1 => ?_) (fun h1 => ?_)
  · refine lv_iconst (v := (-1)) hx hb dX0_leastWith_25 (by decide +kernel) ?_
    exact xret_i X (K, C, B, Y, x0, x1, y0, y1) hP hD hS (by unfold ph_lx; rw [if_pos (Or.inl (of_decide_eq_true h1))]) dX0_leastWith_26
  · have h1 := of_decide_eq_false h1
    refine lv_aload_n hx hb dX0_leastWith_8 rfl (lv_at hl 0 rfl) ?_
    refine lv_iload_n hx hb dX0_leastWith_9 rfl (lv_at hl 2 rfl) ?_
    refine xcall_i (q0 := 0) (ci := 0) (As := [.int b]) (rest := []) X hP hD hS hl (mX_noRead l dC dI d q _ _ _ _ _ _ _ _ _ _ _ _ b) (cwV 1 hts (lw_V q72 q74 qs0 q19 q75) rfl rfl rfl (by decide +kernel) ⟨Nat.le_of_ble_eq_true rfl, Nat.le_of_ble_eq_true rfl⟩) rfl rfl rfl rfl (Nat.le_of_ble_eq_true rfl) dX0_leastWith_10 ⟨Nat.zero_le _, Nat.zero_le _⟩ (fun r u H locs hw hP hD hS => ?_)
    have hP : va_P (dC, dI) cls2 (XW q d (nI n) (nF tr) (nF va) K C B Y x0 x1 y0 y1) H := hP
    have hD : va_D A (XW q d (nI n) (nF tr) (nF va) K C B Y x0 x1 y0 y1) := hD
    subst hw
    refine xr_bifne (tgt := 25) hx hb dX0_leastWith_13 (by decide) (fun h2 => ?_) (fun h2 => ?_)
    · refine lv_iconst (v := (-1)) hx hb dX0_leastWith_25 (by decide +kernel) ?_
      exact xret_i X (K, C, B, Y, x0, x1, y0, y1) hP hD hS (by unfold ph_lx; rw [if_pos (Or.inr (Or.inl (of_decide_eq_true h2)))]) dX0_leastWith_26
    · have h2 := of_decide_eq_false h2
      obtain ⟨an, ha2, rfl⟩ := nI_of (fun z => h1 (Or.inl z))
      have han : an < n := Nat.not_le.mp (fun z => h1 (Or.inr ((nI_leI (by omega) ha2).mpr z)))
      obtain ⟨bn, hb2, rfl⟩ := nI_of (fun z => h2 (Or.inl z))
      have hbn : bn < n := Nat.not_le.mp (fun z => h2 (Or.inr ((nI_leI (by omega) hb2).mpr z)))
      have hpa : 2 ^ an < 256 := Nat.pow_lt_pow_right (n := 8) (by decide) (by omega)
      have hpb : 2 ^ bn < 256 := Nat.pow_lt_pow_right (n := 8) (by decide) (by omega)
      have hkw : 2 ^ an ||| 2 ^ bn < 256 := Nat.or_lt_two_pow (n := 8) hpa hpb
      refine lv_iload_n hx hb dX0_leastWith_16 rfl (lv_at hl 1 rfl) ?_
      refine lv_iload_n hx hb dX0_leastWith_17 rfl (lv_at hl 2 rfl) ?_
      refine xr_ne (tgt := 27) hx hb (by omega) (by omega) dX0_leastWith_18 (by decide) (fun h3 => ?_) (fun h3 => ?_)
      · have hab : ¬ (an = bn ∧ ap = true) := fun z => h3 z.1
        have hno : ¬ ((nI an < 0 ∨ nI n ≤ nI an) ∨ (nI bn < 0 ∨ nI n ≤ nI bn) ∨ (nI an = nI bn ∧ ap = true)) := fun y => y.elim h1 (fun y => y.elim h2 (fun y => hab ⟨(nI_eq (by omega) (by omega)).mp y.1, y.2⟩))
        refine lv_iconst (v := nI 1) hx hb dX0_leastWith_27 (by decide +kernel) ?_
        refine lv_iload_n hx hb dX0_leastWith_28 rfl (lv_at hl 1 rfl) ?_
        refine xr_shl1 hx hb (by omega) dX0_leastWith_29 ?_
        refine lv_istore (lv' := [(4, .int (nI (2 ^ an))), (0, .ref (q 0)), (1, .int (nI an)), (2, .int (nI bn)), (3, .int (nI ap.toNat))]) hx hb dX0_leastWith_30 hl (by decide) rfl (fun ls hl => ?_)
        refine lv_iconst (v := nI 1) hx hb dX0_leastWith_32 (by decide +kernel) ?_
        refine lv_iload_n hx hb dX0_leastWith_33 rfl (lv_at hl 3 rfl) ?_
        refine xr_shl1 hx hb (by omega) dX0_leastWith_34 ?_
        refine lv_istore (lv' := [(5, .int (nI (2 ^ bn))), (4, .int (nI (2 ^ an))), (0, .ref (q 0)), (1, .int (nI an)), (2, .int (nI bn)), (3, .int (nI ap.toNat))]) hx hb dX0_leastWith_35 hl (by decide) rfl (fun ls hl => ?_)
        refine lv_aload_n hx hb dX0_leastWith_37 rfl (lv_at hl 2 rfl) ?_
        refine lv_iload hx hb dX0_leastWith_38 (lv_at hl 1 rfl) ?_
        refine lv_iload hx hb dX0_leastWith_40 (lv_at hl 0 rfl) ?_
        refine xr_or hx hb dX0_leastWith_42 ?_
        refine lv_iconst (v := nI 0) hx hb dX0_leastWith_43 (by decide +kernel) ?_
        refine xcall_v (q0 := 0) (ci := 0) (As := [.int (nI ((2 ^ an) ||| (2 ^ bn))), .int (nI false.toNat)]) (rest := []) X hP hD hS hl (mX_solve l dC dI d q _ n tr va _ _ _ _ _ _ _ _ (2 ^ an ||| 2 ^ bn) false hn hkw hva htr (ph_kp2 han hbn)) (cwV 2 hts (lw_V q90 q92 qs1 q19 q93) rfl rfl rfl (by decide +kernel) ⟨Nat.le_of_ble_eq_true rfl, Nat.le_of_ble_eq_true rfl⟩) rfl rfl rfl rfl (Nat.le_of_ble_eq_true rfl) dX0_leastWith_44 ⟨Nat.zero_le _, Nat.zero_le _⟩ (fun u H locs hw hP hD hS => ?_)
        obtain ⟨C2, B2, Y2, x20, x21, y20, y21⟩ := u
        have hP : va_P (dC, dI) cls2 (XW q d (nI n) (nF tr) (nF va) (nI (2 ^ an ||| 2 ^ bn)) C2 B2 Y2 x20 x21 y20 y21) H := hP
        have hD : va_D A (XW q d (nI n) (nF tr) (nF va) (nI (2 ^ an ||| 2 ^ bn)) C2 B2 Y2 x20 x21 y20 y21) := hD
        have hw : ph_Z tr va n false (2 ^ an ||| 2 ^ bn) C2 B2 Y2 := hw
        refine lv_ldc hx hb hown (hts _ q102) dX0_leastWith_47 ?_
        refine xr_v (y := nI 1000000) (by decide +kernel) ?_
        refine lv_istore (lv' := [(6, .int (nI 1000000)), (5, .int (nI (2 ^ bn))), (4, .int (nI (2 ^ an))), (0, .ref (q 0)), (1, .int (nI an)), (2, .int (nI bn)), (3, .int (nI ap.toNat))]) hx hb dX0_leastWith_49 hl (by decide) rfl (fun ls hl => ?_)
        refine lv_iconst (v := nI 0) hx hb dX0_leastWith_51 (by decide +kernel) ?_
        refine lv_istore (lv' := [(7, .int (nI 0)), (6, .int (nI 1000000)), (5, .int (nI (2 ^ bn))), (4, .int (nI (2 ^ an))), (0, .ref (q 0)), (1, .int (nI an)), (2, .int (nI bn)), (3, .int (nI ap.toNat))]) hx hb dX0_leastWith_52 hl (by decide) rfl (fun ls hl => ?_)
        exact lX_leastWith X n an bn ap C2 (by omega) (by omega) (fun v hI H locs ls hP hD hS hl => by
        refine lv_iload hx hb dX0_leastWith_144 (lv_at hl 4 rfl) ?_
        exact xret_i X (nI (2 ^ an ||| 2 ^ bn), C2, B2, Y2, x20, x21, y20, y21) hP hD hS (by unfold ph_lx; rw [if_neg hno, nI_clamp ha2, nI_clamp hb2]; exact ph_lk_end hn htr han hbn hab hw hI) dX0_leastWith_146) 257 0 _ (by omega) (ph_lk_0 an bn ap C2) (by omega) _ _ _ hP hD hS (lv_sub hl [4, 7, 3, 2, 1, 0] rfl)
      · refine lv_iload_n hx hb dX0_leastWith_21 rfl (lv_at hl 3 rfl) ?_
        refine xr_bifeq (tgt := 27) hx hb dX0_leastWith_22 (by decide) (fun h4 => ?_) (fun h4 => ?_)
        · have hab : ¬ (an = bn ∧ ap = true) := fun z => by rw [h4] at z; exact absurd z.2 (by decide)
          have hno : ¬ ((nI an < 0 ∨ nI n ≤ nI an) ∨ (nI bn < 0 ∨ nI n ≤ nI bn) ∨ (nI an = nI bn ∧ ap = true)) := fun y => y.elim h1 (fun y => y.elim h2 (fun y => hab ⟨(nI_eq (by omega) (by omega)).mp y.1, y.2⟩))
          refine lv_iconst (v := nI 1) hx hb dX0_leastWith_27 (by decide +kernel) ?_
          refine lv_iload_n hx hb dX0_leastWith_28 rfl (lv_at hl 1 rfl) ?_
          refine xr_shl1 hx hb (by omega) dX0_leastWith_29 ?_
          refine lv_istore (lv' := [(4, .int (nI (2 ^ an))), (0, .ref (q 0)), (1, .int (nI an)), (2, .int (nI bn)), (3, .int (nI ap.toNat))]) hx hb dX0_leastWith_30 hl (by decide) rfl (fun ls hl => ?_)
          refine lv_iconst (v := nI 1) hx hb dX0_leastWith_32 (by decide +kernel) ?_
          refine lv_iload_n hx hb dX0_leastWith_33 rfl (lv_at hl 3 rfl) ?_
          refine xr_shl1 hx hb (by omega) dX0_leastWith_34 ?_
          refine lv_istore (lv' := [(5, .int (nI (2 ^ bn))), (4, .int (nI (2 ^ an))), (0, .ref (q 0)), (1, .int (nI an)), (2, .int (nI bn)), (3, .int (nI ap.toNat))]) hx hb dX0_leastWith_35 hl (by decide) rfl (fun ls hl => ?_)
          refine lv_aload_n hx hb dX0_leastWith_37 rfl (lv_at hl 2 rfl) ?_
          refine lv_iload hx hb dX0_leastWith_38 (lv_at hl 1 rfl) ?_
          refine lv_iload hx hb dX0_leastWith_40 (lv_at hl 0 rfl) ?_
          refine xr_or hx hb dX0_leastWith_42 ?_
          refine lv_iconst (v := nI 0) hx hb dX0_leastWith_43 (by decide +kernel) ?_
          refine xcall_v (q0 := 0) (ci := 0) (As := [.int (nI ((2 ^ an) ||| (2 ^ bn))), .int (nI false.toNat)]) (rest := []) X hP hD hS hl (mX_solve l dC dI d q _ n tr va _ _ _ _ _ _ _ _ (2 ^ an ||| 2 ^ bn) false hn hkw hva htr (ph_kp2 han hbn)) (cwV 2 hts (lw_V q90 q92 qs1 q19 q93) rfl rfl rfl (by decide +kernel) ⟨Nat.le_of_ble_eq_true rfl, Nat.le_of_ble_eq_true rfl⟩) rfl rfl rfl rfl (Nat.le_of_ble_eq_true rfl) dX0_leastWith_44 ⟨Nat.zero_le _, Nat.zero_le _⟩ (fun u H locs hw hP hD hS => ?_)
          obtain ⟨C2, B2, Y2, x20, x21, y20, y21⟩ := u
          have hP : va_P (dC, dI) cls2 (XW q d (nI n) (nF tr) (nF va) (nI (2 ^ an ||| 2 ^ bn)) C2 B2 Y2 x20 x21 y20 y21) H := hP
          have hD : va_D A (XW q d (nI n) (nF tr) (nF va) (nI (2 ^ an ||| 2 ^ bn)) C2 B2 Y2 x20 x21 y20 y21) := hD
          have hw : ph_Z tr va n false (2 ^ an ||| 2 ^ bn) C2 B2 Y2 := hw
          refine lv_ldc hx hb hown (hts _ q102) dX0_leastWith_47 ?_
          refine xr_v (y := nI 1000000) (by decide +kernel) ?_
          refine lv_istore (lv' := [(6, .int (nI 1000000)), (5, .int (nI (2 ^ bn))), (4, .int (nI (2 ^ an))), (0, .ref (q 0)), (1, .int (nI an)), (2, .int (nI bn)), (3, .int (nI ap.toNat))]) hx hb dX0_leastWith_49 hl (by decide) rfl (fun ls hl => ?_)
          refine lv_iconst (v := nI 0) hx hb dX0_leastWith_51 (by decide +kernel) ?_
          refine lv_istore (lv' := [(7, .int (nI 0)), (6, .int (nI 1000000)), (5, .int (nI (2 ^ bn))), (4, .int (nI (2 ^ an))), (0, .ref (q 0)), (1, .int (nI an)), (2, .int (nI bn)), (3, .int (nI ap.toNat))]) hx hb dX0_leastWith_52 hl (by decide) rfl (fun ls hl => ?_)
          exact lX_leastWith X n an bn ap C2 (by omega) (by omega) (fun v hI H locs ls hP hD hS hl => by
        refine lv_iload hx hb dX0_leastWith_144 (lv_at hl 4 rfl) ?_
        exact xret_i X (nI (2 ^ an ||| 2 ^ bn), C2, B2, Y2, x20, x21, y20, y21) hP hD hS (by unfold ph_lx; rw [if_neg hno, nI_clamp ha2, nI_clamp hb2]; exact ph_lk_end hn htr han hbn hab hw hI) dX0_leastWith_146) 257 0 _ (by omega) (ph_lk_0 an bn ap C2) (by omega) _ _ _ hP hD hS (lv_sub hl [4, 7, 3, 2, 1, 0] rfl)
        · refine lv_iconst (v := (-1)) hx hb dX0_leastWith_25 (by decide +kernel) ?_
          exact xret_i X (K, C, B, Y, x0, x1, y0, y1) hP hD hS (by unfold ph_lx; rw [if_pos (Or.inr (Or.inr ⟨by rw [h3], h4⟩))]) dX0_leastWith_26
end
section
/-! ReadPhaserModel: contracts (printed by gen_x1.py) -/
set_option maxHeartbeats 4000000 in
set_option maxRecDepth 100000 in
/-- bad(rd) -/
theorem mM_bad (l : Launch) (dC : Nat → ClassId) (dI : Nat → Nat → Nat) (d : ClassId) (q : Nat → Nat) (sz : Nat) (R : Int32) (V T : Nat → Int32) (rd : Int32)  : xMi l dC dI d sz yX1_bad cX1_bad 2 (some .boolean) ({ frames := 0, cells := 0, slots := 0, locals := 0 } : Room) [.ref (q 0), .int rd] (MW q d R V T) (fun r (_ : Unit) => r = nI (decide (rd < 0 ∨ R ≤ rd)).toNat) (fun _ => MW q d R V T) := by
  refine xM_i (by decide +kernel) (Nat.le_of_ble_eq_true rfl) ?_
  intro p e s m below meth c A ls X hP hD hS hl
  have X : xC cX1_bad 2 (some .boolean) RX1 p s m meth c _ dC dI d A := X
  obtain ⟨hx, hb, hr, hlocks, hml, hown, hts, hK, hA⟩ := id X
  have hl : lv_has ls 2 [(0, .ref (q 0)), (1, .int rd)] := hl
  refine lv_iload_n hx hb dX1_bad_0 rfl (lv_at hl 1 rfl) ?_
  refine lv_if_lt (tgt := 12) hx hb dX1_bad_1 (by decide) (fun h1 => ?_) (fun h1 => ?_)
  · refine lv_iconst (v := nI 1) hx hb dX1_bad_12 (by decide +kernel) ?_
    refine lv_goto (tgt := 17) hx hb dX1_bad_13 (by decide) ?_
    exact xret_z X () hP hD hS (by simp [h1]) (by decide +kernel) dX1_bad_17
  · refine lv_iload_n hx hb dX1_bad_4 rfl (lv_at hl 1 rfl) ?_
    refine lv_aload_n hx hb dX1_bad_5 rfl (lv_at hl 0 rfl) ?_
    refine va_get (D := (dC, dI)) (ci := 1) (v := .int R) (C := RX1) (T := TX1) (N := 3) hx hb hts in_X1 hown hK hP 0 rfl rfl 0 (by decide) (hts _ q168) (fun _ h9 => h9) rfl dX1_bad_6 ?_
    refine lv_icmp_lt (tgt := 16) hx hb dX1_bad_9 (by decide) (fun h2 => ?_) (fun h2 => ?_)
    · refine lv_iconst (v := nI 0) hx hb dX1_bad_16 (by decide +kernel) ?_
      exact xret_z X () hP hD hS (by simp [h1, Int32.not_le.mpr h2]) (by decide +kernel) dX1_bad_17
    · refine lv_iconst (v := nI 1) hx hb dX1_bad_12 (by decide +kernel) ?_
      refine lv_goto (tgt := 17) hx hb dX1_bad_13 (by decide) ?_
      exact xret_z X () hP hD hS (by simp [Int32.not_lt.mp h2]) (by decide +kernel) dX1_bad_17
set_option maxHeartbeats 4000000 in
set_option maxRecDepth 100000 in
theorem lM_read {p : Program} {l : Launch} {e : Env} {s : State} {m : MethodId} {args : Array Value} {below : List Frame} {meth : Method} {c : Code} {dC : Nat → ClassId} {dI : Nat → Nat → Nat} {d : ClassId} {A : Nat → Prop} {Q : State → Prop} {q : Nat → Nat} (X : xC cX1_read 2 (some .int) RX1 p s m meth c args dC dI d A) (n : Nat) (tr : Nat → Nat) {V : Nat → Int32} (hn8 : n < 8)
    (kk : ∀ (H : Heap) (locs : List Loc) (ls : Array Slot), va_P (dC, dI) cls2 (MW q d (nI n) V (nF (ph_cl tr (n * 8) 8))) H → va_D A (MW q d (nI n) V (nF (ph_cl tr (n * 8) 8))) → va_S A s.heap H locs → lv_has ls 2 [(0, .ref (q 0)), (1, .int (nI 8))] → W p l e ({ frames := 0, cells := 0, slots := 0, locals := 0 } : Room) s m args below meth c H locs 0 0 Q (F0 m 41 ls [])) :
    ∀ (k : Nat) (i : Nat), i ≤ 8 → 8 < i + k → ∀ (H : Heap) (locs : List Loc) (ls : Array Slot), va_P (dC, dI) cls2 (MW q d (nI n) V (nF (ph_cl tr (n * 8) i))) H → va_D A (MW q d (nI n) V (nF (ph_cl tr (n * 8) i))) → va_S A s.heap H locs → lv_has ls 2 [(0, .ref (q 0)), (1, .int (nI i))] → W p l e ({ frames := 0, cells := 0, slots := 0, locals := 0 } : Room) s m args below meth c H locs 0 0 Q (F0 m 14 ls []) := by
  obtain ⟨hx, hb, hr, hlocks, hml, hown, hts, hK, hA⟩ := id X
  intro k
  induction k with
  | zero =>
    intro i hi hk
    exact absurd hk (by omega)
  | succ k ih =>
    intro i hi hk H locs ls hP hD hS hl
    refine lv_iload_n hx hb dX1_read_14 rfl (lv_at hl 1 rfl) ?_
    refine lv_bipush (v := nI 8) hx hb dX1_read_15 (by decide +kernel) ?_
    refine xr_ge (tgt := 41) hx hb (by omega) (by omega) dX1_read_17 (by decide) (fun h => ?_) (fun h => ?_)
    · obtain rfl : i = 8 := by omega
      exact kk _ _ _ hP hD hS hl
    · refine lv_aload_n hx hb dX1_read_20 rfl (lv_at hl 0 rfl) ?_
      refine va_get (D := (dC, dI)) (ci := 1) (v := .ref (q 2)) (C := RX1) (T := TX1) (N := 3) hx hb hts in_X1 hown hK hP 0 rfl rfl 2 (by decide) (hts _ q170) (fun _ h9 => h9) rfl dX1_read_21 ?_
      refine lv_aload_n hx hb dX1_read_24 rfl (lv_at hl 0 rfl) ?_
      refine va_get (D := (dC, dI)) (ci := 1) (v := .int (nI n)) (C := RX1) (T := TX1) (N := 3) hx hb hts in_X1 hown hK hP 0 rfl rfl 0 (by decide) (hts _ q168) (fun _ h9 => h9) rfl dX1_read_25 ?_
      refine lv_bipush (v := nI 8) hx hb dX1_read_28 (by decide +kernel) ?_
      refine xr_mul hx hb dX1_read_30 ?_
      refine lv_iload_n hx hb dX1_read_31 rfl (lv_at hl 1 rfl) ?_
      refine xr_add hx hb dX1_read_32 ?_
      refine lv_iconst (v := nI 0) hx hb dX1_read_33 (by decide +kernel) ?_
      refine xr_st (g := nF (ph_cl tr (n * 8) (i + 1))) hx hb hK hP hD hS 2 0 rfl rfl (by omega) (by decide) (nF_up _ _ _) dX1_read_34 (fun H locs hP hD hS => ?_)
      have hP : va_P (dC, dI) cls2 (MW q d (nI n) V (nF (ph_cl tr (n * 8) (i + 1)))) H := hP
      have hD : va_D A (MW q d (nI n) V (nF (ph_cl tr (n * 8) (i + 1)))) := hD
      refine lv_iinc (v := nI (i + 1)) (lv' := [(1, .int (nI (i + 1))), (0, .ref (q 0))]) hx hb dX1_read_35 hl (k := 1) rfl (nI_1 _) (by decide) rfl (fun ls hl => ?_)
      refine lv_goto (tgt := 14) hx hb dX1_read_38 (by decide) ?_
      exact ih (i + 1) (by omega) (by omega) _ _ _ hP hD hS (lv_sub hl [1, 0] rfl)
set_option maxHeartbeats 4000000 in
set_option maxRecDepth 100000 in
/-- read() -/
theorem mM_read (l : Launch) (dC : Nat → ClassId) (dI : Nat → Nat → Nat) (d : ClassId) (q : Nat → Nat) (sz : Nat) (n : Nat) (tr va : Nat → Nat) (hn : n ≤ 8) : xMi l dC dI d sz yX1_read cX1_read 2 (some .int) ({ frames := 0, cells := 0, slots := 0, locals := 0 } : Room) [.ref (q 0)] (MW q d (nI n) (nF va) (nF tr)) (fun r (u : Nat × (Nat → Nat)) => (r, u.1, u.2) = ph_rd n tr) (fun u => MW q d (nI u.1) (nF va) (nF u.2)) := by
  refine xM_i (by decide +kernel) (Nat.le_of_ble_eq_true rfl) ?_
  intro p e s m below meth c A ls X hP hD hS hl
  have X : xC cX1_read 2 (some .int) RX1 p s m meth c _ dC dI d A := X
  obtain ⟨hx, hb, hr, hlocks, hml, hown, hts, hK, hA⟩ := id X
  have hl : lv_has ls 2 [(0, .ref (q 0))] := hl
  refine lv_aload_n hx hb dX1_read_0 rfl (lv_at hl 0 rfl) ?_
  refine va_get (D := (dC, dI)) (ci := 1) (v := .int (nI n)) (C := RX1) (T := TX1) (N := 3) hx hb hts in_X1 hown hK hP 0 rfl rfl 0 (by decide) (hts _ q168) (fun _ h9 => h9) rfl dX1_read_1 ?_
  refine lv_bipush (v := nI 8) hx hb dX1_read_4 (by decide +kernel) ?_
  refine xr_ne (tgt := 12) hx hb (by omega) (by omega) dX1_read_6 (by decide) (fun h => ?_) (fun h => ?_)
  · have h8 : n < 8 := by omega
    refine lv_iconst (v := nI 0) hx hb dX1_read_12 (by decide +kernel) ?_
    refine lv_istore_n (lv' := [(1, .int (nI 0)), (0, .ref (q 0))]) hx hb dX1_read_13 rfl hl (by decide) rfl (fun ls hl => ?_)
    exact lM_read X n tr h8 (fun H locs ls hP hD hS hl => by
      refine lv_aload_n hx hb dX1_read_41 rfl (lv_at hl 0 rfl) ?_
      refine lv_aload_n hx hb dX1_read_42 rfl (lv_at hl 0 rfl) ?_
      refine va_get (D := (dC, dI)) (ci := 1) (v := .int (nI n)) (C := RX1) (T := TX1) (N := 3) hx hb hts in_X1 hown hK hP 0 rfl rfl 0 (by decide) (hts _ q168) (fun _ h9 => h9) rfl dX1_read_43 ?_
      refine lv_iconst (v := nI 1) hx hb dX1_read_46 (by decide +kernel) ?_
      refine xr_add hx hb dX1_read_47 ?_
      refine va_put (D := (dC, dI)) (ci := 1) (v := .int (nI (n + 1))) (ty := .int) (C := RX1) (T := TX1) (N := 3) hx hb hts in_X1 tyX1 tyX1_ok nmX1 hown hK hP hD hS 0 rfl rfl 0 (by decide) (hts _ q168) (fun _ h9 => h9) rfl (by decide +kernel) rfl rfl (Nat.le_of_ble_eq_true rfl) dX1_read_48 (fun H locs hP hD hS => ?_)
      have hP : va_P (dC, dI) cls2 (MW q d (nI (n + 1)) (nF va) (nF (ph_cl tr (n * 8) 8))) H := hP
      have hD : va_D A (MW q d (nI (n + 1)) (nF va) (nF (ph_cl tr (n * 8) 8))) := hD
      refine lv_aload_n hx hb dX1_read_51 rfl (lv_at hl 0 rfl) ?_
      refine va_get (D := (dC, dI)) (ci := 1) (v := .int (nI (n + 1))) (C := RX1) (T := TX1) (N := 3) hx hb hts in_X1 hown hK hP 0 rfl rfl 0 (by decide) (hts _ q168) (fun _ h9 => h9) rfl dX1_read_52 ?_
      refine lv_iconst (v := nI 1) hx hb dX1_read_55 (by decide +kernel) ?_
      refine xr_sub hx hb (by omega) dX1_read_56 ?_
      rw [show n + 1 - 1 = n by omega]
      exact xret_i X (n + 1, ph_cl tr (n * 8) 8) hP hD hS (by unfold ph_rd; rw [if_pos h8]) dX1_read_57) 9 0 (by omega) (by omega) _ _ _ hP hD hS (lv_sub hl [1, 0] rfl)
  · refine lv_bipush (v := (-4)) hx hb dX1_read_9 (by decide +kernel) ?_
    exact xret_i X (n, tr) hP hD hS (by unfold ph_rd; rw [if_neg (by omega)]) dX1_read_11
set_option maxHeartbeats 4000000 in
set_option maxRecDepth 100000 in
/-- drop() -/
theorem mM_drop (l : Launch) (dC : Nat → ClassId) (dI : Nat → Nat → Nat) (d : ClassId) (q : Nat → Nat) (sz : Nat) (n : Nat) (tr va : Nat → Nat) (hn : n ≤ 8) : xMi l dC dI d sz yX1_drop cX1_drop 1 (some .int) ({ frames := 0, cells := 0, slots := 0, locals := 0 } : Room) [.ref (q 0)] (MW q d (nI n) (nF va) (nF tr)) (fun r (u : Nat) => (r, u) = ph_dr n) (fun u => MW q d (nI u) (nF va) (nF tr)) := by
  refine xM_i (by decide +kernel) (Nat.le_of_ble_eq_true rfl) ?_
  intro p e s m below meth c A ls X hP hD hS hl
  have X : xC cX1_drop 1 (some .int) RX1 p s m meth c _ dC dI d A := X
  obtain ⟨hx, hb, hr, hlocks, hml, hown, hts, hK, hA⟩ := id X
  have hl : lv_has ls 1 [(0, .ref (q 0))] := hl
  refine lv_aload_n hx hb dX1_drop_0 rfl (lv_at hl 0 rfl) ?_
  refine va_get (D := (dC, dI)) (ci := 1) (v := .int (nI n)) (C := RX1) (T := TX1) (N := 3) hx hb hts in_X1 hown hK hP 0 rfl rfl 0 (by decide) (hts _ q168) (fun _ h9 => h9) rfl dX1_drop_1 ?_
  refine xr_ifne (tgt := 9) hx hb (by omega) dX1_drop_4 (by decide) (fun h => ?_) (fun h => ?_)
  · refine lv_aload_n hx hb dX1_drop_9 rfl (lv_at hl 0 rfl) ?_
    refine lv_aload_n hx hb dX1_drop_10 rfl (lv_at hl 0 rfl) ?_
    refine va_get (D := (dC, dI)) (ci := 1) (v := .int (nI n)) (C := RX1) (T := TX1) (N := 3) hx hb hts in_X1 hown hK hP 0 rfl rfl 0 (by decide) (hts _ q168) (fun _ h9 => h9) rfl dX1_drop_11 ?_
    refine lv_iconst (v := nI 1) hx hb dX1_drop_14 (by decide +kernel) ?_
    refine xr_sub hx hb (by omega) dX1_drop_15 ?_
    refine va_put (D := (dC, dI)) (ci := 1) (v := .int (nI (n - 1))) (ty := .int) (C := RX1) (T := TX1) (N := 3) hx hb hts in_X1 tyX1 tyX1_ok nmX1 hown hK hP hD hS 0 rfl rfl 0 (by decide) (hts _ q168) (fun _ h9 => h9) rfl (by decide +kernel) rfl rfl (Nat.le_of_ble_eq_true rfl) dX1_drop_16 (fun H locs hP hD hS => ?_)
    have hP : va_P (dC, dI) cls2 (MW q d (nI (n - 1)) (nF va) (nF tr)) H := hP
    have hD : va_D A (MW q d (nI (n - 1)) (nF va) (nF tr)) := hD
    refine lv_aload_n hx hb dX1_drop_19 rfl (lv_at hl 0 rfl) ?_
    refine va_get (D := (dC, dI)) (ci := 1) (v := .int (nI (n - 1))) (C := RX1) (T := TX1) (N := 3) hx hb hts in_X1 hown hK hP 0 rfl rfl 0 (by decide) (hts _ q168) (fun _ h9 => h9) rfl dX1_drop_20 ?_
    exact xret_i X (n - 1) hP hD hS (by unfold ph_dr; rw [if_neg h]) dX1_drop_23
  · refine lv_iconst (v := (-1)) hx hb dX1_drop_7 (by decide +kernel) ?_
    exact xret_i X n hP hD hS (by unfold ph_dr; rw [if_pos h, h]) dX1_drop_8
set_option maxHeartbeats 4000000 in
set_option maxRecDepth 100000 in
/-- say(rd, st, vl, tu) -/
theorem mM_say (l : Launch) (dC : Nat → ClassId) (dI : Nat → Nat → Nat) (d : ClassId) (q : Nat → Nat) (sz : Nat) (n : Nat) (tr va : Nat → Nat) (rd st vl tu : Int32) (hn : n ≤ 8) : xMi l dC dI d sz yX1_say cX1_say 6 (some .int) ({ frames := 1, cells := 0, slots := 0, locals := 21 } : Room) [.ref (q 0), .int rd, .int st, .int vl, .int tu] (MW q d (nI n) (nF va) (nF tr)) (fun r (u : (Nat → Nat) × (Nat → Nat)) => (r, u.1, u.2) = ph_sy n tr va rd st vl tu) (fun u => MW q d (nI n) (nF u.2) (nF u.1)) := by
  refine xM_i (by decide +kernel) (Nat.le_of_ble_eq_true rfl) ?_
  intro p e s m below meth c A ls X hP hD hS hl
  have X : xC cX1_say 6 (some .int) RX1 p s m meth c _ dC dI d A := X
  obtain ⟨hx, hb, hr, hlocks, hml, hown, hts, hK, hA⟩ := id X
  have hl : lv_has ls 6 [(0, .ref (q 0)), (1, .int rd), (2, .int st), (3, .int vl), (4, .int tu)] := hl
  refine lv_aload_n hx hb dX1_say_0 rfl (lv_at hl 0 rfl) ?_
  refine lv_iload_n hx hb dX1_say_1 rfl (lv_at hl 1 rfl) ?_
  refine xcall_i (q0 := 0) (ci := 1) (As := [.int rd]) (rest := []) X hP hD hS hl (mM_bad l dC dI d q _ _ _ _ rd) (cwV 1 hts (lw_V q186 q188 qs11 q20 q189) rfl rfl rfl (by decide +kernel) ⟨Nat.le_of_ble_eq_true rfl, Nat.le_of_ble_eq_true rfl⟩) rfl rfl rfl rfl (Nat.le_of_ble_eq_true rfl) dX1_say_2 ⟨Nat.zero_le _, Nat.zero_le _⟩ (fun r u H locs hw hP hD hS => ?_)
  have hP : va_P (dC, dI) cls2 (MW q d (nI n) (nF va) (nF tr)) H := hP
  have hD : va_D A (MW q d (nI n) (nF va) (nF tr)) := hD
  subst hw
  refine xr_bifeq (tgt := 10) hx hb dX1_say_5 (by decide) (fun h1 => ?_) (fun h1 => ?_)
  · have h1 := of_decide_eq_false h1
    refine lv_iload_n hx hb dX1_say_10 rfl (lv_at hl 2 rfl) ?_
    refine lv_if_lt (tgt := 20) hx hb dX1_say_11 (by decide) (fun h2 => ?_) (fun h2 => ?_)
    · refine lv_bipush (v := (-2)) hx hb dX1_say_20 (by decide +kernel) ?_
      exact xret_i X (tr, va) hP hD hS (by unfold ph_sy; rw [if_neg h1, if_pos (Or.inl h2)]) dX1_say_22
    · refine lv_iload_n hx hb dX1_say_14 rfl (lv_at hl 2 rfl) ?_
      refine lv_bipush (v := nI 7) hx hb dX1_say_15 (by decide +kernel) ?_
      refine lv_icmp_le (tgt := 23) hx hb dX1_say_17 (by decide) (fun h3 => ?_) (fun h3 => ?_)
      · have h23 : ¬ (st < 0 ∨ nI 8 ≤ st) := fun z => z.elim h2 (fun z => (ph_78 st).mp z h3)
        refine lv_iload hx hb dX1_say_23 (lv_at hl 4 rfl) ?_
        refine lv_if_lt (tgt := 35) hx hb dX1_say_25 (by decide) (fun h4 => ?_) (fun h4 => ?_)
        · refine lv_bipush (v := (-3)) hx hb dX1_say_35 (by decide +kernel) ?_
          exact xret_i X (tr, va) hP hD hS (by unfold ph_sy; rw [if_neg h1, if_neg h23, if_pos (Or.inl h4)]) dX1_say_37
        · refine lv_iload hx hb dX1_say_28 (lv_at hl 4 rfl) ?_
          refine lv_bipush (v := nI 9) hx hb dX1_say_30 (by decide +kernel) ?_
          refine lv_icmp_le (tgt := 38) hx hb dX1_say_32 (by decide) (fun h5 => ?_) (fun h5 => ?_)
          · obtain ⟨rn, hr2, rfl⟩ := nI_of (fun z => h1 (Or.inl z))
            have hrn : rn < n := Nat.not_le.mp (fun z => h1 (Or.inr ((nI_leI (by omega) hr2).mpr z)))
            obtain ⟨kn, hk2, rfl⟩ := nI_of h2
            have hkn : kn < 8 := Nat.lt_succ_of_le ((nI_leI hk2 (by decide)).mp h3)
            obtain ⟨tn, ht2, rfl⟩ := nI_of h4
            have htn : tn ≤ 9 := (nI_leI ht2 (by decide)).mp h5
            refine lv_aload_n hx hb dX1_say_38 rfl (lv_at hl 0 rfl) ?_
            refine va_get (D := (dC, dI)) (ci := 1) (v := .ref (q 2)) (C := RX1) (T := TX1) (N := 3) hx hb hts in_X1 hown hK hP 0 rfl rfl 2 (by decide) (hts _ q170) (fun _ h9 => h9) rfl dX1_say_39 ?_
            refine lv_iload_n hx hb dX1_say_42 rfl (lv_at hl 1 rfl) ?_
            refine lv_bipush (v := nI 8) hx hb dX1_say_43 (by decide +kernel) ?_
            refine xr_mul hx hb dX1_say_45 ?_
            refine lv_iload_n hx hb dX1_say_46 rfl (lv_at hl 2 rfl) ?_
            refine xr_add hx hb dX1_say_47 ?_
            refine xr_ld (v := nI (tr ((rn * 8) + kn))) hx hb hK hP 2 0 rfl rfl (by omega) (by decide) rfl dX1_say_48 ?_
            refine lv_istore (lv' := [(5, .int (nI (tr ((rn * 8) + kn)))), (0, .ref (q 0)), (1, .int (nI rn)), (2, .int (nI kn)), (3, .int vl), (4, .int (nI tn))]) hx hb dX1_say_49 hl (by decide) rfl (fun ls hl => ?_)
            refine lv_aload_n hx hb dX1_say_51 rfl (lv_at hl 1 rfl) ?_
            refine va_get (D := (dC, dI)) (ci := 1) (v := .ref (q 1)) (C := RX1) (T := TX1) (N := 3) hx hb hts in_X1 hown hK hP 0 rfl rfl 1 (by decide) (hts _ q169) (fun _ h9 => h9) rfl dX1_say_52 ?_
            refine lv_iload_n hx hb dX1_say_55 rfl (lv_at hl 2 rfl) ?_
            refine lv_bipush (v := nI 8) hx hb dX1_say_56 (by decide +kernel) ?_
            refine xr_mul hx hb dX1_say_58 ?_
            refine lv_iload_n hx hb dX1_say_59 rfl (lv_at hl 3 rfl) ?_
            refine xr_add hx hb dX1_say_60 ?_
            refine lv_iload_n hx hb dX1_say_61 rfl (lv_at hl 4 rfl) ?_
            refine lv_iconst (v := nI 1) hx hb dX1_say_62 (by decide +kernel) ?_
            refine lv_iand hx hb dX1_say_63 ?_
            refine xr_v (y := nI (ph_lb vl)) (ph_lb_and vl) ?_
            refine xr_st (g := nF (ph_up va ((rn * 8) + kn) (ph_lb vl))) hx hb hK hP hD hS 1 0 rfl rfl (by omega) (by decide) (nF_up _ _ _) dX1_say_64 (fun H locs hP hD hS => ?_)
            have hP : va_P (dC, dI) cls2 (MW q d (nI n) (nF (ph_up va ((rn * 8) + kn) (ph_lb vl))) (nF tr)) H := hP
            have hD : va_D A (MW q d (nI n) (nF (ph_up va ((rn * 8) + kn) (ph_lb vl))) (nF tr)) := hD
            refine lv_aload_n hx hb dX1_say_65 rfl (lv_at hl 1 rfl) ?_
            refine va_get (D := (dC, dI)) (ci := 1) (v := .ref (q 2)) (C := RX1) (T := TX1) (N := 3) hx hb hts in_X1 hown hK hP 0 rfl rfl 2 (by decide) (hts _ q170) (fun _ h9 => h9) rfl dX1_say_66 ?_
            refine lv_iload_n hx hb dX1_say_69 rfl (lv_at hl 2 rfl) ?_
            refine lv_bipush (v := nI 8) hx hb dX1_say_70 (by decide +kernel) ?_
            refine xr_mul hx hb dX1_say_72 ?_
            refine lv_iload_n hx hb dX1_say_73 rfl (lv_at hl 3 rfl) ?_
            refine xr_add hx hb dX1_say_74 ?_
            refine lv_iload hx hb dX1_say_75 (lv_at hl 5 rfl) ?_
            refine xr_st (g := nF (ph_up tr ((rn * 8) + kn) tn)) hx hb hK hP hD hS 2 0 rfl rfl (by omega) (by decide) (nF_up _ _ _) dX1_say_77 (fun H locs hP hD hS => ?_)
            have hP : va_P (dC, dI) cls2 (MW q d (nI n) (nF (ph_up va ((rn * 8) + kn) (ph_lb vl))) (nF (ph_up tr ((rn * 8) + kn) tn))) H := hP
            have hD : va_D A (MW q d (nI n) (nF (ph_up va ((rn * 8) + kn) (ph_lb vl))) (nF (ph_up tr ((rn * 8) + kn) tn))) := hD
            refine lv_iload hx hb dX1_say_78 (lv_at hl 0 rfl) ?_
            exact xret_i X (ph_up tr (rn * 8 + kn) tn, ph_up va (rn * 8 + kn) (ph_lb vl)) hP hD hS ((ph_sy_n hn hrn hkn htn).symm) dX1_say_80
          · refine lv_bipush (v := (-3)) hx hb dX1_say_35 (by decide +kernel) ?_
            exact xret_i X (tr, va) hP hD hS (by unfold ph_sy; rw [if_neg h1, if_neg h23, if_pos (Or.inr (Int32.not_le.mp h5))]) dX1_say_37
      · refine lv_bipush (v := (-2)) hx hb dX1_say_20 (by decide +kernel) ?_
        exact xret_i X (tr, va) hP hD hS (by unfold ph_sy; rw [if_neg h1, if_pos (Or.inr ((ph_78 st).mpr h3))]) dX1_say_22
  · refine lv_iconst (v := (-1)) hx hb dX1_say_8 (by decide +kernel) ?_
    exact xret_i X (tr, va) hP hD hS (by unfold ph_sy; rw [if_pos (of_decide_eq_true h1)]) dX1_say_9
set_option maxHeartbeats 4000000 in
set_option maxRecDepth 100000 in
theorem lM_stretch {p : Program} {l : Launch} {e : Env} {s : State} {m : MethodId} {args : Array Value} {below : List Frame} {meth : Method} {c : Code} {dC : Nat → ClassId} {dI : Nat → Nat → Nat} {d : ClassId} {A : Nat → Prop} {Q : State → Prop} {q : Nat → Nat} (X : xC cX1_stretch 8 (some .int) RX1 p s m meth c args dC dI d A) (n t f0 f1 : Nat) (bits : Int32) (tr va : Nat → Nat) (hn : n < 8) (ht : t ≤ 9) (hf : f0 + f1 ≤ 8)
    (kk : ∀ (H : Heap) (locs : List Loc) (ls : Array Slot), va_P (dC, dI) cls2 (MW q d (nI (n + 1)) (nF (ph_wr va (n * 8 + f0) (ph_bi bits) f1)) (nF (ph_wr tr (n * 8 + f0) (fun _ => t) f1))) H → va_D A (MW q d (nI (n + 1)) (nF (ph_wr va (n * 8 + f0) (ph_bi bits) f1)) (nF (ph_wr tr (n * 8 + f0) (fun _ => t) f1))) → va_S A s.heap H locs → lv_has ls 8 [(0, .ref (q 0)), (2, .int bits), (3, .int (nI t)), (4, .int (nI f0)), (5, .int (nI f1)), (6, .int (nI n)), (7, .int (nI f1))] → W p l e ({ frames := 1, cells := 0, slots := 0, locals := 21 } : Room) s m args below meth c H locs 0 0 Q (F0 m 120 ls [])) :
    ∀ (k : Nat) (i : Nat), i ≤ f1 → f1 < i + k → ∀ (H : Heap) (locs : List Loc) (ls : Array Slot), va_P (dC, dI) cls2 (MW q d (nI (n + 1)) (nF (ph_wr va (n * 8 + f0) (ph_bi bits) i)) (nF (ph_wr tr (n * 8 + f0) (fun _ => t) i))) H → va_D A (MW q d (nI (n + 1)) (nF (ph_wr va (n * 8 + f0) (ph_bi bits) i)) (nF (ph_wr tr (n * 8 + f0) (fun _ => t) i))) → va_S A s.heap H locs → lv_has ls 8 [(0, .ref (q 0)), (2, .int bits), (3, .int (nI t)), (4, .int (nI f0)), (5, .int (nI f1)), (6, .int (nI n)), (7, .int (nI i))] → W p l e ({ frames := 1, cells := 0, slots := 0, locals := 21 } : Room) s m args below meth c H locs 0 0 Q (F0 m 63 ls []) := by
  obtain ⟨hx, hb, hr, hlocks, hml, hown, hts, hK, hA⟩ := id X
  intro k
  induction k with
  | zero =>
    intro i hi hk
    exact absurd hk (by omega)
  | succ k ih =>
    intro i hi hk H locs ls hP hD hS hl
    refine lv_iload hx hb dX1_stretch_63 (lv_at hl 6 rfl) ?_
    refine lv_iload hx hb dX1_stretch_65 (lv_at hl 4 rfl) ?_
    refine xr_ge (tgt := 120) hx hb (by omega) (by omega) dX1_stretch_67 (by decide) (fun h => ?_) (fun h => ?_)
    · obtain rfl : i = f1 := by omega
      exact kk _ _ _ hP hD hS hl
    · refine lv_iload hx hb dX1_stretch_70 (lv_at hl 5 rfl) ?_
      refine lv_if_lt (tgt := 114) hx hb dX1_stretch_72 (by decide) (fun h2 => ?_) (fun h2 => ?_)
      · exact absurd h2 (nI_pos (by omega))
      · refine lv_aload_n hx hb dX1_stretch_75 rfl (lv_at hl 0 rfl) ?_
        refine va_get (D := (dC, dI)) (ci := 1) (v := .ref (q 1)) (C := RX1) (T := TX1) (N := 3) hx hb hts in_X1 hown hK hP 0 rfl rfl 1 (by decide) (hts _ q169) (fun _ h9 => h9) rfl dX1_stretch_76 ?_
        refine lv_iload hx hb dX1_stretch_79 (lv_at hl 5 rfl) ?_
        refine lv_bipush (v := nI 8) hx hb dX1_stretch_81 (by decide +kernel) ?_
        refine xr_mul hx hb dX1_stretch_83 ?_
        refine lv_iload hx hb dX1_stretch_84 (lv_at hl 3 rfl) ?_
        refine xr_add hx hb dX1_stretch_86 ?_
        refine lv_iload hx hb dX1_stretch_87 (lv_at hl 6 rfl) ?_
        refine xr_add hx hb dX1_stretch_89 ?_
        refine lv_iload_n hx hb dX1_stretch_90 rfl (lv_at hl 1 rfl) ?_
        refine lv_iload hx hb dX1_stretch_91 (lv_at hl 6 rfl) ?_
        refine lv_ishr hx hb dX1_stretch_93 ?_
        refine lv_iconst (v := nI 1) hx hb dX1_stretch_94 (by decide +kernel) ?_
        refine lv_iand hx hb dX1_stretch_95 ?_
        refine xr_v (y := nI (ph_bi bits i)) (ph_lb_and _) ?_
        refine xr_st (g := nF (ph_wr va (n * 8 + f0) (ph_bi bits) (i + 1))) hx hb hK hP hD hS 1 0 rfl rfl (by omega) (by decide) (nF_up _ _ _) dX1_stretch_96 (fun H locs hP hD hS => ?_)
        have hP : va_P (dC, dI) cls2 (MW q d (nI (n + 1)) (nF (ph_wr va (n * 8 + f0) (ph_bi bits) (i + 1))) (nF (ph_wr tr (n * 8 + f0) (fun _ => t) i))) H := hP
        have hD : va_D A (MW q d (nI (n + 1)) (nF (ph_wr va (n * 8 + f0) (ph_bi bits) (i + 1))) (nF (ph_wr tr (n * 8 + f0) (fun _ => t) i))) := hD
        refine lv_aload_n hx hb dX1_stretch_97 rfl (lv_at hl 0 rfl) ?_
        refine va_get (D := (dC, dI)) (ci := 1) (v := .ref (q 2)) (C := RX1) (T := TX1) (N := 3) hx hb hts in_X1 hown hK hP 0 rfl rfl 2 (by decide) (hts _ q170) (fun _ h9 => h9) rfl dX1_stretch_98 ?_
        refine lv_iload hx hb dX1_stretch_101 (lv_at hl 5 rfl) ?_
        refine lv_bipush (v := nI 8) hx hb dX1_stretch_103 (by decide +kernel) ?_
        refine xr_mul hx hb dX1_stretch_105 ?_
        refine lv_iload hx hb dX1_stretch_106 (lv_at hl 3 rfl) ?_
        refine xr_add hx hb dX1_stretch_108 ?_
        refine lv_iload hx hb dX1_stretch_109 (lv_at hl 6 rfl) ?_
        refine xr_add hx hb dX1_stretch_111 ?_
        refine lv_iload_n hx hb dX1_stretch_112 rfl (lv_at hl 2 rfl) ?_
        refine xr_st (g := nF (ph_wr tr (n * 8 + f0) (fun _ => t) (i + 1))) hx hb hK hP hD hS 2 0 rfl rfl (by omega) (by decide) (nF_up _ _ _) dX1_stretch_113 (fun H locs hP hD hS => ?_)
        have hP : va_P (dC, dI) cls2 (MW q d (nI (n + 1)) (nF (ph_wr va (n * 8 + f0) (ph_bi bits) (i + 1))) (nF (ph_wr tr (n * 8 + f0) (fun _ => t) (i + 1)))) H := hP
        have hD : va_D A (MW q d (nI (n + 1)) (nF (ph_wr va (n * 8 + f0) (ph_bi bits) (i + 1))) (nF (ph_wr tr (n * 8 + f0) (fun _ => t) (i + 1)))) := hD
        refine lv_iinc (v := nI (i + 1)) (lv' := [(7, .int (nI (i + 1))), (0, .ref (q 0)), (2, .int bits), (3, .int (nI t)), (4, .int (nI f0)), (5, .int (nI f1)), (6, .int (nI n))]) hx hb dX1_stretch_114 hl (k := 6) rfl (nI_1 _) (by decide) rfl (fun ls hl => ?_)
        refine lv_goto (tgt := 63) hx hb dX1_stretch_117 (by decide) ?_
        exact ih (i + 1) (by omega) (by omega) _ _ _ hP hD hS (lv_sub hl [1, 2, 3, 4, 5, 6, 0] rfl)
set_option maxHeartbeats 4000000 in
set_option maxRecDepth 100000 in
theorem lM_stretchF {p : Program} {l : Launch} {e : Env} {s : State} {m : MethodId} {args : Array Value} {below : List Frame} {meth : Method} {c : Code} {dC : Nat → ClassId} {dI : Nat → Nat → Nat} {d : ClassId} {A : Nat → Prop} {Q : State → Prop} {q : Nat → Nat} (X : xC cX1_stretch 8 (some .int) RX1 p s m meth c args dC dI d A) (n f1 : Nat) (tr va : Nat → Nat) (hf : f1 < 16)
    (kk : ∀ (H : Heap) (locs : List Loc) (ls : Array Slot), va_P (dC, dI) cls2 (MW q d (nI n) (nF va) (nF tr)) H → va_D A (MW q d (nI n) (nF va) (nF tr)) → va_S A s.heap H locs → lv_has ls 8 [(0, .ref (q 0)), (5, .int (nI f1)), (6, .int (-4)), (7, .int (nI f1))] → W p l e ({ frames := 1, cells := 0, slots := 0, locals := 21 } : Room) s m args below meth c H locs 0 0 Q (F0 m 120 ls [])) :
    ∀ (k : Nat) (i : Nat), i ≤ f1 → f1 < i + k → ∀ (H : Heap) (locs : List Loc) (ls : Array Slot), va_P (dC, dI) cls2 (MW q d (nI n) (nF va) (nF tr)) H → va_D A (MW q d (nI n) (nF va) (nF tr)) → va_S A s.heap H locs → lv_has ls 8 [(0, .ref (q 0)), (5, .int (nI f1)), (6, .int (-4)), (7, .int (nI i))] → W p l e ({ frames := 1, cells := 0, slots := 0, locals := 21 } : Room) s m args below meth c H locs 0 0 Q (F0 m 63 ls []) := by
  obtain ⟨hx, hb, hr, hlocks, hml, hown, hts, hK, hA⟩ := id X
  intro k
  induction k with
  | zero =>
    intro i hi hk
    exact absurd hk (by omega)
  | succ k ih =>
    intro i hi hk H locs ls hP hD hS hl
    refine lv_iload hx hb dX1_stretch_63 (lv_at hl 3 rfl) ?_
    refine lv_iload hx hb dX1_stretch_65 (lv_at hl 1 rfl) ?_
    refine xr_ge (tgt := 120) hx hb (by omega) (by omega) dX1_stretch_67 (by decide) (fun h => ?_) (fun h => ?_)
    · obtain rfl : i = f1 := by omega
      exact kk _ _ _ hP hD hS hl
    · refine lv_iload hx hb dX1_stretch_70 (lv_at hl 2 rfl) ?_
      refine lv_if_lt (tgt := 114) hx hb dX1_stretch_72 (by decide) (fun h2 => ?_) (fun h2 => ?_)
      · refine lv_iinc (v := nI (i + 1)) (lv' := [(7, .int (nI (i + 1))), (0, .ref (q 0)), (5, .int (nI f1)), (6, .int (-4))]) hx hb dX1_stretch_114 hl (k := 3) rfl (nI_1 _) (by decide) rfl (fun ls hl => ?_)
        refine lv_goto (tgt := 63) hx hb dX1_stretch_117 (by decide) ?_
        exact ih (i + 1) (by omega) (by omega) _ _ _ hP hD hS (lv_sub hl [1, 2, 3, 0] rfl)
      · exact absurd (show (-4 : Int32) < 0 by decide +kernel) h2
set_option maxHeartbeats 4000000 in
set_option maxRecDepth 100000 in
/-- stretch(span, bits, trust) -/
theorem mM_stretch (l : Launch) (dC : Nat → ClassId) (dI : Nat → Nat → Nat) (d : ClassId) (q : Nat → Nat) (sz : Nat) (n : Nat) (tr va : Nat → Nat) (sp bits tu : Int32) (hn : n ≤ 8) : xMi l dC dI d sz yX1_stretch cX1_stretch 8 (some .int) ({ frames := 1, cells := 0, slots := 0, locals := 21 } : Room) [.ref (q 0), .int sp, .int bits, .int tu] (MW q d (nI n) (nF va) (nF tr)) (fun r (u : Nat × (Nat → Nat) × (Nat → Nat)) => (r, u.1, u.2.1, u.2.2) = ph_sx n tr va sp bits tu) (fun u => MW q d (nI u.1) (nF u.2.2) (nF u.2.1)) := by
  refine xM_i (by decide +kernel) (Nat.le_of_ble_eq_true rfl) ?_
  intro p e s m below meth c A ls X hP hD hS hl
  have X : xC cX1_stretch 8 (some .int) RX1 p s m meth c _ dC dI d A := X
  obtain ⟨hx, hb, hr, hlocks, hml, hown, hts, hK, hA⟩ := id X
  have hl : lv_has ls 8 [(0, .ref (q 0)), (1, .int sp), (2, .int bits), (3, .int tu)] := hl
  have b0 := ph_s0_lt sp
  have b1 := ph_s1_lt sp
  refine lv_iload_n hx hb dX1_stretch_0 rfl (lv_at hl 1 rfl) ?_
  refine lv_bipush (v := nI 7) hx hb dX1_stretch_1 (by decide +kernel) ?_
  refine lv_iand hx hb dX1_stretch_3 ?_
  refine xr_v (y := nI (ph_s0 sp)) (ph_s0_and sp) ?_
  refine lv_istore (lv' := [(4, .int (nI (ph_s0 sp))), (0, .ref (q 0)), (1, .int sp), (2, .int bits), (3, .int tu)]) hx hb dX1_stretch_4 hl (by decide) rfl (fun ls hl => ?_)
  refine lv_iload_n hx hb dX1_stretch_6 rfl (lv_at hl 2 rfl) ?_
  refine lv_iconst (v := nI 3) hx hb dX1_stretch_7 (by decide +kernel) ?_
  refine lv_ishr hx hb dX1_stretch_8 ?_
  refine lv_bipush (v := nI 15) hx hb dX1_stretch_9 (by decide +kernel) ?_
  refine lv_iand hx hb dX1_stretch_11 ?_
  refine xr_v (y := nI (ph_s1 sp)) (ph_s1_and sp) ?_
  refine lv_istore (lv' := [(5, .int (nI (ph_s1 sp))), (4, .int (nI (ph_s0 sp))), (0, .ref (q 0)), (1, .int sp), (2, .int bits), (3, .int tu)]) hx hb dX1_stretch_12 hl (by decide) rfl (fun ls hl => ?_)
  refine lv_iload hx hb dX1_stretch_14 (lv_at hl 0 rfl) ?_
  refine lv_iconst (v := nI 1) hx hb dX1_stretch_16 (by decide +kernel) ?_
  refine xr_lt (tgt := 37) hx hb (by omega) (by omega) dX1_stretch_17 (by decide) (fun h1 => ?_) (fun h1 => ?_)
  · refine lv_bipush (v := (-2)) hx hb dX1_stretch_37 (by decide +kernel) ?_
    exact xret_i X (n, tr, va) hP hD hS (by unfold ph_sx; rw [if_pos (Or.inl h1)]) dX1_stretch_39
  · refine lv_iload hx hb dX1_stretch_20 (lv_at hl 0 rfl) ?_
    refine lv_bipush (v := nI 8) hx hb dX1_stretch_22 (by decide +kernel) ?_
    refine xr_gt (tgt := 37) hx hb (by omega) (by omega) dX1_stretch_24 (by decide) (fun h2 => ?_) (fun h2 => ?_)
    · refine lv_bipush (v := (-2)) hx hb dX1_stretch_37 (by decide +kernel) ?_
      exact xret_i X (n, tr, va) hP hD hS (by unfold ph_sx; rw [if_pos (Or.inr (Or.inl h2))]) dX1_stretch_39
    · refine lv_iload hx hb dX1_stretch_27 (lv_at hl 1 rfl) ?_
      refine lv_iload hx hb dX1_stretch_29 (lv_at hl 0 rfl) ?_
      refine xr_add hx hb dX1_stretch_31 ?_
      refine lv_bipush (v := nI 8) hx hb dX1_stretch_32 (by decide +kernel) ?_
      refine xr_le (tgt := 40) hx hb (by omega) (by omega) dX1_stretch_34 (by decide) (fun h3 => ?_) (fun h3 => ?_)
      · have h123 : ¬ (ph_s1 sp < 1 ∨ 8 < ph_s1 sp ∨ 8 < ph_s0 sp + ph_s1 sp) := by omega
        refine lv_iload_n hx hb dX1_stretch_40 rfl (lv_at hl 5 rfl) ?_
        refine lv_iconst (v := nI 1) hx hb dX1_stretch_41 (by decide +kernel) ?_
        refine lv_icmp_lt (tgt := 51) hx hb dX1_stretch_42 (by decide) (fun h4 => ?_) (fun h4 => ?_)
        · refine lv_bipush (v := (-3)) hx hb dX1_stretch_51 (by decide +kernel) ?_
          exact xret_i X (n, tr, va) hP hD hS (by unfold ph_sx; rw [if_neg h123, if_pos (Or.inl h4)]) dX1_stretch_53
        · refine lv_iload_n hx hb dX1_stretch_45 rfl (lv_at hl 5 rfl) ?_
          refine lv_bipush (v := nI 9) hx hb dX1_stretch_46 (by decide +kernel) ?_
          refine lv_icmp_le (tgt := 54) hx hb dX1_stretch_48 (by decide) (fun h5 => ?_) (fun h5 => ?_)
          · have h45 : ¬ (tu < nI 1 ∨ nI 9 < tu) := fun z => z.elim h4 (fun z => Int32.not_lt.mpr h5 z)
            obtain ⟨t, ht2, rfl⟩ := nI_of (fun z => h4 (Int32.lt_of_lt_of_le z (show (0 : Int32) ≤ nI 1 by decide +kernel)))
            have ht9 : t ≤ 9 := (nI_leI ht2 (by decide)).mp h5
            refine lv_aload_n hx hb dX1_stretch_54 rfl (lv_at hl 2 rfl) ?_
            refine xcall_i (q0 := 0) (ci := 1) (As := []) (rest := []) X hP hD hS hl (mM_read l dC dI d q _ n tr va hn) (cwV 0 hts (lw_V q194 q179 q180 q20 q181) rfl rfl rfl (by decide +kernel) ⟨Nat.le_of_ble_eq_true rfl, Nat.le_of_ble_eq_true rfl⟩) rfl rfl rfl rfl (Nat.le_of_ble_eq_true rfl) dX1_stretch_55 ⟨Nat.zero_le _, Nat.zero_le _⟩ (fun r u H locs hw hP hD hS => ?_)
            obtain ⟨n2, tr2⟩ := u
            have hP : va_P (dC, dI) cls2 (MW q d (nI n2) (nF va) (nF tr2)) H := hP
            have hD : va_D A (MW q d (nI n2) (nF va) (nF tr2)) := hD
            dsimp only at hw
            unfold ph_rd at hw
            by_cases h8 : n < 8
            · rw [if_pos h8] at hw
              injection hw with e1 e2
              injection e2 with e2 e3
              have e2 := e2.symm
              have e3 := e3.symm
              subst e1
              subst e2
              subst e3
              have hP : va_P (dC, dI) cls2 (MW q d (nI (n + 1)) (nF va) (nF (ph_cl tr (n * 8) 8))) H := hP
              have hD : va_D A (MW q d (nI (n + 1)) (nF va) (nF (ph_cl tr (n * 8) 8))) := hD
              refine lv_istore (lv' := [(6, .int (nI n)), (5, .int (nI (ph_s1 sp))), (4, .int (nI (ph_s0 sp))), (0, .ref (q 0)), (1, .int sp), (2, .int bits), (3, .int (nI t))]) hx hb dX1_stretch_58 hl (by decide) rfl (fun ls hl => ?_)
              refine lv_iconst (v := nI 0) hx hb dX1_stretch_60 (by decide +kernel) ?_
              refine lv_istore (lv' := [(7, .int (nI 0)), (6, .int (nI n)), (5, .int (nI (ph_s1 sp))), (4, .int (nI (ph_s0 sp))), (0, .ref (q 0)), (1, .int sp), (2, .int bits), (3, .int (nI t))]) hx hb dX1_stretch_61 hl (by decide) rfl (fun ls hl => ?_)
              exact lM_stretch X n t (ph_s0 sp) (ph_s1 sp) bits (ph_cl tr (n * 8) 8) va h8 ht9 (by omega) (fun H locs ls hP hD hS hl => by
        refine lv_iload hx hb dX1_stretch_120 (lv_at hl 5 rfl) ?_
        exact xret_i X (n + 1, ph_wr (ph_cl tr (n * 8) 8) (n * 8 + ph_s0 sp) (fun _ => t) (ph_s1 sp), ph_wr va (n * 8 + ph_s0 sp) (ph_bi bits) (ph_s1 sp)) hP hD hS (by unfold ph_sx; rw [if_neg h123, if_neg h45, if_pos h8, nI_clamp (by omega)]) dX1_stretch_122) (ph_s1 sp + 1) 0 (by omega) (by omega) _ _ _ hP hD hS (lv_sub hl [4, 6, 7, 3, 2, 1, 0] rfl)
            · rw [if_neg h8] at hw
              injection hw with e1 e2
              injection e2 with e2 e3
              have e2 := e2.symm
              have e3 := e3.symm
              subst e1
              subst e2
              subst e3
              have hP : va_P (dC, dI) cls2 (MW q d (nI n) (nF va) (nF tr)) H := hP
              have hD : va_D A (MW q d (nI n) (nF va) (nF tr)) := hD
              refine lv_istore (lv' := [(6, .int (-4)), (5, .int (nI (ph_s1 sp))), (4, .int (nI (ph_s0 sp))), (0, .ref (q 0)), (1, .int sp), (2, .int bits), (3, .int (nI t))]) hx hb dX1_stretch_58 hl (by decide) rfl (fun ls hl => ?_)
              refine lv_iconst (v := nI 0) hx hb dX1_stretch_60 (by decide +kernel) ?_
              refine lv_istore (lv' := [(7, .int (nI 0)), (6, .int (-4)), (5, .int (nI (ph_s1 sp))), (4, .int (nI (ph_s0 sp))), (0, .ref (q 0)), (1, .int sp), (2, .int bits), (3, .int (nI t))]) hx hb dX1_stretch_61 hl (by decide) rfl (fun ls hl => ?_)
              exact lM_stretchF X n (ph_s1 sp) tr va b1 (fun H locs ls hP hD hS hl => by
        refine lv_iload hx hb dX1_stretch_120 (lv_at hl 2 rfl) ?_
        exact xret_i X (n, tr, va) hP hD hS (by unfold ph_sx; rw [if_neg h123, if_neg h45, if_neg h8]) dX1_stretch_122) (ph_s1 sp + 1) 0 (by omega) (by omega) _ _ _ hP hD hS (lv_sub hl [4, 2, 1, 0] rfl)
          · refine lv_bipush (v := (-3)) hx hb dX1_stretch_51 (by decide +kernel) ?_
            exact xret_i X (n, tr, va) hP hD hS (by unfold ph_sx; rw [if_neg h123, if_pos (Or.inr (Int32.not_le.mp h5))]) dX1_stretch_53
      · refine lv_bipush (v := (-2)) hx hb dX1_stretch_37 (by decide +kernel) ?_
        exact xret_i X (n, tr, va) hP hD hS (by unfold ph_sx; rw [if_pos (Or.inr (Or.inr h3))]) dX1_stretch_39
set_option maxHeartbeats 4000000 in
set_option maxRecDepth 100000 in
theorem lM_cover {p : Program} {l : Launch} {e : Env} {s : State} {m : MethodId} {args : Array Value} {below : List Frame} {meth : Method} {c : Code} {dC : Nat → ClassId} {dI : Nat → Nat → Nat} {d : ClassId} {A : Nat → Prop} {Q : State → Prop} {q : Nat → Nat} (X : xC cX1_cover 4 (some .int) RX1 p s m meth c args dC dI d A) (n st : Nat) (tr : Nat → Nat) {V : Nat → Int32} (hn : n ≤ 8) (hst : st < 8) (htr : ∀ i, tr i ≤ 9)
    (kk : ∀ (H : Heap) (locs : List Loc) (ls : Array Slot), va_P (dC, dI) cls2 (MW q d (nI n) V (nF tr)) H → va_D A (MW q d (nI n) V (nF tr)) → va_S A s.heap H locs → lv_has ls 4 [(0, .ref (q 0)), (1, .int (nI st)), (2, .int (nI (ph_cv tr st n))), (3, .int (nI n))] → W p l e ({ frames := 0, cells := 0, slots := 0, locals := 0 } : Room) s m args below meth c H locs 0 0 Q (F0 m 48 ls [])) :
    ∀ (k : Nat) (r : Nat), r ≤ n → n < r + k → ∀ (H : Heap) (locs : List Loc) (ls : Array Slot), va_P (dC, dI) cls2 (MW q d (nI n) V (nF tr)) H → va_D A (MW q d (nI n) V (nF tr)) → va_S A s.heap H locs → lv_has ls 4 [(0, .ref (q 0)), (1, .int (nI st)), (2, .int (nI (ph_cv tr st r))), (3, .int (nI r))] → W p l e ({ frames := 0, cells := 0, slots := 0, locals := 0 } : Room) s m args below meth c H locs 0 0 Q (F0 m 17 ls []) := by
  obtain ⟨hx, hb, hr, hlocks, hml, hown, hts, hK, hA⟩ := id X
  intro k
  induction k with
  | zero =>
    intro r hr0 hk
    exact absurd hk (by omega)
  | succ k ih =>
    intro r hr0 hk H locs ls hP hD hS hl
    have hc := ph_cv_le tr st r
    refine lv_iload_n hx hb dX1_cover_17 rfl (lv_at hl 3 rfl) ?_
    refine lv_aload_n hx hb dX1_cover_18 rfl (lv_at hl 0 rfl) ?_
    refine va_get (D := (dC, dI)) (ci := 1) (v := .int (nI n)) (C := RX1) (T := TX1) (N := 3) hx hb hts in_X1 hown hK hP 0 rfl rfl 0 (by decide) (hts _ q168) (fun _ h9 => h9) rfl dX1_cover_19 ?_
    refine xr_ge (tgt := 48) hx hb (by omega) (by omega) dX1_cover_22 (by decide) (fun h => ?_) (fun h => ?_)
    · obtain rfl : r = n := by omega
      exact kk _ _ _ hP hD hS hl
    · have ht9 := htr (r * 8 + st)
      refine lv_aload_n hx hb dX1_cover_25 rfl (lv_at hl 0 rfl) ?_
      refine va_get (D := (dC, dI)) (ci := 1) (v := .ref (q 2)) (C := RX1) (T := TX1) (N := 3) hx hb hts in_X1 hown hK hP 0 rfl rfl 2 (by decide) (hts _ q170) (fun _ h9 => h9) rfl dX1_cover_26 ?_
      refine lv_iload_n hx hb dX1_cover_29 rfl (lv_at hl 3 rfl) ?_
      refine lv_bipush (v := nI 8) hx hb dX1_cover_30 (by decide +kernel) ?_
      refine xr_mul hx hb dX1_cover_32 ?_
      refine lv_iload_n hx hb dX1_cover_33 rfl (lv_at hl 1 rfl) ?_
      refine xr_add hx hb dX1_cover_34 ?_
      refine xr_ld (v := nI (tr ((r * 8) + st))) hx hb hK hP 2 0 rfl rfl (by omega) (by decide) rfl dX1_cover_35 ?_
      refine xr_ifle (tgt := 42) hx hb (by omega) dX1_cover_36 (by decide) (fun h2 => ?_) (fun h2 => ?_)
      · have e : ph_cv tr st (r + 1) = ph_cv tr st r := by simp [ph_cv, ph_sm, h2]
        refine lv_iinc (v := nI (r + 1)) (lv' := [(3, .int (nI (r + 1))), (0, .ref (q 0)), (1, .int (nI st)), (2, .int (nI (ph_cv tr st r)))]) hx hb dX1_cover_42 hl (k := 3) rfl (nI_1 _) (by decide) rfl (fun ls hl => ?_)
        refine lv_goto (tgt := 17) hx hb dX1_cover_45 (by decide) ?_
        exact ih (r + 1) (by omega) (by omega) _ _ _ hP hD hS (by rw [e]; exact (lv_sub hl [1, 2, 3, 0] rfl))
      · have e : ph_cv tr st (r + 1) = ph_cv tr st r + 1 := by simp [ph_cv, ph_sm, h2]
        refine lv_iinc (v := nI ((ph_cv tr st r) + 1)) (lv' := [(2, .int (nI ((ph_cv tr st r) + 1))), (0, .ref (q 0)), (1, .int (nI st)), (3, .int (nI r))]) hx hb dX1_cover_39 hl (k := 2) rfl (nI_1 _) (by decide) rfl (fun ls hl => ?_)
        refine lv_iinc (v := nI (r + 1)) (lv' := [(3, .int (nI (r + 1))), (2, .int (nI ((ph_cv tr st r) + 1))), (0, .ref (q 0)), (1, .int (nI st))]) hx hb dX1_cover_42 hl (k := 3) rfl (nI_1 _) (by decide) rfl (fun ls hl => ?_)
        refine lv_goto (tgt := 17) hx hb dX1_cover_45 (by decide) ?_
        exact ih (r + 1) (by omega) (by omega) _ _ _ hP hD hS (by rw [e]; exact (lv_sub hl [2, 3, 1, 0] rfl))
set_option maxHeartbeats 4000000 in
set_option maxRecDepth 100000 in
/-- cover(site) -/
theorem mM_cover (l : Launch) (dC : Nat → ClassId) (dI : Nat → Nat → Nat) (d : ClassId) (q : Nat → Nat) (sz : Nat) (n : Nat) (tr : Nat → Nat) (V : Nat → Int32) (st : Int32) (hn : n ≤ 8) (htr : ∀ i, tr i ≤ 9) : xMi l dC dI d sz yX1_cover cX1_cover 4 (some .int) ({ frames := 0, cells := 0, slots := 0, locals := 0 } : Room) [.ref (q 0), .int st] (MW q d (nI n) V (nF tr)) (fun r (_ : Unit) => r = ph_cx tr n st) (fun _ => MW q d (nI n) V (nF tr)) := by
  refine xM_i (by decide +kernel) (Nat.le_of_ble_eq_true rfl) ?_
  intro p e s m below meth c A ls X hP hD hS hl
  have X : xC cX1_cover 4 (some .int) RX1 p s m meth c _ dC dI d A := X
  obtain ⟨hx, hb, hr, hlocks, hml, hown, hts, hK, hA⟩ := id X
  have hl : lv_has ls 4 [(0, .ref (q 0)), (1, .int st)] := hl
  refine lv_iload_n hx hb dX1_cover_0 rfl (lv_at hl 1 rfl) ?_
  refine lv_if_lt (tgt := 10) hx hb dX1_cover_1 (by decide) (fun h2 => ?_) (fun h2 => ?_)
  · refine lv_bipush (v := (-2)) hx hb dX1_cover_10 (by decide +kernel) ?_
    exact xret_i X () hP hD hS (by unfold ph_cx; rw [if_pos (Or.inl h2)]) dX1_cover_12
  · refine lv_iload_n hx hb dX1_cover_4 rfl (lv_at hl 1 rfl) ?_
    refine lv_bipush (v := nI 7) hx hb dX1_cover_5 (by decide +kernel) ?_
    refine lv_icmp_le (tgt := 13) hx hb dX1_cover_7 (by decide) (fun h3 => ?_) (fun h3 => ?_)
    · have h23 : ¬ (st < 0 ∨ nI 8 ≤ st) := fun z => z.elim h2 (fun z => (ph_78 st).mp z h3)
      obtain ⟨kn, hk2, rfl⟩ := nI_of h2
      have hkn : kn < 8 := Nat.lt_succ_of_le ((nI_leI hk2 (by decide)).mp h3)
      refine lv_iconst (v := nI 0) hx hb dX1_cover_13 (by decide +kernel) ?_
      refine lv_istore_n (lv' := [(2, .int (nI 0)), (0, .ref (q 0)), (1, .int (nI kn))]) hx hb dX1_cover_14 rfl hl (by decide) rfl (fun ls hl => ?_)
      refine lv_iconst (v := nI 0) hx hb dX1_cover_15 (by decide +kernel) ?_
      refine lv_istore_n (lv' := [(3, .int (nI 0)), (2, .int (nI 0)), (0, .ref (q 0)), (1, .int (nI kn))]) hx hb dX1_cover_16 rfl hl (by decide) rfl (fun ls hl => ?_)
      exact lM_cover X n kn tr hn hkn htr (fun H locs ls hP hD hS hl => by
      refine lv_iload_n hx hb dX1_cover_48 rfl (lv_at hl 2 rfl) ?_
      exact xret_i X () hP hD hS (by unfold ph_cx; rw [if_neg h23, nI_clamp hk2]) dX1_cover_49) (n + 1) 0 (by omega) (by omega) _ _ _ hP hD hS (lv_sub hl [2, 3, 1, 0] rfl)
    · refine lv_bipush (v := (-2)) hx hb dX1_cover_10 (by decide +kernel) ?_
      exact xret_i X () hP hD hS (by unfold ph_cx; rw [if_pos (Or.inr ((ph_78 st).mpr h3))]) dX1_cover_12
end
section
/-! ReadPhaserModel: contracts (printed by gen_x1.py) -/
set_option maxHeartbeats 4000000 in
set_option maxRecDepth 100000 in
/-- smaller(a, b) -/
theorem mM_smaller (l : Launch) (dC : Nat → ClassId) (dI : Nat → Nat → Nat) (d : ClassId) (q : Nat → Nat) (sz : Nat) (R : Int32) (V T : Nat → Int32) (a b : Nat) (ha : a < 2 ^ 31) (hb2 : b < 2 ^ 31) : xMi l dC dI d sz yX1_smaller cX1_smaller 3 (some .int) ({ frames := 0, cells := 0, slots := 0, locals := 0 } : Room) [.ref (q 0), .int (nI a), .int (nI b)] (MW q d R V T) (fun r (_ : Unit) => r = nI (min a b)) (fun _ => MW q d R V T) := by
  refine xM_i (by decide +kernel) (Nat.le_of_ble_eq_true rfl) ?_
  intro p e s m below meth c A ls X hP hD hS hl
  have X : xC cX1_smaller 3 (some .int) RX1 p s m meth c _ dC dI d A := X
  obtain ⟨hx, hb, hr, hlocks, hml, hown, hts, hK, hA⟩ := id X
  have hl : lv_has ls 3 [(0, .ref (q 0)), (1, .int (nI a)), (2, .int (nI b))] := hl
  refine lv_iload_n hx hb dX1_smaller_0 rfl (lv_at hl 1 rfl) ?_
  refine lv_iload_n hx hb dX1_smaller_1 rfl (lv_at hl 2 rfl) ?_
  refine xr_ge (tgt := 9) hx hb (by omega) (by omega) dX1_smaller_2 (by decide) (fun h => ?_) (fun h => ?_)
  · refine lv_iload_n hx hb dX1_smaller_9 rfl (lv_at hl 2 rfl) ?_
    exact xret_i X () hP hD hS (by rw [Nat.min_eq_right h]) dX1_smaller_10
  · refine lv_iload_n hx hb dX1_smaller_5 rfl (lv_at hl 1 rfl) ?_
    refine lv_goto (tgt := 10) hx hb dX1_smaller_6 (by decide) ?_
    exact xret_i X () hP hD hS (by rw [Nat.min_eq_left (Nat.le_of_lt h)]) dX1_smaller_10
set_option maxHeartbeats 4000000 in
set_option maxRecDepth 100000 in
theorem lM_trust {p : Program} {l : Launch} {e : Env} {s : State} {m : MethodId} {args : Array Value} {below : List Frame} {meth : Method} {c : Code} {dC : Nat → ClassId} {dI : Nat → Nat → Nat} {d : ClassId} {A : Nat → Prop} {Q : State → Prop} {q : Nat → Nat} (X : xC cX1_trust 8 (some .int) RX1 p s m meth c args dC dI d A) (n mk st v : Nat) (sb : Bool) (tr va : Nat → Nat) (hn : n ≤ 8) (hmk : mk < 256) (hst : st < 8) (hv : v ≤ 1) (hva : ∀ i, va i ≤ 1) (htr : ∀ i, tr i ≤ 9)
    (kk : ∀ (H : Heap) (locs : List Loc) (ls : Array Slot), va_P (dC, dI) cls2 (MW q d (nI n) (nF va) (nF tr)) H → va_D A (MW q d (nI n) (nF va) (nF tr)) → va_S A s.heap H locs → lv_has ls 8 [(0, .ref (q 0)), (1, .int (nI mk)), (2, .int (nI sb.toNat)), (3, .int (nI st)), (4, .int (nI v)), (5, .int (nI (ph_w tr va n st mk (fun _ => true) sb v))), (6, .int (nI n))] → W p l e ({ frames := 0, cells := 0, slots := 0, locals := 0 } : Room) s m args below meth c H locs 0 0 Q (F0 m 64 ls [])) :
    ∀ (k : Nat) (r : Nat), r ≤ n → n < r + k → ∀ (H : Heap) (locs : List Loc) (ls : Array Slot), va_P (dC, dI) cls2 (MW q d (nI n) (nF va) (nF tr)) H → va_D A (MW q d (nI n) (nF va) (nF tr)) → va_S A s.heap H locs → lv_has ls 8 [(0, .ref (q 0)), (1, .int (nI mk)), (2, .int (nI sb.toNat)), (3, .int (nI st)), (4, .int (nI v)), (5, .int (nI (ph_w tr va r st mk (fun _ => true) sb v))), (6, .int (nI r))] → W p l e ({ frames := 0, cells := 0, slots := 0, locals := 0 } : Room) s m args below meth c H locs 0 0 Q (F0 m 6 ls []) := by
  obtain ⟨hx, hb, hr, hlocks, hml, hown, hts, hK, hA⟩ := id X
  intro k
  induction k with
  | zero =>
    intro r hr0 hk
    exact absurd hk (by omega)
  | succ k ih =>
    intro r hr0 hk H locs ls hP hD hS hl
    refine lv_iload hx hb dX1_trust_6 (lv_at hl 6 rfl) ?_
    refine lv_aload_n hx hb dX1_trust_8 rfl (lv_at hl 0 rfl) ?_
    refine va_get (D := (dC, dI)) (ci := 1) (v := .int (nI n)) (C := RX1) (T := TX1) (N := 3) hx hb hts in_X1 hown hK hP 0 rfl rfl 0 (by decide) (hts _ q168) (fun _ h9 => h9) rfl dX1_trust_9 ?_
    refine xr_ge (tgt := 64) hx hb (by omega) (by omega) dX1_trust_12 (by decide) (fun h => ?_) (fun h => ?_)
    · obtain rfl : r = n := by omega
      exact kk _ _ _ hP hD hS hl
    · have hv2 := hva (r * 8 + st)
      have ht9 := htr (r * 8 + st)
      refine lv_iload hx hb dX1_trust_15 (lv_at hl 6 rfl) ?_
      refine lv_bipush (v := nI 8) hx hb dX1_trust_17 (by decide +kernel) ?_
      refine xr_mul hx hb dX1_trust_19 ?_
      refine lv_iload_n hx hb dX1_trust_20 rfl (lv_at hl 3 rfl) ?_
      refine xr_add hx hb dX1_trust_21 ?_
      refine lv_istore (lv' := [(7, .int (nI ((r * 8) + st))), (0, .ref (q 0)), (1, .int (nI mk)), (2, .int (nI sb.toNat)), (3, .int (nI st)), (4, .int (nI v)), (5, .int (nI (ph_w tr va r st mk (fun _ => true) sb v))), (6, .int (nI r))]) hx hb dX1_trust_22 hl (by decide) rfl (fun ls hl => ?_)
      refine lv_iload_n hx hb dX1_trust_24 rfl (lv_at hl 2 rfl) ?_
      refine lv_iload hx hb dX1_trust_25 (lv_at hl 7 rfl) ?_
      refine lv_ishr hx hb dX1_trust_27 ?_
      refine lv_iconst (v := nI 1) hx hb dX1_trust_28 (by decide +kernel) ?_
      refine xr_bit hx hb (by omega) (by omega) dX1_trust_29 ?_
      refine lv_iload_n hx hb dX1_trust_30 rfl (lv_at hl 3 rfl) ?_
      refine xr_bne (tgt := 58) hx hb dX1_trust_31 (by decide) (fun h2 => ?_) (fun h2 => ?_)
      · have e : ph_w tr va (r + 1) st mk (fun _ => true) sb v = ph_w tr va r st mk (fun _ => true) sb v := by simp [ph_w, ph_sm, h2]
        refine lv_iinc (v := nI (r + 1)) (lv' := [(6, .int (nI (r + 1))), (7, .int (nI ((r * 8) + st))), (0, .ref (q 0)), (1, .int (nI mk)), (2, .int (nI sb.toNat)), (3, .int (nI st)), (4, .int (nI v)), (5, .int (nI (ph_w tr va r st mk (fun _ => true) sb v)))]) hx hb dX1_trust_58 hl (k := 7) rfl (nI_1 _) (by decide) rfl (fun ls hl => ?_)
        refine lv_goto (tgt := 6) hx hb dX1_trust_61 (by decide) ?_
        exact ih (r + 1) (by omega) (by omega) _ _ _ hP hD hS (by rw [e]; exact (lv_sub hl [2, 3, 4, 5, 6, 7, 0] rfl))
      · refine lv_aload_n hx hb dX1_trust_34 rfl (lv_at hl 1 rfl) ?_
        refine va_get (D := (dC, dI)) (ci := 1) (v := .ref (q 1)) (C := RX1) (T := TX1) (N := 3) hx hb hts in_X1 hown hK hP 0 rfl rfl 1 (by decide) (hts _ q169) (fun _ h9 => h9) rfl dX1_trust_35 ?_
        refine lv_iload hx hb dX1_trust_38 (lv_at hl 0 rfl) ?_
        refine xr_ld (v := nI (va ((r * 8) + st))) hx hb hK hP 1 0 rfl rfl (by omega) (by decide) rfl dX1_trust_40 ?_
        refine lv_iload hx hb dX1_trust_41 (lv_at hl 5 rfl) ?_
        refine xr_ne (tgt := 58) hx hb (by omega) (by omega) dX1_trust_43 (by decide) (fun h3 => ?_) (fun h3 => ?_)
        · have e : ph_w tr va (r + 1) st mk (fun _ => true) sb v = ph_w tr va r st mk (fun _ => true) sb v := by simp [ph_w, ph_sm, h3]
          refine lv_iinc (v := nI (r + 1)) (lv' := [(6, .int (nI (r + 1))), (7, .int (nI ((r * 8) + st))), (0, .ref (q 0)), (1, .int (nI mk)), (2, .int (nI sb.toNat)), (3, .int (nI st)), (4, .int (nI v)), (5, .int (nI (ph_w tr va r st mk (fun _ => true) sb v)))]) hx hb dX1_trust_58 hl (k := 7) rfl (nI_1 _) (by decide) rfl (fun ls hl => ?_)
          refine lv_goto (tgt := 6) hx hb dX1_trust_61 (by decide) ?_
          exact ih (r + 1) (by omega) (by omega) _ _ _ hP hD hS (by rw [e]; exact (lv_sub hl [2, 3, 4, 5, 6, 7, 0] rfl))
        · have e : ph_w tr va (r + 1) st mk (fun _ => true) sb v = ph_w tr va r st mk (fun _ => true) sb v + tr (r * 8 + st) := by simp [ph_w, ph_sm, h2, h3]
          refine lv_iload hx hb dX1_trust_46 (lv_at hl 6 rfl) ?_
          refine lv_aload_n hx hb dX1_trust_48 rfl (lv_at hl 1 rfl) ?_
          refine va_get (D := (dC, dI)) (ci := 1) (v := .ref (q 2)) (C := RX1) (T := TX1) (N := 3) hx hb hts in_X1 hown hK hP 0 rfl rfl 2 (by decide) (hts _ q170) (fun _ h9 => h9) rfl dX1_trust_49 ?_
          refine lv_iload hx hb dX1_trust_52 (lv_at hl 0 rfl) ?_
          refine xr_ld (v := nI (tr ((r * 8) + st))) hx hb hK hP 2 0 rfl rfl (by omega) (by decide) rfl dX1_trust_54 ?_
          refine xr_add hx hb dX1_trust_55 ?_
          refine lv_istore (lv' := [(5, .int (nI ((ph_w tr va r st mk (fun _ => true) sb v) + (tr ((r * 8) + st))))), (7, .int (nI ((r * 8) + st))), (0, .ref (q 0)), (1, .int (nI mk)), (2, .int (nI sb.toNat)), (3, .int (nI st)), (4, .int (nI v)), (6, .int (nI r))]) hx hb dX1_trust_56 hl (by decide) rfl (fun ls hl => ?_)
          refine lv_iinc (v := nI (r + 1)) (lv' := [(6, .int (nI (r + 1))), (5, .int (nI ((ph_w tr va r st mk (fun _ => true) sb v) + (tr ((r * 8) + st))))), (7, .int (nI ((r * 8) + st))), (0, .ref (q 0)), (1, .int (nI mk)), (2, .int (nI sb.toNat)), (3, .int (nI st)), (4, .int (nI v))]) hx hb dX1_trust_58 hl (k := 7) rfl (nI_1 _) (by decide) rfl (fun ls hl => ?_)
          refine lv_goto (tgt := 6) hx hb dX1_trust_61 (by decide) ?_
          exact ih (r + 1) (by omega) (by omega) _ _ _ hP hD hS (by rw [e]; exact (lv_sub hl [3, 4, 5, 6, 7, 1, 0] rfl))
set_option maxHeartbeats 4000000 in
set_option maxRecDepth 100000 in
/-- trust(mask, strand, site, value) -/
theorem mM_trust (l : Launch) (dC : Nat → ClassId) (dI : Nat → Nat → Nat) (d : ClassId) (q : Nat → Nat) (sz : Nat) (n mk st v : Nat) (sb : Bool) (tr va : Nat → Nat) (hn : n ≤ 8) (hmk : mk < 256) (hst : st < 8) (hv : v ≤ 1) (hva : ∀ i, va i ≤ 1) (htr : ∀ i, tr i ≤ 9) : xMi l dC dI d sz yX1_trust cX1_trust 8 (some .int) ({ frames := 0, cells := 0, slots := 0, locals := 0 } : Room) [.ref (q 0), .int (nI mk), .int (nI sb.toNat), .int (nI st), .int (nI v)] (MW q d (nI n) (nF va) (nF tr)) (fun r (_ : Unit) => r = nI (ph_w tr va n st mk (fun _ => true) sb v)) (fun _ => MW q d (nI n) (nF va) (nF tr)) := by
  refine xM_i (by decide +kernel) (Nat.le_of_ble_eq_true rfl) ?_
  intro p e s m below meth c A ls X hP hD hS hl
  have X : xC cX1_trust 8 (some .int) RX1 p s m meth c _ dC dI d A := X
  obtain ⟨hx, hb, hr, hlocks, hml, hown, hts, hK, hA⟩ := id X
  have hl : lv_has ls 8 [(0, .ref (q 0)), (1, .int (nI mk)), (2, .int (nI sb.toNat)), (3, .int (nI st)), (4, .int (nI v))] := hl
  refine lv_iconst (v := nI 0) hx hb dX1_trust_0 (by decide +kernel) ?_
  refine lv_istore (lv' := [(5, .int (nI 0)), (0, .ref (q 0)), (1, .int (nI mk)), (2, .int (nI sb.toNat)), (3, .int (nI st)), (4, .int (nI v))]) hx hb dX1_trust_1 hl (by decide) rfl (fun ls hl => ?_)
  refine lv_iconst (v := nI 0) hx hb dX1_trust_3 (by decide +kernel) ?_
  refine lv_istore (lv' := [(6, .int (nI 0)), (5, .int (nI 0)), (0, .ref (q 0)), (1, .int (nI mk)), (2, .int (nI sb.toNat)), (3, .int (nI st)), (4, .int (nI v))]) hx hb dX1_trust_4 hl (by decide) rfl (fun ls hl => ?_)
  exact lM_trust X n mk st v sb tr va hn hmk hst hv hva htr (fun H locs ls hP hD hS hl => by
      refine lv_iload hx hb dX1_trust_64 (lv_at hl 5 rfl) ?_
      exact xret_i X () hP hD hS rfl dX1_trust_66) (n + 1) 0 (by omega) (by omega) _ _ _ hP hD hS (lv_sub hl [2, 3, 4, 5, 6, 1, 0] rfl)
set_option maxHeartbeats 4000000 in
set_option maxRecDepth 100000 in
theorem lM_cost {p : Program} {l : Launch} {e : Env} {s : State} {m : MethodId} {args : Array Value} {below : List Frame} {meth : Method} {c : Code} {dC : Nat → ClassId} {dI : Nat → Nat → Nat} {d : ClassId} {A : Nat → Prop} {Q : State → Prop} {q : Nat → Nat} (X : xC cX1_cost 10 (some .int) RX1 p s m meth c args dC dI d A) (n mk : Nat) (fb : Bool) (tr va : Nat → Nat) (hn : n ≤ 8) (hmk : mk < 256) (hva : ∀ i, va i ≤ 1) (htr : ∀ i, tr i ≤ 9)
    (kk : ∀ (H : Heap) (locs : List Loc) (ls : Array Slot), va_P (dC, dI) cls2 (MW q d (nI n) (nF va) (nF tr)) H → va_D A (MW q d (nI n) (nF va) (nF tr)) → va_S A s.heap H locs → lv_has ls 10 [(0, .ref (q 0)), (1, .int (nI mk)), (2, .int (nI fb.toNat)), (3, .int (nI (ph_F tr va n fb 8 mk))), (4, .int (nI 8))] → W p l e ({ frames := 1, cells := 0, slots := 0, locals := 27 } : Room) s m args below meth c H locs 0 0 Q (F0 m 107 ls [])) :
    ∀ (k : Nat) (st : Nat), st ≤ 8 → 8 < st + k → ∀ (H : Heap) (locs : List Loc) (ls : Array Slot), va_P (dC, dI) cls2 (MW q d (nI n) (nF va) (nF tr)) H → va_D A (MW q d (nI n) (nF va) (nF tr)) → va_S A s.heap H locs → lv_has ls 10 [(0, .ref (q 0)), (1, .int (nI mk)), (2, .int (nI fb.toNat)), (3, .int (nI (ph_F tr va n fb st mk))), (4, .int (nI st))] → W p l e ({ frames := 1, cells := 0, slots := 0, locals := 27 } : Room) s m args below meth c H locs 0 0 Q (F0 m 5 ls []) := by
  obtain ⟨hx, hb, hr, hlocks, hml, hown, hts, hK, hA⟩ := id X
  intro k
  induction k with
  | zero =>
    intro st hst hk
    exact absurd hk (by omega)
  | succ k ih =>
    intro st hst hk H locs ls hP hD hS hl
    refine lv_iload hx hb dX1_cost_5 (lv_at hl 4 rfl) ?_
    refine lv_bipush (v := nI 8) hx hb dX1_cost_7 (by decide +kernel) ?_
    refine xr_ge (tgt := 107) hx hb (by omega) (by omega) dX1_cost_9 (by decide) (fun h => ?_) (fun h => ?_)
    · obtain rfl : st = 8 := by omega
      exact kk _ _ _ hP hD hS hl
    · have g1 := ph_w_le (va := va) (s := st) (m := mk) (on := fun _ => true) (b := false) (v := 0) htr hn
      have g2 := ph_w_le (va := va) (s := st) (m := mk) (on := fun _ => true) (b := false) (v := 1) htr hn
      have g3 := ph_w_le (va := va) (s := st) (m := mk) (on := fun _ => true) (b := true) (v := 0) htr hn
      have g4 := ph_w_le (va := va) (s := st) (m := mk) (on := fun _ => true) (b := true) (v := 1) htr hn
      refine lv_aload_n hx hb dX1_cost_12 rfl (lv_at hl 0 rfl) ?_
      refine lv_iload_n hx hb dX1_cost_13 rfl (lv_at hl 1 rfl) ?_
      refine lv_iconst (v := nI 0) hx hb dX1_cost_14 (by decide +kernel) ?_
      refine lv_iload hx hb dX1_cost_15 (lv_at hl 4 rfl) ?_
      refine lv_iconst (v := nI 0) hx hb dX1_cost_17 (by decide +kernel) ?_
      refine xcall_i (q0 := 0) (ci := 1) (As := [.int (nI mk), .int (nI false.toNat), .int (nI st), .int (nI 0)]) (rest := []) X hP hD hS hl (mM_trust l dC dI d q _ n mk st 0 false tr va hn hmk (by omega) (by decide) hva htr) (cwV 4 hts (lw_V q216 q218 qs15 q20 q219) rfl rfl rfl (by decide +kernel) ⟨Nat.le_of_ble_eq_true rfl, Nat.le_of_ble_eq_true rfl⟩) rfl rfl rfl rfl (Nat.le_of_ble_eq_true rfl) dX1_cost_18 ⟨Nat.zero_le _, Nat.zero_le _⟩ (fun r u H locs hw hP hD hS => ?_)
      have hP : va_P (dC, dI) cls2 (MW q d (nI n) (nF va) (nF tr)) H := hP
      have hD : va_D A (MW q d (nI n) (nF va) (nF tr)) := hD
      subst hw
      refine lv_istore (lv' := [(5, .int (nI (ph_w tr va n st mk (fun _ => true) false 0))), (0, .ref (q 0)), (1, .int (nI mk)), (2, .int (nI fb.toNat)), (3, .int (nI (ph_F tr va n fb st mk))), (4, .int (nI st))]) hx hb dX1_cost_21 hl (by decide) rfl (fun ls hl => ?_)
      refine lv_aload_n hx hb dX1_cost_23 rfl (lv_at hl 1 rfl) ?_
      refine lv_iload_n hx hb dX1_cost_24 rfl (lv_at hl 2 rfl) ?_
      refine lv_iconst (v := nI 0) hx hb dX1_cost_25 (by decide +kernel) ?_
      refine lv_iload hx hb dX1_cost_26 (lv_at hl 5 rfl) ?_
      refine lv_iconst (v := nI 1) hx hb dX1_cost_28 (by decide +kernel) ?_
      refine xcall_i (q0 := 0) (ci := 1) (As := [.int (nI mk), .int (nI false.toNat), .int (nI st), .int (nI 1)]) (rest := []) X hP hD hS hl (mM_trust l dC dI d q _ n mk st 1 false tr va hn hmk (by omega) (by decide) hva htr) (cwV 4 hts (lw_V q216 q218 qs15 q20 q219) rfl rfl rfl (by decide +kernel) ⟨Nat.le_of_ble_eq_true rfl, Nat.le_of_ble_eq_true rfl⟩) rfl rfl rfl rfl (Nat.le_of_ble_eq_true rfl) dX1_cost_29 ⟨Nat.zero_le _, Nat.zero_le _⟩ (fun r u H locs hw hP hD hS => ?_)
      have hP : va_P (dC, dI) cls2 (MW q d (nI n) (nF va) (nF tr)) H := hP
      have hD : va_D A (MW q d (nI n) (nF va) (nF tr)) := hD
      subst hw
      refine lv_istore (lv' := [(6, .int (nI (ph_w tr va n st mk (fun _ => true) false 1))), (5, .int (nI (ph_w tr va n st mk (fun _ => true) false 0))), (0, .ref (q 0)), (1, .int (nI mk)), (2, .int (nI fb.toNat)), (3, .int (nI (ph_F tr va n fb st mk))), (4, .int (nI st))]) hx hb dX1_cost_32 hl (by decide) rfl (fun ls hl => ?_)
      refine lv_aload_n hx hb dX1_cost_34 rfl (lv_at hl 2 rfl) ?_
      refine lv_iload_n hx hb dX1_cost_35 rfl (lv_at hl 3 rfl) ?_
      refine lv_iconst (v := nI 1) hx hb dX1_cost_36 (by decide +kernel) ?_
      refine lv_iload hx hb dX1_cost_37 (lv_at hl 6 rfl) ?_
      refine lv_iconst (v := nI 0) hx hb dX1_cost_39 (by decide +kernel) ?_
      refine xcall_i (q0 := 0) (ci := 1) (As := [.int (nI mk), .int (nI true.toNat), .int (nI st), .int (nI 0)]) (rest := []) X hP hD hS hl (mM_trust l dC dI d q _ n mk st 0 true tr va hn hmk (by omega) (by decide) hva htr) (cwV 4 hts (lw_V q216 q218 qs15 q20 q219) rfl rfl rfl (by decide +kernel) ⟨Nat.le_of_ble_eq_true rfl, Nat.le_of_ble_eq_true rfl⟩) rfl rfl rfl rfl (Nat.le_of_ble_eq_true rfl) dX1_cost_40 ⟨Nat.zero_le _, Nat.zero_le _⟩ (fun r u H locs hw hP hD hS => ?_)
      have hP : va_P (dC, dI) cls2 (MW q d (nI n) (nF va) (nF tr)) H := hP
      have hD : va_D A (MW q d (nI n) (nF va) (nF tr)) := hD
      subst hw
      refine lv_istore (lv' := [(7, .int (nI (ph_w tr va n st mk (fun _ => true) true 0))), (6, .int (nI (ph_w tr va n st mk (fun _ => true) false 1))), (5, .int (nI (ph_w tr va n st mk (fun _ => true) false 0))), (0, .ref (q 0)), (1, .int (nI mk)), (2, .int (nI fb.toNat)), (3, .int (nI (ph_F tr va n fb st mk))), (4, .int (nI st))]) hx hb dX1_cost_43 hl (by decide) rfl (fun ls hl => ?_)
      refine lv_aload_n hx hb dX1_cost_45 rfl (lv_at hl 3 rfl) ?_
      refine lv_iload_n hx hb dX1_cost_46 rfl (lv_at hl 4 rfl) ?_
      refine lv_iconst (v := nI 1) hx hb dX1_cost_47 (by decide +kernel) ?_
      refine lv_iload hx hb dX1_cost_48 (lv_at hl 7 rfl) ?_
      refine lv_iconst (v := nI 1) hx hb dX1_cost_50 (by decide +kernel) ?_
      refine xcall_i (q0 := 0) (ci := 1) (As := [.int (nI mk), .int (nI true.toNat), .int (nI st), .int (nI 1)]) (rest := []) X hP hD hS hl (mM_trust l dC dI d q _ n mk st 1 true tr va hn hmk (by omega) (by decide) hva htr) (cwV 4 hts (lw_V q216 q218 qs15 q20 q219) rfl rfl rfl (by decide +kernel) ⟨Nat.le_of_ble_eq_true rfl, Nat.le_of_ble_eq_true rfl⟩) rfl rfl rfl rfl (Nat.le_of_ble_eq_true rfl) dX1_cost_51 ⟨Nat.zero_le _, Nat.zero_le _⟩ (fun r u H locs hw hP hD hS => ?_)
      have hP : va_P (dC, dI) cls2 (MW q d (nI n) (nF va) (nF tr)) H := hP
      have hD : va_D A (MW q d (nI n) (nF va) (nF tr)) := hD
      subst hw
      refine lv_istore (lv' := [(8, .int (nI (ph_w tr va n st mk (fun _ => true) true 1))), (7, .int (nI (ph_w tr va n st mk (fun _ => true) true 0))), (6, .int (nI (ph_w tr va n st mk (fun _ => true) false 1))), (5, .int (nI (ph_w tr va n st mk (fun _ => true) false 0))), (0, .ref (q 0)), (1, .int (nI mk)), (2, .int (nI fb.toNat)), (3, .int (nI (ph_F tr va n fb st mk))), (4, .int (nI st))]) hx hb dX1_cost_54 hl (by decide) rfl (fun ls hl => ?_)
      refine lv_iload_n hx hb dX1_cost_56 rfl (lv_at hl 6 rfl) ?_
      refine xr_bifeq (tgt := 77) hx hb dX1_cost_57 (by decide) (fun hf => ?_) (fun hf => ?_)
      · refine lv_aload_n hx hb dX1_cost_77 rfl (lv_at hl 4 rfl) ?_
        refine lv_iload hx hb dX1_cost_78 (lv_at hl 3 rfl) ?_
        refine lv_iload hx hb dX1_cost_80 (lv_at hl 2 rfl) ?_
        refine xcall_i (q0 := 0) (ci := 1) (As := [.int (nI (ph_w tr va n st mk (fun _ => true) false 0)), .int (nI (ph_w tr va n st mk (fun _ => true) false 1))]) (rest := []) X hP hD hS hl (mM_smaller l dC dI d q _ _ _ _ (ph_w tr va n st mk (fun _ => true) false 0) (ph_w tr va n st mk (fun _ => true) false 1) (by omega) (by omega)) (cwV 2 hts (lw_V q220 q222 qs16 q20 q223) rfl rfl rfl (by decide +kernel) ⟨Nat.le_of_ble_eq_true rfl, Nat.le_of_ble_eq_true rfl⟩) rfl rfl rfl rfl (Nat.le_of_ble_eq_true rfl) dX1_cost_82 ⟨Nat.zero_le _, Nat.zero_le _⟩ (fun r u H locs hw hP hD hS => ?_)
        have hP : va_P (dC, dI) cls2 (MW q d (nI n) (nF va) (nF tr)) H := hP
        have hD : va_D A (MW q d (nI n) (nF va) (nF tr)) := hD
        subst hw
        refine lv_aload_n hx hb dX1_cost_85 rfl (lv_at hl 4 rfl) ?_
        refine lv_iload hx hb dX1_cost_86 (lv_at hl 1 rfl) ?_
        refine lv_iload hx hb dX1_cost_88 (lv_at hl 0 rfl) ?_
        refine xcall_i (q0 := 0) (ci := 1) (As := [.int (nI (ph_w tr va n st mk (fun _ => true) true 0)), .int (nI (ph_w tr va n st mk (fun _ => true) true 1))]) (rest := [.int (nI (min (ph_w tr va n st mk (fun _ => true) false 0) (ph_w tr va n st mk (fun _ => true) false 1)))]) X hP hD hS hl (mM_smaller l dC dI d q _ _ _ _ (ph_w tr va n st mk (fun _ => true) true 0) (ph_w tr va n st mk (fun _ => true) true 1) (by omega) (by omega)) (cwV 2 hts (lw_V q220 q222 qs16 q20 q223) rfl rfl rfl (by decide +kernel) ⟨Nat.le_of_ble_eq_true rfl, Nat.le_of_ble_eq_true rfl⟩) rfl rfl rfl rfl (Nat.le_of_ble_eq_true rfl) dX1_cost_90 ⟨Nat.zero_le _, Nat.zero_le _⟩ (fun r u H locs hw hP hD hS => ?_)
        have hP : va_P (dC, dI) cls2 (MW q d (nI n) (nF va) (nF tr)) H := hP
        have hD : va_D A (MW q d (nI n) (nF va) (nF tr)) := hD
        subst hw
        refine xr_add hx hb dX1_cost_93 ?_
        refine lv_istore (lv' := [(9, .int (nI ((min (ph_w tr va n st mk (fun _ => true) false 0) (ph_w tr va n st mk (fun _ => true) false 1)) + (min (ph_w tr va n st mk (fun _ => true) true 0) (ph_w tr va n st mk (fun _ => true) true 1))))), (8, .int (nI (ph_w tr va n st mk (fun _ => true) true 1))), (7, .int (nI (ph_w tr va n st mk (fun _ => true) true 0))), (6, .int (nI (ph_w tr va n st mk (fun _ => true) false 1))), (5, .int (nI (ph_w tr va n st mk (fun _ => true) false 0))), (0, .ref (q 0)), (1, .int (nI mk)), (2, .int (nI fb.toNat)), (3, .int (nI (ph_F tr va n fb st mk))), (4, .int (nI st))]) hx hb dX1_cost_94 hl (by decide) rfl (fun ls hl => ?_)
        refine lv_iload_n hx hb dX1_cost_96 rfl (lv_at hl 8 rfl) ?_
        refine lv_iload hx hb dX1_cost_97 (lv_at hl 0 rfl) ?_
        refine xr_add hx hb dX1_cost_99 ?_
        refine lv_istore_n (lv' := [(3, .int (nI ((ph_F tr va n fb st mk) + ((min (ph_w tr va n st mk (fun _ => true) false 0) (ph_w tr va n st mk (fun _ => true) false 1)) + (min (ph_w tr va n st mk (fun _ => true) true 0) (ph_w tr va n st mk (fun _ => true) true 1)))))), (9, .int (nI ((min (ph_w tr va n st mk (fun _ => true) false 0) (ph_w tr va n st mk (fun _ => true) false 1)) + (min (ph_w tr va n st mk (fun _ => true) true 0) (ph_w tr va n st mk (fun _ => true) true 1))))), (8, .int (nI (ph_w tr va n st mk (fun _ => true) true 1))), (7, .int (nI (ph_w tr va n st mk (fun _ => true) true 0))), (6, .int (nI (ph_w tr va n st mk (fun _ => true) false 1))), (5, .int (nI (ph_w tr va n st mk (fun _ => true) false 0))), (0, .ref (q 0)), (1, .int (nI mk)), (2, .int (nI fb.toNat)), (4, .int (nI st))]) hx hb dX1_cost_100 rfl hl (by decide) rfl (fun ls hl => ?_)
        refine lv_iinc (v := nI (st + 1)) (lv' := [(4, .int (nI (st + 1))), (3, .int (nI ((ph_F tr va n fb st mk) + ((min (ph_w tr va n st mk (fun _ => true) false 0) (ph_w tr va n st mk (fun _ => true) false 1)) + (min (ph_w tr va n st mk (fun _ => true) true 0) (ph_w tr va n st mk (fun _ => true) true 1)))))), (9, .int (nI ((min (ph_w tr va n st mk (fun _ => true) false 0) (ph_w tr va n st mk (fun _ => true) false 1)) + (min (ph_w tr va n st mk (fun _ => true) true 0) (ph_w tr va n st mk (fun _ => true) true 1))))), (8, .int (nI (ph_w tr va n st mk (fun _ => true) true 1))), (7, .int (nI (ph_w tr va n st mk (fun _ => true) true 0))), (6, .int (nI (ph_w tr va n st mk (fun _ => true) false 1))), (5, .int (nI (ph_w tr va n st mk (fun _ => true) false 0))), (0, .ref (q 0)), (1, .int (nI mk)), (2, .int (nI fb.toNat))]) hx hb dX1_cost_101 hl (k := 9) rfl (nI_1 _) (by decide) rfl (fun ls hl => ?_)
        refine lv_goto (tgt := 5) hx hb dX1_cost_104 (by decide) ?_
        have e : ph_F tr va n fb (st + 1) mk = ph_F tr va n fb st mk + (min (ph_w tr va n st mk (fun _ => true) false 0) (ph_w tr va n st mk (fun _ => true) false 1) + min (ph_w tr va n st mk (fun _ => true) true 0) (ph_w tr va n st mk (fun _ => true) true 1)) := by simp only [ph_F, ph_st]; rw [if_neg (by rw [hf]; decide)]
        exact ih (st + 1) (by omega) (by omega) _ _ _ hP hD hS (by rw [e]; exact (lv_sub hl [7, 8, 9, 1, 0] rfl))
      · refine lv_aload_n hx hb dX1_cost_60 rfl (lv_at hl 4 rfl) ?_
        refine lv_iload hx hb dX1_cost_61 (lv_at hl 3 rfl) ?_
        refine lv_iload hx hb dX1_cost_63 (lv_at hl 0 rfl) ?_
        refine xr_add hx hb dX1_cost_65 ?_
        refine lv_iload hx hb dX1_cost_66 (lv_at hl 2 rfl) ?_
        refine lv_iload hx hb dX1_cost_68 (lv_at hl 1 rfl) ?_
        refine xr_add hx hb dX1_cost_70 ?_
        refine xcall_i (q0 := 0) (ci := 1) (As := [.int (nI ((ph_w tr va n st mk (fun _ => true) false 0) + (ph_w tr va n st mk (fun _ => true) true 1))), .int (nI ((ph_w tr va n st mk (fun _ => true) false 1) + (ph_w tr va n st mk (fun _ => true) true 0)))]) (rest := []) X hP hD hS hl (mM_smaller l dC dI d q _ _ _ _ (ph_w tr va n st mk (fun _ => true) false 0 + ph_w tr va n st mk (fun _ => true) true 1) (ph_w tr va n st mk (fun _ => true) false 1 + ph_w tr va n st mk (fun _ => true) true 0) (by omega) (by omega)) (cwV 2 hts (lw_V q220 q222 qs16 q20 q223) rfl rfl rfl (by decide +kernel) ⟨Nat.le_of_ble_eq_true rfl, Nat.le_of_ble_eq_true rfl⟩) rfl rfl rfl rfl (Nat.le_of_ble_eq_true rfl) dX1_cost_71 ⟨Nat.zero_le _, Nat.zero_le _⟩ (fun r u H locs hw hP hD hS => ?_)
        have hP : va_P (dC, dI) cls2 (MW q d (nI n) (nF va) (nF tr)) H := hP
        have hD : va_D A (MW q d (nI n) (nF va) (nF tr)) := hD
        subst hw
        refine lv_goto (tgt := 94) hx hb dX1_cost_74 (by decide) ?_
        refine lv_istore (lv' := [(9, .int (nI (min (ph_w tr va n st mk (fun _ => true) false 0 + ph_w tr va n st mk (fun _ => true) true 1) (ph_w tr va n st mk (fun _ => true) false 1 + ph_w tr va n st mk (fun _ => true) true 0)))), (8, .int (nI (ph_w tr va n st mk (fun _ => true) true 1))), (7, .int (nI (ph_w tr va n st mk (fun _ => true) true 0))), (6, .int (nI (ph_w tr va n st mk (fun _ => true) false 1))), (5, .int (nI (ph_w tr va n st mk (fun _ => true) false 0))), (0, .ref (q 0)), (1, .int (nI mk)), (2, .int (nI fb.toNat)), (3, .int (nI (ph_F tr va n fb st mk))), (4, .int (nI st))]) hx hb dX1_cost_94 hl (by decide) rfl (fun ls hl => ?_)
        refine lv_iload_n hx hb dX1_cost_96 rfl (lv_at hl 8 rfl) ?_
        refine lv_iload hx hb dX1_cost_97 (lv_at hl 0 rfl) ?_
        refine xr_add hx hb dX1_cost_99 ?_
        refine lv_istore_n (lv' := [(3, .int (nI ((ph_F tr va n fb st mk) + (min (ph_w tr va n st mk (fun _ => true) false 0 + ph_w tr va n st mk (fun _ => true) true 1) (ph_w tr va n st mk (fun _ => true) false 1 + ph_w tr va n st mk (fun _ => true) true 0))))), (9, .int (nI (min (ph_w tr va n st mk (fun _ => true) false 0 + ph_w tr va n st mk (fun _ => true) true 1) (ph_w tr va n st mk (fun _ => true) false 1 + ph_w tr va n st mk (fun _ => true) true 0)))), (8, .int (nI (ph_w tr va n st mk (fun _ => true) true 1))), (7, .int (nI (ph_w tr va n st mk (fun _ => true) true 0))), (6, .int (nI (ph_w tr va n st mk (fun _ => true) false 1))), (5, .int (nI (ph_w tr va n st mk (fun _ => true) false 0))), (0, .ref (q 0)), (1, .int (nI mk)), (2, .int (nI fb.toNat)), (4, .int (nI st))]) hx hb dX1_cost_100 rfl hl (by decide) rfl (fun ls hl => ?_)
        refine lv_iinc (v := nI (st + 1)) (lv' := [(4, .int (nI (st + 1))), (3, .int (nI ((ph_F tr va n fb st mk) + (min (ph_w tr va n st mk (fun _ => true) false 0 + ph_w tr va n st mk (fun _ => true) true 1) (ph_w tr va n st mk (fun _ => true) false 1 + ph_w tr va n st mk (fun _ => true) true 0))))), (9, .int (nI (min (ph_w tr va n st mk (fun _ => true) false 0 + ph_w tr va n st mk (fun _ => true) true 1) (ph_w tr va n st mk (fun _ => true) false 1 + ph_w tr va n st mk (fun _ => true) true 0)))), (8, .int (nI (ph_w tr va n st mk (fun _ => true) true 1))), (7, .int (nI (ph_w tr va n st mk (fun _ => true) true 0))), (6, .int (nI (ph_w tr va n st mk (fun _ => true) false 1))), (5, .int (nI (ph_w tr va n st mk (fun _ => true) false 0))), (0, .ref (q 0)), (1, .int (nI mk)), (2, .int (nI fb.toNat))]) hx hb dX1_cost_101 hl (k := 9) rfl (nI_1 _) (by decide) rfl (fun ls hl => ?_)
        refine lv_goto (tgt := 5) hx hb dX1_cost_104 (by decide) ?_
        have e : ph_F tr va n fb (st + 1) mk = ph_F tr va n fb st mk + min (ph_w tr va n st mk (fun _ => true) false 0 + ph_w tr va n st mk (fun _ => true) true 1) (ph_w tr va n st mk (fun _ => true) false 1 + ph_w tr va n st mk (fun _ => true) true 0) := by simp only [ph_F, ph_st, if_pos hf]
        exact ih (st + 1) (by omega) (by omega) _ _ _ hP hD hS (by rw [e]; exact (lv_sub hl [7, 8, 9, 1, 0] rfl))
set_option maxHeartbeats 4000000 in
set_option maxRecDepth 100000 in
/-- cost(mask, forced) -/
theorem mM_cost (l : Launch) (dC : Nat → ClassId) (dI : Nat → Nat → Nat) (d : ClassId) (q : Nat → Nat) (sz : Nat) (n mk : Nat) (fb : Bool) (tr va : Nat → Nat) (hn : n ≤ 8) (hmk : mk < 256) (hva : ∀ i, va i ≤ 1) (htr : ∀ i, tr i ≤ 9) : xMi l dC dI d sz yX1_cost cX1_cost 10 (some .int) ({ frames := 1, cells := 0, slots := 0, locals := 27 } : Room) [.ref (q 0), .int (nI mk), .int (nI fb.toNat)] (MW q d (nI n) (nF va) (nF tr)) (fun r (_ : Unit) => r = nI (ph_F tr va n fb 8 mk)) (fun _ => MW q d (nI n) (nF va) (nF tr)) := by
  refine xM_i (by decide +kernel) (Nat.le_of_ble_eq_true rfl) ?_
  intro p e s m below meth c A ls X hP hD hS hl
  have X : xC cX1_cost 10 (some .int) RX1 p s m meth c _ dC dI d A := X
  obtain ⟨hx, hb, hr, hlocks, hml, hown, hts, hK, hA⟩ := id X
  have hl : lv_has ls 10 [(0, .ref (q 0)), (1, .int (nI mk)), (2, .int (nI fb.toNat))] := hl
  refine lv_iconst (v := nI 0) hx hb dX1_cost_0 (by decide +kernel) ?_
  refine lv_istore_n (lv' := [(3, .int (nI 0)), (0, .ref (q 0)), (1, .int (nI mk)), (2, .int (nI fb.toNat))]) hx hb dX1_cost_1 rfl hl (by decide) rfl (fun ls hl => ?_)
  refine lv_iconst (v := nI 0) hx hb dX1_cost_2 (by decide +kernel) ?_
  refine lv_istore (lv' := [(4, .int (nI 0)), (3, .int (nI 0)), (0, .ref (q 0)), (1, .int (nI mk)), (2, .int (nI fb.toNat))]) hx hb dX1_cost_3 hl (by decide) rfl (fun ls hl => ?_)
  exact lM_cost X n mk fb tr va hn hmk hva htr (fun H locs ls hP hD hS hl => by
      refine lv_iload_n hx hb dX1_cost_107 rfl (lv_at hl 3 rfl) ?_
      exact xret_i X () hP hD hS rfl dX1_cost_108) 9 0 (by omega) (by omega) _ _ _ hP hD hS (lv_sub hl [2, 3, 4, 1, 0] rfl)
set_option maxHeartbeats 4000000 in
set_option maxRecDepth 100000 in
/-- isSorting(mask) -/
theorem mM_isSorting (l : Launch) (dC : Nat → ClassId) (dI : Nat → Nat → Nat) (d : ClassId) (q : Nat → Nat) (sz : Nat) (n mk : Nat) (V T : Nat → Int32) (hn : n ≤ 8) (hmk : mk < 256) : xMi l dC dI d sz yX1_isSorting cX1_isSorting 2 (some .boolean) ({ frames := 0, cells := 0, slots := 0, locals := 0 } : Room) [.ref (q 0), .int (nI mk)] (MW q d (nI n) V T) (fun r (_ : Unit) => r = nI (ph_so n mk).toNat) (fun _ => MW q d (nI n) V T) := by
  refine xM_i (by decide +kernel) (Nat.le_of_ble_eq_true rfl) ?_
  intro p e s m below meth c A ls X hP hD hS hl
  have X : xC cX1_isSorting 2 (some .boolean) RX1 p s m meth c _ dC dI d A := X
  obtain ⟨hx, hb, hr, hlocks, hml, hown, hts, hK, hA⟩ := id X
  have hl : lv_has ls 2 [(0, .ref (q 0)), (1, .int (nI mk))] := hl
  have ha1 : mk &&& 1 < 2 ^ 31 := Nat.lt_of_le_of_lt Nat.and_le_left (by omega)
  have hd1 : mk / 2 ^ n ≤ mk := Nat.div_le_self _ _
  refine lv_iload_n hx hb dX1_isSorting_0 rfl (lv_at hl 1 rfl) ?_
  refine lv_iconst (v := nI 1) hx hb dX1_isSorting_1 (by decide +kernel) ?_
  refine xr_and hx hb dX1_isSorting_2 ?_
  refine xr_ifne (tgt := 19) hx hb (by omega) dX1_isSorting_3 (by decide) (fun h1 => ?_) (fun h1 => ?_)
  · refine lv_iconst (v := nI 0) hx hb dX1_isSorting_19 (by decide +kernel) ?_
    exact xret_z X () hP hD hS (by rw [ph_so_f1 h1]; rfl) (by decide +kernel) dX1_isSorting_20
  · refine lv_iload_n hx hb dX1_isSorting_6 rfl (lv_at hl 1 rfl) ?_
    refine lv_aload_n hx hb dX1_isSorting_7 rfl (lv_at hl 0 rfl) ?_
    refine va_get (D := (dC, dI)) (ci := 1) (v := .int (nI n)) (C := RX1) (T := TX1) (N := 3) hx hb hts in_X1 hown hK hP 0 rfl rfl 0 (by decide) (hts _ q168) (fun _ h9 => h9) rfl dX1_isSorting_8 ?_
    refine lv_ishr hx hb dX1_isSorting_11 ?_
    refine xr_v (y := nI (mk / 2 ^ n)) (ph_shr (by omega) (by omega)) ?_
    refine xr_ifne (tgt := 19) hx hb (by omega) dX1_isSorting_12 (by decide) (fun h2 => ?_) (fun h2 => ?_)
    · refine lv_iconst (v := nI 0) hx hb dX1_isSorting_19 (by decide +kernel) ?_
      exact xret_z X () hP hD hS (by rw [ph_so_f2 h2]; rfl) (by decide +kernel) dX1_isSorting_20
    · refine lv_iconst (v := nI 1) hx hb dX1_isSorting_15 (by decide +kernel) ?_
      refine lv_goto (tgt := 20) hx hb dX1_isSorting_16 (by decide) ?_
      exact xret_z X () hP hD hS (by rw [ph_so_t h1 h2]; rfl) (by decide +kernel) dX1_isSorting_20
end
section
/-! ReadPhaserModel: contracts (printed by gen_x1.py) -/
set_option maxHeartbeats 4000000 in
set_option maxRecDepth 100000 in
theorem lM_best {p : Program} {l : Launch} {e : Env} {s : State} {m : MethodId} {args : Array Value} {below : List Frame} {meth : Method} {c : Code} {dC : Nat → ClassId} {dI : Nat → Nat → Nat} {d : ClassId} {A : Nat → Prop} {Q : State → Prop} {q : Nat → Nat} (X : xC cX1_best 5 (some .int) RX1 p s m meth c args dC dI d A) (n : Nat) (fb : Bool) (tr va : Nat → Nat) (hn : n ≤ 8) (hva : ∀ i, va i ≤ 1) (htr : ∀ i, tr i ≤ 9)
    (kk : ∀ (H : Heap) (locs : List Loc) (ls : Array Slot), va_P (dC, dI) cls2 (MW q d (nI n) (nF va) (nF tr)) H → va_D A (MW q d (nI n) (nF va) (nF tr)) → va_S A s.heap H locs → lv_has ls 5 [(0, .ref (q 0)), (1, .int (nI fb.toNat)), (2, .int (nI (ph_mn (ph_so n) (ph_F tr va n fb 8) 256))), (3, .int (nI 256))] → W p l e ({ frames := 2, cells := 0, slots := 0, locals := 56 } : Room) s m args below meth c H locs 0 0 Q (F0 m 42 ls [])) :
    ∀ (k : Nat) (j : Nat), j ≤ 256 → 256 < j + k → ∀ (H : Heap) (locs : List Loc) (ls : Array Slot), va_P (dC, dI) cls2 (MW q d (nI n) (nF va) (nF tr)) H → va_D A (MW q d (nI n) (nF va) (nF tr)) → va_S A s.heap H locs → lv_has ls 5 [(0, .ref (q 0)), (1, .int (nI fb.toNat)), (2, .int (nI (ph_mn (ph_so n) (ph_F tr va n fb 8) j))), (3, .int (nI j))] → W p l e ({ frames := 2, cells := 0, slots := 0, locals := 56 } : Room) s m args below meth c H locs 0 0 Q (F0 m 5 ls []) := by
  obtain ⟨hx, hb, hr, hlocks, hml, hown, hts, hK, hA⟩ := id X
  intro k
  induction k with
  | zero =>
    intro j hj hk
    exact absurd hk (by omega)
  | succ k ih =>
    intro j hj hk H locs ls hP hD hS hl
    have hm := ph_mn_le (P := ph_so n) (F := ph_F tr va n fb 8) j
    have h8 := ph_F8 (va := va) (f := fb) htr hn j
    refine lv_iload_n hx hb dX1_best_5 rfl (lv_at hl 3 rfl) ?_
    refine lv_sipush (v := nI 256) hx hb dX1_best_6 (by decide +kernel) ?_
    refine xr_ge (tgt := 42) hx hb (by omega) (by omega) dX1_best_9 (by decide) (fun h => ?_) (fun h => ?_)
    · obtain rfl : j = 256 := by omega
      exact kk _ _ _ hP hD hS hl
    · refine lv_aload_n hx hb dX1_best_12 rfl (lv_at hl 0 rfl) ?_
      refine lv_iload_n hx hb dX1_best_13 rfl (lv_at hl 3 rfl) ?_
      refine xcall_i (q0 := 0) (ci := 1) (As := [.int (nI j)]) (rest := []) X hP hD hS hl (mM_isSorting l dC dI d q _ n j _ _ hn (by omega)) (cwV 1 hts (lw_V q208 q210 qs13 q20 q211) rfl rfl rfl (by decide +kernel) ⟨Nat.le_of_ble_eq_true rfl, Nat.le_of_ble_eq_true rfl⟩) rfl rfl rfl rfl (Nat.le_of_ble_eq_true rfl) dX1_best_14 ⟨Nat.zero_le _, Nat.zero_le _⟩ (fun r u H locs hw hP hD hS => ?_)
      have hP : va_P (dC, dI) cls2 (MW q d (nI n) (nF va) (nF tr)) H := hP
      have hD : va_D A (MW q d (nI n) (nF va) (nF tr)) := hD
      subst hw
      refine xr_bifeq (tgt := 36) hx hb dX1_best_17 (by decide) (fun h2 => ?_) (fun h2 => ?_)
      · refine lv_iinc (v := nI (j + 1)) (lv' := [(3, .int (nI (j + 1))), (0, .ref (q 0)), (1, .int (nI fb.toNat)), (2, .int (nI (ph_mn (ph_so n) (ph_F tr va n fb 8) j)))]) hx hb dX1_best_36 hl (k := 3) rfl (nI_1 _) (by decide) rfl (fun ls hl => ?_)
        refine lv_goto (tgt := 5) hx hb dX1_best_39 (by decide) ?_
        exact ih (j + 1) (by omega) (by omega) _ _ _ hP hD hS (by rw [ph_mn_f h2]; exact (lv_sub hl [1, 2, 3, 0] rfl))
      · refine lv_aload_n hx hb dX1_best_20 rfl (lv_at hl 0 rfl) ?_
        refine lv_iload_n hx hb dX1_best_21 rfl (lv_at hl 3 rfl) ?_
        refine lv_iload_n hx hb dX1_best_22 rfl (lv_at hl 1 rfl) ?_
        refine xcall_i (q0 := 0) (ci := 1) (As := [.int (nI j), .int (nI fb.toNat)]) (rest := []) X hP hD hS hl (mM_cost l dC dI d q _ n j fb tr va hn (by omega) hva htr) (cwV 2 hts (lw_V q212 q214 qs14 q20 q215) rfl rfl rfl (by decide +kernel) ⟨Nat.le_of_ble_eq_true rfl, Nat.le_of_ble_eq_true rfl⟩) rfl rfl rfl rfl (Nat.le_of_ble_eq_true rfl) dX1_best_23 ⟨Nat.zero_le _, Nat.zero_le _⟩ (fun r u H locs hw hP hD hS => ?_)
        have hP : va_P (dC, dI) cls2 (MW q d (nI n) (nF va) (nF tr)) H := hP
        have hD : va_D A (MW q d (nI n) (nF va) (nF tr)) := hD
        subst hw
        refine lv_istore (lv' := [(4, .int (nI (ph_F tr va n fb 8 j))), (0, .ref (q 0)), (1, .int (nI fb.toNat)), (2, .int (nI (ph_mn (ph_so n) (ph_F tr va n fb 8) j))), (3, .int (nI j))]) hx hb dX1_best_26 hl (by decide) rfl (fun ls hl => ?_)
        refine lv_aload_n hx hb dX1_best_28 rfl (lv_at hl 1 rfl) ?_
        refine lv_iload_n hx hb dX1_best_29 rfl (lv_at hl 3 rfl) ?_
        refine lv_iload hx hb dX1_best_30 (lv_at hl 0 rfl) ?_
        refine xcall_i (q0 := 0) (ci := 1) (As := [.int (nI (ph_mn (ph_so n) (ph_F tr va n fb 8) j)), .int (nI (ph_F tr va n fb 8 j))]) (rest := []) X hP hD hS hl (mM_smaller l dC dI d q _ _ _ _ (ph_mn (ph_so n) (ph_F tr va n fb 8) j) (ph_F tr va n fb 8 j) (by omega) (by omega)) (cwV 2 hts (lw_V q220 q222 qs16 q20 q223) rfl rfl rfl (by decide +kernel) ⟨Nat.le_of_ble_eq_true rfl, Nat.le_of_ble_eq_true rfl⟩) rfl rfl rfl rfl (Nat.le_of_ble_eq_true rfl) dX1_best_32 ⟨Nat.zero_le _, Nat.zero_le _⟩ (fun r u H locs hw hP hD hS => ?_)
        have hP : va_P (dC, dI) cls2 (MW q d (nI n) (nF va) (nF tr)) H := hP
        have hD : va_D A (MW q d (nI n) (nF va) (nF tr)) := hD
        subst hw
        refine lv_istore_n (lv' := [(2, .int (nI (min (ph_mn (ph_so n) (ph_F tr va n fb 8) j) (ph_F tr va n fb 8 j)))), (4, .int (nI (ph_F tr va n fb 8 j))), (0, .ref (q 0)), (1, .int (nI fb.toNat)), (3, .int (nI j))]) hx hb dX1_best_35 rfl hl (by decide) rfl (fun ls hl => ?_)
        refine lv_iinc (v := nI (j + 1)) (lv' := [(3, .int (nI (j + 1))), (2, .int (nI (min (ph_mn (ph_so n) (ph_F tr va n fb 8) j) (ph_F tr va n fb 8 j)))), (4, .int (nI (ph_F tr va n fb 8 j))), (0, .ref (q 0)), (1, .int (nI fb.toNat))]) hx hb dX1_best_36 hl (k := 4) rfl (nI_1 _) (by decide) rfl (fun ls hl => ?_)
        refine lv_goto (tgt := 5) hx hb dX1_best_39 (by decide) ?_
        exact ih (j + 1) (by omega) (by omega) _ _ _ hP hD hS (by rw [ph_mn_t h2]; exact (lv_sub hl [3, 4, 1, 0] rfl))
set_option maxHeartbeats 4000000 in
set_option maxRecDepth 100000 in
/-- best(forced) -/
theorem mM_best (l : Launch) (dC : Nat → ClassId) (dI : Nat → Nat → Nat) (d : ClassId) (q : Nat → Nat) (sz : Nat) (n : Nat) (fb : Bool) (tr va : Nat → Nat) (hn : n ≤ 8) (hva : ∀ i, va i ≤ 1) (htr : ∀ i, tr i ≤ 9) : xMi l dC dI d sz yX1_best cX1_best 5 (some .int) ({ frames := 2, cells := 0, slots := 0, locals := 56 } : Room) [.ref (q 0), .int (nI fb.toNat)] (MW q d (nI n) (nF va) (nF tr)) (fun r (_ : Unit) => r = nI (ph_ls tr va n fb)) (fun _ => MW q d (nI n) (nF va) (nF tr)) := by
  refine xM_i (by decide +kernel) (Nat.le_of_ble_eq_true rfl) ?_
  intro p e s m below meth c A ls X hP hD hS hl
  have X : xC cX1_best 5 (some .int) RX1 p s m meth c _ dC dI d A := X
  obtain ⟨hx, hb, hr, hlocks, hml, hown, hts, hK, hA⟩ := id X
  have hl : lv_has ls 5 [(0, .ref (q 0)), (1, .int (nI fb.toNat))] := hl
  refine lv_ldc hx hb hown (hts _ q207) dX1_best_0 ?_
  refine xr_v (y := nI 100000) (by decide +kernel) ?_
  refine lv_istore_n (lv' := [(2, .int (nI 100000)), (0, .ref (q 0)), (1, .int (nI fb.toNat))]) hx hb dX1_best_2 rfl hl (by decide) rfl (fun ls hl => ?_)
  refine lv_iconst (v := nI 0) hx hb dX1_best_3 (by decide +kernel) ?_
  refine lv_istore_n (lv' := [(3, .int (nI 0)), (2, .int (nI 100000)), (0, .ref (q 0)), (1, .int (nI fb.toNat))]) hx hb dX1_best_4 rfl hl (by decide) rfl (fun ls hl => ?_)
  exact lM_best X n fb tr va hn hva htr (fun H locs ls hP hD hS hl => by
      refine lv_iload_n hx hb dX1_best_42 rfl (lv_at hl 2 rfl) ?_
      exact xret_i X () hP hD hS rfl dX1_best_43) 257 0 (by omega) (by omega) _ _ _ hP hD hS (lv_sub hl [2, 3, 1, 0] rfl)
set_option maxHeartbeats 4000000 in
set_option maxRecDepth 100000 in
theorem lM_first {p : Program} {l : Launch} {e : Env} {s : State} {m : MethodId} {args : Array Value} {below : List Frame} {meth : Method} {c : Code} {dC : Nat → ClassId} {dI : Nat → Nat → Nat} {d : ClassId} {A : Nat → Prop} {Q : State → Prop} {q : Nat → Nat} (X : xC cX1_first 4 (some .int) RX1 p s m meth c args dC dI d A) (n : Nat) (fb : Bool) (tr va : Nat → Nat) (hn : n ≤ 8) (hva : ∀ i, va i ≤ 1) (htr : ∀ i, tr i ≤ 9)
    (kk : ∀ (_ : ph_no (fun M => ph_so n M && (ph_F tr va n fb 8 M == ph_ls tr va n fb)) 256) (H : Heap) (locs : List Loc) (ls : Array Slot), va_P (dC, dI) cls2 (MW q d (nI n) (nF va) (nF tr)) H → va_D A (MW q d (nI n) (nF va) (nF tr)) → va_S A s.heap H locs → lv_has ls 4 [(0, .ref (q 0)), (1, .int (nI fb.toNat)), (2, .int (nI (ph_ls tr va n fb))), (3, .int (nI 256))] → W p l e ({ frames := 3, cells := 0, slots := 0, locals := 80 } : Room) s m args below meth c H locs 0 0 Q (F0 m 41 ls []))
    (k2 : ∀ (j : Nat), j < 256 → (fun M => ph_so n M && (ph_F tr va n fb 8 M == ph_ls tr va n fb)) j = true → ph_no (fun M => ph_so n M && (ph_F tr va n fb 8 M == ph_ls tr va n fb)) j → ∀ (H : Heap) (locs : List Loc) (ls : Array Slot), va_P (dC, dI) cls2 (MW q d (nI n) (nF va) (nF tr)) H → va_D A (MW q d (nI n) (nF va) (nF tr)) → va_S A s.heap H locs → lv_has ls 4 [(0, .ref (q 0)), (1, .int (nI fb.toNat)), (2, .int (nI (ph_ls tr va n fb))), (3, .int (nI j))] → W p l e ({ frames := 3, cells := 0, slots := 0, locals := 80 } : Room) s m args below meth c H locs 0 0 Q (F0 m 33 ls [])) :
    ∀ (k : Nat) (j : Nat), j ≤ 256 → ph_no (fun M => ph_so n M && (ph_F tr va n fb 8 M == ph_ls tr va n fb)) j → 256 < j + k → ∀ (H : Heap) (locs : List Loc) (ls : Array Slot), va_P (dC, dI) cls2 (MW q d (nI n) (nF va) (nF tr)) H → va_D A (MW q d (nI n) (nF va) (nF tr)) → va_S A s.heap H locs → lv_has ls 4 [(0, .ref (q 0)), (1, .int (nI fb.toNat)), (2, .int (nI (ph_ls tr va n fb))), (3, .int (nI j))] → W p l e ({ frames := 3, cells := 0, slots := 0, locals := 80 } : Room) s m args below meth c H locs 0 0 Q (F0 m 8 ls []) := by
  obtain ⟨hx, hb, hr, hlocks, hml, hown, hts, hK, hA⟩ := id X
  intro k
  induction k with
  | zero =>
    intro j hj hI hk
    exact absurd hk (by omega)
  | succ k ih =>
    intro j hj hI hk H locs ls hP hD hS hl
    have hm := ph_ls_le (tr := tr) (va := va) (n := n) (f := fb)
    have h8 := ph_F8 (va := va) (f := fb) htr hn j
    refine lv_iload_n hx hb dX1_first_8 rfl (lv_at hl 3 rfl) ?_
    refine lv_sipush (v := nI 256) hx hb dX1_first_9 (by decide +kernel) ?_
    refine xr_ge (tgt := 41) hx hb (by omega) (by omega) dX1_first_12 (by decide) (fun h => ?_) (fun h => ?_)
    · obtain rfl : j = 256 := by omega
      exact kk hI _ _ _ hP hD hS hl
    · refine lv_aload_n hx hb dX1_first_15 rfl (lv_at hl 0 rfl) ?_
      refine lv_iload_n hx hb dX1_first_16 rfl (lv_at hl 3 rfl) ?_
      refine xcall_i (q0 := 0) (ci := 1) (As := [.int (nI j)]) (rest := []) X hP hD hS hl (mM_isSorting l dC dI d q _ n j _ _ hn (by omega)) (cwV 1 hts (lw_V q208 q210 qs13 q20 q211) rfl rfl rfl (by decide +kernel) ⟨Nat.le_of_ble_eq_true rfl, Nat.le_of_ble_eq_true rfl⟩) rfl rfl rfl rfl (Nat.le_of_ble_eq_true rfl) dX1_first_17 ⟨Nat.zero_le _, Nat.zero_le _⟩ (fun r u H locs hw hP hD hS => ?_)
      have hP : va_P (dC, dI) cls2 (MW q d (nI n) (nF va) (nF tr)) H := hP
      have hD : va_D A (MW q d (nI n) (nF va) (nF tr)) := hD
      subst hw
      refine xr_bifeq (tgt := 35) hx hb dX1_first_20 (by decide) (fun h2 => ?_) (fun h2 => ?_)
      · refine lv_iinc (v := nI (j + 1)) (lv' := [(3, .int (nI (j + 1))), (0, .ref (q 0)), (1, .int (nI fb.toNat)), (2, .int (nI (ph_ls tr va n fb)))]) hx hb dX1_first_35 hl (k := 3) rfl (nI_1 _) (by decide) rfl (fun ls hl => ?_)
        refine lv_goto (tgt := 8) hx hb dX1_first_38 (by decide) ?_
        exact ih (j + 1) (by omega) (ph_no_s hI (by show (ph_so n j && _) = false; rw [h2]; rfl)) (by omega) _ _ _ hP hD hS (lv_sub hl [1, 2, 3, 0] rfl)
      · refine lv_aload_n hx hb dX1_first_23 rfl (lv_at hl 0 rfl) ?_
        refine lv_iload_n hx hb dX1_first_24 rfl (lv_at hl 3 rfl) ?_
        refine lv_iload_n hx hb dX1_first_25 rfl (lv_at hl 1 rfl) ?_
        refine xcall_i (q0 := 0) (ci := 1) (As := [.int (nI j), .int (nI fb.toNat)]) (rest := []) X hP hD hS hl (mM_cost l dC dI d q _ n j fb tr va hn (by omega) hva htr) (cwV 2 hts (lw_V q212 q214 qs14 q20 q215) rfl rfl rfl (by decide +kernel) ⟨Nat.le_of_ble_eq_true rfl, Nat.le_of_ble_eq_true rfl⟩) rfl rfl rfl rfl (Nat.le_of_ble_eq_true rfl) dX1_first_26 ⟨Nat.zero_le _, Nat.zero_le _⟩ (fun r u H locs hw hP hD hS => ?_)
        have hP : va_P (dC, dI) cls2 (MW q d (nI n) (nF va) (nF tr)) H := hP
        have hD : va_D A (MW q d (nI n) (nF va) (nF tr)) := hD
        subst hw
        refine lv_iload_n hx hb dX1_first_29 rfl (lv_at hl 2 rfl) ?_
        refine xr_ne (tgt := 35) hx hb (by omega) (by omega) dX1_first_30 (by decide) (fun h3 => ?_) (fun h3 => ?_)
        · refine lv_iinc (v := nI (j + 1)) (lv' := [(3, .int (nI (j + 1))), (0, .ref (q 0)), (1, .int (nI fb.toNat)), (2, .int (nI (ph_ls tr va n fb)))]) hx hb dX1_first_35 hl (k := 3) rfl (nI_1 _) (by decide) rfl (fun ls hl => ?_)
          refine lv_goto (tgt := 8) hx hb dX1_first_38 (by decide) ?_
          exact ih (j + 1) (by omega) (ph_no_s hI (by show (ph_so n j && _) = false; rw [h2]; simp [h3])) (by omega) _ _ _ hP hD hS (lv_sub hl [1, 2, 3, 0] rfl)
        · exact k2 j (by omega) (by show (ph_so n j && _) = true; rw [h2, h3]; simp) hI _ _ _ hP hD hS hl
set_option maxHeartbeats 4000000 in
set_option maxRecDepth 100000 in
/-- first(forced) -/
theorem mM_first (l : Launch) (dC : Nat → ClassId) (dI : Nat → Nat → Nat) (d : ClassId) (q : Nat → Nat) (sz : Nat) (n : Nat) (fb : Bool) (tr va : Nat → Nat) (hn : n ≤ 8) (hva : ∀ i, va i ≤ 1) (htr : ∀ i, tr i ≤ 9) : xMi l dC dI d sz yX1_first cX1_first 4 (some .int) ({ frames := 3, cells := 0, slots := 0, locals := 80 } : Room) [.ref (q 0), .int (nI fb.toNat)] (MW q d (nI n) (nF va) (nF tr)) (fun r (_ : Unit) => r = nI (ph_sr tr va n fb)) (fun _ => MW q d (nI n) (nF va) (nF tr)) := by
  refine xM_i (by decide +kernel) (Nat.le_of_ble_eq_true rfl) ?_
  intro p e s m below meth c A ls X hP hD hS hl
  have X : xC cX1_first 4 (some .int) RX1 p s m meth c _ dC dI d A := X
  obtain ⟨hx, hb, hr, hlocks, hml, hown, hts, hK, hA⟩ := id X
  have hl : lv_has ls 4 [(0, .ref (q 0)), (1, .int (nI fb.toNat))] := hl
  refine lv_aload_n hx hb dX1_first_0 rfl (lv_at hl 0 rfl) ?_
  refine lv_iload_n hx hb dX1_first_1 rfl (lv_at hl 1 rfl) ?_
  refine xcall_i (q0 := 0) (ci := 1) (As := [.int (nI fb.toNat)]) (rest := []) X hP hD hS hl (mM_best l dC dI d q _ n fb tr va hn hva htr) (cwV 1 hts (lw_V q203 q205 qs12 q20 q206) rfl rfl rfl (by decide +kernel) ⟨Nat.le_of_ble_eq_true rfl, Nat.le_of_ble_eq_true rfl⟩) rfl rfl rfl rfl (Nat.le_of_ble_eq_true rfl) dX1_first_2 ⟨Nat.zero_le _, Nat.zero_le _⟩ (fun r u H locs hw hP hD hS => ?_)
  have hP : va_P (dC, dI) cls2 (MW q d (nI n) (nF va) (nF tr)) H := hP
  have hD : va_D A (MW q d (nI n) (nF va) (nF tr)) := hD
  subst hw
  refine lv_istore_n (lv' := [(2, .int (nI (ph_ls tr va n fb))), (0, .ref (q 0)), (1, .int (nI fb.toNat))]) hx hb dX1_first_5 rfl hl (by decide) rfl (fun ls hl => ?_)
  refine lv_iconst (v := nI 0) hx hb dX1_first_6 (by decide +kernel) ?_
  refine lv_istore_n (lv' := [(3, .int (nI 0)), (2, .int (nI (ph_ls tr va n fb))), (0, .ref (q 0)), (1, .int (nI fb.toNat))]) hx hb dX1_first_7 rfl hl (by decide) rfl (fun ls hl => ?_)
  exact lM_first X n fb tr va hn hva htr (fun hI H locs ls hP hD hS hl => by
      refine lv_iconst (v := nI 0) hx hb dX1_first_41 (by decide +kernel) ?_
      exact xret_i X () hP hD hS (by unfold ph_sr; rw [ph_ft_no hI]) dX1_first_42) (fun j h1 h2 hI H locs ls hP hD hS hl => by
      refine lv_iload_n hx hb dX1_first_33 rfl (lv_at hl 3 rfl) ?_
      exact xret_i X () hP hD hS (by unfold ph_sr; rw [ph_ft_eq h1 h2 hI]) dX1_first_34) 257 0 (by omega) (ph_no_0 _) (by omega) _ _ _ hP hD hS (lv_sub hl [2, 3, 1, 0] rfl)
set_option maxHeartbeats 4000000 in
set_option maxRecDepth 100000 in
/-- least() -/
theorem mM_least (l : Launch) (dC : Nat → ClassId) (dI : Nat → Nat → Nat) (d : ClassId) (q : Nat → Nat) (sz : Nat) (n : Nat) (tr va : Nat → Nat) (hn : n ≤ 8) (hva : ∀ i, va i ≤ 1) (htr : ∀ i, tr i ≤ 9) : xMi l dC dI d sz yX1_least cX1_least 1 (some .int) ({ frames := 3, cells := 0, slots := 0, locals := 80 } : Room) [.ref (q 0)] (MW q d (nI n) (nF va) (nF tr)) (fun r (_ : Unit) => r = nI (ph_ls tr va n false)) (fun _ => MW q d (nI n) (nF va) (nF tr)) := by
  refine xM_i (by decide +kernel) (Nat.le_of_ble_eq_true rfl) ?_
  intro p e s m below meth c A ls X hP hD hS hl
  have X : xC cX1_least 1 (some .int) RX1 p s m meth c _ dC dI d A := X
  obtain ⟨hx, hb, hr, hlocks, hml, hown, hts, hK, hA⟩ := id X
  have hl : lv_has ls 1 [(0, .ref (q 0))] := hl
  refine lv_aload_n hx hb dX1_least_0 rfl (lv_at hl 0 rfl) ?_
  refine lv_iconst (v := nI 0) hx hb dX1_least_1 (by decide +kernel) ?_
  refine xcall_i (q0 := 0) (ci := 1) (As := [.int (nI false.toNat)]) (rest := []) X hP hD hS hl (mM_best l dC dI d q _ n false tr va hn hva htr) (cwV 1 hts (lw_V q203 q205 qs12 q20 q206) rfl rfl rfl (by decide +kernel) ⟨Nat.le_of_ble_eq_true rfl, Nat.le_of_ble_eq_true rfl⟩) rfl rfl rfl rfl (Nat.le_of_ble_eq_true rfl) dX1_least_2 ⟨Nat.zero_le _, Nat.zero_le _⟩ (fun r u H locs hw hP hD hS => ?_)
  have hP : va_P (dC, dI) cls2 (MW q d (nI n) (nF va) (nF tr)) H := hP
  have hD : va_D A (MW q d (nI n) (nF va) (nF tr)) := hD
  subst hw
  exact xret_i X () hP hD hS rfl dX1_least_5
set_option maxHeartbeats 4000000 in
set_option maxRecDepth 100000 in
/-- sorting() -/
theorem mM_sorting (l : Launch) (dC : Nat → ClassId) (dI : Nat → Nat → Nat) (d : ClassId) (q : Nat → Nat) (sz : Nat) (n : Nat) (tr va : Nat → Nat) (hn : n ≤ 8) (hva : ∀ i, va i ≤ 1) (htr : ∀ i, tr i ≤ 9) : xMi l dC dI d sz yX1_sorting cX1_sorting 1 (some .int) ({ frames := 4, cells := 0, slots := 0, locals := 103 } : Room) [.ref (q 0)] (MW q d (nI n) (nF va) (nF tr)) (fun r (_ : Unit) => r = nI (ph_sr tr va n false)) (fun _ => MW q d (nI n) (nF va) (nF tr)) := by
  refine xM_i (by decide +kernel) (Nat.le_of_ble_eq_true rfl) ?_
  intro p e s m below meth c A ls X hP hD hS hl
  have X : xC cX1_sorting 1 (some .int) RX1 p s m meth c _ dC dI d A := X
  obtain ⟨hx, hb, hr, hlocks, hml, hown, hts, hK, hA⟩ := id X
  have hl : lv_has ls 1 [(0, .ref (q 0))] := hl
  refine lv_aload_n hx hb dX1_sorting_0 rfl (lv_at hl 0 rfl) ?_
  refine lv_iconst (v := nI 0) hx hb dX1_sorting_1 (by decide +kernel) ?_
  refine xcall_i (q0 := 0) (ci := 1) (As := [.int (nI false.toNat)]) (rest := []) X hP hD hS hl (mM_first l dC dI d q _ n false tr va hn hva htr) (cwV 1 hts (lw_V q228 q230 qs17 q20 q231) rfl rfl rfl (by decide +kernel) ⟨Nat.le_of_ble_eq_true rfl, Nat.le_of_ble_eq_true rfl⟩) rfl rfl rfl rfl (Nat.le_of_ble_eq_true rfl) dX1_sorting_2 ⟨Nat.zero_le _, Nat.zero_le _⟩ (fun r u H locs hw hP hD hS => ?_)
  have hP : va_P (dC, dI) cls2 (MW q d (nI n) (nF va) (nF tr)) H := hP
  have hD : va_D A (MW q d (nI n) (nF va) (nF tr)) := hD
  subst hw
  exact xret_i X () hP hD hS rfl dX1_sorting_5
set_option maxHeartbeats 4000000 in
set_option maxRecDepth 100000 in
/-- leastForced() -/
theorem mM_leastForced (l : Launch) (dC : Nat → ClassId) (dI : Nat → Nat → Nat) (d : ClassId) (q : Nat → Nat) (sz : Nat) (n : Nat) (tr va : Nat → Nat) (hn : n ≤ 8) (hva : ∀ i, va i ≤ 1) (htr : ∀ i, tr i ≤ 9) : xMi l dC dI d sz yX1_leastForced cX1_leastForced 1 (some .int) ({ frames := 3, cells := 0, slots := 0, locals := 80 } : Room) [.ref (q 0)] (MW q d (nI n) (nF va) (nF tr)) (fun r (_ : Unit) => r = nI (ph_ls tr va n true)) (fun _ => MW q d (nI n) (nF va) (nF tr)) := by
  refine xM_i (by decide +kernel) (Nat.le_of_ble_eq_true rfl) ?_
  intro p e s m below meth c A ls X hP hD hS hl
  have X : xC cX1_leastForced 1 (some .int) RX1 p s m meth c _ dC dI d A := X
  obtain ⟨hx, hb, hr, hlocks, hml, hown, hts, hK, hA⟩ := id X
  have hl : lv_has ls 1 [(0, .ref (q 0))] := hl
  refine lv_aload_n hx hb dX1_leastForced_0 rfl (lv_at hl 0 rfl) ?_
  refine lv_iconst (v := nI 1) hx hb dX1_leastForced_1 (by decide +kernel) ?_
  refine xcall_i (q0 := 0) (ci := 1) (As := [.int (nI true.toNat)]) (rest := []) X hP hD hS hl (mM_best l dC dI d q _ n true tr va hn hva htr) (cwV 1 hts (lw_V q203 q205 qs12 q20 q206) rfl rfl rfl (by decide +kernel) ⟨Nat.le_of_ble_eq_true rfl, Nat.le_of_ble_eq_true rfl⟩) rfl rfl rfl rfl (Nat.le_of_ble_eq_true rfl) dX1_leastForced_2 ⟨Nat.zero_le _, Nat.zero_le _⟩ (fun r u H locs hw hP hD hS => ?_)
  have hP : va_P (dC, dI) cls2 (MW q d (nI n) (nF va) (nF tr)) H := hP
  have hD : va_D A (MW q d (nI n) (nF va) (nF tr)) := hD
  subst hw
  exact xret_i X () hP hD hS rfl dX1_leastForced_5
set_option maxHeartbeats 4000000 in
set_option maxRecDepth 100000 in
/-- sortingForced() -/
theorem mM_sortingForced (l : Launch) (dC : Nat → ClassId) (dI : Nat → Nat → Nat) (d : ClassId) (q : Nat → Nat) (sz : Nat) (n : Nat) (tr va : Nat → Nat) (hn : n ≤ 8) (hva : ∀ i, va i ≤ 1) (htr : ∀ i, tr i ≤ 9) : xMi l dC dI d sz yX1_sortingForced cX1_sortingForced 1 (some .int) ({ frames := 4, cells := 0, slots := 0, locals := 103 } : Room) [.ref (q 0)] (MW q d (nI n) (nF va) (nF tr)) (fun r (_ : Unit) => r = nI (ph_sr tr va n true)) (fun _ => MW q d (nI n) (nF va) (nF tr)) := by
  refine xM_i (by decide +kernel) (Nat.le_of_ble_eq_true rfl) ?_
  intro p e s m below meth c A ls X hP hD hS hl
  have X : xC cX1_sortingForced 1 (some .int) RX1 p s m meth c _ dC dI d A := X
  obtain ⟨hx, hb, hr, hlocks, hml, hown, hts, hK, hA⟩ := id X
  have hl : lv_has ls 1 [(0, .ref (q 0))] := hl
  refine lv_aload_n hx hb dX1_sortingForced_0 rfl (lv_at hl 0 rfl) ?_
  refine lv_iconst (v := nI 1) hx hb dX1_sortingForced_1 (by decide +kernel) ?_
  refine xcall_i (q0 := 0) (ci := 1) (As := [.int (nI true.toNat)]) (rest := []) X hP hD hS hl (mM_first l dC dI d q _ n true tr va hn hva htr) (cwV 1 hts (lw_V q228 q230 qs17 q20 q231) rfl rfl rfl (by decide +kernel) ⟨Nat.le_of_ble_eq_true rfl, Nat.le_of_ble_eq_true rfl⟩) rfl rfl rfl rfl (Nat.le_of_ble_eq_true rfl) dX1_sortingForced_2 ⟨Nat.zero_le _, Nat.zero_le _⟩ (fun r u H locs hw hP hD hS => ?_)
  have hP : va_P (dC, dI) cls2 (MW q d (nI n) (nF va) (nF tr)) H := hP
  have hD : va_D A (MW q d (nI n) (nF va) (nF tr)) := hD
  subst hw
  exact xret_i X () hP hD hS rfl dX1_sortingForced_5
set_option maxHeartbeats 4000000 in
set_option maxRecDepth 100000 in
theorem lM_ties {p : Program} {l : Launch} {e : Env} {s : State} {m : MethodId} {args : Array Value} {below : List Frame} {meth : Method} {c : Code} {dC : Nat → ClassId} {dI : Nat → Nat → Nat} {d : ClassId} {A : Nat → Prop} {Q : State → Prop} {q : Nat → Nat} (X : xC cX1_ties 4 (some .int) RX1 p s m meth c args dC dI d A) (n : Nat) (tr va : Nat → Nat) (hn : n ≤ 8) (hva : ∀ i, va i ≤ 1) (htr : ∀ i, tr i ≤ 9)
    (kk : ∀ (H : Heap) (locs : List Loc) (ls : Array Slot), va_P (dC, dI) cls2 (MW q d (nI n) (nF va) (nF tr)) H → va_D A (MW q d (nI n) (nF va) (nF tr)) → va_S A s.heap H locs → lv_has ls 4 [(0, .ref (q 0)), (1, .int (nI (ph_ls tr va n false))), (2, .int (nI (ph_ct (fun M => ph_so n M && (ph_F tr va n false 8 M == ph_ls tr va n false)) 256))), (3, .int (nI 256))] → W p l e ({ frames := 3, cells := 0, slots := 0, locals := 80 } : Room) s m args below meth c H locs 0 0 Q (F0 m 44 ls [])) :
    ∀ (k : Nat) (j : Nat), j ≤ 256 → 256 < j + k → ∀ (H : Heap) (locs : List Loc) (ls : Array Slot), va_P (dC, dI) cls2 (MW q d (nI n) (nF va) (nF tr)) H → va_D A (MW q d (nI n) (nF va) (nF tr)) → va_S A s.heap H locs → lv_has ls 4 [(0, .ref (q 0)), (1, .int (nI (ph_ls tr va n false))), (2, .int (nI (ph_ct (fun M => ph_so n M && (ph_F tr va n false 8 M == ph_ls tr va n false)) j))), (3, .int (nI j))] → W p l e ({ frames := 3, cells := 0, slots := 0, locals := 80 } : Room) s m args below meth c H locs 0 0 Q (F0 m 10 ls []) := by
  obtain ⟨hx, hb, hr, hlocks, hml, hown, hts, hK, hA⟩ := id X
  intro k
  induction k with
  | zero =>
    intro j hj hk
    exact absurd hk (by omega)
  | succ k ih =>
    intro j hj hk H locs ls hP hD hS hl
    have hm := ph_ls_le (tr := tr) (va := va) (n := n) (f := false)
    have h8 := ph_F8 (va := va) (f := false) htr hn j
    have hc := ph_ct_le (Q := (fun M => ph_so n M && (ph_F tr va n false 8 M == ph_ls tr va n false))) j
    refine lv_iload_n hx hb dX1_ties_10 rfl (lv_at hl 3 rfl) ?_
    refine lv_sipush (v := nI 256) hx hb dX1_ties_11 (by decide +kernel) ?_
    refine xr_ge (tgt := 44) hx hb (by omega) (by omega) dX1_ties_14 (by decide) (fun h => ?_) (fun h => ?_)
    · obtain rfl : j = 256 := by omega
      exact kk _ _ _ hP hD hS hl
    · refine lv_aload_n hx hb dX1_ties_17 rfl (lv_at hl 0 rfl) ?_
      refine lv_iload_n hx hb dX1_ties_18 rfl (lv_at hl 3 rfl) ?_
      refine xcall_i (q0 := 0) (ci := 1) (As := [.int (nI j)]) (rest := []) X hP hD hS hl (mM_isSorting l dC dI d q _ n j _ _ hn (by omega)) (cwV 1 hts (lw_V q208 q210 qs13 q20 q211) rfl rfl rfl (by decide +kernel) ⟨Nat.le_of_ble_eq_true rfl, Nat.le_of_ble_eq_true rfl⟩) rfl rfl rfl rfl (Nat.le_of_ble_eq_true rfl) dX1_ties_19 ⟨Nat.zero_le _, Nat.zero_le _⟩ (fun r u H locs hw hP hD hS => ?_)
      have hP : va_P (dC, dI) cls2 (MW q d (nI n) (nF va) (nF tr)) H := hP
      have hD : va_D A (MW q d (nI n) (nF va) (nF tr)) := hD
      subst hw
      refine xr_bifeq (tgt := 38) hx hb dX1_ties_22 (by decide) (fun h2 => ?_) (fun h2 => ?_)
      · have e := ph_ct_f (Q := (fun M => ph_so n M && (ph_F tr va n false 8 M == ph_ls tr va n false))) (k := j) (by show (ph_so n j && _) = false; rw [h2]; rfl)
        refine lv_iinc (v := nI (j + 1)) (lv' := [(3, .int (nI (j + 1))), (0, .ref (q 0)), (1, .int (nI (ph_ls tr va n false))), (2, .int (nI (ph_ct (fun M => ph_so n M && (ph_F tr va n false 8 M == ph_ls tr va n false)) j)))]) hx hb dX1_ties_38 hl (k := 3) rfl (nI_1 _) (by decide) rfl (fun ls hl => ?_)
        refine lv_goto (tgt := 10) hx hb dX1_ties_41 (by decide) ?_
        exact ih (j + 1) (by omega) (by omega) _ _ _ hP hD hS (by rw [e]; exact (lv_sub hl [1, 2, 3, 0] rfl))
      · refine lv_aload_n hx hb dX1_ties_25 rfl (lv_at hl 0 rfl) ?_
        refine lv_iload_n hx hb dX1_ties_26 rfl (lv_at hl 3 rfl) ?_
        refine lv_iconst (v := nI 0) hx hb dX1_ties_27 (by decide +kernel) ?_
        refine xcall_i (q0 := 0) (ci := 1) (As := [.int (nI j), .int (nI false.toNat)]) (rest := []) X hP hD hS hl (mM_cost l dC dI d q _ n j false tr va hn (by omega) hva htr) (cwV 2 hts (lw_V q212 q214 qs14 q20 q215) rfl rfl rfl (by decide +kernel) ⟨Nat.le_of_ble_eq_true rfl, Nat.le_of_ble_eq_true rfl⟩) rfl rfl rfl rfl (Nat.le_of_ble_eq_true rfl) dX1_ties_28 ⟨Nat.zero_le _, Nat.zero_le _⟩ (fun r u H locs hw hP hD hS => ?_)
        have hP : va_P (dC, dI) cls2 (MW q d (nI n) (nF va) (nF tr)) H := hP
        have hD : va_D A (MW q d (nI n) (nF va) (nF tr)) := hD
        subst hw
        refine lv_iload_n hx hb dX1_ties_31 rfl (lv_at hl 1 rfl) ?_
        refine xr_ne (tgt := 38) hx hb (by omega) (by omega) dX1_ties_32 (by decide) (fun h3 => ?_) (fun h3 => ?_)
        · have e := ph_ct_f (Q := (fun M => ph_so n M && (ph_F tr va n false 8 M == ph_ls tr va n false))) (k := j) (by show (ph_so n j && _) = false; rw [h2]; simp [h3])
          refine lv_iinc (v := nI (j + 1)) (lv' := [(3, .int (nI (j + 1))), (0, .ref (q 0)), (1, .int (nI (ph_ls tr va n false))), (2, .int (nI (ph_ct (fun M => ph_so n M && (ph_F tr va n false 8 M == ph_ls tr va n false)) j)))]) hx hb dX1_ties_38 hl (k := 3) rfl (nI_1 _) (by decide) rfl (fun ls hl => ?_)
          refine lv_goto (tgt := 10) hx hb dX1_ties_41 (by decide) ?_
          exact ih (j + 1) (by omega) (by omega) _ _ _ hP hD hS (by rw [e]; exact (lv_sub hl [1, 2, 3, 0] rfl))
        · have e := ph_ct_t (Q := (fun M => ph_so n M && (ph_F tr va n false 8 M == ph_ls tr va n false))) (k := j) (by show (ph_so n j && _) = true; rw [h2, h3]; simp)
          refine lv_iinc (v := nI ((ph_ct (fun M => ph_so n M && (ph_F tr va n false 8 M == ph_ls tr va n false)) j) + 1)) (lv' := [(2, .int (nI ((ph_ct (fun M => ph_so n M && (ph_F tr va n false 8 M == ph_ls tr va n false)) j) + 1))), (0, .ref (q 0)), (1, .int (nI (ph_ls tr va n false))), (3, .int (nI j))]) hx hb dX1_ties_35 hl (k := 2) rfl (nI_1 _) (by decide) rfl (fun ls hl => ?_)
          refine lv_iinc (v := nI (j + 1)) (lv' := [(3, .int (nI (j + 1))), (2, .int (nI ((ph_ct (fun M => ph_so n M && (ph_F tr va n false 8 M == ph_ls tr va n false)) j) + 1))), (0, .ref (q 0)), (1, .int (nI (ph_ls tr va n false)))]) hx hb dX1_ties_38 hl (k := 3) rfl (nI_1 _) (by decide) rfl (fun ls hl => ?_)
          refine lv_goto (tgt := 10) hx hb dX1_ties_41 (by decide) ?_
          exact ih (j + 1) (by omega) (by omega) _ _ _ hP hD hS (by rw [e]; exact (lv_sub hl [2, 3, 1, 0] rfl))
set_option maxHeartbeats 4000000 in
set_option maxRecDepth 100000 in
/-- ties() -/
theorem mM_ties (l : Launch) (dC : Nat → ClassId) (dI : Nat → Nat → Nat) (d : ClassId) (q : Nat → Nat) (sz : Nat) (n : Nat) (tr va : Nat → Nat) (hn : n ≤ 8) (hva : ∀ i, va i ≤ 1) (htr : ∀ i, tr i ≤ 9) : xMi l dC dI d sz yX1_ties cX1_ties 4 (some .int) ({ frames := 3, cells := 0, slots := 0, locals := 80 } : Room) [.ref (q 0)] (MW q d (nI n) (nF va) (nF tr)) (fun r (_ : Unit) => r = nI (ph_ti tr va n)) (fun _ => MW q d (nI n) (nF va) (nF tr)) := by
  refine xM_i (by decide +kernel) (Nat.le_of_ble_eq_true rfl) ?_
  intro p e s m below meth c A ls X hP hD hS hl
  have X : xC cX1_ties 4 (some .int) RX1 p s m meth c _ dC dI d A := X
  obtain ⟨hx, hb, hr, hlocks, hml, hown, hts, hK, hA⟩ := id X
  have hl : lv_has ls 4 [(0, .ref (q 0))] := hl
  refine lv_aload_n hx hb dX1_ties_0 rfl (lv_at hl 0 rfl) ?_
  refine lv_iconst (v := nI 0) hx hb dX1_ties_1 (by decide +kernel) ?_
  refine xcall_i (q0 := 0) (ci := 1) (As := [.int (nI false.toNat)]) (rest := []) X hP hD hS hl (mM_best l dC dI d q _ n false tr va hn hva htr) (cwV 1 hts (lw_V q203 q205 qs12 q20 q206) rfl rfl rfl (by decide +kernel) ⟨Nat.le_of_ble_eq_true rfl, Nat.le_of_ble_eq_true rfl⟩) rfl rfl rfl rfl (Nat.le_of_ble_eq_true rfl) dX1_ties_2 ⟨Nat.zero_le _, Nat.zero_le _⟩ (fun r u H locs hw hP hD hS => ?_)
  have hP : va_P (dC, dI) cls2 (MW q d (nI n) (nF va) (nF tr)) H := hP
  have hD : va_D A (MW q d (nI n) (nF va) (nF tr)) := hD
  subst hw
  refine lv_istore_n (lv' := [(1, .int (nI (ph_ls tr va n false))), (0, .ref (q 0))]) hx hb dX1_ties_5 rfl hl (by decide) rfl (fun ls hl => ?_)
  refine lv_iconst (v := nI 0) hx hb dX1_ties_6 (by decide +kernel) ?_
  refine lv_istore_n (lv' := [(2, .int (nI 0)), (1, .int (nI (ph_ls tr va n false))), (0, .ref (q 0))]) hx hb dX1_ties_7 rfl hl (by decide) rfl (fun ls hl => ?_)
  refine lv_iconst (v := nI 0) hx hb dX1_ties_8 (by decide +kernel) ?_
  refine lv_istore_n (lv' := [(3, .int (nI 0)), (2, .int (nI 0)), (1, .int (nI (ph_ls tr va n false))), (0, .ref (q 0))]) hx hb dX1_ties_9 rfl hl (by decide) rfl (fun ls hl => ?_)
  exact lM_ties X n tr va hn hva htr (fun H locs ls hP hD hS hl => by
      refine lv_iload_n hx hb dX1_ties_44 rfl (lv_at hl 2 rfl) ?_
      exact xret_i X () hP hD hS rfl dX1_ties_45) 257 0 (by omega) (by omega) _ _ _ hP hD hS (lv_sub hl [3, 2, 1, 0] rfl)
set_option maxHeartbeats 4000000 in
set_option maxRecDepth 100000 in
/-- costOf(mask) -/
theorem mM_costOf (l : Launch) (dC : Nat → ClassId) (dI : Nat → Nat → Nat) (d : ClassId) (q : Nat → Nat) (sz : Nat) (n : Nat) (tr va : Nat → Nat) (mask : Int32) (hn : n ≤ 8) (hva : ∀ i, va i ≤ 1) (htr : ∀ i, tr i ≤ 9) : xMi l dC dI d sz yX1_costOf cX1_costOf 3 (some .int) ({ frames := 2, cells := 0, slots := 0, locals := 56 } : Room) [.ref (q 0), .int mask] (MW q d (nI n) (nF va) (nF tr)) (fun r (_ : Unit) => r = nI (ph_F tr va n false 8 (ph_mk n mask))) (fun _ => MW q d (nI n) (nF va) (nF tr)) := by
  refine xM_i (by decide +kernel) (Nat.le_of_ble_eq_true rfl) ?_
  intro p e s m below meth c A ls X hP hD hS hl
  have X : xC cX1_costOf 3 (some .int) RX1 p s m meth c _ dC dI d A := X
  obtain ⟨hx, hb, hr, hlocks, hml, hown, hts, hK, hA⟩ := id X
  have hl : lv_has ls 3 [(0, .ref (q 0)), (1, .int mask)] := hl
  have hp := ph_pow8 hn
  refine lv_iload_n hx hb dX1_costOf_0 rfl (lv_at hl 1 rfl) ?_
  refine lv_sipush (v := nI 254) hx hb dX1_costOf_1 (by decide +kernel) ?_
  refine lv_iand hx hb dX1_costOf_4 ?_
  refine lv_iconst (v := nI 1) hx hb dX1_costOf_5 (by decide +kernel) ?_
  refine lv_aload_n hx hb dX1_costOf_6 rfl (lv_at hl 0 rfl) ?_
  refine va_get (D := (dC, dI)) (ci := 1) (v := .int (nI n)) (C := RX1) (T := TX1) (N := 3) hx hb hts in_X1 hown hK hP 0 rfl rfl 0 (by decide) (hts _ q168) (fun _ h9 => h9) rfl dX1_costOf_7 ?_
  refine xr_shl1 hx hb (by omega) dX1_costOf_10 ?_
  refine lv_iconst (v := nI 1) hx hb dX1_costOf_11 (by decide +kernel) ?_
  refine xr_sub hx hb (by omega) dX1_costOf_12 ?_
  refine lv_iand hx hb dX1_costOf_13 ?_
  refine xr_v (y := nI (ph_mk n mask)) (ph_mk_m hn mask) ?_
  refine lv_istore_n (lv' := [(2, .int (nI (ph_mk n mask))), (0, .ref (q 0)), (1, .int mask)]) hx hb dX1_costOf_14 rfl hl (by decide) rfl (fun ls hl => ?_)
  refine lv_aload_n hx hb dX1_costOf_15 rfl (lv_at hl 1 rfl) ?_
  refine lv_iload_n hx hb dX1_costOf_16 rfl (lv_at hl 0 rfl) ?_
  refine lv_iconst (v := nI 0) hx hb dX1_costOf_17 (by decide +kernel) ?_
  refine xcall_i (q0 := 0) (ci := 1) (As := [.int (nI (ph_mk n mask)), .int (nI false.toNat)]) (rest := []) X hP hD hS hl (mM_cost l dC dI d q _ n (ph_mk n mask) false tr va hn (ph_mk_lt hn mask) hva htr) (cwV 2 hts (lw_V q212 q214 qs14 q20 q215) rfl rfl rfl (by decide +kernel) ⟨Nat.le_of_ble_eq_true rfl, Nat.le_of_ble_eq_true rfl⟩) rfl rfl rfl rfl (Nat.le_of_ble_eq_true rfl) dX1_costOf_18 ⟨Nat.zero_le _, Nat.zero_le _⟩ (fun r u H locs hw hP hD hS => ?_)
  have hP : va_P (dC, dI) cls2 (MW q d (nI n) (nF va) (nF tr)) H := hP
  have hD : va_D A (MW q d (nI n) (nF va) (nF tr)) := hD
  subst hw
  exact xret_i X () hP hD hS rfl dX1_costOf_21
set_option maxHeartbeats 4000000 in
set_option maxRecDepth 100000 in
theorem lM_leastWith {p : Program} {l : Launch} {e : Env} {s : State} {m : MethodId} {args : Array Value} {below : List Frame} {meth : Method} {c : Code} {dC : Nat → ClassId} {dI : Nat → Nat → Nat} {d : ClassId} {A : Nat → Prop} {Q : State → Prop} {q : Nat → Nat} (X : xC cX1_leastWith 8 (some .int) RX1 p s m meth c args dC dI d A) (n an bn : Nat) (ap : Bool) (tr va : Nat → Nat) (hn : n ≤ 8) (hva : ∀ i, va i ≤ 1) (htr : ∀ i, tr i ≤ 9) (ha8 : an < 8) (hb8 : bn < 8)
    (kk : ∀ (H : Heap) (locs : List Loc) (ls : Array Slot), va_P (dC, dI) cls2 (MW q d (nI n) (nF va) (nF tr)) H → va_D A (MW q d (nI n) (nF va) (nF tr)) → va_S A s.heap H locs → lv_has ls 8 [(0, .ref (q 0)), (1, .int (nI an)), (2, .int (nI bn)), (3, .int (nI ap.toNat)), (4, .int (nI (ph_mn (fun M => ph_so n M && ((M.testBit an != M.testBit bn) == ap)) (ph_F tr va n false 8) 256))), (5, .int (nI 256))] → W p l e ({ frames := 2, cells := 0, slots := 0, locals := 56 } : Room) s m args below meth c H locs 0 0 Q (F0 m 104 ls [])) :
    ∀ (k : Nat) (j : Nat), j ≤ 256 → 256 < j + k → ∀ (H : Heap) (locs : List Loc) (ls : Array Slot), va_P (dC, dI) cls2 (MW q d (nI n) (nF va) (nF tr)) H → va_D A (MW q d (nI n) (nF va) (nF tr)) → va_S A s.heap H locs → lv_has ls 8 [(0, .ref (q 0)), (1, .int (nI an)), (2, .int (nI bn)), (3, .int (nI ap.toNat)), (4, .int (nI (ph_mn (fun M => ph_so n M && ((M.testBit an != M.testBit bn) == ap)) (ph_F tr va n false 8) j))), (5, .int (nI j))] → W p l e ({ frames := 2, cells := 0, slots := 0, locals := 56 } : Room) s m args below meth c H locs 0 0 Q (F0 m 34 ls []) := by
  obtain ⟨hx, hb, hr, hlocks, hml, hown, hts, hK, hA⟩ := id X
  intro k
  induction k with
  | zero =>
    intro j hj hk
    exact absurd hk (by omega)
  | succ k ih =>
    intro j hj hk H locs ls hP hD hS hl
    have hm := ph_mn_le (P := (fun M => ph_so n M && ((M.testBit an != M.testBit bn) == ap))) (F := ph_F tr va n false 8) j
    have h8 := ph_F8 (va := va) (f := false) htr hn j
    refine lv_iload hx hb dX1_leastWith_34 (lv_at hl 5 rfl) ?_
    refine lv_sipush (v := nI 256) hx hb dX1_leastWith_36 (by decide +kernel) ?_
    refine xr_ge (tgt := 104) hx hb (by omega) (by omega) dX1_leastWith_39 (by decide) (fun h => ?_) (fun h => ?_)
    · obtain rfl : j = 256 := by omega
      exact kk _ _ _ hP hD hS hl
    · have tail : ∀ df : Bool, df = (j.testBit an != j.testBit bn) → W p l e ({ frames := 2, cells := 0, slots := 0, locals := 56 } : Room) s m args below meth c H locs 0 0 Q (F0 m 62 ls [.int (nI df.toNat)]) := by
        intro df hdf
        refine lv_istore (lv' := [(6, .int (nI df.toNat)), (0, .ref (q 0)), (1, .int (nI an)), (2, .int (nI bn)), (3, .int (nI ap.toNat)), (4, .int (nI (ph_mn (fun M => ph_so n M && ((M.testBit an != M.testBit bn) == ap)) (ph_F tr va n false 8) j))), (5, .int (nI j))]) hx hb dX1_leastWith_62 hl (by decide) rfl (fun ls hl => ?_)
        refine lv_aload_n hx hb dX1_leastWith_64 rfl (lv_at hl 1 rfl) ?_
        refine lv_iload hx hb dX1_leastWith_65 (lv_at hl 6 rfl) ?_
        refine xcall_i (q0 := 0) (ci := 1) (As := [.int (nI j)]) (rest := []) X hP hD hS hl (mM_isSorting l dC dI d q _ n j _ _ hn (by omega)) (cwV 1 hts (lw_V q208 q210 qs13 q20 q211) rfl rfl rfl (by decide +kernel) ⟨Nat.le_of_ble_eq_true rfl, Nat.le_of_ble_eq_true rfl⟩) rfl rfl rfl rfl (Nat.le_of_ble_eq_true rfl) dX1_leastWith_67 ⟨Nat.zero_le _, Nat.zero_le _⟩ (fun r u H locs hw hP hD hS => ?_)
        have hP : va_P (dC, dI) cls2 (MW q d (nI n) (nF va) (nF tr)) H := hP
        have hD : va_D A (MW q d (nI n) (nF va) (nF tr)) := hD
        subst hw
        refine xr_bifeq (tgt := 98) hx hb dX1_leastWith_70 (by decide) (fun h2 => ?_) (fun h2 => ?_)
        · have e := ph_mn_f (P := (fun M => ph_so n M && ((M.testBit an != M.testBit bn) == ap))) (F := ph_F tr va n false 8) (k := j) (by show (ph_so n j && _) = false; rw [h2]; rfl)
          refine lv_iinc (v := nI (j + 1)) (lv' := [(5, .int (nI (j + 1))), (6, .int (nI df.toNat)), (0, .ref (q 0)), (1, .int (nI an)), (2, .int (nI bn)), (3, .int (nI ap.toNat)), (4, .int (nI (ph_mn (fun M => ph_so n M && ((M.testBit an != M.testBit bn) == ap)) (ph_F tr va n false 8) j)))]) hx hb dX1_leastWith_98 hl (k := 6) rfl (nI_1 _) (by decide) rfl (fun ls hl => ?_)
          refine lv_goto (tgt := 34) hx hb dX1_leastWith_101 (by decide) ?_
          exact ih (j + 1) (by omega) (by omega) _ _ _ hP hD hS (by rw [e]; exact (lv_sub hl [2, 3, 4, 5, 6, 0] rfl))
        · refine lv_iload hx hb dX1_leastWith_73 (lv_at hl 0 rfl) ?_
          refine lv_iload_n hx hb dX1_leastWith_75 rfl (lv_at hl 4 rfl) ?_
          refine xr_bne (tgt := 98) hx hb dX1_leastWith_76 (by decide) (fun h3 => ?_) (fun h3 => ?_)
          · have e := ph_mn_f (P := (fun M => ph_so n M && ((M.testBit an != M.testBit bn) == ap))) (F := ph_F tr va n false 8) (k := j) (by show (ph_so n j && ((j.testBit an != j.testBit bn) == ap)) = false; rw [h2, ← hdf]; simp [h3])
            refine lv_iinc (v := nI (j + 1)) (lv' := [(5, .int (nI (j + 1))), (6, .int (nI df.toNat)), (0, .ref (q 0)), (1, .int (nI an)), (2, .int (nI bn)), (3, .int (nI ap.toNat)), (4, .int (nI (ph_mn (fun M => ph_so n M && ((M.testBit an != M.testBit bn) == ap)) (ph_F tr va n false 8) j)))]) hx hb dX1_leastWith_98 hl (k := 6) rfl (nI_1 _) (by decide) rfl (fun ls hl => ?_)
            refine lv_goto (tgt := 34) hx hb dX1_leastWith_101 (by decide) ?_
            exact ih (j + 1) (by omega) (by omega) _ _ _ hP hD hS (by rw [e]; exact (lv_sub hl [2, 3, 4, 5, 6, 0] rfl))
          · have e := ph_mn_t (P := (fun M => ph_so n M && ((M.testBit an != M.testBit bn) == ap))) (F := ph_F tr va n false 8) (k := j) (by show (ph_so n j && ((j.testBit an != j.testBit bn) == ap)) = true; rw [h2, ← hdf, h3]; simp)
            refine lv_aload_n hx hb dX1_leastWith_79 rfl (lv_at hl 1 rfl) ?_
            refine lv_iload hx hb dX1_leastWith_80 (lv_at hl 6 rfl) ?_
            refine lv_iconst (v := nI 0) hx hb dX1_leastWith_82 (by decide +kernel) ?_
            refine xcall_i (q0 := 0) (ci := 1) (As := [.int (nI j), .int (nI false.toNat)]) (rest := []) X hP hD hS hl (mM_cost l dC dI d q _ n j false tr va hn (by omega) hva htr) (cwV 2 hts (lw_V q212 q214 qs14 q20 q215) rfl rfl rfl (by decide +kernel) ⟨Nat.le_of_ble_eq_true rfl, Nat.le_of_ble_eq_true rfl⟩) rfl rfl rfl rfl (Nat.le_of_ble_eq_true rfl) dX1_leastWith_83 ⟨Nat.zero_le _, Nat.zero_le _⟩ (fun r u H locs hw hP hD hS => ?_)
            have hP : va_P (dC, dI) cls2 (MW q d (nI n) (nF va) (nF tr)) H := hP
            have hD : va_D A (MW q d (nI n) (nF va) (nF tr)) := hD
            subst hw
            refine lv_istore (lv' := [(7, .int (nI (ph_F tr va n false 8 j))), (6, .int (nI df.toNat)), (0, .ref (q 0)), (1, .int (nI an)), (2, .int (nI bn)), (3, .int (nI ap.toNat)), (4, .int (nI (ph_mn (fun M => ph_so n M && ((M.testBit an != M.testBit bn) == ap)) (ph_F tr va n false 8) j))), (5, .int (nI j))]) hx hb dX1_leastWith_86 hl (by decide) rfl (fun ls hl => ?_)
            refine lv_aload_n hx hb dX1_leastWith_88 rfl (lv_at hl 2 rfl) ?_
            refine lv_iload hx hb dX1_leastWith_89 (lv_at hl 6 rfl) ?_
            refine lv_iload hx hb dX1_leastWith_91 (lv_at hl 0 rfl) ?_
            refine xcall_i (q0 := 0) (ci := 1) (As := [.int (nI (ph_mn (fun M => ph_so n M && ((M.testBit an != M.testBit bn) == ap)) (ph_F tr va n false 8) j)), .int (nI (ph_F tr va n false 8 j))]) (rest := []) X hP hD hS hl (mM_smaller l dC dI d q _ _ _ _ (ph_mn (fun M => ph_so n M && ((M.testBit an != M.testBit bn) == ap)) (ph_F tr va n false 8) j) (ph_F tr va n false 8 j) (by omega) (by omega)) (cwV 2 hts (lw_V q220 q222 qs16 q20 q223) rfl rfl rfl (by decide +kernel) ⟨Nat.le_of_ble_eq_true rfl, Nat.le_of_ble_eq_true rfl⟩) rfl rfl rfl rfl (Nat.le_of_ble_eq_true rfl) dX1_leastWith_93 ⟨Nat.zero_le _, Nat.zero_le _⟩ (fun r u H locs hw hP hD hS => ?_)
            have hP : va_P (dC, dI) cls2 (MW q d (nI n) (nF va) (nF tr)) H := hP
            have hD : va_D A (MW q d (nI n) (nF va) (nF tr)) := hD
            subst hw
            refine lv_istore (lv' := [(4, .int (nI (min (ph_mn (fun M => ph_so n M && ((M.testBit an != M.testBit bn) == ap)) (ph_F tr va n false 8) j) (ph_F tr va n false 8 j)))), (7, .int (nI (ph_F tr va n false 8 j))), (6, .int (nI df.toNat)), (0, .ref (q 0)), (1, .int (nI an)), (2, .int (nI bn)), (3, .int (nI ap.toNat)), (5, .int (nI j))]) hx hb dX1_leastWith_96 hl (by decide) rfl (fun ls hl => ?_)
            refine lv_iinc (v := nI (j + 1)) (lv' := [(5, .int (nI (j + 1))), (4, .int (nI (min (ph_mn (fun M => ph_so n M && ((M.testBit an != M.testBit bn) == ap)) (ph_F tr va n false 8) j) (ph_F tr va n false 8 j)))), (7, .int (nI (ph_F tr va n false 8 j))), (6, .int (nI df.toNat)), (0, .ref (q 0)), (1, .int (nI an)), (2, .int (nI bn)), (3, .int (nI ap.toNat))]) hx hb dX1_leastWith_98 hl (k := 7) rfl (nI_1 _) (by decide) rfl (fun ls hl => ?_)
            refine lv_goto (tgt := 34) hx hb dX1_leastWith_101 (by decide) ?_
            exact ih (j + 1) (by omega) (by omega) _ _ _ hP hD hS (by rw [e]; exact (lv_sub hl [4, 5, 6, 7, 1, 0] rfl))
      refine lv_iload hx hb dX1_leastWith_42 (lv_at hl 5 rfl) ?_
      refine lv_iload_n hx hb dX1_leastWith_44 rfl (lv_at hl 1 rfl) ?_
      refine lv_ishr hx hb dX1_leastWith_45 ?_
      refine lv_iconst (v := nI 1) hx hb dX1_leastWith_46 (by decide +kernel) ?_
      refine xr_bit hx hb (by omega) (by omega) dX1_leastWith_47 ?_
      refine lv_iload hx hb dX1_leastWith_48 (lv_at hl 5 rfl) ?_
      refine lv_iload_n hx hb dX1_leastWith_50 rfl (lv_at hl 2 rfl) ?_
      refine lv_ishr hx hb dX1_leastWith_51 ?_
      refine lv_iconst (v := nI 1) hx hb dX1_leastWith_52 (by decide +kernel) ?_
      refine xr_bit hx hb (by omega) (by omega) dX1_leastWith_53 ?_
      refine xr_beq (tgt := 61) hx hb dX1_leastWith_54 (by decide) (fun h3 => ?_) (fun h3 => ?_)
      · refine lv_iconst (v := nI 0) hx hb dX1_leastWith_61 (by decide +kernel) ?_
        exact tail false (by rw [h3]; simp)
      · refine lv_iconst (v := nI 1) hx hb dX1_leastWith_57 (by decide +kernel) ?_
        refine lv_goto (tgt := 62) hx hb dX1_leastWith_58 (by decide) ?_
        exact tail true (by simp [h3])
set_option maxHeartbeats 4000000 in
set_option maxRecDepth 100000 in
/-- leastWith(a, b, apart) -/
theorem mM_leastWith (l : Launch) (dC : Nat → ClassId) (dI : Nat → Nat → Nat) (d : ClassId) (q : Nat → Nat) (sz : Nat) (n : Nat) (tr va : Nat → Nat) (a b : Int32) (ap : Bool) (hn : n ≤ 8) (hva : ∀ i, va i ≤ 1) (htr : ∀ i, tr i ≤ 9) : xMi l dC dI d sz yX1_leastWith cX1_leastWith 8 (some .int) ({ frames := 2, cells := 0, slots := 0, locals := 56 } : Room) [.ref (q 0), .int a, .int b, .int (nI ap.toNat)] (MW q d (nI n) (nF va) (nF tr)) (fun r (_ : Unit) => r = ph_lx tr va n a b ap) (fun _ => MW q d (nI n) (nF va) (nF tr)) := by
  refine xM_i (by decide +kernel) (Nat.le_of_ble_eq_true rfl) ?_
  intro p e s m below meth c A ls X hP hD hS hl
  have X : xC cX1_leastWith 8 (some .int) RX1 p s m meth c _ dC dI d A := X
  obtain ⟨hx, hb, hr, hlocks, hml, hown, hts, hK, hA⟩ := id X
  have hl : lv_has ls 8 [(0, .ref (q 0)), (1, .int a), (2, .int b), (3, .int (nI ap.toNat))] := hl
  refine lv_aload_n hx hb dX1_leastWith_0 rfl (lv_at hl 0 rfl) ?_
  refine lv_iload_n hx hb dX1_leastWith_1 rfl (lv_at hl 1 rfl) ?_
  refine xcall_i (q0 := 0) (ci := 1) (As := [.int a]) (rest := []) X hP hD hS hl (mM_bad l dC dI d q _ _ _ _ a) (cwV 1 hts (lw_V q186 q188 qs11 q20 q189) rfl rfl rfl (by decide +kernel) ⟨Nat.le_of_ble_eq_true rfl, Nat.le_of_ble_eq_true rfl⟩) rfl rfl rfl rfl (Nat.le_of_ble_eq_true rfl) dX1_leastWith_2 ⟨Nat.zero_le _, Nat.zero_le _⟩ (fun r u H locs hw hP hD hS => ?_)
  have hP : va_P (dC, dI) cls2 (MW q d (nI n) (nF va) (nF tr)) H := hP
  have hD : va_D A (MW q d (nI n) (nF va) (nF tr)) := hD
  subst hw
  refine xr_bifne (tgt := 25) hx hb dX1_leastWith_5 (by decide) (fun h1 => ?_) (fun h1 => ?_)
  · refine lv_iconst (v := (-1)) hx hb dX1_leastWith_25 (by decide +kernel) ?_
    exact xret_i X () hP hD hS (by unfold ph_lx; rw [if_pos (Or.inl (of_decide_eq_true h1))]) dX1_leastWith_26
  · have h1 := of_decide_eq_false h1
    refine lv_aload_n hx hb dX1_leastWith_8 rfl (lv_at hl 0 rfl) ?_
    refine lv_iload_n hx hb dX1_leastWith_9 rfl (lv_at hl 2 rfl) ?_
    refine xcall_i (q0 := 0) (ci := 1) (As := [.int b]) (rest := []) X hP hD hS hl (mM_bad l dC dI d q _ _ _ _ b) (cwV 1 hts (lw_V q186 q188 qs11 q20 q189) rfl rfl rfl (by decide +kernel) ⟨Nat.le_of_ble_eq_true rfl, Nat.le_of_ble_eq_true rfl⟩) rfl rfl rfl rfl (Nat.le_of_ble_eq_true rfl) dX1_leastWith_10 ⟨Nat.zero_le _, Nat.zero_le _⟩ (fun r u H locs hw hP hD hS => ?_)
    have hP : va_P (dC, dI) cls2 (MW q d (nI n) (nF va) (nF tr)) H := hP
    have hD : va_D A (MW q d (nI n) (nF va) (nF tr)) := hD
    subst hw
    refine xr_bifne (tgt := 25) hx hb dX1_leastWith_13 (by decide) (fun h2 => ?_) (fun h2 => ?_)
    · refine lv_iconst (v := (-1)) hx hb dX1_leastWith_25 (by decide +kernel) ?_
      exact xret_i X () hP hD hS (by unfold ph_lx; rw [if_pos (Or.inr (Or.inl (of_decide_eq_true h2)))]) dX1_leastWith_26
    · have h2 := of_decide_eq_false h2
      obtain ⟨an, ha2, rfl⟩ := nI_of (fun z => h1 (Or.inl z))
      have han : an < n := Nat.not_le.mp (fun z => h1 (Or.inr ((nI_leI (by omega) ha2).mpr z)))
      obtain ⟨bn, hb2, rfl⟩ := nI_of (fun z => h2 (Or.inl z))
      have hbn : bn < n := Nat.not_le.mp (fun z => h2 (Or.inr ((nI_leI (by omega) hb2).mpr z)))
      refine lv_iload_n hx hb dX1_leastWith_16 rfl (lv_at hl 1 rfl) ?_
      refine lv_iload_n hx hb dX1_leastWith_17 rfl (lv_at hl 2 rfl) ?_
      refine xr_ne (tgt := 27) hx hb (by omega) (by omega) dX1_leastWith_18 (by decide) (fun h3 => ?_) (fun h3 => ?_)
      · have hab : ¬ (an = bn ∧ ap = true) := fun z => h3 z.1
        have hno : ¬ ((nI an < 0 ∨ nI n ≤ nI an) ∨ (nI bn < 0 ∨ nI n ≤ nI bn) ∨ (nI an = nI bn ∧ ap = true)) := fun y => y.elim h1 (fun y => y.elim h2 (fun y => hab ⟨(nI_eq (by omega) (by omega)).mp y.1, y.2⟩))
        refine lv_ldc hx hb hown (hts _ q207) dX1_leastWith_27 ?_
        refine xr_v (y := nI 100000) (by decide +kernel) ?_
        refine lv_istore (lv' := [(4, .int (nI 100000)), (0, .ref (q 0)), (1, .int (nI an)), (2, .int (nI bn)), (3, .int (nI ap.toNat))]) hx hb dX1_leastWith_29 hl (by decide) rfl (fun ls hl => ?_)
        refine lv_iconst (v := nI 0) hx hb dX1_leastWith_31 (by decide +kernel) ?_
        refine lv_istore (lv' := [(5, .int (nI 0)), (4, .int (nI 100000)), (0, .ref (q 0)), (1, .int (nI an)), (2, .int (nI bn)), (3, .int (nI ap.toNat))]) hx hb dX1_leastWith_32 hl (by decide) rfl (fun ls hl => ?_)
        exact lM_leastWith X n an bn ap tr va hn hva htr (by omega) (by omega) (fun H locs ls hP hD hS hl => by
        refine lv_iload hx hb dX1_leastWith_104 (lv_at hl 4 rfl) ?_
        exact xret_i X () hP hD hS (by unfold ph_lx; rw [if_neg hno, nI_clamp ha2, nI_clamp hb2]; rfl) dX1_leastWith_106) 257 0 (by omega) (by omega) _ _ _ hP hD hS (lv_sub hl [2, 3, 4, 5, 1, 0] rfl)
      · refine lv_iload_n hx hb dX1_leastWith_21 rfl (lv_at hl 3 rfl) ?_
        refine xr_bifeq (tgt := 27) hx hb dX1_leastWith_22 (by decide) (fun h4 => ?_) (fun h4 => ?_)
        · have hab : ¬ (an = bn ∧ ap = true) := fun z => by rw [h4] at z; exact absurd z.2 (by decide)
          have hno : ¬ ((nI an < 0 ∨ nI n ≤ nI an) ∨ (nI bn < 0 ∨ nI n ≤ nI bn) ∨ (nI an = nI bn ∧ ap = true)) := fun y => y.elim h1 (fun y => y.elim h2 (fun y => hab ⟨(nI_eq (by omega) (by omega)).mp y.1, y.2⟩))
          refine lv_ldc hx hb hown (hts _ q207) dX1_leastWith_27 ?_
          refine xr_v (y := nI 100000) (by decide +kernel) ?_
          refine lv_istore (lv' := [(4, .int (nI 100000)), (0, .ref (q 0)), (1, .int (nI an)), (2, .int (nI bn)), (3, .int (nI ap.toNat))]) hx hb dX1_leastWith_29 hl (by decide) rfl (fun ls hl => ?_)
          refine lv_iconst (v := nI 0) hx hb dX1_leastWith_31 (by decide +kernel) ?_
          refine lv_istore (lv' := [(5, .int (nI 0)), (4, .int (nI 100000)), (0, .ref (q 0)), (1, .int (nI an)), (2, .int (nI bn)), (3, .int (nI ap.toNat))]) hx hb dX1_leastWith_32 hl (by decide) rfl (fun ls hl => ?_)
          exact lM_leastWith X n an bn ap tr va hn hva htr (by omega) (by omega) (fun H locs ls hP hD hS hl => by
        refine lv_iload hx hb dX1_leastWith_104 (lv_at hl 4 rfl) ?_
        exact xret_i X () hP hD hS (by unfold ph_lx; rw [if_neg hno, nI_clamp ha2, nI_clamp hb2]; rfl) dX1_leastWith_106) 257 0 (by omega) (by omega) _ _ _ hP hD hS (lv_sub hl [2, 3, 4, 5, 1, 0] rfl)
        · refine lv_iconst (v := (-1)) hx hb dX1_leastWith_25 (by decide +kernel) ?_
          exact xret_i X () hP hD hS (by unfold ph_lx; rw [if_pos (Or.inr (Or.inr ⟨by rw [h3], h4⟩))]) dX1_leastWith_26
end
section
/-! the two constructors (printed by gen_init.py) -/
set_option maxRecDepth 100000
theorem xk_same {D : va_G} {cl : List vw_C} {tys : List (ClassId × FieldType)} {U : State} (h : va_K D cl tys U) (i j : Nat) {ci cj : ClassId} (hi : tys[i]? = some (ci, .int)) (hj : tys[j]? = some (cj, .int)) : ci = cj := by
  have a : U.vm.findClass ("[" ++ FieldType.int.toString) = some ci := (h.2 i _ hi).2
  have b : U.vm.findClass ("[" ++ FieldType.int.toString) = some cj := (h.2 j _ hj).2
  exact Option.some.inj (a.symm.trans b)
set_option maxHeartbeats 4000000 in
set_option maxRecDepth 100000 in
theorem mX_init (l : Launch) (dC : Nat → ClassId) (dI : Nat → Nat → Nat) (b0 sz : Nat) : Met l yX0_init (ws_ yX0_init cX0_init 1 none) ({ frames := 1, cells := 5, slots := 896, locals := 12 } : Room) (va_Pc [.ref b0] (fun U => U.heap.size = sz ∧ va_P (dC, dI) cls2 [(b0, .inr (0, [.int 0, .null, .null, .int 0, .null, .null, .null, .int 0, .int 0, .int 0, .int 0]))] U.heap ∧ va_K (dC, dI) cls2 [] U ∧ va_D (fun _ => True) [(b0, .inr (0, [.int 0, .null, .null, .int 0, .null, .null, .null, .int 0, .int 0, .int 0, .int 0]))])) (va_Qv (fun _ : Unit => True) (fun _ t => ∃ (q : Nat → Nat) (d : ClassId), q 0 = b0 ∧ va_P (dC, dI) cls2 (XW q d (nI 0) (nF (fun _ => 0)) (nF (fun _ => 0)) 0 (fun _ => 0) (fun _ => 0) (fun _ => 0) 0 0 0 0) t.heap ∧ va_K (dC, dI) cls2 [(d, .int)] t ∧ va_D (va_A [(b0, .inr (0, [.int 0, .null, .null, .int 0, .null, .null, .null, .int 0, .int 0, .int 0, .int 0]))] sz) (XW q d (nI 0) (nF (fun _ => 0)) (nF (fun _ => 0)) 0 (fun _ => 0) (fun _ => 0) (fun _ => 0) 0 0 0 0)) (va_A [(b0, .inr (0, [.int 0, .null, .null, .int 0, .null, .null, .null, .int 0, .int 0, .int 0, .int 0]))] sz)) 5 896 (va_A [(b0, .inr (0, [.int 0, .null, .null, .int 0, .null, .null, .null, .int 0, .int 0, .int 0, .int 0]))] sz) := by
  refine Met.ofW (cc := cX0_init) (maxL := 1) (ret := none) (by decide +kernel) rfl ?_
  intro p e s m args below meth c s₁ B hml hv
  obtain ⟨rfl, hsz, hP, hK, hD0⟩ := hv
  have hx := B.exec
  have hb := B.bytes
  have hr := B.returns
  have hts := atoms_spec (ws := ws_ yX0_init cX0_init 1 none) B.pre
  have hts : ∀ w ∈ lw_all, w.before _ s = true := fun w h => hts w (List.mem_cons_of_mem _ h)
  have hown : s.vm.findClass RX0 = some m.cls := findClass_of_methodNamed B.named
  have hlocks := B.notSynchronized
  have hin : meth.name = "<init>" := (name_of_methodNamed B.named B.method).1
  subst hsz
  have hD := hD0.self (sz := s.heap.size)
  generalize hAe : va_A [(b0, .inr (0, [.int 0, .null, .null, .int 0, .null, .null, .null, .int 0, .int 0, .int 0, .int 0]))] s.heap.size = A at hD ⊢
  have hA : ∀ q : Nat, s.heap.size ≤ q → A q := fun q h => by rw [← hAe]; exact Or.inr h
  have hS : va_S A s.heap s.heap [] := va_S.rf
  have hl := lv_entry ([.ref b0]) (n := 1) (Nat.le_of_ble_eq_true rfl)
  rw [lg_entry_eq]
  generalize (lg_sl ([.ref b0]) ++ List.replicate (1 - (lg_sl ([.ref b0])).length) Slot.unset).toArray = ls at hl ⊢
  have hl : lv_has ls 1 [(0, .ref b0)] := hl
  refine lv_aload_n hx hb dX0_init_0 rfl (lv_at hl 0 rfl) ?_
  refine W.objInit hx hb hown (hts _ q26) (hts _ q27) (hts _ q28) rfl (by rw [hml]; exact hl.1) rfl dX0_init_1 (Nat.le_of_ble_eq_true rfl) (Nat.le_of_ble_eq_true rfl) ?_
  refine W.eq (g2 := F0 m 4 ls []) rfl ?_
  refine lv_aload_n hx hb dX0_init_4 rfl (lv_at hl 0 rfl) ?_
  refine lv_bipush (v := nI 64) hx hb dX0_init_5 (by decide +kernel) ?_
  refine va_newa (atype := .int) (a0 := (64, .inl (nF (fun _ => 0)))) (N' := 64) (ty := .int) hx hb (hts _ q63) rfl hK hP hD hS hA (fun cA => rfl) (by decide +kernel) (by decide +kernel) (by decide +kernel) (Nat.le_of_ble_eq_true rfl) (Nat.le_of_ble_eq_true rfl) dX0_init_7 (fun a1 c1 H hK hP hD hS => ?_)
  have hK : va_K (dC, dI) cls2 [(c1, .int)] s := hK
  have hP : va_P (dC, dI) cls2 [(b0, .inr (0, [.int 0, .null, .null, .int 0, .null, .null, .null, .int 0, .int 0, .int 0, .int 0])), (a1, .inl (c1, 64, .inl (nF (fun _ => 0))))] H := hP
  have hD : va_D A [(b0, .inr (0, [.int 0, .null, .null, .int 0, .null, .null, .null, .int 0, .int 0, .int 0, .int 0])), (a1, .inl (c1, 64, .inl (nF (fun _ => 0))))] := hD
  refine W.widen (k := 1) (n := 64) (by decide) (by decide) ?_
  refine va_putF (D := (dC, dI)) (ci := 0) (v := .ref a1) (ty := .array .int) (C := RX0) (T := TX0) (N := 11) hx hb hts in_X0 tyX0 tyX0_ok nmX0 hown hK hP hD hS 0 rfl rfl 1 (by decide) (hts _ q30) (fun _ h9 => h9) rfl hin rfl (by decide +kernel) rfl rfl (Nat.le_of_ble_eq_true rfl) dX0_init_9 (fun H locs hP hD hS => ?_)
  have hP : va_P (dC, dI) cls2 [(b0, .inr (0, [.int 0, .ref a1, .null, .int 0, .null, .null, .null, .int 0, .int 0, .int 0, .int 0])), (a1, .inl (c1, 64, .inl (nF (fun _ => 0))))] H := hP
  have hD : va_D A [(b0, .inr (0, [.int 0, .ref a1, .null, .int 0, .null, .null, .null, .int 0, .int 0, .int 0, .int 0])), (a1, .inl (c1, 64, .inl (nF (fun _ => 0))))] := hD
  refine lv_aload_n hx hb dX0_init_12 rfl (lv_at hl 0 rfl) ?_
  refine lv_bipush (v := nI 64) hx hb dX0_init_13 (by decide +kernel) ?_
  refine va_newa (atype := .int) (a0 := (64, .inl (nF (fun _ => 0)))) (N' := 64) (ty := .int) hx hb (hts _ q63) rfl hK hP hD hS hA (fun cA => rfl) (by decide +kernel) (by decide +kernel) (by decide +kernel) (Nat.le_of_ble_eq_true rfl) (Nat.le_of_ble_eq_true rfl) dX0_init_15 (fun a2 c2 H hK hP hD hS => ?_)
  obtain rfl : c1 = c2 := xk_same hK 0 1 rfl rfl
  have hK : va_K (dC, dI) cls2 [(c1, .int)] s := hK.sub [0] rfl
  have hP : va_P (dC, dI) cls2 [(b0, .inr (0, [.int 0, .ref a1, .null, .int 0, .null, .null, .null, .int 0, .int 0, .int 0, .int 0])), (a1, .inl (c1, 64, .inl (nF (fun _ => 0)))), (a2, .inl (c1, 64, .inl (nF (fun _ => 0))))] H := hP
  have hD : va_D A [(b0, .inr (0, [.int 0, .ref a1, .null, .int 0, .null, .null, .null, .int 0, .int 0, .int 0, .int 0])), (a1, .inl (c1, 64, .inl (nF (fun _ => 0)))), (a2, .inl (c1, 64, .inl (nF (fun _ => 0))))] := hD
  refine W.widen (k := 2) (n := 128) (by decide) (by decide) ?_
  refine va_putF (D := (dC, dI)) (ci := 0) (v := .ref a2) (ty := .array .int) (C := RX0) (T := TX0) (N := 11) hx hb hts in_X0 tyX0 tyX0_ok nmX0 hown hK hP hD hS 0 rfl rfl 2 (by decide) (hts _ q31) (fun _ h9 => h9) rfl hin rfl (by decide +kernel) rfl rfl (Nat.le_of_ble_eq_true rfl) dX0_init_17 (fun H locs hP hD hS => ?_)
  have hP : va_P (dC, dI) cls2 [(b0, .inr (0, [.int 0, .ref a1, .ref a2, .int 0, .null, .null, .null, .int 0, .int 0, .int 0, .int 0])), (a1, .inl (c1, 64, .inl (nF (fun _ => 0)))), (a2, .inl (c1, 64, .inl (nF (fun _ => 0))))] H := hP
  have hD : va_D A [(b0, .inr (0, [.int 0, .ref a1, .ref a2, .int 0, .null, .null, .null, .int 0, .int 0, .int 0, .int 0])), (a1, .inl (c1, 64, .inl (nF (fun _ => 0)))), (a2, .inl (c1, 64, .inl (nF (fun _ => 0))))] := hD
  refine lv_aload_n hx hb dX0_init_20 rfl (lv_at hl 0 rfl) ?_
  refine lv_sipush (v := nI 256) hx hb dX0_init_21 (by decide +kernel) ?_
  refine va_newa (atype := .int) (a0 := (256, .inl (fun _ => 0))) (N' := 256) (ty := .int) hx hb (hts _ q63) rfl hK hP hD hS hA (fun cA => rfl) (by decide +kernel) (by decide +kernel) (by decide +kernel) (Nat.le_of_ble_eq_true rfl) (Nat.le_of_ble_eq_true rfl) dX0_init_24 (fun a3 c3 H hK hP hD hS => ?_)
  obtain rfl : c1 = c3 := xk_same hK 0 1 rfl rfl
  have hK : va_K (dC, dI) cls2 [(c1, .int)] s := hK.sub [0] rfl
  have hP : va_P (dC, dI) cls2 [(b0, .inr (0, [.int 0, .ref a1, .ref a2, .int 0, .null, .null, .null, .int 0, .int 0, .int 0, .int 0])), (a1, .inl (c1, 64, .inl (nF (fun _ => 0)))), (a2, .inl (c1, 64, .inl (nF (fun _ => 0)))), (a3, .inl (c1, 256, .inl (fun _ => 0)))] H := hP
  have hD : va_D A [(b0, .inr (0, [.int 0, .ref a1, .ref a2, .int 0, .null, .null, .null, .int 0, .int 0, .int 0, .int 0])), (a1, .inl (c1, 64, .inl (nF (fun _ => 0)))), (a2, .inl (c1, 64, .inl (nF (fun _ => 0)))), (a3, .inl (c1, 256, .inl (fun _ => 0)))] := hD
  refine W.widen (k := 3) (n := 384) (by decide) (by decide) ?_
  refine va_putF (D := (dC, dI)) (ci := 0) (v := .ref a3) (ty := .array .int) (C := RX0) (T := TX0) (N := 11) hx hb hts in_X0 tyX0 tyX0_ok nmX0 hown hK hP hD hS 0 rfl rfl 4 (by decide) (hts _ q33) (fun _ h9 => h9) rfl hin rfl (by decide +kernel) rfl rfl (Nat.le_of_ble_eq_true rfl) dX0_init_26 (fun H locs hP hD hS => ?_)
  have hP : va_P (dC, dI) cls2 [(b0, .inr (0, [.int 0, .ref a1, .ref a2, .int 0, .ref a3, .null, .null, .int 0, .int 0, .int 0, .int 0])), (a1, .inl (c1, 64, .inl (nF (fun _ => 0)))), (a2, .inl (c1, 64, .inl (nF (fun _ => 0)))), (a3, .inl (c1, 256, .inl (fun _ => 0)))] H := hP
  have hD : va_D A [(b0, .inr (0, [.int 0, .ref a1, .ref a2, .int 0, .ref a3, .null, .null, .int 0, .int 0, .int 0, .int 0])), (a1, .inl (c1, 64, .inl (nF (fun _ => 0)))), (a2, .inl (c1, 64, .inl (nF (fun _ => 0)))), (a3, .inl (c1, 256, .inl (fun _ => 0)))] := hD
  refine lv_aload_n hx hb dX0_init_29 rfl (lv_at hl 0 rfl) ?_
  refine lv_sipush (v := nI 256) hx hb dX0_init_30 (by decide +kernel) ?_
  refine va_newa (atype := .int) (a0 := (256, .inl (fun _ => 0))) (N' := 256) (ty := .int) hx hb (hts _ q63) rfl hK hP hD hS hA (fun cA => rfl) (by decide +kernel) (by decide +kernel) (by decide +kernel) (Nat.le_of_ble_eq_true rfl) (Nat.le_of_ble_eq_true rfl) dX0_init_33 (fun a4 c4 H hK hP hD hS => ?_)
  obtain rfl : c1 = c4 := xk_same hK 0 1 rfl rfl
  have hK : va_K (dC, dI) cls2 [(c1, .int)] s := hK.sub [0] rfl
  have hP : va_P (dC, dI) cls2 [(b0, .inr (0, [.int 0, .ref a1, .ref a2, .int 0, .ref a3, .null, .null, .int 0, .int 0, .int 0, .int 0])), (a1, .inl (c1, 64, .inl (nF (fun _ => 0)))), (a2, .inl (c1, 64, .inl (nF (fun _ => 0)))), (a3, .inl (c1, 256, .inl (fun _ => 0))), (a4, .inl (c1, 256, .inl (fun _ => 0)))] H := hP
  have hD : va_D A [(b0, .inr (0, [.int 0, .ref a1, .ref a2, .int 0, .ref a3, .null, .null, .int 0, .int 0, .int 0, .int 0])), (a1, .inl (c1, 64, .inl (nF (fun _ => 0)))), (a2, .inl (c1, 64, .inl (nF (fun _ => 0)))), (a3, .inl (c1, 256, .inl (fun _ => 0))), (a4, .inl (c1, 256, .inl (fun _ => 0)))] := hD
  refine W.widen (k := 4) (n := 640) (by decide) (by decide) ?_
  refine va_putF (D := (dC, dI)) (ci := 0) (v := .ref a4) (ty := .array .int) (C := RX0) (T := TX0) (N := 11) hx hb hts in_X0 tyX0 tyX0_ok nmX0 hown hK hP hD hS 0 rfl rfl 5 (by decide) (hts _ q34) (fun _ h9 => h9) rfl hin rfl (by decide +kernel) rfl rfl (Nat.le_of_ble_eq_true rfl) dX0_init_35 (fun H locs hP hD hS => ?_)
  have hP : va_P (dC, dI) cls2 [(b0, .inr (0, [.int 0, .ref a1, .ref a2, .int 0, .ref a3, .ref a4, .null, .int 0, .int 0, .int 0, .int 0])), (a1, .inl (c1, 64, .inl (nF (fun _ => 0)))), (a2, .inl (c1, 64, .inl (nF (fun _ => 0)))), (a3, .inl (c1, 256, .inl (fun _ => 0))), (a4, .inl (c1, 256, .inl (fun _ => 0)))] H := hP
  have hD : va_D A [(b0, .inr (0, [.int 0, .ref a1, .ref a2, .int 0, .ref a3, .ref a4, .null, .int 0, .int 0, .int 0, .int 0])), (a1, .inl (c1, 64, .inl (nF (fun _ => 0)))), (a2, .inl (c1, 64, .inl (nF (fun _ => 0)))), (a3, .inl (c1, 256, .inl (fun _ => 0))), (a4, .inl (c1, 256, .inl (fun _ => 0)))] := hD
  refine lv_aload_n hx hb dX0_init_38 rfl (lv_at hl 0 rfl) ?_
  refine lv_sipush (v := nI 256) hx hb dX0_init_39 (by decide +kernel) ?_
  refine va_newa (atype := .int) (a0 := (256, .inl (fun _ => 0))) (N' := 256) (ty := .int) hx hb (hts _ q63) rfl hK hP hD hS hA (fun cA => rfl) (by decide +kernel) (by decide +kernel) (by decide +kernel) (Nat.le_of_ble_eq_true rfl) (Nat.le_of_ble_eq_true rfl) dX0_init_42 (fun a5 c5 H hK hP hD hS => ?_)
  obtain rfl : c1 = c5 := xk_same hK 0 1 rfl rfl
  have hK : va_K (dC, dI) cls2 [(c1, .int)] s := hK.sub [0] rfl
  have hP : va_P (dC, dI) cls2 [(b0, .inr (0, [.int 0, .ref a1, .ref a2, .int 0, .ref a3, .ref a4, .null, .int 0, .int 0, .int 0, .int 0])), (a1, .inl (c1, 64, .inl (nF (fun _ => 0)))), (a2, .inl (c1, 64, .inl (nF (fun _ => 0)))), (a3, .inl (c1, 256, .inl (fun _ => 0))), (a4, .inl (c1, 256, .inl (fun _ => 0))), (a5, .inl (c1, 256, .inl (fun _ => 0)))] H := hP
  have hD : va_D A [(b0, .inr (0, [.int 0, .ref a1, .ref a2, .int 0, .ref a3, .ref a4, .null, .int 0, .int 0, .int 0, .int 0])), (a1, .inl (c1, 64, .inl (nF (fun _ => 0)))), (a2, .inl (c1, 64, .inl (nF (fun _ => 0)))), (a3, .inl (c1, 256, .inl (fun _ => 0))), (a4, .inl (c1, 256, .inl (fun _ => 0))), (a5, .inl (c1, 256, .inl (fun _ => 0)))] := hD
  refine W.widen (k := 5) (n := 896) (by decide) (by decide) ?_
  refine va_putF (D := (dC, dI)) (ci := 0) (v := .ref a5) (ty := .array .int) (C := RX0) (T := TX0) (N := 11) hx hb hts in_X0 tyX0 tyX0_ok nmX0 hown hK hP hD hS 0 rfl rfl 6 (by decide) (hts _ q35) (fun _ h9 => h9) rfl hin rfl (by decide +kernel) rfl rfl (Nat.le_of_ble_eq_true rfl) dX0_init_44 (fun H locs hP hD hS => ?_)
  have hP : va_P (dC, dI) cls2 [(b0, .inr (0, [.int 0, .ref a1, .ref a2, .int 0, .ref a3, .ref a4, .ref a5, .int 0, .int 0, .int 0, .int 0])), (a1, .inl (c1, 64, .inl (nF (fun _ => 0)))), (a2, .inl (c1, 64, .inl (nF (fun _ => 0)))), (a3, .inl (c1, 256, .inl (fun _ => 0))), (a4, .inl (c1, 256, .inl (fun _ => 0))), (a5, .inl (c1, 256, .inl (fun _ => 0)))] H := hP
  have hD : va_D A [(b0, .inr (0, [.int 0, .ref a1, .ref a2, .int 0, .ref a3, .ref a4, .ref a5, .int 0, .int 0, .int 0, .int 0])), (a1, .inl (c1, 64, .inl (nF (fun _ => 0)))), (a2, .inl (c1, 64, .inl (nF (fun _ => 0)))), (a3, .inl (c1, 256, .inl (fun _ => 0))), (a4, .inl (c1, 256, .inl (fun _ => 0))), (a5, .inl (c1, 256, .inl (fun _ => 0)))] := hD
  refine lv_aload_n hx hb dX0_init_47 rfl (lv_at hl 0 rfl) ?_
  refine lv_iconst (v := nI 0) hx hb dX0_init_48 (by decide +kernel) ?_
  refine va_put (D := (dC, dI)) (ci := 0) (v := .int (nI 0)) (ty := .int) (C := RX0) (T := TX0) (N := 11) hx hb hts in_X0 tyX0 tyX0_ok nmX0 hown hK hP hD hS 0 rfl rfl 0 (by decide) (hts _ q29) (fun _ h9 => h9) rfl (by decide +kernel) rfl rfl (Nat.le_of_ble_eq_true rfl) dX0_init_49 (fun H locs hP hD hS => ?_)
  have hP : va_P (dC, dI) cls2 [(b0, .inr (0, [.int (nI 0), .ref a1, .ref a2, .int 0, .ref a3, .ref a4, .ref a5, .int 0, .int 0, .int 0, .int 0])), (a1, .inl (c1, 64, .inl (nF (fun _ => 0)))), (a2, .inl (c1, 64, .inl (nF (fun _ => 0)))), (a3, .inl (c1, 256, .inl (fun _ => 0))), (a4, .inl (c1, 256, .inl (fun _ => 0))), (a5, .inl (c1, 256, .inl (fun _ => 0)))] H := hP
  have hD : va_D A [(b0, .inr (0, [.int (nI 0), .ref a1, .ref a2, .int 0, .ref a3, .ref a4, .ref a5, .int 0, .int 0, .int 0, .int 0])), (a1, .inl (c1, 64, .inl (nF (fun _ => 0)))), (a2, .inl (c1, 64, .inl (nF (fun _ => 0)))), (a3, .inl (c1, 256, .inl (fun _ => 0))), (a4, .inl (c1, 256, .inl (fun _ => 0))), (a5, .inl (c1, 256, .inl (fun _ => 0)))] := hD
  exact W.vret hx hb hr (fun t ht hW => ⟨⟨(), rfl, trivial, (fun k => match k with | 0 => b0 | 1 => a1 | 2 => a2 | 3 => a3 | 4 => a4 | _ => a5), c1, rfl, by rw [ht]; exact hP, va_K.moved hW.alike hK, hD⟩, hS.F ht⟩) hS.2.2 dX0_init_52
set_option maxHeartbeats 4000000 in
set_option maxRecDepth 100000 in
theorem mM_init (l : Launch) (dC : Nat → ClassId) (dI : Nat → Nat → Nat) (b0 sz : Nat) : Met l yX1_init (ws_ yX1_init cX1_init 1 none) ({ frames := 1, cells := 2, slots := 128, locals := 12 } : Room) (va_Pc [.ref b0] (fun U => U.heap.size = sz ∧ va_P (dC, dI) cls2 [(b0, .inr (1, [.int 0, .null, .null]))] U.heap ∧ va_K (dC, dI) cls2 [] U ∧ va_D (fun _ => True) [(b0, .inr (1, [.int 0, .null, .null]))])) (va_Qv (fun _ : Unit => True) (fun _ t => ∃ (q : Nat → Nat) (d : ClassId), q 0 = b0 ∧ va_P (dC, dI) cls2 (MW q d (nI 0) (nF (fun _ => 0)) (nF (fun _ => 0))) t.heap ∧ va_K (dC, dI) cls2 [(d, .int)] t ∧ va_D (va_A [(b0, .inr (1, [.int 0, .null, .null]))] sz) (MW q d (nI 0) (nF (fun _ => 0)) (nF (fun _ => 0)))) (va_A [(b0, .inr (1, [.int 0, .null, .null]))] sz)) 2 128 (va_A [(b0, .inr (1, [.int 0, .null, .null]))] sz) := by
  refine Met.ofW (cc := cX1_init) (maxL := 1) (ret := none) (by decide +kernel) rfl ?_
  intro p e s m args below meth c s₁ B hml hv
  obtain ⟨rfl, hsz, hP, hK, hD0⟩ := hv
  have hx := B.exec
  have hb := B.bytes
  have hr := B.returns
  have hts := atoms_spec (ws := ws_ yX1_init cX1_init 1 none) B.pre
  have hts : ∀ w ∈ lw_all, w.before _ s = true := fun w h => hts w (List.mem_cons_of_mem _ h)
  have hown : s.vm.findClass RX1 = some m.cls := findClass_of_methodNamed B.named
  have hlocks := B.notSynchronized
  have hin : meth.name = "<init>" := (name_of_methodNamed B.named B.method).1
  subst hsz
  have hD := hD0.self (sz := s.heap.size)
  generalize hAe : va_A [(b0, .inr (1, [.int 0, .null, .null]))] s.heap.size = A at hD ⊢
  have hA : ∀ q : Nat, s.heap.size ≤ q → A q := fun q h => by rw [← hAe]; exact Or.inr h
  have hS : va_S A s.heap s.heap [] := va_S.rf
  have hl := lv_entry ([.ref b0]) (n := 1) (Nat.le_of_ble_eq_true rfl)
  rw [lg_entry_eq]
  generalize (lg_sl ([.ref b0]) ++ List.replicate (1 - (lg_sl ([.ref b0])).length) Slot.unset).toArray = ls at hl ⊢
  have hl : lv_has ls 1 [(0, .ref b0)] := hl
  refine lv_aload_n hx hb dX1_init_0 rfl (lv_at hl 0 rfl) ?_
  refine W.objInit hx hb hown (hts _ q167) (hts _ q27) (hts _ q28) rfl (by rw [hml]; exact hl.1) rfl dX1_init_1 (Nat.le_of_ble_eq_true rfl) (Nat.le_of_ble_eq_true rfl) ?_
  refine W.eq (g2 := F0 m 4 ls []) rfl ?_
  refine lv_aload_n hx hb dX1_init_4 rfl (lv_at hl 0 rfl) ?_
  refine lv_bipush (v := nI 64) hx hb dX1_init_5 (by decide +kernel) ?_
  refine va_newa (atype := .int) (a0 := (64, .inl (nF (fun _ => 0)))) (N' := 64) (ty := .int) hx hb (hts _ q63) rfl hK hP hD hS hA (fun cA => rfl) (by decide +kernel) (by decide +kernel) (by decide +kernel) (Nat.le_of_ble_eq_true rfl) (Nat.le_of_ble_eq_true rfl) dX1_init_7 (fun a1 c1 H hK hP hD hS => ?_)
  have hK : va_K (dC, dI) cls2 [(c1, .int)] s := hK
  have hP : va_P (dC, dI) cls2 [(b0, .inr (1, [.int 0, .null, .null])), (a1, .inl (c1, 64, .inl (nF (fun _ => 0))))] H := hP
  have hD : va_D A [(b0, .inr (1, [.int 0, .null, .null])), (a1, .inl (c1, 64, .inl (nF (fun _ => 0))))] := hD
  refine W.widen (k := 1) (n := 64) (by decide) (by decide) ?_
  refine va_putF (D := (dC, dI)) (ci := 1) (v := .ref a1) (ty := .array .int) (C := RX1) (T := TX1) (N := 3) hx hb hts in_X1 tyX1 tyX1_ok nmX1 hown hK hP hD hS 0 rfl rfl 1 (by decide) (hts _ q169) (fun _ h9 => h9) rfl hin rfl (by decide +kernel) rfl rfl (Nat.le_of_ble_eq_true rfl) dX1_init_9 (fun H locs hP hD hS => ?_)
  have hP : va_P (dC, dI) cls2 [(b0, .inr (1, [.int 0, .ref a1, .null])), (a1, .inl (c1, 64, .inl (nF (fun _ => 0))))] H := hP
  have hD : va_D A [(b0, .inr (1, [.int 0, .ref a1, .null])), (a1, .inl (c1, 64, .inl (nF (fun _ => 0))))] := hD
  refine lv_aload_n hx hb dX1_init_12 rfl (lv_at hl 0 rfl) ?_
  refine lv_bipush (v := nI 64) hx hb dX1_init_13 (by decide +kernel) ?_
  refine va_newa (atype := .int) (a0 := (64, .inl (nF (fun _ => 0)))) (N' := 64) (ty := .int) hx hb (hts _ q63) rfl hK hP hD hS hA (fun cA => rfl) (by decide +kernel) (by decide +kernel) (by decide +kernel) (Nat.le_of_ble_eq_true rfl) (Nat.le_of_ble_eq_true rfl) dX1_init_15 (fun a2 c2 H hK hP hD hS => ?_)
  obtain rfl : c1 = c2 := xk_same hK 0 1 rfl rfl
  have hK : va_K (dC, dI) cls2 [(c1, .int)] s := hK.sub [0] rfl
  have hP : va_P (dC, dI) cls2 [(b0, .inr (1, [.int 0, .ref a1, .null])), (a1, .inl (c1, 64, .inl (nF (fun _ => 0)))), (a2, .inl (c1, 64, .inl (nF (fun _ => 0))))] H := hP
  have hD : va_D A [(b0, .inr (1, [.int 0, .ref a1, .null])), (a1, .inl (c1, 64, .inl (nF (fun _ => 0)))), (a2, .inl (c1, 64, .inl (nF (fun _ => 0))))] := hD
  refine W.widen (k := 2) (n := 128) (by decide) (by decide) ?_
  refine va_putF (D := (dC, dI)) (ci := 1) (v := .ref a2) (ty := .array .int) (C := RX1) (T := TX1) (N := 3) hx hb hts in_X1 tyX1 tyX1_ok nmX1 hown hK hP hD hS 0 rfl rfl 2 (by decide) (hts _ q170) (fun _ h9 => h9) rfl hin rfl (by decide +kernel) rfl rfl (Nat.le_of_ble_eq_true rfl) dX1_init_17 (fun H locs hP hD hS => ?_)
  have hP : va_P (dC, dI) cls2 [(b0, .inr (1, [.int 0, .ref a1, .ref a2])), (a1, .inl (c1, 64, .inl (nF (fun _ => 0)))), (a2, .inl (c1, 64, .inl (nF (fun _ => 0))))] H := hP
  have hD : va_D A [(b0, .inr (1, [.int 0, .ref a1, .ref a2])), (a1, .inl (c1, 64, .inl (nF (fun _ => 0)))), (a2, .inl (c1, 64, .inl (nF (fun _ => 0))))] := hD
  exact W.vret hx hb hr (fun t ht hW => ⟨⟨(), rfl, trivial, (fun k => match k with | 0 => b0 | 1 => a1 | _ => a2), c1, rfl, by rw [ht]; exact hP, va_K.moved hW.alike hK, hD⟩, hS.F ht⟩) hS.2.2 dX1_init_20
end
section
set_option maxRecDepth 100000
/-! THE CLAIM OUT OF ONE WALK OF THE LAW'S BODY. Your part is whole_start (and what it stands on); all else here is the same for every law, but numbers. -/
def R_law : String := "ReadPhaserLaw"
def lw_P (b : Addr) (xs : List Int32) (args : Array Value) (s : State) : Prop := args = #[.ref b] ∧ s.IntsAt b xs ∧ xs.length ≤ 320 ∧ (Jvm.Cond.and given_1 narrow_1).before args s = true
def lw_Q (_ : Array Value) (s : State) (o : Outcome) (t : State) : Prop := o = .returned (some (.int 1)) ∧ Framed s o t [] 600000 7290000
def lw_Z (below : List Frame) (a : Array Value) (s : State) : State → Prop := fun t => ∃ o, t.status = .running ∧ Ended t below o ∧ lw_Q a s o t
/-- the law's own end, with 1 on the stack, nothing written that was there before, its room as the claim has it -/
theorem lw_ret {p : Program} {l : Launch} {e : Env} {s : State} {m : MethodId} {below : List Frame} {meth : Method} {c : Code} {b : Nat} (hx : p.tables.exec = Jvm.exec) (hb : c.code = code) (hr : meth.sig.returnType = ret) (hlocks : meth.locks = false) {pc : Nat} {H : Heap} {ls : Array Slot} (hdg : decode code pc = .ok (.ireturn, 1)) : W p l e room_1 s m #[Value.ref b] below meth c H [] 600000 7290000 (lw_Z below #[Value.ref b] s) (F0 m pc ls [.int 1]) := by
  intro T hT X
  obtain ⟨fs, hret, hrun, hended, hW, hframe⟩ := X.leave (v := some (.int 1)) (hlocks := hlocks) (fun h => by rw [hr] at h; cases h)
  have hmeth' : T.vm.method? m = some meth := X.method'
  refine ⟨T.setFrames fs, ?_, .returned (some (.int 1)), hrun, hended, rfl, ⟨_, rfl⟩, hW, hframe⟩
  jvm_step X.here [X.here.top, hx, hb, hdg, hmeth', hr, ret, narrow_b1]
  (try refine ⟨rfl, ?_⟩); (try refine ⟨rfl, ?_⟩)
  first | (intro acts; rw [hret _ acts rfl rfl rfl]) | rw [hret _ _ rfl rfl rfl]
  exact Steps.refl _
/-- what holds at the law's entry: the machine, the code, the tables' words (any of lw_tbl by 'hts w (by decide +kernel)'), the script of L ints xs at the cell b, what the Statement gives of the start (any of its parts by flat_of_before) -/
def lw_At (p : Program) (s : State) (m : MethodId) (meth : Method) (c : Code) (b L : Nat) (xs : Nat → Int32) : Prop :=
  p.tables.exec = Jvm.exec ∧ c.code = code ∧ meth.sig.returnType = ret ∧ c.maxLocals = 4 ∧ s.vm.findClass R_law = some m.cls ∧ (∀ w ∈ lw_tbl, w.before #[Value.ref b] s = true) ∧ va_X b L xs s s.heap ∧ b < s.heap.size ∧ meth.locks = false ∧ (Jvm.Cond.and given_1 narrow_1).before #[Value.ref b] s = true
theorem lw_cmp {i L : Nat} (hi : i < 1000) (hL : L ≤ 320) : nI L - nI 5 < nI i ↔ L < i + 5 := by
  rw [Int32.lt_iff_toInt_lt, pk_sub_toInt (by omega) (by decide), nI_toInt (by omega)]
  omega
section XL
variable {p : Program} {l : Launch} {e : Env} {R : Room} {s : State} {m : MethodId} {args : Array Value} {below : List Frame} {meth : Method} {c : Code} {H : Heap} {locs : List Loc} {cells slots : Nat} {Q : State → Prop}
variable {cc : ByteArray} {pc : Nat} {ls : Array Slot} {rest : List Value} {A : Nat → Prop} {H0 : Heap}
theorem xr_sld (hx : p.tables.exec = Jvm.exec) (hb : c.code = cc) {b L : Nat} {xs : Nat → Int32} (hX : va_X b L xs s H0) (hbl : b < H0.size) (hbA : ¬ A b) (hS : va_S A H0 H locs) {i : Nat} (hi : i < L) (hL : L < 2 ^ 31) (hdg : decode cc pc = .ok (.iaload, 1))
    (kk : W p l e R s m args below meth c H locs cells slots Q (F0 m (pc + 1) ls (.int (xs i) :: rest))) : W p l e R s m args below meth c H locs cells slots Q (F0 m pc ls (.int (nI i) :: .ref b :: rest)) := by
  have e1 : (nI i).toNatClampNeg = i := nI_clamp (Nat.lt_trans hi hL)
  exact va_sld hx hb hX hbl hbA hS (vp_in_nI hi hL) hdg (xr_v (by rw [e1]) kk)
/-- a call of the law: the callee has some of the cells -/
theorem lcall_i {dC : Nat → ClassId} {dI : Nat → Nat → Nat} {d : ClassId} {nL : Nat} {own : String} {w wc wr : va_W} {y : MethodName} {yc : ByteArray} {yL n index q0 ci : Nat} {yret : Option FieldType} {yrm : Room} {b : Nat} {As st0 : List Value} {S : Type} {post : Int32 → S → Prop} {wf : S → va_W} {qc : vw_C} {fs : List Value}
    (hx : p.tables.exec = Jvm.exec) (hb : c.code = cc) (hml : c.maxLocals = nL) (hown : s.vm.findClass own = some m.cls) (hts : ∀ w ∈ lw_all, w.before args s = true) (hK : va_K (dC, dI) cls2 [(d, .int)] s) (hA : ∀ q : Nat, s.heap.size ≤ q → A q)
    (hP : va_P (dC, dI) cls2 w H) (hD : va_D A w) (hS : va_S A s.heap H locs) (hl : ls.size = nL) (isC isR : List Nat) (hC : isC.map (fun i => w[i]?) = wc.map some) (hR : isR.map (fun i => w[i]?) = wr.map some) (hnC : va_nd isC = true) (hnR : va_nd isR = true) (hdis : ∀ i ∈ isR, i ∉ isC) (hPc : va_P (dC, dI) cls2 wc H)
    (hM : xMi l dC dI d H.size y yc yL yret yrm (.ref b :: As) wc post wf) (cw : CallW R s args own qc.1 index y yc yL yret (ws_ y yc yL yret) yrm 0 0 n) (hc : cls2[ci]? = some qc) (he : wc[q0]? = some (b, .inr (ci, fs)))
    (hn : As.length = n) (hst : st0 = As.reverse ++ .ref b :: rest) (hroom : (rest.map fun v => v.category).sum ≤ 8) (hdg : decode cc pc = .ok (.invokevirtual index, 3)) (hf : cells ≤ R.cells ∧ slots ≤ R.slots)
    (kk : ∀ (r : Int32) (u : S) (H1 : Heap) (locs1 : List Loc), post r u → va_P (dC, dI) cls2 (wr ++ wf u) H1 → va_D A (wr ++ wf u) → va_S A s.heap H1 locs1 → W p l e R s m args below meth c H1 locs1 cells slots Q (F0 m (pc + 3) ls (.int r :: rest))) : W p l e R s m args below meth c H locs cells slots Q (F0 m pc ls st0) := by
  have hF := va_free (wc := wc) hD hS hA isC hC
  have hDc := hD.sub isC hnC hC
  refine va_calli (va_runV (As := As) (rest := rest) ⟨hx, hb, hml, hown, hts⟩ hM cw ⟨fun a U g mk q => by obtain ⟨q0, q1, qP, qK, qD⟩ := q; exact ⟨q0, q1, qP, va_K.moved (u := U) (U := U.calling g mk a) (Vm.Alike.refl U.vm) qK, qD⟩, va_recv hK hPc hc he, fun U hU hW => ⟨rfl, by rw [hU], by rw [hU]; exact hPc, va_K.moved hW.alike hK, hDc.weaken (fun _ _ _ _ => trivial)⟩⟩ rfl hn hl hst (lv_room hroom) hdg hf) hS (fun q _ h => hF q h) hF (fun r u t H1 locs1 ht hvm hw hB hz hk hS1 => ?_)
  obtain ⟨hP1, hD1⟩ := hB
  rw [ht] at hP1
  obtain ⟨hP2, hD2⟩ := va_join hP hD isC isR hC hR hnR hdis hk hF hP1 hD1
  exact kk r u H1 locs1 hw hP2 hD2 hS1
end XL
end
section
/-! THE LAW: its cases, its loop, its start (printed by gen_law.py) -/
set_option maxRecDepth 100000
set_option maxHeartbeats 4000000 in
set_option maxRecDepth 100000 in
theorem law_c0 {p : Program} {l : Launch} {e : Env} {s : State} {m : MethodId} {below : List Frame} {meth : Method} {c : Code} {b L : Nat} {xs : Nat → Int32} {dC : Nat → ClassId} {dI : Nat → Nat → Nat} {d : ClassId} {q qm : Nat → Nat} (C0 : lw_At p s m meth c b L xs) (hK : va_K (dC, dI) cls2 [(d, .int)] s) (i : Nat) (hi : i + 5 ≤ L) (hL : L ≤ 320) (n : Nat) (tr va : Nat → Nat) (K : Int32) (C B Y : Nat → Int32) (x0 x1 y0 y1 : Int32) (hok : ph_ok n tr va) (kk : ∀ (n : Nat) (tr va : Nat → Nat) (K : Int32) (C B Y : Nat → Int32) (x0 x1 y0 y1 : Int32), ph_ok n tr va → ∀ (H : Heap) (locs : List Loc) (ls : Array Slot), va_P (dC, dI) cls2 (XW q d (nI n) (nF tr) (nF va) K C B Y x0 x1 y0 y1 ++ MW qm d (nI n) (nF va) (nF tr)) H → va_D (fun q : Nat => s.heap.size ≤ q) (XW q d (nI n) (nF tr) (nF va) K C B Y x0 x1 y0 y1 ++ MW qm d (nI n) (nF va) (nF tr)) → va_S (fun q : Nat => s.heap.size ≤ q) s.heap H locs → lv_has ls 4 [(0, .ref b), (1, .ref (q 0)), (2, .ref (qm 0)), (3, .int (nI i))] → W p l e room_1 s m #[Value.ref b] below meth c H locs 9 1038 (lw_Z below #[Value.ref b] s) (F0 m 388 ls [])) : ∀ (H : Heap) (locs : List Loc) (ls : Array Slot), va_P (dC, dI) cls2 (XW q d (nI n) (nF tr) (nF va) K C B Y x0 x1 y0 y1 ++ MW qm d (nI n) (nF va) (nF tr)) H → va_D (fun q : Nat => s.heap.size ≤ q) (XW q d (nI n) (nF tr) (nF va) K C B Y x0 x1 y0 y1 ++ MW qm d (nI n) (nF va) (nF tr)) → va_S (fun q : Nat => s.heap.size ≤ q) s.heap H locs → lv_has ls 4 [(0, .ref b), (1, .ref (q 0)), (2, .ref (qm 0)), (3, .int (nI i))] → W p l e room_1 s m #[Value.ref b] below meth c H locs 9 1038 (lw_Z below #[Value.ref b] s) (F0 m 96 ls []) := by
  intro H locs ls hP hD hS hl
  obtain ⟨hx, hb, hr, hml, hown, hts, hX, hbl, hlocks, hgv⟩ := C0
  have htA : ∀ w ∈ lw_all, w.before #[Value.ref b] s = true := fun w h => hts w (lw_all_tbl h)
  have hA : ∀ q : Nat, s.heap.size ≤ q → (fun q : Nat => s.heap.size ≤ q) q := fun _ h => h
  have hbA : ¬ (fun q : Nat => s.heap.size ≤ q) b := Nat.not_le.mpr hbl
  obtain ⟨hn, htr, hva⟩ := id hok
  refine lv_aload_n hx hb dL_law_96 rfl (lv_at hl 1 rfl) ?_
  refine lcall_i (wc := XW q d (nI n) (nF tr) (nF va) K C B Y x0 x1 y0 y1) (wr := MW qm d (nI n) (nF va) (nF tr)) (q0 := 0) (ci := 0) (As := []) (rest := []) hx hb hml hown htA hK hA hP hD hS hl.1 [0, 1, 2, 3, 4, 5] [6, 7, 8] rfl rfl (by decide) (by decide) (by decide) (hP.sub [0, 1, 2, 3, 4, 5] rfl) (mX_read l dC dI d q _ n tr va K C B Y x0 x1 y0 y1 hn) (cwV 0 htA (lw_V q64 q65 q66 q19 q67) rfl rfl rfl (by decide +kernel) ⟨Nat.le_of_ble_eq_true rfl, Nat.le_of_ble_eq_true rfl⟩) rfl rfl rfl rfl (Nat.le_of_ble_eq_true rfl) dL_law_97 ⟨Nat.le_of_ble_eq_true rfl, Nat.le_of_ble_eq_true rfl⟩ (fun r u H locs hw hP hD hS => ?_)
  obtain ⟨n2, tr2⟩ := u
  have hP : va_P (dC, dI) cls2 (MW qm d (nI n) (nF va) (nF tr) ++ XW q d (nI n2) (nF tr2) (nF va) K C B Y x0 x1 y0 y1) H := hP
  have hD : va_D (fun q : Nat => s.heap.size ≤ q) (MW qm d (nI n) (nF va) (nF tr) ++ XW q d (nI n2) (nF tr2) (nF va) K C B Y x0 x1 y0 y1) := hD
  refine lv_aload_n hx hb dL_law_100 rfl (lv_at hl 2 rfl) ?_
  refine lcall_i (wc := MW qm d (nI n) (nF va) (nF tr)) (wr := XW q d (nI n2) (nF tr2) (nF va) K C B Y x0 x1 y0 y1) (q0 := 0) (ci := 1) (As := []) (rest := [.int r]) hx hb hml hown htA hK hA hP hD hS hl.1 [0, 1, 2] [3, 4, 5, 6, 7, 8] rfl rfl (by decide) (by decide) (by decide) (hP.sub [0, 1, 2] rfl) (mM_read l dC dI d qm _ n tr va hn) (cwV 0 htA (lw_V q178 q179 q180 q20 q181) rfl rfl rfl (by decide +kernel) ⟨Nat.le_of_ble_eq_true rfl, Nat.le_of_ble_eq_true rfl⟩) rfl rfl rfl rfl (Nat.le_of_ble_eq_true rfl) dL_law_101 ⟨Nat.le_of_ble_eq_true rfl, Nat.le_of_ble_eq_true rfl⟩ (fun r2 u H locs hw2 hP hD hS => ?_)
  obtain ⟨n3, tr3⟩ := u
  have hP : va_P (dC, dI) cls2 (XW q d (nI n2) (nF tr2) (nF va) K C B Y x0 x1 y0 y1 ++ MW qm d (nI n3) (nF va) (nF tr3)) H := hP
  have hD : va_D (fun q : Nat => s.heap.size ≤ q) (XW q d (nI n2) (nF tr2) (nF va) K C B Y x0 x1 y0 y1 ++ MW qm d (nI n3) (nF va) (nF tr3)) := hD
  have e := hw.trans hw2.symm
  injection e with e1 e2
  injection e2 with e2 e3
  dsimp only at e2 e3
  subst e1
  subst e2
  subst e3
  have hP : va_P (dC, dI) cls2 (XW q d (nI n2) (nF tr2) (nF va) K C B Y x0 x1 y0 y1 ++ MW qm d (nI n2) (nF va) (nF tr2)) H := hP
  have hD : va_D (fun q : Nat => s.heap.size ≤ q) (XW q d (nI n2) (nF tr2) (nF va) K C B Y x0 x1 y0 y1 ++ MW qm d (nI n2) (nF va) (nF tr2)) := hD
  refine lv_icmp_eq (tgt := 388) hx hb dL_law_104 (by decide) (fun hc => ?_) (fun hc => ?_)
  · exact kk _ _ _ _ _ _ _ _ _ _ _ (ph_ok_rd hok hw) _ _ _ hP hD hS hl
  · exact absurd rfl hc
set_option maxHeartbeats 4000000 in
set_option maxRecDepth 100000 in
theorem law_c1 {p : Program} {l : Launch} {e : Env} {s : State} {m : MethodId} {below : List Frame} {meth : Method} {c : Code} {b L : Nat} {xs : Nat → Int32} {dC : Nat → ClassId} {dI : Nat → Nat → Nat} {d : ClassId} {q qm : Nat → Nat} (C0 : lw_At p s m meth c b L xs) (hK : va_K (dC, dI) cls2 [(d, .int)] s) (i : Nat) (hi : i + 5 ≤ L) (hL : L ≤ 320) (n : Nat) (tr va : Nat → Nat) (K : Int32) (C B Y : Nat → Int32) (x0 x1 y0 y1 : Int32) (hok : ph_ok n tr va) (kk : ∀ (n : Nat) (tr va : Nat → Nat) (K : Int32) (C B Y : Nat → Int32) (x0 x1 y0 y1 : Int32), ph_ok n tr va → ∀ (H : Heap) (locs : List Loc) (ls : Array Slot), va_P (dC, dI) cls2 (XW q d (nI n) (nF tr) (nF va) K C B Y x0 x1 y0 y1 ++ MW qm d (nI n) (nF va) (nF tr)) H → va_D (fun q : Nat => s.heap.size ≤ q) (XW q d (nI n) (nF tr) (nF va) K C B Y x0 x1 y0 y1 ++ MW qm d (nI n) (nF va) (nF tr)) → va_S (fun q : Nat => s.heap.size ≤ q) s.heap H locs → lv_has ls 4 [(0, .ref b), (1, .ref (q 0)), (2, .ref (qm 0)), (3, .int (nI i))] → W p l e room_1 s m #[Value.ref b] below meth c H locs 9 1038 (lw_Z below #[Value.ref b] s) (F0 m 388 ls [])) : ∀ (H : Heap) (locs : List Loc) (ls : Array Slot), va_P (dC, dI) cls2 (XW q d (nI n) (nF tr) (nF va) K C B Y x0 x1 y0 y1 ++ MW qm d (nI n) (nF va) (nF tr)) H → va_D (fun q : Nat => s.heap.size ≤ q) (XW q d (nI n) (nF tr) (nF va) K C B Y x0 x1 y0 y1 ++ MW qm d (nI n) (nF va) (nF tr)) → va_S (fun q : Nat => s.heap.size ≤ q) s.heap H locs → lv_has ls 4 [(0, .ref b), (1, .ref (q 0)), (2, .ref (qm 0)), (3, .int (nI i))] → W p l e room_1 s m #[Value.ref b] below meth c H locs 9 1038 (lw_Z below #[Value.ref b] s) (F0 m 109 ls []) := by
  intro H locs ls hP hD hS hl
  obtain ⟨hx, hb, hr, hml, hown, hts, hX, hbl, hlocks, hgv⟩ := C0
  have htA : ∀ w ∈ lw_all, w.before #[Value.ref b] s = true := fun w h => hts w (lw_all_tbl h)
  have hA : ∀ q : Nat, s.heap.size ≤ q → (fun q : Nat => s.heap.size ≤ q) q := fun _ h => h
  have hbA : ¬ (fun q : Nat => s.heap.size ≤ q) b := Nat.not_le.mpr hbl
  obtain ⟨hn, htr, hva⟩ := id hok
  refine lv_aload_n hx hb dL_law_109 rfl (lv_at hl 1 rfl) ?_
  refine lv_aload_n hx hb dL_law_110 rfl (lv_at hl 0 rfl) ?_
  refine lv_iload_n hx hb dL_law_111 rfl (lv_at hl 3 rfl) ?_
  refine lv_iconst (v := nI 1) hx hb dL_law_112 (by decide +kernel) ?_
  refine xr_add hx hb dL_law_113 ?_
  refine xr_sld hx hb hX hbl hbA hS (i := i + 1) (by omega) (by omega) dL_law_114 ?_
  refine lv_aload_n hx hb dL_law_115 rfl (lv_at hl 0 rfl) ?_
  refine lv_iload_n hx hb dL_law_116 rfl (lv_at hl 3 rfl) ?_
  refine lv_iconst (v := nI 2) hx hb dL_law_117 (by decide +kernel) ?_
  refine xr_add hx hb dL_law_118 ?_
  refine xr_sld hx hb hX hbl hbA hS (i := i + 2) (by omega) (by omega) dL_law_119 ?_
  refine lv_aload_n hx hb dL_law_120 rfl (lv_at hl 0 rfl) ?_
  refine lv_iload_n hx hb dL_law_121 rfl (lv_at hl 3 rfl) ?_
  refine lv_iconst (v := nI 3) hx hb dL_law_122 (by decide +kernel) ?_
  refine xr_add hx hb dL_law_123 ?_
  refine xr_sld hx hb hX hbl hbA hS (i := i + 3) (by omega) (by omega) dL_law_124 ?_
  refine lv_aload_n hx hb dL_law_125 rfl (lv_at hl 0 rfl) ?_
  refine lv_iload_n hx hb dL_law_126 rfl (lv_at hl 3 rfl) ?_
  refine lv_iconst (v := nI 4) hx hb dL_law_127 (by decide +kernel) ?_
  refine xr_add hx hb dL_law_128 ?_
  refine xr_sld hx hb hX hbl hbA hS (i := i + 4) (by omega) (by omega) dL_law_129 ?_
  refine lcall_i (wc := XW q d (nI n) (nF tr) (nF va) K C B Y x0 x1 y0 y1) (wr := MW qm d (nI n) (nF va) (nF tr)) (q0 := 0) (ci := 0) (As := [.int (xs (i + 1)), .int (xs (i + 2)), .int (xs (i + 3)), .int (xs (i + 4))]) (rest := []) hx hb hml hown htA hK hA hP hD hS hl.1 [0, 1, 2, 3, 4, 5] [6, 7, 8] rfl rfl (by decide) (by decide) (by decide) (hP.sub [0, 1, 2, 3, 4, 5] rfl) (mX_say l dC dI d q _ n tr va K C B Y x0 x1 y0 y1 (xs (i + 1)) (xs (i + 2)) (xs (i + 3)) (xs (i + 4)) hn) (cwV 4 htA (lw_V q68 q69 q70 q19 q71) rfl rfl rfl (by decide +kernel) ⟨Nat.le_of_ble_eq_true rfl, Nat.le_of_ble_eq_true rfl⟩) rfl rfl rfl rfl (Nat.le_of_ble_eq_true rfl) dL_law_130 ⟨Nat.le_of_ble_eq_true rfl, Nat.le_of_ble_eq_true rfl⟩ (fun r u H locs hw hP hD hS => ?_)
  obtain ⟨tr2, va2⟩ := u
  have hP : va_P (dC, dI) cls2 (MW qm d (nI n) (nF va) (nF tr) ++ XW q d (nI n) (nF tr2) (nF va2) K C B Y x0 x1 y0 y1) H := hP
  have hD : va_D (fun q : Nat => s.heap.size ≤ q) (MW qm d (nI n) (nF va) (nF tr) ++ XW q d (nI n) (nF tr2) (nF va2) K C B Y x0 x1 y0 y1) := hD
  refine lv_aload_n hx hb dL_law_133 rfl (lv_at hl 2 rfl) ?_
  refine lv_aload_n hx hb dL_law_134 rfl (lv_at hl 0 rfl) ?_
  refine lv_iload_n hx hb dL_law_135 rfl (lv_at hl 3 rfl) ?_
  refine lv_iconst (v := nI 1) hx hb dL_law_136 (by decide +kernel) ?_
  refine xr_add hx hb dL_law_137 ?_
  refine xr_sld hx hb hX hbl hbA hS (i := i + 1) (by omega) (by omega) dL_law_138 ?_
  refine lv_aload_n hx hb dL_law_139 rfl (lv_at hl 0 rfl) ?_
  refine lv_iload_n hx hb dL_law_140 rfl (lv_at hl 3 rfl) ?_
  refine lv_iconst (v := nI 2) hx hb dL_law_141 (by decide +kernel) ?_
  refine xr_add hx hb dL_law_142 ?_
  refine xr_sld hx hb hX hbl hbA hS (i := i + 2) (by omega) (by omega) dL_law_143 ?_
  refine lv_aload_n hx hb dL_law_144 rfl (lv_at hl 0 rfl) ?_
  refine lv_iload_n hx hb dL_law_145 rfl (lv_at hl 3 rfl) ?_
  refine lv_iconst (v := nI 3) hx hb dL_law_146 (by decide +kernel) ?_
  refine xr_add hx hb dL_law_147 ?_
  refine xr_sld hx hb hX hbl hbA hS (i := i + 3) (by omega) (by omega) dL_law_148 ?_
  refine lv_aload_n hx hb dL_law_149 rfl (lv_at hl 0 rfl) ?_
  refine lv_iload_n hx hb dL_law_150 rfl (lv_at hl 3 rfl) ?_
  refine lv_iconst (v := nI 4) hx hb dL_law_151 (by decide +kernel) ?_
  refine xr_add hx hb dL_law_152 ?_
  refine xr_sld hx hb hX hbl hbA hS (i := i + 4) (by omega) (by omega) dL_law_153 ?_
  refine lcall_i (wc := MW qm d (nI n) (nF va) (nF tr)) (wr := XW q d (nI n) (nF tr2) (nF va2) K C B Y x0 x1 y0 y1) (q0 := 0) (ci := 1) (As := [.int (xs (i + 1)), .int (xs (i + 2)), .int (xs (i + 3)), .int (xs (i + 4))]) (rest := [.int r]) hx hb hml hown htA hK hA hP hD hS hl.1 [0, 1, 2] [3, 4, 5, 6, 7, 8] rfl rfl (by decide) (by decide) (by decide) (hP.sub [0, 1, 2] rfl) (mM_say l dC dI d qm _ n tr va (xs (i + 1)) (xs (i + 2)) (xs (i + 3)) (xs (i + 4)) hn) (cwV 4 htA (lw_V q182 q183 q184 q20 q185) rfl rfl rfl (by decide +kernel) ⟨Nat.le_of_ble_eq_true rfl, Nat.le_of_ble_eq_true rfl⟩) rfl rfl rfl rfl (Nat.le_of_ble_eq_true rfl) dL_law_154 ⟨Nat.le_of_ble_eq_true rfl, Nat.le_of_ble_eq_true rfl⟩ (fun r2 u H locs hw2 hP hD hS => ?_)
  obtain ⟨tr3, va3⟩ := u
  have hP : va_P (dC, dI) cls2 (XW q d (nI n) (nF tr2) (nF va2) K C B Y x0 x1 y0 y1 ++ MW qm d (nI n) (nF va3) (nF tr3)) H := hP
  have hD : va_D (fun q : Nat => s.heap.size ≤ q) (XW q d (nI n) (nF tr2) (nF va2) K C B Y x0 x1 y0 y1 ++ MW qm d (nI n) (nF va3) (nF tr3)) := hD
  have e := hw.trans hw2.symm
  injection e with e1 e2
  injection e2 with e2 e3
  dsimp only at e2 e3
  subst e1
  subst e2
  subst e3
  have hP : va_P (dC, dI) cls2 (XW q d (nI n) (nF tr2) (nF va2) K C B Y x0 x1 y0 y1 ++ MW qm d (nI n) (nF va2) (nF tr2)) H := hP
  have hD : va_D (fun q : Nat => s.heap.size ≤ q) (XW q d (nI n) (nF tr2) (nF va2) K C B Y x0 x1 y0 y1 ++ MW qm d (nI n) (nF va2) (nF tr2)) := hD
  refine lv_icmp_eq (tgt := 388) hx hb dL_law_157 (by decide) (fun hc => ?_) (fun hc => ?_)
  · exact kk _ _ _ _ _ _ _ _ _ _ _ (ph_ok_sy hok hw) _ _ _ hP hD hS hl
  · exact absurd rfl hc
set_option maxHeartbeats 4000000 in
set_option maxRecDepth 100000 in
theorem law_c2 {p : Program} {l : Launch} {e : Env} {s : State} {m : MethodId} {below : List Frame} {meth : Method} {c : Code} {b L : Nat} {xs : Nat → Int32} {dC : Nat → ClassId} {dI : Nat → Nat → Nat} {d : ClassId} {q qm : Nat → Nat} (C0 : lw_At p s m meth c b L xs) (hK : va_K (dC, dI) cls2 [(d, .int)] s) (i : Nat) (hi : i + 5 ≤ L) (hL : L ≤ 320) (n : Nat) (tr va : Nat → Nat) (K : Int32) (C B Y : Nat → Int32) (x0 x1 y0 y1 : Int32) (hok : ph_ok n tr va) (kk : ∀ (n : Nat) (tr va : Nat → Nat) (K : Int32) (C B Y : Nat → Int32) (x0 x1 y0 y1 : Int32), ph_ok n tr va → ∀ (H : Heap) (locs : List Loc) (ls : Array Slot), va_P (dC, dI) cls2 (XW q d (nI n) (nF tr) (nF va) K C B Y x0 x1 y0 y1 ++ MW qm d (nI n) (nF va) (nF tr)) H → va_D (fun q : Nat => s.heap.size ≤ q) (XW q d (nI n) (nF tr) (nF va) K C B Y x0 x1 y0 y1 ++ MW qm d (nI n) (nF va) (nF tr)) → va_S (fun q : Nat => s.heap.size ≤ q) s.heap H locs → lv_has ls 4 [(0, .ref b), (1, .ref (q 0)), (2, .ref (qm 0)), (3, .int (nI i))] → W p l e room_1 s m #[Value.ref b] below meth c H locs 9 1038 (lw_Z below #[Value.ref b] s) (F0 m 388 ls [])) : ∀ (H : Heap) (locs : List Loc) (ls : Array Slot), va_P (dC, dI) cls2 (XW q d (nI n) (nF tr) (nF va) K C B Y x0 x1 y0 y1 ++ MW qm d (nI n) (nF va) (nF tr)) H → va_D (fun q : Nat => s.heap.size ≤ q) (XW q d (nI n) (nF tr) (nF va) K C B Y x0 x1 y0 y1 ++ MW qm d (nI n) (nF va) (nF tr)) → va_S (fun q : Nat => s.heap.size ≤ q) s.heap H locs → lv_has ls 4 [(0, .ref b), (1, .ref (q 0)), (2, .ref (qm 0)), (3, .int (nI i))] → W p l e room_1 s m #[Value.ref b] below meth c H locs 9 1038 (lw_Z below #[Value.ref b] s) (F0 m 162 ls []) := by
  intro H locs ls hP hD hS hl
  obtain ⟨hx, hb, hr, hml, hown, hts, hX, hbl, hlocks, hgv⟩ := C0
  have htA : ∀ w ∈ lw_all, w.before #[Value.ref b] s = true := fun w h => hts w (lw_all_tbl h)
  have hA : ∀ q : Nat, s.heap.size ≤ q → (fun q : Nat => s.heap.size ≤ q) q := fun _ h => h
  have hbA : ¬ (fun q : Nat => s.heap.size ≤ q) b := Nat.not_le.mpr hbl
  obtain ⟨hn, htr, hva⟩ := id hok
  refine lv_aload_n hx hb dL_law_162 rfl (lv_at hl 1 rfl) ?_
  refine lv_aload_n hx hb dL_law_163 rfl (lv_at hl 0 rfl) ?_
  refine lv_iload_n hx hb dL_law_164 rfl (lv_at hl 3 rfl) ?_
  refine lv_iconst (v := nI 1) hx hb dL_law_165 (by decide +kernel) ?_
  refine xr_add hx hb dL_law_166 ?_
  refine xr_sld hx hb hX hbl hbA hS (i := i + 1) (by omega) (by omega) dL_law_167 ?_
  refine lv_aload_n hx hb dL_law_168 rfl (lv_at hl 0 rfl) ?_
  refine lv_iload_n hx hb dL_law_169 rfl (lv_at hl 3 rfl) ?_
  refine lv_iconst (v := nI 2) hx hb dL_law_170 (by decide +kernel) ?_
  refine xr_add hx hb dL_law_171 ?_
  refine xr_sld hx hb hX hbl hbA hS (i := i + 2) (by omega) (by omega) dL_law_172 ?_
  refine lv_aload_n hx hb dL_law_173 rfl (lv_at hl 0 rfl) ?_
  refine lv_iload_n hx hb dL_law_174 rfl (lv_at hl 3 rfl) ?_
  refine lv_iconst (v := nI 3) hx hb dL_law_175 (by decide +kernel) ?_
  refine xr_add hx hb dL_law_176 ?_
  refine xr_sld hx hb hX hbl hbA hS (i := i + 3) (by omega) (by omega) dL_law_177 ?_
  refine lcall_i (wc := XW q d (nI n) (nF tr) (nF va) K C B Y x0 x1 y0 y1) (wr := MW qm d (nI n) (nF va) (nF tr)) (q0 := 0) (ci := 0) (As := [.int (xs (i + 1)), .int (xs (i + 2)), .int (xs (i + 3))]) (rest := []) hx hb hml hown htA hK hA hP hD hS hl.1 [0, 1, 2, 3, 4, 5] [6, 7, 8] rfl rfl (by decide) (by decide) (by decide) (hP.sub [0, 1, 2, 3, 4, 5] rfl) (mX_stretch l dC dI d q _ n tr va K C B Y x0 x1 y0 y1 (xs (i + 1)) (xs (i + 2)) (xs (i + 3)) hn) (cwV 3 htA (lw_V q76 q77 q78 q19 q79) rfl rfl rfl (by decide +kernel) ⟨Nat.le_of_ble_eq_true rfl, Nat.le_of_ble_eq_true rfl⟩) rfl rfl rfl rfl (Nat.le_of_ble_eq_true rfl) dL_law_178 ⟨Nat.le_of_ble_eq_true rfl, Nat.le_of_ble_eq_true rfl⟩ (fun r u H locs hw hP hD hS => ?_)
  obtain ⟨n2, tr2, va2⟩ := u
  have hP : va_P (dC, dI) cls2 (MW qm d (nI n) (nF va) (nF tr) ++ XW q d (nI n2) (nF tr2) (nF va2) K C B Y x0 x1 y0 y1) H := hP
  have hD : va_D (fun q : Nat => s.heap.size ≤ q) (MW qm d (nI n) (nF va) (nF tr) ++ XW q d (nI n2) (nF tr2) (nF va2) K C B Y x0 x1 y0 y1) := hD
  refine lv_aload_n hx hb dL_law_181 rfl (lv_at hl 2 rfl) ?_
  refine lv_aload_n hx hb dL_law_182 rfl (lv_at hl 0 rfl) ?_
  refine lv_iload_n hx hb dL_law_183 rfl (lv_at hl 3 rfl) ?_
  refine lv_iconst (v := nI 1) hx hb dL_law_184 (by decide +kernel) ?_
  refine xr_add hx hb dL_law_185 ?_
  refine xr_sld hx hb hX hbl hbA hS (i := i + 1) (by omega) (by omega) dL_law_186 ?_
  refine lv_aload_n hx hb dL_law_187 rfl (lv_at hl 0 rfl) ?_
  refine lv_iload_n hx hb dL_law_188 rfl (lv_at hl 3 rfl) ?_
  refine lv_iconst (v := nI 2) hx hb dL_law_189 (by decide +kernel) ?_
  refine xr_add hx hb dL_law_190 ?_
  refine xr_sld hx hb hX hbl hbA hS (i := i + 2) (by omega) (by omega) dL_law_191 ?_
  refine lv_aload_n hx hb dL_law_192 rfl (lv_at hl 0 rfl) ?_
  refine lv_iload_n hx hb dL_law_193 rfl (lv_at hl 3 rfl) ?_
  refine lv_iconst (v := nI 3) hx hb dL_law_194 (by decide +kernel) ?_
  refine xr_add hx hb dL_law_195 ?_
  refine xr_sld hx hb hX hbl hbA hS (i := i + 3) (by omega) (by omega) dL_law_196 ?_
  refine lcall_i (wc := MW qm d (nI n) (nF va) (nF tr)) (wr := XW q d (nI n2) (nF tr2) (nF va2) K C B Y x0 x1 y0 y1) (q0 := 0) (ci := 1) (As := [.int (xs (i + 1)), .int (xs (i + 2)), .int (xs (i + 3))]) (rest := [.int r]) hx hb hml hown htA hK hA hP hD hS hl.1 [0, 1, 2] [3, 4, 5, 6, 7, 8] rfl rfl (by decide) (by decide) (by decide) (hP.sub [0, 1, 2] rfl) (mM_stretch l dC dI d qm _ n tr va (xs (i + 1)) (xs (i + 2)) (xs (i + 3)) hn) (cwV 3 htA (lw_V q190 q191 q192 q20 q193) rfl rfl rfl (by decide +kernel) ⟨Nat.le_of_ble_eq_true rfl, Nat.le_of_ble_eq_true rfl⟩) rfl rfl rfl rfl (Nat.le_of_ble_eq_true rfl) dL_law_197 ⟨Nat.le_of_ble_eq_true rfl, Nat.le_of_ble_eq_true rfl⟩ (fun r2 u H locs hw2 hP hD hS => ?_)
  obtain ⟨n3, tr3, va3⟩ := u
  have hP : va_P (dC, dI) cls2 (XW q d (nI n2) (nF tr2) (nF va2) K C B Y x0 x1 y0 y1 ++ MW qm d (nI n3) (nF va3) (nF tr3)) H := hP
  have hD : va_D (fun q : Nat => s.heap.size ≤ q) (XW q d (nI n2) (nF tr2) (nF va2) K C B Y x0 x1 y0 y1 ++ MW qm d (nI n3) (nF va3) (nF tr3)) := hD
  have e := hw.trans hw2.symm
  injection e with e1 e2
  injection e2 with e2 e3
  injection e3 with e3 e4
  dsimp only at e2 e3 e4
  subst e1
  subst e2
  subst e3
  subst e4
  have hP : va_P (dC, dI) cls2 (XW q d (nI n2) (nF tr2) (nF va2) K C B Y x0 x1 y0 y1 ++ MW qm d (nI n2) (nF va2) (nF tr2)) H := hP
  have hD : va_D (fun q : Nat => s.heap.size ≤ q) (XW q d (nI n2) (nF tr2) (nF va2) K C B Y x0 x1 y0 y1 ++ MW qm d (nI n2) (nF va2) (nF tr2)) := hD
  refine lv_icmp_eq (tgt := 388) hx hb dL_law_200 (by decide) (fun hc => ?_) (fun hc => ?_)
  · exact kk _ _ _ _ _ _ _ _ _ _ _ (ph_ok_sx hok hw) _ _ _ hP hD hS hl
  · exact absurd rfl hc
set_option maxHeartbeats 4000000 in
set_option maxRecDepth 100000 in
theorem law_c3 {p : Program} {l : Launch} {e : Env} {s : State} {m : MethodId} {below : List Frame} {meth : Method} {c : Code} {b L : Nat} {xs : Nat → Int32} {dC : Nat → ClassId} {dI : Nat → Nat → Nat} {d : ClassId} {q qm : Nat → Nat} (C0 : lw_At p s m meth c b L xs) (hK : va_K (dC, dI) cls2 [(d, .int)] s) (i : Nat) (hi : i + 5 ≤ L) (hL : L ≤ 320) (n : Nat) (tr va : Nat → Nat) (K : Int32) (C B Y : Nat → Int32) (x0 x1 y0 y1 : Int32) (hok : ph_ok n tr va) (kk : ∀ (n : Nat) (tr va : Nat → Nat) (K : Int32) (C B Y : Nat → Int32) (x0 x1 y0 y1 : Int32), ph_ok n tr va → ∀ (H : Heap) (locs : List Loc) (ls : Array Slot), va_P (dC, dI) cls2 (XW q d (nI n) (nF tr) (nF va) K C B Y x0 x1 y0 y1 ++ MW qm d (nI n) (nF va) (nF tr)) H → va_D (fun q : Nat => s.heap.size ≤ q) (XW q d (nI n) (nF tr) (nF va) K C B Y x0 x1 y0 y1 ++ MW qm d (nI n) (nF va) (nF tr)) → va_S (fun q : Nat => s.heap.size ≤ q) s.heap H locs → lv_has ls 4 [(0, .ref b), (1, .ref (q 0)), (2, .ref (qm 0)), (3, .int (nI i))] → W p l e room_1 s m #[Value.ref b] below meth c H locs 9 1038 (lw_Z below #[Value.ref b] s) (F0 m 388 ls [])) : ∀ (H : Heap) (locs : List Loc) (ls : Array Slot), va_P (dC, dI) cls2 (XW q d (nI n) (nF tr) (nF va) K C B Y x0 x1 y0 y1 ++ MW qm d (nI n) (nF va) (nF tr)) H → va_D (fun q : Nat => s.heap.size ≤ q) (XW q d (nI n) (nF tr) (nF va) K C B Y x0 x1 y0 y1 ++ MW qm d (nI n) (nF va) (nF tr)) → va_S (fun q : Nat => s.heap.size ≤ q) s.heap H locs → lv_has ls 4 [(0, .ref b), (1, .ref (q 0)), (2, .ref (qm 0)), (3, .int (nI i))] → W p l e room_1 s m #[Value.ref b] below meth c H locs 9 1038 (lw_Z below #[Value.ref b] s) (F0 m 205 ls []) := by
  intro H locs ls hP hD hS hl
  obtain ⟨hx, hb, hr, hml, hown, hts, hX, hbl, hlocks, hgv⟩ := C0
  have htA : ∀ w ∈ lw_all, w.before #[Value.ref b] s = true := fun w h => hts w (lw_all_tbl h)
  have hA : ∀ q : Nat, s.heap.size ≤ q → (fun q : Nat => s.heap.size ≤ q) q := fun _ h => h
  have hbA : ¬ (fun q : Nat => s.heap.size ≤ q) b := Nat.not_le.mpr hbl
  obtain ⟨hn, htr, hva⟩ := id hok
  refine lv_aload_n hx hb dL_law_205 rfl (lv_at hl 1 rfl) ?_
  refine lcall_i (wc := XW q d (nI n) (nF tr) (nF va) K C B Y x0 x1 y0 y1) (wr := MW qm d (nI n) (nF va) (nF tr)) (q0 := 0) (ci := 0) (As := []) (rest := []) hx hb hml hown htA hK hA hP hD hS hl.1 [0, 1, 2, 3, 4, 5] [6, 7, 8] rfl rfl (by decide) (by decide) (by decide) (hP.sub [0, 1, 2, 3, 4, 5] rfl) (mX_drop l dC dI d q _ n tr va K C B Y x0 x1 y0 y1 hn) (cwV 0 htA (lw_V q82 q83 q84 q19 q85) rfl rfl rfl (by decide +kernel) ⟨Nat.le_of_ble_eq_true rfl, Nat.le_of_ble_eq_true rfl⟩) rfl rfl rfl rfl (Nat.le_of_ble_eq_true rfl) dL_law_206 ⟨Nat.le_of_ble_eq_true rfl, Nat.le_of_ble_eq_true rfl⟩ (fun r u H locs hw hP hD hS => ?_)
  have hP : va_P (dC, dI) cls2 (MW qm d (nI n) (nF va) (nF tr) ++ XW q d (nI u) (nF tr) (nF va) K C B Y x0 x1 y0 y1) H := hP
  have hD : va_D (fun q : Nat => s.heap.size ≤ q) (MW qm d (nI n) (nF va) (nF tr) ++ XW q d (nI u) (nF tr) (nF va) K C B Y x0 x1 y0 y1) := hD
  obtain ⟨n2, rfl⟩ : ∃ z, z = u := ⟨_, rfl⟩
  refine lv_aload_n hx hb dL_law_209 rfl (lv_at hl 2 rfl) ?_
  refine lcall_i (wc := MW qm d (nI n) (nF va) (nF tr)) (wr := XW q d (nI n2) (nF tr) (nF va) K C B Y x0 x1 y0 y1) (q0 := 0) (ci := 1) (As := []) (rest := [.int r]) hx hb hml hown htA hK hA hP hD hS hl.1 [0, 1, 2] [3, 4, 5, 6, 7, 8] rfl rfl (by decide) (by decide) (by decide) (hP.sub [0, 1, 2] rfl) (mM_drop l dC dI d qm _ n tr va hn) (cwV 0 htA (lw_V q195 q196 q197 q20 q198) rfl rfl rfl (by decide +kernel) ⟨Nat.le_of_ble_eq_true rfl, Nat.le_of_ble_eq_true rfl⟩) rfl rfl rfl rfl (Nat.le_of_ble_eq_true rfl) dL_law_210 ⟨Nat.le_of_ble_eq_true rfl, Nat.le_of_ble_eq_true rfl⟩ (fun r2 u H locs hw2 hP hD hS => ?_)
  have hP : va_P (dC, dI) cls2 (XW q d (nI n2) (nF tr) (nF va) K C B Y x0 x1 y0 y1 ++ MW qm d (nI u) (nF va) (nF tr)) H := hP
  have hD : va_D (fun q : Nat => s.heap.size ≤ q) (XW q d (nI n2) (nF tr) (nF va) K C B Y x0 x1 y0 y1 ++ MW qm d (nI u) (nF va) (nF tr)) := hD
  have e := hw.trans hw2.symm
  injection e with e1 e2
  subst e1
  subst e2
  have hP : va_P (dC, dI) cls2 (XW q d (nI n2) (nF tr) (nF va) K C B Y x0 x1 y0 y1 ++ MW qm d (nI n2) (nF va) (nF tr)) H := hP
  have hD : va_D (fun q : Nat => s.heap.size ≤ q) (XW q d (nI n2) (nF tr) (nF va) K C B Y x0 x1 y0 y1 ++ MW qm d (nI n2) (nF va) (nF tr)) := hD
  refine lv_icmp_eq (tgt := 388) hx hb dL_law_213 (by decide) (fun hc => ?_) (fun hc => ?_)
  · exact kk _ _ _ _ _ _ _ _ _ _ _ (ph_ok_dr hok hw) _ _ _ hP hD hS hl
  · exact absurd rfl hc
set_option maxHeartbeats 4000000 in
set_option maxRecDepth 100000 in
theorem law_c4 {p : Program} {l : Launch} {e : Env} {s : State} {m : MethodId} {below : List Frame} {meth : Method} {c : Code} {b L : Nat} {xs : Nat → Int32} {dC : Nat → ClassId} {dI : Nat → Nat → Nat} {d : ClassId} {q qm : Nat → Nat} (C0 : lw_At p s m meth c b L xs) (hK : va_K (dC, dI) cls2 [(d, .int)] s) (i : Nat) (hi : i + 5 ≤ L) (hL : L ≤ 320) (n : Nat) (tr va : Nat → Nat) (K : Int32) (C B Y : Nat → Int32) (x0 x1 y0 y1 : Int32) (hok : ph_ok n tr va) (kk : ∀ (n : Nat) (tr va : Nat → Nat) (K : Int32) (C B Y : Nat → Int32) (x0 x1 y0 y1 : Int32), ph_ok n tr va → ∀ (H : Heap) (locs : List Loc) (ls : Array Slot), va_P (dC, dI) cls2 (XW q d (nI n) (nF tr) (nF va) K C B Y x0 x1 y0 y1 ++ MW qm d (nI n) (nF va) (nF tr)) H → va_D (fun q : Nat => s.heap.size ≤ q) (XW q d (nI n) (nF tr) (nF va) K C B Y x0 x1 y0 y1 ++ MW qm d (nI n) (nF va) (nF tr)) → va_S (fun q : Nat => s.heap.size ≤ q) s.heap H locs → lv_has ls 4 [(0, .ref b), (1, .ref (q 0)), (2, .ref (qm 0)), (3, .int (nI i))] → W p l e room_1 s m #[Value.ref b] below meth c H locs 9 1038 (lw_Z below #[Value.ref b] s) (F0 m 388 ls [])) : ∀ (H : Heap) (locs : List Loc) (ls : Array Slot), va_P (dC, dI) cls2 (XW q d (nI n) (nF tr) (nF va) K C B Y x0 x1 y0 y1 ++ MW qm d (nI n) (nF va) (nF tr)) H → va_D (fun q : Nat => s.heap.size ≤ q) (XW q d (nI n) (nF tr) (nF va) K C B Y x0 x1 y0 y1 ++ MW qm d (nI n) (nF va) (nF tr)) → va_S (fun q : Nat => s.heap.size ≤ q) s.heap H locs → lv_has ls 4 [(0, .ref b), (1, .ref (q 0)), (2, .ref (qm 0)), (3, .int (nI i))] → W p l e room_1 s m #[Value.ref b] below meth c H locs 9 1038 (lw_Z below #[Value.ref b] s) (F0 m 218 ls []) := by
  intro H locs ls hP hD hS hl
  obtain ⟨hx, hb, hr, hml, hown, hts, hX, hbl, hlocks, hgv⟩ := C0
  have htA : ∀ w ∈ lw_all, w.before #[Value.ref b] s = true := fun w h => hts w (lw_all_tbl h)
  have hA : ∀ q : Nat, s.heap.size ≤ q → (fun q : Nat => s.heap.size ≤ q) q := fun _ h => h
  have hbA : ¬ (fun q : Nat => s.heap.size ≤ q) b := Nat.not_le.mpr hbl
  obtain ⟨hn, htr, hva⟩ := id hok
  refine lv_aload_n hx hb dL_law_218 rfl (lv_at hl 1 rfl) ?_
  refine lcall_i (wc := XW q d (nI n) (nF tr) (nF va) K C B Y x0 x1 y0 y1) (wr := MW qm d (nI n) (nF va) (nF tr)) (q0 := 0) (ci := 0) (As := []) (rest := []) hx hb hml hown htA hK hA hP hD hS hl.1 [0, 1, 2, 3, 4, 5] [6, 7, 8] rfl rfl (by decide) (by decide) (by decide) (hP.sub [0, 1, 2, 3, 4, 5] rfl) (mX_least l dC dI d q _ n tr va K C B Y x0 x1 y0 y1 hn hva htr) (cwV 0 htA (lw_V q86 q87 q88 q19 q89) rfl rfl rfl (by decide +kernel) ⟨Nat.le_of_ble_eq_true rfl, Nat.le_of_ble_eq_true rfl⟩) rfl rfl rfl rfl (Nat.le_of_ble_eq_true rfl) dL_law_219 ⟨Nat.le_of_ble_eq_true rfl, Nat.le_of_ble_eq_true rfl⟩ (fun r u H locs hw hP hD hS => ?_)
  obtain ⟨C2, B2, Y2, x20, x21, y20, y21⟩ := u
  have hP : va_P (dC, dI) cls2 (MW qm d (nI n) (nF va) (nF tr) ++ XW q d (nI n) (nF tr) (nF va) (nI 0) C2 B2 Y2 x20 x21 y20 y21) H := hP
  have hD : va_D (fun q : Nat => s.heap.size ≤ q) (MW qm d (nI n) (nF va) (nF tr) ++ XW q d (nI n) (nF tr) (nF va) (nI 0) C2 B2 Y2 x20 x21 y20 y21) := hD
  refine lv_aload_n hx hb dL_law_222 rfl (lv_at hl 2 rfl) ?_
  refine lcall_i (wc := MW qm d (nI n) (nF va) (nF tr)) (wr := XW q d (nI n) (nF tr) (nF va) (nI 0) C2 B2 Y2 x20 x21 y20 y21) (q0 := 0) (ci := 1) (As := []) (rest := [.int r]) hx hb hml hown htA hK hA hP hD hS hl.1 [0, 1, 2] [3, 4, 5, 6, 7, 8] rfl rfl (by decide) (by decide) (by decide) (hP.sub [0, 1, 2] rfl) (mM_least l dC dI d qm _ n tr va hn hva htr) (cwV 0 htA (lw_V q199 q200 q201 q20 q202) rfl rfl rfl (by decide +kernel) ⟨Nat.le_of_ble_eq_true rfl, Nat.le_of_ble_eq_true rfl⟩) rfl rfl rfl rfl (Nat.le_of_ble_eq_true rfl) dL_law_223 ⟨Nat.le_of_ble_eq_true rfl, Nat.le_of_ble_eq_true rfl⟩ (fun r2 u H locs hw2 hP hD hS => ?_)
  have hP : va_P (dC, dI) cls2 (XW q d (nI n) (nF tr) (nF va) (nI 0) C2 B2 Y2 x20 x21 y20 y21 ++ MW qm d (nI n) (nF va) (nF tr)) H := hP
  have hD : va_D (fun q : Nat => s.heap.size ≤ q) (XW q d (nI n) (nF tr) (nF va) (nI 0) C2 B2 Y2 x20 x21 y20 y21 ++ MW qm d (nI n) (nF va) (nF tr)) := hD
  subst hw
  subst hw2
  refine lv_icmp_eq (tgt := 388) hx hb dL_law_226 (by decide) (fun hc => ?_) (fun hc => ?_)
  · exact kk _ _ _ _ _ _ _ _ _ _ _ hok _ _ _ hP hD hS hl
  · exact absurd rfl hc
set_option maxHeartbeats 4000000 in
set_option maxRecDepth 100000 in
theorem law_c5 {p : Program} {l : Launch} {e : Env} {s : State} {m : MethodId} {below : List Frame} {meth : Method} {c : Code} {b L : Nat} {xs : Nat → Int32} {dC : Nat → ClassId} {dI : Nat → Nat → Nat} {d : ClassId} {q qm : Nat → Nat} (C0 : lw_At p s m meth c b L xs) (hK : va_K (dC, dI) cls2 [(d, .int)] s) (i : Nat) (hi : i + 5 ≤ L) (hL : L ≤ 320) (n : Nat) (tr va : Nat → Nat) (K : Int32) (C B Y : Nat → Int32) (x0 x1 y0 y1 : Int32) (hok : ph_ok n tr va) (kk : ∀ (n : Nat) (tr va : Nat → Nat) (K : Int32) (C B Y : Nat → Int32) (x0 x1 y0 y1 : Int32), ph_ok n tr va → ∀ (H : Heap) (locs : List Loc) (ls : Array Slot), va_P (dC, dI) cls2 (XW q d (nI n) (nF tr) (nF va) K C B Y x0 x1 y0 y1 ++ MW qm d (nI n) (nF va) (nF tr)) H → va_D (fun q : Nat => s.heap.size ≤ q) (XW q d (nI n) (nF tr) (nF va) K C B Y x0 x1 y0 y1 ++ MW qm d (nI n) (nF va) (nF tr)) → va_S (fun q : Nat => s.heap.size ≤ q) s.heap H locs → lv_has ls 4 [(0, .ref b), (1, .ref (q 0)), (2, .ref (qm 0)), (3, .int (nI i))] → W p l e room_1 s m #[Value.ref b] below meth c H locs 9 1038 (lw_Z below #[Value.ref b] s) (F0 m 388 ls [])) : ∀ (H : Heap) (locs : List Loc) (ls : Array Slot), va_P (dC, dI) cls2 (XW q d (nI n) (nF tr) (nF va) K C B Y x0 x1 y0 y1 ++ MW qm d (nI n) (nF va) (nF tr)) H → va_D (fun q : Nat => s.heap.size ≤ q) (XW q d (nI n) (nF tr) (nF va) K C B Y x0 x1 y0 y1 ++ MW qm d (nI n) (nF va) (nF tr)) → va_S (fun q : Nat => s.heap.size ≤ q) s.heap H locs → lv_has ls 4 [(0, .ref b), (1, .ref (q 0)), (2, .ref (qm 0)), (3, .int (nI i))] → W p l e room_1 s m #[Value.ref b] below meth c H locs 9 1038 (lw_Z below #[Value.ref b] s) (F0 m 231 ls []) := by
  intro H locs ls hP hD hS hl
  obtain ⟨hx, hb, hr, hml, hown, hts, hX, hbl, hlocks, hgv⟩ := C0
  have htA : ∀ w ∈ lw_all, w.before #[Value.ref b] s = true := fun w h => hts w (lw_all_tbl h)
  have hA : ∀ q : Nat, s.heap.size ≤ q → (fun q : Nat => s.heap.size ≤ q) q := fun _ h => h
  have hbA : ¬ (fun q : Nat => s.heap.size ≤ q) b := Nat.not_le.mpr hbl
  obtain ⟨hn, htr, hva⟩ := id hok
  refine lv_aload_n hx hb dL_law_231 rfl (lv_at hl 1 rfl) ?_
  refine lcall_i (wc := XW q d (nI n) (nF tr) (nF va) K C B Y x0 x1 y0 y1) (wr := MW qm d (nI n) (nF va) (nF tr)) (q0 := 0) (ci := 0) (As := []) (rest := []) hx hb hml hown htA hK hA hP hD hS hl.1 [0, 1, 2, 3, 4, 5] [6, 7, 8] rfl rfl (by decide) (by decide) (by decide) (hP.sub [0, 1, 2, 3, 4, 5] rfl) (mX_sorting l dC dI d q _ n tr va K C B Y x0 x1 y0 y1 hn hva htr) (cwV 0 htA (lw_V q134 q135 q136 q19 q137) rfl rfl rfl (by decide +kernel) ⟨Nat.le_of_ble_eq_true rfl, Nat.le_of_ble_eq_true rfl⟩) rfl rfl rfl rfl (Nat.le_of_ble_eq_true rfl) dL_law_232 ⟨Nat.le_of_ble_eq_true rfl, Nat.le_of_ble_eq_true rfl⟩ (fun r u H locs hw hP hD hS => ?_)
  obtain ⟨C2, B2, Y2, x20, x21, y20, y21⟩ := u
  have hP : va_P (dC, dI) cls2 (MW qm d (nI n) (nF va) (nF tr) ++ XW q d (nI n) (nF tr) (nF va) (nI 0) C2 B2 Y2 x20 x21 y20 y21) H := hP
  have hD : va_D (fun q : Nat => s.heap.size ≤ q) (MW qm d (nI n) (nF va) (nF tr) ++ XW q d (nI n) (nF tr) (nF va) (nI 0) C2 B2 Y2 x20 x21 y20 y21) := hD
  refine lv_aload_n hx hb dL_law_235 rfl (lv_at hl 2 rfl) ?_
  refine lcall_i (wc := MW qm d (nI n) (nF va) (nF tr)) (wr := XW q d (nI n) (nF tr) (nF va) (nI 0) C2 B2 Y2 x20 x21 y20 y21) (q0 := 0) (ci := 1) (As := []) (rest := [.int r]) hx hb hml hown htA hK hA hP hD hS hl.1 [0, 1, 2] [3, 4, 5, 6, 7, 8] rfl rfl (by decide) (by decide) (by decide) (hP.sub [0, 1, 2] rfl) (mM_sorting l dC dI d qm _ n tr va hn hva htr) (cwV 0 htA (lw_V q224 q225 q226 q20 q227) rfl rfl rfl (by decide +kernel) ⟨Nat.le_of_ble_eq_true rfl, Nat.le_of_ble_eq_true rfl⟩) rfl rfl rfl rfl (Nat.le_of_ble_eq_true rfl) dL_law_236 ⟨Nat.le_of_ble_eq_true rfl, Nat.le_of_ble_eq_true rfl⟩ (fun r2 u H locs hw2 hP hD hS => ?_)
  have hP : va_P (dC, dI) cls2 (XW q d (nI n) (nF tr) (nF va) (nI 0) C2 B2 Y2 x20 x21 y20 y21 ++ MW qm d (nI n) (nF va) (nF tr)) H := hP
  have hD : va_D (fun q : Nat => s.heap.size ≤ q) (XW q d (nI n) (nF tr) (nF va) (nI 0) C2 B2 Y2 x20 x21 y20 y21 ++ MW qm d (nI n) (nF va) (nF tr)) := hD
  subst hw
  subst hw2
  refine lv_icmp_eq (tgt := 388) hx hb dL_law_239 (by decide) (fun hc => ?_) (fun hc => ?_)
  · exact kk _ _ _ _ _ _ _ _ _ _ _ hok _ _ _ hP hD hS hl
  · exact absurd rfl hc
set_option maxHeartbeats 4000000 in
set_option maxRecDepth 100000 in
theorem law_c6 {p : Program} {l : Launch} {e : Env} {s : State} {m : MethodId} {below : List Frame} {meth : Method} {c : Code} {b L : Nat} {xs : Nat → Int32} {dC : Nat → ClassId} {dI : Nat → Nat → Nat} {d : ClassId} {q qm : Nat → Nat} (C0 : lw_At p s m meth c b L xs) (hK : va_K (dC, dI) cls2 [(d, .int)] s) (i : Nat) (hi : i + 5 ≤ L) (hL : L ≤ 320) (n : Nat) (tr va : Nat → Nat) (K : Int32) (C B Y : Nat → Int32) (x0 x1 y0 y1 : Int32) (hok : ph_ok n tr va) (kk : ∀ (n : Nat) (tr va : Nat → Nat) (K : Int32) (C B Y : Nat → Int32) (x0 x1 y0 y1 : Int32), ph_ok n tr va → ∀ (H : Heap) (locs : List Loc) (ls : Array Slot), va_P (dC, dI) cls2 (XW q d (nI n) (nF tr) (nF va) K C B Y x0 x1 y0 y1 ++ MW qm d (nI n) (nF va) (nF tr)) H → va_D (fun q : Nat => s.heap.size ≤ q) (XW q d (nI n) (nF tr) (nF va) K C B Y x0 x1 y0 y1 ++ MW qm d (nI n) (nF va) (nF tr)) → va_S (fun q : Nat => s.heap.size ≤ q) s.heap H locs → lv_has ls 4 [(0, .ref b), (1, .ref (q 0)), (2, .ref (qm 0)), (3, .int (nI i))] → W p l e room_1 s m #[Value.ref b] below meth c H locs 9 1038 (lw_Z below #[Value.ref b] s) (F0 m 388 ls [])) : ∀ (H : Heap) (locs : List Loc) (ls : Array Slot), va_P (dC, dI) cls2 (XW q d (nI n) (nF tr) (nF va) K C B Y x0 x1 y0 y1 ++ MW qm d (nI n) (nF va) (nF tr)) H → va_D (fun q : Nat => s.heap.size ≤ q) (XW q d (nI n) (nF tr) (nF va) K C B Y x0 x1 y0 y1 ++ MW qm d (nI n) (nF va) (nF tr)) → va_S (fun q : Nat => s.heap.size ≤ q) s.heap H locs → lv_has ls 4 [(0, .ref b), (1, .ref (q 0)), (2, .ref (qm 0)), (3, .int (nI i))] → W p l e room_1 s m #[Value.ref b] below meth c H locs 9 1038 (lw_Z below #[Value.ref b] s) (F0 m 244 ls []) := by
  intro H locs ls hP hD hS hl
  obtain ⟨hx, hb, hr, hml, hown, hts, hX, hbl, hlocks, hgv⟩ := C0
  have htA : ∀ w ∈ lw_all, w.before #[Value.ref b] s = true := fun w h => hts w (lw_all_tbl h)
  have hA : ∀ q : Nat, s.heap.size ≤ q → (fun q : Nat => s.heap.size ≤ q) q := fun _ h => h
  have hbA : ¬ (fun q : Nat => s.heap.size ≤ q) b := Nat.not_le.mpr hbl
  obtain ⟨hn, htr, hva⟩ := id hok
  refine lv_aload_n hx hb dL_law_244 rfl (lv_at hl 1 rfl) ?_
  refine lcall_i (wc := XW q d (nI n) (nF tr) (nF va) K C B Y x0 x1 y0 y1) (wr := MW qm d (nI n) (nF va) (nF tr)) (q0 := 0) (ci := 0) (As := []) (rest := []) hx hb hml hown htA hK hA hP hD hS hl.1 [0, 1, 2, 3, 4, 5] [6, 7, 8] rfl rfl (by decide) (by decide) (by decide) (hP.sub [0, 1, 2, 3, 4, 5] rfl) (mX_ties l dC dI d q _ n tr va K C B Y x0 x1 y0 y1 hn hva htr) (cwV 0 htA (lw_V q138 q139 q140 q19 q141) rfl rfl rfl (by decide +kernel) ⟨Nat.le_of_ble_eq_true rfl, Nat.le_of_ble_eq_true rfl⟩) rfl rfl rfl rfl (Nat.le_of_ble_eq_true rfl) dL_law_245 ⟨Nat.le_of_ble_eq_true rfl, Nat.le_of_ble_eq_true rfl⟩ (fun r u H locs hw hP hD hS => ?_)
  obtain ⟨C2, B2, Y2, x20, x21, y20, y21⟩ := u
  have hP : va_P (dC, dI) cls2 (MW qm d (nI n) (nF va) (nF tr) ++ XW q d (nI n) (nF tr) (nF va) (nI 0) C2 B2 Y2 x20 x21 y20 y21) H := hP
  have hD : va_D (fun q : Nat => s.heap.size ≤ q) (MW qm d (nI n) (nF va) (nF tr) ++ XW q d (nI n) (nF tr) (nF va) (nI 0) C2 B2 Y2 x20 x21 y20 y21) := hD
  refine lv_aload_n hx hb dL_law_248 rfl (lv_at hl 2 rfl) ?_
  refine lcall_i (wc := MW qm d (nI n) (nF va) (nF tr)) (wr := XW q d (nI n) (nF tr) (nF va) (nI 0) C2 B2 Y2 x20 x21 y20 y21) (q0 := 0) (ci := 1) (As := []) (rest := [.int r]) hx hb hml hown htA hK hA hP hD hS hl.1 [0, 1, 2] [3, 4, 5, 6, 7, 8] rfl rfl (by decide) (by decide) (by decide) (hP.sub [0, 1, 2] rfl) (mM_ties l dC dI d qm _ n tr va hn hva htr) (cwV 0 htA (lw_V q232 q233 q234 q20 q235) rfl rfl rfl (by decide +kernel) ⟨Nat.le_of_ble_eq_true rfl, Nat.le_of_ble_eq_true rfl⟩) rfl rfl rfl rfl (Nat.le_of_ble_eq_true rfl) dL_law_249 ⟨Nat.le_of_ble_eq_true rfl, Nat.le_of_ble_eq_true rfl⟩ (fun r2 u H locs hw2 hP hD hS => ?_)
  have hP : va_P (dC, dI) cls2 (XW q d (nI n) (nF tr) (nF va) (nI 0) C2 B2 Y2 x20 x21 y20 y21 ++ MW qm d (nI n) (nF va) (nF tr)) H := hP
  have hD : va_D (fun q : Nat => s.heap.size ≤ q) (XW q d (nI n) (nF tr) (nF va) (nI 0) C2 B2 Y2 x20 x21 y20 y21 ++ MW qm d (nI n) (nF va) (nF tr)) := hD
  subst hw
  subst hw2
  refine lv_icmp_eq (tgt := 388) hx hb dL_law_252 (by decide) (fun hc => ?_) (fun hc => ?_)
  · exact kk _ _ _ _ _ _ _ _ _ _ _ hok _ _ _ hP hD hS hl
  · exact absurd rfl hc
set_option maxHeartbeats 4000000 in
set_option maxRecDepth 100000 in
theorem law_c8 {p : Program} {l : Launch} {e : Env} {s : State} {m : MethodId} {below : List Frame} {meth : Method} {c : Code} {b L : Nat} {xs : Nat → Int32} {dC : Nat → ClassId} {dI : Nat → Nat → Nat} {d : ClassId} {q qm : Nat → Nat} (C0 : lw_At p s m meth c b L xs) (hK : va_K (dC, dI) cls2 [(d, .int)] s) (i : Nat) (hi : i + 5 ≤ L) (hL : L ≤ 320) (n : Nat) (tr va : Nat → Nat) (K : Int32) (C B Y : Nat → Int32) (x0 x1 y0 y1 : Int32) (hok : ph_ok n tr va) (kk : ∀ (n : Nat) (tr va : Nat → Nat) (K : Int32) (C B Y : Nat → Int32) (x0 x1 y0 y1 : Int32), ph_ok n tr va → ∀ (H : Heap) (locs : List Loc) (ls : Array Slot), va_P (dC, dI) cls2 (XW q d (nI n) (nF tr) (nF va) K C B Y x0 x1 y0 y1 ++ MW qm d (nI n) (nF va) (nF tr)) H → va_D (fun q : Nat => s.heap.size ≤ q) (XW q d (nI n) (nF tr) (nF va) K C B Y x0 x1 y0 y1 ++ MW qm d (nI n) (nF va) (nF tr)) → va_S (fun q : Nat => s.heap.size ≤ q) s.heap H locs → lv_has ls 4 [(0, .ref b), (1, .ref (q 0)), (2, .ref (qm 0)), (3, .int (nI i))] → W p l e room_1 s m #[Value.ref b] below meth c H locs 9 1038 (lw_Z below #[Value.ref b] s) (F0 m 388 ls [])) : ∀ (H : Heap) (locs : List Loc) (ls : Array Slot), va_P (dC, dI) cls2 (XW q d (nI n) (nF tr) (nF va) K C B Y x0 x1 y0 y1 ++ MW qm d (nI n) (nF va) (nF tr)) H → va_D (fun q : Nat => s.heap.size ≤ q) (XW q d (nI n) (nF tr) (nF va) K C B Y x0 x1 y0 y1 ++ MW qm d (nI n) (nF va) (nF tr)) → va_S (fun q : Nat => s.heap.size ≤ q) s.heap H locs → lv_has ls 4 [(0, .ref b), (1, .ref (q 0)), (2, .ref (qm 0)), (3, .int (nI i))] → W p l e room_1 s m #[Value.ref b] below meth c H locs 9 1038 (lw_Z below #[Value.ref b] s) (F0 m 280 ls []) := by
  intro H locs ls hP hD hS hl
  obtain ⟨hx, hb, hr, hml, hown, hts, hX, hbl, hlocks, hgv⟩ := C0
  have htA : ∀ w ∈ lw_all, w.before #[Value.ref b] s = true := fun w h => hts w (lw_all_tbl h)
  have hA : ∀ q : Nat, s.heap.size ≤ q → (fun q : Nat => s.heap.size ≤ q) q := fun _ h => h
  have hbA : ¬ (fun q : Nat => s.heap.size ≤ q) b := Nat.not_le.mpr hbl
  obtain ⟨hn, htr, hva⟩ := id hok
  refine lv_aload_n hx hb dL_law_280 rfl (lv_at hl 1 rfl) ?_
  refine lcall_i (wc := XW q d (nI n) (nF tr) (nF va) K C B Y x0 x1 y0 y1) (wr := MW qm d (nI n) (nF va) (nF tr)) (q0 := 0) (ci := 0) (As := []) (rest := []) hx hb hml hown htA hK hA hP hD hS hl.1 [0, 1, 2, 3, 4, 5] [6, 7, 8] rfl rfl (by decide) (by decide) (by decide) (hP.sub [0, 1, 2, 3, 4, 5] rfl) (mX_leastForced l dC dI d q _ n tr va K C B Y x0 x1 y0 y1 hn hva htr) (cwV 0 htA (lw_V q146 q147 q148 q19 q149) rfl rfl rfl (by decide +kernel) ⟨Nat.le_of_ble_eq_true rfl, Nat.le_of_ble_eq_true rfl⟩) rfl rfl rfl rfl (Nat.le_of_ble_eq_true rfl) dL_law_281 ⟨Nat.le_of_ble_eq_true rfl, Nat.le_of_ble_eq_true rfl⟩ (fun r u H locs hw hP hD hS => ?_)
  obtain ⟨C2, B2, Y2, x20, x21, y20, y21⟩ := u
  have hP : va_P (dC, dI) cls2 (MW qm d (nI n) (nF va) (nF tr) ++ XW q d (nI n) (nF tr) (nF va) (nI 0) C2 B2 Y2 x20 x21 y20 y21) H := hP
  have hD : va_D (fun q : Nat => s.heap.size ≤ q) (MW qm d (nI n) (nF va) (nF tr) ++ XW q d (nI n) (nF tr) (nF va) (nI 0) C2 B2 Y2 x20 x21 y20 y21) := hD
  refine lv_aload_n hx hb dL_law_284 rfl (lv_at hl 2 rfl) ?_
  refine lcall_i (wc := MW qm d (nI n) (nF va) (nF tr)) (wr := XW q d (nI n) (nF tr) (nF va) (nI 0) C2 B2 Y2 x20 x21 y20 y21) (q0 := 0) (ci := 1) (As := []) (rest := [.int r]) hx hb hml hown htA hK hA hP hD hS hl.1 [0, 1, 2] [3, 4, 5, 6, 7, 8] rfl rfl (by decide) (by decide) (by decide) (hP.sub [0, 1, 2] rfl) (mM_leastForced l dC dI d qm _ n tr va hn hva htr) (cwV 0 htA (lw_V q240 q241 q242 q20 q243) rfl rfl rfl (by decide +kernel) ⟨Nat.le_of_ble_eq_true rfl, Nat.le_of_ble_eq_true rfl⟩) rfl rfl rfl rfl (Nat.le_of_ble_eq_true rfl) dL_law_285 ⟨Nat.le_of_ble_eq_true rfl, Nat.le_of_ble_eq_true rfl⟩ (fun r2 u H locs hw2 hP hD hS => ?_)
  have hP : va_P (dC, dI) cls2 (XW q d (nI n) (nF tr) (nF va) (nI 0) C2 B2 Y2 x20 x21 y20 y21 ++ MW qm d (nI n) (nF va) (nF tr)) H := hP
  have hD : va_D (fun q : Nat => s.heap.size ≤ q) (XW q d (nI n) (nF tr) (nF va) (nI 0) C2 B2 Y2 x20 x21 y20 y21 ++ MW qm d (nI n) (nF va) (nF tr)) := hD
  subst hw
  subst hw2
  refine lv_icmp_eq (tgt := 388) hx hb dL_law_288 (by decide) (fun hc => ?_) (fun hc => ?_)
  · exact kk _ _ _ _ _ _ _ _ _ _ _ hok _ _ _ hP hD hS hl
  · exact absurd rfl hc
set_option maxHeartbeats 4000000 in
set_option maxRecDepth 100000 in
theorem law_c9 {p : Program} {l : Launch} {e : Env} {s : State} {m : MethodId} {below : List Frame} {meth : Method} {c : Code} {b L : Nat} {xs : Nat → Int32} {dC : Nat → ClassId} {dI : Nat → Nat → Nat} {d : ClassId} {q qm : Nat → Nat} (C0 : lw_At p s m meth c b L xs) (hK : va_K (dC, dI) cls2 [(d, .int)] s) (i : Nat) (hi : i + 5 ≤ L) (hL : L ≤ 320) (n : Nat) (tr va : Nat → Nat) (K : Int32) (C B Y : Nat → Int32) (x0 x1 y0 y1 : Int32) (hok : ph_ok n tr va) (kk : ∀ (n : Nat) (tr va : Nat → Nat) (K : Int32) (C B Y : Nat → Int32) (x0 x1 y0 y1 : Int32), ph_ok n tr va → ∀ (H : Heap) (locs : List Loc) (ls : Array Slot), va_P (dC, dI) cls2 (XW q d (nI n) (nF tr) (nF va) K C B Y x0 x1 y0 y1 ++ MW qm d (nI n) (nF va) (nF tr)) H → va_D (fun q : Nat => s.heap.size ≤ q) (XW q d (nI n) (nF tr) (nF va) K C B Y x0 x1 y0 y1 ++ MW qm d (nI n) (nF va) (nF tr)) → va_S (fun q : Nat => s.heap.size ≤ q) s.heap H locs → lv_has ls 4 [(0, .ref b), (1, .ref (q 0)), (2, .ref (qm 0)), (3, .int (nI i))] → W p l e room_1 s m #[Value.ref b] below meth c H locs 9 1038 (lw_Z below #[Value.ref b] s) (F0 m 388 ls [])) : ∀ (H : Heap) (locs : List Loc) (ls : Array Slot), va_P (dC, dI) cls2 (XW q d (nI n) (nF tr) (nF va) K C B Y x0 x1 y0 y1 ++ MW qm d (nI n) (nF va) (nF tr)) H → va_D (fun q : Nat => s.heap.size ≤ q) (XW q d (nI n) (nF tr) (nF va) K C B Y x0 x1 y0 y1 ++ MW qm d (nI n) (nF va) (nF tr)) → va_S (fun q : Nat => s.heap.size ≤ q) s.heap H locs → lv_has ls 4 [(0, .ref b), (1, .ref (q 0)), (2, .ref (qm 0)), (3, .int (nI i))] → W p l e room_1 s m #[Value.ref b] below meth c H locs 9 1038 (lw_Z below #[Value.ref b] s) (F0 m 293 ls []) := by
  intro H locs ls hP hD hS hl
  obtain ⟨hx, hb, hr, hml, hown, hts, hX, hbl, hlocks, hgv⟩ := C0
  have htA : ∀ w ∈ lw_all, w.before #[Value.ref b] s = true := fun w h => hts w (lw_all_tbl h)
  have hA : ∀ q : Nat, s.heap.size ≤ q → (fun q : Nat => s.heap.size ≤ q) q := fun _ h => h
  have hbA : ¬ (fun q : Nat => s.heap.size ≤ q) b := Nat.not_le.mpr hbl
  obtain ⟨hn, htr, hva⟩ := id hok
  refine lv_aload_n hx hb dL_law_293 rfl (lv_at hl 1 rfl) ?_
  refine lcall_i (wc := XW q d (nI n) (nF tr) (nF va) K C B Y x0 x1 y0 y1) (wr := MW qm d (nI n) (nF va) (nF tr)) (q0 := 0) (ci := 0) (As := []) (rest := []) hx hb hml hown htA hK hA hP hD hS hl.1 [0, 1, 2, 3, 4, 5] [6, 7, 8] rfl rfl (by decide) (by decide) (by decide) (hP.sub [0, 1, 2, 3, 4, 5] rfl) (mX_sortingForced l dC dI d q _ n tr va K C B Y x0 x1 y0 y1 hn hva htr) (cwV 0 htA (lw_V q150 q151 q152 q19 q153) rfl rfl rfl (by decide +kernel) ⟨Nat.le_of_ble_eq_true rfl, Nat.le_of_ble_eq_true rfl⟩) rfl rfl rfl rfl (Nat.le_of_ble_eq_true rfl) dL_law_294 ⟨Nat.le_of_ble_eq_true rfl, Nat.le_of_ble_eq_true rfl⟩ (fun r u H locs hw hP hD hS => ?_)
  obtain ⟨C2, B2, Y2, x20, x21, y20, y21⟩ := u
  have hP : va_P (dC, dI) cls2 (MW qm d (nI n) (nF va) (nF tr) ++ XW q d (nI n) (nF tr) (nF va) (nI 0) C2 B2 Y2 x20 x21 y20 y21) H := hP
  have hD : va_D (fun q : Nat => s.heap.size ≤ q) (MW qm d (nI n) (nF va) (nF tr) ++ XW q d (nI n) (nF tr) (nF va) (nI 0) C2 B2 Y2 x20 x21 y20 y21) := hD
  refine lv_aload_n hx hb dL_law_297 rfl (lv_at hl 2 rfl) ?_
  refine lcall_i (wc := MW qm d (nI n) (nF va) (nF tr)) (wr := XW q d (nI n) (nF tr) (nF va) (nI 0) C2 B2 Y2 x20 x21 y20 y21) (q0 := 0) (ci := 1) (As := []) (rest := [.int r]) hx hb hml hown htA hK hA hP hD hS hl.1 [0, 1, 2] [3, 4, 5, 6, 7, 8] rfl rfl (by decide) (by decide) (by decide) (hP.sub [0, 1, 2] rfl) (mM_sortingForced l dC dI d qm _ n tr va hn hva htr) (cwV 0 htA (lw_V q244 q245 q246 q20 q247) rfl rfl rfl (by decide +kernel) ⟨Nat.le_of_ble_eq_true rfl, Nat.le_of_ble_eq_true rfl⟩) rfl rfl rfl rfl (Nat.le_of_ble_eq_true rfl) dL_law_298 ⟨Nat.le_of_ble_eq_true rfl, Nat.le_of_ble_eq_true rfl⟩ (fun r2 u H locs hw2 hP hD hS => ?_)
  have hP : va_P (dC, dI) cls2 (XW q d (nI n) (nF tr) (nF va) (nI 0) C2 B2 Y2 x20 x21 y20 y21 ++ MW qm d (nI n) (nF va) (nF tr)) H := hP
  have hD : va_D (fun q : Nat => s.heap.size ≤ q) (XW q d (nI n) (nF tr) (nF va) (nI 0) C2 B2 Y2 x20 x21 y20 y21 ++ MW qm d (nI n) (nF va) (nF tr)) := hD
  subst hw
  subst hw2
  refine lv_icmp_eq (tgt := 388) hx hb dL_law_301 (by decide) (fun hc => ?_) (fun hc => ?_)
  · exact kk _ _ _ _ _ _ _ _ _ _ _ hok _ _ _ hP hD hS hl
  · exact absurd rfl hc
set_option maxHeartbeats 4000000 in
set_option maxRecDepth 100000 in
theorem law_c7 {p : Program} {l : Launch} {e : Env} {s : State} {m : MethodId} {below : List Frame} {meth : Method} {c : Code} {b L : Nat} {xs : Nat → Int32} {dC : Nat → ClassId} {dI : Nat → Nat → Nat} {d : ClassId} {q qm : Nat → Nat} (C0 : lw_At p s m meth c b L xs) (hK : va_K (dC, dI) cls2 [(d, .int)] s) (i : Nat) (hi : i + 5 ≤ L) (hL : L ≤ 320) (n : Nat) (tr va : Nat → Nat) (K : Int32) (C B Y : Nat → Int32) (x0 x1 y0 y1 : Int32) (hok : ph_ok n tr va) (kk : ∀ (n : Nat) (tr va : Nat → Nat) (K : Int32) (C B Y : Nat → Int32) (x0 x1 y0 y1 : Int32), ph_ok n tr va → ∀ (H : Heap) (locs : List Loc) (ls : Array Slot), va_P (dC, dI) cls2 (XW q d (nI n) (nF tr) (nF va) K C B Y x0 x1 y0 y1 ++ MW qm d (nI n) (nF va) (nF tr)) H → va_D (fun q : Nat => s.heap.size ≤ q) (XW q d (nI n) (nF tr) (nF va) K C B Y x0 x1 y0 y1 ++ MW qm d (nI n) (nF va) (nF tr)) → va_S (fun q : Nat => s.heap.size ≤ q) s.heap H locs → lv_has ls 4 [(0, .ref b), (1, .ref (q 0)), (2, .ref (qm 0)), (3, .int (nI i))] → W p l e room_1 s m #[Value.ref b] below meth c H locs 9 1038 (lw_Z below #[Value.ref b] s) (F0 m 388 ls [])) : ∀ (H : Heap) (locs : List Loc) (ls : Array Slot), va_P (dC, dI) cls2 (XW q d (nI n) (nF tr) (nF va) K C B Y x0 x1 y0 y1 ++ MW qm d (nI n) (nF va) (nF tr)) H → va_D (fun q : Nat => s.heap.size ≤ q) (XW q d (nI n) (nF tr) (nF va) K C B Y x0 x1 y0 y1 ++ MW qm d (nI n) (nF va) (nF tr)) → va_S (fun q : Nat => s.heap.size ≤ q) s.heap H locs → lv_has ls 4 [(0, .ref b), (1, .ref (q 0)), (2, .ref (qm 0)), (3, .int (nI i))] → W p l e room_1 s m #[Value.ref b] below meth c H locs 9 1038 (lw_Z below #[Value.ref b] s) (F0 m 257 ls []) := by
  intro H locs ls hP hD hS hl
  obtain ⟨hx, hb, hr, hml, hown, hts, hX, hbl, hlocks, hgv⟩ := C0
  have htA : ∀ w ∈ lw_all, w.before #[Value.ref b] s = true := fun w h => hts w (lw_all_tbl h)
  have hA : ∀ q : Nat, s.heap.size ≤ q → (fun q : Nat => s.heap.size ≤ q) q := fun _ h => h
  have hbA : ¬ (fun q : Nat => s.heap.size ≤ q) b := Nat.not_le.mpr hbl
  obtain ⟨hn, htr, hva⟩ := id hok
  refine lv_aload_n hx hb dL_law_257 rfl (lv_at hl 1 rfl) ?_
  refine lv_aload_n hx hb dL_law_258 rfl (lv_at hl 0 rfl) ?_
  refine lv_iload_n hx hb dL_law_259 rfl (lv_at hl 3 rfl) ?_
  refine lv_iconst (v := nI 1) hx hb dL_law_260 (by decide +kernel) ?_
  refine xr_add hx hb dL_law_261 ?_
  refine xr_sld hx hb hX hbl hbA hS (i := i + 1) (by omega) (by omega) dL_law_262 ?_
  refine lcall_i (wc := XW q d (nI n) (nF tr) (nF va) K C B Y x0 x1 y0 y1) (wr := MW qm d (nI n) (nF va) (nF tr)) (q0 := 0) (ci := 0) (As := [.int (xs (i + 1))]) (rest := []) hx hb hml hown htA hK hA hP hD hS hl.1 [0, 1, 2, 3, 4, 5] [6, 7, 8] rfl rfl (by decide) (by decide) (by decide) (hP.sub [0, 1, 2, 3, 4, 5] rfl) (mX_costOf l dC dI d q _ n tr va K C B Y x0 x1 y0 y1 (xs (i + 1)) hn hva htr) (cwV 1 htA (lw_V q142 q143 q144 q19 q145) rfl rfl rfl (by decide +kernel) ⟨Nat.le_of_ble_eq_true rfl, Nat.le_of_ble_eq_true rfl⟩) rfl rfl rfl rfl (Nat.le_of_ble_eq_true rfl) dL_law_263 ⟨Nat.le_of_ble_eq_true rfl, Nat.le_of_ble_eq_true rfl⟩ (fun r u H locs hw hP hD hS => ?_)
  obtain ⟨x20, x21, y20, y21⟩ := u
  have hP : va_P (dC, dI) cls2 (MW qm d (nI n) (nF va) (nF tr) ++ XW q d (nI n) (nF tr) (nF va) K C B Y x20 x21 y20 y21) H := hP
  have hD : va_D (fun q : Nat => s.heap.size ≤ q) (MW qm d (nI n) (nF va) (nF tr) ++ XW q d (nI n) (nF tr) (nF va) K C B Y x20 x21 y20 y21) := hD
  refine lv_aload_n hx hb dL_law_266 rfl (lv_at hl 2 rfl) ?_
  refine lv_aload_n hx hb dL_law_267 rfl (lv_at hl 0 rfl) ?_
  refine lv_iload_n hx hb dL_law_268 rfl (lv_at hl 3 rfl) ?_
  refine lv_iconst (v := nI 1) hx hb dL_law_269 (by decide +kernel) ?_
  refine xr_add hx hb dL_law_270 ?_
  refine xr_sld hx hb hX hbl hbA hS (i := i + 1) (by omega) (by omega) dL_law_271 ?_
  refine lcall_i (wc := MW qm d (nI n) (nF va) (nF tr)) (wr := XW q d (nI n) (nF tr) (nF va) K C B Y x20 x21 y20 y21) (q0 := 0) (ci := 1) (As := [.int (xs (i + 1))]) (rest := [.int r]) hx hb hml hown htA hK hA hP hD hS hl.1 [0, 1, 2] [3, 4, 5, 6, 7, 8] rfl rfl (by decide) (by decide) (by decide) (hP.sub [0, 1, 2] rfl) (mM_costOf l dC dI d qm _ n tr va (xs (i + 1)) hn hva htr) (cwV 1 htA (lw_V q236 q237 q238 q20 q239) rfl rfl rfl (by decide +kernel) ⟨Nat.le_of_ble_eq_true rfl, Nat.le_of_ble_eq_true rfl⟩) rfl rfl rfl rfl (Nat.le_of_ble_eq_true rfl) dL_law_272 ⟨Nat.le_of_ble_eq_true rfl, Nat.le_of_ble_eq_true rfl⟩ (fun r2 u H locs hw2 hP hD hS => ?_)
  have hP : va_P (dC, dI) cls2 (XW q d (nI n) (nF tr) (nF va) K C B Y x20 x21 y20 y21 ++ MW qm d (nI n) (nF va) (nF tr)) H := hP
  have hD : va_D (fun q : Nat => s.heap.size ≤ q) (XW q d (nI n) (nF tr) (nF va) K C B Y x20 x21 y20 y21 ++ MW qm d (nI n) (nF va) (nF tr)) := hD
  subst hw
  subst hw2
  refine lv_icmp_eq (tgt := 388) hx hb dL_law_275 (by decide) (fun hc => ?_) (fun hc => ?_)
  · exact kk _ _ _ _ _ _ _ _ _ _ _ hok _ _ _ hP hD hS hl
  · exact absurd rfl hc
set_option maxHeartbeats 4000000 in
set_option maxRecDepth 100000 in
theorem law_c10 {p : Program} {l : Launch} {e : Env} {s : State} {m : MethodId} {below : List Frame} {meth : Method} {c : Code} {b L : Nat} {xs : Nat → Int32} {dC : Nat → ClassId} {dI : Nat → Nat → Nat} {d : ClassId} {q qm : Nat → Nat} (C0 : lw_At p s m meth c b L xs) (hK : va_K (dC, dI) cls2 [(d, .int)] s) (i : Nat) (hi : i + 5 ≤ L) (hL : L ≤ 320) (n : Nat) (tr va : Nat → Nat) (K : Int32) (C B Y : Nat → Int32) (x0 x1 y0 y1 : Int32) (hok : ph_ok n tr va) (kk : ∀ (n : Nat) (tr va : Nat → Nat) (K : Int32) (C B Y : Nat → Int32) (x0 x1 y0 y1 : Int32), ph_ok n tr va → ∀ (H : Heap) (locs : List Loc) (ls : Array Slot), va_P (dC, dI) cls2 (XW q d (nI n) (nF tr) (nF va) K C B Y x0 x1 y0 y1 ++ MW qm d (nI n) (nF va) (nF tr)) H → va_D (fun q : Nat => s.heap.size ≤ q) (XW q d (nI n) (nF tr) (nF va) K C B Y x0 x1 y0 y1 ++ MW qm d (nI n) (nF va) (nF tr)) → va_S (fun q : Nat => s.heap.size ≤ q) s.heap H locs → lv_has ls 4 [(0, .ref b), (1, .ref (q 0)), (2, .ref (qm 0)), (3, .int (nI i))] → W p l e room_1 s m #[Value.ref b] below meth c H locs 9 1038 (lw_Z below #[Value.ref b] s) (F0 m 388 ls [])) : ∀ (H : Heap) (locs : List Loc) (ls : Array Slot), va_P (dC, dI) cls2 (XW q d (nI n) (nF tr) (nF va) K C B Y x0 x1 y0 y1 ++ MW qm d (nI n) (nF va) (nF tr)) H → va_D (fun q : Nat => s.heap.size ≤ q) (XW q d (nI n) (nF tr) (nF va) K C B Y x0 x1 y0 y1 ++ MW qm d (nI n) (nF va) (nF tr)) → va_S (fun q : Nat => s.heap.size ≤ q) s.heap H locs → lv_has ls 4 [(0, .ref b), (1, .ref (q 0)), (2, .ref (qm 0)), (3, .int (nI i))] → W p l e room_1 s m #[Value.ref b] below meth c H locs 9 1038 (lw_Z below #[Value.ref b] s) (F0 m 306 ls []) := by
  intro H locs ls hP hD hS hl
  obtain ⟨hx, hb, hr, hml, hown, hts, hX, hbl, hlocks, hgv⟩ := C0
  have htA : ∀ w ∈ lw_all, w.before #[Value.ref b] s = true := fun w h => hts w (lw_all_tbl h)
  have hA : ∀ q : Nat, s.heap.size ≤ q → (fun q : Nat => s.heap.size ≤ q) q := fun _ h => h
  have hbA : ¬ (fun q : Nat => s.heap.size ≤ q) b := Nat.not_le.mpr hbl
  obtain ⟨hn, htr, hva⟩ := id hok
  refine lv_aload_n hx hb dL_law_306 rfl (lv_at hl 1 rfl) ?_
  refine lv_aload_n hx hb dL_law_307 rfl (lv_at hl 0 rfl) ?_
  refine lv_iload_n hx hb dL_law_308 rfl (lv_at hl 3 rfl) ?_
  refine lv_iconst (v := nI 1) hx hb dL_law_309 (by decide +kernel) ?_
  refine xr_add hx hb dL_law_310 ?_
  refine xr_sld hx hb hX hbl hbA hS (i := i + 1) (by omega) (by omega) dL_law_311 ?_
  refine lv_aload_n hx hb dL_law_312 rfl (lv_at hl 0 rfl) ?_
  refine lv_iload_n hx hb dL_law_313 rfl (lv_at hl 3 rfl) ?_
  refine lv_iconst (v := nI 2) hx hb dL_law_314 (by decide +kernel) ?_
  refine xr_add hx hb dL_law_315 ?_
  refine xr_sld hx hb hX hbl hbA hS (i := i + 2) (by omega) (by omega) dL_law_316 ?_
  refine lv_aload_n hx hb dL_law_317 rfl (lv_at hl 0 rfl) ?_
  refine lv_iload_n hx hb dL_law_318 rfl (lv_at hl 3 rfl) ?_
  refine lv_iconst (v := nI 3) hx hb dL_law_319 (by decide +kernel) ?_
  refine xr_add hx hb dL_law_320 ?_
  refine xr_sld hx hb hX hbl hbA hS (i := i + 3) (by omega) (by omega) dL_law_321 ?_
  refine lv_if_eq (tgt := 329) hx hb dL_law_322 (by decide) (fun h0 => ?_) (fun h0 => ?_)
  · refine lv_iconst (v := nI 0) hx hb dL_law_329 (by decide +kernel) ?_
    refine lcall_i (wc := XW q d (nI n) (nF tr) (nF va) K C B Y x0 x1 y0 y1) (wr := MW qm d (nI n) (nF va) (nF tr)) (q0 := 0) (ci := 0) (As := [.int (xs (i + 1)), .int (xs (i + 2)), .int (nI false.toNat)]) (rest := []) hx hb hml hown htA hK hA hP hD hS hl.1 [0, 1, 2, 3, 4, 5] [6, 7, 8] rfl rfl (by decide) (by decide) (by decide) (hP.sub [0, 1, 2, 3, 4, 5] rfl) (mX_leastWith l dC dI d q _ n tr va K C B Y x0 x1 y0 y1 (xs (i + 1)) (xs (i + 2)) false hn hva htr) (cwV 3 htA (lw_V q154 q155 q156 q19 q157) rfl rfl rfl (by decide +kernel) ⟨Nat.le_of_ble_eq_true rfl, Nat.le_of_ble_eq_true rfl⟩) rfl rfl rfl rfl (Nat.le_of_ble_eq_true rfl) dL_law_330 ⟨Nat.le_of_ble_eq_true rfl, Nat.le_of_ble_eq_true rfl⟩ (fun r u H locs hw hP hD hS => ?_)
    obtain ⟨K2, C2, B2, Y2, x20, x21, y20, y21⟩ := u
    have hP : va_P (dC, dI) cls2 (MW qm d (nI n) (nF va) (nF tr) ++ XW q d (nI n) (nF tr) (nF va) K2 C2 B2 Y2 x20 x21 y20 y21) H := hP
    have hD : va_D (fun q : Nat => s.heap.size ≤ q) (MW qm d (nI n) (nF va) (nF tr) ++ XW q d (nI n) (nF tr) (nF va) K2 C2 B2 Y2 x20 x21 y20 y21) := hD
    refine lv_aload_n hx hb dL_law_333 rfl (lv_at hl 2 rfl) ?_
    refine lv_aload_n hx hb dL_law_334 rfl (lv_at hl 0 rfl) ?_
    refine lv_iload_n hx hb dL_law_335 rfl (lv_at hl 3 rfl) ?_
    refine lv_iconst (v := nI 1) hx hb dL_law_336 (by decide +kernel) ?_
    refine xr_add hx hb dL_law_337 ?_
    refine xr_sld hx hb hX hbl hbA hS (i := i + 1) (by omega) (by omega) dL_law_338 ?_
    refine lv_aload_n hx hb dL_law_339 rfl (lv_at hl 0 rfl) ?_
    refine lv_iload_n hx hb dL_law_340 rfl (lv_at hl 3 rfl) ?_
    refine lv_iconst (v := nI 2) hx hb dL_law_341 (by decide +kernel) ?_
    refine xr_add hx hb dL_law_342 ?_
    refine xr_sld hx hb hX hbl hbA hS (i := i + 2) (by omega) (by omega) dL_law_343 ?_
    refine lv_aload_n hx hb dL_law_344 rfl (lv_at hl 0 rfl) ?_
    refine lv_iload_n hx hb dL_law_345 rfl (lv_at hl 3 rfl) ?_
    refine lv_iconst (v := nI 3) hx hb dL_law_346 (by decide +kernel) ?_
    refine xr_add hx hb dL_law_347 ?_
    refine xr_sld hx hb hX hbl hbA hS (i := i + 3) (by omega) (by omega) dL_law_348 ?_
    refine lv_if_eq (tgt := 356) hx hb dL_law_349 (by decide) (fun h1 => ?_) (fun h1 => ?_)
    · refine lv_iconst (v := nI 0) hx hb dL_law_356 (by decide +kernel) ?_
      refine lcall_i (wc := MW qm d (nI n) (nF va) (nF tr)) (wr := XW q d (nI n) (nF tr) (nF va) K2 C2 B2 Y2 x20 x21 y20 y21) (q0 := 0) (ci := 1) (As := [.int (xs (i + 1)), .int (xs (i + 2)), .int (nI false.toNat)]) (rest := [.int r]) hx hb hml hown htA hK hA hP hD hS hl.1 [0, 1, 2] [3, 4, 5, 6, 7, 8] rfl rfl (by decide) (by decide) (by decide) (hP.sub [0, 1, 2] rfl) (mM_leastWith l dC dI d qm _ n tr va (xs (i + 1)) (xs (i + 2)) false hn hva htr) (cwV 3 htA (lw_V q248 q249 q250 q20 q251) rfl rfl rfl (by decide +kernel) ⟨Nat.le_of_ble_eq_true rfl, Nat.le_of_ble_eq_true rfl⟩) rfl rfl rfl rfl (Nat.le_of_ble_eq_true rfl) dL_law_357 ⟨Nat.le_of_ble_eq_true rfl, Nat.le_of_ble_eq_true rfl⟩ (fun r2 u H locs hw2 hP hD hS => ?_)
      have hP : va_P (dC, dI) cls2 (XW q d (nI n) (nF tr) (nF va) K2 C2 B2 Y2 x20 x21 y20 y21 ++ MW qm d (nI n) (nF va) (nF tr)) H := hP
      have hD : va_D (fun q : Nat => s.heap.size ≤ q) (XW q d (nI n) (nF tr) (nF va) K2 C2 B2 Y2 x20 x21 y20 y21 ++ MW qm d (nI n) (nF va) (nF tr)) := hD
      subst hw
      subst hw2
      refine lv_icmp_eq (tgt := 388) hx hb dL_law_360 (by decide) (fun hc => ?_) (fun hc => ?_)
      · exact kk _ _ _ _ _ _ _ _ _ _ _ hok _ _ _ hP hD hS hl
      · exact absurd rfl hc
    · exact absurd h0 h1
  · refine lv_iconst (v := nI 1) hx hb dL_law_325 (by decide +kernel) ?_
    refine lv_goto (tgt := 330) hx hb dL_law_326 (by decide) ?_
    refine lcall_i (wc := XW q d (nI n) (nF tr) (nF va) K C B Y x0 x1 y0 y1) (wr := MW qm d (nI n) (nF va) (nF tr)) (q0 := 0) (ci := 0) (As := [.int (xs (i + 1)), .int (xs (i + 2)), .int (nI true.toNat)]) (rest := []) hx hb hml hown htA hK hA hP hD hS hl.1 [0, 1, 2, 3, 4, 5] [6, 7, 8] rfl rfl (by decide) (by decide) (by decide) (hP.sub [0, 1, 2, 3, 4, 5] rfl) (mX_leastWith l dC dI d q _ n tr va K C B Y x0 x1 y0 y1 (xs (i + 1)) (xs (i + 2)) true hn hva htr) (cwV 3 htA (lw_V q154 q155 q156 q19 q157) rfl rfl rfl (by decide +kernel) ⟨Nat.le_of_ble_eq_true rfl, Nat.le_of_ble_eq_true rfl⟩) rfl rfl rfl rfl (Nat.le_of_ble_eq_true rfl) dL_law_330 ⟨Nat.le_of_ble_eq_true rfl, Nat.le_of_ble_eq_true rfl⟩ (fun r u H locs hw hP hD hS => ?_)
    obtain ⟨K2, C2, B2, Y2, x20, x21, y20, y21⟩ := u
    have hP : va_P (dC, dI) cls2 (MW qm d (nI n) (nF va) (nF tr) ++ XW q d (nI n) (nF tr) (nF va) K2 C2 B2 Y2 x20 x21 y20 y21) H := hP
    have hD : va_D (fun q : Nat => s.heap.size ≤ q) (MW qm d (nI n) (nF va) (nF tr) ++ XW q d (nI n) (nF tr) (nF va) K2 C2 B2 Y2 x20 x21 y20 y21) := hD
    refine lv_aload_n hx hb dL_law_333 rfl (lv_at hl 2 rfl) ?_
    refine lv_aload_n hx hb dL_law_334 rfl (lv_at hl 0 rfl) ?_
    refine lv_iload_n hx hb dL_law_335 rfl (lv_at hl 3 rfl) ?_
    refine lv_iconst (v := nI 1) hx hb dL_law_336 (by decide +kernel) ?_
    refine xr_add hx hb dL_law_337 ?_
    refine xr_sld hx hb hX hbl hbA hS (i := i + 1) (by omega) (by omega) dL_law_338 ?_
    refine lv_aload_n hx hb dL_law_339 rfl (lv_at hl 0 rfl) ?_
    refine lv_iload_n hx hb dL_law_340 rfl (lv_at hl 3 rfl) ?_
    refine lv_iconst (v := nI 2) hx hb dL_law_341 (by decide +kernel) ?_
    refine xr_add hx hb dL_law_342 ?_
    refine xr_sld hx hb hX hbl hbA hS (i := i + 2) (by omega) (by omega) dL_law_343 ?_
    refine lv_aload_n hx hb dL_law_344 rfl (lv_at hl 0 rfl) ?_
    refine lv_iload_n hx hb dL_law_345 rfl (lv_at hl 3 rfl) ?_
    refine lv_iconst (v := nI 3) hx hb dL_law_346 (by decide +kernel) ?_
    refine xr_add hx hb dL_law_347 ?_
    refine xr_sld hx hb hX hbl hbA hS (i := i + 3) (by omega) (by omega) dL_law_348 ?_
    refine lv_if_eq (tgt := 356) hx hb dL_law_349 (by decide) (fun h1 => ?_) (fun h1 => ?_)
    · exact absurd h1 h0
    · refine lv_iconst (v := nI 1) hx hb dL_law_352 (by decide +kernel) ?_
      refine lv_goto (tgt := 357) hx hb dL_law_353 (by decide) ?_
      refine lcall_i (wc := MW qm d (nI n) (nF va) (nF tr)) (wr := XW q d (nI n) (nF tr) (nF va) K2 C2 B2 Y2 x20 x21 y20 y21) (q0 := 0) (ci := 1) (As := [.int (xs (i + 1)), .int (xs (i + 2)), .int (nI true.toNat)]) (rest := [.int r]) hx hb hml hown htA hK hA hP hD hS hl.1 [0, 1, 2] [3, 4, 5, 6, 7, 8] rfl rfl (by decide) (by decide) (by decide) (hP.sub [0, 1, 2] rfl) (mM_leastWith l dC dI d qm _ n tr va (xs (i + 1)) (xs (i + 2)) true hn hva htr) (cwV 3 htA (lw_V q248 q249 q250 q20 q251) rfl rfl rfl (by decide +kernel) ⟨Nat.le_of_ble_eq_true rfl, Nat.le_of_ble_eq_true rfl⟩) rfl rfl rfl rfl (Nat.le_of_ble_eq_true rfl) dL_law_357 ⟨Nat.le_of_ble_eq_true rfl, Nat.le_of_ble_eq_true rfl⟩ (fun r2 u H locs hw2 hP hD hS => ?_)
      have hP : va_P (dC, dI) cls2 (XW q d (nI n) (nF tr) (nF va) K2 C2 B2 Y2 x20 x21 y20 y21 ++ MW qm d (nI n) (nF va) (nF tr)) H := hP
      have hD : va_D (fun q : Nat => s.heap.size ≤ q) (XW q d (nI n) (nF tr) (nF va) K2 C2 B2 Y2 x20 x21 y20 y21 ++ MW qm d (nI n) (nF va) (nF tr)) := hD
      subst hw
      subst hw2
      refine lv_icmp_eq (tgt := 388) hx hb dL_law_360 (by decide) (fun hc => ?_) (fun hc => ?_)
      · exact kk _ _ _ _ _ _ _ _ _ _ _ hok _ _ _ hP hD hS hl
      · exact absurd rfl hc
set_option maxHeartbeats 4000000 in
set_option maxRecDepth 100000 in
theorem law_c11 {p : Program} {l : Launch} {e : Env} {s : State} {m : MethodId} {below : List Frame} {meth : Method} {c : Code} {b L : Nat} {xs : Nat → Int32} {dC : Nat → ClassId} {dI : Nat → Nat → Nat} {d : ClassId} {q qm : Nat → Nat} (C0 : lw_At p s m meth c b L xs) (hK : va_K (dC, dI) cls2 [(d, .int)] s) (i : Nat) (hi : i + 5 ≤ L) (hL : L ≤ 320) (n : Nat) (tr va : Nat → Nat) (K : Int32) (C B Y : Nat → Int32) (x0 x1 y0 y1 : Int32) (hok : ph_ok n tr va) (kk : ∀ (n : Nat) (tr va : Nat → Nat) (K : Int32) (C B Y : Nat → Int32) (x0 x1 y0 y1 : Int32), ph_ok n tr va → ∀ (H : Heap) (locs : List Loc) (ls : Array Slot), va_P (dC, dI) cls2 (XW q d (nI n) (nF tr) (nF va) K C B Y x0 x1 y0 y1 ++ MW qm d (nI n) (nF va) (nF tr)) H → va_D (fun q : Nat => s.heap.size ≤ q) (XW q d (nI n) (nF tr) (nF va) K C B Y x0 x1 y0 y1 ++ MW qm d (nI n) (nF va) (nF tr)) → va_S (fun q : Nat => s.heap.size ≤ q) s.heap H locs → lv_has ls 4 [(0, .ref b), (1, .ref (q 0)), (2, .ref (qm 0)), (3, .int (nI i))] → W p l e room_1 s m #[Value.ref b] below meth c H locs 9 1038 (lw_Z below #[Value.ref b] s) (F0 m 388 ls [])) : ∀ (H : Heap) (locs : List Loc) (ls : Array Slot), va_P (dC, dI) cls2 (XW q d (nI n) (nF tr) (nF va) K C B Y x0 x1 y0 y1 ++ MW qm d (nI n) (nF va) (nF tr)) H → va_D (fun q : Nat => s.heap.size ≤ q) (XW q d (nI n) (nF tr) (nF va) K C B Y x0 x1 y0 y1 ++ MW qm d (nI n) (nF va) (nF tr)) → va_S (fun q : Nat => s.heap.size ≤ q) s.heap H locs → lv_has ls 4 [(0, .ref b), (1, .ref (q 0)), (2, .ref (qm 0)), (3, .int (nI i))] → W p l e room_1 s m #[Value.ref b] below meth c H locs 9 1038 (lw_Z below #[Value.ref b] s) (F0 m 365 ls []) := by
  intro H locs ls hP hD hS hl
  obtain ⟨hx, hb, hr, hml, hown, hts, hX, hbl, hlocks, hgv⟩ := C0
  have htA : ∀ w ∈ lw_all, w.before #[Value.ref b] s = true := fun w h => hts w (lw_all_tbl h)
  have hA : ∀ q : Nat, s.heap.size ≤ q → (fun q : Nat => s.heap.size ≤ q) q := fun _ h => h
  have hbA : ¬ (fun q : Nat => s.heap.size ≤ q) b := Nat.not_le.mpr hbl
  obtain ⟨hn, htr, hva⟩ := id hok
  refine lv_aload_n hx hb dL_law_365 rfl (lv_at hl 1 rfl) ?_
  refine lv_aload_n hx hb dL_law_366 rfl (lv_at hl 0 rfl) ?_
  refine lv_iload_n hx hb dL_law_367 rfl (lv_at hl 3 rfl) ?_
  refine lv_iconst (v := nI 1) hx hb dL_law_368 (by decide +kernel) ?_
  refine xr_add hx hb dL_law_369 ?_
  refine xr_sld hx hb hX hbl hbA hS (i := i + 1) (by omega) (by omega) dL_law_370 ?_
  refine lcall_i (wc := XW q d (nI n) (nF tr) (nF va) K C B Y x0 x1 y0 y1) (wr := MW qm d (nI n) (nF va) (nF tr)) (q0 := 0) (ci := 0) (As := [.int (xs (i + 1))]) (rest := []) hx hb hml hown htA hK hA hP hD hS hl.1 [0, 1, 2, 3, 4, 5] [6, 7, 8] rfl rfl (by decide) (by decide) (by decide) (hP.sub [0, 1, 2, 3, 4, 5] rfl) (mX_cover l dC dI d q _ n tr (nF va) K C B Y x0 x1 y0 y1 (xs (i + 1)) hn htr) (cwV 1 htA (lw_V q158 q159 q160 q19 q161) rfl rfl rfl (by decide +kernel) ⟨Nat.le_of_ble_eq_true rfl, Nat.le_of_ble_eq_true rfl⟩) rfl rfl rfl rfl (Nat.le_of_ble_eq_true rfl) dL_law_371 ⟨Nat.le_of_ble_eq_true rfl, Nat.le_of_ble_eq_true rfl⟩ (fun r u H locs hw hP hD hS => ?_)
  have hP : va_P (dC, dI) cls2 (MW qm d (nI n) (nF va) (nF tr) ++ XW q d (nI n) (nF tr) (nF va) K C B Y x0 x1 y0 y1) H := hP
  have hD : va_D (fun q : Nat => s.heap.size ≤ q) (MW qm d (nI n) (nF va) (nF tr) ++ XW q d (nI n) (nF tr) (nF va) K C B Y x0 x1 y0 y1) := hD
  refine lv_aload_n hx hb dL_law_374 rfl (lv_at hl 2 rfl) ?_
  refine lv_aload_n hx hb dL_law_375 rfl (lv_at hl 0 rfl) ?_
  refine lv_iload_n hx hb dL_law_376 rfl (lv_at hl 3 rfl) ?_
  refine lv_iconst (v := nI 1) hx hb dL_law_377 (by decide +kernel) ?_
  refine xr_add hx hb dL_law_378 ?_
  refine xr_sld hx hb hX hbl hbA hS (i := i + 1) (by omega) (by omega) dL_law_379 ?_
  refine lcall_i (wc := MW qm d (nI n) (nF va) (nF tr)) (wr := XW q d (nI n) (nF tr) (nF va) K C B Y x0 x1 y0 y1) (q0 := 0) (ci := 1) (As := [.int (xs (i + 1))]) (rest := [.int r]) hx hb hml hown htA hK hA hP hD hS hl.1 [0, 1, 2] [3, 4, 5, 6, 7, 8] rfl rfl (by decide) (by decide) (by decide) (hP.sub [0, 1, 2] rfl) (mM_cover l dC dI d qm _ n tr (nF va) (xs (i + 1)) hn htr) (cwV 1 htA (lw_V q252 q253 q254 q20 q255) rfl rfl rfl (by decide +kernel) ⟨Nat.le_of_ble_eq_true rfl, Nat.le_of_ble_eq_true rfl⟩) rfl rfl rfl rfl (Nat.le_of_ble_eq_true rfl) dL_law_380 ⟨Nat.le_of_ble_eq_true rfl, Nat.le_of_ble_eq_true rfl⟩ (fun r2 u H locs hw2 hP hD hS => ?_)
  have hP : va_P (dC, dI) cls2 (XW q d (nI n) (nF tr) (nF va) K C B Y x0 x1 y0 y1 ++ MW qm d (nI n) (nF va) (nF tr)) H := hP
  have hD : va_D (fun q : Nat => s.heap.size ≤ q) (XW q d (nI n) (nF tr) (nF va) K C B Y x0 x1 y0 y1 ++ MW qm d (nI n) (nF va) (nF tr)) := hD
  subst hw
  subst hw2
  refine lv_icmp_eq (tgt := 388) hx hb dL_law_383 (by decide) (fun hc => ?_) (fun hc => ?_)
  · exact kk _ _ _ _ _ _ _ _ _ _ _ hok _ _ _ hP hD hS hl
  · exact absurd rfl hc
end
section
/-! THE LAW: its loop and its start (printed by gen_law.py) -/
set_option maxRecDepth 100000
set_option maxHeartbeats 4000000 in
set_option maxRecDepth 100000 in
theorem law_loop {p : Program} {l : Launch} {e : Env} {s : State} {m : MethodId} {below : List Frame} {meth : Method} {c : Code} {b L : Nat} {xs : Nat → Int32} {dC : Nat → ClassId} {dI : Nat → Nat → Nat} {d : ClassId} {q qm : Nat → Nat} (hL : L ≤ 320) (C0 : lw_At p s m meth c b L xs) (hK : va_K (dC, dI) cls2 [(d, .int)] s) : ∀ (k i : Nat) (n : Nat) (tr va : Nat → Nat) (K : Int32) (C B Y : Nat → Int32) (x0 x1 y0 y1 : Int32), i ≤ L → L < i + k → ph_ok n tr va → ∀ (H : Heap) (locs : List Loc) (ls : Array Slot), va_P (dC, dI) cls2 (XW q d (nI n) (nF tr) (nF va) K C B Y x0 x1 y0 y1 ++ MW qm d (nI n) (nF va) (nF tr)) H → va_D (fun q : Nat => s.heap.size ≤ q) (XW q d (nI n) (nF tr) (nF va) K C B Y x0 x1 y0 y1 ++ MW qm d (nI n) (nF va) (nF tr)) → va_S (fun q : Nat => s.heap.size ≤ q) s.heap H locs → lv_has ls 4 [(0, .ref b), (1, .ref (q 0)), (2, .ref (qm 0)), (3, .int (nI i))] → W p l e room_1 s m #[Value.ref b] below meth c H locs 9 1038 (lw_Z below #[Value.ref b] s) (F0 m 18 ls []) := by
  obtain ⟨hx, hb, hr, hml, hown, hts, hX, hbl, hlocks, hgv⟩ := id C0
  have hA : ∀ q : Nat, s.heap.size ≤ q → (fun q : Nat => s.heap.size ≤ q) q := fun _ h => h
  have hbA : ¬ (fun q : Nat => s.heap.size ≤ q) b := Nat.not_le.mpr hbl
  intro k
  induction k with
  | zero =>
    intro i n tr va K C B Y x0 x1 y0 y1 h1 h2
    exact absurd h2 (by omega)
  | succ k ih =>
    intro i n tr va K C B Y x0 x1 y0 y1 hi hk hok H locs ls hP hD hS hl
    refine lv_iload_n hx hb dL_law_18 rfl (lv_at hl 3 rfl) ?_
    refine lv_aload_n hx hb dL_law_19 rfl (lv_at hl 0 rfl) ?_
    refine va_slen hx hb hX hbl hbA hS dL_law_20 ?_
    refine lv_iconst (v := nI 5) hx hb dL_law_21 (by decide +kernel) ?_
    refine lv_isub hx hb dL_law_22 ?_
    refine lv_icmp_gt (tgt := 394) hx hb dL_law_23 (by decide) (fun h => ?_) (fun h => ?_)
    · refine lv_iconst (v := nI 1) hx hb dL_law_394 (by decide +kernel) ?_
      refine va_forget (fun q hq => hS.2.2 q hq) ?_
      refine W.widen (k := 600000) (n := 7290000) (by decide) (by decide) ?_
      exact lw_ret hx hb hr hlocks dL_law_395
    · have hi5 : i + 5 ≤ L := Nat.not_lt.mp (fun z => h ((lw_cmp (by omega) hL).mpr z))
      refine lv_aload_n hx hb dL_law_26 rfl (lv_at hl 0 rfl) ?_
      refine lv_iload_n hx hb dL_law_27 rfl (lv_at hl 3 rfl) ?_
      refine xr_sld hx hb hX hbl hbA hS (i := i) (by omega) (by omega) dL_law_28 ?_
      refine lv_bipush (v := nI 15) hx hb dL_law_29 (by decide +kernel) ?_
      refine lv_iand hx hb dL_law_31 ?_
      obtain ⟨j, hj, ej⟩ := pk_andE (xs i) (m := nI 15) 4 (by decide +kernel)
      rw [ej]
      have tail : ∀ (n : Nat) (tr va : Nat → Nat) (K : Int32) (C B Y : Nat → Int32) (x0 x1 y0 y1 : Int32), ph_ok n tr va → ∀ (H : Heap) (locs : List Loc) (ls : Array Slot), va_P (dC, dI) cls2 (XW q d (nI n) (nF tr) (nF va) K C B Y x0 x1 y0 y1 ++ MW qm d (nI n) (nF va) (nF tr)) H → va_D (fun q : Nat => s.heap.size ≤ q) (XW q d (nI n) (nF tr) (nF va) K C B Y x0 x1 y0 y1 ++ MW qm d (nI n) (nF va) (nF tr)) → va_S (fun q : Nat => s.heap.size ≤ q) s.heap H locs → lv_has ls 4 [(0, .ref b), (1, .ref (q 0)), (2, .ref (qm 0)), (3, .int (nI i))] → W p l e room_1 s m #[Value.ref b] below meth c H locs 9 1038 (lw_Z below #[Value.ref b] s) (F0 m 388 ls []) := by
        intro n tr va K C B Y x0 x1 y0 y1 hok H locs ls hP hD hS hl
        refine lv_iinc (v := nI (i + 5)) (lv' := [(3, .int (nI (i + 5))), (0, .ref b), (1, .ref (q 0)), (2, .ref (qm 0))]) hx hb dL_law_388 hl (k := 3) rfl (nI_add _ 5) (by decide) rfl (fun ls hl => ?_)
        refine lv_goto (tgt := 18) hx hb dL_law_391 (by decide) ?_
        exact ih (i + 5) n tr va K C B Y x0 x1 y0 y1 hi5 (by omega) hok _ _ _ hP hD hS (lv_sub hl [1, 2, 3, 0] rfl)
      have hj16 : j < 16 := hj
      rcases (show j = 0 ∨ j = 1 ∨ j = 2 ∨ j = 3 ∨ j = 4 ∨ j = 5 ∨ j = 6 ∨ j = 7 ∨ j = 8 ∨ j = 9 ∨ j = 10 ∨ j = 11 ∨ (12 ≤ j) by omega) with rfl | rfl | rfl | rfl | rfl | rfl | rfl | rfl | rfl | rfl | rfl | rfl | hj12
      · refine lv_tableIn (off := 64) (tgt := 96) hx hb dL_law_32 (by decide +kernel) (by decide +kernel) (by decide +kernel) (by decide) ?_
        exact law_c0 C0 hK i hi5 hL n tr va K C B Y x0 x1 y0 y1 hok tail _ _ _ hP hD hS hl
      · refine lv_tableIn (off := 77) (tgt := 109) hx hb dL_law_32 (by decide +kernel) (by decide +kernel) (by decide +kernel) (by decide) ?_
        exact law_c1 C0 hK i hi5 hL n tr va K C B Y x0 x1 y0 y1 hok tail _ _ _ hP hD hS hl
      · refine lv_tableIn (off := 130) (tgt := 162) hx hb dL_law_32 (by decide +kernel) (by decide +kernel) (by decide +kernel) (by decide) ?_
        exact law_c2 C0 hK i hi5 hL n tr va K C B Y x0 x1 y0 y1 hok tail _ _ _ hP hD hS hl
      · refine lv_tableIn (off := 173) (tgt := 205) hx hb dL_law_32 (by decide +kernel) (by decide +kernel) (by decide +kernel) (by decide) ?_
        exact law_c3 C0 hK i hi5 hL n tr va K C B Y x0 x1 y0 y1 hok tail _ _ _ hP hD hS hl
      · refine lv_tableIn (off := 186) (tgt := 218) hx hb dL_law_32 (by decide +kernel) (by decide +kernel) (by decide +kernel) (by decide) ?_
        exact law_c4 C0 hK i hi5 hL n tr va K C B Y x0 x1 y0 y1 hok tail _ _ _ hP hD hS hl
      · refine lv_tableIn (off := 199) (tgt := 231) hx hb dL_law_32 (by decide +kernel) (by decide +kernel) (by decide +kernel) (by decide) ?_
        exact law_c5 C0 hK i hi5 hL n tr va K C B Y x0 x1 y0 y1 hok tail _ _ _ hP hD hS hl
      · refine lv_tableIn (off := 212) (tgt := 244) hx hb dL_law_32 (by decide +kernel) (by decide +kernel) (by decide +kernel) (by decide) ?_
        exact law_c6 C0 hK i hi5 hL n tr va K C B Y x0 x1 y0 y1 hok tail _ _ _ hP hD hS hl
      · refine lv_tableIn (off := 225) (tgt := 257) hx hb dL_law_32 (by decide +kernel) (by decide +kernel) (by decide +kernel) (by decide) ?_
        exact law_c7 C0 hK i hi5 hL n tr va K C B Y x0 x1 y0 y1 hok tail _ _ _ hP hD hS hl
      · refine lv_tableIn (off := 248) (tgt := 280) hx hb dL_law_32 (by decide +kernel) (by decide +kernel) (by decide +kernel) (by decide) ?_
        exact law_c8 C0 hK i hi5 hL n tr va K C B Y x0 x1 y0 y1 hok tail _ _ _ hP hD hS hl
      · refine lv_tableIn (off := 261) (tgt := 293) hx hb dL_law_32 (by decide +kernel) (by decide +kernel) (by decide +kernel) (by decide) ?_
        exact law_c9 C0 hK i hi5 hL n tr va K C B Y x0 x1 y0 y1 hok tail _ _ _ hP hD hS hl
      · refine lv_tableIn (off := 274) (tgt := 306) hx hb dL_law_32 (by decide +kernel) (by decide +kernel) (by decide +kernel) (by decide) ?_
        exact law_c10 C0 hK i hi5 hL n tr va K C B Y x0 x1 y0 y1 hok tail _ _ _ hP hD hS hl
      · refine lv_tableIn (off := 333) (tgt := 365) hx hb dL_law_32 (by decide +kernel) (by decide +kernel) (by decide +kernel) (by decide) ?_
        exact law_c11 C0 hK i hi5 hL n tr va K C B Y x0 x1 y0 y1 hok tail _ _ _ hP hD hS hl
      · refine lv_tableOut (tgt := 388) hx hb dL_law_32 (Or.inr (by rw [nI_toInt (by omega)]; omega)) (by decide) ?_
        exact tail n tr va K C B Y x0 x1 y0 y1 hok _ _ _ hP hD hS hl
set_option maxHeartbeats 4000000 in
set_option maxRecDepth 100000 in
theorem whole_start {p : Program} {e : Env} {s : State} {m : MethodId} {below : List Frame} {meth : Method} {c : Code} (l : Launch) {b L : Nat} {xs : Nat → Int32} (hL : L ≤ 320) (C0 : lw_At p s m meth c b L xs) : W p l e room_1 s m #[Value.ref b] below meth c s.heap [] 0 0 (lw_Z below #[Value.ref b] s) (entryFrame m ([Value.ref b] : List Value).toArray 4) := by
  obtain ⟨hx, hb, hr, hml, hown, hts0, hX, hbl, hlocks, hgv⟩ := id C0
  have hts : ∀ w ∈ lw_all, w.before #[Value.ref b] s = true := fun w h => hts0 w (lw_all_tbl h)
  have hA : ∀ q : Nat, s.heap.size ≤ q → (fun q : Nat => s.heap.size ≤ q) q := fun _ h => h
  have hbA : ¬ (fun q : Nat => s.heap.size ≤ q) b := Nat.not_le.mpr hbl
  obtain ⟨c0, iS0, hKn0⟩ := u_known (C := RX0) (T := TX0) (N := 11) (n := 11) hts0 (fun w h => lw_all_tbl (in_X0 w h)) (hts0 _ (lw_all_tbl q22))
  obtain ⟨c1, iS1, hKn1⟩ := u_known (C := RX1) (T := TX1) (N := 3) (n := 3) hts0 (fun w h => lw_all_tbl (in_X1 w h)) (hts0 _ (lw_all_tbl q163))
  obtain ⟨dC, dI, hKc⟩ : ∃ (dC : Nat → ClassId) (dI : Nat → Nat → Nat), ∀ (k : Nat) (q : vw_C), cls2[k]? = some q → u_Kn s q.1 q.2.1 q.2.2 (dC k) (dI k) := by
    refine ⟨fun k => if k = 0 then c0 else c1, fun k => if k = 0 then iS0 else iS1, ?_⟩
    intro k q hq
    match k, hq with
    | 0, hq => cases hq; exact hKn0
    | 1, hq => cases hq; exact hKn1
    | k + 2, hq => simp [cls2] at hq
  have hS : va_S (fun q : Nat => s.heap.size ≤ q) s.heap s.heap [] := va_S.rf
  have hK : va_K (dC, dI) cls2 [] s := ⟨hKc, fun k q h => by simp at h⟩
  have hP : va_P (dC, dI) cls2 [] s.heap := fun k q h => by simp at h
  have hD : va_D (fun q : Nat => s.heap.size ≤ q) [] := ⟨fun i j p q h => by simp at h, fun k q h => by simp at h⟩
  have hl := lv_entry ([.ref b]) (n := 4) (Nat.le_of_ble_eq_true rfl)
  rw [lg_entry_eq]
  generalize (lg_sl ([.ref b]) ++ List.replicate (4 - (lg_sl ([.ref b])).length) Slot.unset).toArray = ls at hl ⊢
  have hl : lv_has ls 4 [(0, .ref b)] := hl
  refine va_new (ci := 0) (fs := [.int 0, .null, .null, .int 0, .null, .null, .null, .int 0, .int 0, .int 0, .int 0]) (C := RX0) (T := TX0) (N := 11) hx hb hts in_X0 tyX0 tyX0_ok hown (hts _ q21) (hts _ q22) (hts _ q19) hK hP hD hS hA rfl (fun j hj => by rcases (show j = 0 ∨ j = 1 ∨ j = 2 ∨ j = 3 ∨ j = 4 ∨ j = 5 ∨ j = 6 ∨ j = 7 ∨ j = 8 ∨ j = 9 ∨ j = 10 by omega) with rfl | rfl | rfl | rfl | rfl | rfl | rfl | rfl | rfl | rfl | rfl <;> rfl) (Nat.le_of_ble_eq_true rfl) (Nat.le_of_ble_eq_true rfl) dL_law_0 (fun qx H hP hD hS => ?_)
  have hP : va_P (dC, dI) cls2 [(qx, .inr (0, [.int 0, .null, .null, .int 0, .null, .null, .null, .int 0, .int 0, .int 0, .int 0]))] H := hP
  have hD : va_D (fun q : Nat => s.heap.size ≤ q) [(qx, .inr (0, [.int 0, .null, .null, .int 0, .null, .null, .null, .int 0, .int 0, .int 0, .int 0]))] := hD
  refine W.widen (k := 1) (n := 11) (by decide) (by decide) ?_
  refine lv_dup hx hb dL_law_3 rfl ?_
  have hFc := va_free (wc := [(qx, .inr (0, [.int 0, .null, .null, .int 0, .null, .null, .null, .int 0, .int 0, .int 0, .int 0]))]) hD hS hA [0] rfl
  refine va_callv (va_runI (As := []) (rest := [.ref qx]) ⟨hx, hb, hml, hown, hts⟩ (mX_init l dC dI qx H.size) (cwI 0 hts (lw_meth q25) rfl rfl rfl (hts _ q19) (hts _ q23) (hts _ q24) rfl (by decide +kernel) ⟨Nat.le_of_ble_eq_true rfl, Nat.le_of_ble_eq_true rfl⟩) ⟨fun a U g mk q => by obtain ⟨q0, q1, qP, qK, qD⟩ := q; exact ⟨q0, q1, qP, va_K.moved (u := U) (U := U.calling g mk a) (Vm.Alike.refl U.vm) qK, qD⟩, fun U hU hW => ⟨rfl, by rw [hU], by rw [hU]; exact hP, va_K.moved hW.alike hK, hD.weaken (fun _ _ _ _ => trivial)⟩⟩ rfl rfl hl.1 rfl (lv_room (Nat.le_of_ble_eq_true rfl)) dL_law_4 ⟨Nat.le_of_ble_eq_true rfl, Nat.le_of_ble_eq_true rfl⟩) hS (fun q _ h => hFc q h) hFc (fun u t H1 locs ht hvm hw hB hz1 hk1 hS => ?_)
  obtain ⟨q, d, hq0, hP1, hK1, hD1⟩ := hB
  subst hq0
  rw [ht] at hP1
  have hK := va_K.moved hvm.symm hK1
  have hD : va_D (fun q : Nat => s.heap.size ≤ q) (XW q d (nI 0) (nF (fun _ => 0)) (nF (fun _ => 0)) 0 (fun _ => 0) (fun _ => 0) (fun _ => 0) 0 0 0 0) := hD1.weaken (fun k q _ h => hFc q.1 h)
  generalize H1 = H at hP1 hS ⊢
  have hP : va_P (dC, dI) cls2 (XW q d (nI 0) (nF (fun _ => 0)) (nF (fun _ => 0)) 0 (fun _ => 0) (fun _ => 0) (fun _ => 0) 0 0 0 0) H := hP1
  refine W.widen (k := 6) (n := 907) (by decide) (by decide) ?_
  refine lv_astore_n (lv' := [(1, .ref (q 0)), (0, .ref b)]) hx hb dL_law_7 rfl hl (by decide) rfl (fun ls hl => ?_)
  refine va_new (ci := 1) (fs := [.int 0, .null, .null]) (C := RX1) (T := TX1) (N := 3) hx hb hts in_X1 tyX1 tyX1_ok hown (hts _ q162) (hts _ q163) (hts _ q20) hK hP hD hS hA rfl (fun j hj => by rcases (show j = 0 ∨ j = 1 ∨ j = 2 by omega) with rfl | rfl | rfl <;> rfl) (Nat.le_of_ble_eq_true rfl) (Nat.le_of_ble_eq_true rfl) dL_law_8 (fun qy H hP hD hS => ?_)
  have hP : va_P (dC, dI) cls2 (XW q d (nI 0) (nF (fun _ => 0)) (nF (fun _ => 0)) 0 (fun _ => 0) (fun _ => 0) (fun _ => 0) 0 0 0 0 ++ [(qy, .inr (1, [.int 0, .null, .null]))]) H := hP
  have hD : va_D (fun q : Nat => s.heap.size ≤ q) (XW q d (nI 0) (nF (fun _ => 0)) (nF (fun _ => 0)) 0 (fun _ => 0) (fun _ => 0) (fun _ => 0) 0 0 0 0 ++ [(qy, .inr (1, [.int 0, .null, .null]))]) := hD
  refine W.widen (k := 7) (n := 910) (by decide) (by decide) ?_
  refine lv_dup hx hb dL_law_11 rfl ?_
  have hPc := hP.sub (ws' := [(qy, .inr (1, [.int 0, .null, .null]))]) [6] rfl
  have hDc := hD.sub (ws' := [(qy, .inr (1, [.int 0, .null, .null]))]) [6] (by decide) rfl
  have hKc := hK.sub (tys' := []) [] rfl
  have hFc := va_free (wc := [(qy, .inr (1, [.int 0, .null, .null]))]) hD hS hA [6] rfl
  refine va_callv (va_runI (As := []) (rest := [.ref qy]) ⟨hx, hb, hml, hown, hts⟩ (mM_init l dC dI qy H.size) (cwI 0 hts (lw_meth q166) rfl rfl rfl (hts _ q20) (hts _ q164) (hts _ q165) rfl (by decide +kernel) ⟨Nat.le_of_ble_eq_true rfl, Nat.le_of_ble_eq_true rfl⟩) ⟨fun a U g mk q => by obtain ⟨q0, q1, qP, qK, qD⟩ := q; exact ⟨q0, q1, qP, va_K.moved (u := U) (U := U.calling g mk a) (Vm.Alike.refl U.vm) qK, qD⟩, fun U hU hW => ⟨rfl, by rw [hU], by rw [hU]; exact hPc, va_K.moved hW.alike hKc, hDc.weaken (fun _ _ _ _ => trivial)⟩⟩ rfl rfl hl.1 rfl (lv_room (Nat.le_of_ble_eq_true rfl)) dL_law_12 ⟨Nat.le_of_ble_eq_true rfl, Nat.le_of_ble_eq_true rfl⟩) hS (fun q _ h => hFc q h) hFc (fun u t H1 locs ht hvm hw hB hz1 hk1 hS => ?_)
  obtain ⟨qm, d2, hq0, hP1, hK1, hD1⟩ := hB
  subst hq0
  rw [ht] at hP1
  have hK1 := va_K.moved hvm.symm hK1
  obtain rfl : d = d2 := xk_same (hK.app hK1) 0 1 rfl rfl
  obtain ⟨hP, hD⟩ := va_join (wr := XW q d (nI 0) (nF (fun _ => 0)) (nF (fun _ => 0)) 0 (fun _ => 0) (fun _ => 0) (fun _ => 0) 0 0 0 0) (w1 := MW qm d (nI 0) (nF (fun _ => 0)) (nF (fun _ => 0))) hP hD [6] [0, 1, 2, 3, 4, 5] rfl rfl (by decide) (by decide) hk1 hFc hP1 hD1
  generalize H1 = H at hP hS ⊢
  refine W.widen (k := 9) (n := 1038) (by decide) (by decide) ?_
  refine lv_astore_n (lv' := [(2, .ref (qm 0)), (1, .ref (q 0)), (0, .ref b)]) hx hb dL_law_15 rfl hl (by decide) rfl (fun ls hl => ?_)
  refine lv_iconst (v := nI 0) hx hb dL_law_16 (by decide +kernel) ?_
  refine lv_istore_n (lv' := [(3, .int (nI 0)), (2, .ref (qm 0)), (1, .ref (q 0)), (0, .ref b)]) hx hb dL_law_17 rfl hl (by decide) rfl (fun ls hl => ?_)
  exact law_loop hL C0 hK (L + 1) 0 0 (fun _ => 0) (fun _ => 0) _ _ _ _ _ _ _ _ (Nat.zero_le L) (by omega) ⟨by decide, fun _ => Nat.zero_le _, fun _ => Nat.zero_le _⟩ _ _ _ hP hD hS (lv_sub hl [3, 2, 1, 0] rfl)
end
section
-- ===== YOUR PART ENDS =====
set_option maxHeartbeats 4000000 in
theorem lw_walk (l : Launch) (b : Addr) (xs : List Int32) : MetFree l x (headSpec (Jvm.Cond.code x code maxLocals ret :: tables_1) room_1) (lw_P b xs) (fun _ _ _ _ _ => True) lw_Q := by
  refine MetFree.of_bodyS (code := code) (maxLocals := maxLocals) (ret := ret) (by decide) ?_ ?_
  · intro args s m h hn
    obtain ⟨meth, c, h1, h2, h3, h4, h5, h6, -, -⟩ := Cond.code_spec hn (atoms_spec (ws := Jvm.Cond.code x code maxLocals ret :: tables_1) h _ List.mem_cons_self)
    exact ⟨meth, c, h1, h2, h3, h4, h5, h6⟩
  · intro p e s m args below meth c s₁ B hml0 hP _
    obtain ⟨rfl, hx, hbd, hgv⟩ := hP
    obtain ⟨scr, harrAt, hlist, hof, hsmall⟩ := hx
    obtain ⟨hcb, hkn, -, -⟩ := State.arrayAt?_spec harrAt
    have hown : s.vm.findClass R_law = some m.cls := findClass_of_methodNamed B.named
    have hts0 : ∀ c ∈ (Jvm.Cond.code x code maxLocals ret :: tables_1), c.before #[Value.ref b] s = true := atoms_spec (ws := Jvm.Cond.code x code maxLocals ret :: tables_1) B.pre
    have hts : ∀ w ∈ lw_tbl, w.before #[Value.ref b] s = true := k2_hts_sels lw_privs (fun w hw => hts0 w (List.mem_cons_of_mem _ hw)) lw_privs_ok
    have hml : c.maxLocals = 4 := B.maxLocals_eq (hts0 _ List.mem_cons_self)
    have X₀ : Stand p l e room_1 s m #[Value.ref b] below meth c s₁ [] 0 0 := Stand.of_body B
    have hh0 : s₁.heap = s.heap := by rw [B.state]; rfl
    have hsz : scr.slots.size = xs.length := by rw [← Array.length_toList, hlist, List.length_map]
    have hval : ∀ j : Nat, j < xs.length → scr.slots[j]? = some (.int (xs.getD j 0)) := fun j hj => by
      rw [← Array.getElem?_toList, hlist]
      simp [hj]
    have hbl : b < s.heap.size := (Array.getElem?_eq_some_iff.mp hcb).1
    have hX : va_X b xs.length (fun j => xs.getD j 0) s s.heap := ⟨scr, hcb, hof, hkn, hsz, hval⟩
    have K : W p l e room_1 s m #[Value.ref b] below meth c s₁.heap [] 0 0 (lw_Z below #[Value.ref b] s) (entryFrame m ([Value.ref b] : List Value).toArray 4) := by
      rw [hh0]
      exact whole_start l hbd ⟨B.exec, B.bytes, B.returns, hml, hown, hts, hX, hbl, B.notSynchronized, hgv⟩
    obtain ⟨t, a1, o, b1, b2, b3⟩ := K s₁ rfl X₀
    exact ⟨t, o, a1, b1, b2, b3⟩
theorem lw_pre_spec {args : Array Value} {s : State} (h : (Jvm.Cond.and given_1 narrow_1).before args s = true) (hr : rest_1_c.before args s = true) : ∃ (b : Addr) (xs : List Int32), lw_P b xs args s := by
  have hs := flat_of_before _ h
  have hq := flat_of_before _ hr
  have hc : (Cond.count 1).before args s = true := hs _ (by decide +kernel)
  have harr : (Cond.arrayOf (.arg 0) .int).before args s = true := hs _ (by decide +kernel)
  have hle : (Cond.le (.length (.arg 0)) (.int 320)).before args s = true := hs _ (by decide +kernel)
  have hlen : (Cond.isInt (.length (.arg 0))).before args s = true := hq _ (by decide +kernel)
  have hall : (Cond.all (.arg 0) (.isInt (.elem (.arg 0) (.index 0)))).before args s = true := hq _ (by decide +kernel)
  obtain ⟨b, xs, hb, hx⟩ := State.ints_of_pre rfl harr hlen hall
  have hsm : xs.length < 2 ^ 31 := hx.choose_spec.2.2.2
  have hev : (Term.length (.arg 0)).eval args s none [] s = some (.int xs.length.toInt32) := hx.length_eval hb
  have hv := Cond.le_ints hev (show (Term.int 320).eval args s none [] s = some (.int 320) from rfl)
  have hd : xs.length.toInt32 ≤ 320 := by
    simpa [Cond.before, Cond.holds, hv] using hle
  have hN : xs.length ≤ 320 := (Int32.ofNat_le_ofNat hsm (by decide)).mp (show Int32.ofNat xs.length ≤ Int32.ofNat 320 from hd)
  exact ⟨b, xs, Cond.one_arg hc (show args[0]? = some (.ref b) from hb), hx, hN, h⟩
theorem lw_comes (l : Launch) : Comes l x (Jvm.Cond.code x code maxLocals ret :: tables_1) room_1 (fun tb e args s => Calls_1 tb e args s ∧ rest_1 tb e args s ∧ Pre_1 tb e args s)
    (fun _ _ args s o t => lw_Q args s o t) := by
  intro p e ha hc hk s m args below hf hfit hheap happ hpre
  obtain ⟨b, xs, hP⟩ := lw_pre_spec hpre.2.2 hpre.2.1
  obtain ⟨k, o, h1, h2, h3, hQ⟩ := lw_walk l b xs p e ha hc hk s m args below hf ((Spec.applies_iff_loose hf).mp happ).1 hP trivial
  exact ⟨k, o, h1, h2, h3, hQ⟩
theorem lw_frame {s t : State} {o : Outcome} {args : Array Value} (h : Framed s o t [] 600000 7290000) :
    Framed s o t (fieldLocs frame_1_writes args s ++ arrayLocs frame_1_arrays args s ++ staticLocs frame_1_statics s) 600000 7290000 := h
theorem lw_limb (L : Cond) (hL : ∀ (args : Array Value) (s t : State), L.after args s (.returned (some (.int 1))) t = true) :
    ArmFor flags0 classFile x code maxLocals ret World_1 tables_1 room_1 Calls_1 rest_1 Pre_1
      (fun tb e a s o t => postC L tb e a s o t ∧ Framed s o t (fieldLocs frame_1_writes a s ++ arrayLocs frame_1_arrays a s ++ staticLocs frame_1_statics s) 600000 7290000) := by
  intro l _ _ _ p e ha hc hk s m args below hf hfit hheap happ hpre
  obtain ⟨k, o, h1, h2, h3, rfl, hF⟩ := lw_comes l p e ha hc hk s m args below hf hfit hheap happ hpre
  exact ⟨k, _, h1, h2, h3, hL args s _, lw_frame hF⟩
theorem i_vc : Claimed_1_1 ∧ Claimed_1_2 := ⟨lw_limb limb_1_1 (fun args s t => by simp [limb_1_1, Cond.after, Cond.holds, Cond.value]), lw_limb limb_1_2 (fun args s t => Cond.after_iff.mpr (by
  first | (rw [show limb_1_2 = Cond.eq .result (.int 1) from rfl, Cond.eq_ints (x := 1) (y := 1) rfl rfl]; simp; done) | (simp [limb_1_2, Cond.value, Term.eval]; done)))⟩
end
