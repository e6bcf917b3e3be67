section
-- ===== PART A: goes FIRST, ahead of the names: the tables' words, and 'selects' of the private methods out of them =====
/-- a private method of a class that the tables say can be made, by its rows of tables_1 -/
def lw_okq (q : MethodName × Nat) : Prop := (q.1.cls ≠ "java/lang/invoke/MethodHandle" ∧ q.1.cls ≠ "java/lang/invoke/VarHandle") ∧ Cond.instantiable q.1.cls q.2 ∈ tables_1 ∧ Cond.privateMethod q.1 ∈ tables_1 ∧ Cond.instanceMethod q.1 ∈ tables_1
set_option maxRecDepth 100000
theorem lw_p0 : lw_okq (⟨"BandRegion", "makeBox", "(II)V"⟩, 8) := ⟨⟨by decide +kernel, by decide +kernel⟩, List.mem_of_getElem? (i := 4) rfl, List.mem_of_getElem? (i := 45) rfl, List.mem_of_getElem? (i := 46) rfl⟩
theorem lw_p1 : lw_okq (⟨"BandRegion", "start", "(I)V"⟩, 8) := ⟨⟨by decide +kernel, by decide +kernel⟩, List.mem_of_getElem? (i := 4) rfl, List.mem_of_getElem? (i := 49) rfl, List.mem_of_getElem? (i := 50) rfl⟩
theorem lw_p2 : lw_okq (⟨"BandRegion", "addRun", "(IIII)V"⟩, 8) := ⟨⟨by decide +kernel, by decide +kernel⟩, List.mem_of_getElem? (i := 4) rfl, List.mem_of_getElem? (i := 53) rfl, List.mem_of_getElem? (i := 54) rfl⟩
theorem lw_p3 : lw_okq (⟨"BandRegion", "endBand", "(IIII)V"⟩, 8) := ⟨⟨by decide +kernel, by decide +kernel⟩, List.mem_of_getElem? (i := 4) rfl, List.mem_of_getElem? (i := 57) rfl, List.mem_of_getElem? (i := 58) rfl⟩
theorem lw_p4 : lw_okq (⟨"BandRegion", "equalRuns", "(III)Z"⟩, 8) := ⟨⟨by decide +kernel, by decide +kernel⟩, List.mem_of_getElem? (i := 4) rfl, List.mem_of_getElem? (i := 61) rfl, List.mem_of_getElem? (i := 62) rfl⟩
theorem lw_p5 : lw_okq (⟨"BandRegion", "merge", "(III)V"⟩, 8) := ⟨⟨by decide +kernel, by decide +kernel⟩, List.mem_of_getElem? (i := 4) rfl, List.mem_of_getElem? (i := 65) rfl, List.mem_of_getElem? (i := 66) rfl⟩
theorem lw_p6 : lw_okq (⟨"BandRegion", "bandAt", "(II)I"⟩, 8) := ⟨⟨by decide +kernel, by decide +kernel⟩, List.mem_of_getElem? (i := 4) rfl, List.mem_of_getElem? (i := 69) rfl, List.mem_of_getElem? (i := 70) rfl⟩
theorem lw_p7 : lw_okq (⟨"BandRegion", "changeAfter", "(III)I"⟩, 8) := ⟨⟨by decide +kernel, by decide +kernel⟩, List.mem_of_getElem? (i := 4) rfl, List.mem_of_getElem? (i := 73) rfl, List.mem_of_getElem? (i := 74) rfl⟩
theorem lw_p8 : lw_okq (⟨"BandRegion", "covering", "(III)I"⟩, 8) := ⟨⟨by decide +kernel, by decide +kernel⟩, List.mem_of_getElem? (i := 4) rfl, List.mem_of_getElem? (i := 77) rfl, List.mem_of_getElem? (i := 78) rfl⟩
theorem lw_p9 : lw_okq (⟨"BandRegion", "mergeRuns", "(IIIII)V"⟩, 8) := ⟨⟨by decide +kernel, by decide +kernel⟩, List.mem_of_getElem? (i := 4) rfl, List.mem_of_getElem? (i := 81) rfl, List.mem_of_getElem? (i := 82) rfl⟩
theorem lw_p10 : lw_okq (⟨"BandRegion", "keep", "(I)V"⟩, 8) := ⟨⟨by decide +kernel, by decide +kernel⟩, List.mem_of_getElem? (i := 4) rfl, List.mem_of_getElem? (i := 88) rfl, List.mem_of_getElem? (i := 89) rfl⟩
theorem lw_p11 : lw_okq (⟨"BandRegion", "cells", "(I)I"⟩, 8) := ⟨⟨by decide +kernel, by decide +kernel⟩, List.mem_of_getElem? (i := 4) rfl, List.mem_of_getElem? (i := 92) rfl, List.mem_of_getElem? (i := 93) rfl⟩
theorem lw_p12 : lw_okq (⟨"BandRegion", "moveBand", "(IIIII)V"⟩, 8) := ⟨⟨by decide +kernel, by decide +kernel⟩, List.mem_of_getElem? (i := 4) rfl, List.mem_of_getElem? (i := 107) rfl, List.mem_of_getElem? (i := 108) rfl⟩
theorem lw_p13 : lw_okq (⟨"BandRegionModel", "bad", "(I)Z"⟩, 2) := ⟨⟨by decide +kernel, by decide +kernel⟩, List.mem_of_getElem? (i := 147) rfl, List.mem_of_getElem? (i := 165) rfl, List.mem_of_getElem? (i := 166) rfl⟩
theorem lw_p14 : lw_okq (⟨"BandRegionModel", "inBox", "(IIII)Z"⟩, 2) := ⟨⟨by decide +kernel, by decide +kernel⟩, List.mem_of_getElem? (i := 147) rfl, List.mem_of_getElem? (i := 169) rfl, List.mem_of_getElem? (i := 170) rfl⟩
theorem lw_p15 : lw_okq (⟨"BandRegionModel", "mixed", "(ZZI)Z"⟩, 2) := ⟨⟨by decide +kernel, by decide +kernel⟩, List.mem_of_getElem? (i := 147) rfl, List.mem_of_getElem? (i := 173) rfl, List.mem_of_getElem? (i := 174) rfl⟩
def lw_privs_1 : List (MethodName × Nat) := [(⟨"BandRegion", "makeBox", "(II)V"⟩, 8), (⟨"BandRegion", "start", "(I)V"⟩, 8), (⟨"BandRegion", "addRun", "(IIII)V"⟩, 8), (⟨"BandRegion", "endBand", "(IIII)V"⟩, 8), (⟨"BandRegion", "equalRuns", "(III)Z"⟩, 8), (⟨"BandRegion", "merge", "(III)V"⟩, 8), (⟨"BandRegion", "bandAt", "(II)I"⟩, 8), (⟨"BandRegion", "changeAfter", "(III)I"⟩, 8), (⟨"BandRegion", "covering", "(III)I"⟩, 8), (⟨"BandRegion", "mergeRuns", "(IIIII)V"⟩, 8), (⟨"BandRegion", "keep", "(I)V"⟩, 8), (⟨"BandRegion", "cells", "(I)I"⟩, 8), (⟨"BandRegion", "moveBand", "(IIIII)V"⟩, 8), (⟨"BandRegionModel", "bad", "(I)Z"⟩, 2), (⟨"BandRegionModel", "inBox", "(IIII)Z"⟩, 2), (⟨"BandRegionModel", "mixed", "(ZZI)Z"⟩, 2)]
theorem lw_r1 : ∀ q ∈ lw_privs_1, lw_okq q := List.forall_mem_cons.mpr ⟨lw_p0, List.forall_mem_cons.mpr ⟨lw_p1, List.forall_mem_cons.mpr ⟨lw_p2, List.forall_mem_cons.mpr ⟨lw_p3, List.forall_mem_cons.mpr ⟨lw_p4, List.forall_mem_cons.mpr ⟨lw_p5, List.forall_mem_cons.mpr ⟨lw_p6, List.forall_mem_cons.mpr ⟨lw_p7, List.forall_mem_cons.mpr ⟨lw_p8, List.forall_mem_cons.mpr ⟨lw_p9, List.forall_mem_cons.mpr ⟨lw_p10, List.forall_mem_cons.mpr ⟨lw_p11, List.forall_mem_cons.mpr ⟨lw_p12, List.forall_mem_cons.mpr ⟨lw_p13, List.forall_mem_cons.mpr ⟨lw_p14, List.forall_mem_cons.mpr ⟨lw_p15, fun _ h => absurd h List.not_mem_nil⟩⟩⟩⟩⟩⟩⟩⟩⟩⟩⟩⟩⟩⟩⟩⟩
theorem lw_p16 : lw_okq (⟨"BandRegionModel", "begins", "(III)Z"⟩, 2) := ⟨⟨by decide +kernel, by decide +kernel⟩, List.mem_of_getElem? (i := 147) rfl, List.mem_of_getElem? (i := 202) rfl, List.mem_of_getElem? (i := 203) rfl⟩
theorem lw_p17 : lw_okq (⟨"BandRegionModel", "equalRows", "(III)Z"⟩, 2) := ⟨⟨by decide +kernel, by decide +kernel⟩, List.mem_of_getElem? (i := 147) rfl, List.mem_of_getElem? (i := 207) rfl, List.mem_of_getElem? (i := 208) rfl⟩
theorem lw_p18 : lw_okq (⟨"BandRegionModel", "from", "(III)I"⟩, 2) := ⟨⟨by decide +kernel, by decide +kernel⟩, List.mem_of_getElem? (i := 147) rfl, List.mem_of_getElem? (i := 215) rfl, List.mem_of_getElem? (i := 216) rfl⟩
def lw_privs_2 : List (MethodName × Nat) := [(⟨"BandRegionModel", "begins", "(III)Z"⟩, 2), (⟨"BandRegionModel", "equalRows", "(III)Z"⟩, 2), (⟨"BandRegionModel", "from", "(III)I"⟩, 2)]
theorem lw_r2 : ∀ q ∈ lw_privs_2, lw_okq q := List.forall_mem_cons.mpr ⟨lw_p16, List.forall_mem_cons.mpr ⟨lw_p17, List.forall_mem_cons.mpr ⟨lw_p18, fun _ h => absurd h List.not_mem_nil⟩⟩⟩
def lw_privs : List (MethodName × Nat) := lw_privs_1 ++ (lw_privs_2)
def lw_tbl : List Cond := k2_sels lw_privs ++ tables_1
theorem lw_privs_ok : ∀ q ∈ lw_privs, lw_okq q := by
  show ∀ q ∈ lw_privs_1 ++ (lw_privs_2), lw_okq q
  exact List.forall_mem_append.mpr ⟨lw_r1, lw_r2⟩
-- ===== ONE list of words for every method: the tables' words that hold all through a run =====
def lw_all : List Cond := lw_tbl.filter goodWord
/-- a word of the tables by its place: claim/WORDS.tsv -/
theorem lw_w {w : Cond} (i : Nat) (h : lw_tbl[i]? = some w) (g : goodWord w = true) : w ∈ lw_all := List.mem_filter.mpr ⟨List.mem_of_getElem? h, g⟩
theorem lw_all_tbl {w : Cond} (h : w ∈ lw_all) : w ∈ lw_tbl := (List.mem_filter.mp h).1
theorem lw_self : GoodIn lw_all lw_all := fun w h => ⟨h, good_of_word (List.mem_filter.mp h).2⟩
/-- a class's field words, by their places -/
theorem lw_in (ws : List Cond) (ps : List Nat) (hp : ws = ps.filterMap (fun i => lw_tbl[i]?)) (hg : ws.all goodWord = true) : ∀ w ∈ ws, w ∈ lw_all := by
  intro w h
  have h1 := List.all_eq_true.mp hg w h
  rw [hp] at h
  obtain ⟨i, -, hi⟩ := List.mem_filterMap.mp h
  exact lw_w i hi h1
/-- the words of a contract for the method y with code b, L locals, answer r -/
abbrev ws_ (y : MethodName) (b : ByteArray) (L : Nat) (r : Option FieldType) : List Cond := Cond.code y b L r :: lw_all
theorem lw_meth {y : MethodName} {b : ByteArray} {L : Nat} {r : Option FieldType} (h : Cond.code y b L r ∈ lw_all) : GoodIn lw_all (ws_ y b L r) := by
  intro w hw
  rcases List.mem_cons.mp hw with e | e
  · rw [e]
    exact lw_self _ h
  · exact lw_self _ e
theorem lw_app {a c : List Cond} (ha : ∀ w ∈ a, w ∈ lw_all) (hc : GoodIn lw_all c) : GoodIn lw_all (a ++ c) := by
  intro w hw
  rcases List.mem_append.mp hw with e | e
  · exact lw_self w (ha w e)
  · exact hc w e
/-- what a call through an object asks: cwV n hts (lw_V ..) -/
theorem lw_V {own : String} {idx : Nat} {C : String} {y : MethodName} {b : ByteArray} {L : Nat} {r : Option FieldType} (h1 : Cond.methodLink own idx y ∈ lw_all) (h2 : Cond.instanceMethod y ∈ lw_all) (h3 : Cond.selects C y y ∈ lw_all) (h4 : Cond.initialized C ∈ lw_all) (h5 : Cond.code y b L r ∈ lw_all) : GoodIn lw_all (wsV own idx C y (ws_ y b L r)) := by
  refine lw_app ?_ (lw_meth h5)
  intro w hw
  simp only [List.mem_cons, List.not_mem_nil, or_false] at hw
  rcases hw with e | e | e | e
  · rw [e]; exact h1
  · rw [e]; exact h2
  · rw [e]; exact h3
  · rw [e]; exact h4
/-- what a static call asks: va_cwS n hts (lw_S ..) -/
theorem lw_S {own : String} {idx : Nat} {y : MethodName} {b : ByteArray} {L : Nat} {r : Option FieldType} (h1 : Cond.methodLink own idx y ∈ lw_all) (h2 : Cond.static y ∈ lw_all) (h3 : Cond.initialized y.cls ∈ lw_all) (h4 : Cond.code y b L r ∈ lw_all) : GoodIn lw_all (va_wsS own idx y (ws_ y b L r)) := by
  refine lw_app ?_ (lw_meth h4)
  intro w hw
  simp only [List.mem_cons, List.not_mem_nil, or_false] at hw
  rcases hw with e | e | e
  · rw [e]; exact h1
  · rw [e]; exact h2
  · rw [e]; exact h3
/-- the words of a contract for a method WITH HANDLERS (hh: its table) -/
abbrev wsW_ (y : MethodName) (b : ByteArray) (L : Nat) (r : Option FieldType) (hh : List (Nat × Nat × Nat × Nat)) : List Cond := Cond.codeWith y b L r hh :: lw_all
theorem lw_methW {y : MethodName} {b : ByteArray} {L : Nat} {r : Option FieldType} {hh : List (Nat × Nat × Nat × Nat)} (h : Cond.codeWith y b L r hh ∈ lw_all) : GoodIn lw_all (wsW_ y b L r hh) := by
  intro w hw
  rcases List.mem_cons.mp hw with e | e
  · rw [e]
    exact lw_self _ h
  · exact lw_self _ e
/-- any list of words by their places (lw_in), good -/
theorem lw_good {ws : List Cond} (h : ∀ w ∈ ws, w ∈ lw_all) : GoodIn lw_all ws := fun w hw => lw_self w (h w hw)
/-- what a call of a method with handlers asks: vx_cwVW n hts (lw_VW ..), vx_cwSW n hts (lw_SW ..) -/
theorem lw_VW {own : String} {idx : Nat} {C : String} {y : MethodName} {b : ByteArray} {L : Nat} {r : Option FieldType} {hh : List (Nat × Nat × Nat × Nat)} (h1 : Cond.methodLink own idx y ∈ lw_all) (h2 : Cond.instanceMethod y ∈ lw_all) (h3 : Cond.selects C y y ∈ lw_all) (h4 : Cond.initialized C ∈ lw_all) (h5 : Cond.codeWith y b L r hh ∈ lw_all) : GoodIn lw_all (wsV own idx C y (wsW_ y b L r hh)) := by
  refine lw_app ?_ (lw_methW h5)
  intro w hw
  simp only [List.mem_cons, List.not_mem_nil, or_false] at hw
  rcases hw with e | e | e | e
  · rw [e]; exact h1
  · rw [e]; exact h2
  · rw [e]; exact h3
  · rw [e]; exact h4
theorem lw_SW {own : String} {idx : Nat} {y : MethodName} {b : ByteArray} {L : Nat} {r : Option FieldType} {hh : List (Nat × Nat × Nat × Nat)} (h1 : Cond.methodLink own idx y ∈ lw_all) (h2 : Cond.static y ∈ lw_all) (h3 : Cond.initialized y.cls ∈ lw_all) (h4 : Cond.codeWith y b L r hh ∈ lw_all) : GoodIn lw_all (va_wsS own idx y (wsW_ y b L r hh)) := by
  refine lw_app ?_ (lw_methW h4)
  intro w hw
  simp only [List.mem_cons, List.not_mem_nil, or_false] at hw
  rcases hw with e | e | e
  · rw [e]; exact h1
  · rw [e]; exact h2
  · rw [e]; exact h3
/-- a word by its place in its run of the tables -/
theorem lw_at {r : List Cond} (hr : ∀ w ∈ r, w ∈ lw_tbl) {w : Cond} (i : Nat) (h : r[i]? = some w) : w ∈ lw_tbl := hr w (List.mem_of_getElem? h)
theorem lw_g {w : Cond} (h : w ∈ lw_tbl) (g : goodWord w = true) : w ∈ lw_all := List.mem_filter.mpr ⟨h, g⟩
theorem lw_ms : ∀ w ∈ k2_sels lw_privs, w ∈ lw_tbl := fun w h => show w ∈ k2_sels lw_privs ++ tables_1 from List.mem_append_left _ h
theorem lw_m0 : ∀ w ∈ tables_1, w ∈ lw_tbl := fun w h => show w ∈ k2_sels lw_privs ++ tables_1 from List.mem_append_right (k2_sels lw_privs) h
theorem qs0 : (Cond.selects "BandRegion" ⟨"BandRegion", "makeBox", "(II)V"⟩ ⟨"BandRegion", "makeBox", "(II)V"⟩) ∈ lw_all := lw_g (lw_at lw_ms 0 rfl) rfl
theorem qs1 : (Cond.selects "BandRegion" ⟨"BandRegion", "start", "(I)V"⟩ ⟨"BandRegion", "start", "(I)V"⟩) ∈ lw_all := lw_g (lw_at lw_ms 1 rfl) rfl
theorem qs2 : (Cond.selects "BandRegion" ⟨"BandRegion", "addRun", "(IIII)V"⟩ ⟨"BandRegion", "addRun", "(IIII)V"⟩) ∈ lw_all := lw_g (lw_at lw_ms 2 rfl) rfl
theorem qs3 : (Cond.selects "BandRegion" ⟨"BandRegion", "endBand", "(IIII)V"⟩ ⟨"BandRegion", "endBand", "(IIII)V"⟩) ∈ lw_all := lw_g (lw_at lw_ms 3 rfl) rfl
theorem qs4 : (Cond.selects "BandRegion" ⟨"BandRegion", "equalRuns", "(III)Z"⟩ ⟨"BandRegion", "equalRuns", "(III)Z"⟩) ∈ lw_all := lw_g (lw_at lw_ms 4 rfl) rfl
theorem qs5 : (Cond.selects "BandRegion" ⟨"BandRegion", "merge", "(III)V"⟩ ⟨"BandRegion", "merge", "(III)V"⟩) ∈ lw_all := lw_g (lw_at lw_ms 5 rfl) rfl
theorem qs6 : (Cond.selects "BandRegion" ⟨"BandRegion", "bandAt", "(II)I"⟩ ⟨"BandRegion", "bandAt", "(II)I"⟩) ∈ lw_all := lw_g (lw_at lw_ms 6 rfl) rfl
theorem qs7 : (Cond.selects "BandRegion" ⟨"BandRegion", "changeAfter", "(III)I"⟩ ⟨"BandRegion", "changeAfter", "(III)I"⟩) ∈ lw_all := lw_g (lw_at lw_ms 7 rfl) rfl
theorem qs8 : (Cond.selects "BandRegion" ⟨"BandRegion", "covering", "(III)I"⟩ ⟨"BandRegion", "covering", "(III)I"⟩) ∈ lw_all := lw_g (lw_at lw_ms 8 rfl) rfl
theorem qs9 : (Cond.selects "BandRegion" ⟨"BandRegion", "mergeRuns", "(IIIII)V"⟩ ⟨"BandRegion", "mergeRuns", "(IIIII)V"⟩) ∈ lw_all := lw_g (lw_at lw_ms 9 rfl) rfl
theorem qs10 : (Cond.selects "BandRegion" ⟨"BandRegion", "keep", "(I)V"⟩ ⟨"BandRegion", "keep", "(I)V"⟩) ∈ lw_all := lw_g (lw_at lw_ms 10 rfl) rfl
theorem qs11 : (Cond.selects "BandRegion" ⟨"BandRegion", "cells", "(I)I"⟩ ⟨"BandRegion", "cells", "(I)I"⟩) ∈ lw_all := lw_g (lw_at lw_ms 11 rfl) rfl
theorem qs12 : (Cond.selects "BandRegion" ⟨"BandRegion", "moveBand", "(IIIII)V"⟩ ⟨"BandRegion", "moveBand", "(IIIII)V"⟩) ∈ lw_all := lw_g (lw_at lw_ms 12 rfl) rfl
theorem qs13 : (Cond.selects "BandRegionModel" ⟨"BandRegionModel", "bad", "(I)Z"⟩ ⟨"BandRegionModel", "bad", "(I)Z"⟩) ∈ lw_all := lw_g (lw_at lw_ms 13 rfl) rfl
theorem qs14 : (Cond.selects "BandRegionModel" ⟨"BandRegionModel", "inBox", "(IIII)Z"⟩ ⟨"BandRegionModel", "inBox", "(IIII)Z"⟩) ∈ lw_all := lw_g (lw_at lw_ms 14 rfl) rfl
theorem qs15 : (Cond.selects "BandRegionModel" ⟨"BandRegionModel", "mixed", "(ZZI)Z"⟩ ⟨"BandRegionModel", "mixed", "(ZZI)Z"⟩) ∈ lw_all := lw_g (lw_at lw_ms 15 rfl) rfl
theorem qs16 : (Cond.selects "BandRegionModel" ⟨"BandRegionModel", "begins", "(III)Z"⟩ ⟨"BandRegionModel", "begins", "(III)Z"⟩) ∈ lw_all := lw_g (lw_at lw_ms 16 rfl) rfl
theorem qs17 : (Cond.selects "BandRegionModel" ⟨"BandRegionModel", "equalRows", "(III)Z"⟩ ⟨"BandRegionModel", "equalRows", "(III)Z"⟩) ∈ lw_all := lw_g (lw_at lw_ms 17 rfl) rfl
theorem qs18 : (Cond.selects "BandRegionModel" ⟨"BandRegionModel", "from", "(III)I"⟩ ⟨"BandRegionModel", "from", "(III)I"⟩) ∈ lw_all := lw_g (lw_at lw_ms 18 rfl) rfl
end
section
/-! BandRegion -/
set_option maxRecDepth 100000
def RX0 : String := "BandRegion"
def TX0 : u_T := fun k => match k with
  | 0 => ("BandRegion", "bands", "[I", true)
  | 1 => ("BandRegion", "bandTop", "[I", true)
  | 2 => ("BandRegion", "bandEnd", "[I", true)
  | 3 => ("BandRegion", "bandFirst", "[I", true)
  | 4 => ("BandRegion", "bandRuns", "[I", true)
  | 5 => ("BandRegion", "runs", "[I", true)
  | 6 => ("BandRegion", "runLeft", "[I", true)
  | _ => ("BandRegion", "runRight", "[I", true)
def tyX0 : Nat → FieldType := fun k => match k with
  | 0 => .array .int
  | 1 => .array .int
  | 2 => .array .int
  | 3 => .array .int
  | 4 => .array .int
  | 5 => .array .int
  | 6 => .array .int
  | _ => .array .int
abbrev wsX00 : List Cond := u_ws RX0 TX0 8
theorem nmX0 : ∀ a, a < 8 → ∀ b, b < 8 → a ≠ b → (TX0 a).2.1 ≠ (TX0 b).2.1 := by decide +kernel
theorem tyX0_ok : ∀ k, k < 8 → parseFieldDescriptor (TX0 k).2.2.1 = some (tyX0 k) := by decide +kernel
abbrev cX0_init : ByteArray := prog_1_method_1_code
def yX0_init : MethodName := ⟨RX0, "<init>", "()V"⟩
theorem dX0_init_0 : decode cX0_init 0 = .ok (.aload_n 0, 1) := by decide +kernel
theorem dX0_init_1 : decode cX0_init 1 = .ok (.invokespecial 1, 3) := by decide +kernel
theorem dX0_init_4 : decode cX0_init 4 = .ok (.aload_n 0, 1) := by decide +kernel
theorem dX0_init_5 : decode cX0_init 5 = .ok (.iconst 5, 1) := by decide +kernel
theorem dX0_init_6 : decode cX0_init 6 = .ok (.newarray .int, 2) := by decide +kernel
theorem dX0_init_8 : decode cX0_init 8 = .ok (.putfield 7, 3) := by decide +kernel
theorem dX0_init_11 : decode cX0_init 11 = .ok (.aload_n 0, 1) := by decide +kernel
theorem dX0_init_12 : decode cX0_init 12 = .ok (.bipush 120, 2) := by decide +kernel
theorem dX0_init_14 : decode cX0_init 14 = .ok (.newarray .int, 2) := by decide +kernel
theorem dX0_init_16 : decode cX0_init 16 = .ok (.putfield 13, 3) := by decide +kernel
theorem dX0_init_19 : decode cX0_init 19 = .ok (.aload_n 0, 1) := by decide +kernel
theorem dX0_init_20 : decode cX0_init 20 = .ok (.bipush 120, 2) := by decide +kernel
theorem dX0_init_22 : decode cX0_init 22 = .ok (.newarray .int, 2) := by decide +kernel
theorem dX0_init_24 : decode cX0_init 24 = .ok (.putfield 16, 3) := by decide +kernel
theorem dX0_init_27 : decode cX0_init 27 = .ok (.aload_n 0, 1) := by decide +kernel
theorem dX0_init_28 : decode cX0_init 28 = .ok (.bipush 120, 2) := by decide +kernel
theorem dX0_init_30 : decode cX0_init 30 = .ok (.newarray .int, 2) := by decide +kernel
theorem dX0_init_32 : decode cX0_init 32 = .ok (.putfield 19, 3) := by decide +kernel
theorem dX0_init_35 : decode cX0_init 35 = .ok (.aload_n 0, 1) := by decide +kernel
theorem dX0_init_36 : decode cX0_init 36 = .ok (.bipush 120, 2) := by decide +kernel
theorem dX0_init_38 : decode cX0_init 38 = .ok (.newarray .int, 2) := by decide +kernel
theorem dX0_init_40 : decode cX0_init 40 = .ok (.putfield 22, 3) := by decide +kernel
theorem dX0_init_43 : decode cX0_init 43 = .ok (.aload_n 0, 1) := by decide +kernel
theorem dX0_init_44 : decode cX0_init 44 = .ok (.iconst 5, 1) := by decide +kernel
theorem dX0_init_45 : decode cX0_init 45 = .ok (.newarray .int, 2) := by decide +kernel
theorem dX0_init_47 : decode cX0_init 47 = .ok (.putfield 25, 3) := by decide +kernel
theorem dX0_init_50 : decode cX0_init 50 = .ok (.aload_n 0, 1) := by decide +kernel
theorem dX0_init_51 : decode cX0_init 51 = .ok (.sipush 1440, 3) := by decide +kernel
theorem dX0_init_54 : decode cX0_init 54 = .ok (.newarray .int, 2) := by decide +kernel
theorem dX0_init_56 : decode cX0_init 56 = .ok (.putfield 28, 3) := by decide +kernel
theorem dX0_init_59 : decode cX0_init 59 = .ok (.aload_n 0, 1) := by decide +kernel
theorem dX0_init_60 : decode cX0_init 60 = .ok (.sipush 1440, 3) := by decide +kernel
theorem dX0_init_63 : decode cX0_init 63 = .ok (.newarray .int, 2) := by decide +kernel
theorem dX0_init_65 : decode cX0_init 65 = .ok (.putfield 31, 3) := by decide +kernel
theorem dX0_init_68 : decode cX0_init 68 = .ok (.aload_n 0, 1) := by decide +kernel
theorem dX0_init_69 : decode cX0_init 69 = .ok (.getfield 7, 3) := by decide +kernel
theorem dX0_init_72 : decode cX0_init 72 = .ok (.iconst 0, 1) := by decide +kernel
theorem dX0_init_73 : decode cX0_init 73 = .ok (.iconst 0, 1) := by decide +kernel
theorem dX0_init_74 : decode cX0_init 74 = .ok (.iastore, 1) := by decide +kernel
theorem dX0_init_75 : decode cX0_init 75 = .ok (.return_, 1) := by decide +kernel
abbrev cX0_box : ByteArray := prog_1_method_16_code
def yX0_box : MethodName := ⟨RX0, "box", "(IIII)I"⟩
theorem dX0_box_0 : decode cX0_box 0 = .ok (.iload_n 1, 1) := by decide +kernel
theorem dX0_box_1 : decode cX0_box 1 = .ok (.invokestatic 68, 3) := by decide +kernel
theorem dX0_box_4 : decode cX0_box 4 = .ok (.ifCond .eq 5, 3) := by decide +kernel
theorem dX0_box_7 : decode cX0_box 7 = .ok (.iconst (-1), 1) := by decide +kernel
theorem dX0_box_8 : decode cX0_box 8 = .ok (.ireturn, 1) := by decide +kernel
theorem dX0_box_9 : decode cX0_box 9 = .ok (.iload_n 2, 1) := by decide +kernel
theorem dX0_box_10 : decode cX0_box 10 = .ok (.ifCond .lt 8, 3) := by decide +kernel
theorem dX0_box_13 : decode cX0_box 13 = .ok (.iload_n 2, 1) := by decide +kernel
theorem dX0_box_14 : decode cX0_box 14 = .ok (.iconst 3, 1) := by decide +kernel
theorem dX0_box_15 : decode cX0_box 15 = .ok (.if_icmp .le 6, 3) := by decide +kernel
theorem dX0_box_18 : decode cX0_box 18 = .ok (.bipush (-2), 2) := by decide +kernel
theorem dX0_box_20 : decode cX0_box 20 = .ok (.ireturn, 1) := by decide +kernel
theorem dX0_box_21 : decode cX0_box 21 = .ok (.aload_n 0, 1) := by decide +kernel
theorem dX0_box_22 : decode cX0_box 22 = .ok (.iload_n 3, 1) := by decide +kernel
theorem dX0_box_23 : decode cX0_box 23 = .ok (.iload 4, 2) := by decide +kernel
theorem dX0_box_25 : decode cX0_box 25 = .ok (.invokevirtual 72, 3) := by decide +kernel
theorem dX0_box_28 : decode cX0_box 28 = .ok (.aload_n 0, 1) := by decide +kernel
theorem dX0_box_29 : decode cX0_box 29 = .ok (.iload_n 1, 1) := by decide +kernel
theorem dX0_box_30 : decode cX0_box 30 = .ok (.iconst 4, 1) := by decide +kernel
theorem dX0_box_31 : decode cX0_box 31 = .ok (.iload_n 2, 1) := by decide +kernel
theorem dX0_box_32 : decode cX0_box 32 = .ok (.invokevirtual 76, 3) := by decide +kernel
theorem dX0_box_35 : decode cX0_box 35 = .ok (.aload_n 0, 1) := by decide +kernel
theorem dX0_box_36 : decode cX0_box 36 = .ok (.iload_n 1, 1) := by decide +kernel
theorem dX0_box_37 : decode cX0_box 37 = .ok (.invokevirtual 80, 3) := by decide +kernel
theorem dX0_box_40 : decode cX0_box 40 = .ok (.aload_n 0, 1) := by decide +kernel
theorem dX0_box_41 : decode cX0_box 41 = .ok (.iload_n 1, 1) := by decide +kernel
theorem dX0_box_42 : decode cX0_box 42 = .ok (.invokevirtual 83, 3) := by decide +kernel
theorem dX0_box_45 : decode cX0_box 45 = .ok (.ireturn, 1) := by decide +kernel
abbrev cX0_bad : ByteArray := prog_1_method_2_code
def yX0_bad : MethodName := ⟨RX0, "bad", "(I)Z"⟩
theorem dX0_bad_0 : decode cX0_bad 0 = .ok (.iload_n 0, 1) := by decide +kernel
theorem dX0_bad_1 : decode cX0_bad 1 = .ok (.ifCond .lt 8, 3) := by decide +kernel
theorem dX0_bad_4 : decode cX0_bad 4 = .ok (.iload_n 0, 1) := by decide +kernel
theorem dX0_bad_5 : decode cX0_bad 5 = .ok (.iconst 2, 1) := by decide +kernel
theorem dX0_bad_6 : decode cX0_bad 6 = .ok (.if_icmp .le 7, 3) := by decide +kernel
theorem dX0_bad_9 : decode cX0_bad 9 = .ok (.iconst 1, 1) := by decide +kernel
theorem dX0_bad_10 : decode cX0_bad 10 = .ok (.goto 4, 3) := by decide +kernel
theorem dX0_bad_13 : decode cX0_bad 13 = .ok (.iconst 0, 1) := by decide +kernel
theorem dX0_bad_14 : decode cX0_bad 14 = .ok (.ireturn, 1) := by decide +kernel
abbrev cX0_makeBox : ByteArray := prog_1_method_14_code
def yX0_makeBox : MethodName := ⟨RX0, "makeBox", "(II)V"⟩
theorem dX0_makeBox_0 : decode cX0_makeBox 0 = .ok (.aload_n 0, 1) := by decide +kernel
theorem dX0_makeBox_1 : decode cX0_makeBox 1 = .ok (.iconst 4, 1) := by decide +kernel
theorem dX0_makeBox_2 : decode cX0_makeBox 2 = .ok (.invokevirtual 38, 3) := by decide +kernel
theorem dX0_makeBox_5 : decode cX0_makeBox 5 = .ok (.iload_n 1, 1) := by decide +kernel
theorem dX0_makeBox_6 : decode cX0_makeBox 6 = .ok (.bipush 31, 2) := by decide +kernel
theorem dX0_makeBox_8 : decode cX0_makeBox 8 = .ok (.iand, 1) := by decide +kernel
theorem dX0_makeBox_9 : decode cX0_makeBox 9 = .ok (.istore_n 3, 1) := by decide +kernel
theorem dX0_makeBox_10 : decode cX0_makeBox 10 = .ok (.iload_n 1, 1) := by decide +kernel
theorem dX0_makeBox_11 : decode cX0_makeBox 11 = .ok (.iconst 5, 1) := by decide +kernel
theorem dX0_makeBox_12 : decode cX0_makeBox 12 = .ok (.ishr, 1) := by decide +kernel
theorem dX0_makeBox_13 : decode cX0_makeBox 13 = .ok (.bipush 31, 2) := by decide +kernel
theorem dX0_makeBox_15 : decode cX0_makeBox 15 = .ok (.iand, 1) := by decide +kernel
theorem dX0_makeBox_16 : decode cX0_makeBox 16 = .ok (.istore 4, 2) := by decide +kernel
theorem dX0_makeBox_18 : decode cX0_makeBox 18 = .ok (.iload_n 3, 1) := by decide +kernel
theorem dX0_makeBox_19 : decode cX0_makeBox 19 = .ok (.iload_n 2, 1) := by decide +kernel
theorem dX0_makeBox_20 : decode cX0_makeBox 20 = .ok (.bipush 31, 2) := by decide +kernel
theorem dX0_makeBox_22 : decode cX0_makeBox 22 = .ok (.iand, 1) := by decide +kernel
theorem dX0_makeBox_23 : decode cX0_makeBox 23 = .ok (.iadd, 1) := by decide +kernel
theorem dX0_makeBox_24 : decode cX0_makeBox 24 = .ok (.iconst 1, 1) := by decide +kernel
theorem dX0_makeBox_25 : decode cX0_makeBox 25 = .ok (.isub, 1) := by decide +kernel
theorem dX0_makeBox_26 : decode cX0_makeBox 26 = .ok (.istore 5, 2) := by decide +kernel
theorem dX0_makeBox_28 : decode cX0_makeBox 28 = .ok (.iload 4, 2) := by decide +kernel
theorem dX0_makeBox_30 : decode cX0_makeBox 30 = .ok (.iload_n 2, 1) := by decide +kernel
theorem dX0_makeBox_31 : decode cX0_makeBox 31 = .ok (.iconst 5, 1) := by decide +kernel
theorem dX0_makeBox_32 : decode cX0_makeBox 32 = .ok (.ishr, 1) := by decide +kernel
theorem dX0_makeBox_33 : decode cX0_makeBox 33 = .ok (.bipush 31, 2) := by decide +kernel
theorem dX0_makeBox_35 : decode cX0_makeBox 35 = .ok (.iand, 1) := by decide +kernel
theorem dX0_makeBox_36 : decode cX0_makeBox 36 = .ok (.iadd, 1) := by decide +kernel
theorem dX0_makeBox_37 : decode cX0_makeBox 37 = .ok (.iconst 1, 1) := by decide +kernel
theorem dX0_makeBox_38 : decode cX0_makeBox 38 = .ok (.isub, 1) := by decide +kernel
theorem dX0_makeBox_39 : decode cX0_makeBox 39 = .ok (.istore 6, 2) := by decide +kernel
theorem dX0_makeBox_41 : decode cX0_makeBox 41 = .ok (.iload 5, 2) := by decide +kernel
theorem dX0_makeBox_43 : decode cX0_makeBox 43 = .ok (.bipush 23, 2) := by decide +kernel
theorem dX0_makeBox_45 : decode cX0_makeBox 45 = .ok (.if_icmp .le 7, 3) := by decide +kernel
theorem dX0_makeBox_48 : decode cX0_makeBox 48 = .ok (.bipush 23, 2) := by decide +kernel
theorem dX0_makeBox_50 : decode cX0_makeBox 50 = .ok (.istore 5, 2) := by decide +kernel
theorem dX0_makeBox_52 : decode cX0_makeBox 52 = .ok (.iload 6, 2) := by decide +kernel
theorem dX0_makeBox_54 : decode cX0_makeBox 54 = .ok (.bipush 23, 2) := by decide +kernel
theorem dX0_makeBox_56 : decode cX0_makeBox 56 = .ok (.if_icmp .le 7, 3) := by decide +kernel
theorem dX0_makeBox_59 : decode cX0_makeBox 59 = .ok (.bipush 23, 2) := by decide +kernel
theorem dX0_makeBox_61 : decode cX0_makeBox 61 = .ok (.istore 6, 2) := by decide +kernel
theorem dX0_makeBox_63 : decode cX0_makeBox 63 = .ok (.iload_n 3, 1) := by decide +kernel
theorem dX0_makeBox_64 : decode cX0_makeBox 64 = .ok (.iload 5, 2) := by decide +kernel
theorem dX0_makeBox_66 : decode cX0_makeBox 66 = .ok (.if_icmp .gt 10, 3) := by decide +kernel
theorem dX0_makeBox_69 : decode cX0_makeBox 69 = .ok (.iload 4, 2) := by decide +kernel
theorem dX0_makeBox_71 : decode cX0_makeBox 71 = .ok (.iload 6, 2) := by decide +kernel
theorem dX0_makeBox_73 : decode cX0_makeBox 73 = .ok (.if_icmp .le 4, 3) := by decide +kernel
theorem dX0_makeBox_76 : decode cX0_makeBox 76 = .ok (.return_, 1) := by decide +kernel
theorem dX0_makeBox_77 : decode cX0_makeBox 77 = .ok (.aload_n 0, 1) := by decide +kernel
theorem dX0_makeBox_78 : decode cX0_makeBox 78 = .ok (.iconst 4, 1) := by decide +kernel
theorem dX0_makeBox_79 : decode cX0_makeBox 79 = .ok (.iconst 0, 1) := by decide +kernel
theorem dX0_makeBox_80 : decode cX0_makeBox 80 = .ok (.iload_n 3, 1) := by decide +kernel
theorem dX0_makeBox_81 : decode cX0_makeBox 81 = .ok (.iload 5, 2) := by decide +kernel
theorem dX0_makeBox_83 : decode cX0_makeBox 83 = .ok (.invokevirtual 65, 3) := by decide +kernel
theorem dX0_makeBox_86 : decode cX0_makeBox 86 = .ok (.aload_n 0, 1) := by decide +kernel
theorem dX0_makeBox_87 : decode cX0_makeBox 87 = .ok (.iconst 4, 1) := by decide +kernel
theorem dX0_makeBox_88 : decode cX0_makeBox 88 = .ok (.iconst 0, 1) := by decide +kernel
theorem dX0_makeBox_89 : decode cX0_makeBox 89 = .ok (.iload 4, 2) := by decide +kernel
theorem dX0_makeBox_91 : decode cX0_makeBox 91 = .ok (.iload 6, 2) := by decide +kernel
theorem dX0_makeBox_93 : decode cX0_makeBox 93 = .ok (.invokevirtual 57, 3) := by decide +kernel
theorem dX0_makeBox_96 : decode cX0_makeBox 96 = .ok (.return_, 1) := by decide +kernel
abbrev cX0_start : ByteArray := prog_1_method_3_code
def yX0_start : MethodName := ⟨RX0, "start", "(I)V"⟩
theorem dX0_start_0 : decode cX0_start 0 = .ok (.aload_n 0, 1) := by decide +kernel
theorem dX0_start_1 : decode cX0_start 1 = .ok (.getfield 7, 3) := by decide +kernel
theorem dX0_start_4 : decode cX0_start 4 = .ok (.iload_n 1, 1) := by decide +kernel
theorem dX0_start_5 : decode cX0_start 5 = .ok (.iconst 0, 1) := by decide +kernel
theorem dX0_start_6 : decode cX0_start 6 = .ok (.iastore, 1) := by decide +kernel
theorem dX0_start_7 : decode cX0_start 7 = .ok (.aload_n 0, 1) := by decide +kernel
theorem dX0_start_8 : decode cX0_start 8 = .ok (.getfield 25, 3) := by decide +kernel
theorem dX0_start_11 : decode cX0_start 11 = .ok (.iload_n 1, 1) := by decide +kernel
theorem dX0_start_12 : decode cX0_start 12 = .ok (.iconst 0, 1) := by decide +kernel
theorem dX0_start_13 : decode cX0_start 13 = .ok (.iastore, 1) := by decide +kernel
theorem dX0_start_14 : decode cX0_start 14 = .ok (.return_, 1) := by decide +kernel
abbrev cX0_addRun : ByteArray := prog_1_method_4_code
def yX0_addRun : MethodName := ⟨RX0, "addRun", "(IIII)V"⟩
theorem dX0_addRun_0 : decode cX0_addRun 0 = .ok (.iload_n 1, 1) := by decide +kernel
theorem dX0_addRun_1 : decode cX0_addRun 1 = .ok (.sipush 288, 3) := by decide +kernel
theorem dX0_addRun_4 : decode cX0_addRun 4 = .ok (.imul, 1) := by decide +kernel
theorem dX0_addRun_5 : decode cX0_addRun 5 = .ok (.aload_n 0, 1) := by decide +kernel
theorem dX0_addRun_6 : decode cX0_addRun 6 = .ok (.getfield 25, 3) := by decide +kernel
theorem dX0_addRun_9 : decode cX0_addRun 9 = .ok (.iload_n 1, 1) := by decide +kernel
theorem dX0_addRun_10 : decode cX0_addRun 10 = .ok (.iaload, 1) := by decide +kernel
theorem dX0_addRun_11 : decode cX0_addRun 11 = .ok (.iadd, 1) := by decide +kernel
theorem dX0_addRun_12 : decode cX0_addRun 12 = .ok (.istore 5, 2) := by decide +kernel
theorem dX0_addRun_14 : decode cX0_addRun 14 = .ok (.aload_n 0, 1) := by decide +kernel
theorem dX0_addRun_15 : decode cX0_addRun 15 = .ok (.getfield 25, 3) := by decide +kernel
theorem dX0_addRun_18 : decode cX0_addRun 18 = .ok (.iload_n 1, 1) := by decide +kernel
theorem dX0_addRun_19 : decode cX0_addRun 19 = .ok (.iaload, 1) := by decide +kernel
theorem dX0_addRun_20 : decode cX0_addRun 20 = .ok (.iload_n 2, 1) := by decide +kernel
theorem dX0_addRun_21 : decode cX0_addRun 21 = .ok (.if_icmp .le 30, 3) := by decide +kernel
theorem dX0_addRun_24 : decode cX0_addRun 24 = .ok (.aload_n 0, 1) := by decide +kernel
theorem dX0_addRun_25 : decode cX0_addRun 25 = .ok (.getfield 31, 3) := by decide +kernel
theorem dX0_addRun_28 : decode cX0_addRun 28 = .ok (.iload 5, 2) := by decide +kernel
theorem dX0_addRun_30 : decode cX0_addRun 30 = .ok (.iconst 1, 1) := by decide +kernel
theorem dX0_addRun_31 : decode cX0_addRun 31 = .ok (.isub, 1) := by decide +kernel
theorem dX0_addRun_32 : decode cX0_addRun 32 = .ok (.iaload, 1) := by decide +kernel
theorem dX0_addRun_33 : decode cX0_addRun 33 = .ok (.iconst 1, 1) := by decide +kernel
theorem dX0_addRun_34 : decode cX0_addRun 34 = .ok (.iadd, 1) := by decide +kernel
theorem dX0_addRun_35 : decode cX0_addRun 35 = .ok (.iload_n 3, 1) := by decide +kernel
theorem dX0_addRun_36 : decode cX0_addRun 36 = .ok (.if_icmp .lt 15, 3) := by decide +kernel
theorem dX0_addRun_39 : decode cX0_addRun 39 = .ok (.aload_n 0, 1) := by decide +kernel
theorem dX0_addRun_40 : decode cX0_addRun 40 = .ok (.getfield 31, 3) := by decide +kernel
theorem dX0_addRun_43 : decode cX0_addRun 43 = .ok (.iload 5, 2) := by decide +kernel
theorem dX0_addRun_45 : decode cX0_addRun 45 = .ok (.iconst 1, 1) := by decide +kernel
theorem dX0_addRun_46 : decode cX0_addRun 46 = .ok (.isub, 1) := by decide +kernel
theorem dX0_addRun_47 : decode cX0_addRun 47 = .ok (.iload 4, 2) := by decide +kernel
theorem dX0_addRun_49 : decode cX0_addRun 49 = .ok (.iastore, 1) := by decide +kernel
theorem dX0_addRun_50 : decode cX0_addRun 50 = .ok (.return_, 1) := by decide +kernel
theorem dX0_addRun_51 : decode cX0_addRun 51 = .ok (.aload_n 0, 1) := by decide +kernel
theorem dX0_addRun_52 : decode cX0_addRun 52 = .ok (.getfield 25, 3) := by decide +kernel
theorem dX0_addRun_55 : decode cX0_addRun 55 = .ok (.iload_n 1, 1) := by decide +kernel
theorem dX0_addRun_56 : decode cX0_addRun 56 = .ok (.iaload, 1) := by decide +kernel
theorem dX0_addRun_57 : decode cX0_addRun 57 = .ok (.sipush 288, 3) := by decide +kernel
theorem dX0_addRun_60 : decode cX0_addRun 60 = .ok (.if_icmp .lt 4, 3) := by decide +kernel
theorem dX0_addRun_63 : decode cX0_addRun 63 = .ok (.return_, 1) := by decide +kernel
theorem dX0_addRun_64 : decode cX0_addRun 64 = .ok (.aload_n 0, 1) := by decide +kernel
theorem dX0_addRun_65 : decode cX0_addRun 65 = .ok (.getfield 28, 3) := by decide +kernel
theorem dX0_addRun_68 : decode cX0_addRun 68 = .ok (.iload 5, 2) := by decide +kernel
theorem dX0_addRun_70 : decode cX0_addRun 70 = .ok (.iload_n 3, 1) := by decide +kernel
theorem dX0_addRun_71 : decode cX0_addRun 71 = .ok (.iastore, 1) := by decide +kernel
theorem dX0_addRun_72 : decode cX0_addRun 72 = .ok (.aload_n 0, 1) := by decide +kernel
theorem dX0_addRun_73 : decode cX0_addRun 73 = .ok (.getfield 31, 3) := by decide +kernel
theorem dX0_addRun_76 : decode cX0_addRun 76 = .ok (.iload 5, 2) := by decide +kernel
theorem dX0_addRun_78 : decode cX0_addRun 78 = .ok (.iload 4, 2) := by decide +kernel
theorem dX0_addRun_80 : decode cX0_addRun 80 = .ok (.iastore, 1) := by decide +kernel
theorem dX0_addRun_81 : decode cX0_addRun 81 = .ok (.aload_n 0, 1) := by decide +kernel
theorem dX0_addRun_82 : decode cX0_addRun 82 = .ok (.getfield 25, 3) := by decide +kernel
theorem dX0_addRun_85 : decode cX0_addRun 85 = .ok (.iload_n 1, 1) := by decide +kernel
theorem dX0_addRun_86 : decode cX0_addRun 86 = .ok (.dup2, 1) := by decide +kernel
theorem dX0_addRun_87 : decode cX0_addRun 87 = .ok (.iaload, 1) := by decide +kernel
theorem dX0_addRun_88 : decode cX0_addRun 88 = .ok (.iconst 1, 1) := by decide +kernel
theorem dX0_addRun_89 : decode cX0_addRun 89 = .ok (.iadd, 1) := by decide +kernel
theorem dX0_addRun_90 : decode cX0_addRun 90 = .ok (.iastore, 1) := by decide +kernel
theorem dX0_addRun_91 : decode cX0_addRun 91 = .ok (.return_, 1) := by decide +kernel
abbrev cX0_endBand : ByteArray := prog_1_method_5_code
def yX0_endBand : MethodName := ⟨RX0, "endBand", "(IIII)V"⟩
theorem dX0_endBand_0 : decode cX0_endBand 0 = .ok (.aload_n 0, 1) := by decide +kernel
theorem dX0_endBand_1 : decode cX0_endBand 1 = .ok (.getfield 25, 3) := by decide +kernel
theorem dX0_endBand_4 : decode cX0_endBand 4 = .ok (.iload_n 1, 1) := by decide +kernel
theorem dX0_endBand_5 : decode cX0_endBand 5 = .ok (.iaload, 1) := by decide +kernel
theorem dX0_endBand_6 : decode cX0_endBand 6 = .ok (.iload_n 2, 1) := by decide +kernel
theorem dX0_endBand_7 : decode cX0_endBand 7 = .ok (.isub, 1) := by decide +kernel
theorem dX0_endBand_8 : decode cX0_endBand 8 = .ok (.istore 5, 2) := by decide +kernel
theorem dX0_endBand_10 : decode cX0_endBand 10 = .ok (.iload 5, 2) := by decide +kernel
theorem dX0_endBand_12 : decode cX0_endBand 12 = .ok (.ifCond .ne 4, 3) := by decide +kernel
theorem dX0_endBand_15 : decode cX0_endBand 15 = .ok (.return_, 1) := by decide +kernel
theorem dX0_endBand_16 : decode cX0_endBand 16 = .ok (.iload_n 1, 1) := by decide +kernel
theorem dX0_endBand_17 : decode cX0_endBand 17 = .ok (.bipush 24, 2) := by decide +kernel
theorem dX0_endBand_19 : decode cX0_endBand 19 = .ok (.imul, 1) := by decide +kernel
theorem dX0_endBand_20 : decode cX0_endBand 20 = .ok (.aload_n 0, 1) := by decide +kernel
theorem dX0_endBand_21 : decode cX0_endBand 21 = .ok (.getfield 7, 3) := by decide +kernel
theorem dX0_endBand_24 : decode cX0_endBand 24 = .ok (.iload_n 1, 1) := by decide +kernel
theorem dX0_endBand_25 : decode cX0_endBand 25 = .ok (.iaload, 1) := by decide +kernel
theorem dX0_endBand_26 : decode cX0_endBand 26 = .ok (.iadd, 1) := by decide +kernel
theorem dX0_endBand_27 : decode cX0_endBand 27 = .ok (.iconst 1, 1) := by decide +kernel
theorem dX0_endBand_28 : decode cX0_endBand 28 = .ok (.isub, 1) := by decide +kernel
theorem dX0_endBand_29 : decode cX0_endBand 29 = .ok (.istore 6, 2) := by decide +kernel
theorem dX0_endBand_31 : decode cX0_endBand 31 = .ok (.aload_n 0, 1) := by decide +kernel
theorem dX0_endBand_32 : decode cX0_endBand 32 = .ok (.getfield 7, 3) := by decide +kernel
theorem dX0_endBand_35 : decode cX0_endBand 35 = .ok (.iload_n 1, 1) := by decide +kernel
theorem dX0_endBand_36 : decode cX0_endBand 36 = .ok (.iaload, 1) := by decide +kernel
theorem dX0_endBand_37 : decode cX0_endBand 37 = .ok (.ifCond .le 78, 3) := by decide +kernel
theorem dX0_endBand_40 : decode cX0_endBand 40 = .ok (.aload_n 0, 1) := by decide +kernel
theorem dX0_endBand_41 : decode cX0_endBand 41 = .ok (.getfield 16, 3) := by decide +kernel
theorem dX0_endBand_44 : decode cX0_endBand 44 = .ok (.iload 6, 2) := by decide +kernel
theorem dX0_endBand_46 : decode cX0_endBand 46 = .ok (.iaload, 1) := by decide +kernel
theorem dX0_endBand_47 : decode cX0_endBand 47 = .ok (.iconst 1, 1) := by decide +kernel
theorem dX0_endBand_48 : decode cX0_endBand 48 = .ok (.iadd, 1) := by decide +kernel
theorem dX0_endBand_49 : decode cX0_endBand 49 = .ok (.iload_n 3, 1) := by decide +kernel
theorem dX0_endBand_50 : decode cX0_endBand 50 = .ok (.if_icmp .ne 65, 3) := by decide +kernel
theorem dX0_endBand_53 : decode cX0_endBand 53 = .ok (.aload_n 0, 1) := by decide +kernel
theorem dX0_endBand_54 : decode cX0_endBand 54 = .ok (.getfield 22, 3) := by decide +kernel
theorem dX0_endBand_57 : decode cX0_endBand 57 = .ok (.iload 6, 2) := by decide +kernel
theorem dX0_endBand_59 : decode cX0_endBand 59 = .ok (.iaload, 1) := by decide +kernel
theorem dX0_endBand_60 : decode cX0_endBand 60 = .ok (.iload 5, 2) := by decide +kernel
theorem dX0_endBand_62 : decode cX0_endBand 62 = .ok (.if_icmp .ne 53, 3) := by decide +kernel
theorem dX0_endBand_65 : decode cX0_endBand 65 = .ok (.aload_n 0, 1) := by decide +kernel
theorem dX0_endBand_66 : decode cX0_endBand 66 = .ok (.iload_n 1, 1) := by decide +kernel
theorem dX0_endBand_67 : decode cX0_endBand 67 = .ok (.sipush 288, 3) := by decide +kernel
theorem dX0_endBand_70 : decode cX0_endBand 70 = .ok (.imul, 1) := by decide +kernel
theorem dX0_endBand_71 : decode cX0_endBand 71 = .ok (.aload_n 0, 1) := by decide +kernel
theorem dX0_endBand_72 : decode cX0_endBand 72 = .ok (.getfield 19, 3) := by decide +kernel
theorem dX0_endBand_75 : decode cX0_endBand 75 = .ok (.iload 6, 2) := by decide +kernel
theorem dX0_endBand_77 : decode cX0_endBand 77 = .ok (.iaload, 1) := by decide +kernel
theorem dX0_endBand_78 : decode cX0_endBand 78 = .ok (.iadd, 1) := by decide +kernel
theorem dX0_endBand_79 : decode cX0_endBand 79 = .ok (.iload_n 1, 1) := by decide +kernel
theorem dX0_endBand_80 : decode cX0_endBand 80 = .ok (.sipush 288, 3) := by decide +kernel
theorem dX0_endBand_83 : decode cX0_endBand 83 = .ok (.imul, 1) := by decide +kernel
theorem dX0_endBand_84 : decode cX0_endBand 84 = .ok (.iload_n 2, 1) := by decide +kernel
theorem dX0_endBand_85 : decode cX0_endBand 85 = .ok (.iadd, 1) := by decide +kernel
theorem dX0_endBand_86 : decode cX0_endBand 86 = .ok (.iload 5, 2) := by decide +kernel
theorem dX0_endBand_88 : decode cX0_endBand 88 = .ok (.invokevirtual 34, 3) := by decide +kernel
theorem dX0_endBand_91 : decode cX0_endBand 91 = .ok (.istore 7, 2) := by decide +kernel
theorem dX0_endBand_93 : decode cX0_endBand 93 = .ok (.iload 7, 2) := by decide +kernel
theorem dX0_endBand_95 : decode cX0_endBand 95 = .ok (.ifCond .eq 20, 3) := by decide +kernel
theorem dX0_endBand_98 : decode cX0_endBand 98 = .ok (.aload_n 0, 1) := by decide +kernel
theorem dX0_endBand_99 : decode cX0_endBand 99 = .ok (.getfield 16, 3) := by decide +kernel
theorem dX0_endBand_102 : decode cX0_endBand 102 = .ok (.iload 6, 2) := by decide +kernel
theorem dX0_endBand_104 : decode cX0_endBand 104 = .ok (.iload 4, 2) := by decide +kernel
theorem dX0_endBand_106 : decode cX0_endBand 106 = .ok (.iastore, 1) := by decide +kernel
theorem dX0_endBand_107 : decode cX0_endBand 107 = .ok (.aload_n 0, 1) := by decide +kernel
theorem dX0_endBand_108 : decode cX0_endBand 108 = .ok (.getfield 25, 3) := by decide +kernel
theorem dX0_endBand_111 : decode cX0_endBand 111 = .ok (.iload_n 1, 1) := by decide +kernel
theorem dX0_endBand_112 : decode cX0_endBand 112 = .ok (.iload_n 2, 1) := by decide +kernel
theorem dX0_endBand_113 : decode cX0_endBand 113 = .ok (.iastore, 1) := by decide +kernel
theorem dX0_endBand_114 : decode cX0_endBand 114 = .ok (.return_, 1) := by decide +kernel
theorem dX0_endBand_115 : decode cX0_endBand 115 = .ok (.aload_n 0, 1) := by decide +kernel
theorem dX0_endBand_116 : decode cX0_endBand 116 = .ok (.getfield 7, 3) := by decide +kernel
theorem dX0_endBand_119 : decode cX0_endBand 119 = .ok (.iload_n 1, 1) := by decide +kernel
theorem dX0_endBand_120 : decode cX0_endBand 120 = .ok (.iaload, 1) := by decide +kernel
theorem dX0_endBand_121 : decode cX0_endBand 121 = .ok (.bipush 24, 2) := by decide +kernel
theorem dX0_endBand_123 : decode cX0_endBand 123 = .ok (.if_icmp .lt 4, 3) := by decide +kernel
theorem dX0_endBand_126 : decode cX0_endBand 126 = .ok (.return_, 1) := by decide +kernel
theorem dX0_endBand_127 : decode cX0_endBand 127 = .ok (.iload_n 1, 1) := by decide +kernel
theorem dX0_endBand_128 : decode cX0_endBand 128 = .ok (.bipush 24, 2) := by decide +kernel
theorem dX0_endBand_130 : decode cX0_endBand 130 = .ok (.imul, 1) := by decide +kernel
theorem dX0_endBand_131 : decode cX0_endBand 131 = .ok (.aload_n 0, 1) := by decide +kernel
theorem dX0_endBand_132 : decode cX0_endBand 132 = .ok (.getfield 7, 3) := by decide +kernel
theorem dX0_endBand_135 : decode cX0_endBand 135 = .ok (.iload_n 1, 1) := by decide +kernel
theorem dX0_endBand_136 : decode cX0_endBand 136 = .ok (.iaload, 1) := by decide +kernel
theorem dX0_endBand_137 : decode cX0_endBand 137 = .ok (.iadd, 1) := by decide +kernel
theorem dX0_endBand_138 : decode cX0_endBand 138 = .ok (.istore 7, 2) := by decide +kernel
theorem dX0_endBand_140 : decode cX0_endBand 140 = .ok (.aload_n 0, 1) := by decide +kernel
theorem dX0_endBand_141 : decode cX0_endBand 141 = .ok (.getfield 13, 3) := by decide +kernel
theorem dX0_endBand_144 : decode cX0_endBand 144 = .ok (.iload 7, 2) := by decide +kernel
theorem dX0_endBand_146 : decode cX0_endBand 146 = .ok (.iload_n 3, 1) := by decide +kernel
theorem dX0_endBand_147 : decode cX0_endBand 147 = .ok (.iastore, 1) := by decide +kernel
theorem dX0_endBand_148 : decode cX0_endBand 148 = .ok (.aload_n 0, 1) := by decide +kernel
theorem dX0_endBand_149 : decode cX0_endBand 149 = .ok (.getfield 16, 3) := by decide +kernel
theorem dX0_endBand_152 : decode cX0_endBand 152 = .ok (.iload 7, 2) := by decide +kernel
theorem dX0_endBand_154 : decode cX0_endBand 154 = .ok (.iload 4, 2) := by decide +kernel
theorem dX0_endBand_156 : decode cX0_endBand 156 = .ok (.iastore, 1) := by decide +kernel
theorem dX0_endBand_157 : decode cX0_endBand 157 = .ok (.aload_n 0, 1) := by decide +kernel
theorem dX0_endBand_158 : decode cX0_endBand 158 = .ok (.getfield 19, 3) := by decide +kernel
theorem dX0_endBand_161 : decode cX0_endBand 161 = .ok (.iload 7, 2) := by decide +kernel
theorem dX0_endBand_163 : decode cX0_endBand 163 = .ok (.iload_n 2, 1) := by decide +kernel
theorem dX0_endBand_164 : decode cX0_endBand 164 = .ok (.iastore, 1) := by decide +kernel
theorem dX0_endBand_165 : decode cX0_endBand 165 = .ok (.aload_n 0, 1) := by decide +kernel
theorem dX0_endBand_166 : decode cX0_endBand 166 = .ok (.getfield 22, 3) := by decide +kernel
theorem dX0_endBand_169 : decode cX0_endBand 169 = .ok (.iload 7, 2) := by decide +kernel
theorem dX0_endBand_171 : decode cX0_endBand 171 = .ok (.iload 5, 2) := by decide +kernel
theorem dX0_endBand_173 : decode cX0_endBand 173 = .ok (.iastore, 1) := by decide +kernel
theorem dX0_endBand_174 : decode cX0_endBand 174 = .ok (.aload_n 0, 1) := by decide +kernel
theorem dX0_endBand_175 : decode cX0_endBand 175 = .ok (.getfield 7, 3) := by decide +kernel
theorem dX0_endBand_178 : decode cX0_endBand 178 = .ok (.iload_n 1, 1) := by decide +kernel
theorem dX0_endBand_179 : decode cX0_endBand 179 = .ok (.dup2, 1) := by decide +kernel
theorem dX0_endBand_180 : decode cX0_endBand 180 = .ok (.iaload, 1) := by decide +kernel
theorem dX0_endBand_181 : decode cX0_endBand 181 = .ok (.iconst 1, 1) := by decide +kernel
theorem dX0_endBand_182 : decode cX0_endBand 182 = .ok (.iadd, 1) := by decide +kernel
theorem dX0_endBand_183 : decode cX0_endBand 183 = .ok (.iastore, 1) := by decide +kernel
theorem dX0_endBand_184 : decode cX0_endBand 184 = .ok (.return_, 1) := by decide +kernel
abbrev cX0_equalRuns : ByteArray := prog_1_method_6_code
def yX0_equalRuns : MethodName := ⟨RX0, "equalRuns", "(III)Z"⟩
theorem dX0_equalRuns_0 : decode cX0_equalRuns 0 = .ok (.iconst 0, 1) := by decide +kernel
theorem dX0_equalRuns_1 : decode cX0_equalRuns 1 = .ok (.istore 4, 2) := by decide +kernel
theorem dX0_equalRuns_3 : decode cX0_equalRuns 3 = .ok (.iload 4, 2) := by decide +kernel
theorem dX0_equalRuns_5 : decode cX0_equalRuns 5 = .ok (.iload_n 3, 1) := by decide +kernel
theorem dX0_equalRuns_6 : decode cX0_equalRuns 6 = .ok (.if_icmp .ge 53, 3) := by decide +kernel
theorem dX0_equalRuns_9 : decode cX0_equalRuns 9 = .ok (.aload_n 0, 1) := by decide +kernel
theorem dX0_equalRuns_10 : decode cX0_equalRuns 10 = .ok (.getfield 28, 3) := by decide +kernel
theorem dX0_equalRuns_13 : decode cX0_equalRuns 13 = .ok (.iload_n 1, 1) := by decide +kernel
theorem dX0_equalRuns_14 : decode cX0_equalRuns 14 = .ok (.iload 4, 2) := by decide +kernel
theorem dX0_equalRuns_16 : decode cX0_equalRuns 16 = .ok (.iadd, 1) := by decide +kernel
theorem dX0_equalRuns_17 : decode cX0_equalRuns 17 = .ok (.iaload, 1) := by decide +kernel
theorem dX0_equalRuns_18 : decode cX0_equalRuns 18 = .ok (.aload_n 0, 1) := by decide +kernel
theorem dX0_equalRuns_19 : decode cX0_equalRuns 19 = .ok (.getfield 28, 3) := by decide +kernel
theorem dX0_equalRuns_22 : decode cX0_equalRuns 22 = .ok (.iload_n 2, 1) := by decide +kernel
theorem dX0_equalRuns_23 : decode cX0_equalRuns 23 = .ok (.iload 4, 2) := by decide +kernel
theorem dX0_equalRuns_25 : decode cX0_equalRuns 25 = .ok (.iadd, 1) := by decide +kernel
theorem dX0_equalRuns_26 : decode cX0_equalRuns 26 = .ok (.iaload, 1) := by decide +kernel
theorem dX0_equalRuns_27 : decode cX0_equalRuns 27 = .ok (.if_icmp .ne 24, 3) := by decide +kernel
theorem dX0_equalRuns_30 : decode cX0_equalRuns 30 = .ok (.aload_n 0, 1) := by decide +kernel
theorem dX0_equalRuns_31 : decode cX0_equalRuns 31 = .ok (.getfield 31, 3) := by decide +kernel
theorem dX0_equalRuns_34 : decode cX0_equalRuns 34 = .ok (.iload_n 1, 1) := by decide +kernel
theorem dX0_equalRuns_35 : decode cX0_equalRuns 35 = .ok (.iload 4, 2) := by decide +kernel
theorem dX0_equalRuns_37 : decode cX0_equalRuns 37 = .ok (.iadd, 1) := by decide +kernel
theorem dX0_equalRuns_38 : decode cX0_equalRuns 38 = .ok (.iaload, 1) := by decide +kernel
theorem dX0_equalRuns_39 : decode cX0_equalRuns 39 = .ok (.aload_n 0, 1) := by decide +kernel
theorem dX0_equalRuns_40 : decode cX0_equalRuns 40 = .ok (.getfield 31, 3) := by decide +kernel
theorem dX0_equalRuns_43 : decode cX0_equalRuns 43 = .ok (.iload_n 2, 1) := by decide +kernel
theorem dX0_equalRuns_44 : decode cX0_equalRuns 44 = .ok (.iload 4, 2) := by decide +kernel
theorem dX0_equalRuns_46 : decode cX0_equalRuns 46 = .ok (.iadd, 1) := by decide +kernel
theorem dX0_equalRuns_47 : decode cX0_equalRuns 47 = .ok (.iaload, 1) := by decide +kernel
theorem dX0_equalRuns_48 : decode cX0_equalRuns 48 = .ok (.if_icmp .eq 5, 3) := by decide +kernel
theorem dX0_equalRuns_51 : decode cX0_equalRuns 51 = .ok (.iconst 0, 1) := by decide +kernel
theorem dX0_equalRuns_52 : decode cX0_equalRuns 52 = .ok (.ireturn, 1) := by decide +kernel
theorem dX0_equalRuns_53 : decode cX0_equalRuns 53 = .ok (.iinc 4 1, 3) := by decide +kernel
theorem dX0_equalRuns_56 : decode cX0_equalRuns 56 = .ok (.goto (-53), 3) := by decide +kernel
theorem dX0_equalRuns_59 : decode cX0_equalRuns 59 = .ok (.iconst 1, 1) := by decide +kernel
theorem dX0_equalRuns_60 : decode cX0_equalRuns 60 = .ok (.ireturn, 1) := by decide +kernel
end
section
set_option maxRecDepth 100000
abbrev cX0_merge : ByteArray := prog_1_method_12_code
def yX0_merge : MethodName := ⟨RX0, "merge", "(III)V"⟩
theorem dX0_merge_0 : decode cX0_merge 0 = .ok (.aload_n 0, 1) := by decide +kernel
theorem dX0_merge_1 : decode cX0_merge 1 = .ok (.iconst 3, 1) := by decide +kernel
theorem dX0_merge_2 : decode cX0_merge 2 = .ok (.invokevirtual 38, 3) := by decide +kernel
theorem dX0_merge_5 : decode cX0_merge 5 = .ok (.iconst 0, 1) := by decide +kernel
theorem dX0_merge_6 : decode cX0_merge 6 = .ok (.istore 4, 2) := by decide +kernel
theorem dX0_merge_8 : decode cX0_merge 8 = .ok (.iconst 0, 1) := by decide +kernel
theorem dX0_merge_9 : decode cX0_merge 9 = .ok (.istore 5, 2) := by decide +kernel
theorem dX0_merge_11 : decode cX0_merge 11 = .ok (.iload 5, 2) := by decide +kernel
theorem dX0_merge_13 : decode cX0_merge 13 = .ok (.bipush 24, 2) := by decide +kernel
theorem dX0_merge_15 : decode cX0_merge 15 = .ok (.if_icmp .ge 130, 3) := by decide +kernel
theorem dX0_merge_18 : decode cX0_merge 18 = .ok (.iload 4, 2) := by decide +kernel
theorem dX0_merge_20 : decode cX0_merge 20 = .ok (.bipush 24, 2) := by decide +kernel
theorem dX0_merge_22 : decode cX0_merge 22 = .ok (.if_icmp .ge 123, 3) := by decide +kernel
theorem dX0_merge_25 : decode cX0_merge 25 = .ok (.aload_n 0, 1) := by decide +kernel
theorem dX0_merge_26 : decode cX0_merge 26 = .ok (.iload_n 1, 1) := by decide +kernel
theorem dX0_merge_27 : decode cX0_merge 27 = .ok (.iload 4, 2) := by decide +kernel
theorem dX0_merge_29 : decode cX0_merge 29 = .ok (.invokevirtual 42, 3) := by decide +kernel
theorem dX0_merge_32 : decode cX0_merge 32 = .ok (.istore 6, 2) := by decide +kernel
theorem dX0_merge_34 : decode cX0_merge 34 = .ok (.aload_n 0, 1) := by decide +kernel
theorem dX0_merge_35 : decode cX0_merge 35 = .ok (.iload_n 2, 1) := by decide +kernel
theorem dX0_merge_36 : decode cX0_merge 36 = .ok (.iload 4, 2) := by decide +kernel
theorem dX0_merge_38 : decode cX0_merge 38 = .ok (.invokevirtual 42, 3) := by decide +kernel
theorem dX0_merge_41 : decode cX0_merge 41 = .ok (.istore 7, 2) := by decide +kernel
theorem dX0_merge_43 : decode cX0_merge 43 = .ok (.aload_n 0, 1) := by decide +kernel
theorem dX0_merge_44 : decode cX0_merge 44 = .ok (.iload_n 1, 1) := by decide +kernel
theorem dX0_merge_45 : decode cX0_merge 45 = .ok (.iload 6, 2) := by decide +kernel
theorem dX0_merge_47 : decode cX0_merge 47 = .ok (.iload 4, 2) := by decide +kernel
theorem dX0_merge_49 : decode cX0_merge 49 = .ok (.invokevirtual 46, 3) := by decide +kernel
theorem dX0_merge_52 : decode cX0_merge 52 = .ok (.istore 8, 2) := by decide +kernel
theorem dX0_merge_54 : decode cX0_merge 54 = .ok (.aload_n 0, 1) := by decide +kernel
theorem dX0_merge_55 : decode cX0_merge 55 = .ok (.iload_n 2, 1) := by decide +kernel
theorem dX0_merge_56 : decode cX0_merge 56 = .ok (.iload 7, 2) := by decide +kernel
theorem dX0_merge_58 : decode cX0_merge 58 = .ok (.iload 4, 2) := by decide +kernel
theorem dX0_merge_60 : decode cX0_merge 60 = .ok (.invokevirtual 46, 3) := by decide +kernel
theorem dX0_merge_63 : decode cX0_merge 63 = .ok (.istore 9, 2) := by decide +kernel
theorem dX0_merge_65 : decode cX0_merge 65 = .ok (.iload 8, 2) := by decide +kernel
theorem dX0_merge_67 : decode cX0_merge 67 = .ok (.iload 9, 2) := by decide +kernel
theorem dX0_merge_69 : decode cX0_merge 69 = .ok (.if_icmp .ge 8, 3) := by decide +kernel
theorem dX0_merge_72 : decode cX0_merge 72 = .ok (.iload 8, 2) := by decide +kernel
theorem dX0_merge_74 : decode cX0_merge 74 = .ok (.goto 5, 3) := by decide +kernel
theorem dX0_merge_77 : decode cX0_merge 77 = .ok (.iload 9, 2) := by decide +kernel
theorem dX0_merge_79 : decode cX0_merge 79 = .ok (.istore 10, 2) := by decide +kernel
theorem dX0_merge_81 : decode cX0_merge 81 = .ok (.aload_n 0, 1) := by decide +kernel
theorem dX0_merge_82 : decode cX0_merge 82 = .ok (.iload_n 1, 1) := by decide +kernel
theorem dX0_merge_83 : decode cX0_merge 83 = .ok (.iload 6, 2) := by decide +kernel
theorem dX0_merge_85 : decode cX0_merge 85 = .ok (.iload 4, 2) := by decide +kernel
theorem dX0_merge_87 : decode cX0_merge 87 = .ok (.invokevirtual 50, 3) := by decide +kernel
theorem dX0_merge_90 : decode cX0_merge 90 = .ok (.istore 11, 2) := by decide +kernel
theorem dX0_merge_92 : decode cX0_merge 92 = .ok (.aload_n 0, 1) := by decide +kernel
theorem dX0_merge_93 : decode cX0_merge 93 = .ok (.iload_n 2, 1) := by decide +kernel
theorem dX0_merge_94 : decode cX0_merge 94 = .ok (.iload 7, 2) := by decide +kernel
theorem dX0_merge_96 : decode cX0_merge 96 = .ok (.iload 4, 2) := by decide +kernel
theorem dX0_merge_98 : decode cX0_merge 98 = .ok (.invokevirtual 50, 3) := by decide +kernel
theorem dX0_merge_101 : decode cX0_merge 101 = .ok (.istore 12, 2) := by decide +kernel
theorem dX0_merge_103 : decode cX0_merge 103 = .ok (.aload_n 0, 1) := by decide +kernel
theorem dX0_merge_104 : decode cX0_merge 104 = .ok (.getfield 25, 3) := by decide +kernel
theorem dX0_merge_107 : decode cX0_merge 107 = .ok (.iconst 3, 1) := by decide +kernel
theorem dX0_merge_108 : decode cX0_merge 108 = .ok (.iaload, 1) := by decide +kernel
theorem dX0_merge_109 : decode cX0_merge 109 = .ok (.istore 13, 2) := by decide +kernel
theorem dX0_merge_111 : decode cX0_merge 111 = .ok (.aload_n 0, 1) := by decide +kernel
theorem dX0_merge_112 : decode cX0_merge 112 = .ok (.iload 11, 2) := by decide +kernel
theorem dX0_merge_114 : decode cX0_merge 114 = .ok (.iload_n 1, 1) := by decide +kernel
theorem dX0_merge_115 : decode cX0_merge 115 = .ok (.iload 12, 2) := by decide +kernel
theorem dX0_merge_117 : decode cX0_merge 117 = .ok (.iload_n 2, 1) := by decide +kernel
theorem dX0_merge_118 : decode cX0_merge 118 = .ok (.iload_n 3, 1) := by decide +kernel
theorem dX0_merge_119 : decode cX0_merge 119 = .ok (.invokevirtual 53, 3) := by decide +kernel
theorem dX0_merge_122 : decode cX0_merge 122 = .ok (.aload_n 0, 1) := by decide +kernel
theorem dX0_merge_123 : decode cX0_merge 123 = .ok (.iconst 3, 1) := by decide +kernel
theorem dX0_merge_124 : decode cX0_merge 124 = .ok (.iload 13, 2) := by decide +kernel
theorem dX0_merge_126 : decode cX0_merge 126 = .ok (.iload 4, 2) := by decide +kernel
theorem dX0_merge_128 : decode cX0_merge 128 = .ok (.iload 10, 2) := by decide +kernel
theorem dX0_merge_130 : decode cX0_merge 130 = .ok (.iconst 1, 1) := by decide +kernel
theorem dX0_merge_131 : decode cX0_merge 131 = .ok (.isub, 1) := by decide +kernel
theorem dX0_merge_132 : decode cX0_merge 132 = .ok (.invokevirtual 57, 3) := by decide +kernel
theorem dX0_merge_135 : decode cX0_merge 135 = .ok (.iload 10, 2) := by decide +kernel
theorem dX0_merge_137 : decode cX0_merge 137 = .ok (.istore 4, 2) := by decide +kernel
theorem dX0_merge_139 : decode cX0_merge 139 = .ok (.iinc 5 1, 3) := by decide +kernel
theorem dX0_merge_142 : decode cX0_merge 142 = .ok (.goto (-131), 3) := by decide +kernel
theorem dX0_merge_145 : decode cX0_merge 145 = .ok (.return_, 1) := by decide +kernel
abbrev cX0_bandAt : ByteArray := prog_1_method_9_code
def yX0_bandAt : MethodName := ⟨RX0, "bandAt", "(II)I"⟩
theorem dX0_bandAt_0 : decode cX0_bandAt 0 = .ok (.iconst 0, 1) := by decide +kernel
theorem dX0_bandAt_1 : decode cX0_bandAt 1 = .ok (.istore_n 3, 1) := by decide +kernel
theorem dX0_bandAt_2 : decode cX0_bandAt 2 = .ok (.iload_n 3, 1) := by decide +kernel
theorem dX0_bandAt_3 : decode cX0_bandAt 3 = .ok (.aload_n 0, 1) := by decide +kernel
theorem dX0_bandAt_4 : decode cX0_bandAt 4 = .ok (.getfield 7, 3) := by decide +kernel
theorem dX0_bandAt_7 : decode cX0_bandAt 7 = .ok (.iload_n 1, 1) := by decide +kernel
theorem dX0_bandAt_8 : decode cX0_bandAt 8 = .ok (.iaload, 1) := by decide +kernel
theorem dX0_bandAt_9 : decode cX0_bandAt 9 = .ok (.if_icmp .ge 24, 3) := by decide +kernel
theorem dX0_bandAt_12 : decode cX0_bandAt 12 = .ok (.aload_n 0, 1) := by decide +kernel
theorem dX0_bandAt_13 : decode cX0_bandAt 13 = .ok (.getfield 16, 3) := by decide +kernel
theorem dX0_bandAt_16 : decode cX0_bandAt 16 = .ok (.iload_n 1, 1) := by decide +kernel
theorem dX0_bandAt_17 : decode cX0_bandAt 17 = .ok (.bipush 24, 2) := by decide +kernel
theorem dX0_bandAt_19 : decode cX0_bandAt 19 = .ok (.imul, 1) := by decide +kernel
theorem dX0_bandAt_20 : decode cX0_bandAt 20 = .ok (.iload_n 3, 1) := by decide +kernel
theorem dX0_bandAt_21 : decode cX0_bandAt 21 = .ok (.iadd, 1) := by decide +kernel
theorem dX0_bandAt_22 : decode cX0_bandAt 22 = .ok (.iaload, 1) := by decide +kernel
theorem dX0_bandAt_23 : decode cX0_bandAt 23 = .ok (.iload_n 2, 1) := by decide +kernel
theorem dX0_bandAt_24 : decode cX0_bandAt 24 = .ok (.if_icmp .ge 9, 3) := by decide +kernel
theorem dX0_bandAt_27 : decode cX0_bandAt 27 = .ok (.iinc 3 1, 3) := by decide +kernel
theorem dX0_bandAt_30 : decode cX0_bandAt 30 = .ok (.goto (-28), 3) := by decide +kernel
theorem dX0_bandAt_33 : decode cX0_bandAt 33 = .ok (.iload_n 3, 1) := by decide +kernel
theorem dX0_bandAt_34 : decode cX0_bandAt 34 = .ok (.ireturn, 1) := by decide +kernel
abbrev cX0_changeAfter : ByteArray := prog_1_method_10_code
def yX0_changeAfter : MethodName := ⟨RX0, "changeAfter", "(III)I"⟩
theorem dX0_changeAfter_0 : decode cX0_changeAfter 0 = .ok (.iload_n 2, 1) := by decide +kernel
theorem dX0_changeAfter_1 : decode cX0_changeAfter 1 = .ok (.aload_n 0, 1) := by decide +kernel
theorem dX0_changeAfter_2 : decode cX0_changeAfter 2 = .ok (.getfield 7, 3) := by decide +kernel
theorem dX0_changeAfter_5 : decode cX0_changeAfter 5 = .ok (.iload_n 1, 1) := by decide +kernel
theorem dX0_changeAfter_6 : decode cX0_changeAfter 6 = .ok (.iaload, 1) := by decide +kernel
theorem dX0_changeAfter_7 : decode cX0_changeAfter 7 = .ok (.if_icmp .lt 6, 3) := by decide +kernel
theorem dX0_changeAfter_10 : decode cX0_changeAfter 10 = .ok (.bipush 24, 2) := by decide +kernel
theorem dX0_changeAfter_12 : decode cX0_changeAfter 12 = .ok (.ireturn, 1) := by decide +kernel
theorem dX0_changeAfter_13 : decode cX0_changeAfter 13 = .ok (.iload_n 1, 1) := by decide +kernel
theorem dX0_changeAfter_14 : decode cX0_changeAfter 14 = .ok (.bipush 24, 2) := by decide +kernel
theorem dX0_changeAfter_16 : decode cX0_changeAfter 16 = .ok (.imul, 1) := by decide +kernel
theorem dX0_changeAfter_17 : decode cX0_changeAfter 17 = .ok (.iload_n 2, 1) := by decide +kernel
theorem dX0_changeAfter_18 : decode cX0_changeAfter 18 = .ok (.iadd, 1) := by decide +kernel
theorem dX0_changeAfter_19 : decode cX0_changeAfter 19 = .ok (.istore 4, 2) := by decide +kernel
theorem dX0_changeAfter_21 : decode cX0_changeAfter 21 = .ok (.aload_n 0, 1) := by decide +kernel
theorem dX0_changeAfter_22 : decode cX0_changeAfter 22 = .ok (.getfield 13, 3) := by decide +kernel
theorem dX0_changeAfter_25 : decode cX0_changeAfter 25 = .ok (.iload 4, 2) := by decide +kernel
theorem dX0_changeAfter_27 : decode cX0_changeAfter 27 = .ok (.iaload, 1) := by decide +kernel
theorem dX0_changeAfter_28 : decode cX0_changeAfter 28 = .ok (.iload_n 3, 1) := by decide +kernel
theorem dX0_changeAfter_29 : decode cX0_changeAfter 29 = .ok (.if_icmp .le 11, 3) := by decide +kernel
theorem dX0_changeAfter_32 : decode cX0_changeAfter 32 = .ok (.aload_n 0, 1) := by decide +kernel
theorem dX0_changeAfter_33 : decode cX0_changeAfter 33 = .ok (.getfield 13, 3) := by decide +kernel
theorem dX0_changeAfter_36 : decode cX0_changeAfter 36 = .ok (.iload 4, 2) := by decide +kernel
theorem dX0_changeAfter_38 : decode cX0_changeAfter 38 = .ok (.iaload, 1) := by decide +kernel
theorem dX0_changeAfter_39 : decode cX0_changeAfter 39 = .ok (.ireturn, 1) := by decide +kernel
theorem dX0_changeAfter_40 : decode cX0_changeAfter 40 = .ok (.aload_n 0, 1) := by decide +kernel
theorem dX0_changeAfter_41 : decode cX0_changeAfter 41 = .ok (.getfield 16, 3) := by decide +kernel
theorem dX0_changeAfter_44 : decode cX0_changeAfter 44 = .ok (.iload 4, 2) := by decide +kernel
theorem dX0_changeAfter_46 : decode cX0_changeAfter 46 = .ok (.iaload, 1) := by decide +kernel
theorem dX0_changeAfter_47 : decode cX0_changeAfter 47 = .ok (.iconst 1, 1) := by decide +kernel
theorem dX0_changeAfter_48 : decode cX0_changeAfter 48 = .ok (.iadd, 1) := by decide +kernel
theorem dX0_changeAfter_49 : decode cX0_changeAfter 49 = .ok (.ireturn, 1) := by decide +kernel
abbrev cX0_covering : ByteArray := prog_1_method_11_code
def yX0_covering : MethodName := ⟨RX0, "covering", "(III)I"⟩
theorem dX0_covering_0 : decode cX0_covering 0 = .ok (.iload_n 2, 1) := by decide +kernel
theorem dX0_covering_1 : decode cX0_covering 1 = .ok (.aload_n 0, 1) := by decide +kernel
theorem dX0_covering_2 : decode cX0_covering 2 = .ok (.getfield 7, 3) := by decide +kernel
theorem dX0_covering_5 : decode cX0_covering 5 = .ok (.iload_n 1, 1) := by decide +kernel
theorem dX0_covering_6 : decode cX0_covering 6 = .ok (.iaload, 1) := by decide +kernel
theorem dX0_covering_7 : decode cX0_covering 7 = .ok (.if_icmp .lt 5, 3) := by decide +kernel
theorem dX0_covering_10 : decode cX0_covering 10 = .ok (.iconst (-1), 1) := by decide +kernel
theorem dX0_covering_11 : decode cX0_covering 11 = .ok (.ireturn, 1) := by decide +kernel
theorem dX0_covering_12 : decode cX0_covering 12 = .ok (.iload_n 1, 1) := by decide +kernel
theorem dX0_covering_13 : decode cX0_covering 13 = .ok (.bipush 24, 2) := by decide +kernel
theorem dX0_covering_15 : decode cX0_covering 15 = .ok (.imul, 1) := by decide +kernel
theorem dX0_covering_16 : decode cX0_covering 16 = .ok (.iload_n 2, 1) := by decide +kernel
theorem dX0_covering_17 : decode cX0_covering 17 = .ok (.iadd, 1) := by decide +kernel
theorem dX0_covering_18 : decode cX0_covering 18 = .ok (.istore 4, 2) := by decide +kernel
theorem dX0_covering_20 : decode cX0_covering 20 = .ok (.aload_n 0, 1) := by decide +kernel
theorem dX0_covering_21 : decode cX0_covering 21 = .ok (.getfield 13, 3) := by decide +kernel
theorem dX0_covering_24 : decode cX0_covering 24 = .ok (.iload 4, 2) := by decide +kernel
theorem dX0_covering_26 : decode cX0_covering 26 = .ok (.iaload, 1) := by decide +kernel
theorem dX0_covering_27 : decode cX0_covering 27 = .ok (.iload_n 3, 1) := by decide +kernel
theorem dX0_covering_28 : decode cX0_covering 28 = .ok (.if_icmp .gt 8, 3) := by decide +kernel
theorem dX0_covering_31 : decode cX0_covering 31 = .ok (.iload 4, 2) := by decide +kernel
theorem dX0_covering_33 : decode cX0_covering 33 = .ok (.goto 4, 3) := by decide +kernel
theorem dX0_covering_36 : decode cX0_covering 36 = .ok (.iconst (-1), 1) := by decide +kernel
theorem dX0_covering_37 : decode cX0_covering 37 = .ok (.ireturn, 1) := by decide +kernel
abbrev cX0_mergeRuns : ByteArray := prog_1_method_13_code
def yX0_mergeRuns : MethodName := ⟨RX0, "mergeRuns", "(IIIII)V"⟩
theorem dX0_mergeRuns_0 : decode cX0_mergeRuns 0 = .ok (.aload_n 0, 1) := by decide +kernel
theorem dX0_mergeRuns_1 : decode cX0_mergeRuns 1 = .ok (.getfield 25, 3) := by decide +kernel
theorem dX0_mergeRuns_4 : decode cX0_mergeRuns 4 = .ok (.iconst 3, 1) := by decide +kernel
theorem dX0_mergeRuns_5 : decode cX0_mergeRuns 5 = .ok (.iaload, 1) := by decide +kernel
theorem dX0_mergeRuns_6 : decode cX0_mergeRuns 6 = .ok (.istore 6, 2) := by decide +kernel
theorem dX0_mergeRuns_8 : decode cX0_mergeRuns 8 = .ok (.iload_n 1, 1) := by decide +kernel
theorem dX0_mergeRuns_9 : decode cX0_mergeRuns 9 = .ok (.ifCond .ge 7, 3) := by decide +kernel
theorem dX0_mergeRuns_12 : decode cX0_mergeRuns 12 = .ok (.iconst 0, 1) := by decide +kernel
theorem dX0_mergeRuns_13 : decode cX0_mergeRuns 13 = .ok (.goto 15, 3) := by decide +kernel
theorem dX0_mergeRuns_16 : decode cX0_mergeRuns 16 = .ok (.iload_n 2, 1) := by decide +kernel
theorem dX0_mergeRuns_17 : decode cX0_mergeRuns 17 = .ok (.sipush 288, 3) := by decide +kernel
theorem dX0_mergeRuns_20 : decode cX0_mergeRuns 20 = .ok (.imul, 1) := by decide +kernel
theorem dX0_mergeRuns_21 : decode cX0_mergeRuns 21 = .ok (.aload_n 0, 1) := by decide +kernel
theorem dX0_mergeRuns_22 : decode cX0_mergeRuns 22 = .ok (.getfield 19, 3) := by decide +kernel
theorem dX0_mergeRuns_25 : decode cX0_mergeRuns 25 = .ok (.iload_n 1, 1) := by decide +kernel
theorem dX0_mergeRuns_26 : decode cX0_mergeRuns 26 = .ok (.iaload, 1) := by decide +kernel
theorem dX0_mergeRuns_27 : decode cX0_mergeRuns 27 = .ok (.iadd, 1) := by decide +kernel
theorem dX0_mergeRuns_28 : decode cX0_mergeRuns 28 = .ok (.istore 7, 2) := by decide +kernel
theorem dX0_mergeRuns_30 : decode cX0_mergeRuns 30 = .ok (.iload_n 1, 1) := by decide +kernel
theorem dX0_mergeRuns_31 : decode cX0_mergeRuns 31 = .ok (.ifCond .ge 7, 3) := by decide +kernel
theorem dX0_mergeRuns_34 : decode cX0_mergeRuns 34 = .ok (.iconst 0, 1) := by decide +kernel
theorem dX0_mergeRuns_35 : decode cX0_mergeRuns 35 = .ok (.goto 12, 3) := by decide +kernel
theorem dX0_mergeRuns_38 : decode cX0_mergeRuns 38 = .ok (.iload 7, 2) := by decide +kernel
theorem dX0_mergeRuns_40 : decode cX0_mergeRuns 40 = .ok (.aload_n 0, 1) := by decide +kernel
theorem dX0_mergeRuns_41 : decode cX0_mergeRuns 41 = .ok (.getfield 22, 3) := by decide +kernel
theorem dX0_mergeRuns_44 : decode cX0_mergeRuns 44 = .ok (.iload_n 1, 1) := by decide +kernel
theorem dX0_mergeRuns_45 : decode cX0_mergeRuns 45 = .ok (.iaload, 1) := by decide +kernel
theorem dX0_mergeRuns_46 : decode cX0_mergeRuns 46 = .ok (.iadd, 1) := by decide +kernel
theorem dX0_mergeRuns_47 : decode cX0_mergeRuns 47 = .ok (.istore 8, 2) := by decide +kernel
theorem dX0_mergeRuns_49 : decode cX0_mergeRuns 49 = .ok (.iload_n 3, 1) := by decide +kernel
theorem dX0_mergeRuns_50 : decode cX0_mergeRuns 50 = .ok (.ifCond .ge 7, 3) := by decide +kernel
theorem dX0_mergeRuns_53 : decode cX0_mergeRuns 53 = .ok (.iconst 0, 1) := by decide +kernel
theorem dX0_mergeRuns_54 : decode cX0_mergeRuns 54 = .ok (.goto 16, 3) := by decide +kernel
theorem dX0_mergeRuns_57 : decode cX0_mergeRuns 57 = .ok (.iload 4, 2) := by decide +kernel
theorem dX0_mergeRuns_59 : decode cX0_mergeRuns 59 = .ok (.sipush 288, 3) := by decide +kernel
theorem dX0_mergeRuns_62 : decode cX0_mergeRuns 62 = .ok (.imul, 1) := by decide +kernel
theorem dX0_mergeRuns_63 : decode cX0_mergeRuns 63 = .ok (.aload_n 0, 1) := by decide +kernel
theorem dX0_mergeRuns_64 : decode cX0_mergeRuns 64 = .ok (.getfield 19, 3) := by decide +kernel
theorem dX0_mergeRuns_67 : decode cX0_mergeRuns 67 = .ok (.iload_n 3, 1) := by decide +kernel
theorem dX0_mergeRuns_68 : decode cX0_mergeRuns 68 = .ok (.iaload, 1) := by decide +kernel
theorem dX0_mergeRuns_69 : decode cX0_mergeRuns 69 = .ok (.iadd, 1) := by decide +kernel
theorem dX0_mergeRuns_70 : decode cX0_mergeRuns 70 = .ok (.istore 9, 2) := by decide +kernel
theorem dX0_mergeRuns_72 : decode cX0_mergeRuns 72 = .ok (.iload_n 3, 1) := by decide +kernel
theorem dX0_mergeRuns_73 : decode cX0_mergeRuns 73 = .ok (.ifCond .ge 7, 3) := by decide +kernel
theorem dX0_mergeRuns_76 : decode cX0_mergeRuns 76 = .ok (.iconst 0, 1) := by decide +kernel
theorem dX0_mergeRuns_77 : decode cX0_mergeRuns 77 = .ok (.goto 12, 3) := by decide +kernel
theorem dX0_mergeRuns_80 : decode cX0_mergeRuns 80 = .ok (.iload 9, 2) := by decide +kernel
theorem dX0_mergeRuns_82 : decode cX0_mergeRuns 82 = .ok (.aload_n 0, 1) := by decide +kernel
theorem dX0_mergeRuns_83 : decode cX0_mergeRuns 83 = .ok (.getfield 22, 3) := by decide +kernel
theorem dX0_mergeRuns_86 : decode cX0_mergeRuns 86 = .ok (.iload_n 3, 1) := by decide +kernel
theorem dX0_mergeRuns_87 : decode cX0_mergeRuns 87 = .ok (.iaload, 1) := by decide +kernel
theorem dX0_mergeRuns_88 : decode cX0_mergeRuns 88 = .ok (.iadd, 1) := by decide +kernel
theorem dX0_mergeRuns_89 : decode cX0_mergeRuns 89 = .ok (.istore 10, 2) := by decide +kernel
theorem dX0_mergeRuns_91 : decode cX0_mergeRuns 91 = .ok (.iconst 0, 1) := by decide +kernel
theorem dX0_mergeRuns_92 : decode cX0_mergeRuns 92 = .ok (.istore 11, 2) := by decide +kernel
theorem dX0_mergeRuns_94 : decode cX0_mergeRuns 94 = .ok (.iconst 0, 1) := by decide +kernel
theorem dX0_mergeRuns_95 : decode cX0_mergeRuns 95 = .ok (.istore 12, 2) := by decide +kernel
theorem dX0_mergeRuns_97 : decode cX0_mergeRuns 97 = .ok (.iload 12, 2) := by decide +kernel
theorem dX0_mergeRuns_99 : decode cX0_mergeRuns 99 = .ok (.bipush 24, 2) := by decide +kernel
theorem dX0_mergeRuns_101 : decode cX0_mergeRuns 101 = .ok (.if_icmp .ge 233, 3) := by decide +kernel
theorem dX0_mergeRuns_104 : decode cX0_mergeRuns 104 = .ok (.iload 11, 2) := by decide +kernel
theorem dX0_mergeRuns_106 : decode cX0_mergeRuns 106 = .ok (.bipush 24, 2) := by decide +kernel
theorem dX0_mergeRuns_108 : decode cX0_mergeRuns 108 = .ok (.if_icmp .ge 226, 3) := by decide +kernel
theorem dX0_mergeRuns_111 : decode cX0_mergeRuns 111 = .ok (.iload 7, 2) := by decide +kernel
theorem dX0_mergeRuns_113 : decode cX0_mergeRuns 113 = .ok (.iload 8, 2) := by decide +kernel
theorem dX0_mergeRuns_115 : decode cX0_mergeRuns 115 = .ok (.if_icmp .ge 19, 3) := by decide +kernel
theorem dX0_mergeRuns_118 : decode cX0_mergeRuns 118 = .ok (.aload_n 0, 1) := by decide +kernel
theorem dX0_mergeRuns_119 : decode cX0_mergeRuns 119 = .ok (.getfield 28, 3) := by decide +kernel
theorem dX0_mergeRuns_122 : decode cX0_mergeRuns 122 = .ok (.iload 7, 2) := by decide +kernel
theorem dX0_mergeRuns_124 : decode cX0_mergeRuns 124 = .ok (.iaload, 1) := by decide +kernel
theorem dX0_mergeRuns_125 : decode cX0_mergeRuns 125 = .ok (.iload 11, 2) := by decide +kernel
theorem dX0_mergeRuns_127 : decode cX0_mergeRuns 127 = .ok (.if_icmp .gt 7, 3) := by decide +kernel
theorem dX0_mergeRuns_130 : decode cX0_mergeRuns 130 = .ok (.iconst 1, 1) := by decide +kernel
theorem dX0_mergeRuns_131 : decode cX0_mergeRuns 131 = .ok (.goto 4, 3) := by decide +kernel
theorem dX0_mergeRuns_134 : decode cX0_mergeRuns 134 = .ok (.iconst 0, 1) := by decide +kernel
theorem dX0_mergeRuns_135 : decode cX0_mergeRuns 135 = .ok (.istore 13, 2) := by decide +kernel
theorem dX0_mergeRuns_137 : decode cX0_mergeRuns 137 = .ok (.iload 9, 2) := by decide +kernel
theorem dX0_mergeRuns_139 : decode cX0_mergeRuns 139 = .ok (.iload 10, 2) := by decide +kernel
theorem dX0_mergeRuns_141 : decode cX0_mergeRuns 141 = .ok (.if_icmp .ge 19, 3) := by decide +kernel
theorem dX0_mergeRuns_144 : decode cX0_mergeRuns 144 = .ok (.aload_n 0, 1) := by decide +kernel
theorem dX0_mergeRuns_145 : decode cX0_mergeRuns 145 = .ok (.getfield 28, 3) := by decide +kernel
theorem dX0_mergeRuns_148 : decode cX0_mergeRuns 148 = .ok (.iload 9, 2) := by decide +kernel
theorem dX0_mergeRuns_150 : decode cX0_mergeRuns 150 = .ok (.iaload, 1) := by decide +kernel
theorem dX0_mergeRuns_151 : decode cX0_mergeRuns 151 = .ok (.iload 11, 2) := by decide +kernel
theorem dX0_mergeRuns_153 : decode cX0_mergeRuns 153 = .ok (.if_icmp .gt 7, 3) := by decide +kernel
theorem dX0_mergeRuns_156 : decode cX0_mergeRuns 156 = .ok (.iconst 1, 1) := by decide +kernel
theorem dX0_mergeRuns_157 : decode cX0_mergeRuns 157 = .ok (.goto 4, 3) := by decide +kernel
theorem dX0_mergeRuns_160 : decode cX0_mergeRuns 160 = .ok (.iconst 0, 1) := by decide +kernel
theorem dX0_mergeRuns_161 : decode cX0_mergeRuns 161 = .ok (.istore 14, 2) := by decide +kernel
theorem dX0_mergeRuns_163 : decode cX0_mergeRuns 163 = .ok (.iload 7, 2) := by decide +kernel
theorem dX0_mergeRuns_165 : decode cX0_mergeRuns 165 = .ok (.iload 8, 2) := by decide +kernel
theorem dX0_mergeRuns_167 : decode cX0_mergeRuns 167 = .ok (.if_icmp .lt 8, 3) := by decide +kernel
theorem dX0_mergeRuns_170 : decode cX0_mergeRuns 170 = .ok (.bipush 24, 2) := by decide +kernel
theorem dX0_mergeRuns_172 : decode cX0_mergeRuns 172 = .ok (.goto 27, 3) := by decide +kernel
theorem dX0_mergeRuns_175 : decode cX0_mergeRuns 175 = .ok (.iload 13, 2) := by decide +kernel
theorem dX0_mergeRuns_177 : decode cX0_mergeRuns 177 = .ok (.ifCond .eq 15, 3) := by decide +kernel
theorem dX0_mergeRuns_180 : decode cX0_mergeRuns 180 = .ok (.aload_n 0, 1) := by decide +kernel
theorem dX0_mergeRuns_181 : decode cX0_mergeRuns 181 = .ok (.getfield 31, 3) := by decide +kernel
theorem dX0_mergeRuns_184 : decode cX0_mergeRuns 184 = .ok (.iload 7, 2) := by decide +kernel
theorem dX0_mergeRuns_186 : decode cX0_mergeRuns 186 = .ok (.iaload, 1) := by decide +kernel
theorem dX0_mergeRuns_187 : decode cX0_mergeRuns 187 = .ok (.iconst 1, 1) := by decide +kernel
theorem dX0_mergeRuns_188 : decode cX0_mergeRuns 188 = .ok (.iadd, 1) := by decide +kernel
theorem dX0_mergeRuns_189 : decode cX0_mergeRuns 189 = .ok (.goto 10, 3) := by decide +kernel
theorem dX0_mergeRuns_192 : decode cX0_mergeRuns 192 = .ok (.aload_n 0, 1) := by decide +kernel
theorem dX0_mergeRuns_193 : decode cX0_mergeRuns 193 = .ok (.getfield 28, 3) := by decide +kernel
theorem dX0_mergeRuns_196 : decode cX0_mergeRuns 196 = .ok (.iload 7, 2) := by decide +kernel
theorem dX0_mergeRuns_198 : decode cX0_mergeRuns 198 = .ok (.iaload, 1) := by decide +kernel
theorem dX0_mergeRuns_199 : decode cX0_mergeRuns 199 = .ok (.istore 15, 2) := by decide +kernel
theorem dX0_mergeRuns_201 : decode cX0_mergeRuns 201 = .ok (.iload 9, 2) := by decide +kernel
theorem dX0_mergeRuns_203 : decode cX0_mergeRuns 203 = .ok (.iload 10, 2) := by decide +kernel
theorem dX0_mergeRuns_205 : decode cX0_mergeRuns 205 = .ok (.if_icmp .lt 8, 3) := by decide +kernel
theorem dX0_mergeRuns_208 : decode cX0_mergeRuns 208 = .ok (.bipush 24, 2) := by decide +kernel
theorem dX0_mergeRuns_210 : decode cX0_mergeRuns 210 = .ok (.goto 27, 3) := by decide +kernel
theorem dX0_mergeRuns_213 : decode cX0_mergeRuns 213 = .ok (.iload 14, 2) := by decide +kernel
theorem dX0_mergeRuns_215 : decode cX0_mergeRuns 215 = .ok (.ifCond .eq 15, 3) := by decide +kernel
theorem dX0_mergeRuns_218 : decode cX0_mergeRuns 218 = .ok (.aload_n 0, 1) := by decide +kernel
theorem dX0_mergeRuns_219 : decode cX0_mergeRuns 219 = .ok (.getfield 31, 3) := by decide +kernel
theorem dX0_mergeRuns_222 : decode cX0_mergeRuns 222 = .ok (.iload 9, 2) := by decide +kernel
theorem dX0_mergeRuns_224 : decode cX0_mergeRuns 224 = .ok (.iaload, 1) := by decide +kernel
theorem dX0_mergeRuns_225 : decode cX0_mergeRuns 225 = .ok (.iconst 1, 1) := by decide +kernel
theorem dX0_mergeRuns_226 : decode cX0_mergeRuns 226 = .ok (.iadd, 1) := by decide +kernel
theorem dX0_mergeRuns_227 : decode cX0_mergeRuns 227 = .ok (.goto 10, 3) := by decide +kernel
theorem dX0_mergeRuns_230 : decode cX0_mergeRuns 230 = .ok (.aload_n 0, 1) := by decide +kernel
theorem dX0_mergeRuns_231 : decode cX0_mergeRuns 231 = .ok (.getfield 28, 3) := by decide +kernel
theorem dX0_mergeRuns_234 : decode cX0_mergeRuns 234 = .ok (.iload 9, 2) := by decide +kernel
theorem dX0_mergeRuns_236 : decode cX0_mergeRuns 236 = .ok (.iaload, 1) := by decide +kernel
theorem dX0_mergeRuns_237 : decode cX0_mergeRuns 237 = .ok (.istore 16, 2) := by decide +kernel
theorem dX0_mergeRuns_239 : decode cX0_mergeRuns 239 = .ok (.iload 15, 2) := by decide +kernel
theorem dX0_mergeRuns_241 : decode cX0_mergeRuns 241 = .ok (.iload 16, 2) := by decide +kernel
theorem dX0_mergeRuns_243 : decode cX0_mergeRuns 243 = .ok (.if_icmp .ge 8, 3) := by decide +kernel
theorem dX0_mergeRuns_246 : decode cX0_mergeRuns 246 = .ok (.iload 15, 2) := by decide +kernel
theorem dX0_mergeRuns_248 : decode cX0_mergeRuns 248 = .ok (.goto 5, 3) := by decide +kernel
theorem dX0_mergeRuns_251 : decode cX0_mergeRuns 251 = .ok (.iload 16, 2) := by decide +kernel
theorem dX0_mergeRuns_253 : decode cX0_mergeRuns 253 = .ok (.istore 17, 2) := by decide +kernel
theorem dX0_mergeRuns_255 : decode cX0_mergeRuns 255 = .ok (.iload 5, 2) := by decide +kernel
theorem dX0_mergeRuns_257 : decode cX0_mergeRuns 257 = .ok (.iload 13, 2) := by decide +kernel
theorem dX0_mergeRuns_259 : decode cX0_mergeRuns 259 = .ok (.iload 14, 2) := by decide +kernel
theorem dX0_mergeRuns_261 : decode cX0_mergeRuns 261 = .ok (.invokestatic 61, 3) := by decide +kernel
theorem dX0_mergeRuns_264 : decode cX0_mergeRuns 264 = .ok (.istore 18, 2) := by decide +kernel
theorem dX0_mergeRuns_266 : decode cX0_mergeRuns 266 = .ok (.iload 18, 2) := by decide +kernel
theorem dX0_mergeRuns_268 : decode cX0_mergeRuns 268 = .ok (.ifCond .eq 16, 3) := by decide +kernel
theorem dX0_mergeRuns_271 : decode cX0_mergeRuns 271 = .ok (.aload_n 0, 1) := by decide +kernel
theorem dX0_mergeRuns_272 : decode cX0_mergeRuns 272 = .ok (.iconst 3, 1) := by decide +kernel
theorem dX0_mergeRuns_273 : decode cX0_mergeRuns 273 = .ok (.iload 6, 2) := by decide +kernel
theorem dX0_mergeRuns_275 : decode cX0_mergeRuns 275 = .ok (.iload 11, 2) := by decide +kernel
theorem dX0_mergeRuns_277 : decode cX0_mergeRuns 277 = .ok (.iload 17, 2) := by decide +kernel
theorem dX0_mergeRuns_279 : decode cX0_mergeRuns 279 = .ok (.iconst 1, 1) := by decide +kernel
theorem dX0_mergeRuns_280 : decode cX0_mergeRuns 280 = .ok (.isub, 1) := by decide +kernel
theorem dX0_mergeRuns_281 : decode cX0_mergeRuns 281 = .ok (.invokevirtual 65, 3) := by decide +kernel
theorem dX0_mergeRuns_284 : decode cX0_mergeRuns 284 = .ok (.iload 17, 2) := by decide +kernel
theorem dX0_mergeRuns_286 : decode cX0_mergeRuns 286 = .ok (.istore 11, 2) := by decide +kernel
theorem dX0_mergeRuns_288 : decode cX0_mergeRuns 288 = .ok (.iload 13, 2) := by decide +kernel
theorem dX0_mergeRuns_290 : decode cX0_mergeRuns 290 = .ok (.ifCond .eq 18, 3) := by decide +kernel
theorem dX0_mergeRuns_293 : decode cX0_mergeRuns 293 = .ok (.aload_n 0, 1) := by decide +kernel
theorem dX0_mergeRuns_294 : decode cX0_mergeRuns 294 = .ok (.getfield 31, 3) := by decide +kernel
theorem dX0_mergeRuns_297 : decode cX0_mergeRuns 297 = .ok (.iload 7, 2) := by decide +kernel
theorem dX0_mergeRuns_299 : decode cX0_mergeRuns 299 = .ok (.iaload, 1) := by decide +kernel
theorem dX0_mergeRuns_300 : decode cX0_mergeRuns 300 = .ok (.iload 11, 2) := by decide +kernel
theorem dX0_mergeRuns_302 : decode cX0_mergeRuns 302 = .ok (.if_icmp .ge 6, 3) := by decide +kernel
theorem dX0_mergeRuns_305 : decode cX0_mergeRuns 305 = .ok (.iinc 7 1, 3) := by decide +kernel
theorem dX0_mergeRuns_308 : decode cX0_mergeRuns 308 = .ok (.iload 14, 2) := by decide +kernel
theorem dX0_mergeRuns_310 : decode cX0_mergeRuns 310 = .ok (.ifCond .eq 18, 3) := by decide +kernel
theorem dX0_mergeRuns_313 : decode cX0_mergeRuns 313 = .ok (.aload_n 0, 1) := by decide +kernel
theorem dX0_mergeRuns_314 : decode cX0_mergeRuns 314 = .ok (.getfield 31, 3) := by decide +kernel
theorem dX0_mergeRuns_317 : decode cX0_mergeRuns 317 = .ok (.iload 9, 2) := by decide +kernel
theorem dX0_mergeRuns_319 : decode cX0_mergeRuns 319 = .ok (.iaload, 1) := by decide +kernel
theorem dX0_mergeRuns_320 : decode cX0_mergeRuns 320 = .ok (.iload 11, 2) := by decide +kernel
theorem dX0_mergeRuns_322 : decode cX0_mergeRuns 322 = .ok (.if_icmp .ge 6, 3) := by decide +kernel
theorem dX0_mergeRuns_325 : decode cX0_mergeRuns 325 = .ok (.iinc 9 1, 3) := by decide +kernel
theorem dX0_mergeRuns_328 : decode cX0_mergeRuns 328 = .ok (.iinc 12 1, 3) := by decide +kernel
theorem dX0_mergeRuns_331 : decode cX0_mergeRuns 331 = .ok (.goto (-234), 3) := by decide +kernel
theorem dX0_mergeRuns_334 : decode cX0_mergeRuns 334 = .ok (.return_, 1) := by decide +kernel
abbrev cX0_wanted : ByteArray := prog_1_method_8_code
def yX0_wanted : MethodName := ⟨RX0, "wanted", "(IZZ)Z"⟩
theorem dX0_wanted_0 : decode cX0_wanted 0 = .ok (.iload_n 0, 1) := by decide +kernel
theorem dX0_wanted_1 : decode cX0_wanted 1 = .ok (.tableswitch 69 0 2 #[27, 41, 55], 27) := by decide +kernel
theorem dX0_wanted_28 : decode cX0_wanted 28 = .ok (.iload_n 1, 1) := by decide +kernel
theorem dX0_wanted_29 : decode cX0_wanted 29 = .ok (.ifCond .ne 7, 3) := by decide +kernel
theorem dX0_wanted_32 : decode cX0_wanted 32 = .ok (.iload_n 2, 1) := by decide +kernel
theorem dX0_wanted_33 : decode cX0_wanted 33 = .ok (.ifCond .eq 7, 3) := by decide +kernel
theorem dX0_wanted_36 : decode cX0_wanted 36 = .ok (.iconst 1, 1) := by decide +kernel
theorem dX0_wanted_37 : decode cX0_wanted 37 = .ok (.goto 4, 3) := by decide +kernel
theorem dX0_wanted_40 : decode cX0_wanted 40 = .ok (.iconst 0, 1) := by decide +kernel
theorem dX0_wanted_41 : decode cX0_wanted 41 = .ok (.ireturn, 1) := by decide +kernel
theorem dX0_wanted_42 : decode cX0_wanted 42 = .ok (.iload_n 1, 1) := by decide +kernel
theorem dX0_wanted_43 : decode cX0_wanted 43 = .ok (.ifCond .eq 11, 3) := by decide +kernel
theorem dX0_wanted_46 : decode cX0_wanted 46 = .ok (.iload_n 2, 1) := by decide +kernel
theorem dX0_wanted_47 : decode cX0_wanted 47 = .ok (.ifCond .eq 7, 3) := by decide +kernel
theorem dX0_wanted_50 : decode cX0_wanted 50 = .ok (.iconst 1, 1) := by decide +kernel
theorem dX0_wanted_51 : decode cX0_wanted 51 = .ok (.goto 4, 3) := by decide +kernel
theorem dX0_wanted_54 : decode cX0_wanted 54 = .ok (.iconst 0, 1) := by decide +kernel
theorem dX0_wanted_55 : decode cX0_wanted 55 = .ok (.ireturn, 1) := by decide +kernel
theorem dX0_wanted_56 : decode cX0_wanted 56 = .ok (.iload_n 1, 1) := by decide +kernel
theorem dX0_wanted_57 : decode cX0_wanted 57 = .ok (.ifCond .eq 11, 3) := by decide +kernel
theorem dX0_wanted_60 : decode cX0_wanted 60 = .ok (.iload_n 2, 1) := by decide +kernel
theorem dX0_wanted_61 : decode cX0_wanted 61 = .ok (.ifCond .ne 7, 3) := by decide +kernel
theorem dX0_wanted_64 : decode cX0_wanted 64 = .ok (.iconst 1, 1) := by decide +kernel
theorem dX0_wanted_65 : decode cX0_wanted 65 = .ok (.goto 4, 3) := by decide +kernel
theorem dX0_wanted_68 : decode cX0_wanted 68 = .ok (.iconst 0, 1) := by decide +kernel
theorem dX0_wanted_69 : decode cX0_wanted 69 = .ok (.ireturn, 1) := by decide +kernel
theorem dX0_wanted_70 : decode cX0_wanted 70 = .ok (.iload_n 1, 1) := by decide +kernel
theorem dX0_wanted_71 : decode cX0_wanted 71 = .ok (.iload_n 2, 1) := by decide +kernel
theorem dX0_wanted_72 : decode cX0_wanted 72 = .ok (.if_icmp .eq 7, 3) := by decide +kernel
theorem dX0_wanted_75 : decode cX0_wanted 75 = .ok (.iconst 1, 1) := by decide +kernel
theorem dX0_wanted_76 : decode cX0_wanted 76 = .ok (.goto 4, 3) := by decide +kernel
theorem dX0_wanted_79 : decode cX0_wanted 79 = .ok (.iconst 0, 1) := by decide +kernel
theorem dX0_wanted_80 : decode cX0_wanted 80 = .ok (.ireturn, 1) := by decide +kernel
abbrev cX0_keep : ByteArray := prog_1_method_7_code
def yX0_keep : MethodName := ⟨RX0, "keep", "(I)V"⟩
theorem dX0_keep_0 : decode cX0_keep 0 = .ok (.aload_n 0, 1) := by decide +kernel
theorem dX0_keep_1 : decode cX0_keep 1 = .ok (.getfield 7, 3) := by decide +kernel
theorem dX0_keep_4 : decode cX0_keep 4 = .ok (.iload_n 1, 1) := by decide +kernel
theorem dX0_keep_5 : decode cX0_keep 5 = .ok (.aload_n 0, 1) := by decide +kernel
theorem dX0_keep_6 : decode cX0_keep 6 = .ok (.getfield 7, 3) := by decide +kernel
theorem dX0_keep_9 : decode cX0_keep 9 = .ok (.iconst 3, 1) := by decide +kernel
theorem dX0_keep_10 : decode cX0_keep 10 = .ok (.iaload, 1) := by decide +kernel
theorem dX0_keep_11 : decode cX0_keep 11 = .ok (.iastore, 1) := by decide +kernel
theorem dX0_keep_12 : decode cX0_keep 12 = .ok (.aload_n 0, 1) := by decide +kernel
theorem dX0_keep_13 : decode cX0_keep 13 = .ok (.getfield 25, 3) := by decide +kernel
theorem dX0_keep_16 : decode cX0_keep 16 = .ok (.iload_n 1, 1) := by decide +kernel
theorem dX0_keep_17 : decode cX0_keep 17 = .ok (.aload_n 0, 1) := by decide +kernel
theorem dX0_keep_18 : decode cX0_keep 18 = .ok (.getfield 25, 3) := by decide +kernel
theorem dX0_keep_21 : decode cX0_keep 21 = .ok (.iconst 3, 1) := by decide +kernel
theorem dX0_keep_22 : decode cX0_keep 22 = .ok (.iaload, 1) := by decide +kernel
theorem dX0_keep_23 : decode cX0_keep 23 = .ok (.iastore, 1) := by decide +kernel
theorem dX0_keep_24 : decode cX0_keep 24 = .ok (.iconst 0, 1) := by decide +kernel
theorem dX0_keep_25 : decode cX0_keep 25 = .ok (.istore_n 2, 1) := by decide +kernel
theorem dX0_keep_26 : decode cX0_keep 26 = .ok (.iload_n 2, 1) := by decide +kernel
theorem dX0_keep_27 : decode cX0_keep 27 = .ok (.aload_n 0, 1) := by decide +kernel
theorem dX0_keep_28 : decode cX0_keep 28 = .ok (.getfield 7, 3) := by decide +kernel
theorem dX0_keep_31 : decode cX0_keep 31 = .ok (.iconst 3, 1) := by decide +kernel
theorem dX0_keep_32 : decode cX0_keep 32 = .ok (.iaload, 1) := by decide +kernel
theorem dX0_keep_33 : decode cX0_keep 33 = .ok (.if_icmp .ge 89, 3) := by decide +kernel
theorem dX0_keep_36 : decode cX0_keep 36 = .ok (.aload_n 0, 1) := by decide +kernel
theorem dX0_keep_37 : decode cX0_keep 37 = .ok (.getfield 13, 3) := by decide +kernel
theorem dX0_keep_40 : decode cX0_keep 40 = .ok (.iload_n 1, 1) := by decide +kernel
theorem dX0_keep_41 : decode cX0_keep 41 = .ok (.bipush 24, 2) := by decide +kernel
theorem dX0_keep_43 : decode cX0_keep 43 = .ok (.imul, 1) := by decide +kernel
theorem dX0_keep_44 : decode cX0_keep 44 = .ok (.iload_n 2, 1) := by decide +kernel
theorem dX0_keep_45 : decode cX0_keep 45 = .ok (.iadd, 1) := by decide +kernel
theorem dX0_keep_46 : decode cX0_keep 46 = .ok (.aload_n 0, 1) := by decide +kernel
theorem dX0_keep_47 : decode cX0_keep 47 = .ok (.getfield 13, 3) := by decide +kernel
theorem dX0_keep_50 : decode cX0_keep 50 = .ok (.bipush 72, 2) := by decide +kernel
theorem dX0_keep_52 : decode cX0_keep 52 = .ok (.iload_n 2, 1) := by decide +kernel
theorem dX0_keep_53 : decode cX0_keep 53 = .ok (.iadd, 1) := by decide +kernel
theorem dX0_keep_54 : decode cX0_keep 54 = .ok (.iaload, 1) := by decide +kernel
theorem dX0_keep_55 : decode cX0_keep 55 = .ok (.iastore, 1) := by decide +kernel
theorem dX0_keep_56 : decode cX0_keep 56 = .ok (.aload_n 0, 1) := by decide +kernel
theorem dX0_keep_57 : decode cX0_keep 57 = .ok (.getfield 16, 3) := by decide +kernel
theorem dX0_keep_60 : decode cX0_keep 60 = .ok (.iload_n 1, 1) := by decide +kernel
theorem dX0_keep_61 : decode cX0_keep 61 = .ok (.bipush 24, 2) := by decide +kernel
theorem dX0_keep_63 : decode cX0_keep 63 = .ok (.imul, 1) := by decide +kernel
theorem dX0_keep_64 : decode cX0_keep 64 = .ok (.iload_n 2, 1) := by decide +kernel
theorem dX0_keep_65 : decode cX0_keep 65 = .ok (.iadd, 1) := by decide +kernel
theorem dX0_keep_66 : decode cX0_keep 66 = .ok (.aload_n 0, 1) := by decide +kernel
theorem dX0_keep_67 : decode cX0_keep 67 = .ok (.getfield 16, 3) := by decide +kernel
theorem dX0_keep_70 : decode cX0_keep 70 = .ok (.bipush 72, 2) := by decide +kernel
theorem dX0_keep_72 : decode cX0_keep 72 = .ok (.iload_n 2, 1) := by decide +kernel
theorem dX0_keep_73 : decode cX0_keep 73 = .ok (.iadd, 1) := by decide +kernel
theorem dX0_keep_74 : decode cX0_keep 74 = .ok (.iaload, 1) := by decide +kernel
theorem dX0_keep_75 : decode cX0_keep 75 = .ok (.iastore, 1) := by decide +kernel
theorem dX0_keep_76 : decode cX0_keep 76 = .ok (.aload_n 0, 1) := by decide +kernel
theorem dX0_keep_77 : decode cX0_keep 77 = .ok (.getfield 19, 3) := by decide +kernel
theorem dX0_keep_80 : decode cX0_keep 80 = .ok (.iload_n 1, 1) := by decide +kernel
theorem dX0_keep_81 : decode cX0_keep 81 = .ok (.bipush 24, 2) := by decide +kernel
theorem dX0_keep_83 : decode cX0_keep 83 = .ok (.imul, 1) := by decide +kernel
theorem dX0_keep_84 : decode cX0_keep 84 = .ok (.iload_n 2, 1) := by decide +kernel
theorem dX0_keep_85 : decode cX0_keep 85 = .ok (.iadd, 1) := by decide +kernel
theorem dX0_keep_86 : decode cX0_keep 86 = .ok (.aload_n 0, 1) := by decide +kernel
theorem dX0_keep_87 : decode cX0_keep 87 = .ok (.getfield 19, 3) := by decide +kernel
theorem dX0_keep_90 : decode cX0_keep 90 = .ok (.bipush 72, 2) := by decide +kernel
theorem dX0_keep_92 : decode cX0_keep 92 = .ok (.iload_n 2, 1) := by decide +kernel
theorem dX0_keep_93 : decode cX0_keep 93 = .ok (.iadd, 1) := by decide +kernel
theorem dX0_keep_94 : decode cX0_keep 94 = .ok (.iaload, 1) := by decide +kernel
theorem dX0_keep_95 : decode cX0_keep 95 = .ok (.iastore, 1) := by decide +kernel
theorem dX0_keep_96 : decode cX0_keep 96 = .ok (.aload_n 0, 1) := by decide +kernel
theorem dX0_keep_97 : decode cX0_keep 97 = .ok (.getfield 22, 3) := by decide +kernel
theorem dX0_keep_100 : decode cX0_keep 100 = .ok (.iload_n 1, 1) := by decide +kernel
theorem dX0_keep_101 : decode cX0_keep 101 = .ok (.bipush 24, 2) := by decide +kernel
theorem dX0_keep_103 : decode cX0_keep 103 = .ok (.imul, 1) := by decide +kernel
theorem dX0_keep_104 : decode cX0_keep 104 = .ok (.iload_n 2, 1) := by decide +kernel
theorem dX0_keep_105 : decode cX0_keep 105 = .ok (.iadd, 1) := by decide +kernel
theorem dX0_keep_106 : decode cX0_keep 106 = .ok (.aload_n 0, 1) := by decide +kernel
theorem dX0_keep_107 : decode cX0_keep 107 = .ok (.getfield 22, 3) := by decide +kernel
theorem dX0_keep_110 : decode cX0_keep 110 = .ok (.bipush 72, 2) := by decide +kernel
theorem dX0_keep_112 : decode cX0_keep 112 = .ok (.iload_n 2, 1) := by decide +kernel
theorem dX0_keep_113 : decode cX0_keep 113 = .ok (.iadd, 1) := by decide +kernel
theorem dX0_keep_114 : decode cX0_keep 114 = .ok (.iaload, 1) := by decide +kernel
theorem dX0_keep_115 : decode cX0_keep 115 = .ok (.iastore, 1) := by decide +kernel
theorem dX0_keep_116 : decode cX0_keep 116 = .ok (.iinc 2 1, 3) := by decide +kernel
theorem dX0_keep_119 : decode cX0_keep 119 = .ok (.goto (-93), 3) := by decide +kernel
theorem dX0_keep_122 : decode cX0_keep 122 = .ok (.iconst 0, 1) := by decide +kernel
theorem dX0_keep_123 : decode cX0_keep 123 = .ok (.istore_n 2, 1) := by decide +kernel
theorem dX0_keep_124 : decode cX0_keep 124 = .ok (.iload_n 2, 1) := by decide +kernel
theorem dX0_keep_125 : decode cX0_keep 125 = .ok (.aload_n 0, 1) := by decide +kernel
theorem dX0_keep_126 : decode cX0_keep 126 = .ok (.getfield 25, 3) := by decide +kernel
theorem dX0_keep_129 : decode cX0_keep 129 = .ok (.iconst 3, 1) := by decide +kernel
theorem dX0_keep_130 : decode cX0_keep 130 = .ok (.iaload, 1) := by decide +kernel
theorem dX0_keep_131 : decode cX0_keep 131 = .ok (.if_icmp .ge 53, 3) := by decide +kernel
theorem dX0_keep_134 : decode cX0_keep 134 = .ok (.aload_n 0, 1) := by decide +kernel
theorem dX0_keep_135 : decode cX0_keep 135 = .ok (.getfield 28, 3) := by decide +kernel
theorem dX0_keep_138 : decode cX0_keep 138 = .ok (.iload_n 1, 1) := by decide +kernel
theorem dX0_keep_139 : decode cX0_keep 139 = .ok (.sipush 288, 3) := by decide +kernel
theorem dX0_keep_142 : decode cX0_keep 142 = .ok (.imul, 1) := by decide +kernel
theorem dX0_keep_143 : decode cX0_keep 143 = .ok (.iload_n 2, 1) := by decide +kernel
theorem dX0_keep_144 : decode cX0_keep 144 = .ok (.iadd, 1) := by decide +kernel
theorem dX0_keep_145 : decode cX0_keep 145 = .ok (.aload_n 0, 1) := by decide +kernel
theorem dX0_keep_146 : decode cX0_keep 146 = .ok (.getfield 28, 3) := by decide +kernel
theorem dX0_keep_149 : decode cX0_keep 149 = .ok (.sipush 864, 3) := by decide +kernel
theorem dX0_keep_152 : decode cX0_keep 152 = .ok (.iload_n 2, 1) := by decide +kernel
theorem dX0_keep_153 : decode cX0_keep 153 = .ok (.iadd, 1) := by decide +kernel
theorem dX0_keep_154 : decode cX0_keep 154 = .ok (.iaload, 1) := by decide +kernel
theorem dX0_keep_155 : decode cX0_keep 155 = .ok (.iastore, 1) := by decide +kernel
theorem dX0_keep_156 : decode cX0_keep 156 = .ok (.aload_n 0, 1) := by decide +kernel
theorem dX0_keep_157 : decode cX0_keep 157 = .ok (.getfield 31, 3) := by decide +kernel
theorem dX0_keep_160 : decode cX0_keep 160 = .ok (.iload_n 1, 1) := by decide +kernel
theorem dX0_keep_161 : decode cX0_keep 161 = .ok (.sipush 288, 3) := by decide +kernel
theorem dX0_keep_164 : decode cX0_keep 164 = .ok (.imul, 1) := by decide +kernel
theorem dX0_keep_165 : decode cX0_keep 165 = .ok (.iload_n 2, 1) := by decide +kernel
theorem dX0_keep_166 : decode cX0_keep 166 = .ok (.iadd, 1) := by decide +kernel
theorem dX0_keep_167 : decode cX0_keep 167 = .ok (.aload_n 0, 1) := by decide +kernel
theorem dX0_keep_168 : decode cX0_keep 168 = .ok (.getfield 31, 3) := by decide +kernel
theorem dX0_keep_171 : decode cX0_keep 171 = .ok (.sipush 864, 3) := by decide +kernel
theorem dX0_keep_174 : decode cX0_keep 174 = .ok (.iload_n 2, 1) := by decide +kernel
theorem dX0_keep_175 : decode cX0_keep 175 = .ok (.iadd, 1) := by decide +kernel
theorem dX0_keep_176 : decode cX0_keep 176 = .ok (.iaload, 1) := by decide +kernel
theorem dX0_keep_177 : decode cX0_keep 177 = .ok (.iastore, 1) := by decide +kernel
theorem dX0_keep_178 : decode cX0_keep 178 = .ok (.iinc 2 1, 3) := by decide +kernel
theorem dX0_keep_181 : decode cX0_keep 181 = .ok (.goto (-57), 3) := by decide +kernel
theorem dX0_keep_184 : decode cX0_keep 184 = .ok (.return_, 1) := by decide +kernel
end
section
set_option maxRecDepth 100000
abbrev cX0_cells : ByteArray := prog_1_method_15_code
def yX0_cells : MethodName := ⟨RX0, "cells", "(I)I"⟩
theorem dX0_cells_0 : decode cX0_cells 0 = .ok (.iconst 0, 1) := by decide +kernel
theorem dX0_cells_1 : decode cX0_cells 1 = .ok (.istore_n 2, 1) := by decide +kernel
theorem dX0_cells_2 : decode cX0_cells 2 = .ok (.iconst 0, 1) := by decide +kernel
theorem dX0_cells_3 : decode cX0_cells 3 = .ok (.istore_n 3, 1) := by decide +kernel
theorem dX0_cells_4 : decode cX0_cells 4 = .ok (.iload_n 3, 1) := by decide +kernel
theorem dX0_cells_5 : decode cX0_cells 5 = .ok (.aload_n 0, 1) := by decide +kernel
theorem dX0_cells_6 : decode cX0_cells 6 = .ok (.getfield 7, 3) := by decide +kernel
theorem dX0_cells_9 : decode cX0_cells 9 = .ok (.iload_n 1, 1) := by decide +kernel
theorem dX0_cells_10 : decode cX0_cells 10 = .ok (.iaload, 1) := by decide +kernel
theorem dX0_cells_11 : decode cX0_cells 11 = .ok (.if_icmp .ge 104, 3) := by decide +kernel
theorem dX0_cells_14 : decode cX0_cells 14 = .ok (.iload_n 1, 1) := by decide +kernel
theorem dX0_cells_15 : decode cX0_cells 15 = .ok (.bipush 24, 2) := by decide +kernel
theorem dX0_cells_17 : decode cX0_cells 17 = .ok (.imul, 1) := by decide +kernel
theorem dX0_cells_18 : decode cX0_cells 18 = .ok (.iload_n 3, 1) := by decide +kernel
theorem dX0_cells_19 : decode cX0_cells 19 = .ok (.iadd, 1) := by decide +kernel
theorem dX0_cells_20 : decode cX0_cells 20 = .ok (.istore 4, 2) := by decide +kernel
theorem dX0_cells_22 : decode cX0_cells 22 = .ok (.iconst 0, 1) := by decide +kernel
theorem dX0_cells_23 : decode cX0_cells 23 = .ok (.istore 5, 2) := by decide +kernel
theorem dX0_cells_25 : decode cX0_cells 25 = .ok (.iconst 0, 1) := by decide +kernel
theorem dX0_cells_26 : decode cX0_cells 26 = .ok (.istore 6, 2) := by decide +kernel
theorem dX0_cells_28 : decode cX0_cells 28 = .ok (.iload 6, 2) := by decide +kernel
theorem dX0_cells_30 : decode cX0_cells 30 = .ok (.aload_n 0, 1) := by decide +kernel
theorem dX0_cells_31 : decode cX0_cells 31 = .ok (.getfield 22, 3) := by decide +kernel
theorem dX0_cells_34 : decode cX0_cells 34 = .ok (.iload 4, 2) := by decide +kernel
theorem dX0_cells_36 : decode cX0_cells 36 = .ok (.iaload, 1) := by decide +kernel
theorem dX0_cells_37 : decode cX0_cells 37 = .ok (.if_icmp .ge 49, 3) := by decide +kernel
theorem dX0_cells_40 : decode cX0_cells 40 = .ok (.iload_n 1, 1) := by decide +kernel
theorem dX0_cells_41 : decode cX0_cells 41 = .ok (.sipush 288, 3) := by decide +kernel
theorem dX0_cells_44 : decode cX0_cells 44 = .ok (.imul, 1) := by decide +kernel
theorem dX0_cells_45 : decode cX0_cells 45 = .ok (.aload_n 0, 1) := by decide +kernel
theorem dX0_cells_46 : decode cX0_cells 46 = .ok (.getfield 19, 3) := by decide +kernel
theorem dX0_cells_49 : decode cX0_cells 49 = .ok (.iload 4, 2) := by decide +kernel
theorem dX0_cells_51 : decode cX0_cells 51 = .ok (.iaload, 1) := by decide +kernel
theorem dX0_cells_52 : decode cX0_cells 52 = .ok (.iadd, 1) := by decide +kernel
theorem dX0_cells_53 : decode cX0_cells 53 = .ok (.iload 6, 2) := by decide +kernel
theorem dX0_cells_55 : decode cX0_cells 55 = .ok (.iadd, 1) := by decide +kernel
theorem dX0_cells_56 : decode cX0_cells 56 = .ok (.istore 7, 2) := by decide +kernel
theorem dX0_cells_58 : decode cX0_cells 58 = .ok (.iload 5, 2) := by decide +kernel
theorem dX0_cells_60 : decode cX0_cells 60 = .ok (.aload_n 0, 1) := by decide +kernel
theorem dX0_cells_61 : decode cX0_cells 61 = .ok (.getfield 31, 3) := by decide +kernel
theorem dX0_cells_64 : decode cX0_cells 64 = .ok (.iload 7, 2) := by decide +kernel
theorem dX0_cells_66 : decode cX0_cells 66 = .ok (.iaload, 1) := by decide +kernel
theorem dX0_cells_67 : decode cX0_cells 67 = .ok (.aload_n 0, 1) := by decide +kernel
theorem dX0_cells_68 : decode cX0_cells 68 = .ok (.getfield 28, 3) := by decide +kernel
theorem dX0_cells_71 : decode cX0_cells 71 = .ok (.iload 7, 2) := by decide +kernel
theorem dX0_cells_73 : decode cX0_cells 73 = .ok (.iaload, 1) := by decide +kernel
theorem dX0_cells_74 : decode cX0_cells 74 = .ok (.isub, 1) := by decide +kernel
theorem dX0_cells_75 : decode cX0_cells 75 = .ok (.iconst 1, 1) := by decide +kernel
theorem dX0_cells_76 : decode cX0_cells 76 = .ok (.iadd, 1) := by decide +kernel
theorem dX0_cells_77 : decode cX0_cells 77 = .ok (.iadd, 1) := by decide +kernel
theorem dX0_cells_78 : decode cX0_cells 78 = .ok (.istore 5, 2) := by decide +kernel
theorem dX0_cells_80 : decode cX0_cells 80 = .ok (.iinc 6 1, 3) := by decide +kernel
theorem dX0_cells_83 : decode cX0_cells 83 = .ok (.goto (-55), 3) := by decide +kernel
theorem dX0_cells_86 : decode cX0_cells 86 = .ok (.iload_n 2, 1) := by decide +kernel
theorem dX0_cells_87 : decode cX0_cells 87 = .ok (.iload 5, 2) := by decide +kernel
theorem dX0_cells_89 : decode cX0_cells 89 = .ok (.aload_n 0, 1) := by decide +kernel
theorem dX0_cells_90 : decode cX0_cells 90 = .ok (.getfield 16, 3) := by decide +kernel
theorem dX0_cells_93 : decode cX0_cells 93 = .ok (.iload 4, 2) := by decide +kernel
theorem dX0_cells_95 : decode cX0_cells 95 = .ok (.iaload, 1) := by decide +kernel
theorem dX0_cells_96 : decode cX0_cells 96 = .ok (.aload_n 0, 1) := by decide +kernel
theorem dX0_cells_97 : decode cX0_cells 97 = .ok (.getfield 13, 3) := by decide +kernel
theorem dX0_cells_100 : decode cX0_cells 100 = .ok (.iload 4, 2) := by decide +kernel
theorem dX0_cells_102 : decode cX0_cells 102 = .ok (.iaload, 1) := by decide +kernel
theorem dX0_cells_103 : decode cX0_cells 103 = .ok (.isub, 1) := by decide +kernel
theorem dX0_cells_104 : decode cX0_cells 104 = .ok (.iconst 1, 1) := by decide +kernel
theorem dX0_cells_105 : decode cX0_cells 105 = .ok (.iadd, 1) := by decide +kernel
theorem dX0_cells_106 : decode cX0_cells 106 = .ok (.imul, 1) := by decide +kernel
theorem dX0_cells_107 : decode cX0_cells 107 = .ok (.iadd, 1) := by decide +kernel
theorem dX0_cells_108 : decode cX0_cells 108 = .ok (.istore_n 2, 1) := by decide +kernel
theorem dX0_cells_109 : decode cX0_cells 109 = .ok (.iinc 3 1, 3) := by decide +kernel
theorem dX0_cells_112 : decode cX0_cells 112 = .ok (.goto (-108), 3) := by decide +kernel
theorem dX0_cells_115 : decode cX0_cells 115 = .ok (.iload_n 2, 1) := by decide +kernel
theorem dX0_cells_116 : decode cX0_cells 116 = .ok (.ireturn, 1) := by decide +kernel
abbrev cX0_combine : ByteArray := prog_1_method_17_code
def yX0_combine : MethodName := ⟨RX0, "combine", "(IIII)I"⟩
theorem dX0_combine_0 : decode cX0_combine 0 = .ok (.iload_n 1, 1) := by decide +kernel
theorem dX0_combine_1 : decode cX0_combine 1 = .ok (.invokestatic 68, 3) := by decide +kernel
theorem dX0_combine_4 : decode cX0_combine 4 = .ok (.ifCond .ne 17, 3) := by decide +kernel
theorem dX0_combine_7 : decode cX0_combine 7 = .ok (.iload_n 2, 1) := by decide +kernel
theorem dX0_combine_8 : decode cX0_combine 8 = .ok (.invokestatic 68, 3) := by decide +kernel
theorem dX0_combine_11 : decode cX0_combine 11 = .ok (.ifCond .ne 10, 3) := by decide +kernel
theorem dX0_combine_14 : decode cX0_combine 14 = .ok (.iload_n 3, 1) := by decide +kernel
theorem dX0_combine_15 : decode cX0_combine 15 = .ok (.invokestatic 68, 3) := by decide +kernel
theorem dX0_combine_18 : decode cX0_combine 18 = .ok (.ifCond .eq 5, 3) := by decide +kernel
theorem dX0_combine_21 : decode cX0_combine 21 = .ok (.iconst (-1), 1) := by decide +kernel
theorem dX0_combine_22 : decode cX0_combine 22 = .ok (.ireturn, 1) := by decide +kernel
theorem dX0_combine_23 : decode cX0_combine 23 = .ok (.iload 4, 2) := by decide +kernel
theorem dX0_combine_25 : decode cX0_combine 25 = .ok (.ifCond .lt 9, 3) := by decide +kernel
theorem dX0_combine_28 : decode cX0_combine 28 = .ok (.iload 4, 2) := by decide +kernel
theorem dX0_combine_30 : decode cX0_combine 30 = .ok (.iconst 3, 1) := by decide +kernel
theorem dX0_combine_31 : decode cX0_combine 31 = .ok (.if_icmp .le 6, 3) := by decide +kernel
theorem dX0_combine_34 : decode cX0_combine 34 = .ok (.bipush (-2), 2) := by decide +kernel
theorem dX0_combine_36 : decode cX0_combine 36 = .ok (.ireturn, 1) := by decide +kernel
theorem dX0_combine_37 : decode cX0_combine 37 = .ok (.aload_n 0, 1) := by decide +kernel
theorem dX0_combine_38 : decode cX0_combine 38 = .ok (.iload_n 2, 1) := by decide +kernel
theorem dX0_combine_39 : decode cX0_combine 39 = .ok (.iload_n 3, 1) := by decide +kernel
theorem dX0_combine_40 : decode cX0_combine 40 = .ok (.iload 4, 2) := by decide +kernel
theorem dX0_combine_42 : decode cX0_combine 42 = .ok (.invokevirtual 76, 3) := by decide +kernel
theorem dX0_combine_45 : decode cX0_combine 45 = .ok (.aload_n 0, 1) := by decide +kernel
theorem dX0_combine_46 : decode cX0_combine 46 = .ok (.iload_n 1, 1) := by decide +kernel
theorem dX0_combine_47 : decode cX0_combine 47 = .ok (.invokevirtual 80, 3) := by decide +kernel
theorem dX0_combine_50 : decode cX0_combine 50 = .ok (.aload_n 0, 1) := by decide +kernel
theorem dX0_combine_51 : decode cX0_combine 51 = .ok (.iload_n 1, 1) := by decide +kernel
theorem dX0_combine_52 : decode cX0_combine 52 = .ok (.invokevirtual 83, 3) := by decide +kernel
theorem dX0_combine_55 : decode cX0_combine 55 = .ok (.ireturn, 1) := by decide +kernel
abbrev cX0_move : ByteArray := prog_1_method_19_code
def yX0_move : MethodName := ⟨RX0, "move", "(III)I"⟩
theorem dX0_move_0 : decode cX0_move 0 = .ok (.iload_n 1, 1) := by decide +kernel
theorem dX0_move_1 : decode cX0_move 1 = .ok (.invokestatic 68, 3) := by decide +kernel
theorem dX0_move_4 : decode cX0_move 4 = .ok (.ifCond .eq 5, 3) := by decide +kernel
theorem dX0_move_7 : decode cX0_move 7 = .ok (.iconst (-1), 1) := by decide +kernel
theorem dX0_move_8 : decode cX0_move 8 = .ok (.ireturn, 1) := by decide +kernel
theorem dX0_move_9 : decode cX0_move 9 = .ok (.iload_n 2, 1) := by decide +kernel
theorem dX0_move_10 : decode cX0_move 10 = .ok (.invokestatic 87, 3) := by decide +kernel
theorem dX0_move_13 : decode cX0_move 13 = .ok (.istore 4, 2) := by decide +kernel
theorem dX0_move_15 : decode cX0_move 15 = .ok (.iload_n 3, 1) := by decide +kernel
theorem dX0_move_16 : decode cX0_move 16 = .ok (.invokestatic 87, 3) := by decide +kernel
theorem dX0_move_19 : decode cX0_move 19 = .ok (.istore 5, 2) := by decide +kernel
theorem dX0_move_21 : decode cX0_move 21 = .ok (.aload_n 0, 1) := by decide +kernel
theorem dX0_move_22 : decode cX0_move 22 = .ok (.iconst 3, 1) := by decide +kernel
theorem dX0_move_23 : decode cX0_move 23 = .ok (.invokevirtual 38, 3) := by decide +kernel
theorem dX0_move_26 : decode cX0_move 26 = .ok (.iconst 0, 1) := by decide +kernel
theorem dX0_move_27 : decode cX0_move 27 = .ok (.istore 6, 2) := by decide +kernel
theorem dX0_move_29 : decode cX0_move 29 = .ok (.iload 6, 2) := by decide +kernel
theorem dX0_move_31 : decode cX0_move 31 = .ok (.aload_n 0, 1) := by decide +kernel
theorem dX0_move_32 : decode cX0_move 32 = .ok (.getfield 7, 3) := by decide +kernel
theorem dX0_move_35 : decode cX0_move 35 = .ok (.iload_n 1, 1) := by decide +kernel
theorem dX0_move_36 : decode cX0_move 36 = .ok (.iaload, 1) := by decide +kernel
theorem dX0_move_37 : decode cX0_move 37 = .ok (.if_icmp .ge 81, 3) := by decide +kernel
theorem dX0_move_40 : decode cX0_move 40 = .ok (.iload_n 1, 1) := by decide +kernel
theorem dX0_move_41 : decode cX0_move 41 = .ok (.bipush 24, 2) := by decide +kernel
theorem dX0_move_43 : decode cX0_move 43 = .ok (.imul, 1) := by decide +kernel
theorem dX0_move_44 : decode cX0_move 44 = .ok (.iload 6, 2) := by decide +kernel
theorem dX0_move_46 : decode cX0_move 46 = .ok (.iadd, 1) := by decide +kernel
theorem dX0_move_47 : decode cX0_move 47 = .ok (.istore 7, 2) := by decide +kernel
theorem dX0_move_49 : decode cX0_move 49 = .ok (.aload_n 0, 1) := by decide +kernel
theorem dX0_move_50 : decode cX0_move 50 = .ok (.getfield 13, 3) := by decide +kernel
theorem dX0_move_53 : decode cX0_move 53 = .ok (.iload 7, 2) := by decide +kernel
theorem dX0_move_55 : decode cX0_move 55 = .ok (.iaload, 1) := by decide +kernel
theorem dX0_move_56 : decode cX0_move 56 = .ok (.iload 5, 2) := by decide +kernel
theorem dX0_move_58 : decode cX0_move 58 = .ok (.iadd, 1) := by decide +kernel
theorem dX0_move_59 : decode cX0_move 59 = .ok (.istore 8, 2) := by decide +kernel
theorem dX0_move_61 : decode cX0_move 61 = .ok (.aload_n 0, 1) := by decide +kernel
theorem dX0_move_62 : decode cX0_move 62 = .ok (.getfield 16, 3) := by decide +kernel
theorem dX0_move_65 : decode cX0_move 65 = .ok (.iload 7, 2) := by decide +kernel
theorem dX0_move_67 : decode cX0_move 67 = .ok (.iaload, 1) := by decide +kernel
theorem dX0_move_68 : decode cX0_move 68 = .ok (.iload 5, 2) := by decide +kernel
theorem dX0_move_70 : decode cX0_move 70 = .ok (.iadd, 1) := by decide +kernel
theorem dX0_move_71 : decode cX0_move 71 = .ok (.istore 9, 2) := by decide +kernel
theorem dX0_move_73 : decode cX0_move 73 = .ok (.iload 8, 2) := by decide +kernel
theorem dX0_move_75 : decode cX0_move 75 = .ok (.ifCond .ge 6, 3) := by decide +kernel
theorem dX0_move_78 : decode cX0_move 78 = .ok (.iconst 0, 1) := by decide +kernel
theorem dX0_move_79 : decode cX0_move 79 = .ok (.istore 8, 2) := by decide +kernel
theorem dX0_move_81 : decode cX0_move 81 = .ok (.iload 9, 2) := by decide +kernel
theorem dX0_move_83 : decode cX0_move 83 = .ok (.bipush 23, 2) := by decide +kernel
theorem dX0_move_85 : decode cX0_move 85 = .ok (.if_icmp .le 7, 3) := by decide +kernel
theorem dX0_move_88 : decode cX0_move 88 = .ok (.bipush 23, 2) := by decide +kernel
theorem dX0_move_90 : decode cX0_move 90 = .ok (.istore 9, 2) := by decide +kernel
theorem dX0_move_92 : decode cX0_move 92 = .ok (.iload 8, 2) := by decide +kernel
theorem dX0_move_94 : decode cX0_move 94 = .ok (.iload 9, 2) := by decide +kernel
theorem dX0_move_96 : decode cX0_move 96 = .ok (.if_icmp .gt 16, 3) := by decide +kernel
theorem dX0_move_99 : decode cX0_move 99 = .ok (.aload_n 0, 1) := by decide +kernel
theorem dX0_move_100 : decode cX0_move 100 = .ok (.iload_n 1, 1) := by decide +kernel
theorem dX0_move_101 : decode cX0_move 101 = .ok (.iload 7, 2) := by decide +kernel
theorem dX0_move_103 : decode cX0_move 103 = .ok (.iload 4, 2) := by decide +kernel
theorem dX0_move_105 : decode cX0_move 105 = .ok (.iload 8, 2) := by decide +kernel
theorem dX0_move_107 : decode cX0_move 107 = .ok (.iload 9, 2) := by decide +kernel
theorem dX0_move_109 : decode cX0_move 109 = .ok (.invokevirtual 90, 3) := by decide +kernel
theorem dX0_move_112 : decode cX0_move 112 = .ok (.iinc 6 1, 3) := by decide +kernel
theorem dX0_move_115 : decode cX0_move 115 = .ok (.goto (-86), 3) := by decide +kernel
theorem dX0_move_118 : decode cX0_move 118 = .ok (.aload_n 0, 1) := by decide +kernel
theorem dX0_move_119 : decode cX0_move 119 = .ok (.iload_n 1, 1) := by decide +kernel
theorem dX0_move_120 : decode cX0_move 120 = .ok (.invokevirtual 80, 3) := by decide +kernel
theorem dX0_move_123 : decode cX0_move 123 = .ok (.aload_n 0, 1) := by decide +kernel
theorem dX0_move_124 : decode cX0_move 124 = .ok (.iload_n 1, 1) := by decide +kernel
theorem dX0_move_125 : decode cX0_move 125 = .ok (.invokevirtual 83, 3) := by decide +kernel
theorem dX0_move_128 : decode cX0_move 128 = .ok (.ireturn, 1) := by decide +kernel
abbrev cX0_clampMove : ByteArray := prog_1_method_18_code
def yX0_clampMove : MethodName := ⟨RX0, "clampMove", "(I)I"⟩
theorem dX0_clampMove_0 : decode cX0_clampMove 0 = .ok (.iload_n 0, 1) := by decide +kernel
theorem dX0_clampMove_1 : decode cX0_clampMove 1 = .ok (.bipush 24, 2) := by decide +kernel
theorem dX0_clampMove_3 : decode cX0_clampMove 3 = .ok (.if_icmp .le 6, 3) := by decide +kernel
theorem dX0_clampMove_6 : decode cX0_clampMove 6 = .ok (.bipush 24, 2) := by decide +kernel
theorem dX0_clampMove_8 : decode cX0_clampMove 8 = .ok (.ireturn, 1) := by decide +kernel
theorem dX0_clampMove_9 : decode cX0_clampMove 9 = .ok (.iload_n 0, 1) := by decide +kernel
theorem dX0_clampMove_10 : decode cX0_clampMove 10 = .ok (.bipush (-24), 2) := by decide +kernel
theorem dX0_clampMove_12 : decode cX0_clampMove 12 = .ok (.if_icmp .ge 6, 3) := by decide +kernel
theorem dX0_clampMove_15 : decode cX0_clampMove 15 = .ok (.bipush (-24), 2) := by decide +kernel
theorem dX0_clampMove_17 : decode cX0_clampMove 17 = .ok (.ireturn, 1) := by decide +kernel
theorem dX0_clampMove_18 : decode cX0_clampMove 18 = .ok (.iload_n 0, 1) := by decide +kernel
theorem dX0_clampMove_19 : decode cX0_clampMove 19 = .ok (.ireturn, 1) := by decide +kernel
abbrev cX0_moveBand : ByteArray := prog_1_method_20_code
def yX0_moveBand : MethodName := ⟨RX0, "moveBand", "(IIIII)V"⟩
theorem dX0_moveBand_0 : decode cX0_moveBand 0 = .ok (.aload_n 0, 1) := by decide +kernel
theorem dX0_moveBand_1 : decode cX0_moveBand 1 = .ok (.getfield 25, 3) := by decide +kernel
theorem dX0_moveBand_4 : decode cX0_moveBand 4 = .ok (.iconst 3, 1) := by decide +kernel
theorem dX0_moveBand_5 : decode cX0_moveBand 5 = .ok (.iaload, 1) := by decide +kernel
theorem dX0_moveBand_6 : decode cX0_moveBand 6 = .ok (.istore 6, 2) := by decide +kernel
theorem dX0_moveBand_8 : decode cX0_moveBand 8 = .ok (.iconst 0, 1) := by decide +kernel
theorem dX0_moveBand_9 : decode cX0_moveBand 9 = .ok (.istore 7, 2) := by decide +kernel
theorem dX0_moveBand_11 : decode cX0_moveBand 11 = .ok (.iload 7, 2) := by decide +kernel
theorem dX0_moveBand_13 : decode cX0_moveBand 13 = .ok (.aload_n 0, 1) := by decide +kernel
theorem dX0_moveBand_14 : decode cX0_moveBand 14 = .ok (.getfield 22, 3) := by decide +kernel
theorem dX0_moveBand_17 : decode cX0_moveBand 17 = .ok (.iload_n 2, 1) := by decide +kernel
theorem dX0_moveBand_18 : decode cX0_moveBand 18 = .ok (.iaload, 1) := by decide +kernel
theorem dX0_moveBand_19 : decode cX0_moveBand 19 = .ok (.if_icmp .ge 85, 3) := by decide +kernel
theorem dX0_moveBand_22 : decode cX0_moveBand 22 = .ok (.iload_n 1, 1) := by decide +kernel
theorem dX0_moveBand_23 : decode cX0_moveBand 23 = .ok (.sipush 288, 3) := by decide +kernel
theorem dX0_moveBand_26 : decode cX0_moveBand 26 = .ok (.imul, 1) := by decide +kernel
theorem dX0_moveBand_27 : decode cX0_moveBand 27 = .ok (.aload_n 0, 1) := by decide +kernel
theorem dX0_moveBand_28 : decode cX0_moveBand 28 = .ok (.getfield 19, 3) := by decide +kernel
theorem dX0_moveBand_31 : decode cX0_moveBand 31 = .ok (.iload_n 2, 1) := by decide +kernel
theorem dX0_moveBand_32 : decode cX0_moveBand 32 = .ok (.iaload, 1) := by decide +kernel
theorem dX0_moveBand_33 : decode cX0_moveBand 33 = .ok (.iadd, 1) := by decide +kernel
theorem dX0_moveBand_34 : decode cX0_moveBand 34 = .ok (.iload 7, 2) := by decide +kernel
theorem dX0_moveBand_36 : decode cX0_moveBand 36 = .ok (.iadd, 1) := by decide +kernel
theorem dX0_moveBand_37 : decode cX0_moveBand 37 = .ok (.istore 8, 2) := by decide +kernel
theorem dX0_moveBand_39 : decode cX0_moveBand 39 = .ok (.aload_n 0, 1) := by decide +kernel
theorem dX0_moveBand_40 : decode cX0_moveBand 40 = .ok (.getfield 28, 3) := by decide +kernel
theorem dX0_moveBand_43 : decode cX0_moveBand 43 = .ok (.iload 8, 2) := by decide +kernel
theorem dX0_moveBand_45 : decode cX0_moveBand 45 = .ok (.iaload, 1) := by decide +kernel
theorem dX0_moveBand_46 : decode cX0_moveBand 46 = .ok (.iload_n 3, 1) := by decide +kernel
theorem dX0_moveBand_47 : decode cX0_moveBand 47 = .ok (.iadd, 1) := by decide +kernel
theorem dX0_moveBand_48 : decode cX0_moveBand 48 = .ok (.istore 9, 2) := by decide +kernel
theorem dX0_moveBand_50 : decode cX0_moveBand 50 = .ok (.aload_n 0, 1) := by decide +kernel
theorem dX0_moveBand_51 : decode cX0_moveBand 51 = .ok (.getfield 31, 3) := by decide +kernel
theorem dX0_moveBand_54 : decode cX0_moveBand 54 = .ok (.iload 8, 2) := by decide +kernel
theorem dX0_moveBand_56 : decode cX0_moveBand 56 = .ok (.iaload, 1) := by decide +kernel
theorem dX0_moveBand_57 : decode cX0_moveBand 57 = .ok (.iload_n 3, 1) := by decide +kernel
theorem dX0_moveBand_58 : decode cX0_moveBand 58 = .ok (.iadd, 1) := by decide +kernel
theorem dX0_moveBand_59 : decode cX0_moveBand 59 = .ok (.istore 10, 2) := by decide +kernel
theorem dX0_moveBand_61 : decode cX0_moveBand 61 = .ok (.iload 9, 2) := by decide +kernel
theorem dX0_moveBand_63 : decode cX0_moveBand 63 = .ok (.ifCond .ge 6, 3) := by decide +kernel
theorem dX0_moveBand_66 : decode cX0_moveBand 66 = .ok (.iconst 0, 1) := by decide +kernel
theorem dX0_moveBand_67 : decode cX0_moveBand 67 = .ok (.istore 9, 2) := by decide +kernel
theorem dX0_moveBand_69 : decode cX0_moveBand 69 = .ok (.iload 10, 2) := by decide +kernel
theorem dX0_moveBand_71 : decode cX0_moveBand 71 = .ok (.bipush 23, 2) := by decide +kernel
theorem dX0_moveBand_73 : decode cX0_moveBand 73 = .ok (.if_icmp .le 7, 3) := by decide +kernel
theorem dX0_moveBand_76 : decode cX0_moveBand 76 = .ok (.bipush 23, 2) := by decide +kernel
theorem dX0_moveBand_78 : decode cX0_moveBand 78 = .ok (.istore 10, 2) := by decide +kernel
theorem dX0_moveBand_80 : decode cX0_moveBand 80 = .ok (.iload 9, 2) := by decide +kernel
theorem dX0_moveBand_82 : decode cX0_moveBand 82 = .ok (.iload 10, 2) := by decide +kernel
theorem dX0_moveBand_84 : decode cX0_moveBand 84 = .ok (.if_icmp .gt 14, 3) := by decide +kernel
theorem dX0_moveBand_87 : decode cX0_moveBand 87 = .ok (.aload_n 0, 1) := by decide +kernel
theorem dX0_moveBand_88 : decode cX0_moveBand 88 = .ok (.iconst 3, 1) := by decide +kernel
theorem dX0_moveBand_89 : decode cX0_moveBand 89 = .ok (.iload 6, 2) := by decide +kernel
theorem dX0_moveBand_91 : decode cX0_moveBand 91 = .ok (.iload 9, 2) := by decide +kernel
theorem dX0_moveBand_93 : decode cX0_moveBand 93 = .ok (.iload 10, 2) := by decide +kernel
theorem dX0_moveBand_95 : decode cX0_moveBand 95 = .ok (.invokevirtual 65, 3) := by decide +kernel
theorem dX0_moveBand_98 : decode cX0_moveBand 98 = .ok (.iinc 7 1, 3) := by decide +kernel
theorem dX0_moveBand_101 : decode cX0_moveBand 101 = .ok (.goto (-90), 3) := by decide +kernel
theorem dX0_moveBand_104 : decode cX0_moveBand 104 = .ok (.aload_n 0, 1) := by decide +kernel
theorem dX0_moveBand_105 : decode cX0_moveBand 105 = .ok (.iconst 3, 1) := by decide +kernel
theorem dX0_moveBand_106 : decode cX0_moveBand 106 = .ok (.iload 6, 2) := by decide +kernel
theorem dX0_moveBand_108 : decode cX0_moveBand 108 = .ok (.iload 4, 2) := by decide +kernel
theorem dX0_moveBand_110 : decode cX0_moveBand 110 = .ok (.iload 5, 2) := by decide +kernel
theorem dX0_moveBand_112 : decode cX0_moveBand 112 = .ok (.invokevirtual 57, 3) := by decide +kernel
theorem dX0_moveBand_115 : decode cX0_moveBand 115 = .ok (.return_, 1) := by decide +kernel
abbrev cX0_invert : ByteArray := prog_1_method_21_code
def yX0_invert : MethodName := ⟨RX0, "invert", "(I)I"⟩
theorem dX0_invert_0 : decode cX0_invert 0 = .ok (.iload_n 1, 1) := by decide +kernel
theorem dX0_invert_1 : decode cX0_invert 1 = .ok (.invokestatic 68, 3) := by decide +kernel
theorem dX0_invert_4 : decode cX0_invert 4 = .ok (.ifCond .eq 5, 3) := by decide +kernel
theorem dX0_invert_7 : decode cX0_invert 7 = .ok (.iconst (-1), 1) := by decide +kernel
theorem dX0_invert_8 : decode cX0_invert 8 = .ok (.ireturn, 1) := by decide +kernel
theorem dX0_invert_9 : decode cX0_invert 9 = .ok (.aload_n 0, 1) := by decide +kernel
theorem dX0_invert_10 : decode cX0_invert 10 = .ok (.iconst 0, 1) := by decide +kernel
theorem dX0_invert_11 : decode cX0_invert 11 = .ok (.sipush 792, 3) := by decide +kernel
theorem dX0_invert_14 : decode cX0_invert 14 = .ok (.invokevirtual 72, 3) := by decide +kernel
theorem dX0_invert_17 : decode cX0_invert 17 = .ok (.aload_n 0, 1) := by decide +kernel
theorem dX0_invert_18 : decode cX0_invert 18 = .ok (.iload_n 1, 1) := by decide +kernel
theorem dX0_invert_19 : decode cX0_invert 19 = .ok (.iconst 4, 1) := by decide +kernel
theorem dX0_invert_20 : decode cX0_invert 20 = .ok (.iconst 3, 1) := by decide +kernel
theorem dX0_invert_21 : decode cX0_invert 21 = .ok (.invokevirtual 76, 3) := by decide +kernel
theorem dX0_invert_24 : decode cX0_invert 24 = .ok (.aload_n 0, 1) := by decide +kernel
theorem dX0_invert_25 : decode cX0_invert 25 = .ok (.iload_n 1, 1) := by decide +kernel
theorem dX0_invert_26 : decode cX0_invert 26 = .ok (.invokevirtual 80, 3) := by decide +kernel
theorem dX0_invert_29 : decode cX0_invert 29 = .ok (.aload_n 0, 1) := by decide +kernel
theorem dX0_invert_30 : decode cX0_invert 30 = .ok (.iload_n 1, 1) := by decide +kernel
theorem dX0_invert_31 : decode cX0_invert 31 = .ok (.invokevirtual 83, 3) := by decide +kernel
theorem dX0_invert_34 : decode cX0_invert 34 = .ok (.ireturn, 1) := by decide +kernel
abbrev cX0_area : ByteArray := prog_1_method_22_code
def yX0_area : MethodName := ⟨RX0, "area", "(I)I"⟩
theorem dX0_area_0 : decode cX0_area 0 = .ok (.iload_n 1, 1) := by decide +kernel
theorem dX0_area_1 : decode cX0_area 1 = .ok (.invokestatic 68, 3) := by decide +kernel
theorem dX0_area_4 : decode cX0_area 4 = .ok (.ifCond .eq 5, 3) := by decide +kernel
theorem dX0_area_7 : decode cX0_area 7 = .ok (.iconst (-1), 1) := by decide +kernel
theorem dX0_area_8 : decode cX0_area 8 = .ok (.ireturn, 1) := by decide +kernel
theorem dX0_area_9 : decode cX0_area 9 = .ok (.aload_n 0, 1) := by decide +kernel
theorem dX0_area_10 : decode cX0_area 10 = .ok (.iload_n 1, 1) := by decide +kernel
theorem dX0_area_11 : decode cX0_area 11 = .ok (.invokevirtual 83, 3) := by decide +kernel
theorem dX0_area_14 : decode cX0_area 14 = .ok (.ireturn, 1) := by decide +kernel
abbrev cX0_has : ByteArray := prog_1_method_23_code
def yX0_has : MethodName := ⟨RX0, "has", "(III)Z"⟩
theorem dX0_has_0 : decode cX0_has 0 = .ok (.iload_n 1, 1) := by decide +kernel
theorem dX0_has_1 : decode cX0_has 1 = .ok (.invokestatic 68, 3) := by decide +kernel
theorem dX0_has_4 : decode cX0_has 4 = .ok (.ifCond .ne 23, 3) := by decide +kernel
theorem dX0_has_7 : decode cX0_has 7 = .ok (.iload_n 2, 1) := by decide +kernel
theorem dX0_has_8 : decode cX0_has 8 = .ok (.ifCond .lt 19, 3) := by decide +kernel
theorem dX0_has_11 : decode cX0_has 11 = .ok (.iload_n 2, 1) := by decide +kernel
theorem dX0_has_12 : decode cX0_has 12 = .ok (.bipush 24, 2) := by decide +kernel
theorem dX0_has_14 : decode cX0_has 14 = .ok (.if_icmp .ge 13, 3) := by decide +kernel
theorem dX0_has_17 : decode cX0_has 17 = .ok (.iload_n 3, 1) := by decide +kernel
theorem dX0_has_18 : decode cX0_has 18 = .ok (.ifCond .lt 9, 3) := by decide +kernel
theorem dX0_has_21 : decode cX0_has 21 = .ok (.iload_n 3, 1) := by decide +kernel
theorem dX0_has_22 : decode cX0_has 22 = .ok (.bipush 24, 2) := by decide +kernel
theorem dX0_has_24 : decode cX0_has 24 = .ok (.if_icmp .lt 5, 3) := by decide +kernel
theorem dX0_has_27 : decode cX0_has 27 = .ok (.iconst 0, 1) := by decide +kernel
theorem dX0_has_28 : decode cX0_has 28 = .ok (.ireturn, 1) := by decide +kernel
theorem dX0_has_29 : decode cX0_has 29 = .ok (.aload_n 0, 1) := by decide +kernel
theorem dX0_has_30 : decode cX0_has 30 = .ok (.iload_n 1, 1) := by decide +kernel
theorem dX0_has_31 : decode cX0_has 31 = .ok (.iload_n 3, 1) := by decide +kernel
theorem dX0_has_32 : decode cX0_has 32 = .ok (.invokevirtual 42, 3) := by decide +kernel
theorem dX0_has_35 : decode cX0_has 35 = .ok (.istore 4, 2) := by decide +kernel
theorem dX0_has_37 : decode cX0_has 37 = .ok (.aload_n 0, 1) := by decide +kernel
theorem dX0_has_38 : decode cX0_has 38 = .ok (.iload_n 1, 1) := by decide +kernel
theorem dX0_has_39 : decode cX0_has 39 = .ok (.iload 4, 2) := by decide +kernel
theorem dX0_has_41 : decode cX0_has 41 = .ok (.iload_n 3, 1) := by decide +kernel
theorem dX0_has_42 : decode cX0_has 42 = .ok (.invokevirtual 50, 3) := by decide +kernel
theorem dX0_has_45 : decode cX0_has 45 = .ok (.istore 5, 2) := by decide +kernel
theorem dX0_has_47 : decode cX0_has 47 = .ok (.iload 5, 2) := by decide +kernel
theorem dX0_has_49 : decode cX0_has 49 = .ok (.ifCond .ge 5, 3) := by decide +kernel
theorem dX0_has_52 : decode cX0_has 52 = .ok (.iconst 0, 1) := by decide +kernel
theorem dX0_has_53 : decode cX0_has 53 = .ok (.ireturn, 1) := by decide +kernel
theorem dX0_has_54 : decode cX0_has 54 = .ok (.iconst 0, 1) := by decide +kernel
theorem dX0_has_55 : decode cX0_has 55 = .ok (.istore 6, 2) := by decide +kernel
theorem dX0_has_57 : decode cX0_has 57 = .ok (.iload 6, 2) := by decide +kernel
theorem dX0_has_59 : decode cX0_has 59 = .ok (.aload_n 0, 1) := by decide +kernel
theorem dX0_has_60 : decode cX0_has 60 = .ok (.getfield 22, 3) := by decide +kernel
theorem dX0_has_63 : decode cX0_has 63 = .ok (.iload 5, 2) := by decide +kernel
theorem dX0_has_65 : decode cX0_has 65 = .ok (.iaload, 1) := by decide +kernel
theorem dX0_has_66 : decode cX0_has 66 = .ok (.if_icmp .ge 51, 3) := by decide +kernel
theorem dX0_has_69 : decode cX0_has 69 = .ok (.iload_n 1, 1) := by decide +kernel
theorem dX0_has_70 : decode cX0_has 70 = .ok (.sipush 288, 3) := by decide +kernel
theorem dX0_has_73 : decode cX0_has 73 = .ok (.imul, 1) := by decide +kernel
theorem dX0_has_74 : decode cX0_has 74 = .ok (.aload_n 0, 1) := by decide +kernel
theorem dX0_has_75 : decode cX0_has 75 = .ok (.getfield 19, 3) := by decide +kernel
theorem dX0_has_78 : decode cX0_has 78 = .ok (.iload 5, 2) := by decide +kernel
theorem dX0_has_80 : decode cX0_has 80 = .ok (.iaload, 1) := by decide +kernel
theorem dX0_has_81 : decode cX0_has 81 = .ok (.iadd, 1) := by decide +kernel
theorem dX0_has_82 : decode cX0_has 82 = .ok (.iload 6, 2) := by decide +kernel
theorem dX0_has_84 : decode cX0_has 84 = .ok (.iadd, 1) := by decide +kernel
theorem dX0_has_85 : decode cX0_has 85 = .ok (.istore 7, 2) := by decide +kernel
theorem dX0_has_87 : decode cX0_has 87 = .ok (.aload_n 0, 1) := by decide +kernel
theorem dX0_has_88 : decode cX0_has 88 = .ok (.getfield 28, 3) := by decide +kernel
theorem dX0_has_91 : decode cX0_has 91 = .ok (.iload 7, 2) := by decide +kernel
theorem dX0_has_93 : decode cX0_has 93 = .ok (.iaload, 1) := by decide +kernel
theorem dX0_has_94 : decode cX0_has 94 = .ok (.iload_n 2, 1) := by decide +kernel
theorem dX0_has_95 : decode cX0_has 95 = .ok (.if_icmp .gt 16, 3) := by decide +kernel
theorem dX0_has_98 : decode cX0_has 98 = .ok (.iload_n 2, 1) := by decide +kernel
theorem dX0_has_99 : decode cX0_has 99 = .ok (.aload_n 0, 1) := by decide +kernel
theorem dX0_has_100 : decode cX0_has 100 = .ok (.getfield 31, 3) := by decide +kernel
theorem dX0_has_103 : decode cX0_has 103 = .ok (.iload 7, 2) := by decide +kernel
theorem dX0_has_105 : decode cX0_has 105 = .ok (.iaload, 1) := by decide +kernel
theorem dX0_has_106 : decode cX0_has 106 = .ok (.if_icmp .gt 5, 3) := by decide +kernel
theorem dX0_has_109 : decode cX0_has 109 = .ok (.iconst 1, 1) := by decide +kernel
theorem dX0_has_110 : decode cX0_has 110 = .ok (.ireturn, 1) := by decide +kernel
theorem dX0_has_111 : decode cX0_has 111 = .ok (.iinc 6 1, 3) := by decide +kernel
theorem dX0_has_114 : decode cX0_has 114 = .ok (.goto (-57), 3) := by decide +kernel
theorem dX0_has_117 : decode cX0_has 117 = .ok (.iconst 0, 1) := by decide +kernel
theorem dX0_has_118 : decode cX0_has 118 = .ok (.ireturn, 1) := by decide +kernel
abbrev cX0_rectangles : ByteArray := prog_1_method_24_code
def yX0_rectangles : MethodName := ⟨RX0, "rectangles", "(I)I"⟩
theorem dX0_rectangles_0 : decode cX0_rectangles 0 = .ok (.iload_n 1, 1) := by decide +kernel
theorem dX0_rectangles_1 : decode cX0_rectangles 1 = .ok (.invokestatic 68, 3) := by decide +kernel
theorem dX0_rectangles_4 : decode cX0_rectangles 4 = .ok (.ifCond .eq 7, 3) := by decide +kernel
theorem dX0_rectangles_7 : decode cX0_rectangles 7 = .ok (.iconst (-1), 1) := by decide +kernel
theorem dX0_rectangles_8 : decode cX0_rectangles 8 = .ok (.goto 9, 3) := by decide +kernel
theorem dX0_rectangles_11 : decode cX0_rectangles 11 = .ok (.aload_n 0, 1) := by decide +kernel
theorem dX0_rectangles_12 : decode cX0_rectangles 12 = .ok (.getfield 25, 3) := by decide +kernel
theorem dX0_rectangles_15 : decode cX0_rectangles 15 = .ok (.iload_n 1, 1) := by decide +kernel
theorem dX0_rectangles_16 : decode cX0_rectangles 16 = .ok (.iaload, 1) := by decide +kernel
theorem dX0_rectangles_17 : decode cX0_rectangles 17 = .ok (.ireturn, 1) := by decide +kernel
abbrev cX0_rectangle : ByteArray := prog_1_method_26_code
def yX0_rectangle : MethodName := ⟨RX0, "rectangle", "(II)I"⟩
theorem dX0_rectangle_0 : decode cX0_rectangle 0 = .ok (.iload_n 1, 1) := by decide +kernel
theorem dX0_rectangle_1 : decode cX0_rectangle 1 = .ok (.invokestatic 68, 3) := by decide +kernel
theorem dX0_rectangle_4 : decode cX0_rectangle 4 = .ok (.ifCond .eq 5, 3) := by decide +kernel
theorem dX0_rectangle_7 : decode cX0_rectangle 7 = .ok (.iconst (-1), 1) := by decide +kernel
theorem dX0_rectangle_8 : decode cX0_rectangle 8 = .ok (.ireturn, 1) := by decide +kernel
theorem dX0_rectangle_9 : decode cX0_rectangle 9 = .ok (.iload_n 2, 1) := by decide +kernel
theorem dX0_rectangle_10 : decode cX0_rectangle 10 = .ok (.ifCond .lt 13, 3) := by decide +kernel
theorem dX0_rectangle_13 : decode cX0_rectangle 13 = .ok (.iload_n 2, 1) := by decide +kernel
theorem dX0_rectangle_14 : decode cX0_rectangle 14 = .ok (.aload_n 0, 1) := by decide +kernel
theorem dX0_rectangle_15 : decode cX0_rectangle 15 = .ok (.getfield 25, 3) := by decide +kernel
theorem dX0_rectangle_18 : decode cX0_rectangle 18 = .ok (.iload_n 1, 1) := by decide +kernel
theorem dX0_rectangle_19 : decode cX0_rectangle 19 = .ok (.iaload, 1) := by decide +kernel
theorem dX0_rectangle_20 : decode cX0_rectangle 20 = .ok (.if_icmp .lt 6, 3) := by decide +kernel
theorem dX0_rectangle_23 : decode cX0_rectangle 23 = .ok (.bipush (-3), 2) := by decide +kernel
theorem dX0_rectangle_25 : decode cX0_rectangle 25 = .ok (.ireturn, 1) := by decide +kernel
theorem dX0_rectangle_26 : decode cX0_rectangle 26 = .ok (.iconst 0, 1) := by decide +kernel
theorem dX0_rectangle_27 : decode cX0_rectangle 27 = .ok (.istore_n 3, 1) := by decide +kernel
theorem dX0_rectangle_28 : decode cX0_rectangle 28 = .ok (.iload_n 3, 1) := by decide +kernel
theorem dX0_rectangle_29 : decode cX0_rectangle 29 = .ok (.aload_n 0, 1) := by decide +kernel
theorem dX0_rectangle_30 : decode cX0_rectangle 30 = .ok (.getfield 7, 3) := by decide +kernel
theorem dX0_rectangle_33 : decode cX0_rectangle 33 = .ok (.iload_n 1, 1) := by decide +kernel
theorem dX0_rectangle_34 : decode cX0_rectangle 34 = .ok (.iaload, 1) := by decide +kernel
theorem dX0_rectangle_35 : decode cX0_rectangle 35 = .ok (.iconst 1, 1) := by decide +kernel
theorem dX0_rectangle_36 : decode cX0_rectangle 36 = .ok (.isub, 1) := by decide +kernel
theorem dX0_rectangle_37 : decode cX0_rectangle 37 = .ok (.if_icmp .ge 26, 3) := by decide +kernel
theorem dX0_rectangle_40 : decode cX0_rectangle 40 = .ok (.aload_n 0, 1) := by decide +kernel
theorem dX0_rectangle_41 : decode cX0_rectangle 41 = .ok (.getfield 19, 3) := by decide +kernel
theorem dX0_rectangle_44 : decode cX0_rectangle 44 = .ok (.iload_n 1, 1) := by decide +kernel
theorem dX0_rectangle_45 : decode cX0_rectangle 45 = .ok (.bipush 24, 2) := by decide +kernel
theorem dX0_rectangle_47 : decode cX0_rectangle 47 = .ok (.imul, 1) := by decide +kernel
theorem dX0_rectangle_48 : decode cX0_rectangle 48 = .ok (.iload_n 3, 1) := by decide +kernel
theorem dX0_rectangle_49 : decode cX0_rectangle 49 = .ok (.iadd, 1) := by decide +kernel
theorem dX0_rectangle_50 : decode cX0_rectangle 50 = .ok (.iconst 1, 1) := by decide +kernel
theorem dX0_rectangle_51 : decode cX0_rectangle 51 = .ok (.iadd, 1) := by decide +kernel
theorem dX0_rectangle_52 : decode cX0_rectangle 52 = .ok (.iaload, 1) := by decide +kernel
theorem dX0_rectangle_53 : decode cX0_rectangle 53 = .ok (.iload_n 2, 1) := by decide +kernel
theorem dX0_rectangle_54 : decode cX0_rectangle 54 = .ok (.if_icmp .gt 9, 3) := by decide +kernel
theorem dX0_rectangle_57 : decode cX0_rectangle 57 = .ok (.iinc 3 1, 3) := by decide +kernel
theorem dX0_rectangle_60 : decode cX0_rectangle 60 = .ok (.goto (-32), 3) := by decide +kernel
theorem dX0_rectangle_63 : decode cX0_rectangle 63 = .ok (.iload_n 1, 1) := by decide +kernel
theorem dX0_rectangle_64 : decode cX0_rectangle 64 = .ok (.bipush 24, 2) := by decide +kernel
theorem dX0_rectangle_66 : decode cX0_rectangle 66 = .ok (.imul, 1) := by decide +kernel
theorem dX0_rectangle_67 : decode cX0_rectangle 67 = .ok (.iload_n 3, 1) := by decide +kernel
theorem dX0_rectangle_68 : decode cX0_rectangle 68 = .ok (.iadd, 1) := by decide +kernel
theorem dX0_rectangle_69 : decode cX0_rectangle 69 = .ok (.istore 4, 2) := by decide +kernel
theorem dX0_rectangle_71 : decode cX0_rectangle 71 = .ok (.iload_n 1, 1) := by decide +kernel
theorem dX0_rectangle_72 : decode cX0_rectangle 72 = .ok (.sipush 288, 3) := by decide +kernel
theorem dX0_rectangle_75 : decode cX0_rectangle 75 = .ok (.imul, 1) := by decide +kernel
theorem dX0_rectangle_76 : decode cX0_rectangle 76 = .ok (.iload_n 2, 1) := by decide +kernel
theorem dX0_rectangle_77 : decode cX0_rectangle 77 = .ok (.iadd, 1) := by decide +kernel
theorem dX0_rectangle_78 : decode cX0_rectangle 78 = .ok (.istore 5, 2) := by decide +kernel
theorem dX0_rectangle_80 : decode cX0_rectangle 80 = .ok (.aload_n 0, 1) := by decide +kernel
theorem dX0_rectangle_81 : decode cX0_rectangle 81 = .ok (.getfield 28, 3) := by decide +kernel
theorem dX0_rectangle_84 : decode cX0_rectangle 84 = .ok (.iload 5, 2) := by decide +kernel
theorem dX0_rectangle_86 : decode cX0_rectangle 86 = .ok (.iaload, 1) := by decide +kernel
theorem dX0_rectangle_87 : decode cX0_rectangle 87 = .ok (.aload_n 0, 1) := by decide +kernel
theorem dX0_rectangle_88 : decode cX0_rectangle 88 = .ok (.getfield 13, 3) := by decide +kernel
theorem dX0_rectangle_91 : decode cX0_rectangle 91 = .ok (.iload 4, 2) := by decide +kernel
theorem dX0_rectangle_93 : decode cX0_rectangle 93 = .ok (.iaload, 1) := by decide +kernel
theorem dX0_rectangle_94 : decode cX0_rectangle 94 = .ok (.aload_n 0, 1) := by decide +kernel
theorem dX0_rectangle_95 : decode cX0_rectangle 95 = .ok (.getfield 31, 3) := by decide +kernel
theorem dX0_rectangle_98 : decode cX0_rectangle 98 = .ok (.iload 5, 2) := by decide +kernel
theorem dX0_rectangle_100 : decode cX0_rectangle 100 = .ok (.iaload, 1) := by decide +kernel
theorem dX0_rectangle_101 : decode cX0_rectangle 101 = .ok (.aload_n 0, 1) := by decide +kernel
theorem dX0_rectangle_102 : decode cX0_rectangle 102 = .ok (.getfield 16, 3) := by decide +kernel
theorem dX0_rectangle_105 : decode cX0_rectangle 105 = .ok (.iload 4, 2) := by decide +kernel
theorem dX0_rectangle_107 : decode cX0_rectangle 107 = .ok (.iaload, 1) := by decide +kernel
theorem dX0_rectangle_108 : decode cX0_rectangle 108 = .ok (.invokestatic 94, 3) := by decide +kernel
theorem dX0_rectangle_111 : decode cX0_rectangle 111 = .ok (.ireturn, 1) := by decide +kernel
end
section
set_option maxRecDepth 100000
abbrev cX0_packed : ByteArray := prog_1_method_25_code
def yX0_packed : MethodName := ⟨RX0, "packed", "(IIII)I"⟩
theorem dX0_packed_0 : decode cX0_packed 0 = .ok (.iload_n 0, 1) := by decide +kernel
theorem dX0_packed_1 : decode cX0_packed 1 = .ok (.bipush 32, 2) := by decide +kernel
theorem dX0_packed_3 : decode cX0_packed 3 = .ok (.iload_n 1, 1) := by decide +kernel
theorem dX0_packed_4 : decode cX0_packed 4 = .ok (.imul, 1) := by decide +kernel
theorem dX0_packed_5 : decode cX0_packed 5 = .ok (.iadd, 1) := by decide +kernel
theorem dX0_packed_6 : decode cX0_packed 6 = .ok (.sipush 1024, 3) := by decide +kernel
theorem dX0_packed_9 : decode cX0_packed 9 = .ok (.iload_n 2, 1) := by decide +kernel
theorem dX0_packed_10 : decode cX0_packed 10 = .ok (.imul, 1) := by decide +kernel
theorem dX0_packed_11 : decode cX0_packed 11 = .ok (.iadd, 1) := by decide +kernel
theorem dX0_packed_12 : decode cX0_packed 12 = .ok (.ldc 93, 2) := by decide +kernel
theorem dX0_packed_14 : decode cX0_packed 14 = .ok (.iload_n 3, 1) := by decide +kernel
theorem dX0_packed_15 : decode cX0_packed 15 = .ok (.imul, 1) := by decide +kernel
theorem dX0_packed_16 : decode cX0_packed 16 = .ok (.iadd, 1) := by decide +kernel
theorem dX0_packed_17 : decode cX0_packed 17 = .ok (.ireturn, 1) := by decide +kernel
abbrev cX0_around : ByteArray := prog_1_method_27_code
def yX0_around : MethodName := ⟨RX0, "around", "(I)I"⟩
theorem dX0_around_0 : decode cX0_around 0 = .ok (.iload_n 1, 1) := by decide +kernel
theorem dX0_around_1 : decode cX0_around 1 = .ok (.invokestatic 68, 3) := by decide +kernel
theorem dX0_around_4 : decode cX0_around 4 = .ok (.ifCond .eq 5, 3) := by decide +kernel
theorem dX0_around_7 : decode cX0_around 7 = .ok (.iconst (-1), 1) := by decide +kernel
theorem dX0_around_8 : decode cX0_around 8 = .ok (.ireturn, 1) := by decide +kernel
theorem dX0_around_9 : decode cX0_around 9 = .ok (.aload_n 0, 1) := by decide +kernel
theorem dX0_around_10 : decode cX0_around 10 = .ok (.getfield 25, 3) := by decide +kernel
theorem dX0_around_13 : decode cX0_around 13 = .ok (.iload_n 1, 1) := by decide +kernel
theorem dX0_around_14 : decode cX0_around 14 = .ok (.iaload, 1) := by decide +kernel
theorem dX0_around_15 : decode cX0_around 15 = .ok (.ifCond .ne 6, 3) := by decide +kernel
theorem dX0_around_18 : decode cX0_around 18 = .ok (.bipush (-3), 2) := by decide +kernel
theorem dX0_around_20 : decode cX0_around 20 = .ok (.ireturn, 1) := by decide +kernel
theorem dX0_around_21 : decode cX0_around 21 = .ok (.bipush 24, 2) := by decide +kernel
theorem dX0_around_23 : decode cX0_around 23 = .ok (.istore_n 2, 1) := by decide +kernel
theorem dX0_around_24 : decode cX0_around 24 = .ok (.iconst 0, 1) := by decide +kernel
theorem dX0_around_25 : decode cX0_around 25 = .ok (.istore_n 3, 1) := by decide +kernel
theorem dX0_around_26 : decode cX0_around 26 = .ok (.iload_n 1, 1) := by decide +kernel
theorem dX0_around_27 : decode cX0_around 27 = .ok (.sipush 288, 3) := by decide +kernel
theorem dX0_around_30 : decode cX0_around 30 = .ok (.imul, 1) := by decide +kernel
theorem dX0_around_31 : decode cX0_around 31 = .ok (.istore 4, 2) := by decide +kernel
theorem dX0_around_33 : decode cX0_around 33 = .ok (.iload 4, 2) := by decide +kernel
theorem dX0_around_35 : decode cX0_around 35 = .ok (.iload_n 1, 1) := by decide +kernel
theorem dX0_around_36 : decode cX0_around 36 = .ok (.sipush 288, 3) := by decide +kernel
theorem dX0_around_39 : decode cX0_around 39 = .ok (.imul, 1) := by decide +kernel
theorem dX0_around_40 : decode cX0_around 40 = .ok (.aload_n 0, 1) := by decide +kernel
theorem dX0_around_41 : decode cX0_around 41 = .ok (.getfield 25, 3) := by decide +kernel
theorem dX0_around_44 : decode cX0_around 44 = .ok (.iload_n 1, 1) := by decide +kernel
theorem dX0_around_45 : decode cX0_around 45 = .ok (.iaload, 1) := by decide +kernel
theorem dX0_around_46 : decode cX0_around 46 = .ok (.iadd, 1) := by decide +kernel
theorem dX0_around_47 : decode cX0_around 47 = .ok (.if_icmp .ge 47, 3) := by decide +kernel
theorem dX0_around_50 : decode cX0_around 50 = .ok (.aload_n 0, 1) := by decide +kernel
theorem dX0_around_51 : decode cX0_around 51 = .ok (.getfield 28, 3) := by decide +kernel
theorem dX0_around_54 : decode cX0_around 54 = .ok (.iload 4, 2) := by decide +kernel
theorem dX0_around_56 : decode cX0_around 56 = .ok (.iaload, 1) := by decide +kernel
theorem dX0_around_57 : decode cX0_around 57 = .ok (.iload_n 2, 1) := by decide +kernel
theorem dX0_around_58 : decode cX0_around 58 = .ok (.if_icmp .ge 11, 3) := by decide +kernel
theorem dX0_around_61 : decode cX0_around 61 = .ok (.aload_n 0, 1) := by decide +kernel
theorem dX0_around_62 : decode cX0_around 62 = .ok (.getfield 28, 3) := by decide +kernel
theorem dX0_around_65 : decode cX0_around 65 = .ok (.iload 4, 2) := by decide +kernel
theorem dX0_around_67 : decode cX0_around 67 = .ok (.iaload, 1) := by decide +kernel
theorem dX0_around_68 : decode cX0_around 68 = .ok (.istore_n 2, 1) := by decide +kernel
theorem dX0_around_69 : decode cX0_around 69 = .ok (.aload_n 0, 1) := by decide +kernel
theorem dX0_around_70 : decode cX0_around 70 = .ok (.getfield 31, 3) := by decide +kernel
theorem dX0_around_73 : decode cX0_around 73 = .ok (.iload 4, 2) := by decide +kernel
theorem dX0_around_75 : decode cX0_around 75 = .ok (.iaload, 1) := by decide +kernel
theorem dX0_around_76 : decode cX0_around 76 = .ok (.iload_n 3, 1) := by decide +kernel
theorem dX0_around_77 : decode cX0_around 77 = .ok (.if_icmp .le 11, 3) := by decide +kernel
theorem dX0_around_80 : decode cX0_around 80 = .ok (.aload_n 0, 1) := by decide +kernel
theorem dX0_around_81 : decode cX0_around 81 = .ok (.getfield 31, 3) := by decide +kernel
theorem dX0_around_84 : decode cX0_around 84 = .ok (.iload 4, 2) := by decide +kernel
theorem dX0_around_86 : decode cX0_around 86 = .ok (.iaload, 1) := by decide +kernel
theorem dX0_around_87 : decode cX0_around 87 = .ok (.istore_n 3, 1) := by decide +kernel
theorem dX0_around_88 : decode cX0_around 88 = .ok (.iinc 4 1, 3) := by decide +kernel
theorem dX0_around_91 : decode cX0_around 91 = .ok (.goto (-58), 3) := by decide +kernel
theorem dX0_around_94 : decode cX0_around 94 = .ok (.iload_n 1, 1) := by decide +kernel
theorem dX0_around_95 : decode cX0_around 95 = .ok (.bipush 24, 2) := by decide +kernel
theorem dX0_around_97 : decode cX0_around 97 = .ok (.imul, 1) := by decide +kernel
theorem dX0_around_98 : decode cX0_around 98 = .ok (.aload_n 0, 1) := by decide +kernel
theorem dX0_around_99 : decode cX0_around 99 = .ok (.getfield 7, 3) := by decide +kernel
theorem dX0_around_102 : decode cX0_around 102 = .ok (.iload_n 1, 1) := by decide +kernel
theorem dX0_around_103 : decode cX0_around 103 = .ok (.iaload, 1) := by decide +kernel
theorem dX0_around_104 : decode cX0_around 104 = .ok (.iadd, 1) := by decide +kernel
theorem dX0_around_105 : decode cX0_around 105 = .ok (.iconst 1, 1) := by decide +kernel
theorem dX0_around_106 : decode cX0_around 106 = .ok (.isub, 1) := by decide +kernel
theorem dX0_around_107 : decode cX0_around 107 = .ok (.istore 4, 2) := by decide +kernel
theorem dX0_around_109 : decode cX0_around 109 = .ok (.iload_n 2, 1) := by decide +kernel
theorem dX0_around_110 : decode cX0_around 110 = .ok (.aload_n 0, 1) := by decide +kernel
theorem dX0_around_111 : decode cX0_around 111 = .ok (.getfield 13, 3) := by decide +kernel
theorem dX0_around_114 : decode cX0_around 114 = .ok (.iload_n 1, 1) := by decide +kernel
theorem dX0_around_115 : decode cX0_around 115 = .ok (.bipush 24, 2) := by decide +kernel
theorem dX0_around_117 : decode cX0_around 117 = .ok (.imul, 1) := by decide +kernel
theorem dX0_around_118 : decode cX0_around 118 = .ok (.iaload, 1) := by decide +kernel
theorem dX0_around_119 : decode cX0_around 119 = .ok (.iload_n 3, 1) := by decide +kernel
theorem dX0_around_120 : decode cX0_around 120 = .ok (.aload_n 0, 1) := by decide +kernel
theorem dX0_around_121 : decode cX0_around 121 = .ok (.getfield 16, 3) := by decide +kernel
theorem dX0_around_124 : decode cX0_around 124 = .ok (.iload 4, 2) := by decide +kernel
theorem dX0_around_126 : decode cX0_around 126 = .ok (.iaload, 1) := by decide +kernel
theorem dX0_around_127 : decode cX0_around 127 = .ok (.invokestatic 94, 3) := by decide +kernel
theorem dX0_around_130 : decode cX0_around 130 = .ok (.ireturn, 1) := by decide +kernel
abbrev cX0_same : ByteArray := prog_1_method_28_code
def yX0_same : MethodName := ⟨RX0, "same", "(II)Z"⟩
theorem dX0_same_0 : decode cX0_same 0 = .ok (.iload_n 1, 1) := by decide +kernel
theorem dX0_same_1 : decode cX0_same 1 = .ok (.invokestatic 68, 3) := by decide +kernel
theorem dX0_same_4 : decode cX0_same 4 = .ok (.ifCond .ne 10, 3) := by decide +kernel
theorem dX0_same_7 : decode cX0_same 7 = .ok (.iload_n 2, 1) := by decide +kernel
theorem dX0_same_8 : decode cX0_same 8 = .ok (.invokestatic 68, 3) := by decide +kernel
theorem dX0_same_11 : decode cX0_same 11 = .ok (.ifCond .eq 5, 3) := by decide +kernel
theorem dX0_same_14 : decode cX0_same 14 = .ok (.iconst 0, 1) := by decide +kernel
theorem dX0_same_15 : decode cX0_same 15 = .ok (.ireturn, 1) := by decide +kernel
theorem dX0_same_16 : decode cX0_same 16 = .ok (.aload_n 0, 1) := by decide +kernel
theorem dX0_same_17 : decode cX0_same 17 = .ok (.getfield 7, 3) := by decide +kernel
theorem dX0_same_20 : decode cX0_same 20 = .ok (.iload_n 1, 1) := by decide +kernel
theorem dX0_same_21 : decode cX0_same 21 = .ok (.iaload, 1) := by decide +kernel
theorem dX0_same_22 : decode cX0_same 22 = .ok (.aload_n 0, 1) := by decide +kernel
theorem dX0_same_23 : decode cX0_same 23 = .ok (.getfield 7, 3) := by decide +kernel
theorem dX0_same_26 : decode cX0_same 26 = .ok (.iload_n 2, 1) := by decide +kernel
theorem dX0_same_27 : decode cX0_same 27 = .ok (.iaload, 1) := by decide +kernel
theorem dX0_same_28 : decode cX0_same 28 = .ok (.if_icmp .ne 18, 3) := by decide +kernel
theorem dX0_same_31 : decode cX0_same 31 = .ok (.aload_n 0, 1) := by decide +kernel
theorem dX0_same_32 : decode cX0_same 32 = .ok (.getfield 25, 3) := by decide +kernel
theorem dX0_same_35 : decode cX0_same 35 = .ok (.iload_n 1, 1) := by decide +kernel
theorem dX0_same_36 : decode cX0_same 36 = .ok (.iaload, 1) := by decide +kernel
theorem dX0_same_37 : decode cX0_same 37 = .ok (.aload_n 0, 1) := by decide +kernel
theorem dX0_same_38 : decode cX0_same 38 = .ok (.getfield 25, 3) := by decide +kernel
theorem dX0_same_41 : decode cX0_same 41 = .ok (.iload_n 2, 1) := by decide +kernel
theorem dX0_same_42 : decode cX0_same 42 = .ok (.iaload, 1) := by decide +kernel
theorem dX0_same_43 : decode cX0_same 43 = .ok (.if_icmp .eq 5, 3) := by decide +kernel
theorem dX0_same_46 : decode cX0_same 46 = .ok (.iconst 0, 1) := by decide +kernel
theorem dX0_same_47 : decode cX0_same 47 = .ok (.ireturn, 1) := by decide +kernel
theorem dX0_same_48 : decode cX0_same 48 = .ok (.iconst 0, 1) := by decide +kernel
theorem dX0_same_49 : decode cX0_same 49 = .ok (.istore_n 3, 1) := by decide +kernel
theorem dX0_same_50 : decode cX0_same 50 = .ok (.iload_n 3, 1) := by decide +kernel
theorem dX0_same_51 : decode cX0_same 51 = .ok (.aload_n 0, 1) := by decide +kernel
theorem dX0_same_52 : decode cX0_same 52 = .ok (.getfield 7, 3) := by decide +kernel
theorem dX0_same_55 : decode cX0_same 55 = .ok (.iload_n 1, 1) := by decide +kernel
theorem dX0_same_56 : decode cX0_same 56 = .ok (.iaload, 1) := by decide +kernel
theorem dX0_same_57 : decode cX0_same 57 = .ok (.if_icmp .ge 78, 3) := by decide +kernel
theorem dX0_same_60 : decode cX0_same 60 = .ok (.iload_n 1, 1) := by decide +kernel
theorem dX0_same_61 : decode cX0_same 61 = .ok (.bipush 24, 2) := by decide +kernel
theorem dX0_same_63 : decode cX0_same 63 = .ok (.imul, 1) := by decide +kernel
theorem dX0_same_64 : decode cX0_same 64 = .ok (.iload_n 3, 1) := by decide +kernel
theorem dX0_same_65 : decode cX0_same 65 = .ok (.iadd, 1) := by decide +kernel
theorem dX0_same_66 : decode cX0_same 66 = .ok (.istore 4, 2) := by decide +kernel
theorem dX0_same_68 : decode cX0_same 68 = .ok (.iload_n 2, 1) := by decide +kernel
theorem dX0_same_69 : decode cX0_same 69 = .ok (.bipush 24, 2) := by decide +kernel
theorem dX0_same_71 : decode cX0_same 71 = .ok (.imul, 1) := by decide +kernel
theorem dX0_same_72 : decode cX0_same 72 = .ok (.iload_n 3, 1) := by decide +kernel
theorem dX0_same_73 : decode cX0_same 73 = .ok (.iadd, 1) := by decide +kernel
theorem dX0_same_74 : decode cX0_same 74 = .ok (.istore 5, 2) := by decide +kernel
theorem dX0_same_76 : decode cX0_same 76 = .ok (.aload_n 0, 1) := by decide +kernel
theorem dX0_same_77 : decode cX0_same 77 = .ok (.getfield 13, 3) := by decide +kernel
theorem dX0_same_80 : decode cX0_same 80 = .ok (.iload 4, 2) := by decide +kernel
theorem dX0_same_82 : decode cX0_same 82 = .ok (.iaload, 1) := by decide +kernel
theorem dX0_same_83 : decode cX0_same 83 = .ok (.aload_n 0, 1) := by decide +kernel
theorem dX0_same_84 : decode cX0_same 84 = .ok (.getfield 13, 3) := by decide +kernel
theorem dX0_same_87 : decode cX0_same 87 = .ok (.iload 5, 2) := by decide +kernel
theorem dX0_same_89 : decode cX0_same 89 = .ok (.iaload, 1) := by decide +kernel
theorem dX0_same_90 : decode cX0_same 90 = .ok (.if_icmp .ne 37, 3) := by decide +kernel
theorem dX0_same_93 : decode cX0_same 93 = .ok (.aload_n 0, 1) := by decide +kernel
theorem dX0_same_94 : decode cX0_same 94 = .ok (.getfield 16, 3) := by decide +kernel
theorem dX0_same_97 : decode cX0_same 97 = .ok (.iload 4, 2) := by decide +kernel
theorem dX0_same_99 : decode cX0_same 99 = .ok (.iaload, 1) := by decide +kernel
theorem dX0_same_100 : decode cX0_same 100 = .ok (.aload_n 0, 1) := by decide +kernel
theorem dX0_same_101 : decode cX0_same 101 = .ok (.getfield 16, 3) := by decide +kernel
theorem dX0_same_104 : decode cX0_same 104 = .ok (.iload 5, 2) := by decide +kernel
theorem dX0_same_106 : decode cX0_same 106 = .ok (.iaload, 1) := by decide +kernel
theorem dX0_same_107 : decode cX0_same 107 = .ok (.if_icmp .ne 20, 3) := by decide +kernel
theorem dX0_same_110 : decode cX0_same 110 = .ok (.aload_n 0, 1) := by decide +kernel
theorem dX0_same_111 : decode cX0_same 111 = .ok (.getfield 22, 3) := by decide +kernel
theorem dX0_same_114 : decode cX0_same 114 = .ok (.iload 4, 2) := by decide +kernel
theorem dX0_same_116 : decode cX0_same 116 = .ok (.iaload, 1) := by decide +kernel
theorem dX0_same_117 : decode cX0_same 117 = .ok (.aload_n 0, 1) := by decide +kernel
theorem dX0_same_118 : decode cX0_same 118 = .ok (.getfield 22, 3) := by decide +kernel
theorem dX0_same_121 : decode cX0_same 121 = .ok (.iload 5, 2) := by decide +kernel
theorem dX0_same_123 : decode cX0_same 123 = .ok (.iaload, 1) := by decide +kernel
theorem dX0_same_124 : decode cX0_same 124 = .ok (.if_icmp .eq 5, 3) := by decide +kernel
theorem dX0_same_127 : decode cX0_same 127 = .ok (.iconst 0, 1) := by decide +kernel
theorem dX0_same_128 : decode cX0_same 128 = .ok (.ireturn, 1) := by decide +kernel
theorem dX0_same_129 : decode cX0_same 129 = .ok (.iinc 3 1, 3) := by decide +kernel
theorem dX0_same_132 : decode cX0_same 132 = .ok (.goto (-82), 3) := by decide +kernel
theorem dX0_same_135 : decode cX0_same 135 = .ok (.aload_n 0, 1) := by decide +kernel
theorem dX0_same_136 : decode cX0_same 136 = .ok (.iload_n 1, 1) := by decide +kernel
theorem dX0_same_137 : decode cX0_same 137 = .ok (.sipush 288, 3) := by decide +kernel
theorem dX0_same_140 : decode cX0_same 140 = .ok (.imul, 1) := by decide +kernel
theorem dX0_same_141 : decode cX0_same 141 = .ok (.iload_n 2, 1) := by decide +kernel
theorem dX0_same_142 : decode cX0_same 142 = .ok (.sipush 288, 3) := by decide +kernel
theorem dX0_same_145 : decode cX0_same 145 = .ok (.imul, 1) := by decide +kernel
theorem dX0_same_146 : decode cX0_same 146 = .ok (.aload_n 0, 1) := by decide +kernel
theorem dX0_same_147 : decode cX0_same 147 = .ok (.getfield 25, 3) := by decide +kernel
theorem dX0_same_150 : decode cX0_same 150 = .ok (.iload_n 1, 1) := by decide +kernel
theorem dX0_same_151 : decode cX0_same 151 = .ok (.iaload, 1) := by decide +kernel
theorem dX0_same_152 : decode cX0_same 152 = .ok (.invokevirtual 34, 3) := by decide +kernel
theorem dX0_same_155 : decode cX0_same 155 = .ok (.ireturn, 1) := by decide +kernel
abbrev cX0_covers : ByteArray := prog_1_method_29_code
def yX0_covers : MethodName := ⟨RX0, "covers", "(III)I"⟩
theorem dX0_covers_0 : decode cX0_covers 0 = .ok (.iload_n 1, 1) := by decide +kernel
theorem dX0_covers_1 : decode cX0_covers 1 = .ok (.invokestatic 68, 3) := by decide +kernel
theorem dX0_covers_4 : decode cX0_covers 4 = .ok (.ifCond .eq 5, 3) := by decide +kernel
theorem dX0_covers_7 : decode cX0_covers 7 = .ok (.iconst (-1), 1) := by decide +kernel
theorem dX0_covers_8 : decode cX0_covers 8 = .ok (.ireturn, 1) := by decide +kernel
theorem dX0_covers_9 : decode cX0_covers 9 = .ok (.aload_n 0, 1) := by decide +kernel
theorem dX0_covers_10 : decode cX0_covers 10 = .ok (.iload_n 2, 1) := by decide +kernel
theorem dX0_covers_11 : decode cX0_covers 11 = .ok (.iload_n 3, 1) := by decide +kernel
theorem dX0_covers_12 : decode cX0_covers 12 = .ok (.invokevirtual 72, 3) := by decide +kernel
theorem dX0_covers_15 : decode cX0_covers 15 = .ok (.aload_n 0, 1) := by decide +kernel
theorem dX0_covers_16 : decode cX0_covers 16 = .ok (.iload_n 1, 1) := by decide +kernel
theorem dX0_covers_17 : decode cX0_covers 17 = .ok (.iconst 4, 1) := by decide +kernel
theorem dX0_covers_18 : decode cX0_covers 18 = .ok (.iconst 1, 1) := by decide +kernel
theorem dX0_covers_19 : decode cX0_covers 19 = .ok (.invokevirtual 76, 3) := by decide +kernel
theorem dX0_covers_22 : decode cX0_covers 22 = .ok (.aload_n 0, 1) := by decide +kernel
theorem dX0_covers_23 : decode cX0_covers 23 = .ok (.iconst 3, 1) := by decide +kernel
theorem dX0_covers_24 : decode cX0_covers 24 = .ok (.invokevirtual 83, 3) := by decide +kernel
theorem dX0_covers_27 : decode cX0_covers 27 = .ok (.istore 4, 2) := by decide +kernel
theorem dX0_covers_29 : decode cX0_covers 29 = .ok (.iload 4, 2) := by decide +kernel
theorem dX0_covers_31 : decode cX0_covers 31 = .ok (.ifCond .ne 5, 3) := by decide +kernel
theorem dX0_covers_34 : decode cX0_covers 34 = .ok (.iconst 0, 1) := by decide +kernel
theorem dX0_covers_35 : decode cX0_covers 35 = .ok (.ireturn, 1) := by decide +kernel
theorem dX0_covers_36 : decode cX0_covers 36 = .ok (.aload_n 0, 1) := by decide +kernel
theorem dX0_covers_37 : decode cX0_covers 37 = .ok (.iconst 4, 1) := by decide +kernel
theorem dX0_covers_38 : decode cX0_covers 38 = .ok (.invokevirtual 83, 3) := by decide +kernel
theorem dX0_covers_41 : decode cX0_covers 41 = .ok (.istore 5, 2) := by decide +kernel
theorem dX0_covers_43 : decode cX0_covers 43 = .ok (.iload 4, 2) := by decide +kernel
theorem dX0_covers_45 : decode cX0_covers 45 = .ok (.iload 5, 2) := by decide +kernel
theorem dX0_covers_47 : decode cX0_covers 47 = .ok (.if_icmp .ne 7, 3) := by decide +kernel
theorem dX0_covers_50 : decode cX0_covers 50 = .ok (.iconst 2, 1) := by decide +kernel
theorem dX0_covers_51 : decode cX0_covers 51 = .ok (.goto 4, 3) := by decide +kernel
theorem dX0_covers_54 : decode cX0_covers 54 = .ok (.iconst 1, 1) := by decide +kernel
theorem dX0_covers_55 : decode cX0_covers 55 = .ok (.ireturn, 1) := by decide +kernel
theorem q20 : (Jvm.Cond.initialized "BandRegion") ∈ lw_all := lw_g (lw_at lw_m0 1 rfl) rfl
theorem q23 : (Jvm.Cond.instantiable "BandRegion" (8 : Nat)) ∈ lw_all := lw_g (lw_at lw_m0 4 rfl) rfl
theorem q25 : (Jvm.Cond.instanceMethod ({ cls := "BandRegion", name := "<init>", desc := "()V" } : Jvm.MethodName)) ∈ lw_all := lw_g (lw_at lw_m0 6 rfl) rfl
theorem q26 : (Jvm.Cond.code ({ cls := "BandRegion", name := "<init>", desc := "()V" } : Jvm.MethodName) prog_1_method_1_code (1 : Nat) (Option.none : Option Jvm.ClassFile.FieldType)) ∈ lw_all := lw_g (lw_at lw_m0 7 rfl) rfl
theorem q27 : (Jvm.Cond.methodLink "BandRegion" (1 : Nat) ({ cls := "java/lang/Object", name := "<init>", desc := "()V" } : Jvm.MethodName)) ∈ lw_all := lw_g (lw_at lw_m0 8 rfl) rfl
theorem q30 : (Jvm.Cond.fieldLink "BandRegion" (7 : Nat) "BandRegion" "bands" "[I") ∈ lw_all := lw_g (lw_at lw_m0 11 rfl) rfl
theorem q31 : (Jvm.Cond.fieldLink "BandRegion" (13 : Nat) "BandRegion" "bandTop" "[I") ∈ lw_all := lw_g (lw_at lw_m0 12 rfl) rfl
theorem q32 : (Jvm.Cond.fieldLink "BandRegion" (16 : Nat) "BandRegion" "bandEnd" "[I") ∈ lw_all := lw_g (lw_at lw_m0 13 rfl) rfl
theorem q33 : (Jvm.Cond.fieldLink "BandRegion" (19 : Nat) "BandRegion" "bandFirst" "[I") ∈ lw_all := lw_g (lw_at lw_m0 14 rfl) rfl
theorem q34 : (Jvm.Cond.fieldLink "BandRegion" (22 : Nat) "BandRegion" "bandRuns" "[I") ∈ lw_all := lw_g (lw_at lw_m0 15 rfl) rfl
theorem q35 : (Jvm.Cond.fieldLink "BandRegion" (25 : Nat) "BandRegion" "runs" "[I") ∈ lw_all := lw_g (lw_at lw_m0 16 rfl) rfl
theorem q36 : (Jvm.Cond.fieldLink "BandRegion" (28 : Nat) "BandRegion" "runLeft" "[I") ∈ lw_all := lw_g (lw_at lw_m0 17 rfl) rfl
theorem q37 : (Jvm.Cond.fieldLink "BandRegion" (31 : Nat) "BandRegion" "runRight" "[I") ∈ lw_all := lw_g (lw_at lw_m0 18 rfl) rfl
theorem q38 : (Jvm.Cond.laysFinal "BandRegion" "BandRegion" "bands" "[I") ∈ lw_all := lw_g (lw_at lw_m0 19 rfl) rfl
theorem q39 : (Jvm.Cond.soleField "BandRegion" "bands") ∈ lw_all := lw_g (lw_at lw_m0 20 rfl) rfl
theorem q40 : (Jvm.Cond.laysFinal "BandRegion" "BandRegion" "bandTop" "[I") ∈ lw_all := lw_g (lw_at lw_m0 21 rfl) rfl
theorem q41 : (Jvm.Cond.soleField "BandRegion" "bandTop") ∈ lw_all := lw_g (lw_at lw_m0 22 rfl) rfl
theorem q42 : (Jvm.Cond.laysFinal "BandRegion" "BandRegion" "bandEnd" "[I") ∈ lw_all := lw_g (lw_at lw_m0 23 rfl) rfl
theorem q43 : (Jvm.Cond.soleField "BandRegion" "bandEnd") ∈ lw_all := lw_g (lw_at lw_m0 24 rfl) rfl
theorem q44 : (Jvm.Cond.laysFinal "BandRegion" "BandRegion" "bandFirst" "[I") ∈ lw_all := lw_g (lw_at lw_m0 25 rfl) rfl
theorem q45 : (Jvm.Cond.soleField "BandRegion" "bandFirst") ∈ lw_all := lw_g (lw_at lw_m0 26 rfl) rfl
theorem q46 : (Jvm.Cond.laysFinal "BandRegion" "BandRegion" "bandRuns" "[I") ∈ lw_all := lw_g (lw_at lw_m0 27 rfl) rfl
theorem q47 : (Jvm.Cond.soleField "BandRegion" "bandRuns") ∈ lw_all := lw_g (lw_at lw_m0 28 rfl) rfl
theorem q48 : (Jvm.Cond.laysFinal "BandRegion" "BandRegion" "runs" "[I") ∈ lw_all := lw_g (lw_at lw_m0 29 rfl) rfl
theorem q49 : (Jvm.Cond.soleField "BandRegion" "runs") ∈ lw_all := lw_g (lw_at lw_m0 30 rfl) rfl
theorem q50 : (Jvm.Cond.laysFinal "BandRegion" "BandRegion" "runLeft" "[I") ∈ lw_all := lw_g (lw_at lw_m0 31 rfl) rfl
theorem q51 : (Jvm.Cond.soleField "BandRegion" "runLeft") ∈ lw_all := lw_g (lw_at lw_m0 32 rfl) rfl
theorem q52 : (Jvm.Cond.laysFinal "BandRegion" "BandRegion" "runRight" "[I") ∈ lw_all := lw_g (lw_at lw_m0 33 rfl) rfl
theorem q53 : (Jvm.Cond.soleField "BandRegion" "runRight") ∈ lw_all := lw_g (lw_at lw_m0 34 rfl) rfl
theorem q54 : (Jvm.Cond.superclass "BandRegion" "java/lang/Object") ∈ lw_all := lw_g (lw_at lw_m0 35 rfl) rfl
theorem q57 : (Jvm.Cond.instanceMethod ({ cls := "BandRegion", name := "box", desc := "(IIII)I" } : Jvm.MethodName)) ∈ lw_all := lw_g (lw_at lw_m0 38 rfl) rfl
theorem q58 : (Jvm.Cond.selects "BandRegion" ({ cls := "BandRegion", name := "box", desc := "(IIII)I" } : Jvm.MethodName) ({ cls := "BandRegion", name := "box", desc := "(IIII)I" } : Jvm.MethodName)) ∈ lw_all := lw_g (lw_at lw_m0 39 rfl) rfl
theorem q59 : (Jvm.Cond.code ({ cls := "BandRegion", name := "box", desc := "(IIII)I" } : Jvm.MethodName) prog_1_method_16_code (5 : Nat) (Option.some Jvm.ClassFile.FieldType.int)) ∈ lw_all := lw_g (lw_at lw_m0 40 rfl) rfl
theorem q60 : (Jvm.Cond.methodLink "BandRegion" (68 : Nat) ({ cls := "BandRegion", name := "bad", desc := "(I)Z" } : Jvm.MethodName)) ∈ lw_all := lw_g (lw_at lw_m0 41 rfl) rfl
theorem q61 : (Jvm.Cond.static ({ cls := "BandRegion", name := "bad", desc := "(I)Z" } : Jvm.MethodName)) ∈ lw_all := lw_g (lw_at lw_m0 42 rfl) rfl
theorem q62 : (Jvm.Cond.code ({ cls := "BandRegion", name := "bad", desc := "(I)Z" } : Jvm.MethodName) prog_1_method_2_code (1 : Nat) (Option.some Jvm.ClassFile.FieldType.boolean)) ∈ lw_all := lw_g (lw_at lw_m0 43 rfl) rfl
theorem q63 : (Jvm.Cond.methodLink "BandRegion" (72 : Nat) ({ cls := "BandRegion", name := "makeBox", desc := "(II)V" } : Jvm.MethodName)) ∈ lw_all := lw_g (lw_at lw_m0 44 rfl) rfl
theorem q64 : (Jvm.Cond.privateMethod ({ cls := "BandRegion", name := "makeBox", desc := "(II)V" } : Jvm.MethodName)) ∈ lw_tbl := lw_at lw_m0 45 rfl
theorem q65 : (Jvm.Cond.instanceMethod ({ cls := "BandRegion", name := "makeBox", desc := "(II)V" } : Jvm.MethodName)) ∈ lw_all := lw_g (lw_at lw_m0 46 rfl) rfl
theorem q66 : (Jvm.Cond.code ({ cls := "BandRegion", name := "makeBox", desc := "(II)V" } : Jvm.MethodName) prog_1_method_14_code (7 : Nat) (Option.none : Option Jvm.ClassFile.FieldType)) ∈ lw_all := lw_g (lw_at lw_m0 47 rfl) rfl
theorem q67 : (Jvm.Cond.methodLink "BandRegion" (38 : Nat) ({ cls := "BandRegion", name := "start", desc := "(I)V" } : Jvm.MethodName)) ∈ lw_all := lw_g (lw_at lw_m0 48 rfl) rfl
theorem q68 : (Jvm.Cond.privateMethod ({ cls := "BandRegion", name := "start", desc := "(I)V" } : Jvm.MethodName)) ∈ lw_tbl := lw_at lw_m0 49 rfl
theorem q69 : (Jvm.Cond.instanceMethod ({ cls := "BandRegion", name := "start", desc := "(I)V" } : Jvm.MethodName)) ∈ lw_all := lw_g (lw_at lw_m0 50 rfl) rfl
theorem q70 : (Jvm.Cond.code ({ cls := "BandRegion", name := "start", desc := "(I)V" } : Jvm.MethodName) prog_1_method_3_code (2 : Nat) (Option.none : Option Jvm.ClassFile.FieldType)) ∈ lw_all := lw_g (lw_at lw_m0 51 rfl) rfl
theorem q71 : (Jvm.Cond.methodLink "BandRegion" (65 : Nat) ({ cls := "BandRegion", name := "addRun", desc := "(IIII)V" } : Jvm.MethodName)) ∈ lw_all := lw_g (lw_at lw_m0 52 rfl) rfl
theorem q72 : (Jvm.Cond.privateMethod ({ cls := "BandRegion", name := "addRun", desc := "(IIII)V" } : Jvm.MethodName)) ∈ lw_tbl := lw_at lw_m0 53 rfl
theorem q73 : (Jvm.Cond.instanceMethod ({ cls := "BandRegion", name := "addRun", desc := "(IIII)V" } : Jvm.MethodName)) ∈ lw_all := lw_g (lw_at lw_m0 54 rfl) rfl
theorem q74 : (Jvm.Cond.code ({ cls := "BandRegion", name := "addRun", desc := "(IIII)V" } : Jvm.MethodName) prog_1_method_4_code (6 : Nat) (Option.none : Option Jvm.ClassFile.FieldType)) ∈ lw_all := lw_g (lw_at lw_m0 55 rfl) rfl
theorem q75 : (Jvm.Cond.methodLink "BandRegion" (57 : Nat) ({ cls := "BandRegion", name := "endBand", desc := "(IIII)V" } : Jvm.MethodName)) ∈ lw_all := lw_g (lw_at lw_m0 56 rfl) rfl
theorem q76 : (Jvm.Cond.privateMethod ({ cls := "BandRegion", name := "endBand", desc := "(IIII)V" } : Jvm.MethodName)) ∈ lw_tbl := lw_at lw_m0 57 rfl
theorem q77 : (Jvm.Cond.instanceMethod ({ cls := "BandRegion", name := "endBand", desc := "(IIII)V" } : Jvm.MethodName)) ∈ lw_all := lw_g (lw_at lw_m0 58 rfl) rfl
theorem q78 : (Jvm.Cond.code ({ cls := "BandRegion", name := "endBand", desc := "(IIII)V" } : Jvm.MethodName) prog_1_method_5_code (8 : Nat) (Option.none : Option Jvm.ClassFile.FieldType)) ∈ lw_all := lw_g (lw_at lw_m0 59 rfl) rfl
theorem q79 : (Jvm.Cond.methodLink "BandRegion" (34 : Nat) ({ cls := "BandRegion", name := "equalRuns", desc := "(III)Z" } : Jvm.MethodName)) ∈ lw_all := lw_g (lw_at lw_m0 60 rfl) rfl
theorem q80 : (Jvm.Cond.privateMethod ({ cls := "BandRegion", name := "equalRuns", desc := "(III)Z" } : Jvm.MethodName)) ∈ lw_tbl := lw_at lw_m0 61 rfl
theorem q81 : (Jvm.Cond.instanceMethod ({ cls := "BandRegion", name := "equalRuns", desc := "(III)Z" } : Jvm.MethodName)) ∈ lw_all := lw_g (lw_at lw_m0 62 rfl) rfl
theorem q82 : (Jvm.Cond.code ({ cls := "BandRegion", name := "equalRuns", desc := "(III)Z" } : Jvm.MethodName) prog_1_method_6_code (5 : Nat) (Option.some Jvm.ClassFile.FieldType.boolean)) ∈ lw_all := lw_g (lw_at lw_m0 63 rfl) rfl
theorem q83 : (Jvm.Cond.methodLink "BandRegion" (76 : Nat) ({ cls := "BandRegion", name := "merge", desc := "(III)V" } : Jvm.MethodName)) ∈ lw_all := lw_g (lw_at lw_m0 64 rfl) rfl
theorem q84 : (Jvm.Cond.privateMethod ({ cls := "BandRegion", name := "merge", desc := "(III)V" } : Jvm.MethodName)) ∈ lw_tbl := lw_at lw_m0 65 rfl
theorem q85 : (Jvm.Cond.instanceMethod ({ cls := "BandRegion", name := "merge", desc := "(III)V" } : Jvm.MethodName)) ∈ lw_all := lw_g (lw_at lw_m0 66 rfl) rfl
theorem q86 : (Jvm.Cond.code ({ cls := "BandRegion", name := "merge", desc := "(III)V" } : Jvm.MethodName) prog_1_method_12_code (14 : Nat) (Option.none : Option Jvm.ClassFile.FieldType)) ∈ lw_all := lw_g (lw_at lw_m0 67 rfl) rfl
theorem q87 : (Jvm.Cond.methodLink "BandRegion" (42 : Nat) ({ cls := "BandRegion", name := "bandAt", desc := "(II)I" } : Jvm.MethodName)) ∈ lw_all := lw_g (lw_at lw_m0 68 rfl) rfl
theorem q88 : (Jvm.Cond.privateMethod ({ cls := "BandRegion", name := "bandAt", desc := "(II)I" } : Jvm.MethodName)) ∈ lw_tbl := lw_at lw_m0 69 rfl
theorem q89 : (Jvm.Cond.instanceMethod ({ cls := "BandRegion", name := "bandAt", desc := "(II)I" } : Jvm.MethodName)) ∈ lw_all := lw_g (lw_at lw_m0 70 rfl) rfl
theorem q90 : (Jvm.Cond.code ({ cls := "BandRegion", name := "bandAt", desc := "(II)I" } : Jvm.MethodName) prog_1_method_9_code (4 : Nat) (Option.some Jvm.ClassFile.FieldType.int)) ∈ lw_all := lw_g (lw_at lw_m0 71 rfl) rfl
theorem q91 : (Jvm.Cond.methodLink "BandRegion" (46 : Nat) ({ cls := "BandRegion", name := "changeAfter", desc := "(III)I" } : Jvm.MethodName)) ∈ lw_all := lw_g (lw_at lw_m0 72 rfl) rfl
theorem q92 : (Jvm.Cond.privateMethod ({ cls := "BandRegion", name := "changeAfter", desc := "(III)I" } : Jvm.MethodName)) ∈ lw_tbl := lw_at lw_m0 73 rfl
theorem q93 : (Jvm.Cond.instanceMethod ({ cls := "BandRegion", name := "changeAfter", desc := "(III)I" } : Jvm.MethodName)) ∈ lw_all := lw_g (lw_at lw_m0 74 rfl) rfl
theorem q94 : (Jvm.Cond.code ({ cls := "BandRegion", name := "changeAfter", desc := "(III)I" } : Jvm.MethodName) prog_1_method_10_code (5 : Nat) (Option.some Jvm.ClassFile.FieldType.int)) ∈ lw_all := lw_g (lw_at lw_m0 75 rfl) rfl
theorem q95 : (Jvm.Cond.methodLink "BandRegion" (50 : Nat) ({ cls := "BandRegion", name := "covering", desc := "(III)I" } : Jvm.MethodName)) ∈ lw_all := lw_g (lw_at lw_m0 76 rfl) rfl
theorem q96 : (Jvm.Cond.privateMethod ({ cls := "BandRegion", name := "covering", desc := "(III)I" } : Jvm.MethodName)) ∈ lw_tbl := lw_at lw_m0 77 rfl
theorem q97 : (Jvm.Cond.instanceMethod ({ cls := "BandRegion", name := "covering", desc := "(III)I" } : Jvm.MethodName)) ∈ lw_all := lw_g (lw_at lw_m0 78 rfl) rfl
theorem q98 : (Jvm.Cond.code ({ cls := "BandRegion", name := "covering", desc := "(III)I" } : Jvm.MethodName) prog_1_method_11_code (5 : Nat) (Option.some Jvm.ClassFile.FieldType.int)) ∈ lw_all := lw_g (lw_at lw_m0 79 rfl) rfl
theorem q99 : (Jvm.Cond.methodLink "BandRegion" (53 : Nat) ({ cls := "BandRegion", name := "mergeRuns", desc := "(IIIII)V" } : Jvm.MethodName)) ∈ lw_all := lw_g (lw_at lw_m0 80 rfl) rfl
theorem q100 : (Jvm.Cond.privateMethod ({ cls := "BandRegion", name := "mergeRuns", desc := "(IIIII)V" } : Jvm.MethodName)) ∈ lw_tbl := lw_at lw_m0 81 rfl
theorem q101 : (Jvm.Cond.instanceMethod ({ cls := "BandRegion", name := "mergeRuns", desc := "(IIIII)V" } : Jvm.MethodName)) ∈ lw_all := lw_g (lw_at lw_m0 82 rfl) rfl
theorem q102 : (Jvm.Cond.code ({ cls := "BandRegion", name := "mergeRuns", desc := "(IIIII)V" } : Jvm.MethodName) prog_1_method_13_code (19 : Nat) (Option.none : Option Jvm.ClassFile.FieldType)) ∈ lw_all := lw_g (lw_at lw_m0 83 rfl) rfl
theorem q103 : (Jvm.Cond.methodLink "BandRegion" (61 : Nat) ({ cls := "BandRegion", name := "wanted", desc := "(IZZ)Z" } : Jvm.MethodName)) ∈ lw_all := lw_g (lw_at lw_m0 84 rfl) rfl
theorem q104 : (Jvm.Cond.static ({ cls := "BandRegion", name := "wanted", desc := "(IZZ)Z" } : Jvm.MethodName)) ∈ lw_all := lw_g (lw_at lw_m0 85 rfl) rfl
theorem q105 : (Jvm.Cond.code ({ cls := "BandRegion", name := "wanted", desc := "(IZZ)Z" } : Jvm.MethodName) prog_1_method_8_code (3 : Nat) (Option.some Jvm.ClassFile.FieldType.boolean)) ∈ lw_all := lw_g (lw_at lw_m0 86 rfl) rfl
theorem q106 : (Jvm.Cond.methodLink "BandRegion" (80 : Nat) ({ cls := "BandRegion", name := "keep", desc := "(I)V" } : Jvm.MethodName)) ∈ lw_all := lw_g (lw_at lw_m0 87 rfl) rfl
theorem q107 : (Jvm.Cond.privateMethod ({ cls := "BandRegion", name := "keep", desc := "(I)V" } : Jvm.MethodName)) ∈ lw_tbl := lw_at lw_m0 88 rfl
theorem q108 : (Jvm.Cond.instanceMethod ({ cls := "BandRegion", name := "keep", desc := "(I)V" } : Jvm.MethodName)) ∈ lw_all := lw_g (lw_at lw_m0 89 rfl) rfl
theorem q109 : (Jvm.Cond.code ({ cls := "BandRegion", name := "keep", desc := "(I)V" } : Jvm.MethodName) prog_1_method_7_code (3 : Nat) (Option.none : Option Jvm.ClassFile.FieldType)) ∈ lw_all := lw_g (lw_at lw_m0 90 rfl) rfl
theorem q110 : (Jvm.Cond.methodLink "BandRegion" (83 : Nat) ({ cls := "BandRegion", name := "cells", desc := "(I)I" } : Jvm.MethodName)) ∈ lw_all := lw_g (lw_at lw_m0 91 rfl) rfl
theorem q111 : (Jvm.Cond.privateMethod ({ cls := "BandRegion", name := "cells", desc := "(I)I" } : Jvm.MethodName)) ∈ lw_tbl := lw_at lw_m0 92 rfl
theorem q112 : (Jvm.Cond.instanceMethod ({ cls := "BandRegion", name := "cells", desc := "(I)I" } : Jvm.MethodName)) ∈ lw_all := lw_g (lw_at lw_m0 93 rfl) rfl
theorem q113 : (Jvm.Cond.code ({ cls := "BandRegion", name := "cells", desc := "(I)I" } : Jvm.MethodName) prog_1_method_15_code (8 : Nat) (Option.some Jvm.ClassFile.FieldType.int)) ∈ lw_all := lw_g (lw_at lw_m0 94 rfl) rfl
theorem q115 : (Jvm.Cond.instanceMethod ({ cls := "BandRegion", name := "combine", desc := "(IIII)I" } : Jvm.MethodName)) ∈ lw_all := lw_g (lw_at lw_m0 96 rfl) rfl
theorem q116 : (Jvm.Cond.selects "BandRegion" ({ cls := "BandRegion", name := "combine", desc := "(IIII)I" } : Jvm.MethodName) ({ cls := "BandRegion", name := "combine", desc := "(IIII)I" } : Jvm.MethodName)) ∈ lw_all := lw_g (lw_at lw_m0 97 rfl) rfl
theorem q117 : (Jvm.Cond.code ({ cls := "BandRegion", name := "combine", desc := "(IIII)I" } : Jvm.MethodName) prog_1_method_17_code (5 : Nat) (Option.some Jvm.ClassFile.FieldType.int)) ∈ lw_all := lw_g (lw_at lw_m0 98 rfl) rfl
theorem q119 : (Jvm.Cond.instanceMethod ({ cls := "BandRegion", name := "move", desc := "(III)I" } : Jvm.MethodName)) ∈ lw_all := lw_g (lw_at lw_m0 100 rfl) rfl
theorem q120 : (Jvm.Cond.selects "BandRegion" ({ cls := "BandRegion", name := "move", desc := "(III)I" } : Jvm.MethodName) ({ cls := "BandRegion", name := "move", desc := "(III)I" } : Jvm.MethodName)) ∈ lw_all := lw_g (lw_at lw_m0 101 rfl) rfl
theorem q121 : (Jvm.Cond.code ({ cls := "BandRegion", name := "move", desc := "(III)I" } : Jvm.MethodName) prog_1_method_19_code (10 : Nat) (Option.some Jvm.ClassFile.FieldType.int)) ∈ lw_all := lw_g (lw_at lw_m0 102 rfl) rfl
theorem q122 : (Jvm.Cond.methodLink "BandRegion" (87 : Nat) ({ cls := "BandRegion", name := "clampMove", desc := "(I)I" } : Jvm.MethodName)) ∈ lw_all := lw_g (lw_at lw_m0 103 rfl) rfl
theorem q123 : (Jvm.Cond.static ({ cls := "BandRegion", name := "clampMove", desc := "(I)I" } : Jvm.MethodName)) ∈ lw_all := lw_g (lw_at lw_m0 104 rfl) rfl
theorem q124 : (Jvm.Cond.code ({ cls := "BandRegion", name := "clampMove", desc := "(I)I" } : Jvm.MethodName) prog_1_method_18_code (1 : Nat) (Option.some Jvm.ClassFile.FieldType.int)) ∈ lw_all := lw_g (lw_at lw_m0 105 rfl) rfl
theorem q125 : (Jvm.Cond.methodLink "BandRegion" (90 : Nat) ({ cls := "BandRegion", name := "moveBand", desc := "(IIIII)V" } : Jvm.MethodName)) ∈ lw_all := lw_g (lw_at lw_m0 106 rfl) rfl
theorem q126 : (Jvm.Cond.privateMethod ({ cls := "BandRegion", name := "moveBand", desc := "(IIIII)V" } : Jvm.MethodName)) ∈ lw_tbl := lw_at lw_m0 107 rfl
theorem q127 : (Jvm.Cond.instanceMethod ({ cls := "BandRegion", name := "moveBand", desc := "(IIIII)V" } : Jvm.MethodName)) ∈ lw_all := lw_g (lw_at lw_m0 108 rfl) rfl
theorem q128 : (Jvm.Cond.code ({ cls := "BandRegion", name := "moveBand", desc := "(IIIII)V" } : Jvm.MethodName) prog_1_method_20_code (11 : Nat) (Option.none : Option Jvm.ClassFile.FieldType)) ∈ lw_all := lw_g (lw_at lw_m0 109 rfl) rfl
theorem q130 : (Jvm.Cond.instanceMethod ({ cls := "BandRegion", name := "invert", desc := "(I)I" } : Jvm.MethodName)) ∈ lw_all := lw_g (lw_at lw_m0 111 rfl) rfl
theorem q131 : (Jvm.Cond.selects "BandRegion" ({ cls := "BandRegion", name := "invert", desc := "(I)I" } : Jvm.MethodName) ({ cls := "BandRegion", name := "invert", desc := "(I)I" } : Jvm.MethodName)) ∈ lw_all := lw_g (lw_at lw_m0 112 rfl) rfl
theorem q132 : (Jvm.Cond.code ({ cls := "BandRegion", name := "invert", desc := "(I)I" } : Jvm.MethodName) prog_1_method_21_code (2 : Nat) (Option.some Jvm.ClassFile.FieldType.int)) ∈ lw_all := lw_g (lw_at lw_m0 113 rfl) rfl
theorem q134 : (Jvm.Cond.instanceMethod ({ cls := "BandRegion", name := "area", desc := "(I)I" } : Jvm.MethodName)) ∈ lw_all := lw_g (lw_at lw_m0 115 rfl) rfl
theorem q135 : (Jvm.Cond.selects "BandRegion" ({ cls := "BandRegion", name := "area", desc := "(I)I" } : Jvm.MethodName) ({ cls := "BandRegion", name := "area", desc := "(I)I" } : Jvm.MethodName)) ∈ lw_all := lw_g (lw_at lw_m0 116 rfl) rfl
theorem q136 : (Jvm.Cond.code ({ cls := "BandRegion", name := "area", desc := "(I)I" } : Jvm.MethodName) prog_1_method_22_code (2 : Nat) (Option.some Jvm.ClassFile.FieldType.int)) ∈ lw_all := lw_g (lw_at lw_m0 117 rfl) rfl
theorem q138 : (Jvm.Cond.instanceMethod ({ cls := "BandRegion", name := "has", desc := "(III)Z" } : Jvm.MethodName)) ∈ lw_all := lw_g (lw_at lw_m0 119 rfl) rfl
theorem q139 : (Jvm.Cond.selects "BandRegion" ({ cls := "BandRegion", name := "has", desc := "(III)Z" } : Jvm.MethodName) ({ cls := "BandRegion", name := "has", desc := "(III)Z" } : Jvm.MethodName)) ∈ lw_all := lw_g (lw_at lw_m0 120 rfl) rfl
theorem q140 : (Jvm.Cond.code ({ cls := "BandRegion", name := "has", desc := "(III)Z" } : Jvm.MethodName) prog_1_method_23_code (8 : Nat) (Option.some Jvm.ClassFile.FieldType.boolean)) ∈ lw_all := lw_g (lw_at lw_m0 121 rfl) rfl
theorem q142 : (Jvm.Cond.instanceMethod ({ cls := "BandRegion", name := "rectangles", desc := "(I)I" } : Jvm.MethodName)) ∈ lw_all := lw_g (lw_at lw_m0 123 rfl) rfl
theorem q143 : (Jvm.Cond.selects "BandRegion" ({ cls := "BandRegion", name := "rectangles", desc := "(I)I" } : Jvm.MethodName) ({ cls := "BandRegion", name := "rectangles", desc := "(I)I" } : Jvm.MethodName)) ∈ lw_all := lw_g (lw_at lw_m0 124 rfl) rfl
theorem q144 : (Jvm.Cond.code ({ cls := "BandRegion", name := "rectangles", desc := "(I)I" } : Jvm.MethodName) prog_1_method_24_code (2 : Nat) (Option.some Jvm.ClassFile.FieldType.int)) ∈ lw_all := lw_g (lw_at lw_m0 125 rfl) rfl
theorem q146 : (Jvm.Cond.instanceMethod ({ cls := "BandRegion", name := "rectangle", desc := "(II)I" } : Jvm.MethodName)) ∈ lw_all := lw_g (lw_at lw_m0 127 rfl) rfl
theorem q147 : (Jvm.Cond.selects "BandRegion" ({ cls := "BandRegion", name := "rectangle", desc := "(II)I" } : Jvm.MethodName) ({ cls := "BandRegion", name := "rectangle", desc := "(II)I" } : Jvm.MethodName)) ∈ lw_all := lw_g (lw_at lw_m0 128 rfl) rfl
theorem q148 : (Jvm.Cond.code ({ cls := "BandRegion", name := "rectangle", desc := "(II)I" } : Jvm.MethodName) prog_1_method_26_code (6 : Nat) (Option.some Jvm.ClassFile.FieldType.int)) ∈ lw_all := lw_g (lw_at lw_m0 129 rfl) rfl
theorem q149 : (Jvm.Cond.methodLink "BandRegion" (94 : Nat) ({ cls := "BandRegion", name := "packed", desc := "(IIII)I" } : Jvm.MethodName)) ∈ lw_all := lw_g (lw_at lw_m0 130 rfl) rfl
theorem q150 : (Jvm.Cond.static ({ cls := "BandRegion", name := "packed", desc := "(IIII)I" } : Jvm.MethodName)) ∈ lw_all := lw_g (lw_at lw_m0 131 rfl) rfl
theorem q151 : (Jvm.Cond.code ({ cls := "BandRegion", name := "packed", desc := "(IIII)I" } : Jvm.MethodName) prog_1_method_25_code (4 : Nat) (Option.some Jvm.ClassFile.FieldType.int)) ∈ lw_all := lw_g (lw_at lw_m0 132 rfl) rfl
theorem q152 : (Jvm.Cond.constant "BandRegion" (93 : Nat) (32768 : Int32)) ∈ lw_all := lw_g (lw_at lw_m0 133 rfl) rfl
theorem q154 : (Jvm.Cond.instanceMethod ({ cls := "BandRegion", name := "around", desc := "(I)I" } : Jvm.MethodName)) ∈ lw_all := lw_g (lw_at lw_m0 135 rfl) rfl
theorem q155 : (Jvm.Cond.selects "BandRegion" ({ cls := "BandRegion", name := "around", desc := "(I)I" } : Jvm.MethodName) ({ cls := "BandRegion", name := "around", desc := "(I)I" } : Jvm.MethodName)) ∈ lw_all := lw_g (lw_at lw_m0 136 rfl) rfl
theorem q156 : (Jvm.Cond.code ({ cls := "BandRegion", name := "around", desc := "(I)I" } : Jvm.MethodName) prog_1_method_27_code (5 : Nat) (Option.some Jvm.ClassFile.FieldType.int)) ∈ lw_all := lw_g (lw_at lw_m0 137 rfl) rfl
theorem q158 : (Jvm.Cond.instanceMethod ({ cls := "BandRegion", name := "same", desc := "(II)Z" } : Jvm.MethodName)) ∈ lw_all := lw_g (lw_at lw_m0 139 rfl) rfl
theorem q159 : (Jvm.Cond.selects "BandRegion" ({ cls := "BandRegion", name := "same", desc := "(II)Z" } : Jvm.MethodName) ({ cls := "BandRegion", name := "same", desc := "(II)Z" } : Jvm.MethodName)) ∈ lw_all := lw_g (lw_at lw_m0 140 rfl) rfl
theorem q160 : (Jvm.Cond.code ({ cls := "BandRegion", name := "same", desc := "(II)Z" } : Jvm.MethodName) prog_1_method_28_code (6 : Nat) (Option.some Jvm.ClassFile.FieldType.boolean)) ∈ lw_all := lw_g (lw_at lw_m0 141 rfl) rfl
theorem q162 : (Jvm.Cond.instanceMethod ({ cls := "BandRegion", name := "covers", desc := "(III)I" } : Jvm.MethodName)) ∈ lw_all := lw_g (lw_at lw_m0 143 rfl) rfl
theorem q163 : (Jvm.Cond.selects "BandRegion" ({ cls := "BandRegion", name := "covers", desc := "(III)I" } : Jvm.MethodName) ({ cls := "BandRegion", name := "covers", desc := "(III)I" } : Jvm.MethodName)) ∈ lw_all := lw_g (lw_at lw_m0 144 rfl) rfl
theorem q164 : (Jvm.Cond.code ({ cls := "BandRegion", name := "covers", desc := "(III)I" } : Jvm.MethodName) prog_1_method_29_code (6 : Nat) (Option.some Jvm.ClassFile.FieldType.int)) ∈ lw_all := lw_g (lw_at lw_m0 145 rfl) rfl
theorem in_X0 : ∀ w ∈ wsX00, w ∈ lw_all := lw_in wsX00 [38, 40, 42, 44, 46, 48, 50, 52] (by decide +kernel) (by decide +kernel)
end
section
/-! BandRegionModel -/
set_option maxRecDepth 100000
def RX1 : String := "BandRegionModel"
def TX1 : u_T := fun k => match k with
  | 0 => ("BandRegionModel", "cells", "[Z", true)
  | _ => ("BandRegionModel", "work", "[Z", true)
def tyX1 : Nat → FieldType := fun k => match k with
  | 0 => .array .boolean
  | _ => .array .boolean
abbrev wsX10 : List Cond := u_ws RX1 TX1 2
theorem nmX1 : ∀ a, a < 2 → ∀ b, b < 2 → a ≠ b → (TX1 a).2.1 ≠ (TX1 b).2.1 := by decide +kernel
theorem tyX1_ok : ∀ k, k < 2 → parseFieldDescriptor (TX1 k).2.2.1 = some (tyX1 k) := by decide +kernel
abbrev cX1_init : ByteArray := prog_3_method_1_code
def yX1_init : MethodName := ⟨RX1, "<init>", "()V"⟩
theorem dX1_init_0 : decode cX1_init 0 = .ok (.aload_n 0, 1) := by decide +kernel
theorem dX1_init_1 : decode cX1_init 1 = .ok (.invokespecial 1, 3) := by decide +kernel
theorem dX1_init_4 : decode cX1_init 4 = .ok (.aload_n 0, 1) := by decide +kernel
theorem dX1_init_5 : decode cX1_init 5 = .ok (.sipush 1728, 3) := by decide +kernel
theorem dX1_init_8 : decode cX1_init 8 = .ok (.newarray .boolean, 2) := by decide +kernel
theorem dX1_init_10 : decode cX1_init 10 = .ok (.putfield 7, 3) := by decide +kernel
theorem dX1_init_13 : decode cX1_init 13 = .ok (.aload_n 0, 1) := by decide +kernel
theorem dX1_init_14 : decode cX1_init 14 = .ok (.sipush 576, 3) := by decide +kernel
theorem dX1_init_17 : decode cX1_init 17 = .ok (.newarray .boolean, 2) := by decide +kernel
theorem dX1_init_19 : decode cX1_init 19 = .ok (.putfield 13, 3) := by decide +kernel
theorem dX1_init_22 : decode cX1_init 22 = .ok (.return_, 1) := by decide +kernel
abbrev cX1_box : ByteArray := prog_3_method_5_code
def yX1_box : MethodName := ⟨RX1, "box", "(IIII)I"⟩
theorem dX1_box_0 : decode cX1_box 0 = .ok (.aload_n 0, 1) := by decide +kernel
theorem dX1_box_1 : decode cX1_box 1 = .ok (.iload_n 1, 1) := by decide +kernel
theorem dX1_box_2 : decode cX1_box 2 = .ok (.invokevirtual 16, 3) := by decide +kernel
theorem dX1_box_5 : decode cX1_box 5 = .ok (.ifCond .eq 5, 3) := by decide +kernel
theorem dX1_box_8 : decode cX1_box 8 = .ok (.iconst (-1), 1) := by decide +kernel
theorem dX1_box_9 : decode cX1_box 9 = .ok (.ireturn, 1) := by decide +kernel
theorem dX1_box_10 : decode cX1_box 10 = .ok (.iload_n 2, 1) := by decide +kernel
theorem dX1_box_11 : decode cX1_box 11 = .ok (.ifCond .lt 8, 3) := by decide +kernel
theorem dX1_box_14 : decode cX1_box 14 = .ok (.iload_n 2, 1) := by decide +kernel
theorem dX1_box_15 : decode cX1_box 15 = .ok (.iconst 3, 1) := by decide +kernel
theorem dX1_box_16 : decode cX1_box 16 = .ok (.if_icmp .le 6, 3) := by decide +kernel
theorem dX1_box_19 : decode cX1_box 19 = .ok (.bipush (-2), 2) := by decide +kernel
theorem dX1_box_21 : decode cX1_box 21 = .ok (.ireturn, 1) := by decide +kernel
theorem dX1_box_22 : decode cX1_box 22 = .ok (.iconst 0, 1) := by decide +kernel
theorem dX1_box_23 : decode cX1_box 23 = .ok (.istore 5, 2) := by decide +kernel
theorem dX1_box_25 : decode cX1_box 25 = .ok (.iload 5, 2) := by decide +kernel
theorem dX1_box_27 : decode cX1_box 27 = .ok (.bipush 24, 2) := by decide +kernel
theorem dX1_box_29 : decode cX1_box 29 = .ok (.if_icmp .ge 75, 3) := by decide +kernel
theorem dX1_box_32 : decode cX1_box 32 = .ok (.iconst 0, 1) := by decide +kernel
theorem dX1_box_33 : decode cX1_box 33 = .ok (.istore 6, 2) := by decide +kernel
theorem dX1_box_35 : decode cX1_box 35 = .ok (.iload 6, 2) := by decide +kernel
theorem dX1_box_37 : decode cX1_box 37 = .ok (.bipush 24, 2) := by decide +kernel
theorem dX1_box_39 : decode cX1_box 39 = .ok (.if_icmp .ge 59, 3) := by decide +kernel
theorem dX1_box_42 : decode cX1_box 42 = .ok (.iload_n 1, 1) := by decide +kernel
theorem dX1_box_43 : decode cX1_box 43 = .ok (.sipush 576, 3) := by decide +kernel
theorem dX1_box_46 : decode cX1_box 46 = .ok (.imul, 1) := by decide +kernel
theorem dX1_box_47 : decode cX1_box 47 = .ok (.iload 5, 2) := by decide +kernel
theorem dX1_box_49 : decode cX1_box 49 = .ok (.bipush 24, 2) := by decide +kernel
theorem dX1_box_51 : decode cX1_box 51 = .ok (.imul, 1) := by decide +kernel
theorem dX1_box_52 : decode cX1_box 52 = .ok (.iadd, 1) := by decide +kernel
theorem dX1_box_53 : decode cX1_box 53 = .ok (.iload 6, 2) := by decide +kernel
theorem dX1_box_55 : decode cX1_box 55 = .ok (.iadd, 1) := by decide +kernel
theorem dX1_box_56 : decode cX1_box 56 = .ok (.istore 7, 2) := by decide +kernel
theorem dX1_box_58 : decode cX1_box 58 = .ok (.aload_n 0, 1) := by decide +kernel
theorem dX1_box_59 : decode cX1_box 59 = .ok (.iload 6, 2) := by decide +kernel
theorem dX1_box_61 : decode cX1_box 61 = .ok (.iload 5, 2) := by decide +kernel
theorem dX1_box_63 : decode cX1_box 63 = .ok (.iload_n 3, 1) := by decide +kernel
theorem dX1_box_64 : decode cX1_box 64 = .ok (.iload 4, 2) := by decide +kernel
theorem dX1_box_66 : decode cX1_box 66 = .ok (.invokevirtual 20, 3) := by decide +kernel
theorem dX1_box_69 : decode cX1_box 69 = .ok (.istore 8, 2) := by decide +kernel
theorem dX1_box_71 : decode cX1_box 71 = .ok (.aload_n 0, 1) := by decide +kernel
theorem dX1_box_72 : decode cX1_box 72 = .ok (.getfield 7, 3) := by decide +kernel
theorem dX1_box_75 : decode cX1_box 75 = .ok (.iload 7, 2) := by decide +kernel
theorem dX1_box_77 : decode cX1_box 77 = .ok (.aload_n 0, 1) := by decide +kernel
theorem dX1_box_78 : decode cX1_box 78 = .ok (.aload_n 0, 1) := by decide +kernel
theorem dX1_box_79 : decode cX1_box 79 = .ok (.getfield 7, 3) := by decide +kernel
theorem dX1_box_82 : decode cX1_box 82 = .ok (.iload 7, 2) := by decide +kernel
theorem dX1_box_84 : decode cX1_box 84 = .ok (.baload, 1) := by decide +kernel
theorem dX1_box_85 : decode cX1_box 85 = .ok (.iload 8, 2) := by decide +kernel
theorem dX1_box_87 : decode cX1_box 87 = .ok (.iload_n 2, 1) := by decide +kernel
theorem dX1_box_88 : decode cX1_box 88 = .ok (.invokevirtual 24, 3) := by decide +kernel
theorem dX1_box_91 : decode cX1_box 91 = .ok (.bastore, 1) := by decide +kernel
theorem dX1_box_92 : decode cX1_box 92 = .ok (.iinc 6 1, 3) := by decide +kernel
theorem dX1_box_95 : decode cX1_box 95 = .ok (.goto (-60), 3) := by decide +kernel
theorem dX1_box_98 : decode cX1_box 98 = .ok (.iinc 5 1, 3) := by decide +kernel
theorem dX1_box_101 : decode cX1_box 101 = .ok (.goto (-76), 3) := by decide +kernel
theorem dX1_box_104 : decode cX1_box 104 = .ok (.aload_n 0, 1) := by decide +kernel
theorem dX1_box_105 : decode cX1_box 105 = .ok (.iload_n 1, 1) := by decide +kernel
theorem dX1_box_106 : decode cX1_box 106 = .ok (.invokevirtual 28, 3) := by decide +kernel
theorem dX1_box_109 : decode cX1_box 109 = .ok (.ireturn, 1) := by decide +kernel
abbrev cX1_bad : ByteArray := prog_3_method_2_code
def yX1_bad : MethodName := ⟨RX1, "bad", "(I)Z"⟩
theorem dX1_bad_0 : decode cX1_bad 0 = .ok (.iload_n 1, 1) := by decide +kernel
theorem dX1_bad_1 : decode cX1_bad 1 = .ok (.ifCond .lt 8, 3) := by decide +kernel
theorem dX1_bad_4 : decode cX1_bad 4 = .ok (.iload_n 1, 1) := by decide +kernel
theorem dX1_bad_5 : decode cX1_bad 5 = .ok (.iconst 2, 1) := by decide +kernel
theorem dX1_bad_6 : decode cX1_bad 6 = .ok (.if_icmp .le 7, 3) := by decide +kernel
theorem dX1_bad_9 : decode cX1_bad 9 = .ok (.iconst 1, 1) := by decide +kernel
theorem dX1_bad_10 : decode cX1_bad 10 = .ok (.goto 4, 3) := by decide +kernel
theorem dX1_bad_13 : decode cX1_bad 13 = .ok (.iconst 0, 1) := by decide +kernel
theorem dX1_bad_14 : decode cX1_bad 14 = .ok (.ireturn, 1) := by decide +kernel
abbrev cX1_inBox : ByteArray := prog_3_method_3_code
def yX1_inBox : MethodName := ⟨RX1, "inBox", "(IIII)Z"⟩
theorem dX1_inBox_0 : decode cX1_inBox 0 = .ok (.iload_n 3, 1) := by decide +kernel
theorem dX1_inBox_1 : decode cX1_inBox 1 = .ok (.bipush 31, 2) := by decide +kernel
theorem dX1_inBox_3 : decode cX1_inBox 3 = .ok (.iand, 1) := by decide +kernel
theorem dX1_inBox_4 : decode cX1_inBox 4 = .ok (.istore 5, 2) := by decide +kernel
theorem dX1_inBox_6 : decode cX1_inBox 6 = .ok (.iload_n 3, 1) := by decide +kernel
theorem dX1_inBox_7 : decode cX1_inBox 7 = .ok (.iconst 5, 1) := by decide +kernel
theorem dX1_inBox_8 : decode cX1_inBox 8 = .ok (.ishr, 1) := by decide +kernel
theorem dX1_inBox_9 : decode cX1_inBox 9 = .ok (.bipush 31, 2) := by decide +kernel
theorem dX1_inBox_11 : decode cX1_inBox 11 = .ok (.iand, 1) := by decide +kernel
theorem dX1_inBox_12 : decode cX1_inBox 12 = .ok (.istore 6, 2) := by decide +kernel
theorem dX1_inBox_14 : decode cX1_inBox 14 = .ok (.iload 4, 2) := by decide +kernel
theorem dX1_inBox_16 : decode cX1_inBox 16 = .ok (.bipush 31, 2) := by decide +kernel
theorem dX1_inBox_18 : decode cX1_inBox 18 = .ok (.iand, 1) := by decide +kernel
theorem dX1_inBox_19 : decode cX1_inBox 19 = .ok (.istore 7, 2) := by decide +kernel
theorem dX1_inBox_21 : decode cX1_inBox 21 = .ok (.iload 4, 2) := by decide +kernel
theorem dX1_inBox_23 : decode cX1_inBox 23 = .ok (.iconst 5, 1) := by decide +kernel
theorem dX1_inBox_24 : decode cX1_inBox 24 = .ok (.ishr, 1) := by decide +kernel
theorem dX1_inBox_25 : decode cX1_inBox 25 = .ok (.bipush 31, 2) := by decide +kernel
theorem dX1_inBox_27 : decode cX1_inBox 27 = .ok (.iand, 1) := by decide +kernel
theorem dX1_inBox_28 : decode cX1_inBox 28 = .ok (.istore 8, 2) := by decide +kernel
theorem dX1_inBox_30 : decode cX1_inBox 30 = .ok (.iload 5, 2) := by decide +kernel
theorem dX1_inBox_32 : decode cX1_inBox 32 = .ok (.iload_n 1, 1) := by decide +kernel
theorem dX1_inBox_33 : decode cX1_inBox 33 = .ok (.if_icmp .gt 31, 3) := by decide +kernel
theorem dX1_inBox_36 : decode cX1_inBox 36 = .ok (.iload_n 1, 1) := by decide +kernel
theorem dX1_inBox_37 : decode cX1_inBox 37 = .ok (.iload 5, 2) := by decide +kernel
theorem dX1_inBox_39 : decode cX1_inBox 39 = .ok (.iload 7, 2) := by decide +kernel
theorem dX1_inBox_41 : decode cX1_inBox 41 = .ok (.iadd, 1) := by decide +kernel
theorem dX1_inBox_42 : decode cX1_inBox 42 = .ok (.if_icmp .ge 22, 3) := by decide +kernel
theorem dX1_inBox_45 : decode cX1_inBox 45 = .ok (.iload 6, 2) := by decide +kernel
theorem dX1_inBox_47 : decode cX1_inBox 47 = .ok (.iload_n 2, 1) := by decide +kernel
theorem dX1_inBox_48 : decode cX1_inBox 48 = .ok (.if_icmp .gt 16, 3) := by decide +kernel
theorem dX1_inBox_51 : decode cX1_inBox 51 = .ok (.iload_n 2, 1) := by decide +kernel
theorem dX1_inBox_52 : decode cX1_inBox 52 = .ok (.iload 6, 2) := by decide +kernel
theorem dX1_inBox_54 : decode cX1_inBox 54 = .ok (.iload 8, 2) := by decide +kernel
theorem dX1_inBox_56 : decode cX1_inBox 56 = .ok (.iadd, 1) := by decide +kernel
theorem dX1_inBox_57 : decode cX1_inBox 57 = .ok (.if_icmp .ge 7, 3) := by decide +kernel
theorem dX1_inBox_60 : decode cX1_inBox 60 = .ok (.iconst 1, 1) := by decide +kernel
theorem dX1_inBox_61 : decode cX1_inBox 61 = .ok (.goto 4, 3) := by decide +kernel
theorem dX1_inBox_64 : decode cX1_inBox 64 = .ok (.iconst 0, 1) := by decide +kernel
theorem dX1_inBox_65 : decode cX1_inBox 65 = .ok (.ireturn, 1) := by decide +kernel
abbrev cX1_mixed : ByteArray := prog_3_method_4_code
def yX1_mixed : MethodName := ⟨RX1, "mixed", "(ZZI)Z"⟩
theorem dX1_mixed_0 : decode cX1_mixed 0 = .ok (.iload_n 3, 1) := by decide +kernel
theorem dX1_mixed_1 : decode cX1_mixed 1 = .ok (.ifCond .ne 17, 3) := by decide +kernel
theorem dX1_mixed_4 : decode cX1_mixed 4 = .ok (.iload_n 1, 1) := by decide +kernel
theorem dX1_mixed_5 : decode cX1_mixed 5 = .ok (.ifCond .ne 7, 3) := by decide +kernel
theorem dX1_mixed_8 : decode cX1_mixed 8 = .ok (.iload_n 2, 1) := by decide +kernel
theorem dX1_mixed_9 : decode cX1_mixed 9 = .ok (.ifCond .eq 7, 3) := by decide +kernel
theorem dX1_mixed_12 : decode cX1_mixed 12 = .ok (.iconst 1, 1) := by decide +kernel
theorem dX1_mixed_13 : decode cX1_mixed 13 = .ok (.goto 4, 3) := by decide +kernel
theorem dX1_mixed_16 : decode cX1_mixed 16 = .ok (.iconst 0, 1) := by decide +kernel
theorem dX1_mixed_17 : decode cX1_mixed 17 = .ok (.ireturn, 1) := by decide +kernel
theorem dX1_mixed_18 : decode cX1_mixed 18 = .ok (.iload_n 3, 1) := by decide +kernel
theorem dX1_mixed_19 : decode cX1_mixed 19 = .ok (.iconst 1, 1) := by decide +kernel
theorem dX1_mixed_20 : decode cX1_mixed 20 = .ok (.if_icmp .ne 17, 3) := by decide +kernel
theorem dX1_mixed_23 : decode cX1_mixed 23 = .ok (.iload_n 1, 1) := by decide +kernel
theorem dX1_mixed_24 : decode cX1_mixed 24 = .ok (.ifCond .eq 11, 3) := by decide +kernel
theorem dX1_mixed_27 : decode cX1_mixed 27 = .ok (.iload_n 2, 1) := by decide +kernel
theorem dX1_mixed_28 : decode cX1_mixed 28 = .ok (.ifCond .eq 7, 3) := by decide +kernel
theorem dX1_mixed_31 : decode cX1_mixed 31 = .ok (.iconst 1, 1) := by decide +kernel
theorem dX1_mixed_32 : decode cX1_mixed 32 = .ok (.goto 4, 3) := by decide +kernel
theorem dX1_mixed_35 : decode cX1_mixed 35 = .ok (.iconst 0, 1) := by decide +kernel
theorem dX1_mixed_36 : decode cX1_mixed 36 = .ok (.ireturn, 1) := by decide +kernel
theorem dX1_mixed_37 : decode cX1_mixed 37 = .ok (.iload_n 3, 1) := by decide +kernel
theorem dX1_mixed_38 : decode cX1_mixed 38 = .ok (.iconst 2, 1) := by decide +kernel
theorem dX1_mixed_39 : decode cX1_mixed 39 = .ok (.if_icmp .ne 17, 3) := by decide +kernel
theorem dX1_mixed_42 : decode cX1_mixed 42 = .ok (.iload_n 1, 1) := by decide +kernel
theorem dX1_mixed_43 : decode cX1_mixed 43 = .ok (.ifCond .eq 11, 3) := by decide +kernel
theorem dX1_mixed_46 : decode cX1_mixed 46 = .ok (.iload_n 2, 1) := by decide +kernel
theorem dX1_mixed_47 : decode cX1_mixed 47 = .ok (.ifCond .ne 7, 3) := by decide +kernel
theorem dX1_mixed_50 : decode cX1_mixed 50 = .ok (.iconst 1, 1) := by decide +kernel
theorem dX1_mixed_51 : decode cX1_mixed 51 = .ok (.goto 4, 3) := by decide +kernel
theorem dX1_mixed_54 : decode cX1_mixed 54 = .ok (.iconst 0, 1) := by decide +kernel
theorem dX1_mixed_55 : decode cX1_mixed 55 = .ok (.ireturn, 1) := by decide +kernel
theorem dX1_mixed_56 : decode cX1_mixed 56 = .ok (.iload_n 1, 1) := by decide +kernel
theorem dX1_mixed_57 : decode cX1_mixed 57 = .ok (.iload_n 2, 1) := by decide +kernel
theorem dX1_mixed_58 : decode cX1_mixed 58 = .ok (.if_icmp .eq 7, 3) := by decide +kernel
theorem dX1_mixed_61 : decode cX1_mixed 61 = .ok (.iconst 1, 1) := by decide +kernel
theorem dX1_mixed_62 : decode cX1_mixed 62 = .ok (.goto 4, 3) := by decide +kernel
theorem dX1_mixed_65 : decode cX1_mixed 65 = .ok (.iconst 0, 1) := by decide +kernel
theorem dX1_mixed_66 : decode cX1_mixed 66 = .ok (.ireturn, 1) := by decide +kernel
abbrev cX1_area : ByteArray := prog_3_method_9_code
def yX1_area : MethodName := ⟨RX1, "area", "(I)I"⟩
theorem dX1_area_0 : decode cX1_area 0 = .ok (.aload_n 0, 1) := by decide +kernel
theorem dX1_area_1 : decode cX1_area 1 = .ok (.iload_n 1, 1) := by decide +kernel
theorem dX1_area_2 : decode cX1_area 2 = .ok (.invokevirtual 16, 3) := by decide +kernel
theorem dX1_area_5 : decode cX1_area 5 = .ok (.ifCond .eq 5, 3) := by decide +kernel
theorem dX1_area_8 : decode cX1_area 8 = .ok (.iconst (-1), 1) := by decide +kernel
theorem dX1_area_9 : decode cX1_area 9 = .ok (.ireturn, 1) := by decide +kernel
theorem dX1_area_10 : decode cX1_area 10 = .ok (.iconst 0, 1) := by decide +kernel
theorem dX1_area_11 : decode cX1_area 11 = .ok (.istore_n 2, 1) := by decide +kernel
theorem dX1_area_12 : decode cX1_area 12 = .ok (.iconst 0, 1) := by decide +kernel
theorem dX1_area_13 : decode cX1_area 13 = .ok (.istore_n 3, 1) := by decide +kernel
theorem dX1_area_14 : decode cX1_area 14 = .ok (.iload_n 3, 1) := by decide +kernel
theorem dX1_area_15 : decode cX1_area 15 = .ok (.sipush 576, 3) := by decide +kernel
theorem dX1_area_18 : decode cX1_area 18 = .ok (.if_icmp .ge 27, 3) := by decide +kernel
theorem dX1_area_21 : decode cX1_area 21 = .ok (.aload_n 0, 1) := by decide +kernel
theorem dX1_area_22 : decode cX1_area 22 = .ok (.getfield 7, 3) := by decide +kernel
theorem dX1_area_25 : decode cX1_area 25 = .ok (.iload_n 1, 1) := by decide +kernel
theorem dX1_area_26 : decode cX1_area 26 = .ok (.sipush 576, 3) := by decide +kernel
theorem dX1_area_29 : decode cX1_area 29 = .ok (.imul, 1) := by decide +kernel
theorem dX1_area_30 : decode cX1_area 30 = .ok (.iload_n 3, 1) := by decide +kernel
theorem dX1_area_31 : decode cX1_area 31 = .ok (.iadd, 1) := by decide +kernel
theorem dX1_area_32 : decode cX1_area 32 = .ok (.baload, 1) := by decide +kernel
theorem dX1_area_33 : decode cX1_area 33 = .ok (.ifCond .eq 6, 3) := by decide +kernel
theorem dX1_area_36 : decode cX1_area 36 = .ok (.iinc 2 1, 3) := by decide +kernel
theorem dX1_area_39 : decode cX1_area 39 = .ok (.iinc 3 1, 3) := by decide +kernel
theorem dX1_area_42 : decode cX1_area 42 = .ok (.goto (-28), 3) := by decide +kernel
theorem dX1_area_45 : decode cX1_area 45 = .ok (.iload_n 2, 1) := by decide +kernel
theorem dX1_area_46 : decode cX1_area 46 = .ok (.ireturn, 1) := by decide +kernel
abbrev cX1_combine : ByteArray := prog_3_method_6_code
def yX1_combine : MethodName := ⟨RX1, "combine", "(IIII)I"⟩
theorem dX1_combine_0 : decode cX1_combine 0 = .ok (.aload_n 0, 1) := by decide +kernel
theorem dX1_combine_1 : decode cX1_combine 1 = .ok (.iload_n 1, 1) := by decide +kernel
theorem dX1_combine_2 : decode cX1_combine 2 = .ok (.invokevirtual 16, 3) := by decide +kernel
theorem dX1_combine_5 : decode cX1_combine 5 = .ok (.ifCond .ne 19, 3) := by decide +kernel
theorem dX1_combine_8 : decode cX1_combine 8 = .ok (.aload_n 0, 1) := by decide +kernel
theorem dX1_combine_9 : decode cX1_combine 9 = .ok (.iload_n 2, 1) := by decide +kernel
theorem dX1_combine_10 : decode cX1_combine 10 = .ok (.invokevirtual 16, 3) := by decide +kernel
theorem dX1_combine_13 : decode cX1_combine 13 = .ok (.ifCond .ne 11, 3) := by decide +kernel
theorem dX1_combine_16 : decode cX1_combine 16 = .ok (.aload_n 0, 1) := by decide +kernel
theorem dX1_combine_17 : decode cX1_combine 17 = .ok (.iload_n 3, 1) := by decide +kernel
theorem dX1_combine_18 : decode cX1_combine 18 = .ok (.invokevirtual 16, 3) := by decide +kernel
theorem dX1_combine_21 : decode cX1_combine 21 = .ok (.ifCond .eq 5, 3) := by decide +kernel
theorem dX1_combine_24 : decode cX1_combine 24 = .ok (.iconst (-1), 1) := by decide +kernel
theorem dX1_combine_25 : decode cX1_combine 25 = .ok (.ireturn, 1) := by decide +kernel
theorem dX1_combine_26 : decode cX1_combine 26 = .ok (.iload 4, 2) := by decide +kernel
theorem dX1_combine_28 : decode cX1_combine 28 = .ok (.ifCond .lt 9, 3) := by decide +kernel
theorem dX1_combine_31 : decode cX1_combine 31 = .ok (.iload 4, 2) := by decide +kernel
theorem dX1_combine_33 : decode cX1_combine 33 = .ok (.iconst 3, 1) := by decide +kernel
theorem dX1_combine_34 : decode cX1_combine 34 = .ok (.if_icmp .le 6, 3) := by decide +kernel
theorem dX1_combine_37 : decode cX1_combine 37 = .ok (.bipush (-2), 2) := by decide +kernel
theorem dX1_combine_39 : decode cX1_combine 39 = .ok (.ireturn, 1) := by decide +kernel
theorem dX1_combine_40 : decode cX1_combine 40 = .ok (.iconst 0, 1) := by decide +kernel
theorem dX1_combine_41 : decode cX1_combine 41 = .ok (.istore 5, 2) := by decide +kernel
theorem dX1_combine_43 : decode cX1_combine 43 = .ok (.iload 5, 2) := by decide +kernel
theorem dX1_combine_45 : decode cX1_combine 45 = .ok (.sipush 576, 3) := by decide +kernel
theorem dX1_combine_48 : decode cX1_combine 48 = .ok (.if_icmp .ge 48, 3) := by decide +kernel
theorem dX1_combine_51 : decode cX1_combine 51 = .ok (.aload_n 0, 1) := by decide +kernel
theorem dX1_combine_52 : decode cX1_combine 52 = .ok (.getfield 13, 3) := by decide +kernel
theorem dX1_combine_55 : decode cX1_combine 55 = .ok (.iload 5, 2) := by decide +kernel
theorem dX1_combine_57 : decode cX1_combine 57 = .ok (.aload_n 0, 1) := by decide +kernel
theorem dX1_combine_58 : decode cX1_combine 58 = .ok (.aload_n 0, 1) := by decide +kernel
theorem dX1_combine_59 : decode cX1_combine 59 = .ok (.getfield 7, 3) := by decide +kernel
theorem dX1_combine_62 : decode cX1_combine 62 = .ok (.iload_n 2, 1) := by decide +kernel
theorem dX1_combine_63 : decode cX1_combine 63 = .ok (.sipush 576, 3) := by decide +kernel
theorem dX1_combine_66 : decode cX1_combine 66 = .ok (.imul, 1) := by decide +kernel
theorem dX1_combine_67 : decode cX1_combine 67 = .ok (.iload 5, 2) := by decide +kernel
theorem dX1_combine_69 : decode cX1_combine 69 = .ok (.iadd, 1) := by decide +kernel
theorem dX1_combine_70 : decode cX1_combine 70 = .ok (.baload, 1) := by decide +kernel
theorem dX1_combine_71 : decode cX1_combine 71 = .ok (.aload_n 0, 1) := by decide +kernel
theorem dX1_combine_72 : decode cX1_combine 72 = .ok (.getfield 7, 3) := by decide +kernel
theorem dX1_combine_75 : decode cX1_combine 75 = .ok (.iload_n 3, 1) := by decide +kernel
theorem dX1_combine_76 : decode cX1_combine 76 = .ok (.sipush 576, 3) := by decide +kernel
theorem dX1_combine_79 : decode cX1_combine 79 = .ok (.imul, 1) := by decide +kernel
theorem dX1_combine_80 : decode cX1_combine 80 = .ok (.iload 5, 2) := by decide +kernel
theorem dX1_combine_82 : decode cX1_combine 82 = .ok (.iadd, 1) := by decide +kernel
theorem dX1_combine_83 : decode cX1_combine 83 = .ok (.baload, 1) := by decide +kernel
theorem dX1_combine_84 : decode cX1_combine 84 = .ok (.iload 4, 2) := by decide +kernel
theorem dX1_combine_86 : decode cX1_combine 86 = .ok (.invokevirtual 24, 3) := by decide +kernel
theorem dX1_combine_89 : decode cX1_combine 89 = .ok (.bastore, 1) := by decide +kernel
theorem dX1_combine_90 : decode cX1_combine 90 = .ok (.iinc 5 1, 3) := by decide +kernel
theorem dX1_combine_93 : decode cX1_combine 93 = .ok (.goto (-50), 3) := by decide +kernel
theorem dX1_combine_96 : decode cX1_combine 96 = .ok (.iconst 0, 1) := by decide +kernel
theorem dX1_combine_97 : decode cX1_combine 97 = .ok (.istore 5, 2) := by decide +kernel
theorem dX1_combine_99 : decode cX1_combine 99 = .ok (.iload 5, 2) := by decide +kernel
theorem dX1_combine_101 : decode cX1_combine 101 = .ok (.sipush 576, 3) := by decide +kernel
theorem dX1_combine_104 : decode cX1_combine 104 = .ok (.if_icmp .ge 29, 3) := by decide +kernel
theorem dX1_combine_107 : decode cX1_combine 107 = .ok (.aload_n 0, 1) := by decide +kernel
theorem dX1_combine_108 : decode cX1_combine 108 = .ok (.getfield 7, 3) := by decide +kernel
theorem dX1_combine_111 : decode cX1_combine 111 = .ok (.iload_n 1, 1) := by decide +kernel
theorem dX1_combine_112 : decode cX1_combine 112 = .ok (.sipush 576, 3) := by decide +kernel
theorem dX1_combine_115 : decode cX1_combine 115 = .ok (.imul, 1) := by decide +kernel
theorem dX1_combine_116 : decode cX1_combine 116 = .ok (.iload 5, 2) := by decide +kernel
theorem dX1_combine_118 : decode cX1_combine 118 = .ok (.iadd, 1) := by decide +kernel
theorem dX1_combine_119 : decode cX1_combine 119 = .ok (.aload_n 0, 1) := by decide +kernel
theorem dX1_combine_120 : decode cX1_combine 120 = .ok (.getfield 13, 3) := by decide +kernel
theorem dX1_combine_123 : decode cX1_combine 123 = .ok (.iload 5, 2) := by decide +kernel
theorem dX1_combine_125 : decode cX1_combine 125 = .ok (.baload, 1) := by decide +kernel
theorem dX1_combine_126 : decode cX1_combine 126 = .ok (.bastore, 1) := by decide +kernel
theorem dX1_combine_127 : decode cX1_combine 127 = .ok (.iinc 5 1, 3) := by decide +kernel
theorem dX1_combine_130 : decode cX1_combine 130 = .ok (.goto (-31), 3) := by decide +kernel
theorem dX1_combine_133 : decode cX1_combine 133 = .ok (.aload_n 0, 1) := by decide +kernel
theorem dX1_combine_134 : decode cX1_combine 134 = .ok (.iload_n 1, 1) := by decide +kernel
theorem dX1_combine_135 : decode cX1_combine 135 = .ok (.invokevirtual 28, 3) := by decide +kernel
theorem dX1_combine_138 : decode cX1_combine 138 = .ok (.ireturn, 1) := by decide +kernel
abbrev cX1_move : ByteArray := prog_3_method_7_code
def yX1_move : MethodName := ⟨RX1, "move", "(III)I"⟩
theorem dX1_move_0 : decode cX1_move 0 = .ok (.aload_n 0, 1) := by decide +kernel
theorem dX1_move_1 : decode cX1_move 1 = .ok (.iload_n 1, 1) := by decide +kernel
theorem dX1_move_2 : decode cX1_move 2 = .ok (.invokevirtual 16, 3) := by decide +kernel
theorem dX1_move_5 : decode cX1_move 5 = .ok (.ifCond .eq 5, 3) := by decide +kernel
theorem dX1_move_8 : decode cX1_move 8 = .ok (.iconst (-1), 1) := by decide +kernel
theorem dX1_move_9 : decode cX1_move 9 = .ok (.ireturn, 1) := by decide +kernel
theorem dX1_move_10 : decode cX1_move 10 = .ok (.iconst 0, 1) := by decide +kernel
theorem dX1_move_11 : decode cX1_move 11 = .ok (.istore 4, 2) := by decide +kernel
theorem dX1_move_13 : decode cX1_move 13 = .ok (.iload 4, 2) := by decide +kernel
theorem dX1_move_15 : decode cX1_move 15 = .ok (.sipush 576, 3) := by decide +kernel
theorem dX1_move_18 : decode cX1_move 18 = .ok (.if_icmp .ge 17, 3) := by decide +kernel
theorem dX1_move_21 : decode cX1_move 21 = .ok (.aload_n 0, 1) := by decide +kernel
theorem dX1_move_22 : decode cX1_move 22 = .ok (.getfield 13, 3) := by decide +kernel
theorem dX1_move_25 : decode cX1_move 25 = .ok (.iload 4, 2) := by decide +kernel
theorem dX1_move_27 : decode cX1_move 27 = .ok (.iconst 0, 1) := by decide +kernel
theorem dX1_move_28 : decode cX1_move 28 = .ok (.bastore, 1) := by decide +kernel
theorem dX1_move_29 : decode cX1_move 29 = .ok (.iinc 4 1, 3) := by decide +kernel
theorem dX1_move_32 : decode cX1_move 32 = .ok (.goto (-19), 3) := by decide +kernel
theorem dX1_move_35 : decode cX1_move 35 = .ok (.iconst 0, 1) := by decide +kernel
theorem dX1_move_36 : decode cX1_move 36 = .ok (.istore 4, 2) := by decide +kernel
theorem dX1_move_38 : decode cX1_move 38 = .ok (.iload 4, 2) := by decide +kernel
theorem dX1_move_40 : decode cX1_move 40 = .ok (.bipush 24, 2) := by decide +kernel
theorem dX1_move_42 : decode cX1_move 42 = .ok (.if_icmp .ge 93, 3) := by decide +kernel
theorem dX1_move_45 : decode cX1_move 45 = .ok (.iconst 0, 1) := by decide +kernel
theorem dX1_move_46 : decode cX1_move 46 = .ok (.istore 5, 2) := by decide +kernel
theorem dX1_move_48 : decode cX1_move 48 = .ok (.iload 5, 2) := by decide +kernel
theorem dX1_move_50 : decode cX1_move 50 = .ok (.bipush 24, 2) := by decide +kernel
theorem dX1_move_52 : decode cX1_move 52 = .ok (.if_icmp .ge 77, 3) := by decide +kernel
theorem dX1_move_55 : decode cX1_move 55 = .ok (.iload 5, 2) := by decide +kernel
theorem dX1_move_57 : decode cX1_move 57 = .ok (.iload_n 2, 1) := by decide +kernel
theorem dX1_move_58 : decode cX1_move 58 = .ok (.iadd, 1) := by decide +kernel
theorem dX1_move_59 : decode cX1_move 59 = .ok (.istore 6, 2) := by decide +kernel
theorem dX1_move_61 : decode cX1_move 61 = .ok (.iload 4, 2) := by decide +kernel
theorem dX1_move_63 : decode cX1_move 63 = .ok (.iload_n 3, 1) := by decide +kernel
theorem dX1_move_64 : decode cX1_move 64 = .ok (.iadd, 1) := by decide +kernel
theorem dX1_move_65 : decode cX1_move 65 = .ok (.istore 7, 2) := by decide +kernel
theorem dX1_move_67 : decode cX1_move 67 = .ok (.iload 6, 2) := by decide +kernel
theorem dX1_move_69 : decode cX1_move 69 = .ok (.ifCond .lt 54, 3) := by decide +kernel
theorem dX1_move_72 : decode cX1_move 72 = .ok (.iload 6, 2) := by decide +kernel
theorem dX1_move_74 : decode cX1_move 74 = .ok (.bipush 24, 2) := by decide +kernel
theorem dX1_move_76 : decode cX1_move 76 = .ok (.if_icmp .ge 47, 3) := by decide +kernel
theorem dX1_move_79 : decode cX1_move 79 = .ok (.iload 7, 2) := by decide +kernel
theorem dX1_move_81 : decode cX1_move 81 = .ok (.ifCond .lt 42, 3) := by decide +kernel
theorem dX1_move_84 : decode cX1_move 84 = .ok (.iload 7, 2) := by decide +kernel
theorem dX1_move_86 : decode cX1_move 86 = .ok (.bipush 24, 2) := by decide +kernel
theorem dX1_move_88 : decode cX1_move 88 = .ok (.if_icmp .ge 35, 3) := by decide +kernel
theorem dX1_move_91 : decode cX1_move 91 = .ok (.aload_n 0, 1) := by decide +kernel
theorem dX1_move_92 : decode cX1_move 92 = .ok (.getfield 13, 3) := by decide +kernel
theorem dX1_move_95 : decode cX1_move 95 = .ok (.iload 7, 2) := by decide +kernel
theorem dX1_move_97 : decode cX1_move 97 = .ok (.bipush 24, 2) := by decide +kernel
theorem dX1_move_99 : decode cX1_move 99 = .ok (.imul, 1) := by decide +kernel
theorem dX1_move_100 : decode cX1_move 100 = .ok (.iload 6, 2) := by decide +kernel
theorem dX1_move_102 : decode cX1_move 102 = .ok (.iadd, 1) := by decide +kernel
theorem dX1_move_103 : decode cX1_move 103 = .ok (.aload_n 0, 1) := by decide +kernel
theorem dX1_move_104 : decode cX1_move 104 = .ok (.getfield 7, 3) := by decide +kernel
theorem dX1_move_107 : decode cX1_move 107 = .ok (.iload_n 1, 1) := by decide +kernel
theorem dX1_move_108 : decode cX1_move 108 = .ok (.sipush 576, 3) := by decide +kernel
theorem dX1_move_111 : decode cX1_move 111 = .ok (.imul, 1) := by decide +kernel
theorem dX1_move_112 : decode cX1_move 112 = .ok (.iload 4, 2) := by decide +kernel
theorem dX1_move_114 : decode cX1_move 114 = .ok (.bipush 24, 2) := by decide +kernel
theorem dX1_move_116 : decode cX1_move 116 = .ok (.imul, 1) := by decide +kernel
theorem dX1_move_117 : decode cX1_move 117 = .ok (.iadd, 1) := by decide +kernel
theorem dX1_move_118 : decode cX1_move 118 = .ok (.iload 5, 2) := by decide +kernel
theorem dX1_move_120 : decode cX1_move 120 = .ok (.iadd, 1) := by decide +kernel
theorem dX1_move_121 : decode cX1_move 121 = .ok (.baload, 1) := by decide +kernel
theorem dX1_move_122 : decode cX1_move 122 = .ok (.bastore, 1) := by decide +kernel
theorem dX1_move_123 : decode cX1_move 123 = .ok (.iinc 5 1, 3) := by decide +kernel
theorem dX1_move_126 : decode cX1_move 126 = .ok (.goto (-78), 3) := by decide +kernel
theorem dX1_move_129 : decode cX1_move 129 = .ok (.iinc 4 1, 3) := by decide +kernel
theorem dX1_move_132 : decode cX1_move 132 = .ok (.goto (-94), 3) := by decide +kernel
theorem dX1_move_135 : decode cX1_move 135 = .ok (.iconst 0, 1) := by decide +kernel
theorem dX1_move_136 : decode cX1_move 136 = .ok (.istore 4, 2) := by decide +kernel
theorem dX1_move_138 : decode cX1_move 138 = .ok (.iload 4, 2) := by decide +kernel
theorem dX1_move_140 : decode cX1_move 140 = .ok (.sipush 576, 3) := by decide +kernel
theorem dX1_move_143 : decode cX1_move 143 = .ok (.if_icmp .ge 29, 3) := by decide +kernel
theorem dX1_move_146 : decode cX1_move 146 = .ok (.aload_n 0, 1) := by decide +kernel
theorem dX1_move_147 : decode cX1_move 147 = .ok (.getfield 7, 3) := by decide +kernel
theorem dX1_move_150 : decode cX1_move 150 = .ok (.iload_n 1, 1) := by decide +kernel
theorem dX1_move_151 : decode cX1_move 151 = .ok (.sipush 576, 3) := by decide +kernel
theorem dX1_move_154 : decode cX1_move 154 = .ok (.imul, 1) := by decide +kernel
theorem dX1_move_155 : decode cX1_move 155 = .ok (.iload 4, 2) := by decide +kernel
theorem dX1_move_157 : decode cX1_move 157 = .ok (.iadd, 1) := by decide +kernel
theorem dX1_move_158 : decode cX1_move 158 = .ok (.aload_n 0, 1) := by decide +kernel
theorem dX1_move_159 : decode cX1_move 159 = .ok (.getfield 13, 3) := by decide +kernel
theorem dX1_move_162 : decode cX1_move 162 = .ok (.iload 4, 2) := by decide +kernel
theorem dX1_move_164 : decode cX1_move 164 = .ok (.baload, 1) := by decide +kernel
theorem dX1_move_165 : decode cX1_move 165 = .ok (.bastore, 1) := by decide +kernel
theorem dX1_move_166 : decode cX1_move 166 = .ok (.iinc 4 1, 3) := by decide +kernel
theorem dX1_move_169 : decode cX1_move 169 = .ok (.goto (-31), 3) := by decide +kernel
theorem dX1_move_172 : decode cX1_move 172 = .ok (.aload_n 0, 1) := by decide +kernel
theorem dX1_move_173 : decode cX1_move 173 = .ok (.iload_n 1, 1) := by decide +kernel
theorem dX1_move_174 : decode cX1_move 174 = .ok (.invokevirtual 28, 3) := by decide +kernel
theorem dX1_move_177 : decode cX1_move 177 = .ok (.ireturn, 1) := by decide +kernel
abbrev cX1_invert : ByteArray := prog_3_method_8_code
def yX1_invert : MethodName := ⟨RX1, "invert", "(I)I"⟩
theorem dX1_invert_0 : decode cX1_invert 0 = .ok (.aload_n 0, 1) := by decide +kernel
theorem dX1_invert_1 : decode cX1_invert 1 = .ok (.iload_n 1, 1) := by decide +kernel
theorem dX1_invert_2 : decode cX1_invert 2 = .ok (.invokevirtual 16, 3) := by decide +kernel
theorem dX1_invert_5 : decode cX1_invert 5 = .ok (.ifCond .eq 5, 3) := by decide +kernel
theorem dX1_invert_8 : decode cX1_invert 8 = .ok (.iconst (-1), 1) := by decide +kernel
theorem dX1_invert_9 : decode cX1_invert 9 = .ok (.ireturn, 1) := by decide +kernel
theorem dX1_invert_10 : decode cX1_invert 10 = .ok (.iconst 0, 1) := by decide +kernel
theorem dX1_invert_11 : decode cX1_invert 11 = .ok (.istore_n 2, 1) := by decide +kernel
theorem dX1_invert_12 : decode cX1_invert 12 = .ok (.iload_n 2, 1) := by decide +kernel
theorem dX1_invert_13 : decode cX1_invert 13 = .ok (.sipush 576, 3) := by decide +kernel
theorem dX1_invert_16 : decode cX1_invert 16 = .ok (.if_icmp .ge 41, 3) := by decide +kernel
theorem dX1_invert_19 : decode cX1_invert 19 = .ok (.aload_n 0, 1) := by decide +kernel
theorem dX1_invert_20 : decode cX1_invert 20 = .ok (.getfield 7, 3) := by decide +kernel
theorem dX1_invert_23 : decode cX1_invert 23 = .ok (.iload_n 1, 1) := by decide +kernel
theorem dX1_invert_24 : decode cX1_invert 24 = .ok (.sipush 576, 3) := by decide +kernel
theorem dX1_invert_27 : decode cX1_invert 27 = .ok (.imul, 1) := by decide +kernel
theorem dX1_invert_28 : decode cX1_invert 28 = .ok (.iload_n 2, 1) := by decide +kernel
theorem dX1_invert_29 : decode cX1_invert 29 = .ok (.iadd, 1) := by decide +kernel
theorem dX1_invert_30 : decode cX1_invert 30 = .ok (.aload_n 0, 1) := by decide +kernel
theorem dX1_invert_31 : decode cX1_invert 31 = .ok (.getfield 7, 3) := by decide +kernel
theorem dX1_invert_34 : decode cX1_invert 34 = .ok (.iload_n 1, 1) := by decide +kernel
theorem dX1_invert_35 : decode cX1_invert 35 = .ok (.sipush 576, 3) := by decide +kernel
theorem dX1_invert_38 : decode cX1_invert 38 = .ok (.imul, 1) := by decide +kernel
theorem dX1_invert_39 : decode cX1_invert 39 = .ok (.iload_n 2, 1) := by decide +kernel
theorem dX1_invert_40 : decode cX1_invert 40 = .ok (.iadd, 1) := by decide +kernel
theorem dX1_invert_41 : decode cX1_invert 41 = .ok (.baload, 1) := by decide +kernel
theorem dX1_invert_42 : decode cX1_invert 42 = .ok (.ifCond .ne 7, 3) := by decide +kernel
theorem dX1_invert_45 : decode cX1_invert 45 = .ok (.iconst 1, 1) := by decide +kernel
theorem dX1_invert_46 : decode cX1_invert 46 = .ok (.goto 4, 3) := by decide +kernel
theorem dX1_invert_49 : decode cX1_invert 49 = .ok (.iconst 0, 1) := by decide +kernel
theorem dX1_invert_50 : decode cX1_invert 50 = .ok (.bastore, 1) := by decide +kernel
theorem dX1_invert_51 : decode cX1_invert 51 = .ok (.iinc 2 1, 3) := by decide +kernel
theorem dX1_invert_54 : decode cX1_invert 54 = .ok (.goto (-42), 3) := by decide +kernel
theorem dX1_invert_57 : decode cX1_invert 57 = .ok (.aload_n 0, 1) := by decide +kernel
theorem dX1_invert_58 : decode cX1_invert 58 = .ok (.iload_n 1, 1) := by decide +kernel
theorem dX1_invert_59 : decode cX1_invert 59 = .ok (.invokevirtual 28, 3) := by decide +kernel
theorem dX1_invert_62 : decode cX1_invert 62 = .ok (.ireturn, 1) := by decide +kernel
end
section
set_option maxRecDepth 100000
abbrev cX1_has : ByteArray := prog_3_method_10_code
def yX1_has : MethodName := ⟨RX1, "has", "(III)Z"⟩
theorem dX1_has_0 : decode cX1_has 0 = .ok (.aload_n 0, 1) := by decide +kernel
theorem dX1_has_1 : decode cX1_has 1 = .ok (.iload_n 1, 1) := by decide +kernel
theorem dX1_has_2 : decode cX1_has 2 = .ok (.invokevirtual 16, 3) := by decide +kernel
theorem dX1_has_5 : decode cX1_has 5 = .ok (.ifCond .ne 23, 3) := by decide +kernel
theorem dX1_has_8 : decode cX1_has 8 = .ok (.iload_n 2, 1) := by decide +kernel
theorem dX1_has_9 : decode cX1_has 9 = .ok (.ifCond .lt 19, 3) := by decide +kernel
theorem dX1_has_12 : decode cX1_has 12 = .ok (.iload_n 2, 1) := by decide +kernel
theorem dX1_has_13 : decode cX1_has 13 = .ok (.bipush 23, 2) := by decide +kernel
theorem dX1_has_15 : decode cX1_has 15 = .ok (.if_icmp .gt 13, 3) := by decide +kernel
theorem dX1_has_18 : decode cX1_has 18 = .ok (.iload_n 3, 1) := by decide +kernel
theorem dX1_has_19 : decode cX1_has 19 = .ok (.ifCond .lt 9, 3) := by decide +kernel
theorem dX1_has_22 : decode cX1_has 22 = .ok (.iload_n 3, 1) := by decide +kernel
theorem dX1_has_23 : decode cX1_has 23 = .ok (.bipush 23, 2) := by decide +kernel
theorem dX1_has_25 : decode cX1_has 25 = .ok (.if_icmp .le 5, 3) := by decide +kernel
theorem dX1_has_28 : decode cX1_has 28 = .ok (.iconst 0, 1) := by decide +kernel
theorem dX1_has_29 : decode cX1_has 29 = .ok (.ireturn, 1) := by decide +kernel
theorem dX1_has_30 : decode cX1_has 30 = .ok (.aload_n 0, 1) := by decide +kernel
theorem dX1_has_31 : decode cX1_has 31 = .ok (.getfield 7, 3) := by decide +kernel
theorem dX1_has_34 : decode cX1_has 34 = .ok (.iload_n 1, 1) := by decide +kernel
theorem dX1_has_35 : decode cX1_has 35 = .ok (.sipush 576, 3) := by decide +kernel
theorem dX1_has_38 : decode cX1_has 38 = .ok (.imul, 1) := by decide +kernel
theorem dX1_has_39 : decode cX1_has 39 = .ok (.iload_n 3, 1) := by decide +kernel
theorem dX1_has_40 : decode cX1_has 40 = .ok (.bipush 24, 2) := by decide +kernel
theorem dX1_has_42 : decode cX1_has 42 = .ok (.imul, 1) := by decide +kernel
theorem dX1_has_43 : decode cX1_has 43 = .ok (.iadd, 1) := by decide +kernel
theorem dX1_has_44 : decode cX1_has 44 = .ok (.iload_n 2, 1) := by decide +kernel
theorem dX1_has_45 : decode cX1_has 45 = .ok (.iadd, 1) := by decide +kernel
theorem dX1_has_46 : decode cX1_has 46 = .ok (.baload, 1) := by decide +kernel
theorem dX1_has_47 : decode cX1_has 47 = .ok (.ireturn, 1) := by decide +kernel
abbrev cX1_rectangles : ByteArray := prog_3_method_13_code
def yX1_rectangles : MethodName := ⟨RX1, "rectangles", "(I)I"⟩
theorem dX1_rectangles_0 : decode cX1_rectangles 0 = .ok (.aload_n 0, 1) := by decide +kernel
theorem dX1_rectangles_1 : decode cX1_rectangles 1 = .ok (.iload_n 1, 1) := by decide +kernel
theorem dX1_rectangles_2 : decode cX1_rectangles 2 = .ok (.invokevirtual 16, 3) := by decide +kernel
theorem dX1_rectangles_5 : decode cX1_rectangles 5 = .ok (.ifCond .eq 5, 3) := by decide +kernel
theorem dX1_rectangles_8 : decode cX1_rectangles 8 = .ok (.iconst (-1), 1) := by decide +kernel
theorem dX1_rectangles_9 : decode cX1_rectangles 9 = .ok (.ireturn, 1) := by decide +kernel
theorem dX1_rectangles_10 : decode cX1_rectangles 10 = .ok (.iconst 0, 1) := by decide +kernel
theorem dX1_rectangles_11 : decode cX1_rectangles 11 = .ok (.istore_n 2, 1) := by decide +kernel
theorem dX1_rectangles_12 : decode cX1_rectangles 12 = .ok (.iconst 0, 1) := by decide +kernel
theorem dX1_rectangles_13 : decode cX1_rectangles 13 = .ok (.istore_n 3, 1) := by decide +kernel
theorem dX1_rectangles_14 : decode cX1_rectangles 14 = .ok (.iload_n 3, 1) := by decide +kernel
theorem dX1_rectangles_15 : decode cX1_rectangles 15 = .ok (.bipush 24, 2) := by decide +kernel
theorem dX1_rectangles_17 : decode cX1_rectangles 17 = .ok (.if_icmp .ge 39, 3) := by decide +kernel
theorem dX1_rectangles_20 : decode cX1_rectangles 20 = .ok (.iconst 0, 1) := by decide +kernel
theorem dX1_rectangles_21 : decode cX1_rectangles 21 = .ok (.istore 4, 2) := by decide +kernel
theorem dX1_rectangles_23 : decode cX1_rectangles 23 = .ok (.iload 4, 2) := by decide +kernel
theorem dX1_rectangles_25 : decode cX1_rectangles 25 = .ok (.bipush 24, 2) := by decide +kernel
theorem dX1_rectangles_27 : decode cX1_rectangles 27 = .ok (.if_icmp .ge 23, 3) := by decide +kernel
theorem dX1_rectangles_30 : decode cX1_rectangles 30 = .ok (.aload_n 0, 1) := by decide +kernel
theorem dX1_rectangles_31 : decode cX1_rectangles 31 = .ok (.iload_n 1, 1) := by decide +kernel
theorem dX1_rectangles_32 : decode cX1_rectangles 32 = .ok (.iload 4, 2) := by decide +kernel
theorem dX1_rectangles_34 : decode cX1_rectangles 34 = .ok (.iload_n 3, 1) := by decide +kernel
theorem dX1_rectangles_35 : decode cX1_rectangles 35 = .ok (.invokevirtual 39, 3) := by decide +kernel
theorem dX1_rectangles_38 : decode cX1_rectangles 38 = .ok (.ifCond .eq 6, 3) := by decide +kernel
theorem dX1_rectangles_41 : decode cX1_rectangles 41 = .ok (.iinc 2 1, 3) := by decide +kernel
theorem dX1_rectangles_44 : decode cX1_rectangles 44 = .ok (.iinc 4 1, 3) := by decide +kernel
theorem dX1_rectangles_47 : decode cX1_rectangles 47 = .ok (.goto (-24), 3) := by decide +kernel
theorem dX1_rectangles_50 : decode cX1_rectangles 50 = .ok (.iinc 3 1, 3) := by decide +kernel
theorem dX1_rectangles_53 : decode cX1_rectangles 53 = .ok (.goto (-39), 3) := by decide +kernel
theorem dX1_rectangles_56 : decode cX1_rectangles 56 = .ok (.iload_n 2, 1) := by decide +kernel
theorem dX1_rectangles_57 : decode cX1_rectangles 57 = .ok (.ireturn, 1) := by decide +kernel
abbrev cX1_begins : ByteArray := prog_3_method_12_code
def yX1_begins : MethodName := ⟨RX1, "begins", "(III)Z"⟩
theorem dX1_begins_0 : decode cX1_begins 0 = .ok (.aload_n 0, 1) := by decide +kernel
theorem dX1_begins_1 : decode cX1_begins 1 = .ok (.iload_n 1, 1) := by decide +kernel
theorem dX1_begins_2 : decode cX1_begins 2 = .ok (.iload_n 2, 1) := by decide +kernel
theorem dX1_begins_3 : decode cX1_begins 3 = .ok (.iload_n 3, 1) := by decide +kernel
theorem dX1_begins_4 : decode cX1_begins 4 = .ok (.invokevirtual 32, 3) := by decide +kernel
theorem dX1_begins_7 : decode cX1_begins 7 = .ok (.ifCond .eq 31, 3) := by decide +kernel
theorem dX1_begins_10 : decode cX1_begins 10 = .ok (.aload_n 0, 1) := by decide +kernel
theorem dX1_begins_11 : decode cX1_begins 11 = .ok (.iload_n 1, 1) := by decide +kernel
theorem dX1_begins_12 : decode cX1_begins 12 = .ok (.iload_n 2, 1) := by decide +kernel
theorem dX1_begins_13 : decode cX1_begins 13 = .ok (.iconst 1, 1) := by decide +kernel
theorem dX1_begins_14 : decode cX1_begins 14 = .ok (.isub, 1) := by decide +kernel
theorem dX1_begins_15 : decode cX1_begins 15 = .ok (.iload_n 3, 1) := by decide +kernel
theorem dX1_begins_16 : decode cX1_begins 16 = .ok (.invokevirtual 32, 3) := by decide +kernel
theorem dX1_begins_19 : decode cX1_begins 19 = .ok (.ifCond .ne 19, 3) := by decide +kernel
theorem dX1_begins_22 : decode cX1_begins 22 = .ok (.aload_n 0, 1) := by decide +kernel
theorem dX1_begins_23 : decode cX1_begins 23 = .ok (.iload_n 1, 1) := by decide +kernel
theorem dX1_begins_24 : decode cX1_begins 24 = .ok (.iload_n 3, 1) := by decide +kernel
theorem dX1_begins_25 : decode cX1_begins 25 = .ok (.iconst 1, 1) := by decide +kernel
theorem dX1_begins_26 : decode cX1_begins 26 = .ok (.isub, 1) := by decide +kernel
theorem dX1_begins_27 : decode cX1_begins 27 = .ok (.iload_n 3, 1) := by decide +kernel
theorem dX1_begins_28 : decode cX1_begins 28 = .ok (.invokevirtual 36, 3) := by decide +kernel
theorem dX1_begins_31 : decode cX1_begins 31 = .ok (.ifCond .ne 7, 3) := by decide +kernel
theorem dX1_begins_34 : decode cX1_begins 34 = .ok (.iconst 1, 1) := by decide +kernel
theorem dX1_begins_35 : decode cX1_begins 35 = .ok (.goto 4, 3) := by decide +kernel
theorem dX1_begins_38 : decode cX1_begins 38 = .ok (.iconst 0, 1) := by decide +kernel
theorem dX1_begins_39 : decode cX1_begins 39 = .ok (.ireturn, 1) := by decide +kernel
abbrev cX1_equalRows : ByteArray := prog_3_method_11_code
def yX1_equalRows : MethodName := ⟨RX1, "equalRows", "(III)Z"⟩
theorem dX1_equalRows_0 : decode cX1_equalRows 0 = .ok (.iload_n 2, 1) := by decide +kernel
theorem dX1_equalRows_1 : decode cX1_equalRows 1 = .ok (.ifCond .lt 19, 3) := by decide +kernel
theorem dX1_equalRows_4 : decode cX1_equalRows 4 = .ok (.iload_n 3, 1) := by decide +kernel
theorem dX1_equalRows_5 : decode cX1_equalRows 5 = .ok (.ifCond .lt 15, 3) := by decide +kernel
theorem dX1_equalRows_8 : decode cX1_equalRows 8 = .ok (.iload_n 2, 1) := by decide +kernel
theorem dX1_equalRows_9 : decode cX1_equalRows 9 = .ok (.bipush 23, 2) := by decide +kernel
theorem dX1_equalRows_11 : decode cX1_equalRows 11 = .ok (.if_icmp .gt 9, 3) := by decide +kernel
theorem dX1_equalRows_14 : decode cX1_equalRows 14 = .ok (.iload_n 3, 1) := by decide +kernel
theorem dX1_equalRows_15 : decode cX1_equalRows 15 = .ok (.bipush 23, 2) := by decide +kernel
theorem dX1_equalRows_17 : decode cX1_equalRows 17 = .ok (.if_icmp .le 5, 3) := by decide +kernel
theorem dX1_equalRows_20 : decode cX1_equalRows 20 = .ok (.iconst 0, 1) := by decide +kernel
theorem dX1_equalRows_21 : decode cX1_equalRows 21 = .ok (.ireturn, 1) := by decide +kernel
theorem dX1_equalRows_22 : decode cX1_equalRows 22 = .ok (.iconst 0, 1) := by decide +kernel
theorem dX1_equalRows_23 : decode cX1_equalRows 23 = .ok (.istore 4, 2) := by decide +kernel
theorem dX1_equalRows_25 : decode cX1_equalRows 25 = .ok (.iload 4, 2) := by decide +kernel
theorem dX1_equalRows_27 : decode cX1_equalRows 27 = .ok (.bipush 24, 2) := by decide +kernel
theorem dX1_equalRows_29 : decode cX1_equalRows 29 = .ok (.if_icmp .ge 50, 3) := by decide +kernel
theorem dX1_equalRows_32 : decode cX1_equalRows 32 = .ok (.aload_n 0, 1) := by decide +kernel
theorem dX1_equalRows_33 : decode cX1_equalRows 33 = .ok (.getfield 7, 3) := by decide +kernel
theorem dX1_equalRows_36 : decode cX1_equalRows 36 = .ok (.iload_n 1, 1) := by decide +kernel
theorem dX1_equalRows_37 : decode cX1_equalRows 37 = .ok (.sipush 576, 3) := by decide +kernel
theorem dX1_equalRows_40 : decode cX1_equalRows 40 = .ok (.imul, 1) := by decide +kernel
theorem dX1_equalRows_41 : decode cX1_equalRows 41 = .ok (.iload_n 2, 1) := by decide +kernel
theorem dX1_equalRows_42 : decode cX1_equalRows 42 = .ok (.bipush 24, 2) := by decide +kernel
theorem dX1_equalRows_44 : decode cX1_equalRows 44 = .ok (.imul, 1) := by decide +kernel
theorem dX1_equalRows_45 : decode cX1_equalRows 45 = .ok (.iadd, 1) := by decide +kernel
theorem dX1_equalRows_46 : decode cX1_equalRows 46 = .ok (.iload 4, 2) := by decide +kernel
theorem dX1_equalRows_48 : decode cX1_equalRows 48 = .ok (.iadd, 1) := by decide +kernel
theorem dX1_equalRows_49 : decode cX1_equalRows 49 = .ok (.baload, 1) := by decide +kernel
theorem dX1_equalRows_50 : decode cX1_equalRows 50 = .ok (.aload_n 0, 1) := by decide +kernel
theorem dX1_equalRows_51 : decode cX1_equalRows 51 = .ok (.getfield 7, 3) := by decide +kernel
theorem dX1_equalRows_54 : decode cX1_equalRows 54 = .ok (.iload_n 1, 1) := by decide +kernel
theorem dX1_equalRows_55 : decode cX1_equalRows 55 = .ok (.sipush 576, 3) := by decide +kernel
theorem dX1_equalRows_58 : decode cX1_equalRows 58 = .ok (.imul, 1) := by decide +kernel
theorem dX1_equalRows_59 : decode cX1_equalRows 59 = .ok (.iload_n 3, 1) := by decide +kernel
theorem dX1_equalRows_60 : decode cX1_equalRows 60 = .ok (.bipush 24, 2) := by decide +kernel
theorem dX1_equalRows_62 : decode cX1_equalRows 62 = .ok (.imul, 1) := by decide +kernel
theorem dX1_equalRows_63 : decode cX1_equalRows 63 = .ok (.iadd, 1) := by decide +kernel
theorem dX1_equalRows_64 : decode cX1_equalRows 64 = .ok (.iload 4, 2) := by decide +kernel
theorem dX1_equalRows_66 : decode cX1_equalRows 66 = .ok (.iadd, 1) := by decide +kernel
theorem dX1_equalRows_67 : decode cX1_equalRows 67 = .ok (.baload, 1) := by decide +kernel
theorem dX1_equalRows_68 : decode cX1_equalRows 68 = .ok (.if_icmp .eq 5, 3) := by decide +kernel
theorem dX1_equalRows_71 : decode cX1_equalRows 71 = .ok (.iconst 0, 1) := by decide +kernel
theorem dX1_equalRows_72 : decode cX1_equalRows 72 = .ok (.ireturn, 1) := by decide +kernel
theorem dX1_equalRows_73 : decode cX1_equalRows 73 = .ok (.iinc 4 1, 3) := by decide +kernel
theorem dX1_equalRows_76 : decode cX1_equalRows 76 = .ok (.goto (-51), 3) := by decide +kernel
theorem dX1_equalRows_79 : decode cX1_equalRows 79 = .ok (.iconst 1, 1) := by decide +kernel
theorem dX1_equalRows_80 : decode cX1_equalRows 80 = .ok (.ireturn, 1) := by decide +kernel
abbrev cX1_rectangle : ByteArray := prog_3_method_14_code
def yX1_rectangle : MethodName := ⟨RX1, "rectangle", "(II)I"⟩
theorem dX1_rectangle_0 : decode cX1_rectangle 0 = .ok (.aload_n 0, 1) := by decide +kernel
theorem dX1_rectangle_1 : decode cX1_rectangle 1 = .ok (.iload_n 1, 1) := by decide +kernel
theorem dX1_rectangle_2 : decode cX1_rectangle 2 = .ok (.invokevirtual 16, 3) := by decide +kernel
theorem dX1_rectangle_5 : decode cX1_rectangle 5 = .ok (.ifCond .eq 5, 3) := by decide +kernel
theorem dX1_rectangle_8 : decode cX1_rectangle 8 = .ok (.iconst (-1), 1) := by decide +kernel
theorem dX1_rectangle_9 : decode cX1_rectangle 9 = .ok (.ireturn, 1) := by decide +kernel
theorem dX1_rectangle_10 : decode cX1_rectangle 10 = .ok (.iconst 0, 1) := by decide +kernel
theorem dX1_rectangle_11 : decode cX1_rectangle 11 = .ok (.istore_n 3, 1) := by decide +kernel
theorem dX1_rectangle_12 : decode cX1_rectangle 12 = .ok (.iconst 0, 1) := by decide +kernel
theorem dX1_rectangle_13 : decode cX1_rectangle 13 = .ok (.istore 4, 2) := by decide +kernel
theorem dX1_rectangle_15 : decode cX1_rectangle 15 = .ok (.iload 4, 2) := by decide +kernel
theorem dX1_rectangle_17 : decode cX1_rectangle 17 = .ok (.bipush 24, 2) := by decide +kernel
theorem dX1_rectangle_19 : decode cX1_rectangle 19 = .ok (.if_icmp .ge 55, 3) := by decide +kernel
theorem dX1_rectangle_22 : decode cX1_rectangle 22 = .ok (.iconst 0, 1) := by decide +kernel
theorem dX1_rectangle_23 : decode cX1_rectangle 23 = .ok (.istore 5, 2) := by decide +kernel
theorem dX1_rectangle_25 : decode cX1_rectangle 25 = .ok (.iload 5, 2) := by decide +kernel
theorem dX1_rectangle_27 : decode cX1_rectangle 27 = .ok (.bipush 24, 2) := by decide +kernel
theorem dX1_rectangle_29 : decode cX1_rectangle 29 = .ok (.if_icmp .ge 39, 3) := by decide +kernel
theorem dX1_rectangle_32 : decode cX1_rectangle 32 = .ok (.aload_n 0, 1) := by decide +kernel
theorem dX1_rectangle_33 : decode cX1_rectangle 33 = .ok (.iload_n 1, 1) := by decide +kernel
theorem dX1_rectangle_34 : decode cX1_rectangle 34 = .ok (.iload 5, 2) := by decide +kernel
theorem dX1_rectangle_36 : decode cX1_rectangle 36 = .ok (.iload 4, 2) := by decide +kernel
theorem dX1_rectangle_38 : decode cX1_rectangle 38 = .ok (.invokevirtual 39, 3) := by decide +kernel
theorem dX1_rectangle_41 : decode cX1_rectangle 41 = .ok (.ifCond .eq 21, 3) := by decide +kernel
theorem dX1_rectangle_44 : decode cX1_rectangle 44 = .ok (.iload_n 3, 1) := by decide +kernel
theorem dX1_rectangle_45 : decode cX1_rectangle 45 = .ok (.iload_n 2, 1) := by decide +kernel
theorem dX1_rectangle_46 : decode cX1_rectangle 46 = .ok (.if_icmp .ne 13, 3) := by decide +kernel
theorem dX1_rectangle_49 : decode cX1_rectangle 49 = .ok (.aload_n 0, 1) := by decide +kernel
theorem dX1_rectangle_50 : decode cX1_rectangle 50 = .ok (.iload_n 1, 1) := by decide +kernel
theorem dX1_rectangle_51 : decode cX1_rectangle 51 = .ok (.iload 5, 2) := by decide +kernel
theorem dX1_rectangle_53 : decode cX1_rectangle 53 = .ok (.iload 4, 2) := by decide +kernel
theorem dX1_rectangle_55 : decode cX1_rectangle 55 = .ok (.invokevirtual 42, 3) := by decide +kernel
theorem dX1_rectangle_58 : decode cX1_rectangle 58 = .ok (.ireturn, 1) := by decide +kernel
theorem dX1_rectangle_59 : decode cX1_rectangle 59 = .ok (.iinc 3 1, 3) := by decide +kernel
theorem dX1_rectangle_62 : decode cX1_rectangle 62 = .ok (.iinc 5 1, 3) := by decide +kernel
theorem dX1_rectangle_65 : decode cX1_rectangle 65 = .ok (.goto (-40), 3) := by decide +kernel
theorem dX1_rectangle_68 : decode cX1_rectangle 68 = .ok (.iinc 4 1, 3) := by decide +kernel
theorem dX1_rectangle_71 : decode cX1_rectangle 71 = .ok (.goto (-56), 3) := by decide +kernel
theorem dX1_rectangle_74 : decode cX1_rectangle 74 = .ok (.bipush (-3), 2) := by decide +kernel
theorem dX1_rectangle_76 : decode cX1_rectangle 76 = .ok (.ireturn, 1) := by decide +kernel
abbrev cX1_from : ByteArray := prog_3_method_15_code
def yX1_from : MethodName := ⟨RX1, "from", "(III)I"⟩
theorem dX1_from_0 : decode cX1_from 0 = .ok (.iload_n 2, 1) := by decide +kernel
theorem dX1_from_1 : decode cX1_from 1 = .ok (.istore 4, 2) := by decide +kernel
theorem dX1_from_3 : decode cX1_from 3 = .ok (.iload_n 3, 1) := by decide +kernel
theorem dX1_from_4 : decode cX1_from 4 = .ok (.istore 5, 2) := by decide +kernel
theorem dX1_from_6 : decode cX1_from 6 = .ok (.iconst 0, 1) := by decide +kernel
theorem dX1_from_7 : decode cX1_from 7 = .ok (.istore 6, 2) := by decide +kernel
theorem dX1_from_9 : decode cX1_from 9 = .ok (.iload 6, 2) := by decide +kernel
theorem dX1_from_11 : decode cX1_from 11 = .ok (.bipush 24, 2) := by decide +kernel
theorem dX1_from_13 : decode cX1_from 13 = .ok (.if_icmp .ge 41, 3) := by decide +kernel
theorem dX1_from_16 : decode cX1_from 16 = .ok (.aload_n 0, 1) := by decide +kernel
theorem dX1_from_17 : decode cX1_from 17 = .ok (.iload_n 1, 1) := by decide +kernel
theorem dX1_from_18 : decode cX1_from 18 = .ok (.iload 4, 2) := by decide +kernel
theorem dX1_from_20 : decode cX1_from 20 = .ok (.iconst 1, 1) := by decide +kernel
theorem dX1_from_21 : decode cX1_from 21 = .ok (.iadd, 1) := by decide +kernel
theorem dX1_from_22 : decode cX1_from 22 = .ok (.iload_n 3, 1) := by decide +kernel
theorem dX1_from_23 : decode cX1_from 23 = .ok (.invokevirtual 32, 3) := by decide +kernel
theorem dX1_from_26 : decode cX1_from 26 = .ok (.ifCond .eq 6, 3) := by decide +kernel
theorem dX1_from_29 : decode cX1_from 29 = .ok (.iinc 4 1, 3) := by decide +kernel
theorem dX1_from_32 : decode cX1_from 32 = .ok (.aload_n 0, 1) := by decide +kernel
theorem dX1_from_33 : decode cX1_from 33 = .ok (.iload_n 1, 1) := by decide +kernel
theorem dX1_from_34 : decode cX1_from 34 = .ok (.iload 5, 2) := by decide +kernel
theorem dX1_from_36 : decode cX1_from 36 = .ok (.iconst 1, 1) := by decide +kernel
theorem dX1_from_37 : decode cX1_from 37 = .ok (.iadd, 1) := by decide +kernel
theorem dX1_from_38 : decode cX1_from 38 = .ok (.iload_n 3, 1) := by decide +kernel
theorem dX1_from_39 : decode cX1_from 39 = .ok (.invokevirtual 36, 3) := by decide +kernel
theorem dX1_from_42 : decode cX1_from 42 = .ok (.ifCond .eq 6, 3) := by decide +kernel
theorem dX1_from_45 : decode cX1_from 45 = .ok (.iinc 5 1, 3) := by decide +kernel
theorem dX1_from_48 : decode cX1_from 48 = .ok (.iinc 6 1, 3) := by decide +kernel
theorem dX1_from_51 : decode cX1_from 51 = .ok (.goto (-42), 3) := by decide +kernel
theorem dX1_from_54 : decode cX1_from 54 = .ok (.iload_n 2, 1) := by decide +kernel
theorem dX1_from_55 : decode cX1_from 55 = .ok (.bipush 32, 2) := by decide +kernel
theorem dX1_from_57 : decode cX1_from 57 = .ok (.iload_n 3, 1) := by decide +kernel
theorem dX1_from_58 : decode cX1_from 58 = .ok (.imul, 1) := by decide +kernel
theorem dX1_from_59 : decode cX1_from 59 = .ok (.iadd, 1) := by decide +kernel
theorem dX1_from_60 : decode cX1_from 60 = .ok (.sipush 1024, 3) := by decide +kernel
theorem dX1_from_63 : decode cX1_from 63 = .ok (.iload 4, 2) := by decide +kernel
theorem dX1_from_65 : decode cX1_from 65 = .ok (.imul, 1) := by decide +kernel
theorem dX1_from_66 : decode cX1_from 66 = .ok (.iadd, 1) := by decide +kernel
theorem dX1_from_67 : decode cX1_from 67 = .ok (.ldc 46, 2) := by decide +kernel
theorem dX1_from_69 : decode cX1_from 69 = .ok (.iload 5, 2) := by decide +kernel
theorem dX1_from_71 : decode cX1_from 71 = .ok (.imul, 1) := by decide +kernel
theorem dX1_from_72 : decode cX1_from 72 = .ok (.iadd, 1) := by decide +kernel
theorem dX1_from_73 : decode cX1_from 73 = .ok (.ireturn, 1) := by decide +kernel
abbrev cX1_around : ByteArray := prog_3_method_16_code
def yX1_around : MethodName := ⟨RX1, "around", "(I)I"⟩
theorem dX1_around_0 : decode cX1_around 0 = .ok (.aload_n 0, 1) := by decide +kernel
theorem dX1_around_1 : decode cX1_around 1 = .ok (.iload_n 1, 1) := by decide +kernel
theorem dX1_around_2 : decode cX1_around 2 = .ok (.invokevirtual 16, 3) := by decide +kernel
theorem dX1_around_5 : decode cX1_around 5 = .ok (.ifCond .eq 5, 3) := by decide +kernel
theorem dX1_around_8 : decode cX1_around 8 = .ok (.iconst (-1), 1) := by decide +kernel
theorem dX1_around_9 : decode cX1_around 9 = .ok (.ireturn, 1) := by decide +kernel
theorem dX1_around_10 : decode cX1_around 10 = .ok (.bipush 24, 2) := by decide +kernel
theorem dX1_around_12 : decode cX1_around 12 = .ok (.istore_n 2, 1) := by decide +kernel
theorem dX1_around_13 : decode cX1_around 13 = .ok (.bipush 24, 2) := by decide +kernel
theorem dX1_around_15 : decode cX1_around 15 = .ok (.istore_n 3, 1) := by decide +kernel
theorem dX1_around_16 : decode cX1_around 16 = .ok (.iconst (-1), 1) := by decide +kernel
theorem dX1_around_17 : decode cX1_around 17 = .ok (.istore 4, 2) := by decide +kernel
theorem dX1_around_19 : decode cX1_around 19 = .ok (.iconst (-1), 1) := by decide +kernel
theorem dX1_around_20 : decode cX1_around 20 = .ok (.istore 5, 2) := by decide +kernel
theorem dX1_around_22 : decode cX1_around 22 = .ok (.iconst 0, 1) := by decide +kernel
theorem dX1_around_23 : decode cX1_around 23 = .ok (.istore 6, 2) := by decide +kernel
theorem dX1_around_25 : decode cX1_around 25 = .ok (.iload 6, 2) := by decide +kernel
theorem dX1_around_27 : decode cX1_around 27 = .ok (.bipush 24, 2) := by decide +kernel
theorem dX1_around_29 : decode cX1_around 29 = .ok (.if_icmp .ge 95, 3) := by decide +kernel
theorem dX1_around_32 : decode cX1_around 32 = .ok (.iconst 0, 1) := by decide +kernel
theorem dX1_around_33 : decode cX1_around 33 = .ok (.istore 7, 2) := by decide +kernel
theorem dX1_around_35 : decode cX1_around 35 = .ok (.iload 7, 2) := by decide +kernel
theorem dX1_around_37 : decode cX1_around 37 = .ok (.bipush 24, 2) := by decide +kernel
theorem dX1_around_39 : decode cX1_around 39 = .ok (.if_icmp .ge 79, 3) := by decide +kernel
theorem dX1_around_42 : decode cX1_around 42 = .ok (.aload_n 0, 1) := by decide +kernel
theorem dX1_around_43 : decode cX1_around 43 = .ok (.iload_n 1, 1) := by decide +kernel
theorem dX1_around_44 : decode cX1_around 44 = .ok (.iload 7, 2) := by decide +kernel
theorem dX1_around_46 : decode cX1_around 46 = .ok (.iload 6, 2) := by decide +kernel
theorem dX1_around_48 : decode cX1_around 48 = .ok (.invokevirtual 32, 3) := by decide +kernel
theorem dX1_around_51 : decode cX1_around 51 = .ok (.ifCond .eq 61, 3) := by decide +kernel
theorem dX1_around_54 : decode cX1_around 54 = .ok (.iload 7, 2) := by decide +kernel
theorem dX1_around_56 : decode cX1_around 56 = .ok (.iload_n 2, 1) := by decide +kernel
theorem dX1_around_57 : decode cX1_around 57 = .ok (.if_icmp .ge 8, 3) := by decide +kernel
theorem dX1_around_60 : decode cX1_around 60 = .ok (.iload 7, 2) := by decide +kernel
theorem dX1_around_62 : decode cX1_around 62 = .ok (.goto 4, 3) := by decide +kernel
theorem dX1_around_65 : decode cX1_around 65 = .ok (.iload_n 2, 1) := by decide +kernel
theorem dX1_around_66 : decode cX1_around 66 = .ok (.istore_n 2, 1) := by decide +kernel
theorem dX1_around_67 : decode cX1_around 67 = .ok (.iload 7, 2) := by decide +kernel
theorem dX1_around_69 : decode cX1_around 69 = .ok (.iload 4, 2) := by decide +kernel
theorem dX1_around_71 : decode cX1_around 71 = .ok (.if_icmp .le 8, 3) := by decide +kernel
theorem dX1_around_74 : decode cX1_around 74 = .ok (.iload 7, 2) := by decide +kernel
theorem dX1_around_76 : decode cX1_around 76 = .ok (.goto 5, 3) := by decide +kernel
theorem dX1_around_79 : decode cX1_around 79 = .ok (.iload 4, 2) := by decide +kernel
theorem dX1_around_81 : decode cX1_around 81 = .ok (.istore 4, 2) := by decide +kernel
theorem dX1_around_83 : decode cX1_around 83 = .ok (.iload 6, 2) := by decide +kernel
theorem dX1_around_85 : decode cX1_around 85 = .ok (.iload_n 3, 1) := by decide +kernel
theorem dX1_around_86 : decode cX1_around 86 = .ok (.if_icmp .ge 8, 3) := by decide +kernel
theorem dX1_around_89 : decode cX1_around 89 = .ok (.iload 6, 2) := by decide +kernel
theorem dX1_around_91 : decode cX1_around 91 = .ok (.goto 4, 3) := by decide +kernel
theorem dX1_around_94 : decode cX1_around 94 = .ok (.iload_n 3, 1) := by decide +kernel
theorem dX1_around_95 : decode cX1_around 95 = .ok (.istore_n 3, 1) := by decide +kernel
theorem dX1_around_96 : decode cX1_around 96 = .ok (.iload 6, 2) := by decide +kernel
theorem dX1_around_98 : decode cX1_around 98 = .ok (.iload 5, 2) := by decide +kernel
theorem dX1_around_100 : decode cX1_around 100 = .ok (.if_icmp .le 8, 3) := by decide +kernel
theorem dX1_around_103 : decode cX1_around 103 = .ok (.iload 6, 2) := by decide +kernel
theorem dX1_around_105 : decode cX1_around 105 = .ok (.goto 5, 3) := by decide +kernel
theorem dX1_around_108 : decode cX1_around 108 = .ok (.iload 5, 2) := by decide +kernel
theorem dX1_around_110 : decode cX1_around 110 = .ok (.istore 5, 2) := by decide +kernel
theorem dX1_around_112 : decode cX1_around 112 = .ok (.iinc 7 1, 3) := by decide +kernel
theorem dX1_around_115 : decode cX1_around 115 = .ok (.goto (-80), 3) := by decide +kernel
theorem dX1_around_118 : decode cX1_around 118 = .ok (.iinc 6 1, 3) := by decide +kernel
theorem dX1_around_121 : decode cX1_around 121 = .ok (.goto (-96), 3) := by decide +kernel
theorem dX1_around_124 : decode cX1_around 124 = .ok (.iload 4, 2) := by decide +kernel
theorem dX1_around_126 : decode cX1_around 126 = .ok (.ifCond .ge 6, 3) := by decide +kernel
theorem dX1_around_129 : decode cX1_around 129 = .ok (.bipush (-3), 2) := by decide +kernel
theorem dX1_around_131 : decode cX1_around 131 = .ok (.ireturn, 1) := by decide +kernel
theorem dX1_around_132 : decode cX1_around 132 = .ok (.iload_n 2, 1) := by decide +kernel
theorem dX1_around_133 : decode cX1_around 133 = .ok (.bipush 32, 2) := by decide +kernel
theorem dX1_around_135 : decode cX1_around 135 = .ok (.iload_n 3, 1) := by decide +kernel
theorem dX1_around_136 : decode cX1_around 136 = .ok (.imul, 1) := by decide +kernel
theorem dX1_around_137 : decode cX1_around 137 = .ok (.iadd, 1) := by decide +kernel
theorem dX1_around_138 : decode cX1_around 138 = .ok (.sipush 1024, 3) := by decide +kernel
theorem dX1_around_141 : decode cX1_around 141 = .ok (.iload 4, 2) := by decide +kernel
theorem dX1_around_143 : decode cX1_around 143 = .ok (.imul, 1) := by decide +kernel
theorem dX1_around_144 : decode cX1_around 144 = .ok (.iadd, 1) := by decide +kernel
theorem dX1_around_145 : decode cX1_around 145 = .ok (.ldc 46, 2) := by decide +kernel
theorem dX1_around_147 : decode cX1_around 147 = .ok (.iload 5, 2) := by decide +kernel
theorem dX1_around_149 : decode cX1_around 149 = .ok (.imul, 1) := by decide +kernel
theorem dX1_around_150 : decode cX1_around 150 = .ok (.iadd, 1) := by decide +kernel
theorem dX1_around_151 : decode cX1_around 151 = .ok (.ireturn, 1) := by decide +kernel
abbrev cX1_same : ByteArray := prog_3_method_17_code
def yX1_same : MethodName := ⟨RX1, "same", "(II)Z"⟩
theorem dX1_same_0 : decode cX1_same 0 = .ok (.aload_n 0, 1) := by decide +kernel
theorem dX1_same_1 : decode cX1_same 1 = .ok (.iload_n 1, 1) := by decide +kernel
theorem dX1_same_2 : decode cX1_same 2 = .ok (.invokevirtual 16, 3) := by decide +kernel
theorem dX1_same_5 : decode cX1_same 5 = .ok (.ifCond .ne 11, 3) := by decide +kernel
theorem dX1_same_8 : decode cX1_same 8 = .ok (.aload_n 0, 1) := by decide +kernel
theorem dX1_same_9 : decode cX1_same 9 = .ok (.iload_n 2, 1) := by decide +kernel
theorem dX1_same_10 : decode cX1_same 10 = .ok (.invokevirtual 16, 3) := by decide +kernel
theorem dX1_same_13 : decode cX1_same 13 = .ok (.ifCond .eq 5, 3) := by decide +kernel
theorem dX1_same_16 : decode cX1_same 16 = .ok (.iconst 0, 1) := by decide +kernel
theorem dX1_same_17 : decode cX1_same 17 = .ok (.ireturn, 1) := by decide +kernel
theorem dX1_same_18 : decode cX1_same 18 = .ok (.iconst 0, 1) := by decide +kernel
theorem dX1_same_19 : decode cX1_same 19 = .ok (.istore_n 3, 1) := by decide +kernel
theorem dX1_same_20 : decode cX1_same 20 = .ok (.iload_n 3, 1) := by decide +kernel
theorem dX1_same_21 : decode cX1_same 21 = .ok (.sipush 576, 3) := by decide +kernel
theorem dX1_same_24 : decode cX1_same 24 = .ok (.if_icmp .ge 38, 3) := by decide +kernel
theorem dX1_same_27 : decode cX1_same 27 = .ok (.aload_n 0, 1) := by decide +kernel
theorem dX1_same_28 : decode cX1_same 28 = .ok (.getfield 7, 3) := by decide +kernel
theorem dX1_same_31 : decode cX1_same 31 = .ok (.iload_n 1, 1) := by decide +kernel
theorem dX1_same_32 : decode cX1_same 32 = .ok (.sipush 576, 3) := by decide +kernel
theorem dX1_same_35 : decode cX1_same 35 = .ok (.imul, 1) := by decide +kernel
theorem dX1_same_36 : decode cX1_same 36 = .ok (.iload_n 3, 1) := by decide +kernel
theorem dX1_same_37 : decode cX1_same 37 = .ok (.iadd, 1) := by decide +kernel
theorem dX1_same_38 : decode cX1_same 38 = .ok (.baload, 1) := by decide +kernel
theorem dX1_same_39 : decode cX1_same 39 = .ok (.aload_n 0, 1) := by decide +kernel
theorem dX1_same_40 : decode cX1_same 40 = .ok (.getfield 7, 3) := by decide +kernel
theorem dX1_same_43 : decode cX1_same 43 = .ok (.iload_n 2, 1) := by decide +kernel
theorem dX1_same_44 : decode cX1_same 44 = .ok (.sipush 576, 3) := by decide +kernel
theorem dX1_same_47 : decode cX1_same 47 = .ok (.imul, 1) := by decide +kernel
theorem dX1_same_48 : decode cX1_same 48 = .ok (.iload_n 3, 1) := by decide +kernel
theorem dX1_same_49 : decode cX1_same 49 = .ok (.iadd, 1) := by decide +kernel
theorem dX1_same_50 : decode cX1_same 50 = .ok (.baload, 1) := by decide +kernel
theorem dX1_same_51 : decode cX1_same 51 = .ok (.if_icmp .eq 5, 3) := by decide +kernel
theorem dX1_same_54 : decode cX1_same 54 = .ok (.iconst 0, 1) := by decide +kernel
theorem dX1_same_55 : decode cX1_same 55 = .ok (.ireturn, 1) := by decide +kernel
theorem dX1_same_56 : decode cX1_same 56 = .ok (.iinc 3 1, 3) := by decide +kernel
theorem dX1_same_59 : decode cX1_same 59 = .ok (.goto (-39), 3) := by decide +kernel
theorem dX1_same_62 : decode cX1_same 62 = .ok (.iconst 1, 1) := by decide +kernel
theorem dX1_same_63 : decode cX1_same 63 = .ok (.ireturn, 1) := by decide +kernel
abbrev cX1_covers : ByteArray := prog_3_method_18_code
def yX1_covers : MethodName := ⟨RX1, "covers", "(III)I"⟩
theorem dX1_covers_0 : decode cX1_covers 0 = .ok (.aload_n 0, 1) := by decide +kernel
theorem dX1_covers_1 : decode cX1_covers 1 = .ok (.iload_n 1, 1) := by decide +kernel
theorem dX1_covers_2 : decode cX1_covers 2 = .ok (.invokevirtual 16, 3) := by decide +kernel
theorem dX1_covers_5 : decode cX1_covers 5 = .ok (.ifCond .eq 5, 3) := by decide +kernel
theorem dX1_covers_8 : decode cX1_covers 8 = .ok (.iconst (-1), 1) := by decide +kernel
theorem dX1_covers_9 : decode cX1_covers 9 = .ok (.ireturn, 1) := by decide +kernel
theorem dX1_covers_10 : decode cX1_covers 10 = .ok (.iconst 0, 1) := by decide +kernel
theorem dX1_covers_11 : decode cX1_covers 11 = .ok (.istore 4, 2) := by decide +kernel
theorem dX1_covers_13 : decode cX1_covers 13 = .ok (.iconst 0, 1) := by decide +kernel
theorem dX1_covers_14 : decode cX1_covers 14 = .ok (.istore 5, 2) := by decide +kernel
theorem dX1_covers_16 : decode cX1_covers 16 = .ok (.iconst 0, 1) := by decide +kernel
theorem dX1_covers_17 : decode cX1_covers 17 = .ok (.istore 6, 2) := by decide +kernel
theorem dX1_covers_19 : decode cX1_covers 19 = .ok (.iload 6, 2) := by decide +kernel
theorem dX1_covers_21 : decode cX1_covers 21 = .ok (.bipush 24, 2) := by decide +kernel
theorem dX1_covers_23 : decode cX1_covers 23 = .ok (.if_icmp .ge 77, 3) := by decide +kernel
theorem dX1_covers_26 : decode cX1_covers 26 = .ok (.iconst 0, 1) := by decide +kernel
theorem dX1_covers_27 : decode cX1_covers 27 = .ok (.istore 7, 2) := by decide +kernel
theorem dX1_covers_29 : decode cX1_covers 29 = .ok (.iload 7, 2) := by decide +kernel
theorem dX1_covers_31 : decode cX1_covers 31 = .ok (.bipush 24, 2) := by decide +kernel
theorem dX1_covers_33 : decode cX1_covers 33 = .ok (.if_icmp .ge 61, 3) := by decide +kernel
theorem dX1_covers_36 : decode cX1_covers 36 = .ok (.aload_n 0, 1) := by decide +kernel
theorem dX1_covers_37 : decode cX1_covers 37 = .ok (.iload 7, 2) := by decide +kernel
theorem dX1_covers_39 : decode cX1_covers 39 = .ok (.iload 6, 2) := by decide +kernel
theorem dX1_covers_41 : decode cX1_covers 41 = .ok (.iload_n 2, 1) := by decide +kernel
theorem dX1_covers_42 : decode cX1_covers 42 = .ok (.iload_n 3, 1) := by decide +kernel
theorem dX1_covers_43 : decode cX1_covers 43 = .ok (.invokevirtual 20, 3) := by decide +kernel
theorem dX1_covers_46 : decode cX1_covers 46 = .ok (.istore 8, 2) := by decide +kernel
theorem dX1_covers_48 : decode cX1_covers 48 = .ok (.iload 8, 2) := by decide +kernel
theorem dX1_covers_50 : decode cX1_covers 50 = .ok (.ifCond .eq 18, 3) := by decide +kernel
theorem dX1_covers_53 : decode cX1_covers 53 = .ok (.aload_n 0, 1) := by decide +kernel
theorem dX1_covers_54 : decode cX1_covers 54 = .ok (.iload_n 1, 1) := by decide +kernel
theorem dX1_covers_55 : decode cX1_covers 55 = .ok (.iload 7, 2) := by decide +kernel
theorem dX1_covers_57 : decode cX1_covers 57 = .ok (.iload 6, 2) := by decide +kernel
theorem dX1_covers_59 : decode cX1_covers 59 = .ok (.invokevirtual 32, 3) := by decide +kernel
theorem dX1_covers_62 : decode cX1_covers 62 = .ok (.ifCond .eq 6, 3) := by decide +kernel
theorem dX1_covers_65 : decode cX1_covers 65 = .ok (.iinc 4 1, 3) := by decide +kernel
theorem dX1_covers_68 : decode cX1_covers 68 = .ok (.iload 8, 2) := by decide +kernel
theorem dX1_covers_70 : decode cX1_covers 70 = .ok (.ifCond .eq 18, 3) := by decide +kernel
theorem dX1_covers_73 : decode cX1_covers 73 = .ok (.aload_n 0, 1) := by decide +kernel
theorem dX1_covers_74 : decode cX1_covers 74 = .ok (.iload_n 1, 1) := by decide +kernel
theorem dX1_covers_75 : decode cX1_covers 75 = .ok (.iload 7, 2) := by decide +kernel
theorem dX1_covers_77 : decode cX1_covers 77 = .ok (.iload 6, 2) := by decide +kernel
theorem dX1_covers_79 : decode cX1_covers 79 = .ok (.invokevirtual 32, 3) := by decide +kernel
theorem dX1_covers_82 : decode cX1_covers 82 = .ok (.ifCond .ne 6, 3) := by decide +kernel
theorem dX1_covers_85 : decode cX1_covers 85 = .ok (.iinc 5 1, 3) := by decide +kernel
theorem dX1_covers_88 : decode cX1_covers 88 = .ok (.iinc 7 1, 3) := by decide +kernel
theorem dX1_covers_91 : decode cX1_covers 91 = .ok (.goto (-62), 3) := by decide +kernel
theorem dX1_covers_94 : decode cX1_covers 94 = .ok (.iinc 6 1, 3) := by decide +kernel
theorem dX1_covers_97 : decode cX1_covers 97 = .ok (.goto (-78), 3) := by decide +kernel
theorem dX1_covers_100 : decode cX1_covers 100 = .ok (.iload 4, 2) := by decide +kernel
theorem dX1_covers_102 : decode cX1_covers 102 = .ok (.ifCond .ne 5, 3) := by decide +kernel
theorem dX1_covers_105 : decode cX1_covers 105 = .ok (.iconst 0, 1) := by decide +kernel
theorem dX1_covers_106 : decode cX1_covers 106 = .ok (.ireturn, 1) := by decide +kernel
theorem dX1_covers_107 : decode cX1_covers 107 = .ok (.iload 5, 2) := by decide +kernel
theorem dX1_covers_109 : decode cX1_covers 109 = .ok (.ifCond .ne 7, 3) := by decide +kernel
theorem dX1_covers_112 : decode cX1_covers 112 = .ok (.iconst 2, 1) := by decide +kernel
theorem dX1_covers_113 : decode cX1_covers 113 = .ok (.goto 4, 3) := by decide +kernel
theorem dX1_covers_116 : decode cX1_covers 116 = .ok (.iconst 1, 1) := by decide +kernel
theorem dX1_covers_117 : decode cX1_covers 117 = .ok (.ireturn, 1) := by decide +kernel
theorem q21 : (Jvm.Cond.initialized "BandRegionModel") ∈ lw_all := lw_g (lw_at lw_m0 2 rfl) rfl
theorem q166 : (Jvm.Cond.instantiable "BandRegionModel" (2 : Nat)) ∈ lw_all := lw_g (lw_at lw_m0 147 rfl) rfl
theorem q168 : (Jvm.Cond.instanceMethod ({ cls := "BandRegionModel", name := "<init>", desc := "()V" } : Jvm.MethodName)) ∈ lw_all := lw_g (lw_at lw_m0 149 rfl) rfl
theorem q169 : (Jvm.Cond.code ({ cls := "BandRegionModel", name := "<init>", desc := "()V" } : Jvm.MethodName) prog_3_method_1_code (1 : Nat) (Option.none : Option Jvm.ClassFile.FieldType)) ∈ lw_all := lw_g (lw_at lw_m0 150 rfl) rfl
theorem q170 : (Jvm.Cond.methodLink "BandRegionModel" (1 : Nat) ({ cls := "java/lang/Object", name := "<init>", desc := "()V" } : Jvm.MethodName)) ∈ lw_all := lw_g (lw_at lw_m0 151 rfl) rfl
theorem q171 : (Jvm.Cond.fieldLink "BandRegionModel" (7 : Nat) "BandRegionModel" "cells" "[Z") ∈ lw_all := lw_g (lw_at lw_m0 152 rfl) rfl
theorem q172 : (Jvm.Cond.fieldLink "BandRegionModel" (13 : Nat) "BandRegionModel" "work" "[Z") ∈ lw_all := lw_g (lw_at lw_m0 153 rfl) rfl
theorem q173 : (Jvm.Cond.laysFinal "BandRegionModel" "BandRegionModel" "cells" "[Z") ∈ lw_all := lw_g (lw_at lw_m0 154 rfl) rfl
theorem q174 : (Jvm.Cond.soleField "BandRegionModel" "cells") ∈ lw_all := lw_g (lw_at lw_m0 155 rfl) rfl
theorem q175 : (Jvm.Cond.laysFinal "BandRegionModel" "BandRegionModel" "work" "[Z") ∈ lw_all := lw_g (lw_at lw_m0 156 rfl) rfl
theorem q176 : (Jvm.Cond.soleField "BandRegionModel" "work") ∈ lw_all := lw_g (lw_at lw_m0 157 rfl) rfl
theorem q177 : (Jvm.Cond.superclass "BandRegionModel" "java/lang/Object") ∈ lw_all := lw_g (lw_at lw_m0 158 rfl) rfl
theorem q180 : (Jvm.Cond.instanceMethod ({ cls := "BandRegionModel", name := "box", desc := "(IIII)I" } : Jvm.MethodName)) ∈ lw_all := lw_g (lw_at lw_m0 161 rfl) rfl
theorem q181 : (Jvm.Cond.selects "BandRegionModel" ({ cls := "BandRegionModel", name := "box", desc := "(IIII)I" } : Jvm.MethodName) ({ cls := "BandRegionModel", name := "box", desc := "(IIII)I" } : Jvm.MethodName)) ∈ lw_all := lw_g (lw_at lw_m0 162 rfl) rfl
theorem q182 : (Jvm.Cond.code ({ cls := "BandRegionModel", name := "box", desc := "(IIII)I" } : Jvm.MethodName) prog_3_method_5_code (9 : Nat) (Option.some Jvm.ClassFile.FieldType.int)) ∈ lw_all := lw_g (lw_at lw_m0 163 rfl) rfl
theorem q183 : (Jvm.Cond.methodLink "BandRegionModel" (16 : Nat) ({ cls := "BandRegionModel", name := "bad", desc := "(I)Z" } : Jvm.MethodName)) ∈ lw_all := lw_g (lw_at lw_m0 164 rfl) rfl
theorem q184 : (Jvm.Cond.privateMethod ({ cls := "BandRegionModel", name := "bad", desc := "(I)Z" } : Jvm.MethodName)) ∈ lw_tbl := lw_at lw_m0 165 rfl
theorem q185 : (Jvm.Cond.instanceMethod ({ cls := "BandRegionModel", name := "bad", desc := "(I)Z" } : Jvm.MethodName)) ∈ lw_all := lw_g (lw_at lw_m0 166 rfl) rfl
theorem q186 : (Jvm.Cond.code ({ cls := "BandRegionModel", name := "bad", desc := "(I)Z" } : Jvm.MethodName) prog_3_method_2_code (2 : Nat) (Option.some Jvm.ClassFile.FieldType.boolean)) ∈ lw_all := lw_g (lw_at lw_m0 167 rfl) rfl
theorem q187 : (Jvm.Cond.methodLink "BandRegionModel" (20 : Nat) ({ cls := "BandRegionModel", name := "inBox", desc := "(IIII)Z" } : Jvm.MethodName)) ∈ lw_all := lw_g (lw_at lw_m0 168 rfl) rfl
theorem q188 : (Jvm.Cond.privateMethod ({ cls := "BandRegionModel", name := "inBox", desc := "(IIII)Z" } : Jvm.MethodName)) ∈ lw_tbl := lw_at lw_m0 169 rfl
theorem q189 : (Jvm.Cond.instanceMethod ({ cls := "BandRegionModel", name := "inBox", desc := "(IIII)Z" } : Jvm.MethodName)) ∈ lw_all := lw_g (lw_at lw_m0 170 rfl) rfl
theorem q190 : (Jvm.Cond.code ({ cls := "BandRegionModel", name := "inBox", desc := "(IIII)Z" } : Jvm.MethodName) prog_3_method_3_code (9 : Nat) (Option.some Jvm.ClassFile.FieldType.boolean)) ∈ lw_all := lw_g (lw_at lw_m0 171 rfl) rfl
theorem q191 : (Jvm.Cond.methodLink "BandRegionModel" (24 : Nat) ({ cls := "BandRegionModel", name := "mixed", desc := "(ZZI)Z" } : Jvm.MethodName)) ∈ lw_all := lw_g (lw_at lw_m0 172 rfl) rfl
theorem q192 : (Jvm.Cond.privateMethod ({ cls := "BandRegionModel", name := "mixed", desc := "(ZZI)Z" } : Jvm.MethodName)) ∈ lw_tbl := lw_at lw_m0 173 rfl
theorem q193 : (Jvm.Cond.instanceMethod ({ cls := "BandRegionModel", name := "mixed", desc := "(ZZI)Z" } : Jvm.MethodName)) ∈ lw_all := lw_g (lw_at lw_m0 174 rfl) rfl
theorem q194 : (Jvm.Cond.code ({ cls := "BandRegionModel", name := "mixed", desc := "(ZZI)Z" } : Jvm.MethodName) prog_3_method_4_code (4 : Nat) (Option.some Jvm.ClassFile.FieldType.boolean)) ∈ lw_all := lw_g (lw_at lw_m0 175 rfl) rfl
theorem q195 : (Jvm.Cond.methodLink "BandRegionModel" (28 : Nat) ({ cls := "BandRegionModel", name := "area", desc := "(I)I" } : Jvm.MethodName)) ∈ lw_all := lw_g (lw_at lw_m0 176 rfl) rfl
theorem q196 : (Jvm.Cond.instanceMethod ({ cls := "BandRegionModel", name := "area", desc := "(I)I" } : Jvm.MethodName)) ∈ lw_all := lw_g (lw_at lw_m0 177 rfl) rfl
theorem q197 : (Jvm.Cond.selects "BandRegionModel" ({ cls := "BandRegionModel", name := "area", desc := "(I)I" } : Jvm.MethodName) ({ cls := "BandRegionModel", name := "area", desc := "(I)I" } : Jvm.MethodName)) ∈ lw_all := lw_g (lw_at lw_m0 178 rfl) rfl
theorem q198 : (Jvm.Cond.code ({ cls := "BandRegionModel", name := "area", desc := "(I)I" } : Jvm.MethodName) prog_3_method_9_code (4 : Nat) (Option.some Jvm.ClassFile.FieldType.int)) ∈ lw_all := lw_g (lw_at lw_m0 179 rfl) rfl
theorem q200 : (Jvm.Cond.instanceMethod ({ cls := "BandRegionModel", name := "combine", desc := "(IIII)I" } : Jvm.MethodName)) ∈ lw_all := lw_g (lw_at lw_m0 181 rfl) rfl
theorem q201 : (Jvm.Cond.selects "BandRegionModel" ({ cls := "BandRegionModel", name := "combine", desc := "(IIII)I" } : Jvm.MethodName) ({ cls := "BandRegionModel", name := "combine", desc := "(IIII)I" } : Jvm.MethodName)) ∈ lw_all := lw_g (lw_at lw_m0 182 rfl) rfl
theorem q202 : (Jvm.Cond.code ({ cls := "BandRegionModel", name := "combine", desc := "(IIII)I" } : Jvm.MethodName) prog_3_method_6_code (6 : Nat) (Option.some Jvm.ClassFile.FieldType.int)) ∈ lw_all := lw_g (lw_at lw_m0 183 rfl) rfl
theorem q204 : (Jvm.Cond.instanceMethod ({ cls := "BandRegionModel", name := "move", desc := "(III)I" } : Jvm.MethodName)) ∈ lw_all := lw_g (lw_at lw_m0 185 rfl) rfl
theorem q205 : (Jvm.Cond.selects "BandRegionModel" ({ cls := "BandRegionModel", name := "move", desc := "(III)I" } : Jvm.MethodName) ({ cls := "BandRegionModel", name := "move", desc := "(III)I" } : Jvm.MethodName)) ∈ lw_all := lw_g (lw_at lw_m0 186 rfl) rfl
theorem q206 : (Jvm.Cond.code ({ cls := "BandRegionModel", name := "move", desc := "(III)I" } : Jvm.MethodName) prog_3_method_7_code (8 : Nat) (Option.some Jvm.ClassFile.FieldType.int)) ∈ lw_all := lw_g (lw_at lw_m0 187 rfl) rfl
theorem q208 : (Jvm.Cond.instanceMethod ({ cls := "BandRegionModel", name := "invert", desc := "(I)I" } : Jvm.MethodName)) ∈ lw_all := lw_g (lw_at lw_m0 189 rfl) rfl
theorem q209 : (Jvm.Cond.selects "BandRegionModel" ({ cls := "BandRegionModel", name := "invert", desc := "(I)I" } : Jvm.MethodName) ({ cls := "BandRegionModel", name := "invert", desc := "(I)I" } : Jvm.MethodName)) ∈ lw_all := lw_g (lw_at lw_m0 190 rfl) rfl
theorem q210 : (Jvm.Cond.code ({ cls := "BandRegionModel", name := "invert", desc := "(I)I" } : Jvm.MethodName) prog_3_method_8_code (3 : Nat) (Option.some Jvm.ClassFile.FieldType.int)) ∈ lw_all := lw_g (lw_at lw_m0 191 rfl) rfl
theorem q213 : (Jvm.Cond.instanceMethod ({ cls := "BandRegionModel", name := "has", desc := "(III)Z" } : Jvm.MethodName)) ∈ lw_all := lw_g (lw_at lw_m0 194 rfl) rfl
theorem q214 : (Jvm.Cond.selects "BandRegionModel" ({ cls := "BandRegionModel", name := "has", desc := "(III)Z" } : Jvm.MethodName) ({ cls := "BandRegionModel", name := "has", desc := "(III)Z" } : Jvm.MethodName)) ∈ lw_all := lw_g (lw_at lw_m0 195 rfl) rfl
theorem q215 : (Jvm.Cond.code ({ cls := "BandRegionModel", name := "has", desc := "(III)Z" } : Jvm.MethodName) prog_3_method_10_code (4 : Nat) (Option.some Jvm.ClassFile.FieldType.boolean)) ∈ lw_all := lw_g (lw_at lw_m0 196 rfl) rfl
theorem q217 : (Jvm.Cond.instanceMethod ({ cls := "BandRegionModel", name := "rectangles", desc := "(I)I" } : Jvm.MethodName)) ∈ lw_all := lw_g (lw_at lw_m0 198 rfl) rfl
theorem q218 : (Jvm.Cond.selects "BandRegionModel" ({ cls := "BandRegionModel", name := "rectangles", desc := "(I)I" } : Jvm.MethodName) ({ cls := "BandRegionModel", name := "rectangles", desc := "(I)I" } : Jvm.MethodName)) ∈ lw_all := lw_g (lw_at lw_m0 199 rfl) rfl
theorem q219 : (Jvm.Cond.code ({ cls := "BandRegionModel", name := "rectangles", desc := "(I)I" } : Jvm.MethodName) prog_3_method_13_code (5 : Nat) (Option.some Jvm.ClassFile.FieldType.int)) ∈ lw_all := lw_g (lw_at lw_m0 200 rfl) rfl
theorem q220 : (Jvm.Cond.methodLink "BandRegionModel" (39 : Nat) ({ cls := "BandRegionModel", name := "begins", desc := "(III)Z" } : Jvm.MethodName)) ∈ lw_all := lw_g (lw_at lw_m0 201 rfl) rfl
theorem q221 : (Jvm.Cond.privateMethod ({ cls := "BandRegionModel", name := "begins", desc := "(III)Z" } : Jvm.MethodName)) ∈ lw_tbl := lw_at lw_m0 202 rfl
theorem q222 : (Jvm.Cond.instanceMethod ({ cls := "BandRegionModel", name := "begins", desc := "(III)Z" } : Jvm.MethodName)) ∈ lw_all := lw_g (lw_at lw_m0 203 rfl) rfl
theorem q223 : (Jvm.Cond.code ({ cls := "BandRegionModel", name := "begins", desc := "(III)Z" } : Jvm.MethodName) prog_3_method_12_code (4 : Nat) (Option.some Jvm.ClassFile.FieldType.boolean)) ∈ lw_all := lw_g (lw_at lw_m0 204 rfl) rfl
theorem q224 : (Jvm.Cond.methodLink "BandRegionModel" (32 : Nat) ({ cls := "BandRegionModel", name := "has", desc := "(III)Z" } : Jvm.MethodName)) ∈ lw_all := lw_g (lw_at lw_m0 205 rfl) rfl
theorem q225 : (Jvm.Cond.methodLink "BandRegionModel" (36 : Nat) ({ cls := "BandRegionModel", name := "equalRows", desc := "(III)Z" } : Jvm.MethodName)) ∈ lw_all := lw_g (lw_at lw_m0 206 rfl) rfl
theorem q226 : (Jvm.Cond.privateMethod ({ cls := "BandRegionModel", name := "equalRows", desc := "(III)Z" } : Jvm.MethodName)) ∈ lw_tbl := lw_at lw_m0 207 rfl
theorem q227 : (Jvm.Cond.instanceMethod ({ cls := "BandRegionModel", name := "equalRows", desc := "(III)Z" } : Jvm.MethodName)) ∈ lw_all := lw_g (lw_at lw_m0 208 rfl) rfl
theorem q228 : (Jvm.Cond.code ({ cls := "BandRegionModel", name := "equalRows", desc := "(III)Z" } : Jvm.MethodName) prog_3_method_11_code (5 : Nat) (Option.some Jvm.ClassFile.FieldType.boolean)) ∈ lw_all := lw_g (lw_at lw_m0 209 rfl) rfl
theorem q230 : (Jvm.Cond.instanceMethod ({ cls := "BandRegionModel", name := "rectangle", desc := "(II)I" } : Jvm.MethodName)) ∈ lw_all := lw_g (lw_at lw_m0 211 rfl) rfl
theorem q231 : (Jvm.Cond.selects "BandRegionModel" ({ cls := "BandRegionModel", name := "rectangle", desc := "(II)I" } : Jvm.MethodName) ({ cls := "BandRegionModel", name := "rectangle", desc := "(II)I" } : Jvm.MethodName)) ∈ lw_all := lw_g (lw_at lw_m0 212 rfl) rfl
theorem q232 : (Jvm.Cond.code ({ cls := "BandRegionModel", name := "rectangle", desc := "(II)I" } : Jvm.MethodName) prog_3_method_14_code (6 : Nat) (Option.some Jvm.ClassFile.FieldType.int)) ∈ lw_all := lw_g (lw_at lw_m0 213 rfl) rfl
theorem q233 : (Jvm.Cond.methodLink "BandRegionModel" (42 : Nat) ({ cls := "BandRegionModel", name := "from", desc := "(III)I" } : Jvm.MethodName)) ∈ lw_all := lw_g (lw_at lw_m0 214 rfl) rfl
theorem q234 : (Jvm.Cond.privateMethod ({ cls := "BandRegionModel", name := "from", desc := "(III)I" } : Jvm.MethodName)) ∈ lw_tbl := lw_at lw_m0 215 rfl
theorem q235 : (Jvm.Cond.instanceMethod ({ cls := "BandRegionModel", name := "from", desc := "(III)I" } : Jvm.MethodName)) ∈ lw_all := lw_g (lw_at lw_m0 216 rfl) rfl
theorem q236 : (Jvm.Cond.code ({ cls := "BandRegionModel", name := "from", desc := "(III)I" } : Jvm.MethodName) prog_3_method_15_code (7 : Nat) (Option.some Jvm.ClassFile.FieldType.int)) ∈ lw_all := lw_g (lw_at lw_m0 217 rfl) rfl
theorem q237 : (Jvm.Cond.constant "BandRegionModel" (46 : Nat) (32768 : Int32)) ∈ lw_all := lw_g (lw_at lw_m0 218 rfl) rfl
theorem q239 : (Jvm.Cond.instanceMethod ({ cls := "BandRegionModel", name := "around", desc := "(I)I" } : Jvm.MethodName)) ∈ lw_all := lw_g (lw_at lw_m0 220 rfl) rfl
theorem q240 : (Jvm.Cond.selects "BandRegionModel" ({ cls := "BandRegionModel", name := "around", desc := "(I)I" } : Jvm.MethodName) ({ cls := "BandRegionModel", name := "around", desc := "(I)I" } : Jvm.MethodName)) ∈ lw_all := lw_g (lw_at lw_m0 221 rfl) rfl
theorem q241 : (Jvm.Cond.code ({ cls := "BandRegionModel", name := "around", desc := "(I)I" } : Jvm.MethodName) prog_3_method_16_code (8 : Nat) (Option.some Jvm.ClassFile.FieldType.int)) ∈ lw_all := lw_g (lw_at lw_m0 222 rfl) rfl
theorem q243 : (Jvm.Cond.instanceMethod ({ cls := "BandRegionModel", name := "same", desc := "(II)Z" } : Jvm.MethodName)) ∈ lw_all := lw_g (lw_at lw_m0 224 rfl) rfl
theorem q244 : (Jvm.Cond.selects "BandRegionModel" ({ cls := "BandRegionModel", name := "same", desc := "(II)Z" } : Jvm.MethodName) ({ cls := "BandRegionModel", name := "same", desc := "(II)Z" } : Jvm.MethodName)) ∈ lw_all := lw_g (lw_at lw_m0 225 rfl) rfl
theorem q245 : (Jvm.Cond.code ({ cls := "BandRegionModel", name := "same", desc := "(II)Z" } : Jvm.MethodName) prog_3_method_17_code (4 : Nat) (Option.some Jvm.ClassFile.FieldType.boolean)) ∈ lw_all := lw_g (lw_at lw_m0 226 rfl) rfl
theorem q247 : (Jvm.Cond.instanceMethod ({ cls := "BandRegionModel", name := "covers", desc := "(III)I" } : Jvm.MethodName)) ∈ lw_all := lw_g (lw_at lw_m0 228 rfl) rfl
theorem q248 : (Jvm.Cond.selects "BandRegionModel" ({ cls := "BandRegionModel", name := "covers", desc := "(III)I" } : Jvm.MethodName) ({ cls := "BandRegionModel", name := "covers", desc := "(III)I" } : Jvm.MethodName)) ∈ lw_all := lw_g (lw_at lw_m0 229 rfl) rfl
theorem q249 : (Jvm.Cond.code ({ cls := "BandRegionModel", name := "covers", desc := "(III)I" } : Jvm.MethodName) prog_3_method_18_code (9 : Nat) (Option.some Jvm.ClassFile.FieldType.int)) ∈ lw_all := lw_g (lw_at lw_m0 230 rfl) rfl
theorem in_X1 : ∀ w ∈ wsX10, w ∈ lw_all := lw_in wsX10 [173, 175] (by decide +kernel) (by decide +kernel)
end
section
set_option maxRecDepth 100000
/-! java/lang/Object -/
def RJ0 : String := "java/lang/Object"
abbrev cJ0_init : ByteArray := object_method_1_code
def yJ0_init : MethodName := ⟨RJ0, "<init>", "()V"⟩
theorem dJ0_init_0 : decode cJ0_init 0 = .ok (.return_, 1) := by decide +kernel
theorem q28 : (Jvm.Cond.instanceMethod ({ cls := "java/lang/Object", name := "<init>", desc := "()V" } : Jvm.MethodName)) ∈ lw_all := lw_g (lw_at lw_m0 9 rfl) rfl
theorem q29 : (Jvm.Cond.code ({ cls := "java/lang/Object", name := "<init>", desc := "()V" } : Jvm.MethodName) object_method_1_code (1 : Nat) (Option.none : Option Jvm.ClassFile.FieldType)) ∈ lw_all := lw_g (lw_at lw_m0 10 rfl) rfl
theorem q55 : (Jvm.Cond.arrayClass Jvm.ClassFile.FieldType.int) ∈ lw_all := lw_g (lw_at lw_m0 36 rfl) rfl
theorem q178 : (Jvm.Cond.arrayClass Jvm.ClassFile.FieldType.boolean) ∈ lw_all := lw_g (lw_at lw_m0 159 rfl) rfl
theorem q19 : (Jvm.Cond.initialized "BandRegionLaw") ∈ lw_all := lw_g (lw_at lw_m0 0 rfl) rfl
theorem q22 : (Jvm.Cond.classLink "BandRegionLaw" (7 : Nat) "BandRegion") ∈ lw_all := lw_g (lw_at lw_m0 3 rfl) rfl
theorem q24 : (Jvm.Cond.methodLink "BandRegionLaw" (9 : Nat) ({ cls := "BandRegion", name := "<init>", desc := "()V" } : Jvm.MethodName)) ∈ lw_all := lw_g (lw_at lw_m0 5 rfl) rfl
theorem q56 : (Jvm.Cond.methodLink "BandRegionLaw" (13 : Nat) ({ cls := "BandRegion", name := "box", desc := "(IIII)I" } : Jvm.MethodName)) ∈ lw_all := lw_g (lw_at lw_m0 37 rfl) rfl
theorem q114 : (Jvm.Cond.methodLink "BandRegionLaw" (18 : Nat) ({ cls := "BandRegion", name := "combine", desc := "(IIII)I" } : Jvm.MethodName)) ∈ lw_all := lw_g (lw_at lw_m0 95 rfl) rfl
theorem q118 : (Jvm.Cond.methodLink "BandRegionLaw" (22 : Nat) ({ cls := "BandRegion", name := "move", desc := "(III)I" } : Jvm.MethodName)) ∈ lw_all := lw_g (lw_at lw_m0 99 rfl) rfl
theorem q129 : (Jvm.Cond.methodLink "BandRegionLaw" (27 : Nat) ({ cls := "BandRegion", name := "invert", desc := "(I)I" } : Jvm.MethodName)) ∈ lw_all := lw_g (lw_at lw_m0 110 rfl) rfl
theorem q133 : (Jvm.Cond.methodLink "BandRegionLaw" (32 : Nat) ({ cls := "BandRegion", name := "area", desc := "(I)I" } : Jvm.MethodName)) ∈ lw_all := lw_g (lw_at lw_m0 114 rfl) rfl
theorem q137 : (Jvm.Cond.methodLink "BandRegionLaw" (36 : Nat) ({ cls := "BandRegion", name := "has", desc := "(III)Z" } : Jvm.MethodName)) ∈ lw_all := lw_g (lw_at lw_m0 118 rfl) rfl
theorem q141 : (Jvm.Cond.methodLink "BandRegionLaw" (41 : Nat) ({ cls := "BandRegion", name := "rectangles", desc := "(I)I" } : Jvm.MethodName)) ∈ lw_all := lw_g (lw_at lw_m0 122 rfl) rfl
theorem q145 : (Jvm.Cond.methodLink "BandRegionLaw" (45 : Nat) ({ cls := "BandRegion", name := "rectangle", desc := "(II)I" } : Jvm.MethodName)) ∈ lw_all := lw_g (lw_at lw_m0 126 rfl) rfl
theorem q153 : (Jvm.Cond.methodLink "BandRegionLaw" (50 : Nat) ({ cls := "BandRegion", name := "around", desc := "(I)I" } : Jvm.MethodName)) ∈ lw_all := lw_g (lw_at lw_m0 134 rfl) rfl
theorem q157 : (Jvm.Cond.methodLink "BandRegionLaw" (54 : Nat) ({ cls := "BandRegion", name := "same", desc := "(II)Z" } : Jvm.MethodName)) ∈ lw_all := lw_g (lw_at lw_m0 138 rfl) rfl
theorem q161 : (Jvm.Cond.methodLink "BandRegionLaw" (59 : Nat) ({ cls := "BandRegion", name := "covers", desc := "(III)I" } : Jvm.MethodName)) ∈ lw_all := lw_g (lw_at lw_m0 142 rfl) rfl
theorem q165 : (Jvm.Cond.classLink "BandRegionLaw" (10 : Nat) "BandRegionModel") ∈ lw_all := lw_g (lw_at lw_m0 146 rfl) rfl
theorem q167 : (Jvm.Cond.methodLink "BandRegionLaw" (12 : Nat) ({ cls := "BandRegionModel", name := "<init>", desc := "()V" } : Jvm.MethodName)) ∈ lw_all := lw_g (lw_at lw_m0 148 rfl) rfl
theorem q179 : (Jvm.Cond.methodLink "BandRegionLaw" (17 : Nat) ({ cls := "BandRegionModel", name := "box", desc := "(IIII)I" } : Jvm.MethodName)) ∈ lw_all := lw_g (lw_at lw_m0 160 rfl) rfl
theorem q199 : (Jvm.Cond.methodLink "BandRegionLaw" (21 : Nat) ({ cls := "BandRegionModel", name := "combine", desc := "(IIII)I" } : Jvm.MethodName)) ∈ lw_all := lw_g (lw_at lw_m0 180 rfl) rfl
theorem q203 : (Jvm.Cond.methodLink "BandRegionLaw" (26 : Nat) ({ cls := "BandRegionModel", name := "move", desc := "(III)I" } : Jvm.MethodName)) ∈ lw_all := lw_g (lw_at lw_m0 184 rfl) rfl
theorem q207 : (Jvm.Cond.methodLink "BandRegionLaw" (31 : Nat) ({ cls := "BandRegionModel", name := "invert", desc := "(I)I" } : Jvm.MethodName)) ∈ lw_all := lw_g (lw_at lw_m0 188 rfl) rfl
theorem q211 : (Jvm.Cond.methodLink "BandRegionLaw" (35 : Nat) ({ cls := "BandRegionModel", name := "area", desc := "(I)I" } : Jvm.MethodName)) ∈ lw_all := lw_g (lw_at lw_m0 192 rfl) rfl
theorem q212 : (Jvm.Cond.methodLink "BandRegionLaw" (40 : Nat) ({ cls := "BandRegionModel", name := "has", desc := "(III)Z" } : Jvm.MethodName)) ∈ lw_all := lw_g (lw_at lw_m0 193 rfl) rfl
theorem q216 : (Jvm.Cond.methodLink "BandRegionLaw" (44 : Nat) ({ cls := "BandRegionModel", name := "rectangles", desc := "(I)I" } : Jvm.MethodName)) ∈ lw_all := lw_g (lw_at lw_m0 197 rfl) rfl
theorem q229 : (Jvm.Cond.methodLink "BandRegionLaw" (49 : Nat) ({ cls := "BandRegionModel", name := "rectangle", desc := "(II)I" } : Jvm.MethodName)) ∈ lw_all := lw_g (lw_at lw_m0 210 rfl) rfl
theorem q238 : (Jvm.Cond.methodLink "BandRegionLaw" (53 : Nat) ({ cls := "BandRegionModel", name := "around", desc := "(I)I" } : Jvm.MethodName)) ∈ lw_all := lw_g (lw_at lw_m0 219 rfl) rfl
theorem q242 : (Jvm.Cond.methodLink "BandRegionLaw" (58 : Nat) ({ cls := "BandRegionModel", name := "same", desc := "(II)Z" } : Jvm.MethodName)) ∈ lw_all := lw_g (lw_at lw_m0 223 rfl) rfl
theorem q246 : (Jvm.Cond.methodLink "BandRegionLaw" (62 : Nat) ({ cls := "BandRegionModel", name := "covers", desc := "(III)I" } : Jvm.MethodName)) ∈ lw_all := lw_g (lw_at lw_m0 227 rfl) rfl
end
section
/-! the law's own entry -/
set_option maxRecDepth 100000
abbrev cL_law : ByteArray := code
theorem dL_law_0 : decode cL_law 0 = .ok (.new 7, 3) := by decide +kernel
theorem dL_law_3 : decode cL_law 3 = .ok (.dup, 1) := by decide +kernel
theorem dL_law_4 : decode cL_law 4 = .ok (.invokespecial 9, 3) := by decide +kernel
theorem dL_law_7 : decode cL_law 7 = .ok (.astore_n 1, 1) := by decide +kernel
theorem dL_law_8 : decode cL_law 8 = .ok (.new 10, 3) := by decide +kernel
theorem dL_law_11 : decode cL_law 11 = .ok (.dup, 1) := by decide +kernel
theorem dL_law_12 : decode cL_law 12 = .ok (.invokespecial 12, 3) := by decide +kernel
theorem dL_law_15 : decode cL_law 15 = .ok (.astore_n 2, 1) := by decide +kernel
theorem dL_law_16 : decode cL_law 16 = .ok (.iconst 0, 1) := by decide +kernel
theorem dL_law_17 : decode cL_law 17 = .ok (.istore_n 3, 1) := by decide +kernel
theorem dL_law_18 : decode cL_law 18 = .ok (.iload_n 3, 1) := by decide +kernel
theorem dL_law_19 : decode cL_law 19 = .ok (.aload_n 0, 1) := by decide +kernel
theorem dL_law_20 : decode cL_law 20 = .ok (.arraylength, 1) := by decide +kernel
theorem dL_law_21 : decode cL_law 21 = .ok (.iconst 5, 1) := by decide +kernel
theorem dL_law_22 : decode cL_law 22 = .ok (.isub, 1) := by decide +kernel
theorem dL_law_23 : decode cL_law 23 = .ok (.if_icmp .gt 468, 3) := by decide +kernel
theorem dL_law_26 : decode cL_law 26 = .ok (.aload_n 0, 1) := by decide +kernel
theorem dL_law_27 : decode cL_law 27 = .ok (.iload_n 3, 1) := by decide +kernel
theorem dL_law_28 : decode cL_law 28 = .ok (.iaload, 1) := by decide +kernel
theorem dL_law_29 : decode cL_law 29 = .ok (.bipush 15, 2) := by decide +kernel
theorem dL_law_31 : decode cL_law 31 = .ok (.iand, 1) := by decide +kernel
theorem dL_law_32 : decode cL_law 32 = .ok (.tableswitch 453 0 10 #[60, 113, 166, 209, 232, 255, 298, 321, 354, 377, 410], 60) := by decide +kernel
theorem dL_law_92 : decode cL_law 92 = .ok (.aload_n 1, 1) := by decide +kernel
theorem dL_law_93 : decode cL_law 93 = .ok (.aload_n 0, 1) := by decide +kernel
theorem dL_law_94 : decode cL_law 94 = .ok (.iload_n 3, 1) := by decide +kernel
theorem dL_law_95 : decode cL_law 95 = .ok (.iconst 1, 1) := by decide +kernel
theorem dL_law_96 : decode cL_law 96 = .ok (.iadd, 1) := by decide +kernel
theorem dL_law_97 : decode cL_law 97 = .ok (.iaload, 1) := by decide +kernel
theorem dL_law_98 : decode cL_law 98 = .ok (.aload_n 0, 1) := by decide +kernel
theorem dL_law_99 : decode cL_law 99 = .ok (.iload_n 3, 1) := by decide +kernel
theorem dL_law_100 : decode cL_law 100 = .ok (.iconst 2, 1) := by decide +kernel
theorem dL_law_101 : decode cL_law 101 = .ok (.iadd, 1) := by decide +kernel
theorem dL_law_102 : decode cL_law 102 = .ok (.iaload, 1) := by decide +kernel
theorem dL_law_103 : decode cL_law 103 = .ok (.aload_n 0, 1) := by decide +kernel
theorem dL_law_104 : decode cL_law 104 = .ok (.iload_n 3, 1) := by decide +kernel
theorem dL_law_105 : decode cL_law 105 = .ok (.iconst 3, 1) := by decide +kernel
theorem dL_law_106 : decode cL_law 106 = .ok (.iadd, 1) := by decide +kernel
theorem dL_law_107 : decode cL_law 107 = .ok (.iaload, 1) := by decide +kernel
theorem dL_law_108 : decode cL_law 108 = .ok (.aload_n 0, 1) := by decide +kernel
theorem dL_law_109 : decode cL_law 109 = .ok (.iload_n 3, 1) := by decide +kernel
theorem dL_law_110 : decode cL_law 110 = .ok (.iconst 4, 1) := by decide +kernel
theorem dL_law_111 : decode cL_law 111 = .ok (.iadd, 1) := by decide +kernel
theorem dL_law_112 : decode cL_law 112 = .ok (.iaload, 1) := by decide +kernel
theorem dL_law_113 : decode cL_law 113 = .ok (.invokevirtual 13, 3) := by decide +kernel
theorem dL_law_116 : decode cL_law 116 = .ok (.aload_n 2, 1) := by decide +kernel
theorem dL_law_117 : decode cL_law 117 = .ok (.aload_n 0, 1) := by decide +kernel
theorem dL_law_118 : decode cL_law 118 = .ok (.iload_n 3, 1) := by decide +kernel
theorem dL_law_119 : decode cL_law 119 = .ok (.iconst 1, 1) := by decide +kernel
theorem dL_law_120 : decode cL_law 120 = .ok (.iadd, 1) := by decide +kernel
theorem dL_law_121 : decode cL_law 121 = .ok (.iaload, 1) := by decide +kernel
theorem dL_law_122 : decode cL_law 122 = .ok (.aload_n 0, 1) := by decide +kernel
theorem dL_law_123 : decode cL_law 123 = .ok (.iload_n 3, 1) := by decide +kernel
theorem dL_law_124 : decode cL_law 124 = .ok (.iconst 2, 1) := by decide +kernel
theorem dL_law_125 : decode cL_law 125 = .ok (.iadd, 1) := by decide +kernel
theorem dL_law_126 : decode cL_law 126 = .ok (.iaload, 1) := by decide +kernel
theorem dL_law_127 : decode cL_law 127 = .ok (.aload_n 0, 1) := by decide +kernel
theorem dL_law_128 : decode cL_law 128 = .ok (.iload_n 3, 1) := by decide +kernel
theorem dL_law_129 : decode cL_law 129 = .ok (.iconst 3, 1) := by decide +kernel
theorem dL_law_130 : decode cL_law 130 = .ok (.iadd, 1) := by decide +kernel
theorem dL_law_131 : decode cL_law 131 = .ok (.iaload, 1) := by decide +kernel
theorem dL_law_132 : decode cL_law 132 = .ok (.aload_n 0, 1) := by decide +kernel
theorem dL_law_133 : decode cL_law 133 = .ok (.iload_n 3, 1) := by decide +kernel
theorem dL_law_134 : decode cL_law 134 = .ok (.iconst 4, 1) := by decide +kernel
theorem dL_law_135 : decode cL_law 135 = .ok (.iadd, 1) := by decide +kernel
theorem dL_law_136 : decode cL_law 136 = .ok (.iaload, 1) := by decide +kernel
theorem dL_law_137 : decode cL_law 137 = .ok (.invokevirtual 17, 3) := by decide +kernel
theorem dL_law_140 : decode cL_law 140 = .ok (.if_icmp .eq 345, 3) := by decide +kernel
theorem dL_law_143 : decode cL_law 143 = .ok (.iconst 0, 1) := by decide +kernel
theorem dL_law_144 : decode cL_law 144 = .ok (.ireturn, 1) := by decide +kernel
theorem dL_law_145 : decode cL_law 145 = .ok (.aload_n 1, 1) := by decide +kernel
theorem dL_law_146 : decode cL_law 146 = .ok (.aload_n 0, 1) := by decide +kernel
theorem dL_law_147 : decode cL_law 147 = .ok (.iload_n 3, 1) := by decide +kernel
theorem dL_law_148 : decode cL_law 148 = .ok (.iconst 1, 1) := by decide +kernel
theorem dL_law_149 : decode cL_law 149 = .ok (.iadd, 1) := by decide +kernel
theorem dL_law_150 : decode cL_law 150 = .ok (.iaload, 1) := by decide +kernel
theorem dL_law_151 : decode cL_law 151 = .ok (.aload_n 0, 1) := by decide +kernel
theorem dL_law_152 : decode cL_law 152 = .ok (.iload_n 3, 1) := by decide +kernel
theorem dL_law_153 : decode cL_law 153 = .ok (.iconst 2, 1) := by decide +kernel
theorem dL_law_154 : decode cL_law 154 = .ok (.iadd, 1) := by decide +kernel
theorem dL_law_155 : decode cL_law 155 = .ok (.iaload, 1) := by decide +kernel
theorem dL_law_156 : decode cL_law 156 = .ok (.aload_n 0, 1) := by decide +kernel
theorem dL_law_157 : decode cL_law 157 = .ok (.iload_n 3, 1) := by decide +kernel
theorem dL_law_158 : decode cL_law 158 = .ok (.iconst 3, 1) := by decide +kernel
theorem dL_law_159 : decode cL_law 159 = .ok (.iadd, 1) := by decide +kernel
theorem dL_law_160 : decode cL_law 160 = .ok (.iaload, 1) := by decide +kernel
theorem dL_law_161 : decode cL_law 161 = .ok (.aload_n 0, 1) := by decide +kernel
theorem dL_law_162 : decode cL_law 162 = .ok (.iload_n 3, 1) := by decide +kernel
theorem dL_law_163 : decode cL_law 163 = .ok (.iconst 4, 1) := by decide +kernel
theorem dL_law_164 : decode cL_law 164 = .ok (.iadd, 1) := by decide +kernel
theorem dL_law_165 : decode cL_law 165 = .ok (.iaload, 1) := by decide +kernel
theorem dL_law_166 : decode cL_law 166 = .ok (.invokevirtual 18, 3) := by decide +kernel
theorem dL_law_169 : decode cL_law 169 = .ok (.aload_n 2, 1) := by decide +kernel
theorem dL_law_170 : decode cL_law 170 = .ok (.aload_n 0, 1) := by decide +kernel
theorem dL_law_171 : decode cL_law 171 = .ok (.iload_n 3, 1) := by decide +kernel
theorem dL_law_172 : decode cL_law 172 = .ok (.iconst 1, 1) := by decide +kernel
theorem dL_law_173 : decode cL_law 173 = .ok (.iadd, 1) := by decide +kernel
theorem dL_law_174 : decode cL_law 174 = .ok (.iaload, 1) := by decide +kernel
theorem dL_law_175 : decode cL_law 175 = .ok (.aload_n 0, 1) := by decide +kernel
theorem dL_law_176 : decode cL_law 176 = .ok (.iload_n 3, 1) := by decide +kernel
theorem dL_law_177 : decode cL_law 177 = .ok (.iconst 2, 1) := by decide +kernel
theorem dL_law_178 : decode cL_law 178 = .ok (.iadd, 1) := by decide +kernel
theorem dL_law_179 : decode cL_law 179 = .ok (.iaload, 1) := by decide +kernel
theorem dL_law_180 : decode cL_law 180 = .ok (.aload_n 0, 1) := by decide +kernel
theorem dL_law_181 : decode cL_law 181 = .ok (.iload_n 3, 1) := by decide +kernel
theorem dL_law_182 : decode cL_law 182 = .ok (.iconst 3, 1) := by decide +kernel
theorem dL_law_183 : decode cL_law 183 = .ok (.iadd, 1) := by decide +kernel
theorem dL_law_184 : decode cL_law 184 = .ok (.iaload, 1) := by decide +kernel
theorem dL_law_185 : decode cL_law 185 = .ok (.aload_n 0, 1) := by decide +kernel
theorem dL_law_186 : decode cL_law 186 = .ok (.iload_n 3, 1) := by decide +kernel
theorem dL_law_187 : decode cL_law 187 = .ok (.iconst 4, 1) := by decide +kernel
theorem dL_law_188 : decode cL_law 188 = .ok (.iadd, 1) := by decide +kernel
theorem dL_law_189 : decode cL_law 189 = .ok (.iaload, 1) := by decide +kernel
theorem dL_law_190 : decode cL_law 190 = .ok (.invokevirtual 21, 3) := by decide +kernel
theorem dL_law_193 : decode cL_law 193 = .ok (.if_icmp .eq 292, 3) := by decide +kernel
theorem dL_law_196 : decode cL_law 196 = .ok (.iconst 0, 1) := by decide +kernel
theorem dL_law_197 : decode cL_law 197 = .ok (.ireturn, 1) := by decide +kernel
theorem dL_law_198 : decode cL_law 198 = .ok (.aload_n 1, 1) := by decide +kernel
theorem dL_law_199 : decode cL_law 199 = .ok (.aload_n 0, 1) := by decide +kernel
theorem dL_law_200 : decode cL_law 200 = .ok (.iload_n 3, 1) := by decide +kernel
theorem dL_law_201 : decode cL_law 201 = .ok (.iconst 1, 1) := by decide +kernel
theorem dL_law_202 : decode cL_law 202 = .ok (.iadd, 1) := by decide +kernel
theorem dL_law_203 : decode cL_law 203 = .ok (.iaload, 1) := by decide +kernel
theorem dL_law_204 : decode cL_law 204 = .ok (.aload_n 0, 1) := by decide +kernel
theorem dL_law_205 : decode cL_law 205 = .ok (.iload_n 3, 1) := by decide +kernel
theorem dL_law_206 : decode cL_law 206 = .ok (.iconst 2, 1) := by decide +kernel
theorem dL_law_207 : decode cL_law 207 = .ok (.iadd, 1) := by decide +kernel
theorem dL_law_208 : decode cL_law 208 = .ok (.iaload, 1) := by decide +kernel
theorem dL_law_209 : decode cL_law 209 = .ok (.aload_n 0, 1) := by decide +kernel
theorem dL_law_210 : decode cL_law 210 = .ok (.iload_n 3, 1) := by decide +kernel
theorem dL_law_211 : decode cL_law 211 = .ok (.iconst 3, 1) := by decide +kernel
theorem dL_law_212 : decode cL_law 212 = .ok (.iadd, 1) := by decide +kernel
theorem dL_law_213 : decode cL_law 213 = .ok (.iaload, 1) := by decide +kernel
theorem dL_law_214 : decode cL_law 214 = .ok (.invokevirtual 22, 3) := by decide +kernel
theorem dL_law_217 : decode cL_law 217 = .ok (.aload_n 2, 1) := by decide +kernel
theorem dL_law_218 : decode cL_law 218 = .ok (.aload_n 0, 1) := by decide +kernel
theorem dL_law_219 : decode cL_law 219 = .ok (.iload_n 3, 1) := by decide +kernel
theorem dL_law_220 : decode cL_law 220 = .ok (.iconst 1, 1) := by decide +kernel
theorem dL_law_221 : decode cL_law 221 = .ok (.iadd, 1) := by decide +kernel
theorem dL_law_222 : decode cL_law 222 = .ok (.iaload, 1) := by decide +kernel
theorem dL_law_223 : decode cL_law 223 = .ok (.aload_n 0, 1) := by decide +kernel
theorem dL_law_224 : decode cL_law 224 = .ok (.iload_n 3, 1) := by decide +kernel
theorem dL_law_225 : decode cL_law 225 = .ok (.iconst 2, 1) := by decide +kernel
theorem dL_law_226 : decode cL_law 226 = .ok (.iadd, 1) := by decide +kernel
theorem dL_law_227 : decode cL_law 227 = .ok (.iaload, 1) := by decide +kernel
theorem dL_law_228 : decode cL_law 228 = .ok (.aload_n 0, 1) := by decide +kernel
theorem dL_law_229 : decode cL_law 229 = .ok (.iload_n 3, 1) := by decide +kernel
theorem dL_law_230 : decode cL_law 230 = .ok (.iconst 3, 1) := by decide +kernel
theorem dL_law_231 : decode cL_law 231 = .ok (.iadd, 1) := by decide +kernel
theorem dL_law_232 : decode cL_law 232 = .ok (.iaload, 1) := by decide +kernel
theorem dL_law_233 : decode cL_law 233 = .ok (.invokevirtual 26, 3) := by decide +kernel
theorem dL_law_236 : decode cL_law 236 = .ok (.if_icmp .eq 249, 3) := by decide +kernel
theorem dL_law_239 : decode cL_law 239 = .ok (.iconst 0, 1) := by decide +kernel
theorem dL_law_240 : decode cL_law 240 = .ok (.ireturn, 1) := by decide +kernel
theorem dL_law_241 : decode cL_law 241 = .ok (.aload_n 1, 1) := by decide +kernel
theorem dL_law_242 : decode cL_law 242 = .ok (.aload_n 0, 1) := by decide +kernel
theorem dL_law_243 : decode cL_law 243 = .ok (.iload_n 3, 1) := by decide +kernel
theorem dL_law_244 : decode cL_law 244 = .ok (.iconst 1, 1) := by decide +kernel
theorem dL_law_245 : decode cL_law 245 = .ok (.iadd, 1) := by decide +kernel
theorem dL_law_246 : decode cL_law 246 = .ok (.iaload, 1) := by decide +kernel
theorem dL_law_247 : decode cL_law 247 = .ok (.invokevirtual 27, 3) := by decide +kernel
theorem dL_law_250 : decode cL_law 250 = .ok (.aload_n 2, 1) := by decide +kernel
theorem dL_law_251 : decode cL_law 251 = .ok (.aload_n 0, 1) := by decide +kernel
theorem dL_law_252 : decode cL_law 252 = .ok (.iload_n 3, 1) := by decide +kernel
theorem dL_law_253 : decode cL_law 253 = .ok (.iconst 1, 1) := by decide +kernel
theorem dL_law_254 : decode cL_law 254 = .ok (.iadd, 1) := by decide +kernel
theorem dL_law_255 : decode cL_law 255 = .ok (.iaload, 1) := by decide +kernel
theorem dL_law_256 : decode cL_law 256 = .ok (.invokevirtual 31, 3) := by decide +kernel
theorem dL_law_259 : decode cL_law 259 = .ok (.if_icmp .eq 226, 3) := by decide +kernel
theorem dL_law_262 : decode cL_law 262 = .ok (.iconst 0, 1) := by decide +kernel
theorem dL_law_263 : decode cL_law 263 = .ok (.ireturn, 1) := by decide +kernel
theorem dL_law_264 : decode cL_law 264 = .ok (.aload_n 1, 1) := by decide +kernel
theorem dL_law_265 : decode cL_law 265 = .ok (.aload_n 0, 1) := by decide +kernel
theorem dL_law_266 : decode cL_law 266 = .ok (.iload_n 3, 1) := by decide +kernel
theorem dL_law_267 : decode cL_law 267 = .ok (.iconst 1, 1) := by decide +kernel
theorem dL_law_268 : decode cL_law 268 = .ok (.iadd, 1) := by decide +kernel
theorem dL_law_269 : decode cL_law 269 = .ok (.iaload, 1) := by decide +kernel
theorem dL_law_270 : decode cL_law 270 = .ok (.invokevirtual 32, 3) := by decide +kernel
theorem dL_law_273 : decode cL_law 273 = .ok (.aload_n 2, 1) := by decide +kernel
theorem dL_law_274 : decode cL_law 274 = .ok (.aload_n 0, 1) := by decide +kernel
theorem dL_law_275 : decode cL_law 275 = .ok (.iload_n 3, 1) := by decide +kernel
theorem dL_law_276 : decode cL_law 276 = .ok (.iconst 1, 1) := by decide +kernel
theorem dL_law_277 : decode cL_law 277 = .ok (.iadd, 1) := by decide +kernel
theorem dL_law_278 : decode cL_law 278 = .ok (.iaload, 1) := by decide +kernel
theorem dL_law_279 : decode cL_law 279 = .ok (.invokevirtual 35, 3) := by decide +kernel
theorem dL_law_282 : decode cL_law 282 = .ok (.if_icmp .eq 203, 3) := by decide +kernel
theorem dL_law_285 : decode cL_law 285 = .ok (.iconst 0, 1) := by decide +kernel
theorem dL_law_286 : decode cL_law 286 = .ok (.ireturn, 1) := by decide +kernel
theorem dL_law_287 : decode cL_law 287 = .ok (.aload_n 1, 1) := by decide +kernel
theorem dL_law_288 : decode cL_law 288 = .ok (.aload_n 0, 1) := by decide +kernel
theorem dL_law_289 : decode cL_law 289 = .ok (.iload_n 3, 1) := by decide +kernel
theorem dL_law_290 : decode cL_law 290 = .ok (.iconst 1, 1) := by decide +kernel
theorem dL_law_291 : decode cL_law 291 = .ok (.iadd, 1) := by decide +kernel
theorem dL_law_292 : decode cL_law 292 = .ok (.iaload, 1) := by decide +kernel
theorem dL_law_293 : decode cL_law 293 = .ok (.aload_n 0, 1) := by decide +kernel
theorem dL_law_294 : decode cL_law 294 = .ok (.iload_n 3, 1) := by decide +kernel
theorem dL_law_295 : decode cL_law 295 = .ok (.iconst 2, 1) := by decide +kernel
theorem dL_law_296 : decode cL_law 296 = .ok (.iadd, 1) := by decide +kernel
theorem dL_law_297 : decode cL_law 297 = .ok (.iaload, 1) := by decide +kernel
theorem dL_law_298 : decode cL_law 298 = .ok (.aload_n 0, 1) := by decide +kernel
theorem dL_law_299 : decode cL_law 299 = .ok (.iload_n 3, 1) := by decide +kernel
theorem dL_law_300 : decode cL_law 300 = .ok (.iconst 3, 1) := by decide +kernel
theorem dL_law_301 : decode cL_law 301 = .ok (.iadd, 1) := by decide +kernel
theorem dL_law_302 : decode cL_law 302 = .ok (.iaload, 1) := by decide +kernel
theorem dL_law_303 : decode cL_law 303 = .ok (.invokevirtual 36, 3) := by decide +kernel
theorem dL_law_306 : decode cL_law 306 = .ok (.aload_n 2, 1) := by decide +kernel
theorem dL_law_307 : decode cL_law 307 = .ok (.aload_n 0, 1) := by decide +kernel
theorem dL_law_308 : decode cL_law 308 = .ok (.iload_n 3, 1) := by decide +kernel
theorem dL_law_309 : decode cL_law 309 = .ok (.iconst 1, 1) := by decide +kernel
theorem dL_law_310 : decode cL_law 310 = .ok (.iadd, 1) := by decide +kernel
theorem dL_law_311 : decode cL_law 311 = .ok (.iaload, 1) := by decide +kernel
theorem dL_law_312 : decode cL_law 312 = .ok (.aload_n 0, 1) := by decide +kernel
theorem dL_law_313 : decode cL_law 313 = .ok (.iload_n 3, 1) := by decide +kernel
theorem dL_law_314 : decode cL_law 314 = .ok (.iconst 2, 1) := by decide +kernel
theorem dL_law_315 : decode cL_law 315 = .ok (.iadd, 1) := by decide +kernel
theorem dL_law_316 : decode cL_law 316 = .ok (.iaload, 1) := by decide +kernel
theorem dL_law_317 : decode cL_law 317 = .ok (.aload_n 0, 1) := by decide +kernel
theorem dL_law_318 : decode cL_law 318 = .ok (.iload_n 3, 1) := by decide +kernel
theorem dL_law_319 : decode cL_law 319 = .ok (.iconst 3, 1) := by decide +kernel
theorem dL_law_320 : decode cL_law 320 = .ok (.iadd, 1) := by decide +kernel
theorem dL_law_321 : decode cL_law 321 = .ok (.iaload, 1) := by decide +kernel
theorem dL_law_322 : decode cL_law 322 = .ok (.invokevirtual 40, 3) := by decide +kernel
theorem dL_law_325 : decode cL_law 325 = .ok (.if_icmp .eq 160, 3) := by decide +kernel
theorem dL_law_328 : decode cL_law 328 = .ok (.iconst 0, 1) := by decide +kernel
theorem dL_law_329 : decode cL_law 329 = .ok (.ireturn, 1) := by decide +kernel
theorem dL_law_330 : decode cL_law 330 = .ok (.aload_n 1, 1) := by decide +kernel
theorem dL_law_331 : decode cL_law 331 = .ok (.aload_n 0, 1) := by decide +kernel
theorem dL_law_332 : decode cL_law 332 = .ok (.iload_n 3, 1) := by decide +kernel
theorem dL_law_333 : decode cL_law 333 = .ok (.iconst 1, 1) := by decide +kernel
theorem dL_law_334 : decode cL_law 334 = .ok (.iadd, 1) := by decide +kernel
theorem dL_law_335 : decode cL_law 335 = .ok (.iaload, 1) := by decide +kernel
theorem dL_law_336 : decode cL_law 336 = .ok (.invokevirtual 41, 3) := by decide +kernel
theorem dL_law_339 : decode cL_law 339 = .ok (.aload_n 2, 1) := by decide +kernel
theorem dL_law_340 : decode cL_law 340 = .ok (.aload_n 0, 1) := by decide +kernel
theorem dL_law_341 : decode cL_law 341 = .ok (.iload_n 3, 1) := by decide +kernel
theorem dL_law_342 : decode cL_law 342 = .ok (.iconst 1, 1) := by decide +kernel
theorem dL_law_343 : decode cL_law 343 = .ok (.iadd, 1) := by decide +kernel
theorem dL_law_344 : decode cL_law 344 = .ok (.iaload, 1) := by decide +kernel
theorem dL_law_345 : decode cL_law 345 = .ok (.invokevirtual 44, 3) := by decide +kernel
theorem dL_law_348 : decode cL_law 348 = .ok (.if_icmp .eq 137, 3) := by decide +kernel
theorem dL_law_351 : decode cL_law 351 = .ok (.iconst 0, 1) := by decide +kernel
theorem dL_law_352 : decode cL_law 352 = .ok (.ireturn, 1) := by decide +kernel
theorem dL_law_353 : decode cL_law 353 = .ok (.aload_n 1, 1) := by decide +kernel
theorem dL_law_354 : decode cL_law 354 = .ok (.aload_n 0, 1) := by decide +kernel
theorem dL_law_355 : decode cL_law 355 = .ok (.iload_n 3, 1) := by decide +kernel
theorem dL_law_356 : decode cL_law 356 = .ok (.iconst 1, 1) := by decide +kernel
theorem dL_law_357 : decode cL_law 357 = .ok (.iadd, 1) := by decide +kernel
theorem dL_law_358 : decode cL_law 358 = .ok (.iaload, 1) := by decide +kernel
theorem dL_law_359 : decode cL_law 359 = .ok (.aload_n 0, 1) := by decide +kernel
theorem dL_law_360 : decode cL_law 360 = .ok (.iload_n 3, 1) := by decide +kernel
theorem dL_law_361 : decode cL_law 361 = .ok (.iconst 2, 1) := by decide +kernel
theorem dL_law_362 : decode cL_law 362 = .ok (.iadd, 1) := by decide +kernel
theorem dL_law_363 : decode cL_law 363 = .ok (.iaload, 1) := by decide +kernel
theorem dL_law_364 : decode cL_law 364 = .ok (.invokevirtual 45, 3) := by decide +kernel
theorem dL_law_367 : decode cL_law 367 = .ok (.aload_n 2, 1) := by decide +kernel
theorem dL_law_368 : decode cL_law 368 = .ok (.aload_n 0, 1) := by decide +kernel
theorem dL_law_369 : decode cL_law 369 = .ok (.iload_n 3, 1) := by decide +kernel
theorem dL_law_370 : decode cL_law 370 = .ok (.iconst 1, 1) := by decide +kernel
theorem dL_law_371 : decode cL_law 371 = .ok (.iadd, 1) := by decide +kernel
theorem dL_law_372 : decode cL_law 372 = .ok (.iaload, 1) := by decide +kernel
theorem dL_law_373 : decode cL_law 373 = .ok (.aload_n 0, 1) := by decide +kernel
theorem dL_law_374 : decode cL_law 374 = .ok (.iload_n 3, 1) := by decide +kernel
theorem dL_law_375 : decode cL_law 375 = .ok (.iconst 2, 1) := by decide +kernel
theorem dL_law_376 : decode cL_law 376 = .ok (.iadd, 1) := by decide +kernel
theorem dL_law_377 : decode cL_law 377 = .ok (.iaload, 1) := by decide +kernel
theorem dL_law_378 : decode cL_law 378 = .ok (.invokevirtual 49, 3) := by decide +kernel
theorem dL_law_381 : decode cL_law 381 = .ok (.if_icmp .eq 104, 3) := by decide +kernel
theorem dL_law_384 : decode cL_law 384 = .ok (.iconst 0, 1) := by decide +kernel
theorem dL_law_385 : decode cL_law 385 = .ok (.ireturn, 1) := by decide +kernel
theorem dL_law_386 : decode cL_law 386 = .ok (.aload_n 1, 1) := by decide +kernel
theorem dL_law_387 : decode cL_law 387 = .ok (.aload_n 0, 1) := by decide +kernel
theorem dL_law_388 : decode cL_law 388 = .ok (.iload_n 3, 1) := by decide +kernel
theorem dL_law_389 : decode cL_law 389 = .ok (.iconst 1, 1) := by decide +kernel
theorem dL_law_390 : decode cL_law 390 = .ok (.iadd, 1) := by decide +kernel
theorem dL_law_391 : decode cL_law 391 = .ok (.iaload, 1) := by decide +kernel
theorem dL_law_392 : decode cL_law 392 = .ok (.invokevirtual 50, 3) := by decide +kernel
theorem dL_law_395 : decode cL_law 395 = .ok (.aload_n 2, 1) := by decide +kernel
theorem dL_law_396 : decode cL_law 396 = .ok (.aload_n 0, 1) := by decide +kernel
theorem dL_law_397 : decode cL_law 397 = .ok (.iload_n 3, 1) := by decide +kernel
theorem dL_law_398 : decode cL_law 398 = .ok (.iconst 1, 1) := by decide +kernel
theorem dL_law_399 : decode cL_law 399 = .ok (.iadd, 1) := by decide +kernel
theorem dL_law_400 : decode cL_law 400 = .ok (.iaload, 1) := by decide +kernel
theorem dL_law_401 : decode cL_law 401 = .ok (.invokevirtual 53, 3) := by decide +kernel
theorem dL_law_404 : decode cL_law 404 = .ok (.if_icmp .eq 81, 3) := by decide +kernel
theorem dL_law_407 : decode cL_law 407 = .ok (.iconst 0, 1) := by decide +kernel
theorem dL_law_408 : decode cL_law 408 = .ok (.ireturn, 1) := by decide +kernel
theorem dL_law_409 : decode cL_law 409 = .ok (.aload_n 1, 1) := by decide +kernel
theorem dL_law_410 : decode cL_law 410 = .ok (.aload_n 0, 1) := by decide +kernel
theorem dL_law_411 : decode cL_law 411 = .ok (.iload_n 3, 1) := by decide +kernel
theorem dL_law_412 : decode cL_law 412 = .ok (.iconst 1, 1) := by decide +kernel
theorem dL_law_413 : decode cL_law 413 = .ok (.iadd, 1) := by decide +kernel
theorem dL_law_414 : decode cL_law 414 = .ok (.iaload, 1) := by decide +kernel
theorem dL_law_415 : decode cL_law 415 = .ok (.aload_n 0, 1) := by decide +kernel
theorem dL_law_416 : decode cL_law 416 = .ok (.iload_n 3, 1) := by decide +kernel
theorem dL_law_417 : decode cL_law 417 = .ok (.iconst 2, 1) := by decide +kernel
theorem dL_law_418 : decode cL_law 418 = .ok (.iadd, 1) := by decide +kernel
theorem dL_law_419 : decode cL_law 419 = .ok (.iaload, 1) := by decide +kernel
theorem dL_law_420 : decode cL_law 420 = .ok (.invokevirtual 54, 3) := by decide +kernel
theorem dL_law_423 : decode cL_law 423 = .ok (.aload_n 2, 1) := by decide +kernel
theorem dL_law_424 : decode cL_law 424 = .ok (.aload_n 0, 1) := by decide +kernel
theorem dL_law_425 : decode cL_law 425 = .ok (.iload_n 3, 1) := by decide +kernel
theorem dL_law_426 : decode cL_law 426 = .ok (.iconst 1, 1) := by decide +kernel
theorem dL_law_427 : decode cL_law 427 = .ok (.iadd, 1) := by decide +kernel
theorem dL_law_428 : decode cL_law 428 = .ok (.iaload, 1) := by decide +kernel
theorem dL_law_429 : decode cL_law 429 = .ok (.aload_n 0, 1) := by decide +kernel
theorem dL_law_430 : decode cL_law 430 = .ok (.iload_n 3, 1) := by decide +kernel
theorem dL_law_431 : decode cL_law 431 = .ok (.iconst 2, 1) := by decide +kernel
theorem dL_law_432 : decode cL_law 432 = .ok (.iadd, 1) := by decide +kernel
theorem dL_law_433 : decode cL_law 433 = .ok (.iaload, 1) := by decide +kernel
theorem dL_law_434 : decode cL_law 434 = .ok (.invokevirtual 58, 3) := by decide +kernel
theorem dL_law_437 : decode cL_law 437 = .ok (.if_icmp .eq 48, 3) := by decide +kernel
theorem dL_law_440 : decode cL_law 440 = .ok (.iconst 0, 1) := by decide +kernel
theorem dL_law_441 : decode cL_law 441 = .ok (.ireturn, 1) := by decide +kernel
theorem dL_law_442 : decode cL_law 442 = .ok (.aload_n 1, 1) := by decide +kernel
theorem dL_law_443 : decode cL_law 443 = .ok (.aload_n 0, 1) := by decide +kernel
theorem dL_law_444 : decode cL_law 444 = .ok (.iload_n 3, 1) := by decide +kernel
theorem dL_law_445 : decode cL_law 445 = .ok (.iconst 1, 1) := by decide +kernel
theorem dL_law_446 : decode cL_law 446 = .ok (.iadd, 1) := by decide +kernel
theorem dL_law_447 : decode cL_law 447 = .ok (.iaload, 1) := by decide +kernel
theorem dL_law_448 : decode cL_law 448 = .ok (.aload_n 0, 1) := by decide +kernel
theorem dL_law_449 : decode cL_law 449 = .ok (.iload_n 3, 1) := by decide +kernel
theorem dL_law_450 : decode cL_law 450 = .ok (.iconst 2, 1) := by decide +kernel
theorem dL_law_451 : decode cL_law 451 = .ok (.iadd, 1) := by decide +kernel
theorem dL_law_452 : decode cL_law 452 = .ok (.iaload, 1) := by decide +kernel
theorem dL_law_453 : decode cL_law 453 = .ok (.aload_n 0, 1) := by decide +kernel
theorem dL_law_454 : decode cL_law 454 = .ok (.iload_n 3, 1) := by decide +kernel
theorem dL_law_455 : decode cL_law 455 = .ok (.iconst 3, 1) := by decide +kernel
theorem dL_law_456 : decode cL_law 456 = .ok (.iadd, 1) := by decide +kernel
theorem dL_law_457 : decode cL_law 457 = .ok (.iaload, 1) := by decide +kernel
theorem dL_law_458 : decode cL_law 458 = .ok (.invokevirtual 59, 3) := by decide +kernel
theorem dL_law_461 : decode cL_law 461 = .ok (.aload_n 2, 1) := by decide +kernel
theorem dL_law_462 : decode cL_law 462 = .ok (.aload_n 0, 1) := by decide +kernel
theorem dL_law_463 : decode cL_law 463 = .ok (.iload_n 3, 1) := by decide +kernel
theorem dL_law_464 : decode cL_law 464 = .ok (.iconst 1, 1) := by decide +kernel
theorem dL_law_465 : decode cL_law 465 = .ok (.iadd, 1) := by decide +kernel
theorem dL_law_466 : decode cL_law 466 = .ok (.iaload, 1) := by decide +kernel
theorem dL_law_467 : decode cL_law 467 = .ok (.aload_n 0, 1) := by decide +kernel
theorem dL_law_468 : decode cL_law 468 = .ok (.iload_n 3, 1) := by decide +kernel
theorem dL_law_469 : decode cL_law 469 = .ok (.iconst 2, 1) := by decide +kernel
theorem dL_law_470 : decode cL_law 470 = .ok (.iadd, 1) := by decide +kernel
theorem dL_law_471 : decode cL_law 471 = .ok (.iaload, 1) := by decide +kernel
theorem dL_law_472 : decode cL_law 472 = .ok (.aload_n 0, 1) := by decide +kernel
theorem dL_law_473 : decode cL_law 473 = .ok (.iload_n 3, 1) := by decide +kernel
theorem dL_law_474 : decode cL_law 474 = .ok (.iconst 3, 1) := by decide +kernel
theorem dL_law_475 : decode cL_law 475 = .ok (.iadd, 1) := by decide +kernel
theorem dL_law_476 : decode cL_law 476 = .ok (.iaload, 1) := by decide +kernel
theorem dL_law_477 : decode cL_law 477 = .ok (.invokevirtual 62, 3) := by decide +kernel
theorem dL_law_480 : decode cL_law 480 = .ok (.if_icmp .eq 5, 3) := by decide +kernel
theorem dL_law_483 : decode cL_law 483 = .ok (.iconst 0, 1) := by decide +kernel
theorem dL_law_484 : decode cL_law 484 = .ok (.ireturn, 1) := by decide +kernel
theorem dL_law_485 : decode cL_law 485 = .ok (.iinc 3 5, 3) := by decide +kernel
theorem dL_law_488 : decode cL_law 488 = .ok (.goto (-470), 3) := by decide +kernel
theorem dL_law_491 : decode cL_law 491 = .ok (.iconst 1, 1) := by decide +kernel
theorem dL_law_492 : decode cL_law 492 = .ok (.ireturn, 1) := by decide +kernel
end
section
/-! MY ROWS. A walk in symbolic form: ints are zI of an integer, locals a list by place, the world a list of cells; K holds what never changes in a walk. -/
set_option maxRecDepth 100000
abbrev vwCl : List vw_C := [(RX0, TX0, 8), (RX1, TX1, 2)]
/-- the int of an integer -/
def zI (z : Int) : Int32 := Int32.ofInt z
/-- the int of a boolean -/
def bI (b : Bool) : Int := match b with
  | true => 1
  | false => 0
theorem zI_ofInt (z : Int) : Int32.ofInt z = zI z := rfl
theorem zI_add (a b : Int) : zI a + zI b = zI (a + b) := (Int32.ofInt_add a b).symm
theorem zI_sub (a b : Int) : zI a - zI b = zI (a - b) := (Int32.ofInt_sub a b).symm
theorem zI_mul (a b : Int) : zI a * zI b = zI (a * b) := (Int32.ofInt_mul a b).symm
theorem zI_toInt {z : Int} (h : -2147483648 ≤ z ∧ z < 2147483648) : (zI z).toInt = z := Int32.toInt_ofInt_of_le (by have := h.1; omega) (by have := h.2; omega)
theorem zI_le {a b : Int} (ha : -2147483648 ≤ a ∧ a < 2147483648) (hb : -2147483648 ≤ b ∧ b < 2147483648) : zI a ≤ zI b ↔ a ≤ b := by
  rw [Int32.le_iff_toInt_le, zI_toInt ha, zI_toInt hb]
theorem zI_lt {a b : Int} (ha : -2147483648 ≤ a ∧ a < 2147483648) (hb : -2147483648 ≤ b ∧ b < 2147483648) : zI a < zI b ↔ a < b := by
  rw [Int32.lt_iff_toInt_lt, zI_toInt ha, zI_toInt hb]
theorem zI_eq {a b : Int} (ha : -2147483648 ≤ a ∧ a < 2147483648) (hb : -2147483648 ≤ b ∧ b < 2147483648) : zI a = zI b ↔ a = b := by
  rw [← Int32.toInt_inj, zI_toInt ha, zI_toInt hb]
theorem zI_self (x : Int32) : zI x.toInt = x := Int32.ofInt_toInt x
theorem zI_rng (x : Int32) : -2147483648 ≤ x.toInt ∧ x.toInt < 2147483648 := by
  have h1 := Int32.le_toInt x
  have h2 := Int32.toInt_lt x
  constructor
  · omega
  · omega
/-- every int is one of an integer in range -/
theorem zI_of (x : Int32) : ∃ z : Int, x = zI z ∧ (-2147483648 ≤ z ∧ z < 2147483648) := ⟨x.toInt, (zI_self x).symm, zI_rng x⟩
theorem zI_nat (n : Nat) : zI (n : Int) = nI n := Int32.ofInt_eq_ofNat
theorem zI_clamp {n : Nat} (h : n < 2147483648) : (zI (n : Int)).toNatClampNeg = n := by
  rw [zI_nat]
  exact nI_clamp (by omega)
theorem zI_in {n N : Nat} (h : n < N) (hN : N < 2147483648) : vp_in (zI (n : Int)) N := by
  rw [zI_nat]
  exact vp_in_nI h (by omega)
theorem zI_i8 {n : Int} (h1 : -128 ≤ n) (h2 : n < 128) : (Int8.ofInt n).toInt32 = zI n := by
  rw [← Int32.toInt_inj, zI_toInt ⟨by omega, by omega⟩, Int8.toInt_toInt32]
  exact Int8.toInt_ofInt_of_le (by omega) (by omega)
theorem zI_i16 {n : Int} (h1 : -32768 ≤ n) (h2 : n < 32768) : (Int16.ofInt n).toInt32 = zI n := by
  rw [← Int32.toInt_inj, zI_toInt ⟨by omega, by omega⟩, Int16.toInt_toInt32]
  exact Int16.toInt_ofInt_of_le (by omega) (by omega)
theorem zI_1ne : ¬ (zI (bI true)) = 0 := by decide +kernel
theorem zI_0eq : (zI (bI false)) = 0 := by decide +kernel
theorem zI_bI {a b : Bool} : zI (bI a) = zI (bI b) ↔ a = b := by
  cases a <;> cases b <;> decide +kernel
theorem bI_nar (b : Bool) : narrow .boolean (.int (zI (bI b))) = .int (zI (bI b)) := by
  cases b <;> decide +kernel
theorem bI_vp (b : Bool) : vp_nar .boolean (zI (bI b)) = zI (bI b) := by
  cases b <;> decide +kernel
/-- the low five bits, and the five above them -/
def lo5 (x : Int32) : Nat := x.toBitVec.toNat % 32
def hi5 (x : Int32) : Nat := lo5 (x >>> (zI 5 &&& 31))
theorem lo5_lt (x : Int32) : lo5 x < 32 := Nat.mod_lt _ (by decide)
theorem hi5_lt (x : Int32) : hi5 x < 32 := lo5_lt _
theorem lo5_and (x : Int32) : x &&& zI 31 = zI ((lo5 x : Nat) : Int) := by
  rw [zI_nat]
  exact pk_and x 5 (by decide +kernel)
-- ===== locals =====
def lvx (lv : List (Option Value)) : List (Nat × Value) := (List.range lv.length).filterMap (fun i => (lv[i]?.join).map (fun v => (i, v)))
theorem lvx_mem {lv : List (Option Value)} {q : Nat × Value} : q ∈ lvx lv ↔ lv[q.1]? = some (some q.2) := by
  unfold lvx
  rw [List.mem_filterMap]
  constructor
  · rintro ⟨i, hi, h⟩
    cases h1 : lv[i]? with
    | none => rw [h1] at h; simp at h
    | some o =>
      cases o with
      | none => rw [h1] at h; simp at h
      | some v =>
        rw [h1] at h
        simp at h
        rw [← h]
        exact h1
  · intro h
    refine ⟨q.1, ?_, ?_⟩
    · rw [List.mem_range]
      exact (List.getElem?_eq_some_iff.mp h).1
    · rw [h]
      rfl
def lvp (ls : Array Slot) (nL : Nat) (lv : List (Option Value)) : Prop := ls.size = nL ∧ lv_wf ls ∧ ∀ (i : Nat) (v : Value), lv[i]? = some (some v) → ls[i]? = some (.val v) ∧ v.category = 1
theorem lvp.has {ls : Array Slot} {nL : Nat} {lv : List (Option Value)} (h : lvp ls nL lv) : lv_has ls nL (lvx lv) := ⟨h.1, h.2.1, fun q hq => (h.2.2 q.1 q.2 (lvx_mem.mp hq)).1⟩
theorem lvp_set {ls ls' : Array Slot} {nL i : Nat} {lv : List (Option Value)} {v : Value} (h : lvp ls nL lv) (hv : v.category = 1) (h' : lv_has ls' nL ((i, v) :: (lvx lv).filter (fun q => !(q.1 == i) && !(q.1 + 1 == i && q.2.category == 2)))) : lvp ls' nL (lv.set i (some v)) := by
  refine ⟨h'.1, h'.2.1, fun j w hj => ?_⟩
  by_cases e : j = i
  · subst e
    have hlt : j < (lv.set j (some v)).length := (List.getElem?_eq_some_iff.mp hj).1
    rw [List.length_set] at hlt
    rw [List.getElem?_set_self hlt] at hj
    simp at hj
    subst hj
    exact ⟨h'.2.2 (j, v) List.mem_cons_self, hv⟩
  · rw [List.getElem?_set_ne (fun q => e q.symm)] at hj
    have h2 := h.2.2 j w hj
    refine ⟨h'.2.2 (j, w) (List.mem_cons_of_mem _ (List.mem_filter.mpr ⟨lvx_mem.mpr hj, ?_⟩)), h2.2⟩
    simp [e, h2.2]
def ent (vs : List Value) (n : Nat) : List (Option Value) := vs.map some ++ List.replicate (n - vs.length) none
theorem lv_args_mem : ∀ (vs : List Value) (k i : Nat) (v : Value), (∀ w ∈ vs, w.category = 1) → vs[i]? = some v → (k + i, v) ∈ lv_args k vs
  | [], k, i, v, _, h => by simp at h
  | w :: vs, k, 0, v, _, h => by
    simp at h
    subst h
    simp [lv_args]
  | w :: vs, k, i + 1, v, hc, h => by
    have h1 := hc w List.mem_cons_self
    have h2 := lv_args_mem vs (k + 1) i v (fun z hz => hc z (List.mem_cons_of_mem _ hz)) (by simpa using h)
    have h3 : k + (i + 1) = k + 1 + i := by omega
    simp only [lv_args, h1]
    rw [h3]
    exact List.mem_cons_of_mem _ h2
theorem lvp_entry (vs : List Value) {n : Nat} (hc : ∀ w ∈ vs, w.category = 1) (h : (lg_sl vs).length ≤ n) : lvp ((lg_sl vs ++ List.replicate (n - (lg_sl vs).length) Slot.unset).toArray) n (ent vs n) := by
  have h0 := lv_entry vs h
  refine ⟨h0.1, h0.2.1, fun i v hi => ?_⟩
  have hv : vs[i]? = some v := by
    unfold ent at hi
    by_cases hl : i < vs.length
    · rw [List.getElem?_append_left (by simpa using hl)] at hi
      simpa using hi
    · rw [List.getElem?_append_right (by simpa using hl)] at hi
      have := List.mem_of_getElem? hi
      simp at this
  refine ⟨?_, hc v (List.mem_of_getElem? hv)⟩
  have h1 := lv_args_mem vs 0 i v hc hv
  have h2 := h0.2.2 _ h1
  simpa using h2
-- ===== the walk's state =====
abbrev Kx : Type := Program × Launch × Env × State × MethodId × Array Value × List Frame × Method × Code × (State → Prop) × (Nat → Prop) × Nat × Nat
abbrev Gx : Type := va_G × ClassId × ClassId
abbrev tyG (G : Gx) : List (ClassId × FieldType) := [(G.2.1, .int), (G.2.2, .boolean)]
def bW (K : Kx) (G : Gx) (R : Room) (own : String) (cc : ByteArray) (nL : Nat) (w : va_W) (pc : Nat) (lv : List (Option Value)) (st : List Value) : Prop :=
  match K with
  | (p, l, e, s, m, args, below, meth, c, Q, A, cells, slots) =>
    CallFix p m c cc nL s args lw_all own → va_K G.1 vwCl (tyG G) s → (∀ q, s.heap.size ≤ q → A q) → (cells ≤ R.cells ∧ slots ≤ R.slots) →
      ∀ (H : Heap) (locs : List Loc) (ls : Array Slot), va_P G.1 vwCl w H → va_D A w → va_S A s.heap H locs → lvp ls nL lv →
        W p l e R s m args below meth c H locs cells slots Q (F0 m pc ls st)
theorem r_iconst {K : Kx} {G : Gx} {R : Room} {own : String} {cc : ByteArray} {nL : Nat} {w : va_W} {pc : Nat} {lv : List (Option Value)} {st : List Value} {n : Int} (hd : decode cc pc = .ok (.iconst n, 1)) (k : bW K G R own cc nL w (pc + 1) lv (.int (zI n) :: st)) : bW K G R own cc nL w pc lv st := by
  obtain ⟨p, l, e, s, m, args, below, meth, c, Q, A, cells, slots⟩ := K
  intro S hK hA hcs H locs ls hP hD hS hl
  exact lv_iconst S.1 S.2.1 hd rfl (k S hK hA hcs H locs ls hP hD hS hl)
theorem r_iconstN {K : Kx} {G : Gx} {R : Room} {own : String} {cc : ByteArray} {nL : Nat} {w : va_W} {pc : Nat} {lv : List (Option Value)} {st : List Value} {n : Int} {q : Nat} (hd : decode cc pc = .ok (.iconst n, 1)) (hq : n = (q : Int)) (k : bW K G R own cc nL w (pc + 1) lv (.int (zI (q : Int)) :: st)) : bW K G R own cc nL w pc lv st := by
  obtain ⟨p, l, e, s, m, args, below, meth, c, Q, A, cells, slots⟩ := K
  intro S hK hA hcs H locs ls hP hD hS hl
  subst hq
  exact lv_iconst S.1 S.2.1 hd rfl (k S hK hA hcs H locs ls hP hD hS hl)
theorem r_bipush {K : Kx} {G : Gx} {R : Room} {own : String} {cc : ByteArray} {nL : Nat} {w : va_W} {pc : Nat} {lv : List (Option Value)} {st : List Value} {n : Int} (hd : decode cc pc = .ok (.bipush n, 2)) (h1 : -128 ≤ n) (h2 : n < 128) (k : bW K G R own cc nL w (pc + 2) lv (.int (zI n) :: st)) : bW K G R own cc nL w pc lv st := by
  obtain ⟨p, l, e, s, m, args, below, meth, c, Q, A, cells, slots⟩ := K
  intro S hK hA hcs H locs ls hP hD hS hl
  exact lv_bipush S.1 S.2.1 hd (zI_i8 h1 h2) (k S hK hA hcs H locs ls hP hD hS hl)
theorem r_bipushN {K : Kx} {G : Gx} {R : Room} {own : String} {cc : ByteArray} {nL : Nat} {w : va_W} {pc : Nat} {lv : List (Option Value)} {st : List Value} {n : Int} {q : Nat} (hd : decode cc pc = .ok (.bipush n, 2)) (hq : n = (q : Int)) (h2 : n < 128) (k : bW K G R own cc nL w (pc + 2) lv (.int (zI (q : Int)) :: st)) : bW K G R own cc nL w pc lv st := by
  obtain ⟨p, l, e, s, m, args, below, meth, c, Q, A, cells, slots⟩ := K
  intro S hK hA hcs H locs ls hP hD hS hl
  subst hq
  exact lv_bipush S.1 S.2.1 hd (zI_i8 (by omega) h2) (k S hK hA hcs H locs ls hP hD hS hl)
theorem r_sipushN {K : Kx} {G : Gx} {R : Room} {own : String} {cc : ByteArray} {nL : Nat} {w : va_W} {pc : Nat} {lv : List (Option Value)} {st : List Value} {n : Int} {q : Nat} (hd : decode cc pc = .ok (.sipush n, 3)) (hq : n = (q : Int)) (h2 : n < 32768) (k : bW K G R own cc nL w (pc + 3) lv (.int (zI (q : Int)) :: st)) : bW K G R own cc nL w pc lv st := by
  obtain ⟨p, l, e, s, m, args, below, meth, c, Q, A, cells, slots⟩ := K
  intro S hK hA hcs H locs ls hP hD hS hl
  subst hq
  exact lv_sipush S.1 S.2.1 hd (zI_i16 (by omega) h2) (k S hK hA hcs H locs ls hP hD hS hl)
theorem r_ldcN {K : Kx} {G : Gx} {R : Room} {own : String} {cc : ByteArray} {nL : Nat} {w : va_W} {pc : Nat} {lv : List (Option Value)} {st : List Value} {idx q : Nat} {v : Int32} (hd : decode cc pc = .ok (.ldc idx, 2)) (hw : Cond.constant own idx v ∈ lw_all) (hv : v = zI (q : Int)) (k : bW K G R own cc nL w (pc + 2) lv (.int (zI (q : Int)) :: st)) : bW K G R own cc nL w pc lv st := by
  obtain ⟨p, l, e, s, m, args, below, meth, c, Q, A, cells, slots⟩ := K
  intro S hK hA hcs H locs ls hP hD hS hl
  subst hv
  exact lv_ldc S.1 S.2.1 S.2.2.2.1 (S.2.2.2.2 _ hw) hd (k S hK hA hcs H locs ls hP hD hS hl)
theorem r_iload_n {K : Kx} {G : Gx} {R : Room} {own : String} {cc : ByteArray} {nL : Nat} {w : va_W} {pc : Nat} {lv : List (Option Value)} {st : List Value} {i : Fin 4} {x : Int32} (hd : decode cc pc = .ok (.iload_n i, 1)) (hx : lv[(i : Nat)]? = some (some (.int x))) (k : bW K G R own cc nL w (pc + 1) lv (.int x :: st)) : bW K G R own cc nL w pc lv st := by
  obtain ⟨p, l, e, s, m, args, below, meth, c, Q, A, cells, slots⟩ := K
  intro S hK hA hcs H locs ls hP hD hS hl
  exact lv_iload_n S.1 S.2.1 hd rfl (hl.2.2 _ _ hx).1 (k S hK hA hcs H locs ls hP hD hS hl)
theorem r_iload {K : Kx} {G : Gx} {R : Room} {own : String} {cc : ByteArray} {nL : Nat} {w : va_W} {pc : Nat} {lv : List (Option Value)} {st : List Value} {i : Nat} {x : Int32} (hd : decode cc pc = .ok (.iload i, 2)) (hx : lv[i]? = some (some (.int x))) (k : bW K G R own cc nL w (pc + 2) lv (.int x :: st)) : bW K G R own cc nL w pc lv st := by
  obtain ⟨p, l, e, s, m, args, below, meth, c, Q, A, cells, slots⟩ := K
  intro S hK hA hcs H locs ls hP hD hS hl
  exact lv_iload S.1 S.2.1 hd (hl.2.2 _ _ hx).1 (k S hK hA hcs H locs ls hP hD hS hl)
theorem r_aload_n {K : Kx} {G : Gx} {R : Room} {own : String} {cc : ByteArray} {nL : Nat} {w : va_W} {pc : Nat} {lv : List (Option Value)} {st : List Value} {i : Fin 4} {x : Nat} (hd : decode cc pc = .ok (.aload_n i, 1)) (hx : lv[(i : Nat)]? = some (some (.ref x))) (k : bW K G R own cc nL w (pc + 1) lv (.ref x :: st)) : bW K G R own cc nL w pc lv st := by
  obtain ⟨p, l, e, s, m, args, below, meth, c, Q, A, cells, slots⟩ := K
  intro S hK hA hcs H locs ls hP hD hS hl
  exact lv_aload_n S.1 S.2.1 hd rfl (hl.2.2 _ _ hx).1 (k S hK hA hcs H locs ls hP hD hS hl)
theorem r_istore_n {K : Kx} {G : Gx} {R : Room} {own : String} {cc : ByteArray} {nL : Nat} {w : va_W} {pc : Nat} {lv : List (Option Value)} {st : List Value} {i : Fin 4} {x : Int32} {lv2 : List (Option Value)} (hd : decode cc pc = .ok (.istore_n i, 1)) (hn : (i : Nat) < nL) (h2 : lv.set (i : Nat) (some (.int x)) = lv2) (k : bW K G R own cc nL w (pc + 1) lv2 st) : bW K G R own cc nL w pc lv (.int x :: st) := by
  obtain ⟨p, l, e, s, m, args, below, meth, c, Q, A, cells, slots⟩ := K
  intro S hK hA hcs H locs ls hP hD hS hl
  subst h2
  exact lv_istore_n S.1 S.2.1 hd rfl hl.has hn rfl (fun ls' hl' => k S hK hA hcs H locs ls' hP hD hS (lvp_set hl rfl hl'))
theorem r_istore {K : Kx} {G : Gx} {R : Room} {own : String} {cc : ByteArray} {nL : Nat} {w : va_W} {pc : Nat} {lv : List (Option Value)} {st : List Value} {i : Nat} {x : Int32} {lv2 : List (Option Value)} (hd : decode cc pc = .ok (.istore i, 2)) (hn : i < nL) (h2 : lv.set i (some (.int x)) = lv2) (k : bW K G R own cc nL w (pc + 2) lv2 st) : bW K G R own cc nL w pc lv (.int x :: st) := by
  obtain ⟨p, l, e, s, m, args, below, meth, c, Q, A, cells, slots⟩ := K
  intro S hK hA hcs H locs ls hP hD hS hl
  subst h2
  exact lv_istore S.1 S.2.1 hd hl.has hn rfl (fun ls' hl' => k S hK hA hcs H locs ls' hP hD hS (lvp_set hl rfl hl'))
theorem r_astore_n {K : Kx} {G : Gx} {R : Room} {own : String} {cc : ByteArray} {nL : Nat} {w : va_W} {pc : Nat} {lv : List (Option Value)} {st : List Value} {i : Fin 4} {x : Nat} {lv2 : List (Option Value)} (hd : decode cc pc = .ok (.astore_n i, 1)) (hn : (i : Nat) < nL) (h2 : lv.set (i : Nat) (some (.ref x)) = lv2) (k : bW K G R own cc nL w (pc + 1) lv2 st) : bW K G R own cc nL w pc lv (.ref x :: st) := by
  obtain ⟨p, l, e, s, m, args, below, meth, c, Q, A, cells, slots⟩ := K
  intro S hK hA hcs H locs ls hP hD hS hl
  subst h2
  exact lv_astore_n S.1 S.2.1 hd rfl hl.has hn rfl (fun ls' hl' => k S hK hA hcs H locs ls' hP hD hS (lvp_set hl rfl hl'))
theorem r_iincN {K : Kx} {G : Gx} {R : Room} {own : String} {cc : ByteArray} {nL : Nat} {w : va_W} {pc : Nat} {lv : List (Option Value)} {st : List Value} {i : Nat} {n : Int} {q x : Nat} {lv2 : List (Option Value)} (hd : decode cc pc = .ok (.iinc i n, 3)) (hx : lv[i]? = some (some (.int (zI (x : Int))))) (hq : n = (q : Int)) (hn : i < nL) (h2 : lv.set i (some (.int (zI ((x + q : Nat) : Int)))) = lv2) (k : bW K G R own cc nL w (pc + 3) lv2 st) : bW K G R own cc nL w pc lv st := by
  obtain ⟨p, l, e, s, m, args, below, meth, c, Q, A, cells, slots⟩ := K
  intro S hK hA hcs H locs ls hP hD hS hl
  subst h2
  subst hq
  obtain ⟨kk, hkk⟩ := List.getElem?_of_mem (lvx_mem.mpr (show lv[(i, Value.int (zI (x : Int))).1]? = _ from hx))
  exact lv_iinc (v := zI ((x + q : Nat) : Int)) S.1 S.2.1 hd hl.has hkk (by rw [zI_ofInt, zI_add]; rfl) hn rfl (fun ls' hl' => k S hK hA hcs H locs ls' hP hD hS (lvp_set hl rfl hl'))
theorem r_iadd {K : Kx} {G : Gx} {R : Room} {own : String} {cc : ByteArray} {nL : Nat} {w : va_W} {pc : Nat} {lv : List (Option Value)} {st : List Value} {x y : Int} (hd : decode cc pc = .ok (.iadd, 1)) (k : bW K G R own cc nL w (pc + 1) lv (.int (zI (x + y)) :: st)) : bW K G R own cc nL w pc lv (.int (zI y) :: .int (zI x) :: st) := by
  obtain ⟨p, l, e, s, m, args, below, meth, c, Q, A, cells, slots⟩ := K
  intro S hK hA hcs H locs ls hP hD hS hl
  exact lv_iadd S.1 S.2.1 hd (by rw [zI_add]; exact k S hK hA hcs H locs ls hP hD hS hl)
theorem r_isub {K : Kx} {G : Gx} {R : Room} {own : String} {cc : ByteArray} {nL : Nat} {w : va_W} {pc : Nat} {lv : List (Option Value)} {st : List Value} {x y : Int} (hd : decode cc pc = .ok (.isub, 1)) (k : bW K G R own cc nL w (pc + 1) lv (.int (zI (x - y)) :: st)) : bW K G R own cc nL w pc lv (.int (zI y) :: .int (zI x) :: st) := by
  obtain ⟨p, l, e, s, m, args, below, meth, c, Q, A, cells, slots⟩ := K
  intro S hK hA hcs H locs ls hP hD hS hl
  exact lv_isub S.1 S.2.1 hd (by rw [zI_sub]; exact k S hK hA hcs H locs ls hP hD hS hl)
theorem r_imul {K : Kx} {G : Gx} {R : Room} {own : String} {cc : ByteArray} {nL : Nat} {w : va_W} {pc : Nat} {lv : List (Option Value)} {st : List Value} {x y : Int} (hd : decode cc pc = .ok (.imul, 1)) (k : bW K G R own cc nL w (pc + 1) lv (.int (zI (x * y)) :: st)) : bW K G R own cc nL w pc lv (.int (zI y) :: .int (zI x) :: st) := by
  obtain ⟨p, l, e, s, m, args, below, meth, c, Q, A, cells, slots⟩ := K
  intro S hK hA hcs H locs ls hP hD hS hl
  exact lv_imul S.1 S.2.1 hd (by rw [zI_mul]; exact k S hK hA hcs H locs ls hP hD hS hl)
theorem r_iaddN {K : Kx} {G : Gx} {R : Room} {own : String} {cc : ByteArray} {nL : Nat} {w : va_W} {pc : Nat} {lv : List (Option Value)} {st : List Value} {x y : Nat} (hd : decode cc pc = .ok (.iadd, 1)) (k : bW K G R own cc nL w (pc + 1) lv (.int (zI ((x + y : Nat) : Int)) :: st)) : bW K G R own cc nL w pc lv (.int (zI (y : Int)) :: .int (zI (x : Int)) :: st) := by
  obtain ⟨p, l, e, s, m, args, below, meth, c, Q, A, cells, slots⟩ := K
  intro S hK hA hcs H locs ls hP hD hS hl
  exact lv_iadd S.1 S.2.1 hd (by rw [zI_add, show ((x : Int) + (y : Int)) = ((x + y : Nat) : Int) by simp]; exact k S hK hA hcs H locs ls hP hD hS hl)
theorem r_imulN {K : Kx} {G : Gx} {R : Room} {own : String} {cc : ByteArray} {nL : Nat} {w : va_W} {pc : Nat} {lv : List (Option Value)} {st : List Value} {x y : Nat} (hd : decode cc pc = .ok (.imul, 1)) (k : bW K G R own cc nL w (pc + 1) lv (.int (zI ((x * y : Nat) : Int)) :: st)) : bW K G R own cc nL w pc lv (.int (zI (y : Int)) :: .int (zI (x : Int)) :: st) := by
  obtain ⟨p, l, e, s, m, args, below, meth, c, Q, A, cells, slots⟩ := K
  intro S hK hA hcs H locs ls hP hD hS hl
  exact lv_imul S.1 S.2.1 hd (by rw [zI_mul, show ((x : Int) * (y : Int)) = ((x * y : Nat) : Int) by simp]; exact k S hK hA hcs H locs ls hP hD hS hl)
theorem r_isubN {K : Kx} {G : Gx} {R : Room} {own : String} {cc : ByteArray} {nL : Nat} {w : va_W} {pc : Nat} {lv : List (Option Value)} {st : List Value} {x y : Nat} (hd : decode cc pc = .ok (.isub, 1)) (h : y ≤ x) (k : bW K G R own cc nL w (pc + 1) lv (.int (zI ((x - y : Nat) : Int)) :: st)) : bW K G R own cc nL w pc lv (.int (zI (y : Int)) :: .int (zI (x : Int)) :: st) := by
  obtain ⟨p, l, e, s, m, args, below, meth, c, Q, A, cells, slots⟩ := K
  intro S hK hA hcs H locs ls hP hD hS hl
  exact lv_isub S.1 S.2.1 hd (by rw [zI_sub, show ((x : Int) - (y : Int)) = ((x - y : Nat) : Int) by omega]; exact k S hK hA hcs H locs ls hP hD hS hl)
theorem r_dup2 {K : Kx} {G : Gx} {R : Room} {own : String} {cc : ByteArray} {nL : Nat} {w : va_W} {pc : Nat} {lv : List (Option Value)} {st : List Value} {a : Int32} {q : Nat} (hd : decode cc pc = .ok (.dup2, 1)) (k : bW K G R own cc nL w (pc + 1) lv (.int a :: .ref q :: .int a :: .ref q :: st)) : bW K G R own cc nL w pc lv (.int a :: .ref q :: st) := by
  obtain ⟨p, l, e, s, m, args, below, meth, c, Q, A, cells, slots⟩ := K
  intro S hK hA hcs H locs ls hP hD hS hl
  exact lv_dup2_11 S.1 S.2.1 hd rfl rfl (k S hK hA hcs H locs ls hP hD hS hl)
theorem r_dup {K : Kx} {G : Gx} {R : Room} {own : String} {cc : ByteArray} {nL : Nat} {w : va_W} {pc : Nat} {lv : List (Option Value)} {st : List Value} {q : Nat} (hd : decode cc pc = .ok (.dup, 1)) (k : bW K G R own cc nL w (pc + 1) lv (.ref q :: .ref q :: st)) : bW K G R own cc nL w pc lv (.ref q :: st) := by
  obtain ⟨p, l, e, s, m, args, below, meth, c, Q, A, cells, slots⟩ := K
  intro S hK hA hcs H locs ls hP hD hS hl
  exact lv_dup S.1 S.2.1 hd rfl (k S hK hA hcs H locs ls hP hD hS hl)
theorem r_and31 {K : Kx} {G : Gx} {R : Room} {own : String} {cc : ByteArray} {nL : Nat} {w : va_W} {pc : Nat} {lv : List (Option Value)} {st : List Value} {x : Int32} {q : Nat} (hd : decode cc pc = .ok (.iand, 1)) (hq : (q : Int) = 31) (k : bW K G R own cc nL w (pc + 1) lv (.int (zI ((lo5 x : Nat) : Int)) :: st)) : bW K G R own cc nL w pc lv (.int (zI (q : Int)) :: .int x :: st) := by
  obtain ⟨p, l, e, s, m, args, below, meth, c, Q, A, cells, slots⟩ := K
  intro S hK hA hcs H locs ls hP hD hS hl
  rw [hq]
  exact lv_iand S.1 S.2.1 hd (by rw [lo5_and]; exact k S hK hA hcs H locs ls hP hD hS hl)
theorem r_shr5 {K : Kx} {G : Gx} {R : Room} {own : String} {cc : ByteArray} {nL : Nat} {w : va_W} {pc : Nat} {lv : List (Option Value)} {st : List Value} {x : Int32} {q : Nat} (hd : decode cc pc = .ok (.ishr, 1)) (hq : (q : Int) = 5) (k : bW K G R own cc nL w (pc + 1) lv (.int (x >>> (zI 5 &&& 31)) :: st)) : bW K G R own cc nL w pc lv (.int (zI (q : Int)) :: .int x :: st) := by
  obtain ⟨p, l, e, s, m, args, below, meth, c, Q, A, cells, slots⟩ := K
  intro S hK hA hcs H locs ls hP hD hS hl
  rw [hq]
  exact lv_ishr S.1 S.2.1 hd (k S hK hA hcs H locs ls hP hD hS hl)
theorem r_top {K : Kx} {G : Gx} {R : Room} {own : String} {cc : ByteArray} {nL : Nat} {w : va_W} {pc : Nat} {lv : List (Option Value)} {st : List Value} {x y : Int} (h : x = y) (k : bW K G R own cc nL w pc lv (.int (zI y) :: st)) : bW K G R own cc nL w pc lv (.int (zI x) :: st) := by
  obtain ⟨p, l, e, s, m, args, below, meth, c, Q, A, cells, slots⟩ := K
  intro S hK hA hcs H locs ls hP hD hS hl
  rw [h]
  exact k S hK hA hcs H locs ls hP hD hS hl
theorem r_top32 {K : Kx} {G : Gx} {R : Room} {own : String} {cc : ByteArray} {nL : Nat} {w : va_W} {pc : Nat} {lv : List (Option Value)} {st : List Value} {x y : Int32} (h : x = y) (k : bW K G R own cc nL w pc lv (.int y :: st)) : bW K G R own cc nL w pc lv (.int x :: st) := by
  obtain ⟨p, l, e, s, m, args, below, meth, c, Q, A, cells, slots⟩ := K
  intro S hK hA hcs H locs ls hP hD hS hl
  rw [h]
  exact k S hK hA hcs H locs ls hP hD hS hl
theorem r_icmp_eq {K : Kx} {G : Gx} {R : Room} {own : String} {cc : ByteArray} {nL : Nat} {w : va_W} {pc : Nat} {lv : List (Option Value)} {st : List Value} {x y off : Int} {tgt : Nat} (hd : decode cc pc = .ok (.if_icmp .eq off, 3)) (ht : (pc : Int) + off = (tgt : Int)) (hx : -2147483648 ≤ x ∧ x < 2147483648) (hy : -2147483648 ≤ y ∧ y < 2147483648) (kt : x = y → bW K G R own cc nL w tgt lv st) (kf : x ≠ y → bW K G R own cc nL w (pc + 3) lv st) : bW K G R own cc nL w pc lv (.int (zI y) :: .int (zI x) :: st) := by
  obtain ⟨p, l, e, s, m, args, below, meth, c, Q, A, cells, slots⟩ := K
  intro S hK hA hcs H locs ls hP hD hS hl
  exact lv_icmp_eq S.1 S.2.1 hd ht (fun hh => kt ((zI_eq hx hy).mp hh) S hK hA hcs H locs ls hP hD hS hl) (fun hh => kf (fun e => hh ((zI_eq hx hy).mpr e)) S hK hA hcs H locs ls hP hD hS hl)
theorem r_icmp_eqN {K : Kx} {G : Gx} {R : Room} {own : String} {cc : ByteArray} {nL : Nat} {w : va_W} {pc : Nat} {lv : List (Option Value)} {st : List Value} {off : Int} {x y tgt : Nat} (hd : decode cc pc = .ok (.if_icmp .eq off, 3)) (ht : (pc : Int) + off = (tgt : Int)) (hx : x < 2147483648) (hy : y < 2147483648) (kt : x = y → bW K G R own cc nL w tgt lv st) (kf : x ≠ y → bW K G R own cc nL w (pc + 3) lv st) : bW K G R own cc nL w pc lv (.int (zI (y : Int)) :: .int (zI (x : Int)) :: st) := by
  obtain ⟨p, l, e, s, m, args, below, meth, c, Q, A, cells, slots⟩ := K
  intro S hK hA hcs H locs ls hP hD hS hl
  refine r_icmp_eq (K := (p, l, e, s, m, args, below, meth, c, Q, A, cells, slots)) hd ht ⟨by omega, by omega⟩ ⟨by omega, by omega⟩ (fun hh => kt (by omega)) (fun hh => kf (by omega)) S hK hA hcs H locs ls hP hD hS hl
theorem r_icmp_ne {K : Kx} {G : Gx} {R : Room} {own : String} {cc : ByteArray} {nL : Nat} {w : va_W} {pc : Nat} {lv : List (Option Value)} {st : List Value} {x y off : Int} {tgt : Nat} (hd : decode cc pc = .ok (.if_icmp .ne off, 3)) (ht : (pc : Int) + off = (tgt : Int)) (hx : -2147483648 ≤ x ∧ x < 2147483648) (hy : -2147483648 ≤ y ∧ y < 2147483648) (kt : x ≠ y → bW K G R own cc nL w tgt lv st) (kf : x = y → bW K G R own cc nL w (pc + 3) lv st) : bW K G R own cc nL w pc lv (.int (zI y) :: .int (zI x) :: st) := by
  obtain ⟨p, l, e, s, m, args, below, meth, c, Q, A, cells, slots⟩ := K
  intro S hK hA hcs H locs ls hP hD hS hl
  exact lv_icmp_ne S.1 S.2.1 hd ht (fun hh => kt (fun e => hh ((zI_eq hx hy).mpr e)) S hK hA hcs H locs ls hP hD hS hl) (fun hh => kf ((zI_eq hx hy).mp hh) S hK hA hcs H locs ls hP hD hS hl)
theorem r_icmp_neN {K : Kx} {G : Gx} {R : Room} {own : String} {cc : ByteArray} {nL : Nat} {w : va_W} {pc : Nat} {lv : List (Option Value)} {st : List Value} {off : Int} {x y tgt : Nat} (hd : decode cc pc = .ok (.if_icmp .ne off, 3)) (ht : (pc : Int) + off = (tgt : Int)) (hx : x < 2147483648) (hy : y < 2147483648) (kt : x ≠ y → bW K G R own cc nL w tgt lv st) (kf : x = y → bW K G R own cc nL w (pc + 3) lv st) : bW K G R own cc nL w pc lv (.int (zI (y : Int)) :: .int (zI (x : Int)) :: st) := by
  obtain ⟨p, l, e, s, m, args, below, meth, c, Q, A, cells, slots⟩ := K
  intro S hK hA hcs H locs ls hP hD hS hl
  refine r_icmp_ne (K := (p, l, e, s, m, args, below, meth, c, Q, A, cells, slots)) hd ht ⟨by omega, by omega⟩ ⟨by omega, by omega⟩ (fun hh => kt (by omega)) (fun hh => kf (by omega)) S hK hA hcs H locs ls hP hD hS hl
theorem r_icmp_lt {K : Kx} {G : Gx} {R : Room} {own : String} {cc : ByteArray} {nL : Nat} {w : va_W} {pc : Nat} {lv : List (Option Value)} {st : List Value} {x y off : Int} {tgt : Nat} (hd : decode cc pc = .ok (.if_icmp .lt off, 3)) (ht : (pc : Int) + off = (tgt : Int)) (hx : -2147483648 ≤ x ∧ x < 2147483648) (hy : -2147483648 ≤ y ∧ y < 2147483648) (kt : x < y → bW K G R own cc nL w tgt lv st) (kf : y ≤ x → bW K G R own cc nL w (pc + 3) lv st) : bW K G R own cc nL w pc lv (.int (zI y) :: .int (zI x) :: st) := by
  obtain ⟨p, l, e, s, m, args, below, meth, c, Q, A, cells, slots⟩ := K
  intro S hK hA hcs H locs ls hP hD hS hl
  exact lv_icmp_lt S.1 S.2.1 hd ht (fun hh => kt ((zI_lt hx hy).mp hh) S hK hA hcs H locs ls hP hD hS hl) (fun hh => kf (Int.not_lt.mp (fun e => hh ((zI_lt hx hy).mpr e))) S hK hA hcs H locs ls hP hD hS hl)
theorem r_icmp_ltN {K : Kx} {G : Gx} {R : Room} {own : String} {cc : ByteArray} {nL : Nat} {w : va_W} {pc : Nat} {lv : List (Option Value)} {st : List Value} {off : Int} {x y tgt : Nat} (hd : decode cc pc = .ok (.if_icmp .lt off, 3)) (ht : (pc : Int) + off = (tgt : Int)) (hx : x < 2147483648) (hy : y < 2147483648) (kt : x < y → bW K G R own cc nL w tgt lv st) (kf : y ≤ x → bW K G R own cc nL w (pc + 3) lv st) : bW K G R own cc nL w pc lv (.int (zI (y : Int)) :: .int (zI (x : Int)) :: st) := by
  obtain ⟨p, l, e, s, m, args, below, meth, c, Q, A, cells, slots⟩ := K
  intro S hK hA hcs H locs ls hP hD hS hl
  refine r_icmp_lt (K := (p, l, e, s, m, args, below, meth, c, Q, A, cells, slots)) hd ht ⟨by omega, by omega⟩ ⟨by omega, by omega⟩ (fun hh => kt (by omega)) (fun hh => kf (by omega)) S hK hA hcs H locs ls hP hD hS hl
theorem r_icmp_ge {K : Kx} {G : Gx} {R : Room} {own : String} {cc : ByteArray} {nL : Nat} {w : va_W} {pc : Nat} {lv : List (Option Value)} {st : List Value} {x y off : Int} {tgt : Nat} (hd : decode cc pc = .ok (.if_icmp .ge off, 3)) (ht : (pc : Int) + off = (tgt : Int)) (hx : -2147483648 ≤ x ∧ x < 2147483648) (hy : -2147483648 ≤ y ∧ y < 2147483648) (kt : y ≤ x → bW K G R own cc nL w tgt lv st) (kf : x < y → bW K G R own cc nL w (pc + 3) lv st) : bW K G R own cc nL w pc lv (.int (zI y) :: .int (zI x) :: st) := by
  obtain ⟨p, l, e, s, m, args, below, meth, c, Q, A, cells, slots⟩ := K
  intro S hK hA hcs H locs ls hP hD hS hl
  exact lv_icmp_ge S.1 S.2.1 hd ht (fun hh => kt ((zI_le hy hx).mp hh) S hK hA hcs H locs ls hP hD hS hl) (fun hh => kf (Int.not_le.mp (fun e => hh ((zI_le hy hx).mpr e))) S hK hA hcs H locs ls hP hD hS hl)
theorem r_icmp_geN {K : Kx} {G : Gx} {R : Room} {own : String} {cc : ByteArray} {nL : Nat} {w : va_W} {pc : Nat} {lv : List (Option Value)} {st : List Value} {off : Int} {x y tgt : Nat} (hd : decode cc pc = .ok (.if_icmp .ge off, 3)) (ht : (pc : Int) + off = (tgt : Int)) (hx : x < 2147483648) (hy : y < 2147483648) (kt : y ≤ x → bW K G R own cc nL w tgt lv st) (kf : x < y → bW K G R own cc nL w (pc + 3) lv st) : bW K G R own cc nL w pc lv (.int (zI (y : Int)) :: .int (zI (x : Int)) :: st) := by
  obtain ⟨p, l, e, s, m, args, below, meth, c, Q, A, cells, slots⟩ := K
  intro S hK hA hcs H locs ls hP hD hS hl
  refine r_icmp_ge (K := (p, l, e, s, m, args, below, meth, c, Q, A, cells, slots)) hd ht ⟨by omega, by omega⟩ ⟨by omega, by omega⟩ (fun hh => kt (by omega)) (fun hh => kf (by omega)) S hK hA hcs H locs ls hP hD hS hl
theorem r_icmp_gt {K : Kx} {G : Gx} {R : Room} {own : String} {cc : ByteArray} {nL : Nat} {w : va_W} {pc : Nat} {lv : List (Option Value)} {st : List Value} {x y off : Int} {tgt : Nat} (hd : decode cc pc = .ok (.if_icmp .gt off, 3)) (ht : (pc : Int) + off = (tgt : Int)) (hx : -2147483648 ≤ x ∧ x < 2147483648) (hy : -2147483648 ≤ y ∧ y < 2147483648) (kt : y < x → bW K G R own cc nL w tgt lv st) (kf : x ≤ y → bW K G R own cc nL w (pc + 3) lv st) : bW K G R own cc nL w pc lv (.int (zI y) :: .int (zI x) :: st) := by
  obtain ⟨p, l, e, s, m, args, below, meth, c, Q, A, cells, slots⟩ := K
  intro S hK hA hcs H locs ls hP hD hS hl
  exact lv_icmp_gt S.1 S.2.1 hd ht (fun hh => kt ((zI_lt hy hx).mp hh) S hK hA hcs H locs ls hP hD hS hl) (fun hh => kf (Int.not_lt.mp (fun e => hh ((zI_lt hy hx).mpr e))) S hK hA hcs H locs ls hP hD hS hl)
theorem r_icmp_gtN {K : Kx} {G : Gx} {R : Room} {own : String} {cc : ByteArray} {nL : Nat} {w : va_W} {pc : Nat} {lv : List (Option Value)} {st : List Value} {off : Int} {x y tgt : Nat} (hd : decode cc pc = .ok (.if_icmp .gt off, 3)) (ht : (pc : Int) + off = (tgt : Int)) (hx : x < 2147483648) (hy : y < 2147483648) (kt : y < x → bW K G R own cc nL w tgt lv st) (kf : x ≤ y → bW K G R own cc nL w (pc + 3) lv st) : bW K G R own cc nL w pc lv (.int (zI (y : Int)) :: .int (zI (x : Int)) :: st) := by
  obtain ⟨p, l, e, s, m, args, below, meth, c, Q, A, cells, slots⟩ := K
  intro S hK hA hcs H locs ls hP hD hS hl
  refine r_icmp_gt (K := (p, l, e, s, m, args, below, meth, c, Q, A, cells, slots)) hd ht ⟨by omega, by omega⟩ ⟨by omega, by omega⟩ (fun hh => kt (by omega)) (fun hh => kf (by omega)) S hK hA hcs H locs ls hP hD hS hl
theorem r_icmp_le {K : Kx} {G : Gx} {R : Room} {own : String} {cc : ByteArray} {nL : Nat} {w : va_W} {pc : Nat} {lv : List (Option Value)} {st : List Value} {x y off : Int} {tgt : Nat} (hd : decode cc pc = .ok (.if_icmp .le off, 3)) (ht : (pc : Int) + off = (tgt : Int)) (hx : -2147483648 ≤ x ∧ x < 2147483648) (hy : -2147483648 ≤ y ∧ y < 2147483648) (kt : x ≤ y → bW K G R own cc nL w tgt lv st) (kf : y < x → bW K G R own cc nL w (pc + 3) lv st) : bW K G R own cc nL w pc lv (.int (zI y) :: .int (zI x) :: st) := by
  obtain ⟨p, l, e, s, m, args, below, meth, c, Q, A, cells, slots⟩ := K
  intro S hK hA hcs H locs ls hP hD hS hl
  exact lv_icmp_le S.1 S.2.1 hd ht (fun hh => kt ((zI_le hx hy).mp hh) S hK hA hcs H locs ls hP hD hS hl) (fun hh => kf (Int.not_le.mp (fun e => hh ((zI_le hx hy).mpr e))) S hK hA hcs H locs ls hP hD hS hl)
theorem r_icmp_leN {K : Kx} {G : Gx} {R : Room} {own : String} {cc : ByteArray} {nL : Nat} {w : va_W} {pc : Nat} {lv : List (Option Value)} {st : List Value} {off : Int} {x y tgt : Nat} (hd : decode cc pc = .ok (.if_icmp .le off, 3)) (ht : (pc : Int) + off = (tgt : Int)) (hx : x < 2147483648) (hy : y < 2147483648) (kt : x ≤ y → bW K G R own cc nL w tgt lv st) (kf : y < x → bW K G R own cc nL w (pc + 3) lv st) : bW K G R own cc nL w pc lv (.int (zI (y : Int)) :: .int (zI (x : Int)) :: st) := by
  obtain ⟨p, l, e, s, m, args, below, meth, c, Q, A, cells, slots⟩ := K
  intro S hK hA hcs H locs ls hP hD hS hl
  refine r_icmp_le (K := (p, l, e, s, m, args, below, meth, c, Q, A, cells, slots)) hd ht ⟨by omega, by omega⟩ ⟨by omega, by omega⟩ (fun hh => kt (by omega)) (fun hh => kf (by omega)) S hK hA hcs H locs ls hP hD hS hl
theorem r_if_eq {K : Kx} {G : Gx} {R : Room} {own : String} {cc : ByteArray} {nL : Nat} {w : va_W} {pc : Nat} {lv : List (Option Value)} {st : List Value} {x off : Int} {tgt : Nat} (hd : decode cc pc = .ok (.ifCond .eq off, 3)) (ht : (pc : Int) + off = (tgt : Int)) (hx : -2147483648 ≤ x ∧ x < 2147483648) (kt : x = 0 → bW K G R own cc nL w tgt lv st) (kf : x ≠ 0 → bW K G R own cc nL w (pc + 3) lv st) : bW K G R own cc nL w pc lv (.int (zI x) :: st) := by
  obtain ⟨p, l, e, s, m, args, below, meth, c, Q, A, cells, slots⟩ := K
  intro S hK hA hcs H locs ls hP hD hS hl
  exact lv_if_eq S.1 S.2.1 hd ht (fun hh => kt ((zI_eq hx (show -2147483648 ≤ (0 : Int) ∧ (0 : Int) < 2147483648 by decide)).mp hh) S hK hA hcs H locs ls hP hD hS hl) (fun hh => kf (fun e => hh ((zI_eq hx (show -2147483648 ≤ (0 : Int) ∧ (0 : Int) < 2147483648 by decide)).mpr e)) S hK hA hcs H locs ls hP hD hS hl)
theorem r_if_ne {K : Kx} {G : Gx} {R : Room} {own : String} {cc : ByteArray} {nL : Nat} {w : va_W} {pc : Nat} {lv : List (Option Value)} {st : List Value} {x off : Int} {tgt : Nat} (hd : decode cc pc = .ok (.ifCond .ne off, 3)) (ht : (pc : Int) + off = (tgt : Int)) (hx : -2147483648 ≤ x ∧ x < 2147483648) (kt : x ≠ 0 → bW K G R own cc nL w tgt lv st) (kf : x = 0 → bW K G R own cc nL w (pc + 3) lv st) : bW K G R own cc nL w pc lv (.int (zI x) :: st) := by
  obtain ⟨p, l, e, s, m, args, below, meth, c, Q, A, cells, slots⟩ := K
  intro S hK hA hcs H locs ls hP hD hS hl
  exact lv_if_ne S.1 S.2.1 hd ht (fun hh => kt (fun e => hh ((zI_eq hx (show -2147483648 ≤ (0 : Int) ∧ (0 : Int) < 2147483648 by decide)).mpr e)) S hK hA hcs H locs ls hP hD hS hl) (fun hh => kf ((zI_eq hx (show -2147483648 ≤ (0 : Int) ∧ (0 : Int) < 2147483648 by decide)).mp hh) S hK hA hcs H locs ls hP hD hS hl)
theorem r_if_lt {K : Kx} {G : Gx} {R : Room} {own : String} {cc : ByteArray} {nL : Nat} {w : va_W} {pc : Nat} {lv : List (Option Value)} {st : List Value} {x off : Int} {tgt : Nat} (hd : decode cc pc = .ok (.ifCond .lt off, 3)) (ht : (pc : Int) + off = (tgt : Int)) (hx : -2147483648 ≤ x ∧ x < 2147483648) (kt : x < 0 → bW K G R own cc nL w tgt lv st) (kf : 0 ≤ x → bW K G R own cc nL w (pc + 3) lv st) : bW K G R own cc nL w pc lv (.int (zI x) :: st) := by
  obtain ⟨p, l, e, s, m, args, below, meth, c, Q, A, cells, slots⟩ := K
  intro S hK hA hcs H locs ls hP hD hS hl
  exact lv_if_lt S.1 S.2.1 hd ht (fun hh => kt ((zI_lt hx (show -2147483648 ≤ (0 : Int) ∧ (0 : Int) < 2147483648 by decide)).mp hh) S hK hA hcs H locs ls hP hD hS hl) (fun hh => kf (Int.not_lt.mp (fun e => hh ((zI_lt hx (show -2147483648 ≤ (0 : Int) ∧ (0 : Int) < 2147483648 by decide)).mpr e))) S hK hA hcs H locs ls hP hD hS hl)
theorem r_if_ge {K : Kx} {G : Gx} {R : Room} {own : String} {cc : ByteArray} {nL : Nat} {w : va_W} {pc : Nat} {lv : List (Option Value)} {st : List Value} {x off : Int} {tgt : Nat} (hd : decode cc pc = .ok (.ifCond .ge off, 3)) (ht : (pc : Int) + off = (tgt : Int)) (hx : -2147483648 ≤ x ∧ x < 2147483648) (kt : 0 ≤ x → bW K G R own cc nL w tgt lv st) (kf : x < 0 → bW K G R own cc nL w (pc + 3) lv st) : bW K G R own cc nL w pc lv (.int (zI x) :: st) := by
  obtain ⟨p, l, e, s, m, args, below, meth, c, Q, A, cells, slots⟩ := K
  intro S hK hA hcs H locs ls hP hD hS hl
  exact lv_if_ge S.1 S.2.1 hd ht (fun hh => kt ((zI_le (show -2147483648 ≤ (0 : Int) ∧ (0 : Int) < 2147483648 by decide) hx).mp hh) S hK hA hcs H locs ls hP hD hS hl) (fun hh => kf (Int.not_le.mp (fun e => hh ((zI_le (show -2147483648 ≤ (0 : Int) ∧ (0 : Int) < 2147483648 by decide) hx).mpr e))) S hK hA hcs H locs ls hP hD hS hl)
theorem r_if_gt {K : Kx} {G : Gx} {R : Room} {own : String} {cc : ByteArray} {nL : Nat} {w : va_W} {pc : Nat} {lv : List (Option Value)} {st : List Value} {x off : Int} {tgt : Nat} (hd : decode cc pc = .ok (.ifCond .gt off, 3)) (ht : (pc : Int) + off = (tgt : Int)) (hx : -2147483648 ≤ x ∧ x < 2147483648) (kt : 0 < x → bW K G R own cc nL w tgt lv st) (kf : x ≤ 0 → bW K G R own cc nL w (pc + 3) lv st) : bW K G R own cc nL w pc lv (.int (zI x) :: st) := by
  obtain ⟨p, l, e, s, m, args, below, meth, c, Q, A, cells, slots⟩ := K
  intro S hK hA hcs H locs ls hP hD hS hl
  exact lv_if_gt S.1 S.2.1 hd ht (fun hh => kt ((zI_lt (show -2147483648 ≤ (0 : Int) ∧ (0 : Int) < 2147483648 by decide) hx).mp hh) S hK hA hcs H locs ls hP hD hS hl) (fun hh => kf (Int.not_lt.mp (fun e => hh ((zI_lt (show -2147483648 ≤ (0 : Int) ∧ (0 : Int) < 2147483648 by decide) hx).mpr e))) S hK hA hcs H locs ls hP hD hS hl)
theorem r_if_le {K : Kx} {G : Gx} {R : Room} {own : String} {cc : ByteArray} {nL : Nat} {w : va_W} {pc : Nat} {lv : List (Option Value)} {st : List Value} {x off : Int} {tgt : Nat} (hd : decode cc pc = .ok (.ifCond .le off, 3)) (ht : (pc : Int) + off = (tgt : Int)) (hx : -2147483648 ≤ x ∧ x < 2147483648) (kt : x ≤ 0 → bW K G R own cc nL w tgt lv st) (kf : 0 < x → bW K G R own cc nL w (pc + 3) lv st) : bW K G R own cc nL w pc lv (.int (zI x) :: st) := by
  obtain ⟨p, l, e, s, m, args, below, meth, c, Q, A, cells, slots⟩ := K
  intro S hK hA hcs H locs ls hP hD hS hl
  exact lv_if_le S.1 S.2.1 hd ht (fun hh => kt ((zI_le hx (show -2147483648 ≤ (0 : Int) ∧ (0 : Int) < 2147483648 by decide)).mp hh) S hK hA hcs H locs ls hP hD hS hl) (fun hh => kf (Int.not_le.mp (fun e => hh ((zI_le hx (show -2147483648 ≤ (0 : Int) ∧ (0 : Int) < 2147483648 by decide)).mpr e))) S hK hA hcs H locs ls hP hD hS hl)
theorem r_if_eqB {K : Kx} {G : Gx} {R : Room} {own : String} {cc : ByteArray} {nL : Nat} {w : va_W} {pc : Nat} {lv : List (Option Value)} {st : List Value} {b : Bool} {off : Int} {tgt : Nat} (hd : decode cc pc = .ok (.ifCond .eq off, 3)) (ht : (pc : Int) + off = (tgt : Int)) (kt : b = false → bW K G R own cc nL w tgt lv st) (kf : b = true → bW K G R own cc nL w (pc + 3) lv st) : bW K G R own cc nL w pc lv (.int (zI (bI b)) :: st) := by
  obtain ⟨p, l, e, s, m, args, below, meth, c, Q, A, cells, slots⟩ := K
  intro S hK hA hcs H locs ls hP hD hS hl
  cases b with
  | true => exact lv_if_eq S.1 S.2.1 hd ht (fun hh => absurd hh zI_1ne) (fun hh => kf rfl S hK hA hcs H locs ls hP hD hS hl)
  | false => exact lv_if_eq S.1 S.2.1 hd ht (fun hh => kt rfl S hK hA hcs H locs ls hP hD hS hl) (fun hh => absurd zI_0eq hh)
theorem r_if_neB {K : Kx} {G : Gx} {R : Room} {own : String} {cc : ByteArray} {nL : Nat} {w : va_W} {pc : Nat} {lv : List (Option Value)} {st : List Value} {b : Bool} {off : Int} {tgt : Nat} (hd : decode cc pc = .ok (.ifCond .ne off, 3)) (ht : (pc : Int) + off = (tgt : Int)) (kt : b = true → bW K G R own cc nL w tgt lv st) (kf : b = false → bW K G R own cc nL w (pc + 3) lv st) : bW K G R own cc nL w pc lv (.int (zI (bI b)) :: st) := by
  obtain ⟨p, l, e, s, m, args, below, meth, c, Q, A, cells, slots⟩ := K
  intro S hK hA hcs H locs ls hP hD hS hl
  cases b with
  | true => exact lv_if_ne S.1 S.2.1 hd ht (fun hh => kt rfl S hK hA hcs H locs ls hP hD hS hl) (fun hh => absurd hh zI_1ne)
  | false => exact lv_if_ne S.1 S.2.1 hd ht (fun hh => absurd zI_0eq hh) (fun hh => kf rfl S hK hA hcs H locs ls hP hD hS hl)
theorem r_icmp_eqB {K : Kx} {G : Gx} {R : Room} {own : String} {cc : ByteArray} {nL : Nat} {w : va_W} {pc : Nat} {lv : List (Option Value)} {st : List Value} {a b : Bool} {off : Int} {tgt : Nat} (hd : decode cc pc = .ok (.if_icmp .eq off, 3)) (ht : (pc : Int) + off = (tgt : Int)) (kt : a = b → bW K G R own cc nL w tgt lv st) (kf : a ≠ b → bW K G R own cc nL w (pc + 3) lv st) : bW K G R own cc nL w pc lv (.int (zI (bI b)) :: .int (zI (bI a)) :: st) := by
  obtain ⟨p, l, e, s, m, args, below, meth, c, Q, A, cells, slots⟩ := K
  intro S hK hA hcs H locs ls hP hD hS hl
  exact lv_icmp_eq S.1 S.2.1 hd ht (fun hh => kt (zI_bI.mp hh) S hK hA hcs H locs ls hP hD hS hl) (fun hh => kf (fun e => hh (zI_bI.mpr e)) S hK hA hcs H locs ls hP hD hS hl)
theorem r_icmp_neB {K : Kx} {G : Gx} {R : Room} {own : String} {cc : ByteArray} {nL : Nat} {w : va_W} {pc : Nat} {lv : List (Option Value)} {st : List Value} {a b : Bool} {off : Int} {tgt : Nat} (hd : decode cc pc = .ok (.if_icmp .ne off, 3)) (ht : (pc : Int) + off = (tgt : Int)) (kt : a ≠ b → bW K G R own cc nL w tgt lv st) (kf : a = b → bW K G R own cc nL w (pc + 3) lv st) : bW K G R own cc nL w pc lv (.int (zI (bI b)) :: .int (zI (bI a)) :: st) := by
  obtain ⟨p, l, e, s, m, args, below, meth, c, Q, A, cells, slots⟩ := K
  intro S hK hA hcs H locs ls hP hD hS hl
  exact lv_icmp_ne S.1 S.2.1 hd ht (fun hh => kt (fun e => hh (zI_bI.mpr e)) S hK hA hcs H locs ls hP hD hS hl) (fun hh => kf (zI_bI.mp hh) S hK hA hcs H locs ls hP hD hS hl)
theorem r_icmp_eq32 {K : Kx} {G : Gx} {R : Room} {own : String} {cc : ByteArray} {nL : Nat} {w : va_W} {pc : Nat} {lv : List (Option Value)} {st : List Value} {a b : Int32} {off : Int} {tgt : Nat} (hd : decode cc pc = .ok (.if_icmp .eq off, 3)) (ht : (pc : Int) + off = (tgt : Int)) (kt : a = b → bW K G R own cc nL w tgt lv st) (kf : a ≠ b → bW K G R own cc nL w (pc + 3) lv st) : bW K G R own cc nL w pc lv (.int b :: .int a :: st) := by
  obtain ⟨p, l, e, s, m, args, below, meth, c, Q, A, cells, slots⟩ := K
  intro S hK hA hcs H locs ls hP hD hS hl
  exact lv_icmp_eq S.1 S.2.1 hd ht (fun hh => kt hh S hK hA hcs H locs ls hP hD hS hl) (fun hh => kf hh S hK hA hcs H locs ls hP hD hS hl)
theorem r_icmp_ne32 {K : Kx} {G : Gx} {R : Room} {own : String} {cc : ByteArray} {nL : Nat} {w : va_W} {pc : Nat} {lv : List (Option Value)} {st : List Value} {a b : Int32} {off : Int} {tgt : Nat} (hd : decode cc pc = .ok (.if_icmp .ne off, 3)) (ht : (pc : Int) + off = (tgt : Int)) (kt : a ≠ b → bW K G R own cc nL w tgt lv st) (kf : a = b → bW K G R own cc nL w (pc + 3) lv st) : bW K G R own cc nL w pc lv (.int b :: .int a :: st) := by
  obtain ⟨p, l, e, s, m, args, below, meth, c, Q, A, cells, slots⟩ := K
  intro S hK hA hcs H locs ls hP hD hS hl
  exact lv_icmp_ne S.1 S.2.1 hd ht (fun hh => kt hh S hK hA hcs H locs ls hP hD hS hl) (fun hh => kf hh S hK hA hcs H locs ls hP hD hS hl)
theorem r_goto {K : Kx} {G : Gx} {R : Room} {own : String} {cc : ByteArray} {nL : Nat} {w : va_W} {pc : Nat} {lv : List (Option Value)} {st : List Value} {off : Int} {tgt : Nat} (hd : decode cc pc = .ok (.goto off, 3)) (ht : (pc : Int) + off = (tgt : Int)) (k : bW K G R own cc nL w tgt lv st) : bW K G R own cc nL w pc lv st := by
  obtain ⟨p, l, e, s, m, args, below, meth, c, Q, A, cells, slots⟩ := K
  intro S hK hA hcs H locs ls hP hD hS hl
  exact lv_goto S.1 S.2.1 hd ht (k S hK hA hcs H locs ls hP hD hS hl)
theorem r_tin {K : Kx} {G : Gx} {R : Room} {own : String} {cc : ByteArray} {nL : Nat} {w : va_W} {pc : Nat} {lv : List (Option Value)} {st : List Value} {dflt lo hi x off : Int} {offs : Array Int} {len tgt : Nat} (hd : decode cc pc = .ok (.tableswitch dflt lo hi offs, len)) (hx : -2147483648 ≤ x ∧ x < 2147483648) (h1 : ¬ x < lo) (h2 : ¬ hi < x) (ho : offs[(x - lo).toNat]? = some off) (ht : (pc : Int) + off = (tgt : Int)) (k : bW K G R own cc nL w tgt lv st) : bW K G R own cc nL w pc lv (.int (zI x) :: st) := by
  obtain ⟨p, l, e, s, m, args, below, meth, c, Q, A, cells, slots⟩ := K
  intro S hK hA hcs H locs ls hP hD hS hl
  exact lv_tableIn S.1 S.2.1 hd (by rw [zI_toInt hx]; exact h1) (by rw [zI_toInt hx]; exact h2) (by rw [zI_toInt hx]; exact ho) ht (k S hK hA hcs H locs ls hP hD hS hl)
theorem r_tout {K : Kx} {G : Gx} {R : Room} {own : String} {cc : ByteArray} {nL : Nat} {w : va_W} {pc : Nat} {lv : List (Option Value)} {st : List Value} {dflt lo hi x : Int} {offs : Array Int} {len tgt : Nat} (hd : decode cc pc = .ok (.tableswitch dflt lo hi offs, len)) (hx : -2147483648 ≤ x ∧ x < 2147483648) (h1 : x < lo ∨ hi < x) (ht : (pc : Int) + dflt = (tgt : Int)) (k : bW K G R own cc nL w tgt lv st) : bW K G R own cc nL w pc lv (.int (zI x) :: st) := by
  obtain ⟨p, l, e, s, m, args, below, meth, c, Q, A, cells, slots⟩ := K
  intro S hK hA hcs H locs ls hP hD hS hl
  exact lv_tableOut S.1 S.2.1 hd (by rw [zI_toInt hx]; exact h1) ht (k S hK hA hcs H locs ls hP hD hS hl)
-- ===== contracts =====
def mPc (G : Gx) (w : va_W) (av : List Value) (sz : Nat) : Array Value → State → Prop := va_Pc av (fun U => U.heap.size = sz ∧ va_P G.1 vwCl w U.heap ∧ va_K G.1 vwCl (tyG G) U ∧ va_D (fun _ => True) w)
def mB {S : Type} (G : Gx) (wf : S → va_W) (A : Nat → Prop) (u : S) (t : State) : Prop := va_P G.1 vwCl (wf u) t.heap ∧ va_K G.1 vwCl (tyG G) t ∧ va_D A (wf u)
/-- a contract of a method without an answer: from the world w with the arguments av it comes to a world wf u with post u -/
def MetV (y : MethodName) (cc : ByteArray) (maxL : Nat) (rm : Room) (G : Gx) (w : va_W) (av : List Value) {S : Type} (wf : S → va_W) (post : S → Prop) : Prop := ∀ (l : Launch) (sz : Nat), Met l y (ws_ y cc maxL none) rm (mPc G w av sz) (va_Qv post (mB G wf (va_A w sz)) (va_A w sz)) 0 0 (va_A w sz)
/-- the same with an int (or boolean) for an answer -/
def MetI (y : MethodName) (cc : ByteArray) (maxL : Nat) (rt : FieldType) (rm : Room) (G : Gx) (w : va_W) (av : List Value) {S : Type} (wf : S → va_W) (post : Int32 → S → Prop) : Prop := ∀ (l : Launch) (sz : Nat), Met l y (ws_ y cc maxL (some rt)) rm (mPc G w av sz) (va_Qi post (mB G wf (va_A w sz)) (va_A w sz)) 0 0 (va_A w sz)
theorem mPc_blind {G : Gx} {w : va_W} {av : List Value} {sz : Nat} : FrameBlind (mPc G w av sz) := by
  intro a U g mk q
  obtain ⟨q0, q1, qP, qK, qD⟩ := q
  exact ⟨q0, q1, qP, va_K.moved (u := U) (U := U.calling g mk a) (Vm.Alike.refl U.vm) qK, qD⟩
theorem w_metV {y : MethodName} {cc : ByteArray} {maxL : Nat} {rm : Room} {G : Gx} {w : va_W} {av : List Value} {S : Type} {wf : S → va_W} {post : S → Prop} {own : String} {lv0 : List (Option Value)} (hy : plainName y.cls = true) (hyc : y.cls = own) (hc : ∀ v ∈ av, v.category = 1) (hn : (lg_sl av).length ≤ maxL) (hlv : ent av maxL = lv0)
    (body : ∀ K : Kx, (∀ (u : S) (pc : Nat) (lv : List (Option Value)), decode cc pc = .ok (.return_, 1) → post u → bW K G rm own cc maxL (wf u) pc lv []) → bW K G rm own cc maxL w 0 lv0 []) : MetV y cc maxL rm G w av wf post := by
  intro l sz
  refine Met.ofW (cc := cc) (maxL := maxL) (ret := none) hy rfl ?_
  intro p e s m args below meth c s₁ B hml hv
  obtain ⟨rfl, hsz, hP, hK, hD0⟩ := hv
  subst hsz
  subst hlv
  have hts := atoms_spec (ws := ws_ y cc maxL none) B.pre
  have hts : ∀ w ∈ lw_all, w.before _ s = true := fun w h => hts w (List.mem_cons_of_mem _ h)
  have hown : s.vm.findClass own = some m.cls := hyc ▸ findClass_of_methodNamed B.named
  have hr := B.returns
  have hlocks := B.notSynchronized
  rw [lg_entry_eq]
  refine body (p, l, e, s, m, av.toArray, below, meth, c, _, va_A w s.heap.size, 0, 0) ?_ ⟨B.exec, B.bytes, hml, hown, hts⟩ hK (fun q h => Or.inr h) ⟨Nat.zero_le _, Nat.zero_le _⟩ s.heap [] _ hP hD0.self va_S.rf (lvp_entry av hc hn)
  intro u pc lv hd hpost S' hK' hA' hcs H locs ls hP' hD' hS' hl'
  exact W.vret S'.1 S'.2.1 hr (fun t ht hW => ⟨⟨u, rfl, hpost, by rw [ht]; exact hP', va_K.moved hW.alike hK', hD'⟩, hS'.F ht⟩) hS'.2.2 hd hlocks
theorem w_metI {y : MethodName} {cc : ByteArray} {maxL : Nat} {rt : FieldType} {rm : Room} {G : Gx} {w : va_W} {av : List Value} {S : Type} {wf : S → va_W} {post : Int32 → S → Prop} {own : String} {lv0 : List (Option Value)} (hy : plainName y.cls = true) (hyc : y.cls = own) (hc : ∀ v ∈ av, v.category = 1) (hn : (lg_sl av).length ≤ maxL) (hlv : ent av maxL = lv0) (hz : ∀ r u, post r u → narrow rt (.int r) = .int r)
    (body : ∀ K : Kx, (∀ (r : Int32) (u : S) (pc : Nat) (lv : List (Option Value)), decode cc pc = .ok (.ireturn, 1) → post r u → bW K G rm own cc maxL (wf u) pc lv [.int r]) → bW K G rm own cc maxL w 0 lv0 []) : MetI y cc maxL rt rm G w av wf post := by
  intro l sz
  refine Met.ofW (cc := cc) (maxL := maxL) (ret := some rt) hy rfl ?_
  intro p e s m args below meth c s₁ B hml hv
  obtain ⟨rfl, hsz, hP, hK, hD0⟩ := hv
  subst hsz
  subst hlv
  have hts := atoms_spec (ws := ws_ y cc maxL (some rt)) B.pre
  have hts : ∀ w ∈ lw_all, w.before _ s = true := fun w h => hts w (List.mem_cons_of_mem _ h)
  have hown : s.vm.findClass own = some m.cls := hyc ▸ findClass_of_methodNamed B.named
  have hr := B.returns
  have hlocks := B.notSynchronized
  rw [lg_entry_eq]
  refine body (p, l, e, s, m, av.toArray, below, meth, c, _, va_A w s.heap.size, 0, 0) ?_ ⟨B.exec, B.bytes, hml, hown, hts⟩ hK (fun q h => Or.inr h) ⟨Nat.zero_le _, Nat.zero_le _⟩ s.heap [] _ hP hD0.self va_S.rf (lvp_entry av hc hn)
  intro r u pc lv hd hpost S' hK' hA' hcs H locs ls hP' hD' hS' hl'
  exact W.zret S'.1 S'.2.1 hr (hz r u hpost) (fun t ht hW => ⟨⟨r, u, rfl, hpost, by rw [ht]; exact hP', va_K.moved hW.alike hK', hD'⟩, hS'.F ht⟩) hS'.2.2 hd hlocks
-- ===== calls =====
/-- what a call asks of its callee's room, and of its name -/
def rmOk (rm R : Room) (maxL : Nat) : Prop := rm.cells = 0 ∧ rm.slots = 0 ∧ rm.frames + 1 ≤ R.frames ∧ 8 + (maxL + 11) + rm.locals ≤ R.locals
def cfV (y : MethodName) (C : String) (n : Nat) : Prop := y.cls = C ∧ y.cls ≠ "java/lang/invoke/MethodHandle" ∧ y.cls ≠ "java/lang/invoke/VarHandle" ∧ (parseMethodDescriptor y.desc).map (fun d => d.parameters.length) = some n
theorem w_callV {K : Kx} {G : Gx} {R : Room} {own : String} {cc : ByteArray} {nL : Nat} {w wc wr : va_W} {pc : Nat} {lv : List (Option Value)} {st st0 : List Value} {y : MethodName} {cy : ByteArray} {maxL idx n a q0 ci : Nat} {rm : Room} {C : String} {fs As : List Value} {q : vw_C} {S : Type} {wf : S → va_W} {post : S → Prop}
    (hM : MetV y cy maxL rm G wc (.ref a :: As) wf post) (hw : GoodIn lw_all (wsV own idx C y (ws_ y cy maxL none))) (hcf : cfV y C n) (hrm : rmOk rm R maxL) (hn : As.length = n) (hd : decode cc pc = .ok (.invokevirtual idx, 3)) (hst : st0 = As.reverse ++ .ref a :: st) (hroom : (st.map fun v => v.category).sum ≤ 8)
    (hc : vwCl[ci]? = some q) (hq : q.1 = C) (he : w[q0]? = some (a, .inr (ci, fs)))
    (isC isR : List Nat) (hC : isC.map (fun i => w[i]?) = wc.map some) (hCs : isC.filterMap (fun i => w[i]?) = wc) (hR : isR.map (fun i => w[i]?) = wr.map some) (hndC : va_nd isC = true) (hnd : va_nd isR = true) (hdis : ∀ i ∈ isR, i ∉ isC)
    (k : ∀ u : S, post u → bW K G R own cc nL (wr ++ wf u) (pc + 3) lv st) : bW K G R own cc nL w pc lv st0 := by
  obtain ⟨p, l, e, s, m, args, below, meth, c, Q, A, cells, slots⟩ := K
  intro S0 hK hA hcs H locs ls hP hD hS hl
  subst hst
  subst hq
  obtain ⟨hr1, hr2, hr3, hr4⟩ := hrm
  have hPc := hP.sub (ws' := wc) isC hCs
  have hDc := hD.sub (ws' := wc) isC hndC hC
  have hF := va_free (wc := wc) hD hS hA isC hC
  refine va_callv (va_runV (As := As) (rest := st) S0 (hM l H.size) (cwV n S0.2.2.2.2 hw rfl hr1 hr2 hcf ⟨hr3, hr4⟩) ⟨mPc_blind, va_recv hK hP hc he, fun U hU hW => ⟨rfl, by rw [hU], by rw [hU]; exact hPc, va_K.moved hW.alike hK, hDc.weaken (fun _ _ _ _ => trivial)⟩⟩ rfl hn hl.1 rfl (lv_room hroom) hd hcs) hS (fun q _ h => hF q h) hF (fun u t H1 locs1 ht hvm hp hB hz hk hS1 => ?_)
  obtain ⟨hP1, hK1, hD1⟩ := hB
  rw [ht] at hP1
  obtain ⟨hP2, hD2⟩ := va_join (wr := wr) (w1 := wf u) hP hD isC isR hC hR hnd hdis hk hF hP1 hD1
  exact k u hp S0 hK hA hcs H1 locs1 ls hP2 hD2 hS1 hl
theorem w_callI {K : Kx} {G : Gx} {R : Room} {own : String} {cc : ByteArray} {nL : Nat} {w wc wr : va_W} {pc : Nat} {lv : List (Option Value)} {st st0 : List Value} {y : MethodName} {cy : ByteArray} {maxL idx n a q0 ci : Nat} {rt : FieldType} {rm : Room} {C : String} {fs As : List Value} {q : vw_C} {S : Type} {wf : S → va_W} {post : Int32 → S → Prop}
    (hM : MetI y cy maxL rt rm G wc (.ref a :: As) wf post) (hw : GoodIn lw_all (wsV own idx C y (ws_ y cy maxL (some rt)))) (hcf : cfV y C n) (hrm : rmOk rm R maxL) (hn : As.length = n) (hd : decode cc pc = .ok (.invokevirtual idx, 3)) (hst : st0 = As.reverse ++ .ref a :: st) (hroom : (st.map fun v => v.category).sum ≤ 8)
    (hc : vwCl[ci]? = some q) (hq : q.1 = C) (he : w[q0]? = some (a, .inr (ci, fs)))
    (isC isR : List Nat) (hC : isC.map (fun i => w[i]?) = wc.map some) (hCs : isC.filterMap (fun i => w[i]?) = wc) (hR : isR.map (fun i => w[i]?) = wr.map some) (hndC : va_nd isC = true) (hnd : va_nd isR = true) (hdis : ∀ i ∈ isR, i ∉ isC)
    (k : ∀ (r : Int32) (u : S), post r u → bW K G R own cc nL (wr ++ wf u) (pc + 3) lv (.int r :: st)) : bW K G R own cc nL w pc lv st0 := by
  obtain ⟨p, l, e, s, m, args, below, meth, c, Q, A, cells, slots⟩ := K
  intro S0 hK hA hcs H locs ls hP hD hS hl
  subst hst
  subst hq
  obtain ⟨hr1, hr2, hr3, hr4⟩ := hrm
  have hPc := hP.sub (ws' := wc) isC hCs
  have hDc := hD.sub (ws' := wc) isC hndC hC
  have hF := va_free (wc := wc) hD hS hA isC hC
  refine va_calli (va_runV (As := As) (rest := st) S0 (hM l H.size) (cwV n S0.2.2.2.2 hw rfl hr1 hr2 hcf ⟨hr3, hr4⟩) ⟨mPc_blind, va_recv hK hP hc he, fun U hU hW => ⟨rfl, by rw [hU], by rw [hU]; exact hPc, va_K.moved hW.alike hK, hDc.weaken (fun _ _ _ _ => trivial)⟩⟩ rfl hn hl.1 rfl (lv_room hroom) hd hcs) hS (fun q _ h => hF q h) hF (fun r u t H1 locs1 ht hvm hp hB hz hk hS1 => ?_)
  obtain ⟨hP1, hK1, hD1⟩ := hB
  rw [ht] at hP1
  obtain ⟨hP2, hD2⟩ := va_join (wr := wr) (w1 := wf u) hP hD isC isR hC hR hnd hdis hk hF hP1 hD1
  exact k r u hp S0 hK hA hcs H1 locs1 ls hP2 hD2 hS1 hl
/-- a static method: no world of its own -/
theorem w_callS {K : Kx} {G : Gx} {R : Room} {own : String} {cc : ByteArray} {nL : Nat} {w : va_W} {pc : Nat} {lv : List (Option Value)} {st st0 : List Value} {y : MethodName} {cy : ByteArray} {maxL idx n : Nat} {rt : FieldType} {rm : Room} {As : List Value} {post : Int32 → Unit → Prop}
    (hM : MetI y cy maxL rt rm G [] As (fun _ : Unit => []) post) (hw : GoodIn lw_all (va_wsS own idx y (ws_ y cy maxL (some rt)))) (hcf : cfV y y.cls n) (hrm : rmOk rm R maxL) (hn : As.length = n) (hd : decode cc pc = .ok (.invokestatic idx, 3)) (hst : st0 = As.reverse ++ st) (hroom : (st.map fun v => v.category).sum ≤ 8)
    (k : ∀ (r : Int32), post r () → bW K G R own cc nL w (pc + 3) lv (.int r :: st)) : bW K G R own cc nL w pc lv st0 := by
  obtain ⟨p, l, e, s, m, args, below, meth, c, Q, A, cells, slots⟩ := K
  intro S0 hK hA hcs H locs ls hP hD hS hl
  subst hst
  obtain ⟨hr1, hr2, hr3, hr4⟩ := hrm
  have hPc := hP.sub (ws' := []) [] rfl
  have hDc := hD.sub (ws' := []) [] rfl rfl
  have hF := va_free (wc := []) hD hS hA [] rfl
  refine va_calli (va_runS (As := As) (rest := st) S0 (hM l H.size) (va_cwS n S0.2.2.2.2 hw rfl hr1 hr2 hcf.2 ⟨hr3, hr4⟩) ⟨mPc_blind, fun U hU hW => ⟨rfl, by rw [hU], by rw [hU]; exact hPc, va_K.moved hW.alike hK, hDc.weaken (fun _ _ _ _ => trivial)⟩⟩ rfl hn hl.1 rfl (lv_room hroom) hd hcs) hS (fun q _ h => hF q h) hF (fun r u t H1 locs1 ht hvm hp hB hz hk hS1 => ?_)
  refine k r hp S0 hK hA hcs H1 locs1 ls (hP.kept (fun i x hx => hk x.1 ((hP i x hx).lt) ?_)) hD hS1 hl
  rintro (⟨j, z, hj⟩ | hj)
  · simp at hj
  · exact absurd ((hP i x hx).lt) (Nat.not_lt.mpr hj)
end
section
/-! BandRegion's world: the object at o.2.1, its eight arrays at o.2.2 k; array k holds the numbers g k j -/
set_option maxRecDepth 100000
abbrev Ox : Type := Gx × Nat × (Nat → Nat)
abbrev Gg : Type := Nat → Nat → Nat
def bdX (g : Gg) : Prop := ∀ k j, g k j < 2048
def up2 (g : Gg) (k n v : Nat) : Gg := fun a b => if a = k ∧ b = n then v else g a b
theorem bdX.up {g : Gg} (h : bdX g) {k n v : Nat} (hv : v < 2048) : bdX (up2 g k n v) := by
  intro a b
  unfold up2
  split
  · exact hv
  · exact h a b
def wX (o : Ox) (g : Gg) : va_W := [(o.2.1, .inr (0, [.ref (o.2.2 0), .ref (o.2.2 1), .ref (o.2.2 2), .ref (o.2.2 3), .ref (o.2.2 4), .ref (o.2.2 5), .ref (o.2.2 6), .ref (o.2.2 7)])), (o.2.2 0, .inl (o.1.2.1, 5, .inl (fun j => zI ((g 0 j : Nat) : Int)))), (o.2.2 1, .inl (o.1.2.1, 120, .inl (fun j => zI ((g 1 j : Nat) : Int)))), (o.2.2 2, .inl (o.1.2.1, 120, .inl (fun j => zI ((g 2 j : Nat) : Int)))), (o.2.2 3, .inl (o.1.2.1, 120, .inl (fun j => zI ((g 3 j : Nat) : Int)))), (o.2.2 4, .inl (o.1.2.1, 120, .inl (fun j => zI ((g 4 j : Nat) : Int)))), (o.2.2 5, .inl (o.1.2.1, 5, .inl (fun j => zI ((g 5 j : Nat) : Int)))), (o.2.2 6, .inl (o.1.2.1, 1440, .inl (fun j => zI ((g 6 j : Nat) : Int)))), (o.2.2 7, .inl (o.1.2.1, 1440, .inl (fun j => zI ((g 7 j : Nat) : Int))))]
theorem up2_fn {g : Gg} {k n v : Nat} : upd (fun j => zI ((g k j : Nat) : Int)) n (zI ((v : Nat) : Int)) = fun j => zI ((up2 g k n v k j : Nat) : Int) := by
  funext j
  unfold upd up2
  by_cases h : j = n
  · simp [h]
  · simp [h]
theorem up2_ne {g : Gg} {k n v a : Nat} (h : a ≠ k) : (fun j => zI ((g a j : Nat) : Int)) = fun j => zI ((up2 g k n v a j : Nat) : Int) := by
  funext j
  unfold up2
  simp [h]
theorem wX_set0 (o : Ox) (g : Gg) (n v : Nat) : (wX o g).set 1 (o.2.2 0, .inl (o.1.2.1, 5, .inl (upd (fun j => zI ((g 0 j : Nat) : Int)) n (zI ((v : Nat) : Int))))) = wX o (up2 g 0 n v) := by
  rw [up2_fn]
  show ([(o.2.1, .inr (0, [.ref (o.2.2 0), .ref (o.2.2 1), .ref (o.2.2 2), .ref (o.2.2 3), .ref (o.2.2 4), .ref (o.2.2 5), .ref (o.2.2 6), .ref (o.2.2 7)])), (o.2.2 0, .inl (o.1.2.1, 5, .inl (fun j => zI ((up2 g 0 n v 0 j : Nat) : Int)))), (o.2.2 1, .inl (o.1.2.1, 120, .inl (fun j => zI ((g 1 j : Nat) : Int)))), (o.2.2 2, .inl (o.1.2.1, 120, .inl (fun j => zI ((g 2 j : Nat) : Int)))), (o.2.2 3, .inl (o.1.2.1, 120, .inl (fun j => zI ((g 3 j : Nat) : Int)))), (o.2.2 4, .inl (o.1.2.1, 120, .inl (fun j => zI ((g 4 j : Nat) : Int)))), (o.2.2 5, .inl (o.1.2.1, 5, .inl (fun j => zI ((g 5 j : Nat) : Int)))), (o.2.2 6, .inl (o.1.2.1, 1440, .inl (fun j => zI ((g 6 j : Nat) : Int)))), (o.2.2 7, .inl (o.1.2.1, 1440, .inl (fun j => zI ((g 7 j : Nat) : Int))))] : va_W) = _
  rw [up2_ne (g := g) (k := 0) (n := n) (v := v) (a := 1) (by decide)]
  rw [up2_ne (g := g) (k := 0) (n := n) (v := v) (a := 2) (by decide)]
  rw [up2_ne (g := g) (k := 0) (n := n) (v := v) (a := 3) (by decide)]
  rw [up2_ne (g := g) (k := 0) (n := n) (v := v) (a := 4) (by decide)]
  rw [up2_ne (g := g) (k := 0) (n := n) (v := v) (a := 5) (by decide)]
  rw [up2_ne (g := g) (k := 0) (n := n) (v := v) (a := 6) (by decide)]
  rw [up2_ne (g := g) (k := 0) (n := n) (v := v) (a := 7) (by decide)]
  rfl
theorem wX_set1 (o : Ox) (g : Gg) (n v : Nat) : (wX o g).set 2 (o.2.2 1, .inl (o.1.2.1, 120, .inl (upd (fun j => zI ((g 1 j : Nat) : Int)) n (zI ((v : Nat) : Int))))) = wX o (up2 g 1 n v) := by
  rw [up2_fn]
  show ([(o.2.1, .inr (0, [.ref (o.2.2 0), .ref (o.2.2 1), .ref (o.2.2 2), .ref (o.2.2 3), .ref (o.2.2 4), .ref (o.2.2 5), .ref (o.2.2 6), .ref (o.2.2 7)])), (o.2.2 0, .inl (o.1.2.1, 5, .inl (fun j => zI ((g 0 j : Nat) : Int)))), (o.2.2 1, .inl (o.1.2.1, 120, .inl (fun j => zI ((up2 g 1 n v 1 j : Nat) : Int)))), (o.2.2 2, .inl (o.1.2.1, 120, .inl (fun j => zI ((g 2 j : Nat) : Int)))), (o.2.2 3, .inl (o.1.2.1, 120, .inl (fun j => zI ((g 3 j : Nat) : Int)))), (o.2.2 4, .inl (o.1.2.1, 120, .inl (fun j => zI ((g 4 j : Nat) : Int)))), (o.2.2 5, .inl (o.1.2.1, 5, .inl (fun j => zI ((g 5 j : Nat) : Int)))), (o.2.2 6, .inl (o.1.2.1, 1440, .inl (fun j => zI ((g 6 j : Nat) : Int)))), (o.2.2 7, .inl (o.1.2.1, 1440, .inl (fun j => zI ((g 7 j : Nat) : Int))))] : va_W) = _
  rw [up2_ne (g := g) (k := 1) (n := n) (v := v) (a := 0) (by decide)]
  rw [up2_ne (g := g) (k := 1) (n := n) (v := v) (a := 2) (by decide)]
  rw [up2_ne (g := g) (k := 1) (n := n) (v := v) (a := 3) (by decide)]
  rw [up2_ne (g := g) (k := 1) (n := n) (v := v) (a := 4) (by decide)]
  rw [up2_ne (g := g) (k := 1) (n := n) (v := v) (a := 5) (by decide)]
  rw [up2_ne (g := g) (k := 1) (n := n) (v := v) (a := 6) (by decide)]
  rw [up2_ne (g := g) (k := 1) (n := n) (v := v) (a := 7) (by decide)]
  rfl
theorem wX_set2 (o : Ox) (g : Gg) (n v : Nat) : (wX o g).set 3 (o.2.2 2, .inl (o.1.2.1, 120, .inl (upd (fun j => zI ((g 2 j : Nat) : Int)) n (zI ((v : Nat) : Int))))) = wX o (up2 g 2 n v) := by
  rw [up2_fn]
  show ([(o.2.1, .inr (0, [.ref (o.2.2 0), .ref (o.2.2 1), .ref (o.2.2 2), .ref (o.2.2 3), .ref (o.2.2 4), .ref (o.2.2 5), .ref (o.2.2 6), .ref (o.2.2 7)])), (o.2.2 0, .inl (o.1.2.1, 5, .inl (fun j => zI ((g 0 j : Nat) : Int)))), (o.2.2 1, .inl (o.1.2.1, 120, .inl (fun j => zI ((g 1 j : Nat) : Int)))), (o.2.2 2, .inl (o.1.2.1, 120, .inl (fun j => zI ((up2 g 2 n v 2 j : Nat) : Int)))), (o.2.2 3, .inl (o.1.2.1, 120, .inl (fun j => zI ((g 3 j : Nat) : Int)))), (o.2.2 4, .inl (o.1.2.1, 120, .inl (fun j => zI ((g 4 j : Nat) : Int)))), (o.2.2 5, .inl (o.1.2.1, 5, .inl (fun j => zI ((g 5 j : Nat) : Int)))), (o.2.2 6, .inl (o.1.2.1, 1440, .inl (fun j => zI ((g 6 j : Nat) : Int)))), (o.2.2 7, .inl (o.1.2.1, 1440, .inl (fun j => zI ((g 7 j : Nat) : Int))))] : va_W) = _
  rw [up2_ne (g := g) (k := 2) (n := n) (v := v) (a := 0) (by decide)]
  rw [up2_ne (g := g) (k := 2) (n := n) (v := v) (a := 1) (by decide)]
  rw [up2_ne (g := g) (k := 2) (n := n) (v := v) (a := 3) (by decide)]
  rw [up2_ne (g := g) (k := 2) (n := n) (v := v) (a := 4) (by decide)]
  rw [up2_ne (g := g) (k := 2) (n := n) (v := v) (a := 5) (by decide)]
  rw [up2_ne (g := g) (k := 2) (n := n) (v := v) (a := 6) (by decide)]
  rw [up2_ne (g := g) (k := 2) (n := n) (v := v) (a := 7) (by decide)]
  rfl
theorem wX_set3 (o : Ox) (g : Gg) (n v : Nat) : (wX o g).set 4 (o.2.2 3, .inl (o.1.2.1, 120, .inl (upd (fun j => zI ((g 3 j : Nat) : Int)) n (zI ((v : Nat) : Int))))) = wX o (up2 g 3 n v) := by
  rw [up2_fn]
  show ([(o.2.1, .inr (0, [.ref (o.2.2 0), .ref (o.2.2 1), .ref (o.2.2 2), .ref (o.2.2 3), .ref (o.2.2 4), .ref (o.2.2 5), .ref (o.2.2 6), .ref (o.2.2 7)])), (o.2.2 0, .inl (o.1.2.1, 5, .inl (fun j => zI ((g 0 j : Nat) : Int)))), (o.2.2 1, .inl (o.1.2.1, 120, .inl (fun j => zI ((g 1 j : Nat) : Int)))), (o.2.2 2, .inl (o.1.2.1, 120, .inl (fun j => zI ((g 2 j : Nat) : Int)))), (o.2.2 3, .inl (o.1.2.1, 120, .inl (fun j => zI ((up2 g 3 n v 3 j : Nat) : Int)))), (o.2.2 4, .inl (o.1.2.1, 120, .inl (fun j => zI ((g 4 j : Nat) : Int)))), (o.2.2 5, .inl (o.1.2.1, 5, .inl (fun j => zI ((g 5 j : Nat) : Int)))), (o.2.2 6, .inl (o.1.2.1, 1440, .inl (fun j => zI ((g 6 j : Nat) : Int)))), (o.2.2 7, .inl (o.1.2.1, 1440, .inl (fun j => zI ((g 7 j : Nat) : Int))))] : va_W) = _
  rw [up2_ne (g := g) (k := 3) (n := n) (v := v) (a := 0) (by decide)]
  rw [up2_ne (g := g) (k := 3) (n := n) (v := v) (a := 1) (by decide)]
  rw [up2_ne (g := g) (k := 3) (n := n) (v := v) (a := 2) (by decide)]
  rw [up2_ne (g := g) (k := 3) (n := n) (v := v) (a := 4) (by decide)]
  rw [up2_ne (g := g) (k := 3) (n := n) (v := v) (a := 5) (by decide)]
  rw [up2_ne (g := g) (k := 3) (n := n) (v := v) (a := 6) (by decide)]
  rw [up2_ne (g := g) (k := 3) (n := n) (v := v) (a := 7) (by decide)]
  rfl
theorem wX_set4 (o : Ox) (g : Gg) (n v : Nat) : (wX o g).set 5 (o.2.2 4, .inl (o.1.2.1, 120, .inl (upd (fun j => zI ((g 4 j : Nat) : Int)) n (zI ((v : Nat) : Int))))) = wX o (up2 g 4 n v) := by
  rw [up2_fn]
  show ([(o.2.1, .inr (0, [.ref (o.2.2 0), .ref (o.2.2 1), .ref (o.2.2 2), .ref (o.2.2 3), .ref (o.2.2 4), .ref (o.2.2 5), .ref (o.2.2 6), .ref (o.2.2 7)])), (o.2.2 0, .inl (o.1.2.1, 5, .inl (fun j => zI ((g 0 j : Nat) : Int)))), (o.2.2 1, .inl (o.1.2.1, 120, .inl (fun j => zI ((g 1 j : Nat) : Int)))), (o.2.2 2, .inl (o.1.2.1, 120, .inl (fun j => zI ((g 2 j : Nat) : Int)))), (o.2.2 3, .inl (o.1.2.1, 120, .inl (fun j => zI ((g 3 j : Nat) : Int)))), (o.2.2 4, .inl (o.1.2.1, 120, .inl (fun j => zI ((up2 g 4 n v 4 j : Nat) : Int)))), (o.2.2 5, .inl (o.1.2.1, 5, .inl (fun j => zI ((g 5 j : Nat) : Int)))), (o.2.2 6, .inl (o.1.2.1, 1440, .inl (fun j => zI ((g 6 j : Nat) : Int)))), (o.2.2 7, .inl (o.1.2.1, 1440, .inl (fun j => zI ((g 7 j : Nat) : Int))))] : va_W) = _
  rw [up2_ne (g := g) (k := 4) (n := n) (v := v) (a := 0) (by decide)]
  rw [up2_ne (g := g) (k := 4) (n := n) (v := v) (a := 1) (by decide)]
  rw [up2_ne (g := g) (k := 4) (n := n) (v := v) (a := 2) (by decide)]
  rw [up2_ne (g := g) (k := 4) (n := n) (v := v) (a := 3) (by decide)]
  rw [up2_ne (g := g) (k := 4) (n := n) (v := v) (a := 5) (by decide)]
  rw [up2_ne (g := g) (k := 4) (n := n) (v := v) (a := 6) (by decide)]
  rw [up2_ne (g := g) (k := 4) (n := n) (v := v) (a := 7) (by decide)]
  rfl
theorem wX_set5 (o : Ox) (g : Gg) (n v : Nat) : (wX o g).set 6 (o.2.2 5, .inl (o.1.2.1, 5, .inl (upd (fun j => zI ((g 5 j : Nat) : Int)) n (zI ((v : Nat) : Int))))) = wX o (up2 g 5 n v) := by
  rw [up2_fn]
  show ([(o.2.1, .inr (0, [.ref (o.2.2 0), .ref (o.2.2 1), .ref (o.2.2 2), .ref (o.2.2 3), .ref (o.2.2 4), .ref (o.2.2 5), .ref (o.2.2 6), .ref (o.2.2 7)])), (o.2.2 0, .inl (o.1.2.1, 5, .inl (fun j => zI ((g 0 j : Nat) : Int)))), (o.2.2 1, .inl (o.1.2.1, 120, .inl (fun j => zI ((g 1 j : Nat) : Int)))), (o.2.2 2, .inl (o.1.2.1, 120, .inl (fun j => zI ((g 2 j : Nat) : Int)))), (o.2.2 3, .inl (o.1.2.1, 120, .inl (fun j => zI ((g 3 j : Nat) : Int)))), (o.2.2 4, .inl (o.1.2.1, 120, .inl (fun j => zI ((g 4 j : Nat) : Int)))), (o.2.2 5, .inl (o.1.2.1, 5, .inl (fun j => zI ((up2 g 5 n v 5 j : Nat) : Int)))), (o.2.2 6, .inl (o.1.2.1, 1440, .inl (fun j => zI ((g 6 j : Nat) : Int)))), (o.2.2 7, .inl (o.1.2.1, 1440, .inl (fun j => zI ((g 7 j : Nat) : Int))))] : va_W) = _
  rw [up2_ne (g := g) (k := 5) (n := n) (v := v) (a := 0) (by decide)]
  rw [up2_ne (g := g) (k := 5) (n := n) (v := v) (a := 1) (by decide)]
  rw [up2_ne (g := g) (k := 5) (n := n) (v := v) (a := 2) (by decide)]
  rw [up2_ne (g := g) (k := 5) (n := n) (v := v) (a := 3) (by decide)]
  rw [up2_ne (g := g) (k := 5) (n := n) (v := v) (a := 4) (by decide)]
  rw [up2_ne (g := g) (k := 5) (n := n) (v := v) (a := 6) (by decide)]
  rw [up2_ne (g := g) (k := 5) (n := n) (v := v) (a := 7) (by decide)]
  rfl
theorem wX_set6 (o : Ox) (g : Gg) (n v : Nat) : (wX o g).set 7 (o.2.2 6, .inl (o.1.2.1, 1440, .inl (upd (fun j => zI ((g 6 j : Nat) : Int)) n (zI ((v : Nat) : Int))))) = wX o (up2 g 6 n v) := by
  rw [up2_fn]
  show ([(o.2.1, .inr (0, [.ref (o.2.2 0), .ref (o.2.2 1), .ref (o.2.2 2), .ref (o.2.2 3), .ref (o.2.2 4), .ref (o.2.2 5), .ref (o.2.2 6), .ref (o.2.2 7)])), (o.2.2 0, .inl (o.1.2.1, 5, .inl (fun j => zI ((g 0 j : Nat) : Int)))), (o.2.2 1, .inl (o.1.2.1, 120, .inl (fun j => zI ((g 1 j : Nat) : Int)))), (o.2.2 2, .inl (o.1.2.1, 120, .inl (fun j => zI ((g 2 j : Nat) : Int)))), (o.2.2 3, .inl (o.1.2.1, 120, .inl (fun j => zI ((g 3 j : Nat) : Int)))), (o.2.2 4, .inl (o.1.2.1, 120, .inl (fun j => zI ((g 4 j : Nat) : Int)))), (o.2.2 5, .inl (o.1.2.1, 5, .inl (fun j => zI ((g 5 j : Nat) : Int)))), (o.2.2 6, .inl (o.1.2.1, 1440, .inl (fun j => zI ((up2 g 6 n v 6 j : Nat) : Int)))), (o.2.2 7, .inl (o.1.2.1, 1440, .inl (fun j => zI ((g 7 j : Nat) : Int))))] : va_W) = _
  rw [up2_ne (g := g) (k := 6) (n := n) (v := v) (a := 0) (by decide)]
  rw [up2_ne (g := g) (k := 6) (n := n) (v := v) (a := 1) (by decide)]
  rw [up2_ne (g := g) (k := 6) (n := n) (v := v) (a := 2) (by decide)]
  rw [up2_ne (g := g) (k := 6) (n := n) (v := v) (a := 3) (by decide)]
  rw [up2_ne (g := g) (k := 6) (n := n) (v := v) (a := 4) (by decide)]
  rw [up2_ne (g := g) (k := 6) (n := n) (v := v) (a := 5) (by decide)]
  rw [up2_ne (g := g) (k := 6) (n := n) (v := v) (a := 7) (by decide)]
  rfl
theorem wX_set7 (o : Ox) (g : Gg) (n v : Nat) : (wX o g).set 8 (o.2.2 7, .inl (o.1.2.1, 1440, .inl (upd (fun j => zI ((g 7 j : Nat) : Int)) n (zI ((v : Nat) : Int))))) = wX o (up2 g 7 n v) := by
  rw [up2_fn]
  show ([(o.2.1, .inr (0, [.ref (o.2.2 0), .ref (o.2.2 1), .ref (o.2.2 2), .ref (o.2.2 3), .ref (o.2.2 4), .ref (o.2.2 5), .ref (o.2.2 6), .ref (o.2.2 7)])), (o.2.2 0, .inl (o.1.2.1, 5, .inl (fun j => zI ((g 0 j : Nat) : Int)))), (o.2.2 1, .inl (o.1.2.1, 120, .inl (fun j => zI ((g 1 j : Nat) : Int)))), (o.2.2 2, .inl (o.1.2.1, 120, .inl (fun j => zI ((g 2 j : Nat) : Int)))), (o.2.2 3, .inl (o.1.2.1, 120, .inl (fun j => zI ((g 3 j : Nat) : Int)))), (o.2.2 4, .inl (o.1.2.1, 120, .inl (fun j => zI ((g 4 j : Nat) : Int)))), (o.2.2 5, .inl (o.1.2.1, 5, .inl (fun j => zI ((g 5 j : Nat) : Int)))), (o.2.2 6, .inl (o.1.2.1, 1440, .inl (fun j => zI ((g 6 j : Nat) : Int)))), (o.2.2 7, .inl (o.1.2.1, 1440, .inl (fun j => zI ((up2 g 7 n v 7 j : Nat) : Int))))] : va_W) = _
  rw [up2_ne (g := g) (k := 7) (n := n) (v := v) (a := 0) (by decide)]
  rw [up2_ne (g := g) (k := 7) (n := n) (v := v) (a := 1) (by decide)]
  rw [up2_ne (g := g) (k := 7) (n := n) (v := v) (a := 2) (by decide)]
  rw [up2_ne (g := g) (k := 7) (n := n) (v := v) (a := 3) (by decide)]
  rw [up2_ne (g := g) (k := 7) (n := n) (v := v) (a := 4) (by decide)]
  rw [up2_ne (g := g) (k := 7) (n := n) (v := v) (a := 5) (by decide)]
  rw [up2_ne (g := g) (k := 7) (n := n) (v := v) (a := 6) (by decide)]
  rfl
def bX (K : Kx) (o : Ox) (R : Room) (cc : ByteArray) (nL : Nat) (g : Gg) (pc : Nat) (lv : List (Option Value)) (st : List Value) : Prop := bdX g → bW K o.1 R RX0 cc nL (wX o g) pc lv st
theorem x_iconst {K : Kx} {o : Ox} {R : Room} {cc : ByteArray} {nL : Nat} {g : Gg} {pc : Nat} {lv : List (Option Value)} {st : List Value} {n : Int} (hd : decode cc pc = .ok (.iconst n, 1)) (k : bX K o R cc nL g (pc + 1) lv (.int (zI n) :: st)) : bX K o R cc nL g pc lv st := fun hB => r_iconst hd (k hB)
theorem x_iconstN {K : Kx} {o : Ox} {R : Room} {cc : ByteArray} {nL : Nat} {g : Gg} {pc : Nat} {lv : List (Option Value)} {st : List Value} {n : Int} {q : Nat} (hd : decode cc pc = .ok (.iconst n, 1)) (hq : n = (q : Int)) (k : bX K o R cc nL g (pc + 1) lv (.int (zI (q : Int)) :: st)) : bX K o R cc nL g pc lv st := fun hB => r_iconstN hd hq (k hB)
theorem x_bipush {K : Kx} {o : Ox} {R : Room} {cc : ByteArray} {nL : Nat} {g : Gg} {pc : Nat} {lv : List (Option Value)} {st : List Value} {n : Int} (hd : decode cc pc = .ok (.bipush n, 2)) (h1 : -128 ≤ n) (h2 : n < 128) (k : bX K o R cc nL g (pc + 2) lv (.int (zI n) :: st)) : bX K o R cc nL g pc lv st := fun hB => r_bipush hd h1 h2 (k hB)
theorem x_bipushN {K : Kx} {o : Ox} {R : Room} {cc : ByteArray} {nL : Nat} {g : Gg} {pc : Nat} {lv : List (Option Value)} {st : List Value} {n : Int} {q : Nat} (hd : decode cc pc = .ok (.bipush n, 2)) (hq : n = (q : Int)) (h2 : n < 128) (k : bX K o R cc nL g (pc + 2) lv (.int (zI (q : Int)) :: st)) : bX K o R cc nL g pc lv st := fun hB => r_bipushN hd hq h2 (k hB)
theorem x_sipushN {K : Kx} {o : Ox} {R : Room} {cc : ByteArray} {nL : Nat} {g : Gg} {pc : Nat} {lv : List (Option Value)} {st : List Value} {n : Int} {q : Nat} (hd : decode cc pc = .ok (.sipush n, 3)) (hq : n = (q : Int)) (h2 : n < 32768) (k : bX K o R cc nL g (pc + 3) lv (.int (zI (q : Int)) :: st)) : bX K o R cc nL g pc lv st := fun hB => r_sipushN hd hq h2 (k hB)
theorem x_ldcN {K : Kx} {o : Ox} {R : Room} {cc : ByteArray} {nL : Nat} {g : Gg} {pc : Nat} {lv : List (Option Value)} {st : List Value} {idx q : Nat} {v : Int32} (hd : decode cc pc = .ok (.ldc idx, 2)) (hw : Cond.constant RX0 idx v ∈ lw_all) (hv : v = zI (q : Int)) (k : bX K o R cc nL g (pc + 2) lv (.int (zI (q : Int)) :: st)) : bX K o R cc nL g pc lv st := fun hB => r_ldcN hd hw hv (k hB)
theorem x_iload_n {K : Kx} {o : Ox} {R : Room} {cc : ByteArray} {nL : Nat} {g : Gg} {pc : Nat} {lv : List (Option Value)} {st : List Value} {i : Fin 4} {x : Int32} (hd : decode cc pc = .ok (.iload_n i, 1)) (hx : lv[(i : Nat)]? = some (some (.int x))) (k : bX K o R cc nL g (pc + 1) lv (.int x :: st)) : bX K o R cc nL g pc lv st := fun hB => r_iload_n hd hx (k hB)
theorem x_iload {K : Kx} {o : Ox} {R : Room} {cc : ByteArray} {nL : Nat} {g : Gg} {pc : Nat} {lv : List (Option Value)} {st : List Value} {i : Nat} {x : Int32} (hd : decode cc pc = .ok (.iload i, 2)) (hx : lv[i]? = some (some (.int x))) (k : bX K o R cc nL g (pc + 2) lv (.int x :: st)) : bX K o R cc nL g pc lv st := fun hB => r_iload hd hx (k hB)
theorem x_aload_n {K : Kx} {o : Ox} {R : Room} {cc : ByteArray} {nL : Nat} {g : Gg} {pc : Nat} {lv : List (Option Value)} {st : List Value} {i : Fin 4} {x : Nat} (hd : decode cc pc = .ok (.aload_n i, 1)) (hx : lv[(i : Nat)]? = some (some (.ref x))) (k : bX K o R cc nL g (pc + 1) lv (.ref x :: st)) : bX K o R cc nL g pc lv st := fun hB => r_aload_n hd hx (k hB)
theorem x_istore_n {K : Kx} {o : Ox} {R : Room} {cc : ByteArray} {nL : Nat} {g : Gg} {pc : Nat} {lv : List (Option Value)} {st : List Value} {i : Fin 4} {x : Int32} {lv2 : List (Option Value)} (hd : decode cc pc = .ok (.istore_n i, 1)) (hn : (i : Nat) < nL) (h2 : lv.set (i : Nat) (some (.int x)) = lv2) (k : bX K o R cc nL g (pc + 1) lv2 st) : bX K o R cc nL g pc lv (.int x :: st) := fun hB => r_istore_n hd hn h2 (k hB)
theorem x_istore {K : Kx} {o : Ox} {R : Room} {cc : ByteArray} {nL : Nat} {g : Gg} {pc : Nat} {lv : List (Option Value)} {st : List Value} {i : Nat} {x : Int32} {lv2 : List (Option Value)} (hd : decode cc pc = .ok (.istore i, 2)) (hn : i < nL) (h2 : lv.set i (some (.int x)) = lv2) (k : bX K o R cc nL g (pc + 2) lv2 st) : bX K o R cc nL g pc lv (.int x :: st) := fun hB => r_istore hd hn h2 (k hB)
theorem x_astore_n {K : Kx} {o : Ox} {R : Room} {cc : ByteArray} {nL : Nat} {g : Gg} {pc : Nat} {lv : List (Option Value)} {st : List Value} {i : Fin 4} {x : Nat} {lv2 : List (Option Value)} (hd : decode cc pc = .ok (.astore_n i, 1)) (hn : (i : Nat) < nL) (h2 : lv.set (i : Nat) (some (.ref x)) = lv2) (k : bX K o R cc nL g (pc + 1) lv2 st) : bX K o R cc nL g pc lv (.ref x :: st) := fun hB => r_astore_n hd hn h2 (k hB)
theorem x_iincN {K : Kx} {o : Ox} {R : Room} {cc : ByteArray} {nL : Nat} {g : Gg} {pc : Nat} {lv : List (Option Value)} {st : List Value} {i : Nat} {n : Int} {q x : Nat} {lv2 : List (Option Value)} (hd : decode cc pc = .ok (.iinc i n, 3)) (hx : lv[i]? = some (some (.int (zI (x : Int))))) (hq : n = (q : Int)) (hn : i < nL) (h2 : lv.set i (some (.int (zI ((x + q : Nat) : Int)))) = lv2) (k : bX K o R cc nL g (pc + 3) lv2 st) : bX K o R cc nL g pc lv st := fun hB => r_iincN hd hx hq hn h2 (k hB)
theorem x_iadd {K : Kx} {o : Ox} {R : Room} {cc : ByteArray} {nL : Nat} {g : Gg} {pc : Nat} {lv : List (Option Value)} {st : List Value} {x y : Int} (hd : decode cc pc = .ok (.iadd, 1)) (k : bX K o R cc nL g (pc + 1) lv (.int (zI (x + y)) :: st)) : bX K o R cc nL g pc lv (.int (zI y) :: .int (zI x) :: st) := fun hB => r_iadd hd (k hB)
theorem x_isub {K : Kx} {o : Ox} {R : Room} {cc : ByteArray} {nL : Nat} {g : Gg} {pc : Nat} {lv : List (Option Value)} {st : List Value} {x y : Int} (hd : decode cc pc = .ok (.isub, 1)) (k : bX K o R cc nL g (pc + 1) lv (.int (zI (x - y)) :: st)) : bX K o R cc nL g pc lv (.int (zI y) :: .int (zI x) :: st) := fun hB => r_isub hd (k hB)
theorem x_imul {K : Kx} {o : Ox} {R : Room} {cc : ByteArray} {nL : Nat} {g : Gg} {pc : Nat} {lv : List (Option Value)} {st : List Value} {x y : Int} (hd : decode cc pc = .ok (.imul, 1)) (k : bX K o R cc nL g (pc + 1) lv (.int (zI (x * y)) :: st)) : bX K o R cc nL g pc lv (.int (zI y) :: .int (zI x) :: st) := fun hB => r_imul hd (k hB)
theorem x_iaddN {K : Kx} {o : Ox} {R : Room} {cc : ByteArray} {nL : Nat} {g : Gg} {pc : Nat} {lv : List (Option Value)} {st : List Value} {x y : Nat} (hd : decode cc pc = .ok (.iadd, 1)) (k : bX K o R cc nL g (pc + 1) lv (.int (zI ((x + y : Nat) : Int)) :: st)) : bX K o R cc nL g pc lv (.int (zI (y : Int)) :: .int (zI (x : Int)) :: st) := fun hB => r_iaddN hd (k hB)
theorem x_imulN {K : Kx} {o : Ox} {R : Room} {cc : ByteArray} {nL : Nat} {g : Gg} {pc : Nat} {lv : List (Option Value)} {st : List Value} {x y : Nat} (hd : decode cc pc = .ok (.imul, 1)) (k : bX K o R cc nL g (pc + 1) lv (.int (zI ((x * y : Nat) : Int)) :: st)) : bX K o R cc nL g pc lv (.int (zI (y : Int)) :: .int (zI (x : Int)) :: st) := fun hB => r_imulN hd (k hB)
theorem x_isubN {K : Kx} {o : Ox} {R : Room} {cc : ByteArray} {nL : Nat} {g : Gg} {pc : Nat} {lv : List (Option Value)} {st : List Value} {x y : Nat} (hd : decode cc pc = .ok (.isub, 1)) (h : y ≤ x) (k : bX K o R cc nL g (pc + 1) lv (.int (zI ((x - y : Nat) : Int)) :: st)) : bX K o R cc nL g pc lv (.int (zI (y : Int)) :: .int (zI (x : Int)) :: st) := fun hB => r_isubN hd h (k hB)
theorem x_dup2 {K : Kx} {o : Ox} {R : Room} {cc : ByteArray} {nL : Nat} {g : Gg} {pc : Nat} {lv : List (Option Value)} {st : List Value} {a : Int32} {q : Nat} (hd : decode cc pc = .ok (.dup2, 1)) (k : bX K o R cc nL g (pc + 1) lv (.int a :: .ref q :: .int a :: .ref q :: st)) : bX K o R cc nL g pc lv (.int a :: .ref q :: st) := fun hB => r_dup2 hd (k hB)
theorem x_dup {K : Kx} {o : Ox} {R : Room} {cc : ByteArray} {nL : Nat} {g : Gg} {pc : Nat} {lv : List (Option Value)} {st : List Value} {q : Nat} (hd : decode cc pc = .ok (.dup, 1)) (k : bX K o R cc nL g (pc + 1) lv (.ref q :: .ref q :: st)) : bX K o R cc nL g pc lv (.ref q :: st) := fun hB => r_dup hd (k hB)
theorem x_and31 {K : Kx} {o : Ox} {R : Room} {cc : ByteArray} {nL : Nat} {g : Gg} {pc : Nat} {lv : List (Option Value)} {st : List Value} {x : Int32} {q : Nat} (hd : decode cc pc = .ok (.iand, 1)) (hq : (q : Int) = 31) (k : bX K o R cc nL g (pc + 1) lv (.int (zI ((lo5 x : Nat) : Int)) :: st)) : bX K o R cc nL g pc lv (.int (zI (q : Int)) :: .int x :: st) := fun hB => r_and31 hd hq (k hB)
theorem x_shr5 {K : Kx} {o : Ox} {R : Room} {cc : ByteArray} {nL : Nat} {g : Gg} {pc : Nat} {lv : List (Option Value)} {st : List Value} {x : Int32} {q : Nat} (hd : decode cc pc = .ok (.ishr, 1)) (hq : (q : Int) = 5) (k : bX K o R cc nL g (pc + 1) lv (.int (x >>> (zI 5 &&& 31)) :: st)) : bX K o R cc nL g pc lv (.int (zI (q : Int)) :: .int x :: st) := fun hB => r_shr5 hd hq (k hB)
theorem x_top {K : Kx} {o : Ox} {R : Room} {cc : ByteArray} {nL : Nat} {g : Gg} {pc : Nat} {lv : List (Option Value)} {st : List Value} {x y : Int} (h : x = y) (k : bX K o R cc nL g pc lv (.int (zI y) :: st)) : bX K o R cc nL g pc lv (.int (zI x) :: st) := fun hB => r_top h (k hB)
theorem x_top32 {K : Kx} {o : Ox} {R : Room} {cc : ByteArray} {nL : Nat} {g : Gg} {pc : Nat} {lv : List (Option Value)} {st : List Value} {x y : Int32} (h : x = y) (k : bX K o R cc nL g pc lv (.int y :: st)) : bX K o R cc nL g pc lv (.int x :: st) := fun hB => r_top32 h (k hB)
theorem x_icmp_eq {K : Kx} {o : Ox} {R : Room} {cc : ByteArray} {nL : Nat} {g : Gg} {pc : Nat} {lv : List (Option Value)} {st : List Value} {x y off : Int} {tgt : Nat} (hd : decode cc pc = .ok (.if_icmp .eq off, 3)) (ht : (pc : Int) + off = (tgt : Int)) (hx : -2147483648 ≤ x ∧ x < 2147483648) (hy : -2147483648 ≤ y ∧ y < 2147483648) (kt : x = y → bX K o R cc nL g tgt lv st) (kf : x ≠ y → bX K o R cc nL g (pc + 3) lv st) : bX K o R cc nL g pc lv (.int (zI y) :: .int (zI x) :: st) := fun hB => r_icmp_eq hd ht hx hy (fun hh => kt hh hB) (fun hh => kf hh hB)
theorem x_icmp_eqN {K : Kx} {o : Ox} {R : Room} {cc : ByteArray} {nL : Nat} {g : Gg} {pc : Nat} {lv : List (Option Value)} {st : List Value} {off : Int} {x y tgt : Nat} (hd : decode cc pc = .ok (.if_icmp .eq off, 3)) (ht : (pc : Int) + off = (tgt : Int)) (hx : x < 2147483648) (hy : y < 2147483648) (kt : x = y → bX K o R cc nL g tgt lv st) (kf : x ≠ y → bX K o R cc nL g (pc + 3) lv st) : bX K o R cc nL g pc lv (.int (zI (y : Int)) :: .int (zI (x : Int)) :: st) := fun hB => r_icmp_eqN hd ht hx hy (fun hh => kt hh hB) (fun hh => kf hh hB)
theorem x_icmp_ne {K : Kx} {o : Ox} {R : Room} {cc : ByteArray} {nL : Nat} {g : Gg} {pc : Nat} {lv : List (Option Value)} {st : List Value} {x y off : Int} {tgt : Nat} (hd : decode cc pc = .ok (.if_icmp .ne off, 3)) (ht : (pc : Int) + off = (tgt : Int)) (hx : -2147483648 ≤ x ∧ x < 2147483648) (hy : -2147483648 ≤ y ∧ y < 2147483648) (kt : x ≠ y → bX K o R cc nL g tgt lv st) (kf : x = y → bX K o R cc nL g (pc + 3) lv st) : bX K o R cc nL g pc lv (.int (zI y) :: .int (zI x) :: st) := fun hB => r_icmp_ne hd ht hx hy (fun hh => kt hh hB) (fun hh => kf hh hB)
theorem x_icmp_neN {K : Kx} {o : Ox} {R : Room} {cc : ByteArray} {nL : Nat} {g : Gg} {pc : Nat} {lv : List (Option Value)} {st : List Value} {off : Int} {x y tgt : Nat} (hd : decode cc pc = .ok (.if_icmp .ne off, 3)) (ht : (pc : Int) + off = (tgt : Int)) (hx : x < 2147483648) (hy : y < 2147483648) (kt : x ≠ y → bX K o R cc nL g tgt lv st) (kf : x = y → bX K o R cc nL g (pc + 3) lv st) : bX K o R cc nL g pc lv (.int (zI (y : Int)) :: .int (zI (x : Int)) :: st) := fun hB => r_icmp_neN hd ht hx hy (fun hh => kt hh hB) (fun hh => kf hh hB)
theorem x_icmp_lt {K : Kx} {o : Ox} {R : Room} {cc : ByteArray} {nL : Nat} {g : Gg} {pc : Nat} {lv : List (Option Value)} {st : List Value} {x y off : Int} {tgt : Nat} (hd : decode cc pc = .ok (.if_icmp .lt off, 3)) (ht : (pc : Int) + off = (tgt : Int)) (hx : -2147483648 ≤ x ∧ x < 2147483648) (hy : -2147483648 ≤ y ∧ y < 2147483648) (kt : x < y → bX K o R cc nL g tgt lv st) (kf : y ≤ x → bX K o R cc nL g (pc + 3) lv st) : bX K o R cc nL g pc lv (.int (zI y) :: .int (zI x) :: st) := fun hB => r_icmp_lt hd ht hx hy (fun hh => kt hh hB) (fun hh => kf hh hB)
theorem x_icmp_ltN {K : Kx} {o : Ox} {R : Room} {cc : ByteArray} {nL : Nat} {g : Gg} {pc : Nat} {lv : List (Option Value)} {st : List Value} {off : Int} {x y tgt : Nat} (hd : decode cc pc = .ok (.if_icmp .lt off, 3)) (ht : (pc : Int) + off = (tgt : Int)) (hx : x < 2147483648) (hy : y < 2147483648) (kt : x < y → bX K o R cc nL g tgt lv st) (kf : y ≤ x → bX K o R cc nL g (pc + 3) lv st) : bX K o R cc nL g pc lv (.int (zI (y : Int)) :: .int (zI (x : Int)) :: st) := fun hB => r_icmp_ltN hd ht hx hy (fun hh => kt hh hB) (fun hh => kf hh hB)
theorem x_icmp_ge {K : Kx} {o : Ox} {R : Room} {cc : ByteArray} {nL : Nat} {g : Gg} {pc : Nat} {lv : List (Option Value)} {st : List Value} {x y off : Int} {tgt : Nat} (hd : decode cc pc = .ok (.if_icmp .ge off, 3)) (ht : (pc : Int) + off = (tgt : Int)) (hx : -2147483648 ≤ x ∧ x < 2147483648) (hy : -2147483648 ≤ y ∧ y < 2147483648) (kt : y ≤ x → bX K o R cc nL g tgt lv st) (kf : x < y → bX K o R cc nL g (pc + 3) lv st) : bX K o R cc nL g pc lv (.int (zI y) :: .int (zI x) :: st) := fun hB => r_icmp_ge hd ht hx hy (fun hh => kt hh hB) (fun hh => kf hh hB)
theorem x_icmp_geN {K : Kx} {o : Ox} {R : Room} {cc : ByteArray} {nL : Nat} {g : Gg} {pc : Nat} {lv : List (Option Value)} {st : List Value} {off : Int} {x y tgt : Nat} (hd : decode cc pc = .ok (.if_icmp .ge off, 3)) (ht : (pc : Int) + off = (tgt : Int)) (hx : x < 2147483648) (hy : y < 2147483648) (kt : y ≤ x → bX K o R cc nL g tgt lv st) (kf : x < y → bX K o R cc nL g (pc + 3) lv st) : bX K o R cc nL g pc lv (.int (zI (y : Int)) :: .int (zI (x : Int)) :: st) := fun hB => r_icmp_geN hd ht hx hy (fun hh => kt hh hB) (fun hh => kf hh hB)
theorem x_icmp_gt {K : Kx} {o : Ox} {R : Room} {cc : ByteArray} {nL : Nat} {g : Gg} {pc : Nat} {lv : List (Option Value)} {st : List Value} {x y off : Int} {tgt : Nat} (hd : decode cc pc = .ok (.if_icmp .gt off, 3)) (ht : (pc : Int) + off = (tgt : Int)) (hx : -2147483648 ≤ x ∧ x < 2147483648) (hy : -2147483648 ≤ y ∧ y < 2147483648) (kt : y < x → bX K o R cc nL g tgt lv st) (kf : x ≤ y → bX K o R cc nL g (pc + 3) lv st) : bX K o R cc nL g pc lv (.int (zI y) :: .int (zI x) :: st) := fun hB => r_icmp_gt hd ht hx hy (fun hh => kt hh hB) (fun hh => kf hh hB)
theorem x_icmp_gtN {K : Kx} {o : Ox} {R : Room} {cc : ByteArray} {nL : Nat} {g : Gg} {pc : Nat} {lv : List (Option Value)} {st : List Value} {off : Int} {x y tgt : Nat} (hd : decode cc pc = .ok (.if_icmp .gt off, 3)) (ht : (pc : Int) + off = (tgt : Int)) (hx : x < 2147483648) (hy : y < 2147483648) (kt : y < x → bX K o R cc nL g tgt lv st) (kf : x ≤ y → bX K o R cc nL g (pc + 3) lv st) : bX K o R cc nL g pc lv (.int (zI (y : Int)) :: .int (zI (x : Int)) :: st) := fun hB => r_icmp_gtN hd ht hx hy (fun hh => kt hh hB) (fun hh => kf hh hB)
theorem x_icmp_le {K : Kx} {o : Ox} {R : Room} {cc : ByteArray} {nL : Nat} {g : Gg} {pc : Nat} {lv : List (Option Value)} {st : List Value} {x y off : Int} {tgt : Nat} (hd : decode cc pc = .ok (.if_icmp .le off, 3)) (ht : (pc : Int) + off = (tgt : Int)) (hx : -2147483648 ≤ x ∧ x < 2147483648) (hy : -2147483648 ≤ y ∧ y < 2147483648) (kt : x ≤ y → bX K o R cc nL g tgt lv st) (kf : y < x → bX K o R cc nL g (pc + 3) lv st) : bX K o R cc nL g pc lv (.int (zI y) :: .int (zI x) :: st) := fun hB => r_icmp_le hd ht hx hy (fun hh => kt hh hB) (fun hh => kf hh hB)
theorem x_icmp_leN {K : Kx} {o : Ox} {R : Room} {cc : ByteArray} {nL : Nat} {g : Gg} {pc : Nat} {lv : List (Option Value)} {st : List Value} {off : Int} {x y tgt : Nat} (hd : decode cc pc = .ok (.if_icmp .le off, 3)) (ht : (pc : Int) + off = (tgt : Int)) (hx : x < 2147483648) (hy : y < 2147483648) (kt : x ≤ y → bX K o R cc nL g tgt lv st) (kf : y < x → bX K o R cc nL g (pc + 3) lv st) : bX K o R cc nL g pc lv (.int (zI (y : Int)) :: .int (zI (x : Int)) :: st) := fun hB => r_icmp_leN hd ht hx hy (fun hh => kt hh hB) (fun hh => kf hh hB)
theorem x_if_eq {K : Kx} {o : Ox} {R : Room} {cc : ByteArray} {nL : Nat} {g : Gg} {pc : Nat} {lv : List (Option Value)} {st : List Value} {x off : Int} {tgt : Nat} (hd : decode cc pc = .ok (.ifCond .eq off, 3)) (ht : (pc : Int) + off = (tgt : Int)) (hx : -2147483648 ≤ x ∧ x < 2147483648) (kt : x = 0 → bX K o R cc nL g tgt lv st) (kf : x ≠ 0 → bX K o R cc nL g (pc + 3) lv st) : bX K o R cc nL g pc lv (.int (zI x) :: st) := fun hB => r_if_eq hd ht hx (fun hh => kt hh hB) (fun hh => kf hh hB)
theorem x_if_ne {K : Kx} {o : Ox} {R : Room} {cc : ByteArray} {nL : Nat} {g : Gg} {pc : Nat} {lv : List (Option Value)} {st : List Value} {x off : Int} {tgt : Nat} (hd : decode cc pc = .ok (.ifCond .ne off, 3)) (ht : (pc : Int) + off = (tgt : Int)) (hx : -2147483648 ≤ x ∧ x < 2147483648) (kt : x ≠ 0 → bX K o R cc nL g tgt lv st) (kf : x = 0 → bX K o R cc nL g (pc + 3) lv st) : bX K o R cc nL g pc lv (.int (zI x) :: st) := fun hB => r_if_ne hd ht hx (fun hh => kt hh hB) (fun hh => kf hh hB)
theorem x_if_lt {K : Kx} {o : Ox} {R : Room} {cc : ByteArray} {nL : Nat} {g : Gg} {pc : Nat} {lv : List (Option Value)} {st : List Value} {x off : Int} {tgt : Nat} (hd : decode cc pc = .ok (.ifCond .lt off, 3)) (ht : (pc : Int) + off = (tgt : Int)) (hx : -2147483648 ≤ x ∧ x < 2147483648) (kt : x < 0 → bX K o R cc nL g tgt lv st) (kf : 0 ≤ x → bX K o R cc nL g (pc + 3) lv st) : bX K o R cc nL g pc lv (.int (zI x) :: st) := fun hB => r_if_lt hd ht hx (fun hh => kt hh hB) (fun hh => kf hh hB)
theorem x_if_ge {K : Kx} {o : Ox} {R : Room} {cc : ByteArray} {nL : Nat} {g : Gg} {pc : Nat} {lv : List (Option Value)} {st : List Value} {x off : Int} {tgt : Nat} (hd : decode cc pc = .ok (.ifCond .ge off, 3)) (ht : (pc : Int) + off = (tgt : Int)) (hx : -2147483648 ≤ x ∧ x < 2147483648) (kt : 0 ≤ x → bX K o R cc nL g tgt lv st) (kf : x < 0 → bX K o R cc nL g (pc + 3) lv st) : bX K o R cc nL g pc lv (.int (zI x) :: st) := fun hB => r_if_ge hd ht hx (fun hh => kt hh hB) (fun hh => kf hh hB)
theorem x_if_gt {K : Kx} {o : Ox} {R : Room} {cc : ByteArray} {nL : Nat} {g : Gg} {pc : Nat} {lv : List (Option Value)} {st : List Value} {x off : Int} {tgt : Nat} (hd : decode cc pc = .ok (.ifCond .gt off, 3)) (ht : (pc : Int) + off = (tgt : Int)) (hx : -2147483648 ≤ x ∧ x < 2147483648) (kt : 0 < x → bX K o R cc nL g tgt lv st) (kf : x ≤ 0 → bX K o R cc nL g (pc + 3) lv st) : bX K o R cc nL g pc lv (.int (zI x) :: st) := fun hB => r_if_gt hd ht hx (fun hh => kt hh hB) (fun hh => kf hh hB)
theorem x_if_le {K : Kx} {o : Ox} {R : Room} {cc : ByteArray} {nL : Nat} {g : Gg} {pc : Nat} {lv : List (Option Value)} {st : List Value} {x off : Int} {tgt : Nat} (hd : decode cc pc = .ok (.ifCond .le off, 3)) (ht : (pc : Int) + off = (tgt : Int)) (hx : -2147483648 ≤ x ∧ x < 2147483648) (kt : x ≤ 0 → bX K o R cc nL g tgt lv st) (kf : 0 < x → bX K o R cc nL g (pc + 3) lv st) : bX K o R cc nL g pc lv (.int (zI x) :: st) := fun hB => r_if_le hd ht hx (fun hh => kt hh hB) (fun hh => kf hh hB)
theorem x_if_eqB {K : Kx} {o : Ox} {R : Room} {cc : ByteArray} {nL : Nat} {g : Gg} {pc : Nat} {lv : List (Option Value)} {st : List Value} {b : Bool} {off : Int} {tgt : Nat} (hd : decode cc pc = .ok (.ifCond .eq off, 3)) (ht : (pc : Int) + off = (tgt : Int)) (kt : b = false → bX K o R cc nL g tgt lv st) (kf : b = true → bX K o R cc nL g (pc + 3) lv st) : bX K o R cc nL g pc lv (.int (zI (bI b)) :: st) := fun hB => r_if_eqB hd ht (fun hh => kt hh hB) (fun hh => kf hh hB)
theorem x_if_neB {K : Kx} {o : Ox} {R : Room} {cc : ByteArray} {nL : Nat} {g : Gg} {pc : Nat} {lv : List (Option Value)} {st : List Value} {b : Bool} {off : Int} {tgt : Nat} (hd : decode cc pc = .ok (.ifCond .ne off, 3)) (ht : (pc : Int) + off = (tgt : Int)) (kt : b = true → bX K o R cc nL g tgt lv st) (kf : b = false → bX K o R cc nL g (pc + 3) lv st) : bX K o R cc nL g pc lv (.int (zI (bI b)) :: st) := fun hB => r_if_neB hd ht (fun hh => kt hh hB) (fun hh => kf hh hB)
theorem x_icmp_eqB {K : Kx} {o : Ox} {R : Room} {cc : ByteArray} {nL : Nat} {g : Gg} {pc : Nat} {lv : List (Option Value)} {st : List Value} {a b : Bool} {off : Int} {tgt : Nat} (hd : decode cc pc = .ok (.if_icmp .eq off, 3)) (ht : (pc : Int) + off = (tgt : Int)) (kt : a = b → bX K o R cc nL g tgt lv st) (kf : a ≠ b → bX K o R cc nL g (pc + 3) lv st) : bX K o R cc nL g pc lv (.int (zI (bI b)) :: .int (zI (bI a)) :: st) := fun hB => r_icmp_eqB hd ht (fun hh => kt hh hB) (fun hh => kf hh hB)
theorem x_icmp_neB {K : Kx} {o : Ox} {R : Room} {cc : ByteArray} {nL : Nat} {g : Gg} {pc : Nat} {lv : List (Option Value)} {st : List Value} {a b : Bool} {off : Int} {tgt : Nat} (hd : decode cc pc = .ok (.if_icmp .ne off, 3)) (ht : (pc : Int) + off = (tgt : Int)) (kt : a ≠ b → bX K o R cc nL g tgt lv st) (kf : a = b → bX K o R cc nL g (pc + 3) lv st) : bX K o R cc nL g pc lv (.int (zI (bI b)) :: .int (zI (bI a)) :: st) := fun hB => r_icmp_neB hd ht (fun hh => kt hh hB) (fun hh => kf hh hB)
theorem x_icmp_eq32 {K : Kx} {o : Ox} {R : Room} {cc : ByteArray} {nL : Nat} {g : Gg} {pc : Nat} {lv : List (Option Value)} {st : List Value} {a b : Int32} {off : Int} {tgt : Nat} (hd : decode cc pc = .ok (.if_icmp .eq off, 3)) (ht : (pc : Int) + off = (tgt : Int)) (kt : a = b → bX K o R cc nL g tgt lv st) (kf : a ≠ b → bX K o R cc nL g (pc + 3) lv st) : bX K o R cc nL g pc lv (.int b :: .int a :: st) := fun hB => r_icmp_eq32 hd ht (fun hh => kt hh hB) (fun hh => kf hh hB)
theorem x_icmp_ne32 {K : Kx} {o : Ox} {R : Room} {cc : ByteArray} {nL : Nat} {g : Gg} {pc : Nat} {lv : List (Option Value)} {st : List Value} {a b : Int32} {off : Int} {tgt : Nat} (hd : decode cc pc = .ok (.if_icmp .ne off, 3)) (ht : (pc : Int) + off = (tgt : Int)) (kt : a ≠ b → bX K o R cc nL g tgt lv st) (kf : a = b → bX K o R cc nL g (pc + 3) lv st) : bX K o R cc nL g pc lv (.int b :: .int a :: st) := fun hB => r_icmp_ne32 hd ht (fun hh => kt hh hB) (fun hh => kf hh hB)
theorem x_goto {K : Kx} {o : Ox} {R : Room} {cc : ByteArray} {nL : Nat} {g : Gg} {pc : Nat} {lv : List (Option Value)} {st : List Value} {off : Int} {tgt : Nat} (hd : decode cc pc = .ok (.goto off, 3)) (ht : (pc : Int) + off = (tgt : Int)) (k : bX K o R cc nL g tgt lv st) : bX K o R cc nL g pc lv st := fun hB => r_goto hd ht (k hB)
theorem x_tin {K : Kx} {o : Ox} {R : Room} {cc : ByteArray} {nL : Nat} {g : Gg} {pc : Nat} {lv : List (Option Value)} {st : List Value} {dflt lo hi x off : Int} {offs : Array Int} {len tgt : Nat} (hd : decode cc pc = .ok (.tableswitch dflt lo hi offs, len)) (hx : -2147483648 ≤ x ∧ x < 2147483648) (h1 : ¬ x < lo) (h2 : ¬ hi < x) (ho : offs[(x - lo).toNat]? = some off) (ht : (pc : Int) + off = (tgt : Int)) (k : bX K o R cc nL g tgt lv st) : bX K o R cc nL g pc lv (.int (zI x) :: st) := fun hB => r_tin hd hx h1 h2 ho ht (k hB)
theorem x_tout {K : Kx} {o : Ox} {R : Room} {cc : ByteArray} {nL : Nat} {g : Gg} {pc : Nat} {lv : List (Option Value)} {st : List Value} {dflt lo hi x : Int} {offs : Array Int} {len tgt : Nat} (hd : decode cc pc = .ok (.tableswitch dflt lo hi offs, len)) (hx : -2147483648 ≤ x ∧ x < 2147483648) (h1 : x < lo ∨ hi < x) (ht : (pc : Int) + dflt = (tgt : Int)) (k : bX K o R cc nL g tgt lv st) : bX K o R cc nL g pc lv (.int (zI x) :: st) := fun hB => r_tout hd hx h1 ht (k hB)
theorem x_get0 {K : Kx} {o : Ox} {R : Room} {cc : ByteArray} {nL : Nat} {g : Gg} {pc : Nat} {lv : List (Option Value)} {st : List Value} (hd : decode cc pc = .ok (.getfield 7, 3)) (k : bX K o R cc nL g (pc + 3) lv (.ref (o.2.2 0) :: st)) : bX K o R cc nL g pc lv (.ref o.2.1 :: st) := by
  intro hB
  obtain ⟨p, l, e, s, m, args, below, meth, c, Q, A, cells, slots⟩ := K
  intro S hK hA hcs H locs ls hP hD hS hl
  exact va_get (D := o.1.1) (ci := 0) (v := .ref (o.2.2 0)) (C := RX0) (T := TX0) (N := 8) S.1 S.2.1 S.2.2.2.2 in_X0 S.2.2.2.1 hK hP 0 rfl rfl 0 (by decide) (S.2.2.2.2 _ q30) (fun _ h9 => h9) rfl hd (k hB S hK hA hcs H locs ls hP hD hS hl)
theorem x_get1 {K : Kx} {o : Ox} {R : Room} {cc : ByteArray} {nL : Nat} {g : Gg} {pc : Nat} {lv : List (Option Value)} {st : List Value} (hd : decode cc pc = .ok (.getfield 13, 3)) (k : bX K o R cc nL g (pc + 3) lv (.ref (o.2.2 1) :: st)) : bX K o R cc nL g pc lv (.ref o.2.1 :: st) := by
  intro hB
  obtain ⟨p, l, e, s, m, args, below, meth, c, Q, A, cells, slots⟩ := K
  intro S hK hA hcs H locs ls hP hD hS hl
  exact va_get (D := o.1.1) (ci := 0) (v := .ref (o.2.2 1)) (C := RX0) (T := TX0) (N := 8) S.1 S.2.1 S.2.2.2.2 in_X0 S.2.2.2.1 hK hP 0 rfl rfl 1 (by decide) (S.2.2.2.2 _ q31) (fun _ h9 => h9) rfl hd (k hB S hK hA hcs H locs ls hP hD hS hl)
theorem x_get2 {K : Kx} {o : Ox} {R : Room} {cc : ByteArray} {nL : Nat} {g : Gg} {pc : Nat} {lv : List (Option Value)} {st : List Value} (hd : decode cc pc = .ok (.getfield 16, 3)) (k : bX K o R cc nL g (pc + 3) lv (.ref (o.2.2 2) :: st)) : bX K o R cc nL g pc lv (.ref o.2.1 :: st) := by
  intro hB
  obtain ⟨p, l, e, s, m, args, below, meth, c, Q, A, cells, slots⟩ := K
  intro S hK hA hcs H locs ls hP hD hS hl
  exact va_get (D := o.1.1) (ci := 0) (v := .ref (o.2.2 2)) (C := RX0) (T := TX0) (N := 8) S.1 S.2.1 S.2.2.2.2 in_X0 S.2.2.2.1 hK hP 0 rfl rfl 2 (by decide) (S.2.2.2.2 _ q32) (fun _ h9 => h9) rfl hd (k hB S hK hA hcs H locs ls hP hD hS hl)
theorem x_get3 {K : Kx} {o : Ox} {R : Room} {cc : ByteArray} {nL : Nat} {g : Gg} {pc : Nat} {lv : List (Option Value)} {st : List Value} (hd : decode cc pc = .ok (.getfield 19, 3)) (k : bX K o R cc nL g (pc + 3) lv (.ref (o.2.2 3) :: st)) : bX K o R cc nL g pc lv (.ref o.2.1 :: st) := by
  intro hB
  obtain ⟨p, l, e, s, m, args, below, meth, c, Q, A, cells, slots⟩ := K
  intro S hK hA hcs H locs ls hP hD hS hl
  exact va_get (D := o.1.1) (ci := 0) (v := .ref (o.2.2 3)) (C := RX0) (T := TX0) (N := 8) S.1 S.2.1 S.2.2.2.2 in_X0 S.2.2.2.1 hK hP 0 rfl rfl 3 (by decide) (S.2.2.2.2 _ q33) (fun _ h9 => h9) rfl hd (k hB S hK hA hcs H locs ls hP hD hS hl)
theorem x_get4 {K : Kx} {o : Ox} {R : Room} {cc : ByteArray} {nL : Nat} {g : Gg} {pc : Nat} {lv : List (Option Value)} {st : List Value} (hd : decode cc pc = .ok (.getfield 22, 3)) (k : bX K o R cc nL g (pc + 3) lv (.ref (o.2.2 4) :: st)) : bX K o R cc nL g pc lv (.ref o.2.1 :: st) := by
  intro hB
  obtain ⟨p, l, e, s, m, args, below, meth, c, Q, A, cells, slots⟩ := K
  intro S hK hA hcs H locs ls hP hD hS hl
  exact va_get (D := o.1.1) (ci := 0) (v := .ref (o.2.2 4)) (C := RX0) (T := TX0) (N := 8) S.1 S.2.1 S.2.2.2.2 in_X0 S.2.2.2.1 hK hP 0 rfl rfl 4 (by decide) (S.2.2.2.2 _ q34) (fun _ h9 => h9) rfl hd (k hB S hK hA hcs H locs ls hP hD hS hl)
theorem x_get5 {K : Kx} {o : Ox} {R : Room} {cc : ByteArray} {nL : Nat} {g : Gg} {pc : Nat} {lv : List (Option Value)} {st : List Value} (hd : decode cc pc = .ok (.getfield 25, 3)) (k : bX K o R cc nL g (pc + 3) lv (.ref (o.2.2 5) :: st)) : bX K o R cc nL g pc lv (.ref o.2.1 :: st) := by
  intro hB
  obtain ⟨p, l, e, s, m, args, below, meth, c, Q, A, cells, slots⟩ := K
  intro S hK hA hcs H locs ls hP hD hS hl
  exact va_get (D := o.1.1) (ci := 0) (v := .ref (o.2.2 5)) (C := RX0) (T := TX0) (N := 8) S.1 S.2.1 S.2.2.2.2 in_X0 S.2.2.2.1 hK hP 0 rfl rfl 5 (by decide) (S.2.2.2.2 _ q35) (fun _ h9 => h9) rfl hd (k hB S hK hA hcs H locs ls hP hD hS hl)
theorem x_get6 {K : Kx} {o : Ox} {R : Room} {cc : ByteArray} {nL : Nat} {g : Gg} {pc : Nat} {lv : List (Option Value)} {st : List Value} (hd : decode cc pc = .ok (.getfield 28, 3)) (k : bX K o R cc nL g (pc + 3) lv (.ref (o.2.2 6) :: st)) : bX K o R cc nL g pc lv (.ref o.2.1 :: st) := by
  intro hB
  obtain ⟨p, l, e, s, m, args, below, meth, c, Q, A, cells, slots⟩ := K
  intro S hK hA hcs H locs ls hP hD hS hl
  exact va_get (D := o.1.1) (ci := 0) (v := .ref (o.2.2 6)) (C := RX0) (T := TX0) (N := 8) S.1 S.2.1 S.2.2.2.2 in_X0 S.2.2.2.1 hK hP 0 rfl rfl 6 (by decide) (S.2.2.2.2 _ q36) (fun _ h9 => h9) rfl hd (k hB S hK hA hcs H locs ls hP hD hS hl)
theorem x_get7 {K : Kx} {o : Ox} {R : Room} {cc : ByteArray} {nL : Nat} {g : Gg} {pc : Nat} {lv : List (Option Value)} {st : List Value} (hd : decode cc pc = .ok (.getfield 31, 3)) (k : bX K o R cc nL g (pc + 3) lv (.ref (o.2.2 7) :: st)) : bX K o R cc nL g pc lv (.ref o.2.1 :: st) := by
  intro hB
  obtain ⟨p, l, e, s, m, args, below, meth, c, Q, A, cells, slots⟩ := K
  intro S hK hA hcs H locs ls hP hD hS hl
  exact va_get (D := o.1.1) (ci := 0) (v := .ref (o.2.2 7)) (C := RX0) (T := TX0) (N := 8) S.1 S.2.1 S.2.2.2.2 in_X0 S.2.2.2.1 hK hP 0 rfl rfl 7 (by decide) (S.2.2.2.2 _ q37) (fun _ h9 => h9) rfl hd (k hB S hK hA hcs H locs ls hP hD hS hl)
theorem x_ald0 {K : Kx} {o : Ox} {R : Room} {cc : ByteArray} {nL : Nat} {g : Gg} {pc : Nat} {lv : List (Option Value)} {st : List Value} {n : Nat} (hd : decode cc pc = .ok (.iaload, 1)) (hn : n < 5) (k : g 0 n < 2048 → bX K o R cc nL g (pc + 1) lv (.int (zI ((g 0 n : Nat) : Int)) :: st)) : bX K o R cc nL g pc lv (.int (zI (n : Int)) :: .ref (o.2.2 0) :: st) := by
  intro hB
  obtain ⟨p, l, e, s, m, args, below, meth, c, Q, A, cells, slots⟩ := K
  intro S hK hA hcs H locs ls hP hD hS hl
  refine va_iald S.1 S.2.1 hK hP 1 0 rfl rfl (zI_in hn (by decide)) hd ?_
  rw [zI_clamp (by omega)]
  exact k (hB 0 n) hB S hK hA hcs H locs ls hP hD hS hl
theorem x_ald1 {K : Kx} {o : Ox} {R : Room} {cc : ByteArray} {nL : Nat} {g : Gg} {pc : Nat} {lv : List (Option Value)} {st : List Value} {n : Nat} (hd : decode cc pc = .ok (.iaload, 1)) (hn : n < 120) (k : g 1 n < 2048 → bX K o R cc nL g (pc + 1) lv (.int (zI ((g 1 n : Nat) : Int)) :: st)) : bX K o R cc nL g pc lv (.int (zI (n : Int)) :: .ref (o.2.2 1) :: st) := by
  intro hB
  obtain ⟨p, l, e, s, m, args, below, meth, c, Q, A, cells, slots⟩ := K
  intro S hK hA hcs H locs ls hP hD hS hl
  refine va_iald S.1 S.2.1 hK hP 2 0 rfl rfl (zI_in hn (by decide)) hd ?_
  rw [zI_clamp (by omega)]
  exact k (hB 1 n) hB S hK hA hcs H locs ls hP hD hS hl
theorem x_ald2 {K : Kx} {o : Ox} {R : Room} {cc : ByteArray} {nL : Nat} {g : Gg} {pc : Nat} {lv : List (Option Value)} {st : List Value} {n : Nat} (hd : decode cc pc = .ok (.iaload, 1)) (hn : n < 120) (k : g 2 n < 2048 → bX K o R cc nL g (pc + 1) lv (.int (zI ((g 2 n : Nat) : Int)) :: st)) : bX K o R cc nL g pc lv (.int (zI (n : Int)) :: .ref (o.2.2 2) :: st) := by
  intro hB
  obtain ⟨p, l, e, s, m, args, below, meth, c, Q, A, cells, slots⟩ := K
  intro S hK hA hcs H locs ls hP hD hS hl
  refine va_iald S.1 S.2.1 hK hP 3 0 rfl rfl (zI_in hn (by decide)) hd ?_
  rw [zI_clamp (by omega)]
  exact k (hB 2 n) hB S hK hA hcs H locs ls hP hD hS hl
theorem x_ald3 {K : Kx} {o : Ox} {R : Room} {cc : ByteArray} {nL : Nat} {g : Gg} {pc : Nat} {lv : List (Option Value)} {st : List Value} {n : Nat} (hd : decode cc pc = .ok (.iaload, 1)) (hn : n < 120) (k : g 3 n < 2048 → bX K o R cc nL g (pc + 1) lv (.int (zI ((g 3 n : Nat) : Int)) :: st)) : bX K o R cc nL g pc lv (.int (zI (n : Int)) :: .ref (o.2.2 3) :: st) := by
  intro hB
  obtain ⟨p, l, e, s, m, args, below, meth, c, Q, A, cells, slots⟩ := K
  intro S hK hA hcs H locs ls hP hD hS hl
  refine va_iald S.1 S.2.1 hK hP 4 0 rfl rfl (zI_in hn (by decide)) hd ?_
  rw [zI_clamp (by omega)]
  exact k (hB 3 n) hB S hK hA hcs H locs ls hP hD hS hl
theorem x_ald4 {K : Kx} {o : Ox} {R : Room} {cc : ByteArray} {nL : Nat} {g : Gg} {pc : Nat} {lv : List (Option Value)} {st : List Value} {n : Nat} (hd : decode cc pc = .ok (.iaload, 1)) (hn : n < 120) (k : g 4 n < 2048 → bX K o R cc nL g (pc + 1) lv (.int (zI ((g 4 n : Nat) : Int)) :: st)) : bX K o R cc nL g pc lv (.int (zI (n : Int)) :: .ref (o.2.2 4) :: st) := by
  intro hB
  obtain ⟨p, l, e, s, m, args, below, meth, c, Q, A, cells, slots⟩ := K
  intro S hK hA hcs H locs ls hP hD hS hl
  refine va_iald S.1 S.2.1 hK hP 5 0 rfl rfl (zI_in hn (by decide)) hd ?_
  rw [zI_clamp (by omega)]
  exact k (hB 4 n) hB S hK hA hcs H locs ls hP hD hS hl
theorem x_ald5 {K : Kx} {o : Ox} {R : Room} {cc : ByteArray} {nL : Nat} {g : Gg} {pc : Nat} {lv : List (Option Value)} {st : List Value} {n : Nat} (hd : decode cc pc = .ok (.iaload, 1)) (hn : n < 5) (k : g 5 n < 2048 → bX K o R cc nL g (pc + 1) lv (.int (zI ((g 5 n : Nat) : Int)) :: st)) : bX K o R cc nL g pc lv (.int (zI (n : Int)) :: .ref (o.2.2 5) :: st) := by
  intro hB
  obtain ⟨p, l, e, s, m, args, below, meth, c, Q, A, cells, slots⟩ := K
  intro S hK hA hcs H locs ls hP hD hS hl
  refine va_iald S.1 S.2.1 hK hP 6 0 rfl rfl (zI_in hn (by decide)) hd ?_
  rw [zI_clamp (by omega)]
  exact k (hB 5 n) hB S hK hA hcs H locs ls hP hD hS hl
theorem x_ald6 {K : Kx} {o : Ox} {R : Room} {cc : ByteArray} {nL : Nat} {g : Gg} {pc : Nat} {lv : List (Option Value)} {st : List Value} {n : Nat} (hd : decode cc pc = .ok (.iaload, 1)) (hn : n < 1440) (k : g 6 n < 2048 → bX K o R cc nL g (pc + 1) lv (.int (zI ((g 6 n : Nat) : Int)) :: st)) : bX K o R cc nL g pc lv (.int (zI (n : Int)) :: .ref (o.2.2 6) :: st) := by
  intro hB
  obtain ⟨p, l, e, s, m, args, below, meth, c, Q, A, cells, slots⟩ := K
  intro S hK hA hcs H locs ls hP hD hS hl
  refine va_iald S.1 S.2.1 hK hP 7 0 rfl rfl (zI_in hn (by decide)) hd ?_
  rw [zI_clamp (by omega)]
  exact k (hB 6 n) hB S hK hA hcs H locs ls hP hD hS hl
theorem x_ald7 {K : Kx} {o : Ox} {R : Room} {cc : ByteArray} {nL : Nat} {g : Gg} {pc : Nat} {lv : List (Option Value)} {st : List Value} {n : Nat} (hd : decode cc pc = .ok (.iaload, 1)) (hn : n < 1440) (k : g 7 n < 2048 → bX K o R cc nL g (pc + 1) lv (.int (zI ((g 7 n : Nat) : Int)) :: st)) : bX K o R cc nL g pc lv (.int (zI (n : Int)) :: .ref (o.2.2 7) :: st) := by
  intro hB
  obtain ⟨p, l, e, s, m, args, below, meth, c, Q, A, cells, slots⟩ := K
  intro S hK hA hcs H locs ls hP hD hS hl
  refine va_iald S.1 S.2.1 hK hP 8 0 rfl rfl (zI_in hn (by decide)) hd ?_
  rw [zI_clamp (by omega)]
  exact k (hB 7 n) hB S hK hA hcs H locs ls hP hD hS hl
theorem x_ast0 {K : Kx} {o : Ox} {R : Room} {cc : ByteArray} {nL : Nat} {g : Gg} {pc : Nat} {lv : List (Option Value)} {st : List Value} {n v : Nat} (hd : decode cc pc = .ok (.iastore, 1)) (hn : n < 5) (hv : v < 2048) (k : bX K o R cc nL (up2 g 0 n v) (pc + 1) lv st) : bX K o R cc nL g pc lv (.int (zI (v : Int)) :: .int (zI (n : Int)) :: .ref (o.2.2 0) :: st) := by
  intro hB
  obtain ⟨p, l, e, s, m, args, below, meth, c, Q, A, cells, slots⟩ := K
  intro S hK hA hcs H locs ls hP hD hS hl
  refine va_iast S.1 S.2.1 hK hP hD hS 1 0 rfl rfl (zI_in hn (by decide)) hd (fun H1 locs1 hP1 hD1 hS1 => ?_)
  rw [zI_clamp (by omega), wX_set0] at hP1 hD1
  exact k (hB.up hv) S hK hA hcs H1 locs1 ls hP1 hD1 hS1 hl
theorem x_ast1 {K : Kx} {o : Ox} {R : Room} {cc : ByteArray} {nL : Nat} {g : Gg} {pc : Nat} {lv : List (Option Value)} {st : List Value} {n v : Nat} (hd : decode cc pc = .ok (.iastore, 1)) (hn : n < 120) (hv : v < 2048) (k : bX K o R cc nL (up2 g 1 n v) (pc + 1) lv st) : bX K o R cc nL g pc lv (.int (zI (v : Int)) :: .int (zI (n : Int)) :: .ref (o.2.2 1) :: st) := by
  intro hB
  obtain ⟨p, l, e, s, m, args, below, meth, c, Q, A, cells, slots⟩ := K
  intro S hK hA hcs H locs ls hP hD hS hl
  refine va_iast S.1 S.2.1 hK hP hD hS 2 0 rfl rfl (zI_in hn (by decide)) hd (fun H1 locs1 hP1 hD1 hS1 => ?_)
  rw [zI_clamp (by omega), wX_set1] at hP1 hD1
  exact k (hB.up hv) S hK hA hcs H1 locs1 ls hP1 hD1 hS1 hl
theorem x_ast2 {K : Kx} {o : Ox} {R : Room} {cc : ByteArray} {nL : Nat} {g : Gg} {pc : Nat} {lv : List (Option Value)} {st : List Value} {n v : Nat} (hd : decode cc pc = .ok (.iastore, 1)) (hn : n < 120) (hv : v < 2048) (k : bX K o R cc nL (up2 g 2 n v) (pc + 1) lv st) : bX K o R cc nL g pc lv (.int (zI (v : Int)) :: .int (zI (n : Int)) :: .ref (o.2.2 2) :: st) := by
  intro hB
  obtain ⟨p, l, e, s, m, args, below, meth, c, Q, A, cells, slots⟩ := K
  intro S hK hA hcs H locs ls hP hD hS hl
  refine va_iast S.1 S.2.1 hK hP hD hS 3 0 rfl rfl (zI_in hn (by decide)) hd (fun H1 locs1 hP1 hD1 hS1 => ?_)
  rw [zI_clamp (by omega), wX_set2] at hP1 hD1
  exact k (hB.up hv) S hK hA hcs H1 locs1 ls hP1 hD1 hS1 hl
theorem x_ast3 {K : Kx} {o : Ox} {R : Room} {cc : ByteArray} {nL : Nat} {g : Gg} {pc : Nat} {lv : List (Option Value)} {st : List Value} {n v : Nat} (hd : decode cc pc = .ok (.iastore, 1)) (hn : n < 120) (hv : v < 2048) (k : bX K o R cc nL (up2 g 3 n v) (pc + 1) lv st) : bX K o R cc nL g pc lv (.int (zI (v : Int)) :: .int (zI (n : Int)) :: .ref (o.2.2 3) :: st) := by
  intro hB
  obtain ⟨p, l, e, s, m, args, below, meth, c, Q, A, cells, slots⟩ := K
  intro S hK hA hcs H locs ls hP hD hS hl
  refine va_iast S.1 S.2.1 hK hP hD hS 4 0 rfl rfl (zI_in hn (by decide)) hd (fun H1 locs1 hP1 hD1 hS1 => ?_)
  rw [zI_clamp (by omega), wX_set3] at hP1 hD1
  exact k (hB.up hv) S hK hA hcs H1 locs1 ls hP1 hD1 hS1 hl
theorem x_ast4 {K : Kx} {o : Ox} {R : Room} {cc : ByteArray} {nL : Nat} {g : Gg} {pc : Nat} {lv : List (Option Value)} {st : List Value} {n v : Nat} (hd : decode cc pc = .ok (.iastore, 1)) (hn : n < 120) (hv : v < 2048) (k : bX K o R cc nL (up2 g 4 n v) (pc + 1) lv st) : bX K o R cc nL g pc lv (.int (zI (v : Int)) :: .int (zI (n : Int)) :: .ref (o.2.2 4) :: st) := by
  intro hB
  obtain ⟨p, l, e, s, m, args, below, meth, c, Q, A, cells, slots⟩ := K
  intro S hK hA hcs H locs ls hP hD hS hl
  refine va_iast S.1 S.2.1 hK hP hD hS 5 0 rfl rfl (zI_in hn (by decide)) hd (fun H1 locs1 hP1 hD1 hS1 => ?_)
  rw [zI_clamp (by omega), wX_set4] at hP1 hD1
  exact k (hB.up hv) S hK hA hcs H1 locs1 ls hP1 hD1 hS1 hl
theorem x_ast5 {K : Kx} {o : Ox} {R : Room} {cc : ByteArray} {nL : Nat} {g : Gg} {pc : Nat} {lv : List (Option Value)} {st : List Value} {n v : Nat} (hd : decode cc pc = .ok (.iastore, 1)) (hn : n < 5) (hv : v < 2048) (k : bX K o R cc nL (up2 g 5 n v) (pc + 1) lv st) : bX K o R cc nL g pc lv (.int (zI (v : Int)) :: .int (zI (n : Int)) :: .ref (o.2.2 5) :: st) := by
  intro hB
  obtain ⟨p, l, e, s, m, args, below, meth, c, Q, A, cells, slots⟩ := K
  intro S hK hA hcs H locs ls hP hD hS hl
  refine va_iast S.1 S.2.1 hK hP hD hS 6 0 rfl rfl (zI_in hn (by decide)) hd (fun H1 locs1 hP1 hD1 hS1 => ?_)
  rw [zI_clamp (by omega), wX_set5] at hP1 hD1
  exact k (hB.up hv) S hK hA hcs H1 locs1 ls hP1 hD1 hS1 hl
theorem x_ast6 {K : Kx} {o : Ox} {R : Room} {cc : ByteArray} {nL : Nat} {g : Gg} {pc : Nat} {lv : List (Option Value)} {st : List Value} {n v : Nat} (hd : decode cc pc = .ok (.iastore, 1)) (hn : n < 1440) (hv : v < 2048) (k : bX K o R cc nL (up2 g 6 n v) (pc + 1) lv st) : bX K o R cc nL g pc lv (.int (zI (v : Int)) :: .int (zI (n : Int)) :: .ref (o.2.2 6) :: st) := by
  intro hB
  obtain ⟨p, l, e, s, m, args, below, meth, c, Q, A, cells, slots⟩ := K
  intro S hK hA hcs H locs ls hP hD hS hl
  refine va_iast S.1 S.2.1 hK hP hD hS 7 0 rfl rfl (zI_in hn (by decide)) hd (fun H1 locs1 hP1 hD1 hS1 => ?_)
  rw [zI_clamp (by omega), wX_set6] at hP1 hD1
  exact k (hB.up hv) S hK hA hcs H1 locs1 ls hP1 hD1 hS1 hl
theorem x_ast7 {K : Kx} {o : Ox} {R : Room} {cc : ByteArray} {nL : Nat} {g : Gg} {pc : Nat} {lv : List (Option Value)} {st : List Value} {n v : Nat} (hd : decode cc pc = .ok (.iastore, 1)) (hn : n < 1440) (hv : v < 2048) (k : bX K o R cc nL (up2 g 7 n v) (pc + 1) lv st) : bX K o R cc nL g pc lv (.int (zI (v : Int)) :: .int (zI (n : Int)) :: .ref (o.2.2 7) :: st) := by
  intro hB
  obtain ⟨p, l, e, s, m, args, below, meth, c, Q, A, cells, slots⟩ := K
  intro S hK hA hcs H locs ls hP hD hS hl
  refine va_iast S.1 S.2.1 hK hP hD hS 8 0 rfl rfl (zI_in hn (by decide)) hd (fun H1 locs1 hP1 hD1 hS1 => ?_)
  rw [zI_clamp (by omega), wX_set7] at hP1 hD1
  exact k (hB.up hv) S hK hA hcs H1 locs1 ls hP1 hD1 hS1 hl
-- contracts of BandRegion's methods: xV (no answer, numbers change), xI (an answer, nothing changes), xC (an answer, numbers change)
def xV (y : MethodName) (cc : ByteArray) (maxL : Nat) (rm : Room) (o : Ox) (g : Gg) (As : List Value) (post : Gg → Prop) : Prop := MetV y cc maxL rm o.1 (wX o g) (.ref o.2.1 :: As) (wX o) (fun u => bdX u ∧ post u)
def xI (y : MethodName) (cc : ByteArray) (maxL : Nat) (rt : FieldType) (rm : Room) (o : Ox) (g : Gg) (As : List Value) (post : Int32 → Prop) : Prop := MetI y cc maxL rt rm o.1 (wX o g) (.ref o.2.1 :: As) (fun _ : Unit => wX o g) (fun r _ => post r)
def xC (y : MethodName) (cc : ByteArray) (maxL : Nat) (rt : FieldType) (rm : Room) (o : Ox) (g : Gg) (As : List Value) (post : Int32 → Gg → Prop) : Prop := MetI y cc maxL rt rm o.1 (wX o g) (.ref o.2.1 :: As) (wX o) (fun r u => bdX u ∧ post r u)
theorem x_metV {y : MethodName} {cc : ByteArray} {maxL : Nat} {rm : Room} {o : Ox} {g : Gg} {As : List Value} {post : Gg → Prop} {lv0 : List (Option Value)} (hy : plainName y.cls = true) (hyc : y.cls = RX0) (hB : bdX g) (hc : As.all (fun v => v.category == 1) = true) (hn : (lg_sl (.ref o.2.1 :: As)).length ≤ maxL) (hlv : ent (.ref o.2.1 :: As) maxL = lv0)
    (body : ∀ K : Kx, (∀ (u : Gg) (pc : Nat) (lv : List (Option Value)), decode cc pc = .ok (.return_, 1) → post u → bX K o rm cc maxL u pc lv []) → bX K o rm cc maxL g 0 lv0 []) : xV y cc maxL rm o g As post := by
  refine w_metV hy hyc (by simpa [Value.category] using hc) hn hlv (fun K ret => body K (fun u pc lv hd hp hBu => ret u pc lv hd ⟨hBu, hp⟩) hB)
theorem x_metI {y : MethodName} {cc : ByteArray} {maxL : Nat} {rt : FieldType} {rm : Room} {o : Ox} {g : Gg} {As : List Value} {post : Int32 → Prop} {lv0 : List (Option Value)} (hy : plainName y.cls = true) (hyc : y.cls = RX0) (hB : bdX g) (hc : As.all (fun v => v.category == 1) = true) (hn : (lg_sl (.ref o.2.1 :: As)).length ≤ maxL) (hlv : ent (.ref o.2.1 :: As) maxL = lv0) (hz : ∀ r, post r → narrow rt (.int r) = .int r)
    (body : ∀ K : Kx, (∀ (r : Int32) (pc : Nat) (lv : List (Option Value)), decode cc pc = .ok (.ireturn, 1) → post r → bX K o rm cc maxL g pc lv [.int r]) → bX K o rm cc maxL g 0 lv0 []) : xI y cc maxL rt rm o g As post := by
  refine w_metI hy hyc (by simpa [Value.category] using hc) hn hlv (fun r _ h => hz r h) (fun K ret => body K (fun r pc lv hd hp hBu => ret r () pc lv hd hp) hB)
theorem x_metC {y : MethodName} {cc : ByteArray} {maxL : Nat} {rt : FieldType} {rm : Room} {o : Ox} {g : Gg} {As : List Value} {post : Int32 → Gg → Prop} {lv0 : List (Option Value)} (hy : plainName y.cls = true) (hyc : y.cls = RX0) (hB : bdX g) (hc : As.all (fun v => v.category == 1) = true) (hn : (lg_sl (.ref o.2.1 :: As)).length ≤ maxL) (hlv : ent (.ref o.2.1 :: As) maxL = lv0) (hz : ∀ r u, post r u → narrow rt (.int r) = .int r)
    (body : ∀ K : Kx, (∀ (r : Int32) (u : Gg) (pc : Nat) (lv : List (Option Value)), decode cc pc = .ok (.ireturn, 1) → post r u → bX K o rm cc maxL u pc lv [.int r]) → bX K o rm cc maxL g 0 lv0 []) : xC y cc maxL rt rm o g As post := by
  refine w_metI hy hyc (by simpa [Value.category] using hc) hn hlv (fun r u h => hz r u h.2) (fun K ret => body K (fun r u pc lv hd hp hBu => ret r u pc lv hd ⟨hBu, hp⟩) hB)
theorem s_metI {y : MethodName} {cc : ByteArray} {maxL : Nat} {rt : FieldType} {rm : Room} {G : Gx} {own : String} {As : List Value} {post : Int32 → Prop} {lv0 : List (Option Value)} (hy : plainName y.cls = true) (hyc : y.cls = own) (hc : As.all (fun v => v.category == 1) = true) (hn : (lg_sl As).length ≤ maxL) (hlv : ent As maxL = lv0) (hz : ∀ r, post r → narrow rt (.int r) = .int r)
    (body : ∀ K : Kx, (∀ (r : Int32) (pc : Nat) (lv : List (Option Value)), decode cc pc = .ok (.ireturn, 1) → post r → bW K G rm own cc maxL [] pc lv [.int r]) → bW K G rm own cc maxL [] 0 lv0 []) : MetI y cc maxL rt rm G [] As (fun _ : Unit => []) (fun r _ => post r) := by
  refine w_metI hy hyc (by simpa using hc) hn hlv (fun r _ h => hz r h) (fun K ret => body K (fun r pc lv hd hp => ret r () pc lv hd hp))
theorem x_callV {K : Kx} {o : Ox} {R : Room} {cc : ByteArray} {nL : Nat} {g : Gg} {pc : Nat} {lv : List (Option Value)} {st st0 As : List Value} {y : MethodName} {cy : ByteArray} {maxL idx n : Nat} {rm : Room} {post : Gg → Prop} (hM : xV y cy maxL rm o g As post) (hw : GoodIn lw_all (wsV RX0 idx RX0 y (ws_ y cy maxL none))) (hcf : cfV y RX0 n) (hrm : rmOk rm R maxL) (hn : As.length = n) (hd : decode cc pc = .ok (.invokevirtual idx, 3)) (hst : st0 = As.reverse ++ .ref o.2.1 :: st) (hroom : (st.map fun v => v.category).sum ≤ 8)
    (k : ∀ u : Gg, post u → bX K o R cc nL u (pc + 3) lv st) : bX K o R cc nL g pc lv st0 := fun hB =>
  w_callV (q0 := 0) (ci := 0) (wr := []) hM hw hcf hrm hn hd hst hroom rfl rfl rfl [0, 1, 2, 3, 4, 5, 6, 7, 8] [] rfl rfl rfl (by decide) rfl (by intro i hi; cases hi) (fun u hp => k u hp.2 hp.1)
theorem x_callI {K : Kx} {o : Ox} {R : Room} {cc : ByteArray} {nL : Nat} {g : Gg} {pc : Nat} {lv : List (Option Value)} {st st0 As : List Value} {y : MethodName} {cy : ByteArray} {maxL idx n : Nat} {rm : Room} {rt : FieldType} {post : Int32 → Prop} (hM : xI y cy maxL rt rm o g As post) (hw : GoodIn lw_all (wsV RX0 idx RX0 y (ws_ y cy maxL (some rt)))) (hcf : cfV y RX0 n) (hrm : rmOk rm R maxL) (hn : As.length = n) (hd : decode cc pc = .ok (.invokevirtual idx, 3)) (hst : st0 = As.reverse ++ .ref o.2.1 :: st) (hroom : (st.map fun v => v.category).sum ≤ 8)
    (k : ∀ r : Int32, post r → bX K o R cc nL g (pc + 3) lv (.int r :: st)) : bX K o R cc nL g pc lv st0 := fun hB =>
  w_callI (q0 := 0) (ci := 0) (wr := []) hM hw hcf hrm hn hd hst hroom rfl rfl rfl [0, 1, 2, 3, 4, 5, 6, 7, 8] [] rfl rfl rfl (by decide) rfl (by intro i hi; cases hi) (fun r _ hp => k r hp hB)
theorem x_callC {K : Kx} {o : Ox} {R : Room} {cc : ByteArray} {nL : Nat} {g : Gg} {pc : Nat} {lv : List (Option Value)} {st st0 As : List Value} {y : MethodName} {cy : ByteArray} {maxL idx n : Nat} {rm : Room} {rt : FieldType} {post : Int32 → Gg → Prop} (hM : xC y cy maxL rt rm o g As post) (hw : GoodIn lw_all (wsV RX0 idx RX0 y (ws_ y cy maxL (some rt)))) (hcf : cfV y RX0 n) (hrm : rmOk rm R maxL) (hn : As.length = n) (hd : decode cc pc = .ok (.invokevirtual idx, 3)) (hst : st0 = As.reverse ++ .ref o.2.1 :: st) (hroom : (st.map fun v => v.category).sum ≤ 8)
    (k : ∀ (r : Int32) (u : Gg), post r u → bX K o R cc nL u (pc + 3) lv (.int r :: st)) : bX K o R cc nL g pc lv st0 := fun hB =>
  w_callI (q0 := 0) (ci := 0) (wr := []) hM hw hcf hrm hn hd hst hroom rfl rfl rfl [0, 1, 2, 3, 4, 5, 6, 7, 8] [] rfl rfl rfl (by decide) rfl (by intro i hi; cases hi) (fun r u hp => k r u hp.2 hp.1)
theorem x_callS {K : Kx} {o : Ox} {R : Room} {cc : ByteArray} {nL : Nat} {g : Gg} {pc : Nat} {lv : List (Option Value)} {st st0 As : List Value} {y : MethodName} {cy : ByteArray} {maxL idx n : Nat} {rm : Room} {rt : FieldType} {post : Int32 → Prop} (hM : MetI y cy maxL rt rm o.1 [] As (fun _ : Unit => []) (fun r _ => post r)) (hw : GoodIn lw_all (va_wsS RX0 idx y (ws_ y cy maxL (some rt)))) (hcf : cfV y y.cls n) (hrm : rmOk rm R maxL) (hn : As.length = n) (hd : decode cc pc = .ok (.invokestatic idx, 3)) (hst : st0 = As.reverse ++ st) (hroom : (st.map fun v => v.category).sum ≤ 8)
    (k : ∀ (r : Int32), post r → bX K o R cc nL g (pc + 3) lv (.int r :: st)) : bX K o R cc nL g pc lv st0 := fun hB =>
  w_callS hM hw hcf hrm hn hd hst hroom (fun r hp => k r hp hB)
end
section
set_option maxRecDepth 100000
def rmA : Room := { frames := 0, cells := 0, slots := 0, locals := 0 }
def rmB : Room := { frames := 1, cells := 0, slots := 0, locals := 30 }
def rmC : Room := { frames := 2, cells := 0, slots := 0, locals := 70 }
def rmD : Room := { frames := 3, cells := 0, slots := 0, locals := 110 }
theorem gw_X0_bad : GoodIn lw_all (va_wsS RX0 68 yX0_bad (ws_ yX0_bad cX0_bad 1 (some .boolean))) := lw_S q60 q61 q20 q62
theorem cf_X0_bad : cfV yX0_bad yX0_bad.cls 1 := by unfold cfV; decide +kernel
theorem gw_X0_makeBox : GoodIn lw_all (wsV RX0 72 RX0 yX0_makeBox (ws_ yX0_makeBox cX0_makeBox 7 none)) := lw_V q63 q65 qs0 q20 q66
theorem cf_X0_makeBox : cfV yX0_makeBox RX0 2 := by unfold cfV; decide +kernel
theorem gw_X0_start : GoodIn lw_all (wsV RX0 38 RX0 yX0_start (ws_ yX0_start cX0_start 2 none)) := lw_V q67 q69 qs1 q20 q70
theorem cf_X0_start : cfV yX0_start RX0 1 := by unfold cfV; decide +kernel
theorem gw_X0_addRun : GoodIn lw_all (wsV RX0 65 RX0 yX0_addRun (ws_ yX0_addRun cX0_addRun 6 none)) := lw_V q71 q73 qs2 q20 q74
theorem cf_X0_addRun : cfV yX0_addRun RX0 4 := by unfold cfV; decide +kernel
theorem gw_X0_endBand : GoodIn lw_all (wsV RX0 57 RX0 yX0_endBand (ws_ yX0_endBand cX0_endBand 8 none)) := lw_V q75 q77 qs3 q20 q78
theorem cf_X0_endBand : cfV yX0_endBand RX0 4 := by unfold cfV; decide +kernel
theorem gw_X0_equalRuns : GoodIn lw_all (wsV RX0 34 RX0 yX0_equalRuns (ws_ yX0_equalRuns cX0_equalRuns 5 (some .boolean))) := lw_V q79 q81 qs4 q20 q82
theorem cf_X0_equalRuns : cfV yX0_equalRuns RX0 3 := by unfold cfV; decide +kernel
theorem gw_X0_merge : GoodIn lw_all (wsV RX0 76 RX0 yX0_merge (ws_ yX0_merge cX0_merge 14 none)) := lw_V q83 q85 qs5 q20 q86
theorem cf_X0_merge : cfV yX0_merge RX0 3 := by unfold cfV; decide +kernel
theorem gw_X0_bandAt : GoodIn lw_all (wsV RX0 42 RX0 yX0_bandAt (ws_ yX0_bandAt cX0_bandAt 4 (some .int))) := lw_V q87 q89 qs6 q20 q90
theorem cf_X0_bandAt : cfV yX0_bandAt RX0 2 := by unfold cfV; decide +kernel
theorem gw_X0_changeAfter : GoodIn lw_all (wsV RX0 46 RX0 yX0_changeAfter (ws_ yX0_changeAfter cX0_changeAfter 5 (some .int))) := lw_V q91 q93 qs7 q20 q94
theorem cf_X0_changeAfter : cfV yX0_changeAfter RX0 3 := by unfold cfV; decide +kernel
theorem gw_X0_covering : GoodIn lw_all (wsV RX0 50 RX0 yX0_covering (ws_ yX0_covering cX0_covering 5 (some .int))) := lw_V q95 q97 qs8 q20 q98
theorem cf_X0_covering : cfV yX0_covering RX0 3 := by unfold cfV; decide +kernel
theorem gw_X0_mergeRuns : GoodIn lw_all (wsV RX0 53 RX0 yX0_mergeRuns (ws_ yX0_mergeRuns cX0_mergeRuns 19 none)) := lw_V q99 q101 qs9 q20 q102
theorem cf_X0_mergeRuns : cfV yX0_mergeRuns RX0 5 := by unfold cfV; decide +kernel
theorem gw_X0_wanted : GoodIn lw_all (va_wsS RX0 61 yX0_wanted (ws_ yX0_wanted cX0_wanted 3 (some .boolean))) := lw_S q103 q104 q20 q105
theorem cf_X0_wanted : cfV yX0_wanted yX0_wanted.cls 3 := by unfold cfV; decide +kernel
theorem gw_X0_keep : GoodIn lw_all (wsV RX0 80 RX0 yX0_keep (ws_ yX0_keep cX0_keep 3 none)) := lw_V q106 q108 qs10 q20 q109
theorem cf_X0_keep : cfV yX0_keep RX0 1 := by unfold cfV; decide +kernel
theorem gw_X0_cells : GoodIn lw_all (wsV RX0 83 RX0 yX0_cells (ws_ yX0_cells cX0_cells 8 (some .int))) := lw_V q110 q112 qs11 q20 q113
theorem cf_X0_cells : cfV yX0_cells RX0 1 := by unfold cfV; decide +kernel
theorem gw_X0_clampMove : GoodIn lw_all (va_wsS RX0 87 yX0_clampMove (ws_ yX0_clampMove cX0_clampMove 1 (some .int))) := lw_S q122 q123 q20 q124
theorem cf_X0_clampMove : cfV yX0_clampMove yX0_clampMove.cls 1 := by unfold cfV; decide +kernel
theorem gw_X0_moveBand : GoodIn lw_all (wsV RX0 90 RX0 yX0_moveBand (ws_ yX0_moveBand cX0_moveBand 11 none)) := lw_V q125 q127 qs12 q20 q128
theorem cf_X0_moveBand : cfV yX0_moveBand RX0 5 := by unfold cfV; decide +kernel
theorem gw_X0_packed : GoodIn lw_all (va_wsS RX0 94 yX0_packed (ws_ yX0_packed cX0_packed 4 (some .int))) := lw_S q149 q150 q20 q151
theorem cf_X0_packed : cfV yX0_packed yX0_packed.cls 4 := by unfold cfV; decide +kernel
theorem gw_X1_bad : GoodIn lw_all (wsV RX1 16 RX1 yX1_bad (ws_ yX1_bad cX1_bad 2 (some .boolean))) := lw_V q183 q185 qs13 q21 q186
theorem cf_X1_bad : cfV yX1_bad RX1 1 := by unfold cfV; decide +kernel
theorem gw_X1_inBox : GoodIn lw_all (wsV RX1 20 RX1 yX1_inBox (ws_ yX1_inBox cX1_inBox 9 (some .boolean))) := lw_V q187 q189 qs14 q21 q190
theorem cf_X1_inBox : cfV yX1_inBox RX1 4 := by unfold cfV; decide +kernel
theorem gw_X1_mixed : GoodIn lw_all (wsV RX1 24 RX1 yX1_mixed (ws_ yX1_mixed cX1_mixed 4 (some .boolean))) := lw_V q191 q193 qs15 q21 q194
theorem cf_X1_mixed : cfV yX1_mixed RX1 3 := by unfold cfV; decide +kernel
theorem gw_X1_area : GoodIn lw_all (wsV RX1 28 RX1 yX1_area (ws_ yX1_area cX1_area 4 (some .int))) := lw_V q195 q196 q197 q21 q198
theorem cf_X1_area : cfV yX1_area RX1 1 := by unfold cfV; decide +kernel
theorem gw_X1_begins : GoodIn lw_all (wsV RX1 39 RX1 yX1_begins (ws_ yX1_begins cX1_begins 4 (some .boolean))) := lw_V q220 q222 qs16 q21 q223
theorem cf_X1_begins : cfV yX1_begins RX1 3 := by unfold cfV; decide +kernel
theorem gw_X1_has : GoodIn lw_all (wsV RX1 32 RX1 yX1_has (ws_ yX1_has cX1_has 4 (some .boolean))) := lw_V q224 q213 q214 q21 q215
theorem cf_X1_has : cfV yX1_has RX1 3 := by unfold cfV; decide +kernel
theorem gw_X1_equalRows : GoodIn lw_all (wsV RX1 36 RX1 yX1_equalRows (ws_ yX1_equalRows cX1_equalRows 5 (some .boolean))) := lw_V q225 q227 qs17 q21 q228
theorem cf_X1_equalRows : cfV yX1_equalRows RX1 3 := by unfold cfV; decide +kernel
theorem gw_X1_from : GoodIn lw_all (wsV RX1 42 RX1 yX1_from (ws_ yX1_from cX1_from 7 (some .int))) := lw_V q233 q235 qs18 q21 q236
theorem cf_X1_from : cfV yX1_from RX1 3 := by unfold cfV; decide +kernel
theorem cf_X0_box : cfV yX0_box RX0 4 := by unfold cfV; decide +kernel
theorem cf_X0_combine : cfV yX0_combine RX0 4 := by unfold cfV; decide +kernel
theorem cf_X0_move : cfV yX0_move RX0 3 := by unfold cfV; decide +kernel
theorem cf_X0_invert : cfV yX0_invert RX0 1 := by unfold cfV; decide +kernel
theorem cf_X0_area : cfV yX0_area RX0 1 := by unfold cfV; decide +kernel
theorem cf_X0_has : cfV yX0_has RX0 3 := by unfold cfV; decide +kernel
theorem cf_X0_rectangles : cfV yX0_rectangles RX0 1 := by unfold cfV; decide +kernel
theorem cf_X0_rectangle : cfV yX0_rectangle RX0 2 := by unfold cfV; decide +kernel
theorem cf_X0_around : cfV yX0_around RX0 1 := by unfold cfV; decide +kernel
theorem cf_X0_same : cfV yX0_same RX0 2 := by unfold cfV; decide +kernel
theorem cf_X0_covers : cfV yX0_covers RX0 3 := by unfold cfV; decide +kernel
theorem cf_X1_box : cfV yX1_box RX1 4 := by unfold cfV; decide +kernel
theorem cf_X1_combine : cfV yX1_combine RX1 4 := by unfold cfV; decide +kernel
theorem cf_X1_move : cfV yX1_move RX1 3 := by unfold cfV; decide +kernel
theorem cf_X1_invert : cfV yX1_invert RX1 1 := by unfold cfV; decide +kernel
theorem cf_X1_rectangles : cfV yX1_rectangles RX1 1 := by unfold cfV; decide +kernel
theorem cf_X1_rectangle : cfV yX1_rectangle RX1 2 := by unfold cfV; decide +kernel
theorem cf_X1_around : cfV yX1_around RX1 1 := by unfold cfV; decide +kernel
theorem cf_X1_same : cfV yX1_same RX1 2 := by unfold cfV; decide +kernel
theorem cf_X1_covers : cfV yX1_covers RX1 3 := by unfold cfV; decide +kernel
end
section
/-! THE PLAIN PART, 1: runs and bands as lists; what the arrays hold of them -/
abbrev Rn : Type := Nat × Nat
abbrev Bn : Type := Nat × Nat × List (Nat × Nat)
def tot : List Bn → Nat
  | [] => 0
  | b :: L => b.2.2.length + tot L
theorem tot_app : ∀ (L M : List Bn), tot (L ++ M) = tot L + tot M
  | [], M => by simp [tot]
  | b :: L, M => by
    simp only [List.cons_append, tot, tot_app L M]
    omega
/-- the runs p stand from cell b on -/
def RR (g : Gg) : Nat → List Rn → Prop
  | _, [] => True
  | b, q :: p => g 6 b = q.1 ∧ g 7 b = q.2 ∧ RR g (b + 1) p
theorem RR_app {g : Gg} : ∀ (p q : List Rn) (b : Nat), RR g b (p ++ q) ↔ RR g b p ∧ RR g (b + p.length) q
  | [], q, b => by simp [RR]
  | x :: p, q, b => by
    simp only [List.cons_append, RR, RR_app p q (b + 1), List.length_cons]
    rw [show b + 1 + p.length = b + (p.length + 1) by omega]
    simp only [and_assoc]
theorem RR_cg {g g' : Gg} : ∀ (p : List Rn) (b : Nat), (∀ j, b ≤ j → j < b + p.length → g' 6 j = g 6 j ∧ g' 7 j = g 7 j) → RR g b p → RR g' b p
  | [], _, _, _ => trivial
  | x :: p, b, h, hr => by
    obtain ⟨h1, h2, h3⟩ := hr
    rw [List.length_cons] at h
    have h0 := h b (Nat.le_refl _) (by omega)
    exact ⟨h0.1.trans h1, h0.2.trans h2, RR_cg p (b + 1) (fun j a c => h j (by omega) (by omega)) h3⟩
/-- two lists of runs of one length are equal just when the cells are -/
theorem RR_eq {g : Gg} : ∀ (p q : List Rn) (a b : Nat), p.length = q.length → RR g a p → RR g b q → ((∀ i, i < p.length → g 6 (a + i) = g 6 (b + i) ∧ g 7 (a + i) = g 7 (b + i)) ↔ p = q)
  | [], [], a, b, _, _, _ => by simp
  | [], y :: q, a, b, h, _, _ => by simp at h
  | x :: p, [], a, b, h, _, _ => by simp at h
  | x :: p, y :: q, a, b, h, h1, h2 => by
    obtain ⟨a1, a2, a3⟩ := h1
    obtain ⟨b1, b2, b3⟩ := h2
    have ih := RR_eq p q (a + 1) (b + 1) (by simpa using h) a3 b3
    constructor
    · intro hh
      have h0 := hh 0 (by simp)
      simp only [Nat.add_zero, a1, a2, b1, b2] at h0
      have h1 : x = y := Prod.ext h0.1 h0.2
      have h2 : p = q := ih.mp (fun i hi => by
        have := hh (i + 1) (by rw [List.length_cons]; omega)
        rw [show a + 1 + i = a + (i + 1) by omega, show b + 1 + i = b + (i + 1) by omega]
        exact this)
      rw [h1, h2]
    · intro hh
      obtain ⟨rfl, rfl⟩ := List.cons.inj hh
      intro i hi
      cases i with
      | zero => simp only [Nat.add_zero, a1, a2, b1, b2]; exact ⟨trivial, trivial⟩
      | succ i =>
        rw [List.length_cons] at hi
        have := ih.mpr rfl i (by omega)
        rw [show a + (i + 1) = a + 1 + i by omega, show b + (i + 1) = b + 1 + i by omega]
        exact this
/-- the bands L stand from band i on, their runs from run f on -/
def RB (g : Gg) (r : Nat) : Nat → Nat → List Bn → Prop
  | _, _, [] => True
  | i, f, b :: L => g 1 (r * 24 + i) = b.1 ∧ g 2 (r * 24 + i) = b.2.1 ∧ g 3 (r * 24 + i) = f ∧ g 4 (r * 24 + i) = b.2.2.length ∧ RR g (r * 288 + f) b.2.2 ∧ RB g r (i + 1) (f + b.2.2.length) L
theorem RB_app {g : Gg} {r : Nat} : ∀ (L M : List Bn) (i f : Nat), RB g r i f (L ++ M) ↔ RB g r i f L ∧ RB g r (i + L.length) (f + tot L) M
  | [], M, i, f => by simp [RB, tot]
  | b :: L, M, i, f => by
    simp only [List.cons_append, RB, RB_app L M (i + 1) (f + b.2.2.length), List.length_cons, tot]
    rw [show i + 1 + L.length = i + (L.length + 1) by omega, show f + b.2.2.length + tot L = f + (b.2.2.length + tot L) by omega]
    simp only [and_assoc]
theorem RB_cg {g g' : Gg} {r : Nat} : ∀ (L : List Bn) (i f : Nat), (∀ k j, 1 ≤ k → k ≤ 4 → i ≤ j → j < i + L.length → g' k (r * 24 + j) = g k (r * 24 + j)) → (∀ j, f ≤ j → j < f + tot L → g' 6 (r * 288 + j) = g 6 (r * 288 + j) ∧ g' 7 (r * 288 + j) = g 7 (r * 288 + j)) → RB g r i f L → RB g' r i f L
  | [], _, _, _, _, _ => trivial
  | b :: L, i, f, hk, hj, hr => by
    obtain ⟨h1, h2, h3, h4, h5, h6⟩ := hr
    rw [List.length_cons] at hk
    simp only [tot] at hj
    refine ⟨(hk 1 i (by decide) (by decide) (Nat.le_refl _) (by omega)).trans h1, (hk 2 i (by decide) (by decide) (Nat.le_refl _) (by omega)).trans h2, (hk 3 i (by decide) (by decide) (Nat.le_refl _) (by omega)).trans h3, (hk 4 i (by decide) (by decide) (Nat.le_refl _) (by omega)).trans h4, RR_cg _ _ (fun j a c => ?_) h5, RB_cg L (i + 1) (f + b.2.2.length) (fun k j a1 a2 a3 a4 => hk k j a1 a2 (by omega) (by omega)) (fun j a c => hj j (by omega) (by omega)) h6⟩
    have e : r * 288 + (j - r * 288) = j := by omega
    have := hj (j - r * 288) (by omega) (by omega)
    rw [e] at this
    exact this
/-- region r of the arrays is the same in both -/
def AG (g g' : Gg) (r : Nat) : Prop := g' 0 r = g 0 r ∧ g' 5 r = g 5 r ∧ (∀ k i, 1 ≤ k → k ≤ 4 → i < 24 → g' k (r * 24 + i) = g k (r * 24 + i)) ∧ ∀ k j, 6 ≤ k → k ≤ 7 → j < 288 → g' k (r * 288 + j) = g k (r * 288 + j)
theorem AG.rf {g : Gg} {r : Nat} : AG g g r := ⟨rfl, rfl, fun _ _ _ _ _ => rfl, fun _ _ _ _ _ => rfl⟩
theorem AG.tr {g g' g'' : Gg} {r : Nat} (h1 : AG g g' r) (h2 : AG g' g'' r) : AG g g'' r := ⟨h2.1.trans h1.1, h2.2.1.trans h1.2.1, fun k i a b c => (h2.2.2.1 k i a b c).trans (h1.2.2.1 k i a b c), fun k i a b c => (h2.2.2.2 k i a b c).trans (h1.2.2.2 k i a b c)⟩
theorem AG.up {g : Gg} {q k n v : Nat} (h0 : k = 0 ∨ k = 5 → n ≠ q) (h1 : 1 ≤ k → k ≤ 4 → ¬ (q * 24 ≤ n ∧ n < q * 24 + 24)) (h6 : 6 ≤ k → k ≤ 7 → ¬ (q * 288 ≤ n ∧ n < q * 288 + 288)) : AG g (up2 g k n v) q := by
  refine ⟨if_neg ?_, if_neg ?_, fun a i ha hb hi => if_neg ?_, fun a j ha hb hj => if_neg ?_⟩
  · rintro ⟨e1, e2⟩
    exact h0 (Or.inl e1.symm) e2.symm
  · rintro ⟨e1, e2⟩
    exact h0 (Or.inr e1.symm) e2.symm
  · rintro ⟨e1, e2⟩
    exact h1 (by omega) (by omega) (by omega)
  · rintro ⟨e1, e2⟩
    exact h6 (by omega) (by omega) (by omega)
/-- region r holds the bands L, and behind them the runs p of a band that is being made -/
def Rep (g : Gg) (r : Nat) (L : List Bn) (p : List Rn) : Prop := L.length ≤ 24 ∧ tot L + p.length ≤ 288 ∧ g 0 r = L.length ∧ g 5 r = tot L + p.length ∧ RB g r 0 0 L ∧ RR g (r * 288 + tot L) p
theorem Rep.ag {g g' : Gg} {r : Nat} {L : List Bn} {p : List Rn} (h : Rep g r L p) (ha : AG g g' r) : Rep g' r L p := by
  obtain ⟨h1, h2, h3, h4, h5, h6⟩ := h
  refine ⟨h1, h2, ha.1.trans h3, ha.2.1.trans h4, RB_cg L 0 0 (fun k j a b c d => ha.2.2.1 k j a b (by omega)) (fun j c d => ⟨ha.2.2.2 6 j (by decide) (by decide) (by omega), ha.2.2.2 7 j (by decide) (by decide) (by omega)⟩) h5, RR_cg _ _ (fun j c d => ?_) h6⟩
  have e : r * 288 + (j - r * 288) = j := by omega
  have a6 := ha.2.2.2 6 (j - r * 288) (by decide) (by decide) (by omega)
  have a7 := ha.2.2.2 7 (j - r * 288) (by decide) (by decide) (by omega)
  rw [e] at a6 a7
  exact ⟨a6, a7⟩
theorem up2_s {g : Gg} {k n v : Nat} : up2 g k n v k n = v := by simp [up2]
theorem up2_k {g : Gg} {k n v a b : Nat} (h : a ≠ k) : up2 g k n v a b = g a b := by simp [up2, h]
theorem up2_n {g : Gg} {k n v a b : Nat} (h : b ≠ n) : up2 g k n v a b = g a b := by simp [up2, h]
-- ===== start =====
def stG (g : Gg) (r : Nat) : Gg := up2 (up2 g 0 r 0) 5 r 0
theorem stG_rep (g : Gg) (r : Nat) : Rep (stG g r) r [] [] := by
  refine ⟨by decide, by decide, ?_, ?_, trivial, trivial⟩
  · unfold stG
    rw [up2_k (by decide), up2_s]
    rfl
  · unfold stG
    rw [up2_s]
    rfl
theorem stG_ag (g : Gg) {r q : Nat} (h : q ≠ r) : AG g (stG g r) q :=
  (AG.up (k := 0) (fun _ => h.symm) (fun a b => absurd a (by decide)) (fun a b => absurd a (by decide))).tr (AG.up (k := 5) (fun _ => h.symm) (fun a b => absurd b (by decide)) (fun a b => absurd a (by decide)))
-- ===== a run added =====
def pushR (p : List Rn) (l e : Nat) : List Rn := match p.getLast? with
  | none => [(l, e)]
  | some q => if l ≤ q.2 + 1 then p.dropLast ++ [(q.1, e)] else p ++ [(l, e)]
theorem pushR_nil (l e : Nat) : pushR [] l e = [(l, e)] := rfl
theorem pushR_last (p : List Rn) (q : Rn) (l e : Nat) : pushR (p ++ [q]) l e = if l ≤ q.2 + 1 then p ++ [(q.1, e)] else (p ++ [q]) ++ [(l, e)] := by
  simp [pushR]
theorem snoc_cases {α : Type} (p : List α) : p = [] ∨ ∃ (p0 : List α) (q : α), p = p0 ++ [q] := by
  rcases List.eq_nil_or_concat p with h | ⟨p0, q, h⟩
  · exact Or.inl h
  · exact Or.inr ⟨p0, q, by simpa using h⟩
def addR (g : Gg) (r f l e : Nat) : Gg := if f < g 5 r ∧ l ≤ g 7 (r * 288 + g 5 r - 1) + 1 then up2 g 7 (r * 288 + g 5 r - 1) e else if 288 ≤ g 5 r then g else up2 (up2 (up2 g 6 (r * 288 + g 5 r) l) 7 (r * 288 + g 5 r) e) 5 r (g 5 r + 1)
theorem addR_ag {g : Gg} {r f l e q : Nat} (hq : q ≠ r) (h1 : g 5 r ≤ 288) : AG g (addR g r f l e) q := by
  unfold addR
  split
  · rename_i hh
    exact AG.up (fun a => by omega) (fun _ b => absurd b (by decide)) (fun _ _ => by omega)
  · split
    · exact AG.rf
    · refine ((AG.up ?_ ?_ ?_).tr (AG.up ?_ ?_ ?_)).tr (AG.up ?_ ?_ ?_)
      · intro a; omega
      · intro _ b; exact absurd b (by decide)
      · intro _ _; omega
      · intro a; omega
      · intro _ b; exact absurd b (by decide)
      · intro _ _; omega
      · intro _; exact hq.symm
      · intro _ b; exact absurd b (by decide)
      · intro a; exact absurd a (by decide)
theorem addR_rep {g : Gg} {r l e : Nat} {L : List Bn} {p : List Rn} (h : Rep g r L p) (hlen : tot L + (pushR p l e).length ≤ 288) : Rep (addR g r (tot L) l e) r L (pushR p l e) := by
  obtain ⟨h1, h2, h3, h4, h5, h6⟩ := h
  have hnew : tot L + p.length < 288 → ¬ (tot L < g 5 r ∧ l ≤ g 7 (r * 288 + g 5 r - 1) + 1) → Rep (addR g r (tot L) l e) r L (p ++ [(l, e)]) := by
    intro hl hno
    have e0 : addR g r (tot L) l e = up2 (up2 (up2 g 6 (r * 288 + g 5 r) l) 7 (r * 288 + g 5 r) e) 5 r (g 5 r + 1) := by
      unfold addR
      rw [if_neg hno, if_neg (by omega)]
    rw [e0]
    refine ⟨h1, by rw [List.length_append, List.length_singleton]; omega, ?_, ?_, RB_cg L 0 0 ?_ ?_ h5, ?_⟩
    · rw [up2_k (by decide), up2_k (by decide), up2_k (by decide)]
      exact h3
    · rw [up2_s, List.length_append, List.length_singleton, h4]
      omega
    · intro k j a b c d
      rw [up2_k (by omega), up2_k (by omega), up2_k (by omega)]
    · intro j c d
      constructor
      · rw [up2_k (by decide), up2_k (by decide), up2_n (by omega)]
      · rw [up2_k (by decide), up2_n (by omega), up2_k (by decide)]
    · rw [RR_app]
      refine ⟨RR_cg _ _ (fun j c d => ?_) h6, ?_, ?_, trivial⟩
      · constructor
        · rw [up2_k (by decide), up2_k (by decide), up2_n (by omega)]
        · rw [up2_k (by decide), up2_n (by omega), up2_k (by decide)]
      · rw [up2_k (by decide), up2_k (by decide), show r * 288 + tot L + p.length = r * 288 + g 5 r by omega, up2_s]
      · rw [up2_k (by decide), show r * 288 + tot L + p.length = r * 288 + g 5 r by omega, up2_s]
  rcases snoc_cases p with rfl | ⟨p0, q, rfl⟩
  · rw [pushR_nil] at hlen ⊢
    rw [List.length_nil] at h4
    rw [List.length_singleton] at hlen
    exact hnew (by rw [List.length_nil]; omega) (fun hh => by omega)
  · rw [pushR_last] at hlen ⊢
    rw [List.length_append, List.length_singleton] at h2 h4
    rw [RR_app] at h6
    obtain ⟨h7, h8, h9, -⟩ := h6
    have hi : r * 288 + g 5 r - 1 = r * 288 + tot L + p0.length := by omega
    by_cases hm : l ≤ q.2 + 1
    · rw [if_pos hm] at hlen ⊢
      have e0 : addR g r (tot L) l e = up2 g 7 (r * 288 + tot L + p0.length) e := by
        unfold addR
        rw [if_pos ⟨by omega, by rw [hi, h9]; exact hm⟩, hi]
      rw [e0]
      refine ⟨h1, by rw [List.length_append, List.length_singleton]; omega, ?_, ?_, RB_cg L 0 0 ?_ ?_ h5, ?_⟩
      · rw [up2_k (by decide)]
        exact h3
      · rw [up2_k (by decide), List.length_append, List.length_singleton, h4]
      · intro k j a b c d
        rw [up2_k (by omega)]
      · intro j c d
        exact ⟨up2_k (by decide), up2_n (by omega)⟩
      · rw [RR_app]
        refine ⟨RR_cg _ _ (fun j c d => ⟨up2_k (by decide), up2_n (by omega)⟩) h7, ?_, up2_s, trivial⟩
        rw [up2_k (by decide)]
        exact h8
    · rw [if_neg hm] at hlen ⊢
      rw [List.length_append, List.length_append, List.length_singleton, List.length_singleton] at hlen
      refine hnew (by rw [List.length_append, List.length_singleton]; omega) ?_
      rintro ⟨-, hh⟩
      rw [hi, h9] at hh
      exact hm hh
-- ===== a band ended =====
def pushB (L : List Bn) (t e : Nat) (rs : List Rn) : List Bn := if rs = [] then L else match L.getLast? with
  | none => [(t, e, rs)]
  | some b => if b.2.1 + 1 = t ∧ b.2.2 = rs then L.dropLast ++ [(b.1, e, b.2.2)] else L ++ [(t, e, rs)]
theorem pushB_none (L : List Bn) (t e : Nat) : pushB L t e [] = L := by simp [pushB]
theorem pushB_nil (t e : Nat) {rs : List Rn} (h : rs ≠ []) : pushB [] t e rs = [(t, e, rs)] := by simp [pushB, h]
theorem pushB_last (L : List Bn) (b : Bn) (t e : Nat) {rs : List Rn} (h : rs ≠ []) : pushB (L ++ [b]) t e rs = if b.2.1 + 1 = t ∧ b.2.2 = rs then L ++ [(b.1, e, b.2.2)] else (L ++ [b]) ++ [(t, e, rs)] := by
  simp [pushB, h]
/-- the cells of the band above and of the band being made are equal -/
def eqRn (g : Gg) (a b n : Nat) : Prop := ∀ i, i < n → g 6 (a + i) = g 6 (b + i) ∧ g 7 (a + i) = g 7 (b + i)
/-- what endBand makes of the arrays -/
def EB (g : Gg) (r f t e : Nat) (g' : Gg) : Prop :=
  (g 5 r = f ∧ g' = g) ∨
  (g 5 r ≠ f ∧ (0 < g 0 r ∧ g 2 (r * 24 + g 0 r - 1) + 1 = t ∧ g 4 (r * 24 + g 0 r - 1) = g 5 r - f ∧ eqRn g (r * 288 + g 3 (r * 24 + g 0 r - 1)) (r * 288 + f) (g 5 r - f)) ∧ g' = up2 (up2 g 2 (r * 24 + g 0 r - 1) e) 5 r f) ∨
  (g 5 r ≠ f ∧ ¬ (0 < g 0 r ∧ g 2 (r * 24 + g 0 r - 1) + 1 = t ∧ g 4 (r * 24 + g 0 r - 1) = g 5 r - f ∧ eqRn g (r * 288 + g 3 (r * 24 + g 0 r - 1)) (r * 288 + f) (g 5 r - f)) ∧ (24 ≤ g 0 r ∧ g' = g ∨ g 0 r < 24 ∧ g' = up2 (up2 (up2 (up2 (up2 g 1 (r * 24 + g 0 r) t) 2 (r * 24 + g 0 r) e) 3 (r * 24 + g 0 r) f) 4 (r * 24 + g 0 r) (g 5 r - f)) 0 r (g 0 r + 1)))
theorem EB_ag {g g' : Gg} {r f t e q : Nat} (h : EB g r f t e g') (hq : q ≠ r) (h0 : g 0 r ≤ 24) : AG g g' q := by
  rcases h with ⟨-, rfl⟩ | ⟨-, hh, rfl⟩ | ⟨-, -, ⟨-, rfl⟩ | ⟨hh, rfl⟩⟩
  · exact AG.rf
  · exact (AG.up (fun a => by omega) (fun _ _ => by omega) (fun a => absurd a (by decide))).tr (AG.up (fun _ => hq.symm) (fun _ b => absurd b (by decide)) (fun a => absurd a (by decide)))
  · exact AG.rf
  · refine ((((AG.up ?_ ?_ ?_).tr (AG.up ?_ ?_ ?_)).tr (AG.up ?_ ?_ ?_)).tr (AG.up ?_ ?_ ?_)).tr (AG.up ?_ ?_ ?_)
    · intro a; omega
    · intro _ _; omega
    · intro a; exact absurd a (by decide)
    · intro a; omega
    · intro _ _; omega
    · intro a; exact absurd a (by decide)
    · intro a; omega
    · intro _ _; omega
    · intro a; exact absurd a (by decide)
    · intro a; omega
    · intro _ _; omega
    · intro a; exact absurd a (by decide)
    · intro _; exact hq.symm
    · intro a; exact absurd a (by decide)
    · intro a; exact absurd a (by decide)
theorem EB_rep {g g' : Gg} {r t e : Nat} {L : List Bn} {p : List Rn} (hE : EB g r (tot L) t e g') (h : Rep g r L p) (hlen : (pushB L t e p).length ≤ 24) : Rep g' r (pushB L t e p) [] := by
  obtain ⟨h1, h2, h3, h4, h5, h6⟩ := h
  have hnew : p ≠ [] → L.length < 24 → g' = up2 (up2 (up2 (up2 (up2 g 1 (r * 24 + g 0 r) t) 2 (r * 24 + g 0 r) e) 3 (r * 24 + g 0 r) (tot L)) 4 (r * 24 + g 0 r) (g 5 r - tot L)) 0 r (g 0 r + 1) → Rep g' r (L ++ [(t, e, p)]) [] := by
    intro hp hl e0
    subst e0
    have ht : tot (L ++ [(t, e, p)]) = tot L + p.length := by rw [tot_app]; rfl
    refine ⟨by rw [List.length_append, List.length_singleton]; omega, by rw [ht]; exact h2, ?_, ?_, ?_, trivial⟩
    · rw [up2_s, List.length_append, List.length_singleton, h3]
    · rw [ht, up2_k (by decide), up2_k (by decide), up2_k (by decide), up2_k (by decide), up2_k (by decide)]
      exact h4
    · rw [RB_app]
      refine ⟨RB_cg L 0 0 ?_ ?_ h5, ?_, ?_, ?_, ?_, ?_, trivial⟩
      · intro k j a b c d
        rw [up2_k (by omega), up2_n (by omega), up2_n (by omega), up2_n (by omega), up2_n (by omega)]
      · intro j c d
        constructor
        · rw [up2_k (by decide), up2_k (by decide), up2_k (by decide), up2_k (by decide), up2_k (by decide)]
        · rw [up2_k (by decide), up2_k (by decide), up2_k (by decide), up2_k (by decide), up2_k (by decide)]
      · rw [Nat.zero_add, ← h3, up2_k (by decide), up2_k (by decide), up2_k (by decide), up2_k (by decide), up2_s]
      · rw [Nat.zero_add, ← h3, up2_k (by decide), up2_k (by decide), up2_k (by decide), up2_s]
      · rw [Nat.zero_add, ← h3, up2_k (by decide), up2_k (by decide), up2_s, Nat.zero_add]
      · rw [Nat.zero_add, ← h3, up2_k (by decide), up2_s, h4]
        show tot L + p.length - tot L = p.length
        omega
      · rw [Nat.zero_add]
        refine RR_cg p _ (fun j c d => ?_) h6
        constructor
        · rw [up2_k (by decide), up2_k (by decide), up2_k (by decide), up2_k (by decide), up2_k (by decide)]
        · rw [up2_k (by decide), up2_k (by decide), up2_k (by decide), up2_k (by decide), up2_k (by decide)]
  by_cases hp : p = []
  · subst hp
    rw [pushB_none] at hlen ⊢
    rw [List.length_nil, Nat.add_zero] at h4
    rcases hE with ⟨-, rfl⟩ | ⟨hh, -⟩ | ⟨hh, -⟩
    · exact ⟨h1, h2, h3, h4, h5, trivial⟩
    · exact absurd h4 hh
    · exact absurd h4 hh
  · have hpl : 0 < p.length := by
      cases p with
      | nil => exact absurd rfl hp
      | cons a b => simp
    rcases hE with ⟨hh, -⟩ | hE
    · omega
    · rcases snoc_cases L with rfl | ⟨L0, b, rfl⟩
      · rw [pushB_nil t e hp] at hlen ⊢
        rw [List.length_nil] at h3
        rcases hE with ⟨-, hh, -⟩ | ⟨-, -, hh | ⟨-, hh⟩⟩
        · omega
        · omega
        · exact hnew hp (by decide) hh
      · rw [pushB_last L0 b t e hp] at hlen ⊢
        rw [List.length_append, List.length_singleton] at h1 h3
        rw [tot_app] at h2 h4 hE
        have htb : tot [b] = b.2.2.length := by simp [tot]
        rw [htb] at h2 h4 hE
        have h5' := h5
        rw [RB_app] at h5
        obtain ⟨k0, k1, k2, k3, k4, k5, -⟩ := h5
        rw [Nat.zero_add] at k1 k2 k3 k4 k5
        rw [Nat.zero_add] at k3
        have hi : r * 24 + g 0 r - 1 = r * 24 + L0.length := by omega
        rw [tot_app, htb] at h6
        have hiff : (0 < g 0 r ∧ g 2 (r * 24 + g 0 r - 1) + 1 = t ∧ g 4 (r * 24 + g 0 r - 1) = g 5 r - (tot L0 + b.2.2.length) ∧ eqRn g (r * 288 + g 3 (r * 24 + g 0 r - 1)) (r * 288 + (tot L0 + b.2.2.length)) (g 5 r - (tot L0 + b.2.2.length))) ↔ (b.2.1 + 1 = t ∧ b.2.2 = p) := by
          rw [hi, k2, k3, k4, h4, show tot L0 + b.2.2.length + p.length - (tot L0 + b.2.2.length) = p.length by omega]
          constructor
          · rintro ⟨-, a1, a2, a3⟩
            exact ⟨a1, (RR_eq b.2.2 p _ _ a2 k5 h6).mp (fun i hi2 => a3 i (by omega))⟩
          · rintro ⟨a1, a2⟩
            refine ⟨by omega, a1, by rw [a2], ?_⟩
            have := (RR_eq b.2.2 p _ _ (by rw [a2]) k5 h6).mpr a2
            exact fun i hi2 => this i (by rw [a2]; exact hi2)
        rcases hE with ⟨-, hh, e0⟩ | ⟨-, hh, hh2⟩
        · have hm := hiff.mp hh
          rw [if_pos hm] at hlen ⊢
          subst e0
          have ht : tot (L0 ++ [(b.1, e, b.2.2)]) = tot L0 + b.2.2.length := by rw [tot_app]; rfl
          refine ⟨by rw [List.length_append, List.length_singleton]; omega, by rw [ht, List.length_nil]; omega, ?_, ?_, ?_, trivial⟩
          · rw [up2_k (by decide), up2_k (by decide), List.length_append, List.length_singleton]
            exact h3
          · rw [up2_s, ht]
            rfl
          · rw [RB_app]
            refine ⟨RB_cg L0 0 0 ?_ ?_ k0, ?_, ?_, ?_, ?_, ?_, trivial⟩
            · intro k j a b c d
              rw [up2_k (by omega), up2_n (by omega)]
            · intro j c d
              exact ⟨(up2_k (by decide)).trans (up2_k (by decide)), (up2_k (by decide)).trans (up2_k (by decide))⟩
            · rw [Nat.zero_add, up2_k (by decide), up2_k (by decide)]
              exact k1
            · rw [Nat.zero_add, up2_k (by decide), ← hi, up2_s]
            · rw [Nat.zero_add, Nat.zero_add, up2_k (by decide), up2_k (by decide)]
              exact k3
            · rw [Nat.zero_add, up2_k (by decide), up2_k (by decide)]
              exact k4
            · rw [Nat.zero_add]
              exact RR_cg _ _ (fun j c d => ⟨(up2_k (by decide)).trans (up2_k (by decide)), (up2_k (by decide)).trans (up2_k (by decide))⟩) k5
        · have hm : ¬ (b.2.1 + 1 = t ∧ b.2.2 = p) := fun x => hh (hiff.mpr x)
          rw [if_neg hm] at hlen ⊢
          rw [List.length_append, List.length_append, List.length_singleton, List.length_singleton] at hlen
          rcases hh2 with hh2 | ⟨-, hh2⟩
          · omega
          · refine hnew hp (by rw [List.length_append, List.length_singleton]; omega) ?_
            rw [tot_app, htb]
            exact hh2
end
section
/-! THE PLAIN PART, 2: the runs of a row, the bands of a set; membership -/
/-- is x in one of the runs -/
def inR : List Rn → Nat → Bool
  | [], _ => false
  | q :: p, x => (decide (q.1 ≤ x) && decide (x ≤ q.2)) || inR p x
theorem inR_app : ∀ (p q : List Rn) (x : Nat), inR (p ++ q) x = (inR p x || inR q x)
  | [], q, x => by simp [inR]
  | a :: p, q, x => by simp [inR, inR_app p q x, Bool.or_assoc]
/-- sorted runs with gaps between, from lo on, below hi -/
def SR : Nat → Nat → List Rn → Prop
  | _, _, [] => True
  | lo, hi, q :: p => lo ≤ q.1 ∧ q.1 ≤ q.2 ∧ q.2 < hi ∧ SR (q.2 + 2) hi p
def nxR : Nat → List Rn → Nat
  | lo, [] => lo
  | _, q :: p => nxR (q.2 + 2) p
theorem nxR_snoc : ∀ (p : List Rn) (lo : Nat) (q : Rn), nxR lo (p ++ [q]) = q.2 + 2
  | [], _, _ => rfl
  | a :: p, _, q => nxR_snoc p (a.2 + 2) q
theorem SR_app {hi : Nat} : ∀ (p q : List Rn) (lo : Nat), SR lo hi (p ++ q) ↔ SR lo hi p ∧ SR (nxR lo p) hi q
  | [], q, lo => by simp [SR, nxR]
  | a :: p, q, lo => by simp [SR, nxR, SR_app p q (a.2 + 2), and_assoc]
theorem SR_mono {hi hi' : Nat} (h : hi ≤ hi') : ∀ (p : List Rn) (lo : Nat), SR lo hi p → SR lo hi' p
  | [], _, _ => trivial
  | a :: p, lo, hs => ⟨hs.1, hs.2.1, Nat.lt_of_lt_of_le hs.2.2.1 h, SR_mono h p _ hs.2.2.2⟩
theorem SR_lo {hi : Nat} : ∀ (p : List Rn) (lo lo' : Nat), lo' ≤ lo → SR lo hi p → SR lo' hi p
  | [], _, _, _, _ => trivial
  | a :: p, lo, lo', h, hs => ⟨Nat.le_trans h hs.1, hs.2⟩
theorem SR_len {hi : Nat} : ∀ (p : List Rn) (lo : Nat), SR lo hi p → p ≠ [] → lo + 2 * p.length ≤ hi + 1
  | [], _, _, h => absurd rfl h
  | [a], lo, hs, _ => by
    obtain ⟨h1, h2, h3, -⟩ := hs
    simp
    omega
  | a :: b :: p, lo, hs, _ => by
    obtain ⟨h1, h2, h3, h4⟩ := hs
    have := SR_len (b :: p) (a.2 + 2) h4 (by simp)
    simp only [List.length_cons] at this ⊢
    omega
theorem SR_len24 {p : List Rn} {hi : Nat} (h : SR 0 hi p) (hh : hi ≤ 24) : p.length ≤ 12 := by
  by_cases e : p = []
  · rw [e]
    simp
  · have := SR_len p 0 h e
    omega
theorem inR_lo {hi : Nat} : ∀ (p : List Rn) (lo x : Nat), SR lo hi p → x < lo → inR p x = false
  | [], _, _, _, _ => rfl
  | a :: p, lo, x, hs, hx => by
    obtain ⟨h1, h2, h3, h4⟩ := hs
    have := inR_lo p (a.2 + 2) x h4 (by omega)
    simp only [inR, this, Bool.or_false]
    simp
    omega
theorem inR_hi {hi : Nat} : ∀ (p : List Rn) (lo x : Nat), SR lo hi p → hi ≤ x → inR p x = false
  | [], _, _, _, _ => rfl
  | a :: p, lo, x, hs, hx => by
    obtain ⟨h1, h2, h3, h4⟩ := hs
    have := inR_hi p (a.2 + 2) x h4 hx
    simp only [inR, this, Bool.or_false]
    simp
    omega
/-- the runs of a row's cells below x -/
def ru (row : Nat → Bool) : Nat → List Rn
  | 0 => []
  | x + 1 => if row x = true then pushR (ru row x) x x else ru row x
theorem ru_cg {row row' : Nat → Bool} : ∀ (n : Nat), (∀ x, x < n → row x = row' x) → ru row n = ru row' n
  | 0, _ => rfl
  | n + 1, h => by
    simp only [ru]
    rw [ru_cg n (fun x hx => h x (by omega)), h n (by omega)]
theorem push_push (p : List Rn) (l e e2 : Nat) : pushR (pushR p l e) (e + 1) e2 = pushR p l e2 := by
  rcases snoc_cases p with rfl | ⟨p0, q, rfl⟩
  · rw [pushR_nil, pushR_nil]
    have := pushR_last [] (l, e) (e + 1) e2
    simpa using this
  · rw [pushR_last, pushR_last]
    by_cases h : l ≤ q.2 + 1
    · rw [if_pos h, if_pos h, pushR_last]
      simp
    · rw [if_neg h, if_neg h, pushR_last]
      simp
theorem ru_run {row : Nat → Bool} {x : Nat} : ∀ (n : Nat), (∀ z, x ≤ z → z < x + (n + 1) → row z = true) → ru row (x + (n + 1)) = pushR (ru row x) x (x + n)
  | 0, h => by
    show ru row (x + 1) = _
    simp only [ru]
    rw [if_pos (h x (Nat.le_refl _) (by omega))]
    rfl
  | n + 1, h => by
    have ih := ru_run n (fun z a b => h z a (by omega))
    show (if row (x + (n + 1)) = true then pushR (ru row (x + (n + 1))) (x + (n + 1)) (x + (n + 1)) else ru row (x + (n + 1))) = _
    rw [if_pos (h (x + (n + 1)) (by omega) (by omega)), ih]
    exact push_push (ru row x) x (x + n) (x + (n + 1))
theorem ru_run' {row : Nat → Bool} {x e : Nat} (hx : x < e) (h : ∀ z, x ≤ z → z < e → row z = true) : ru row e = pushR (ru row x) x (e - 1) := by
  obtain ⟨n, rfl⟩ : ∃ n, e = x + (n + 1) := ⟨e - x - 1, by omega⟩
  have := ru_run n h
  rw [this]
  congr 1
theorem ru_gap {row : Nat → Bool} {x : Nat} : ∀ (n : Nat), (∀ z, x ≤ z → z < x + n → row z = false) → ru row (x + n) = ru row x
  | 0, _ => rfl
  | n + 1, h => by
    show ru row ((x + n) + 1) = _
    simp only [ru]
    rw [if_neg (by rw [h (x + n) (by omega) (by omega)]; decide)]
    exact ru_gap n (fun z a b => h z a (by omega))
theorem ru_gap' {row : Nat → Bool} {x e : Nat} (hx : x ≤ e) (h : ∀ z, x ≤ z → z < e → row z = false) : ru row e = ru row x := by
  obtain ⟨n, rfl⟩ : ∃ n, e = x + n := ⟨e - x, by omega⟩
  exact ru_gap n h
theorem push_SR {p : List Rn} {lo x : Nat} (h : SR lo x p) (hl : lo ≤ x) : SR lo (x + 1) (pushR p x x) := by
  rcases snoc_cases p with rfl | ⟨p0, q, rfl⟩
  · exact ⟨hl, Nat.le_refl _, by show x < x + 1; omega, trivial⟩
  · rw [pushR_last]
    have h0 := h
    rw [SR_app] at h0
    obtain ⟨h1, h2, h3, h4, -⟩ := h0
    by_cases e : x ≤ q.2 + 1
    · rw [if_pos e, SR_app]
      exact ⟨SR_mono (by omega) _ _ h1, h2, by show q.1 ≤ x; omega, by show x < x + 1; omega, trivial⟩
    · rw [if_neg e, SR_app, nxR_snoc]
      exact ⟨SR_mono (by omega) _ _ h, by show q.2 + 2 ≤ x; omega, Nat.le_refl _, by show x < x + 1; omega, trivial⟩
theorem push_in {p : List Rn} {lo x : Nat} (h : SR lo x p) (z : Nat) : inR (pushR p x x) z = (inR p z || decide (z = x)) := by
  rcases snoc_cases p with rfl | ⟨p0, q, rfl⟩
  · rw [pushR_nil]
    simp only [inR, Bool.or_false, Bool.false_or]
    rw [← Bool.decide_and]
    exact decide_eq_decide.mpr (by omega)
  · rw [pushR_last]
    rw [SR_app] at h
    obtain ⟨h1, h2, h3, h4, -⟩ := h
    by_cases e : x ≤ q.2 + 1
    · rw [if_pos e, inR_app, inR_app, Bool.or_assoc]
      congr 1
      simp only [inR, Bool.or_false]
      rw [← Bool.decide_and, ← Bool.decide_and, ← Bool.decide_or]
      exact decide_eq_decide.mpr (by omega)
    · rw [if_neg e, inR_app]
      congr 1
      simp only [inR, Bool.or_false]
      rw [← Bool.decide_and]
      exact decide_eq_decide.mpr (by omega)
theorem ru_SR (row : Nat → Bool) : ∀ (n : Nat), SR 0 n (ru row n)
  | 0 => trivial
  | n + 1 => by
    simp only [ru]
    split
    · exact push_SR (ru_SR row n) (Nat.zero_le _)
    · exact SR_mono (by omega) _ _ (ru_SR row n)
theorem ru_in (row : Nat → Bool) : ∀ (n z : Nat), inR (ru row n) z = (decide (z < n) && row z)
  | 0, z => by simp [ru, inR]
  | n + 1, z => by
    simp only [ru]
    by_cases h : row n = true
    · rw [if_pos h, push_in (ru_SR row n), ru_in row n z]
      by_cases e : z = n
      · subst e
        simp [h]
      · have : decide (z < n) = decide (z < n + 1) := decide_eq_decide.mpr (by omega)
        simp [e, this]
    · rw [if_neg h, ru_in row n z]
      by_cases e : z = n
      · subst e
        simp [h]
      · have : decide (z < n) = decide (z < n + 1) := decide_eq_decide.mpr (by omega)
        rw [this]
theorem ru_24 (row : Nat → Bool) {x : Nat} (h : x < 24) : inR (ru row 24) x = row x := by
  rw [ru_in]
  simp [h]
-- ===== bands =====
def inB : List Bn → Nat → Nat → Bool
  | [], _, _ => false
  | b :: L, x, y => (decide (b.1 ≤ y) && decide (y ≤ b.2.1) && inR b.2.2 x) || inB L x y
theorem inB_app : ∀ (L M : List Bn) (x y : Nat), inB (L ++ M) x y = (inB L x y || inB M x y)
  | [], M, x, y => by simp [inB]
  | b :: L, M, x, y => by simp [inB, inB_app L M x y, Bool.or_assoc]
def SB : Nat → Nat → List Bn → Prop
  | _, _, [] => True
  | lo, hi, b :: L => lo ≤ b.1 ∧ b.1 ≤ b.2.1 ∧ b.2.1 < hi ∧ b.2.2 ≠ [] ∧ SR 0 24 b.2.2 ∧ SB (b.2.1 + 1) hi L
def nxB : Nat → List Bn → Nat
  | lo, [] => lo
  | _, b :: L => nxB (b.2.1 + 1) L
theorem nxB_snoc : ∀ (L : List Bn) (lo : Nat) (b : Bn), nxB lo (L ++ [b]) = b.2.1 + 1
  | [], _, _ => rfl
  | a :: L, _, b => nxB_snoc L (a.2.1 + 1) b
theorem SB_app {hi : Nat} : ∀ (L M : List Bn) (lo : Nat), SB lo hi (L ++ M) ↔ SB lo hi L ∧ SB (nxB lo L) hi M
  | [], M, lo => by simp [SB, nxB]
  | a :: L, M, lo => by simp [SB, nxB, SB_app L M (a.2.1 + 1), and_assoc]
theorem SB_mono {hi hi' : Nat} (h : hi ≤ hi') : ∀ (L : List Bn) (lo : Nat), SB lo hi L → SB lo hi' L
  | [], _, _ => trivial
  | a :: L, lo, hs => ⟨hs.1, hs.2.1, Nat.lt_of_lt_of_le hs.2.2.1 h, hs.2.2.2.1, hs.2.2.2.2.1, SB_mono h L _ hs.2.2.2.2.2⟩
theorem SB_len {hi : Nat} : ∀ (L : List Bn) (lo : Nat), SB lo hi L → lo ≤ hi → lo + L.length ≤ hi ∧ tot L ≤ 12 * L.length
  | [], _, _, h => ⟨by simpa using h, by simp [tot]⟩
  | a :: L, lo, hs, _ => by
    obtain ⟨h1, h2, h3, h4, h5, h6⟩ := hs
    have ih := SB_len L (a.2.1 + 1) h6 (by omega)
    have hl := SR_len24 h5 (Nat.le_refl _)
    simp only [List.length_cons, tot]
    omega
theorem inB_lo {hi : Nat} : ∀ (L : List Bn) (lo x y : Nat), SB lo hi L → y < lo → inB L x y = false
  | [], _, _, _, _, _ => rfl
  | b :: L, lo, x, y, hs, hy => by
    obtain ⟨h1, h2, h3, h4, h5, h6⟩ := hs
    have := inB_lo L (b.2.1 + 1) x y h6 (by omega)
    have hd : decide (b.1 ≤ y) = false := decide_eq_false (by omega)
    simp [inB, this, hd]
/-- the bands of a set's rows above y -/
def bu (S : Nat → Nat → Bool) : Nat → List Bn
  | 0 => []
  | y + 1 => pushB (bu S y) y y (ru (fun x => S x y) 24)
theorem bu_cg {S S' : Nat → Nat → Bool} : ∀ (n : Nat), (∀ x y, x < 24 → y < n → S x y = S' x y) → bu S n = bu S' n
  | 0, _ => rfl
  | n + 1, h => by
    simp only [bu]
    rw [bu_cg n (fun x y hx hy => h x y hx (by omega)), ru_cg (row := fun x => S x n) (row' := fun x => S' x n) 24 (fun x hx => h x n hx (by omega))]
theorem pushB_pushB (L : List Bn) (t e e2 : Nat) (rs : List Rn) : pushB (pushB L t e rs) (e + 1) e2 rs = pushB L t e2 rs := by
  by_cases hr : rs = []
  · subst hr
    rw [pushB_none, pushB_none, pushB_none]
  · rcases snoc_cases L with rfl | ⟨L0, b, rfl⟩
    · rw [pushB_nil t e hr, pushB_nil t e2 hr]
      have := pushB_last [] (t, e, rs) (e + 1) e2 hr
      simpa using this
    · rw [pushB_last L0 b t e hr, pushB_last L0 b t e2 hr]
      by_cases h : b.2.1 + 1 = t ∧ b.2.2 = rs
      · rw [if_pos h, if_pos h, pushB_last _ _ _ _ hr, if_pos ⟨rfl, h.2⟩]
      · rw [if_neg h, if_neg h, pushB_last _ _ _ _ hr, if_pos ⟨rfl, rfl⟩]
theorem bu_run {S : Nat → Nat → Bool} {y : Nat} : ∀ (n : Nat), (∀ x z, x < 24 → y ≤ z → z < y + (n + 1) → S x z = S x y) → bu S (y + (n + 1)) = pushB (bu S y) y (y + n) (ru (fun x => S x y) 24)
  | 0, h => rfl
  | n + 1, h => by
    have ih := bu_run n (fun x z hx a b => h x z hx a (by omega))
    show pushB (bu S (y + (n + 1))) (y + (n + 1)) (y + (n + 1)) (ru (fun x => S x (y + (n + 1))) 24) = _
    rw [ih, ru_cg (row := fun x => S x (y + (n + 1))) (row' := fun x => S x y) 24 (fun x hx => h x _ hx (by omega) (by omega))]
    exact pushB_pushB (bu S y) y (y + n) (y + (n + 1)) _
theorem bu_run' {S : Nat → Nat → Bool} {y e : Nat} (hy : y < e) (h : ∀ x z, x < 24 → y ≤ z → z < e → S x z = S x y) : bu S e = pushB (bu S y) y (e - 1) (ru (fun x => S x y) 24) := by
  obtain ⟨n, rfl⟩ : ∃ n, e = y + (n + 1) := ⟨e - y - 1, by omega⟩
  rw [bu_run n h]
  congr 1
theorem bu_gap {S : Nat → Nat → Bool} {y e : Nat} (hy : y ≤ e) (h : ∀ x z, x < 24 → y ≤ z → z < e → S x z = false) : bu S e = bu S y := by
  by_cases h0 : y = e
  · rw [h0]
  · rw [bu_run' (y := y) (e := e) (by omega) (fun x z hx a b => by rw [h x z hx a b, h x y hx (Nat.le_refl _) (by omega)])]
    have : ru (fun x => S x y) 24 = [] := ru_gap' (row := fun x => S x y) (x := 0) (e := 24) (by decide) (fun z _ hz => h z y hz (Nat.le_refl _) (by omega))
    rw [this, pushB_none]
theorem pushB_SB {L : List Bn} {lo y e : Nat} {rs : List Rn} (h : SB lo y L) (hl : lo ≤ y) (he : y ≤ e) (hr : SR 0 24 rs) : SB lo (e + 1) (pushB L y e rs) := by
  by_cases hn : rs = []
  · subst hn
    rw [pushB_none]
    exact SB_mono (by omega) _ _ h
  · rcases snoc_cases L with rfl | ⟨L0, b, rfl⟩
    · rw [pushB_nil y e hn]
      exact ⟨hl, he, by show e < e + 1; omega, hn, hr, trivial⟩
    · rw [pushB_last L0 b y e hn]
      have h0 := h
      rw [SB_app] at h0
      obtain ⟨h1, h2, h3, h4, h5, h6, -⟩ := h0
      by_cases hm : b.2.1 + 1 = y ∧ b.2.2 = rs
      · rw [if_pos hm, SB_app]
        exact ⟨SB_mono (by omega) _ _ h1, h2, by show b.1 ≤ e; omega, by show e < e + 1; omega, h5, h6, trivial⟩
      · rw [if_neg hm, SB_app, nxB_snoc]
        exact ⟨SB_mono (by omega) _ _ h, by show b.2.1 + 1 ≤ y; omega, he, by show e < e + 1; omega, hn, hr, trivial⟩
theorem pushB_in {L : List Bn} {lo y : Nat} {rs : List Rn} (h : SB lo y L) (x z : Nat) : inB (pushB L y y rs) x z = (inB L x z || (decide (z = y) && inR rs x)) := by
  by_cases hn : rs = []
  · subst hn
    rw [pushB_none]
    simp [inR]
  · rcases snoc_cases L with rfl | ⟨L0, b, rfl⟩
    · rw [pushB_nil y y hn]
      simp only [inB, Bool.or_false, Bool.false_or]
      rw [← Bool.decide_and]
      congr 1
      exact decide_eq_decide.mpr (by omega)
    · rw [pushB_last L0 b y y hn]
      rw [SB_app] at h
      obtain ⟨h1, h2, h3, h4, h5, h6, -⟩ := h
      by_cases hm : b.2.1 + 1 = y ∧ b.2.2 = rs
      · rw [if_pos hm, inB_app, inB_app, Bool.or_assoc]
        congr 1
        simp only [inB, Bool.or_false, hm.2]
        rw [← Bool.decide_and, ← Bool.decide_and, ← Bool.and_or_distrib_right, ← Bool.decide_or]
        congr 1
        exact decide_eq_decide.mpr (by omega)
      · rw [if_neg hm, inB_app]
        congr 1
        simp only [inB, Bool.or_false]
        rw [← Bool.decide_and]
        congr 1
        exact decide_eq_decide.mpr (by omega)
theorem bu_SB (S : Nat → Nat → Bool) : ∀ (n : Nat), SB 0 n (bu S n)
  | 0 => trivial
  | n + 1 => pushB_SB (bu_SB S n) (Nat.zero_le _) (Nat.le_refl _) (ru_SR _ 24)
theorem bu_in (S : Nat → Nat → Bool) : ∀ (n x y : Nat), inB (bu S n) x y = (decide (y < n) && (decide (x < 24) && S x y))
  | 0, x, y => by simp [bu, inB]
  | n + 1, x, y => by
    simp only [bu]
    rw [pushB_in (bu_SB S n), bu_in S n x y, ru_in]
    by_cases e : y = n
    · subst e
      simp
    · have : decide (y < n) = decide (y < n + 1) := decide_eq_decide.mpr (by omega)
      simp [e, this]
theorem bu_24 (S : Nat → Nat → Bool) {x y : Nat} (hx : x < 24) (hy : y < 24) : inB (bu S 24) x y = S x y := by
  rw [bu_in]
  simp [hx, hy]
theorem bu_len (S : Nat → Nat → Bool) {n : Nat} (hn : n ≤ 24) : (bu S n).length ≤ n ∧ tot (bu S n) ≤ 12 * n := by
  have := SB_len (bu S n) 0 (bu_SB S n) (Nat.zero_le _)
  omega
-- ===== reading on: the runs and the bands that are left =====
/-- the first place behind x where a row of runs changes -/
def chR : List Rn → Nat → Nat
  | [], _ => 24
  | q :: _, x => if q.1 ≤ x then q.2 + 1 else q.1
def inH : List Rn → Nat → Bool
  | [], _ => false
  | q :: _, x => decide (q.1 ≤ x)
/-- the runs that are left behind the place x -/
def dpR : List Rn → Nat → List Rn
  | [], _ => []
  | q :: p, x => if q.2 < x then p else q :: p
theorem chR_gt {p : List Rn} {lo x : Nat} (h : SR lo 24 p) (hx : x < 24) (hh : ∀ q ∈ p.head?, x ≤ q.2) : x < chR p x ∧ chR p x ≤ 24 := by
  cases p with
  | nil => simp only [chR]; omega
  | cons q p =>
    obtain ⟨h1, h2, h3, h4⟩ := h
    have := hh q (by simp)
    simp only [chR]
    split <;> omega
theorem inH_in {p : List Rn} {lo x z : Nat} (h : SR lo 24 p) (hh : ∀ q ∈ p.head?, x ≤ q.2) (h1 : x ≤ z) (h2 : z < chR p x) : inR p z = inH p x := by
  cases p with
  | nil => rfl
  | cons q p =>
    obtain ⟨a1, a2, a3, a4⟩ := h
    have h3 := hh q (by simp)
    simp only [chR] at h2
    simp only [inR, inH]
    by_cases e : q.1 ≤ x
    · rw [if_pos e] at h2
      rw [inR_lo p _ z a4 (by omega)]
      simp [e]
      omega
    · rw [if_neg e] at h2
      rw [inR_lo p _ z a4 (by omega)]
      simp [e]
      omega
theorem dpR_SR {p : List Rn} {lo x e : Nat} (h : SR lo 24 p) (hh : ∀ q ∈ p.head?, x ≤ q.2) (h2 : e ≤ chR p x) : SR lo 24 (dpR p e) ∧ (∀ q ∈ (dpR p e).head?, e ≤ q.2) ∧ ∀ z, e ≤ z → inR (dpR p e) z = inR p z := by
  cases p with
  | nil => exact ⟨trivial, by simp [dpR], fun _ _ => rfl⟩
  | cons q p =>
    obtain ⟨a1, a2, a3, a4⟩ := h
    have h3 := hh q (by simp)
    simp only [chR] at h2
    simp only [dpR]
    by_cases e1 : q.2 < e
    · rw [if_pos e1]
      refine ⟨SR_lo p _ lo (by omega) a4, ?_, ?_⟩
      · intro q' hq'
        cases p with
        | nil => simp at hq'
        | cons q2 p =>
          simp at hq'
          subst hq'
          obtain ⟨b1, b2, -⟩ := a4
          split at h2 <;> omega
      · intro z hz
        simp only [inR]
        simp
        omega
    · rw [if_neg e1]
      refine ⟨⟨a1, a2, a3, a4⟩, ?_, fun _ _ => rfl⟩
      intro q' hq'
      simp at hq'
      subst hq'
      omega
/-- the first row behind y where the rows of bands change; the runs of row y -/
def chB : List Bn → Nat → Nat
  | [], _ => 24
  | b :: _, y => if y < b.1 then b.1 else b.2.1 + 1
def rwB : List Bn → Nat → List Rn
  | [], _ => []
  | b :: _, y => if b.1 ≤ y then b.2.2 else []
theorem chB_gt {L : List Bn} {lo y : Nat} (h : SB lo 24 L) (hy : y < 24) (hh : ∀ b ∈ L.head?, y ≤ b.2.1) : y < chB L y ∧ chB L y ≤ 24 := by
  cases L with
  | nil => simp only [chB]; omega
  | cons b L =>
    obtain ⟨h1, h2, h3, h4⟩ := h
    have := hh b (by simp)
    simp only [chB]
    split <;> omega
theorem rwB_SR {L : List Bn} {lo y : Nat} (h : SB lo 24 L) : SR 0 24 (rwB L y) := by
  cases L with
  | nil => trivial
  | cons b L =>
    simp only [rwB]
    split
    · exact h.2.2.2.2.1
    · trivial
theorem rwB_in {L : List Bn} {lo y : Nat} (h : SB lo 24 L) (hh : ∀ b ∈ L.head?, y ≤ b.2.1) {x z : Nat} (h1 : y ≤ z) (h2 : z < chB L y) : inB L x z = inR (rwB L y) x := by
  cases L with
  | nil => rfl
  | cons b L =>
    obtain ⟨a1, a2, a3, a4, a5, a6⟩ := h
    have h3 := hh b (by simp)
    simp only [chB] at h2
    simp only [inB, rwB]
    by_cases e : b.1 ≤ y
    · rw [if_neg (by omega)] at h2
      rw [if_pos e, inB_lo L _ x z a6 (by omega)]
      have d1 : decide (b.1 ≤ z) = true := decide_eq_true (by omega)
      have d2 : decide (z ≤ b.2.1) = true := decide_eq_true (by omega)
      simp [d1, d2]
    · rw [if_pos (by omega)] at h2
      rw [if_neg e, inB_lo L _ x z a6 (by omega)]
      have d1 : decide (b.1 ≤ z) = false := decide_eq_false (by omega)
      simp [d1, inR]
theorem inB_skip : ∀ (L1 L2 : List Bn) (x y : Nat), (∀ b ∈ L1, b.2.1 < y) → inB (L1 ++ L2) x y = inB L2 x y
  | [], _, _, _, _ => rfl
  | b :: L1, L2, x, y, h => by
    have hb := h b List.mem_cons_self
    have d : decide (y ≤ b.2.1) = false := decide_eq_false (by omega)
    simp only [List.cons_append, inB, d, Bool.and_false, Bool.false_and, Bool.false_or]
    exact inB_skip L1 L2 x y (fun c hc => h c (List.mem_cons_of_mem _ hc))
end
section
/-! BandRegion: the methods that call nothing -/
set_option maxRecDepth 100000
def badZ (z : Int) : Bool := decide (z < 0 ∨ 2 < z)
theorem badZ_t {z : Int} (h : z < 0 ∨ 2 < z) : badZ z = true := decide_eq_true h
theorem badZ_f {z : Int} (h : ¬ (z < 0 ∨ 2 < z)) : badZ z = false := decide_eq_false h
theorem m_bad (G : Gx) (z : Int) (hz : -2147483648 ≤ z ∧ z < 2147483648) : MetI yX0_bad cX0_bad 1 .boolean rmA G [] [.int (zI z)] (fun _ : Unit => []) (fun r _ => r = zI (bI (badZ z))) := by
  refine s_metI (own := RX0) (lv0 := [some (.int (zI z))]) (by decide) rfl rfl (Nat.le_of_ble_eq_true rfl) rfl (fun r h => by rw [h]; exact bI_nar _) (fun K ret => ?_)
  refine r_iload_n dX0_bad_0 rfl ?_
  refine r_if_lt (tgt := 9) dX0_bad_1 (by decide) (by omega) (fun h1 => ?_) (fun h1 => ?_)
  · refine r_iconstN (q := 1) dX0_bad_9 rfl ?_
    refine r_goto (tgt := 14) dX0_bad_10 (by decide) ?_
    exact ret _ _ _ dX0_bad_14 (by rw [badZ_t (Or.inl h1)]; rfl)
  · refine r_iload_n dX0_bad_4 rfl ?_
    refine r_iconstN (q := 2) dX0_bad_5 rfl ?_
    refine r_icmp_le (tgt := 13) dX0_bad_6 (by decide) (by omega) (by omega) (fun h2 => ?_) (fun h2 => ?_)
    · refine r_iconstN (q := 0) dX0_bad_13 rfl ?_
      exact ret _ _ _ dX0_bad_14 (by rw [badZ_f (by omega)]; rfl)
    · refine r_iconstN (q := 1) dX0_bad_9 rfl ?_
      refine r_goto (tgt := 14) dX0_bad_10 (by decide) ?_
      exact ret _ _ _ dX0_bad_14 (by rw [badZ_t (by omega)]; rfl)
def clampZ (z : Int) : Int := if 24 < z then 24 else if z < -24 then -24 else z
theorem m_clampMove (G : Gx) (z : Int) (hz : -2147483648 ≤ z ∧ z < 2147483648) : MetI yX0_clampMove cX0_clampMove 1 .int rmA G [] [.int (zI z)] (fun _ : Unit => []) (fun r _ => r = zI (clampZ z)) := by
  refine s_metI (own := RX0) (lv0 := [some (.int (zI z))]) (by decide) rfl rfl (Nat.le_of_ble_eq_true rfl) rfl (fun r h => rfl) (fun K ret => ?_)
  refine r_iload_n dX0_clampMove_0 rfl ?_
  refine r_bipushN (q := 24) dX0_clampMove_1 rfl (by decide) ?_
  refine r_icmp_le (tgt := 9) dX0_clampMove_3 (by decide) (by omega) (by omega) (fun h1 => ?_) (fun h1 => ?_)
  · refine r_iload_n dX0_clampMove_9 rfl ?_
    refine r_bipush dX0_clampMove_10 (by decide) (by decide) ?_
    refine r_icmp_ge (tgt := 18) dX0_clampMove_12 (by decide) (by omega) (by omega) (fun h2 => ?_) (fun h2 => ?_)
    · refine r_iload_n dX0_clampMove_18 rfl ?_
      exact ret _ _ _ dX0_clampMove_19 (by unfold clampZ; rw [if_neg (by omega), if_neg (by omega)])
    · refine r_bipush dX0_clampMove_15 (by decide) (by decide) ?_
      exact ret _ _ _ dX0_clampMove_17 (by unfold clampZ; rw [if_neg (by omega), if_pos (by omega)])
  · refine r_bipushN (q := 24) dX0_clampMove_6 rfl (by decide) ?_
    exact ret _ _ _ dX0_clampMove_8 (by unfold clampZ; rw [if_pos (by omega)]; rfl)
def pkN (a b c d : Nat) : Nat := a + 32 * b + 1024 * c + 32768 * d
theorem m_packed (G : Gx) (a b c d : Nat) : MetI yX0_packed cX0_packed 4 .int rmA G [] [.int (zI (a : Int)), .int (zI (b : Int)), .int (zI (c : Int)), .int (zI (d : Int))] (fun _ : Unit => []) (fun r _ => r = zI ((pkN a b c d : Nat) : Int)) := by
  refine s_metI (own := RX0) (lv0 := [some (.int (zI (a : Int))), some (.int (zI (b : Int))), some (.int (zI (c : Int))), some (.int (zI (d : Int)))]) (by decide) rfl rfl (Nat.le_of_ble_eq_true rfl) rfl (fun r h => rfl) (fun K ret => ?_)
  refine r_iload_n dX0_packed_0 rfl ?_
  refine r_bipushN (q := 32) dX0_packed_1 rfl (by decide) ?_
  refine r_iload_n dX0_packed_3 rfl ?_
  refine r_imulN dX0_packed_4 ?_
  refine r_iaddN dX0_packed_5 ?_
  refine r_sipushN (q := 1024) dX0_packed_6 rfl (by decide) ?_
  refine r_iload_n dX0_packed_9 rfl ?_
  refine r_imulN dX0_packed_10 ?_
  refine r_iaddN dX0_packed_11 ?_
  refine r_ldcN (q := 32768) dX0_packed_12 q152 (by decide +kernel) ?_
  refine r_iload_n dX0_packed_14 rfl ?_
  refine r_imulN dX0_packed_15 ?_
  refine r_iaddN dX0_packed_16 ?_
  exact ret _ _ _ dX0_packed_17 rfl
def mixB (k : Nat) (a b : Bool) : Bool := if k = 0 then a || b else if k = 1 then a && b else if k = 2 then a && !b else a != b
theorem m_wanted (G : Gx) (k : Nat) (hk : k < 4) (a b : Bool) : MetI yX0_wanted cX0_wanted 3 .boolean rmA G [] [.int (zI (k : Int)), .int (zI (bI a)), .int (zI (bI b))] (fun _ : Unit => []) (fun r _ => r = zI (bI (mixB k a b))) := by
  refine s_metI (own := RX0) (lv0 := [some (.int (zI (k : Int))), some (.int (zI (bI a))), some (.int (zI (bI b)))]) (by decide) rfl rfl (Nat.le_of_ble_eq_true rfl) rfl (fun r h => by rw [h]; exact bI_nar _) (fun K ret => ?_)
  refine r_iload_n dX0_wanted_0 rfl ?_
  rcases (show k = 0 ∨ k = 1 ∨ k = 2 ∨ k = 3 by omega) with rfl | rfl | rfl | rfl
  · refine r_tin (tgt := 28) dX0_wanted_1 (by omega) (by decide) (by decide) rfl (by decide) ?_
    refine r_iload_n dX0_wanted_28 rfl ?_
    refine r_if_neB (tgt := 36) dX0_wanted_29 (by decide) (fun h1 => ?_) (fun h1 => ?_)
    · refine r_iconstN (q := 1) dX0_wanted_36 rfl ?_
      refine r_goto (tgt := 41) dX0_wanted_37 (by decide) ?_
      exact ret _ _ _ dX0_wanted_41 (by rw [h1]; rfl)
    · refine r_iload_n dX0_wanted_32 rfl ?_
      refine r_if_eqB (tgt := 40) dX0_wanted_33 (by decide) (fun h2 => ?_) (fun h2 => ?_)
      · refine r_iconstN (q := 0) dX0_wanted_40 rfl ?_
        exact ret _ _ _ dX0_wanted_41 (by rw [h1, h2]; rfl)
      · refine r_iconstN (q := 1) dX0_wanted_36 rfl ?_
        refine r_goto (tgt := 41) dX0_wanted_37 (by decide) ?_
        exact ret _ _ _ dX0_wanted_41 (by rw [h1, h2]; rfl)
  · refine r_tin (tgt := 42) dX0_wanted_1 (by omega) (by decide) (by decide) rfl (by decide) ?_
    refine r_iload_n dX0_wanted_42 rfl ?_
    refine r_if_eqB (tgt := 54) dX0_wanted_43 (by decide) (fun h1 => ?_) (fun h1 => ?_)
    · refine r_iconstN (q := 0) dX0_wanted_54 rfl ?_
      exact ret _ _ _ dX0_wanted_55 (by rw [h1]; rfl)
    · refine r_iload_n dX0_wanted_46 rfl ?_
      refine r_if_eqB (tgt := 54) dX0_wanted_47 (by decide) (fun h2 => ?_) (fun h2 => ?_)
      · refine r_iconstN (q := 0) dX0_wanted_54 rfl ?_
        exact ret _ _ _ dX0_wanted_55 (by rw [h1, h2]; rfl)
      · refine r_iconstN (q := 1) dX0_wanted_50 rfl ?_
        refine r_goto (tgt := 55) dX0_wanted_51 (by decide) ?_
        exact ret _ _ _ dX0_wanted_55 (by rw [h1, h2]; rfl)
  · refine r_tin (tgt := 56) dX0_wanted_1 (by omega) (by decide) (by decide) rfl (by decide) ?_
    refine r_iload_n dX0_wanted_56 rfl ?_
    refine r_if_eqB (tgt := 68) dX0_wanted_57 (by decide) (fun h1 => ?_) (fun h1 => ?_)
    · refine r_iconstN (q := 0) dX0_wanted_68 rfl ?_
      exact ret _ _ _ dX0_wanted_69 (by rw [h1]; rfl)
    · refine r_iload_n dX0_wanted_60 rfl ?_
      refine r_if_neB (tgt := 68) dX0_wanted_61 (by decide) (fun h2 => ?_) (fun h2 => ?_)
      · refine r_iconstN (q := 0) dX0_wanted_68 rfl ?_
        exact ret _ _ _ dX0_wanted_69 (by rw [h1, h2]; rfl)
      · refine r_iconstN (q := 1) dX0_wanted_64 rfl ?_
        refine r_goto (tgt := 69) dX0_wanted_65 (by decide) ?_
        exact ret _ _ _ dX0_wanted_69 (by rw [h1, h2]; rfl)
  · refine r_tout (tgt := 70) dX0_wanted_1 (by omega) (Or.inr (by decide)) (by decide) ?_
    refine r_iload_n dX0_wanted_70 rfl ?_
    refine r_iload_n dX0_wanted_71 rfl ?_
    refine r_icmp_eqB (tgt := 79) dX0_wanted_72 (by decide) (fun h1 => ?_) (fun h1 => ?_)
    · refine r_iconstN (q := 0) dX0_wanted_79 rfl ?_
      exact ret _ _ _ dX0_wanted_80 (by rw [h1]; cases b <;> rfl)
    · refine r_iconstN (q := 1) dX0_wanted_75 rfl ?_
      refine r_goto (tgt := 80) dX0_wanted_76 (by decide) ?_
      exact ret _ _ _ dX0_wanted_80 (by cases a <;> cases b <;> first | rfl | exact absurd rfl h1)
theorem m_start (o : Ox) (g : Gg) (hB : bdX g) (r : Nat) (hr : r < 5) : xV yX0_start cX0_start 2 rmA o g [.int (zI (r : Int))] (fun u => u = stG g r) := by
  refine x_metV (lv0 := [some (.ref o.2.1), some (.int (zI (r : Int)))]) (by decide) rfl hB rfl (Nat.le_of_ble_eq_true rfl) rfl (fun K ret => ?_)
  refine x_aload_n dX0_start_0 rfl ?_
  refine x_get0 dX0_start_1 ?_
  refine x_iload_n dX0_start_4 rfl ?_
  refine x_iconstN (q := 0) dX0_start_5 rfl ?_
  refine x_ast0 dX0_start_6 (by omega) (by omega) ?_
  refine x_aload_n dX0_start_7 rfl ?_
  refine x_get5 dX0_start_8 ?_
  refine x_iload_n dX0_start_11 rfl ?_
  refine x_iconstN (q := 0) dX0_start_12 rfl ?_
  refine x_ast5 dX0_start_13 (by omega) (by omega) ?_
  exact ret _ _ _ dX0_start_14 rfl
theorem m_addRun (o : Ox) (g : Gg) (hB : bdX g) (r f l e : Nat) (hr : r < 5) (h5 : g 5 r ≤ 288) (hf : f < 2048) (hl : l < 2048) (he : e < 2048) : xV yX0_addRun cX0_addRun 6 rmA o g [.int (zI (r : Int)), .int (zI (f : Int)), .int (zI (l : Int)), .int (zI (e : Int))] (fun u => u = addR g r f l e) := by
  refine x_metV (lv0 := [some (.ref o.2.1), some (.int (zI (r : Int))), some (.int (zI (f : Int))), some (.int (zI (l : Int))), some (.int (zI (e : Int))), none]) (by decide) rfl hB rfl (Nat.le_of_ble_eq_true rfl) rfl (fun K ret => ?_)
  have tl : ¬ (f < g 5 r ∧ l ≤ g 7 (r * 288 + g 5 r - 1) + 1) → bX K o rmA cX0_addRun 6 g 51 [some (.ref o.2.1), some (.int (zI (r : Int))), some (.int (zI (f : Int))), some (.int (zI (l : Int))), some (.int (zI (e : Int))), some (.int (zI ((r * 288 + g 5 r : Nat) : Int)))] [] := by
    intro hno
    refine x_aload_n dX0_addRun_51 rfl ?_
    refine x_get5 dX0_addRun_52 ?_
    refine x_iload_n dX0_addRun_55 rfl ?_
    refine x_ald5 dX0_addRun_56 (by omega) (fun hb56 => ?_)
    refine x_sipushN (q := 288) dX0_addRun_57 rfl (by decide) ?_
    refine x_icmp_ltN (tgt := 64) dX0_addRun_60 (by decide) (by omega) (by omega) (fun h3 => ?_) (fun h3 => ?_)
    · refine x_aload_n dX0_addRun_64 rfl ?_
      refine x_get6 dX0_addRun_65 ?_
      refine x_iload dX0_addRun_68 rfl ?_
      refine x_iload_n dX0_addRun_70 rfl ?_
      refine x_ast6 dX0_addRun_71 (by omega) (by omega) ?_
      refine x_aload_n dX0_addRun_72 rfl ?_
      refine x_get7 dX0_addRun_73 ?_
      refine x_iload dX0_addRun_76 rfl ?_
      refine x_iload dX0_addRun_78 rfl ?_
      refine x_ast7 dX0_addRun_80 (by omega) (by omega) ?_
      refine x_aload_n dX0_addRun_81 rfl ?_
      refine x_get5 dX0_addRun_82 ?_
      refine x_iload_n dX0_addRun_85 rfl ?_
      refine x_dup2 dX0_addRun_86 ?_
      refine x_ald5 dX0_addRun_87 (by omega) (fun hb87 => ?_)
      refine x_top (y := ((g 5 r : Nat) : Int)) (by rw [up2_k (by decide), up2_k (by decide)]) ?_
      refine x_iconstN (q := 1) dX0_addRun_88 rfl ?_
      refine x_iaddN dX0_addRun_89 ?_
      refine x_ast5 dX0_addRun_90 (by omega) (by omega) ?_
      refine ret _ _ _ dX0_addRun_91 ?_
      unfold addR
      rw [if_neg hno, if_neg (by omega)]
    · exact ret _ _ _ dX0_addRun_63 (by unfold addR; rw [if_neg hno, if_pos (by omega)])
  refine x_iload_n dX0_addRun_0 rfl ?_
  refine x_sipushN (q := 288) dX0_addRun_1 rfl (by decide) ?_
  refine x_imulN dX0_addRun_4 ?_
  refine x_aload_n dX0_addRun_5 rfl ?_
  refine x_get5 dX0_addRun_6 ?_
  refine x_iload_n dX0_addRun_9 rfl ?_
  refine x_ald5 dX0_addRun_10 (by omega) (fun hb10 => ?_)
  refine x_iaddN dX0_addRun_11 ?_
  refine x_istore dX0_addRun_12 (by decide) rfl ?_
  refine x_aload_n dX0_addRun_14 rfl ?_
  refine x_get5 dX0_addRun_15 ?_
  refine x_iload_n dX0_addRun_18 rfl ?_
  refine x_ald5 dX0_addRun_19 (by omega) (fun hb19 => ?_)
  refine x_iload_n dX0_addRun_20 rfl ?_
  refine x_icmp_leN (tgt := 51) dX0_addRun_21 (by decide) (by omega) (by omega) (fun h1 => ?_) (fun h1 => ?_)
  · exact tl (fun hh => by omega)
  · refine x_aload_n dX0_addRun_24 rfl ?_
    refine x_get7 dX0_addRun_25 ?_
    refine x_iload dX0_addRun_28 rfl ?_
    refine x_iconstN (q := 1) dX0_addRun_30 rfl ?_
    refine x_isubN dX0_addRun_31 (by omega) ?_
    refine x_ald7 dX0_addRun_32 (by omega) (fun hb32 => ?_)
    refine x_iconstN (q := 1) dX0_addRun_33 rfl ?_
    refine x_iaddN dX0_addRun_34 ?_
    refine x_iload_n dX0_addRun_35 rfl ?_
    refine x_icmp_ltN (tgt := 51) dX0_addRun_36 (by decide) (by omega) (by omega) (fun h2 => ?_) (fun h2 => ?_)
    · exact tl (fun hh => by omega)
    · refine x_aload_n dX0_addRun_39 rfl ?_
      refine x_get7 dX0_addRun_40 ?_
      refine x_iload dX0_addRun_43 rfl ?_
      refine x_iconstN (q := 1) dX0_addRun_45 rfl ?_
      refine x_isubN dX0_addRun_46 (by omega) ?_
      refine x_iload dX0_addRun_47 rfl ?_
      refine x_ast7 dX0_addRun_49 (by omega) (by omega) ?_
      exact ret _ _ _ dX0_addRun_50 (by unfold addR; rw [if_pos ⟨by omega, by omega⟩])
theorem m_equalRuns (o : Ox) (g : Gg) (hB : bdX g) (a b n : Nat) (ha : a + n ≤ 1440) (hb : b + n ≤ 1440) : xI yX0_equalRuns cX0_equalRuns 5 .boolean rmA o g [.int (zI (a : Int)), .int (zI (b : Int)), .int (zI (n : Int))] (fun v => ∃ c : Bool, v = zI (bI c) ∧ (c = true ↔ eqRn g a b n)) := by
  refine x_metI (lv0 := [some (.ref o.2.1), some (.int (zI (a : Int))), some (.int (zI (b : Int))), some (.int (zI (n : Int))), none]) (by decide) rfl hB rfl (Nat.le_of_ble_eq_true rfl) rfl (fun v h => by obtain ⟨c, h, -⟩ := h; rw [h]; exact bI_nar _) (fun K ret => ?_)
  have loop : ∀ (m i : Nat), i + m = n → (∀ j, j < i → g 6 (a + j) = g 6 (b + j) ∧ g 7 (a + j) = g 7 (b + j)) → bX K o rmA cX0_equalRuns 5 g 3 [some (.ref o.2.1), some (.int (zI (a : Int))), some (.int (zI (b : Int))), some (.int (zI (n : Int))), some (.int (zI (i : Int)))] [] := by
    intro m
    induction m with
    | zero =>
      intro i hi hj
      refine x_iload dX0_equalRuns_3 rfl ?_
      refine x_iload_n dX0_equalRuns_5 rfl ?_
      refine x_icmp_geN (tgt := 59) dX0_equalRuns_6 (by decide) (by omega) (by omega) (fun h1 => ?_) (fun h1 => ?_)
      · refine x_iconstN (q := 1) dX0_equalRuns_59 rfl ?_
        exact ret _ _ _ dX0_equalRuns_60 ⟨true, rfl, fun _ j hj2 => hj j (by omega), fun _ => rfl⟩
      · exact absurd h1 (by omega)
    | succ m ih =>
      intro i hi hj
      refine x_iload dX0_equalRuns_3 rfl ?_
      refine x_iload_n dX0_equalRuns_5 rfl ?_
      refine x_icmp_geN (tgt := 59) dX0_equalRuns_6 (by decide) (by omega) (by omega) (fun h1 => ?_) (fun h1 => ?_)
      · exact absurd h1 (by omega)
      · refine x_aload_n dX0_equalRuns_9 rfl ?_
        refine x_get6 dX0_equalRuns_10 ?_
        refine x_iload_n dX0_equalRuns_13 rfl ?_
        refine x_iload dX0_equalRuns_14 rfl ?_
        refine x_iaddN dX0_equalRuns_16 ?_
        refine x_ald6 dX0_equalRuns_17 (by omega) (fun hb17 => ?_)
        refine x_aload_n dX0_equalRuns_18 rfl ?_
        refine x_get6 dX0_equalRuns_19 ?_
        refine x_iload_n dX0_equalRuns_22 rfl ?_
        refine x_iload dX0_equalRuns_23 rfl ?_
        refine x_iaddN dX0_equalRuns_25 ?_
        refine x_ald6 dX0_equalRuns_26 (by omega) (fun hb26 => ?_)
        refine x_icmp_neN (tgt := 51) dX0_equalRuns_27 (by decide) (by omega) (by omega) (fun h2 => ?_) (fun h2 => ?_)
        · refine x_iconstN (q := 0) dX0_equalRuns_51 rfl ?_
          exact ret _ _ _ dX0_equalRuns_52 ⟨false, rfl, fun h => (by cases h), fun h => absurd (h i (by omega)).1 h2⟩
        · refine x_aload_n dX0_equalRuns_30 rfl ?_
          refine x_get7 dX0_equalRuns_31 ?_
          refine x_iload_n dX0_equalRuns_34 rfl ?_
          refine x_iload dX0_equalRuns_35 rfl ?_
          refine x_iaddN dX0_equalRuns_37 ?_
          refine x_ald7 dX0_equalRuns_38 (by omega) (fun hb38 => ?_)
          refine x_aload_n dX0_equalRuns_39 rfl ?_
          refine x_get7 dX0_equalRuns_40 ?_
          refine x_iload_n dX0_equalRuns_43 rfl ?_
          refine x_iload dX0_equalRuns_44 rfl ?_
          refine x_iaddN dX0_equalRuns_46 ?_
          refine x_ald7 dX0_equalRuns_47 (by omega) (fun hb47 => ?_)
          refine x_icmp_eqN (tgt := 53) dX0_equalRuns_48 (by decide) (by omega) (by omega) (fun h3 => ?_) (fun h3 => ?_)
          · refine x_iincN (q := 1) dX0_equalRuns_53 rfl rfl (by decide) rfl ?_
            refine x_goto (tgt := 3) dX0_equalRuns_56 (by decide) ?_
            exact ih (i + 1) (by omega) (fun j hj2 => by
              by_cases e : j = i
              · subst e
                exact ⟨h2, h3⟩
              · exact hj j (by omega))
          · refine x_iconstN (q := 0) dX0_equalRuns_51 rfl ?_
            exact ret _ _ _ dX0_equalRuns_52 ⟨false, rfl, fun h => (by cases h), fun h => absurd (h i (by omega)).2 h3⟩
  refine x_iconstN (q := 0) dX0_equalRuns_0 rfl ?_
  refine x_istore dX0_equalRuns_1 (by decide) rfl ?_
  exact loop n 0 (by omega) (fun j hj => absurd hj (by omega))
end
section
/-! BandRegion: bandAt, changeAfter, covering, cells -/
set_option maxRecDepth 100000
/-- what a region's bands from the i-th on say of the arrays -/
theorem Rep.at {g : Gg} {r : Nat} {L1 L2 : List Bn} (h : Rep g r (L1 ++ L2) []) : L1.length + L2.length ≤ 24 ∧ tot L1 + tot L2 ≤ 288 ∧ g 0 r = L1.length + L2.length ∧ g 5 r = tot L1 + tot L2 ∧ RB g r L1.length (tot L1) L2 := by
  obtain ⟨h1, h2, h3, h4, h5, -⟩ := h
  rw [List.length_append] at h1 h3
  rw [tot_app] at h2 h4
  rw [RB_app] at h5
  have h6 := h5.2
  rw [Nat.zero_add, Nat.zero_add] at h6
  rw [List.length_nil] at h2 h4
  exact ⟨h1, by omega, h3, by omega, h6⟩
theorem m_bandAt (o : Ox) (g : Gg) (hB : bdX g) (r y : Nat) (L : List Bn) (hr : r < 5) (hy : y < 2048) (hR : Rep g r L []) : xI yX0_bandAt cX0_bandAt 4 .int rmA o g [.int (zI (r : Int)), .int (zI (y : Int))] (fun v => ∃ L1 L2, L = L1 ++ L2 ∧ v = zI ((L1.length : Nat) : Int) ∧ (∀ b ∈ L1, b.2.1 < y) ∧ (∀ b ∈ L2.head?, y ≤ b.2.1)) := by
  refine x_metI (lv0 := [some (.ref o.2.1), some (.int (zI (r : Int))), some (.int (zI (y : Int))), none]) (by decide) rfl hB rfl (Nat.le_of_ble_eq_true rfl) rfl (fun v h => rfl) (fun K ret => ?_)
  have loop : ∀ (L2 L1 : List Bn) (i : Nat), L = L1 ++ L2 → i = L1.length → (∀ b ∈ L1, b.2.1 < y) → bX K o rmA cX0_bandAt 4 g 2 [some (.ref o.2.1), some (.int (zI (r : Int))), some (.int (zI (y : Int))), some (.int (zI (i : Int)))] [] := by
    intro L2
    induction L2 with
    | nil =>
      intro L1 i hL hi h1
      rw [hL] at hR
      obtain ⟨a1, a2, a3, a4, a5⟩ := hR.at
      rw [List.length_nil] at a1 a3
      refine x_iload_n dX0_bandAt_2 rfl ?_
      refine x_aload_n dX0_bandAt_3 rfl ?_
      refine x_get0 dX0_bandAt_4 ?_
      refine x_iload_n dX0_bandAt_7 rfl ?_
      refine x_ald0 dX0_bandAt_8 (by omega) (fun hb8 => ?_)
      refine x_icmp_geN (tgt := 33) dX0_bandAt_9 (by decide) (by omega) (by omega) (fun h2 => ?_) (fun h2 => ?_)
      · refine x_iload_n dX0_bandAt_33 rfl ?_
        exact ret _ _ _ dX0_bandAt_34 ⟨L1, [], hL, by rw [hi], h1, fun b hb => by simp at hb⟩
      · exact absurd h2 (by omega)
    | cons b L2 ih =>
      intro L1 i hL hi h1
      have hR2 := hR
      rw [hL] at hR2
      obtain ⟨a1, a2, a3, a4, b1, b2, b3, b4, b5, b6⟩ := hR2.at
      rw [List.length_cons] at a1 a3
      rw [← hi] at b1 b2 b3 b4
      refine x_iload_n dX0_bandAt_2 rfl ?_
      refine x_aload_n dX0_bandAt_3 rfl ?_
      refine x_get0 dX0_bandAt_4 ?_
      refine x_iload_n dX0_bandAt_7 rfl ?_
      refine x_ald0 dX0_bandAt_8 (by omega) (fun hb8 => ?_)
      refine x_icmp_geN (tgt := 33) dX0_bandAt_9 (by decide) (by omega) (by omega) (fun h2 => ?_) (fun h2 => ?_)
      · exact absurd h2 (by omega)
      · refine x_aload_n dX0_bandAt_12 rfl ?_
        refine x_get2 dX0_bandAt_13 ?_
        refine x_iload_n dX0_bandAt_16 rfl ?_
        refine x_bipushN (q := 24) dX0_bandAt_17 rfl (by decide) ?_
        refine x_imulN dX0_bandAt_19 ?_
        refine x_iload_n dX0_bandAt_20 rfl ?_
        refine x_iaddN dX0_bandAt_21 ?_
        refine x_ald2 dX0_bandAt_22 (by omega) (fun hb22 => ?_)
        refine x_iload_n dX0_bandAt_23 rfl ?_
        refine x_icmp_geN (tgt := 33) dX0_bandAt_24 (by decide) (by omega) (by omega) (fun h3 => ?_) (fun h3 => ?_)
        · refine x_iload_n dX0_bandAt_33 rfl ?_
          exact ret _ _ _ dX0_bandAt_34 ⟨L1, b :: L2, hL, by rw [hi], h1, fun b' hb => by simp at hb; subst hb; omega⟩
        · refine x_iincN (q := 1) dX0_bandAt_27 rfl rfl (by decide) rfl ?_
          refine x_goto (tgt := 2) dX0_bandAt_30 (by decide) ?_
          exact ih (L1 ++ [b]) (i + 1) (by rw [hL]; simp) (by rw [hi]; simp) (fun b' hb => by
            rcases List.mem_append.mp hb with h | h
            · exact h1 b' h
            · rw [List.mem_singleton.mp h]; omega)
  refine x_iconstN (q := 0) dX0_bandAt_0 rfl ?_
  refine x_istore_n dX0_bandAt_1 (by decide) rfl ?_
  exact loop L [] 0 rfl rfl (fun b hb => by simp at hb)
theorem m_changeAfter (o : Ox) (g : Gg) (hB : bdX g) (r i y : Nat) (L1 L2 : List Bn) (hr : r < 5) (hy : y < 2048) (hi : i = L1.length) (hR : Rep g r (L1 ++ L2) []) : xI yX0_changeAfter cX0_changeAfter 5 .int rmA o g [.int (zI (r : Int)), .int (zI (i : Int)), .int (zI (y : Int))] (fun v => v = zI ((chB L2 y : Nat) : Int)) := by
  refine x_metI (lv0 := [some (.ref o.2.1), some (.int (zI (r : Int))), some (.int (zI (i : Int))), some (.int (zI (y : Int))), none]) (by decide) rfl hB rfl (Nat.le_of_ble_eq_true rfl) rfl (fun v h => rfl) (fun K ret => ?_)
  obtain ⟨a1, a2, a3, a4, a5⟩ := hR.at
  rw [← hi] at a1 a3 a5
  refine x_iload_n dX0_changeAfter_0 rfl ?_
  refine x_aload_n dX0_changeAfter_1 rfl ?_
  refine x_get0 dX0_changeAfter_2 ?_
  refine x_iload_n dX0_changeAfter_5 rfl ?_
  refine x_ald0 dX0_changeAfter_6 (by omega) (fun hb6 => ?_)
  refine x_icmp_ltN (tgt := 13) dX0_changeAfter_7 (by decide) (by omega) (by omega) (fun h1 => ?_) (fun h1 => ?_)
  · cases L2 with
    | nil =>
      rw [List.length_nil] at a1 a3
      exact absurd h1 (by omega)
    | cons b L2 =>
      rw [List.length_cons] at a1 a3
      obtain ⟨b1, b2, b3, b4, b5, b6⟩ := a5
      refine x_iload_n dX0_changeAfter_13 rfl ?_
      refine x_bipushN (q := 24) dX0_changeAfter_14 rfl (by decide) ?_
      refine x_imulN dX0_changeAfter_16 ?_
      refine x_iload_n dX0_changeAfter_17 rfl ?_
      refine x_iaddN dX0_changeAfter_18 ?_
      refine x_istore dX0_changeAfter_19 (by decide) rfl ?_
      refine x_aload_n dX0_changeAfter_21 rfl ?_
      refine x_get1 dX0_changeAfter_22 ?_
      refine x_iload dX0_changeAfter_25 rfl ?_
      refine x_ald1 dX0_changeAfter_27 (by omega) (fun hb27 => ?_)
      refine x_iload_n dX0_changeAfter_28 rfl ?_
      refine x_icmp_leN (tgt := 40) dX0_changeAfter_29 (by decide) (by omega) (by omega) (fun h2 => ?_) (fun h2 => ?_)
      · refine x_aload_n dX0_changeAfter_40 rfl ?_
        refine x_get2 dX0_changeAfter_41 ?_
        refine x_iload dX0_changeAfter_44 rfl ?_
        refine x_ald2 dX0_changeAfter_46 (by omega) (fun hb46 => ?_)
        refine x_iconstN (q := 1) dX0_changeAfter_47 rfl ?_
        refine x_iaddN dX0_changeAfter_48 ?_
        exact ret _ _ _ dX0_changeAfter_49 (by simp only [chB]; rw [if_neg (by omega), b2])
      · refine x_aload_n dX0_changeAfter_32 rfl ?_
        refine x_get1 dX0_changeAfter_33 ?_
        refine x_iload dX0_changeAfter_36 rfl ?_
        refine x_ald1 dX0_changeAfter_38 (by omega) (fun hb38 => ?_)
        exact ret _ _ _ dX0_changeAfter_39 (by simp only [chB]; rw [if_pos (by omega), b1])
  · cases L2 with
    | nil =>
      refine x_bipushN (q := 24) dX0_changeAfter_10 rfl (by decide) ?_
      exact ret _ _ _ dX0_changeAfter_12 rfl
    | cons b L2 =>
      rw [List.length_cons] at a1 a3
      exact absurd h1 (by omega)
/-- the cell of the band tables that covers row y, or -1 -/
def cvB (r i : Nat) : List Bn → Nat → Int
  | [], _ => -1
  | b :: _, y => if b.1 ≤ y then ((r * 24 + i : Nat) : Int) else -1
theorem m_covering (o : Ox) (g : Gg) (hB : bdX g) (r i y : Nat) (L1 L2 : List Bn) (hr : r < 5) (hy : y < 2048) (hi : i = L1.length) (hR : Rep g r (L1 ++ L2) []) : xI yX0_covering cX0_covering 5 .int rmA o g [.int (zI (r : Int)), .int (zI (i : Int)), .int (zI (y : Int))] (fun v => v = zI (cvB r i L2 y)) := by
  refine x_metI (lv0 := [some (.ref o.2.1), some (.int (zI (r : Int))), some (.int (zI (i : Int))), some (.int (zI (y : Int))), none]) (by decide) rfl hB rfl (Nat.le_of_ble_eq_true rfl) rfl (fun v h => rfl) (fun K ret => ?_)
  obtain ⟨a1, a2, a3, a4, a5⟩ := hR.at
  rw [← hi] at a1 a3 a5
  refine x_iload_n dX0_covering_0 rfl ?_
  refine x_aload_n dX0_covering_1 rfl ?_
  refine x_get0 dX0_covering_2 ?_
  refine x_iload_n dX0_covering_5 rfl ?_
  refine x_ald0 dX0_covering_6 (by omega) (fun hb6 => ?_)
  refine x_icmp_ltN (tgt := 12) dX0_covering_7 (by decide) (by omega) (by omega) (fun h1 => ?_) (fun h1 => ?_)
  · cases L2 with
    | nil =>
      rw [List.length_nil] at a1 a3
      exact absurd h1 (by omega)
    | cons b L2 =>
      rw [List.length_cons] at a1 a3
      obtain ⟨b1, b2, b3, b4, b5, b6⟩ := a5
      refine x_iload_n dX0_covering_12 rfl ?_
      refine x_bipushN (q := 24) dX0_covering_13 rfl (by decide) ?_
      refine x_imulN dX0_covering_15 ?_
      refine x_iload_n dX0_covering_16 rfl ?_
      refine x_iaddN dX0_covering_17 ?_
      refine x_istore dX0_covering_18 (by decide) rfl ?_
      refine x_aload_n dX0_covering_20 rfl ?_
      refine x_get1 dX0_covering_21 ?_
      refine x_iload dX0_covering_24 rfl ?_
      refine x_ald1 dX0_covering_26 (by omega) (fun hb26 => ?_)
      refine x_iload_n dX0_covering_27 rfl ?_
      refine x_icmp_gtN (tgt := 36) dX0_covering_28 (by decide) (by omega) (by omega) (fun h2 => ?_) (fun h2 => ?_)
      · refine x_iconst dX0_covering_36 ?_
        exact ret _ _ _ dX0_covering_37 (by simp only [cvB]; rw [if_neg (by omega)])
      · refine x_iload dX0_covering_31 rfl ?_
        refine x_goto (tgt := 37) dX0_covering_33 (by decide) ?_
        exact ret _ _ _ dX0_covering_37 (by simp only [cvB]; rw [if_pos (by omega)])
  · cases L2 with
    | nil =>
      refine x_iconst dX0_covering_10 ?_
      exact ret _ _ _ dX0_covering_11 rfl
    | cons b L2 =>
      rw [List.length_cons] at a1 a3
      exact absurd h1 (by omega)
def wid : List Rn → Nat
  | [] => 0
  | q :: p => (q.2 - q.1 + 1) + wid p
def areaB : List Bn → Nat
  | [] => 0
  | b :: L => wid b.2.2 * (b.2.1 - b.1 + 1) + areaB L
theorem SB_at {hi : Nat} {L1 L2 : List Bn} {lo : Nat} {b : Bn} (h : SB lo hi (L1 ++ b :: L2)) : b.1 ≤ b.2.1 ∧ b.2.1 < hi ∧ b.2.2 ≠ [] ∧ SR 0 24 b.2.2 := by
  rw [SB_app] at h
  obtain ⟨-, -, h1, h2, h3, h4, -⟩ := h
  exact ⟨h1, h2, h3, h4⟩
theorem SR_at {hi : Nat} {p1 p2 : List Rn} {lo : Nat} {q : Rn} (h : SR lo hi (p1 ++ q :: p2)) : q.1 ≤ q.2 ∧ q.2 < hi := by
  rw [SR_app] at h
  obtain ⟨-, -, h1, h2, -⟩ := h
  exact ⟨h1, h2⟩
theorem m_cells (o : Ox) (g : Gg) (hB : bdX g) (r : Nat) (L : List Bn) (hr : r < 5) (hR : Rep g r L []) (hS : SB 0 24 L) : xI yX0_cells cX0_cells 8 .int rmA o g [.int (zI (r : Int))] (fun v => v = zI ((areaB L : Nat) : Int)) := by
  refine x_metI (lv0 := [some (.ref o.2.1), some (.int (zI (r : Int))), none, none, none, none, none, none]) (by decide) rfl hB rfl (Nat.le_of_ble_eq_true rfl) rfl (fun v h => rfl) (fun K ret => ?_)
  have loop : ∀ (L2 L1 : List Bn) (i s : Nat) (t4 t5 t6 t7 : Option Value), L = L1 ++ L2 → i = L1.length → s + areaB L2 = areaB L → bX K o rmA cX0_cells 8 g 4 [some (.ref o.2.1), some (.int (zI (r : Int))), some (.int (zI (s : Int))), some (.int (zI (i : Int))), t4, t5, t6, t7] [] := by
    intro L2
    induction L2 with
    | nil =>
      intro L1 i s t4 t5 t6 t7 hL hi hs
      have hR2 := hR
      rw [hL] at hR2
      obtain ⟨a1, a2, a3, a4, a5⟩ := hR2.at
      rw [List.length_nil] at a1 a3
      refine x_iload_n dX0_cells_4 rfl ?_
      refine x_aload_n dX0_cells_5 rfl ?_
      refine x_get0 dX0_cells_6 ?_
      refine x_iload_n dX0_cells_9 rfl ?_
      refine x_ald0 dX0_cells_10 (by omega) (fun hb10 => ?_)
      refine x_icmp_geN (tgt := 115) dX0_cells_11 (by decide) (by omega) (by omega) (fun h2 => ?_) (fun h2 => ?_)
      · refine x_iload_n dX0_cells_115 rfl ?_
        exact ret _ _ _ dX0_cells_116 (by rw [← hs]; rfl)
      · exact absurd h2 (by omega)
    | cons b L2 ih =>
      intro L1 i s t4 t5 t6 t7 hL hi hs
      have hR2 := hR
      have hS2 := hS
      rw [hL] at hR2 hS2
      obtain ⟨a1, a2, a3, a4, b1, b2, b3, b4, b5, b6⟩ := hR2.at
      obtain ⟨c1, c2, c3, c4⟩ := SB_at hS2
      rw [List.length_cons] at a1 a3
      simp only [tot] at a2
      rw [← hi] at b1 b2 b3 b4
      simp only [areaB] at hs
      have inner : ∀ (p2 p1 : List Rn) (k w : Nat) (t7 : Option Value), b.2.2 = p1 ++ p2 → k = p1.length → w + wid p2 = wid b.2.2 → RR g (r * 288 + tot L1 + k) p2 → bX K o rmA cX0_cells 8 g 28 [some (.ref o.2.1), some (.int (zI (r : Int))), some (.int (zI (s : Int))), some (.int (zI (i : Int))), some (.int (zI ((r * 24 + i : Nat) : Int))), some (.int (zI (w : Int))), some (.int (zI (k : Int))), t7] [] := by
        intro p2
        induction p2 with
        | nil =>
          intro p1 k w t7 hp hk hw hRR
          have hlen : b.2.2.length = p1.length := by rw [hp]; simp
          refine x_iload dX0_cells_28 rfl ?_
          refine x_aload_n dX0_cells_30 rfl ?_
          refine x_get4 dX0_cells_31 ?_
          refine x_iload dX0_cells_34 rfl ?_
          refine x_ald4 dX0_cells_36 (by omega) (fun hb36 => ?_)
          refine x_icmp_geN (tgt := 86) dX0_cells_37 (by decide) (by omega) (by omega) (fun h3 => ?_) (fun h3 => ?_)
          · refine x_iload_n dX0_cells_86 rfl ?_
            refine x_iload dX0_cells_87 rfl ?_
            refine x_aload_n dX0_cells_89 rfl ?_
            refine x_get2 dX0_cells_90 ?_
            refine x_iload dX0_cells_93 rfl ?_
            refine x_ald2 dX0_cells_95 (by omega) (fun hb95 => ?_)
            refine x_aload_n dX0_cells_96 rfl ?_
            refine x_get1 dX0_cells_97 ?_
            refine x_iload dX0_cells_100 rfl ?_
            refine x_ald1 dX0_cells_102 (by omega) (fun hb102 => ?_)
            refine x_isubN dX0_cells_103 (by omega) ?_
            refine x_iconstN (q := 1) dX0_cells_104 rfl ?_
            refine x_iaddN dX0_cells_105 ?_
            refine x_imulN dX0_cells_106 ?_
            refine x_iaddN dX0_cells_107 ?_
            refine x_istore_n dX0_cells_108 (by decide) rfl ?_
            refine x_iincN (q := 1) dX0_cells_109 rfl rfl (by decide) rfl ?_
            refine x_goto (tgt := 4) dX0_cells_112 (by decide) ?_
            refine ih (L1 ++ [b]) (i + 1) _ _ _ _ _ (by rw [hL]; simp) (by rw [hi]; simp) ?_
            simp only [wid, Nat.add_zero] at hw
            rw [hw, b1, b2]
            omega
          · exact absurd h3 (by omega)
        | cons q p2 ih2 =>
          intro p1 k w t7 hp hk hw hRR
          have hlen : b.2.2.length = p1.length + (p2.length + 1) := by rw [hp]; simp
          obtain ⟨d1, d2, d3⟩ := hRR
          rw [hp] at c4
          obtain ⟨e1, e2⟩ := SR_at c4
          simp only [wid] at hw
          refine x_iload dX0_cells_28 rfl ?_
          refine x_aload_n dX0_cells_30 rfl ?_
          refine x_get4 dX0_cells_31 ?_
          refine x_iload dX0_cells_34 rfl ?_
          refine x_ald4 dX0_cells_36 (by omega) (fun hb36 => ?_)
          refine x_icmp_geN (tgt := 86) dX0_cells_37 (by decide) (by omega) (by omega) (fun h3 => ?_) (fun h3 => ?_)
          · exact absurd h3 (by omega)
          · refine x_iload_n dX0_cells_40 rfl ?_
            refine x_sipushN (q := 288) dX0_cells_41 rfl (by decide) ?_
            refine x_imulN dX0_cells_44 ?_
            refine x_aload_n dX0_cells_45 rfl ?_
            refine x_get3 dX0_cells_46 ?_
            refine x_iload dX0_cells_49 rfl ?_
            refine x_ald3 dX0_cells_51 (by omega) (fun hb51 => ?_)
            refine x_iaddN dX0_cells_52 ?_
            refine x_iload dX0_cells_53 rfl ?_
            refine x_iaddN dX0_cells_55 ?_
            refine x_top (y := ((r * 288 + tot L1 + k : Nat) : Int)) (by omega) ?_
            refine x_istore dX0_cells_56 (by decide) rfl ?_
            refine x_iload dX0_cells_58 rfl ?_
            refine x_aload_n dX0_cells_60 rfl ?_
            refine x_get7 dX0_cells_61 ?_
            refine x_iload dX0_cells_64 rfl ?_
            refine x_ald7 dX0_cells_66 (by omega) (fun hb66 => ?_)
            refine x_aload_n dX0_cells_67 rfl ?_
            refine x_get6 dX0_cells_68 ?_
            refine x_iload dX0_cells_71 rfl ?_
            refine x_ald6 dX0_cells_73 (by omega) (fun hb73 => ?_)
            refine x_isubN dX0_cells_74 (by omega) ?_
            refine x_iconstN (q := 1) dX0_cells_75 rfl ?_
            refine x_iaddN dX0_cells_76 ?_
            refine x_iaddN dX0_cells_77 ?_
            refine x_istore dX0_cells_78 (by decide) rfl ?_
            refine x_iincN (q := 1) dX0_cells_80 rfl rfl (by decide) rfl ?_
            refine x_goto (tgt := 28) dX0_cells_83 (by decide) ?_
            exact ih2 (p1 ++ [q]) (k + 1) _ _ (by rw [hp]; simp) (by rw [hk]; simp) (by rw [d1, d2]; omega) d3
      refine x_iload_n dX0_cells_4 rfl ?_
      refine x_aload_n dX0_cells_5 rfl ?_
      refine x_get0 dX0_cells_6 ?_
      refine x_iload_n dX0_cells_9 rfl ?_
      refine x_ald0 dX0_cells_10 (by omega) (fun hb10 => ?_)
      refine x_icmp_geN (tgt := 115) dX0_cells_11 (by decide) (by omega) (by omega) (fun h2 => ?_) (fun h2 => ?_)
      · exact absurd h2 (by omega)
      · refine x_iload_n dX0_cells_14 rfl ?_
        refine x_bipushN (q := 24) dX0_cells_15 rfl (by decide) ?_
        refine x_imulN dX0_cells_17 ?_
        refine x_iload_n dX0_cells_18 rfl ?_
        refine x_iaddN dX0_cells_19 ?_
        refine x_istore dX0_cells_20 (by decide) rfl ?_
        refine x_iconstN (q := 0) dX0_cells_22 rfl ?_
        refine x_istore dX0_cells_23 (by decide) rfl ?_
        refine x_iconstN (q := 0) dX0_cells_25 rfl ?_
        refine x_istore dX0_cells_26 (by decide) rfl ?_
        exact inner b.2.2 [] 0 0 _ rfl rfl (by omega) b5
  refine x_iconstN (q := 0) dX0_cells_0 rfl ?_
  refine x_istore_n dX0_cells_1 (by decide) rfl ?_
  refine x_iconstN (q := 0) dX0_cells_2 rfl ?_
  refine x_istore_n dX0_cells_3 (by decide) rfl ?_
  exact loop L [] 0 0 _ _ _ _ rfl rfl (by omega)
end
section
/-! BandRegion: endBand, keep -/
set_option maxRecDepth 100000
theorem m_endBand (o : Ox) (g : Gg) (hB : bdX g) (r f t e : Nat) (hr : r < 5) (h5 : g 5 r ≤ 288) (h0 : g 0 r ≤ 24) (hf : f ≤ g 5 r) (ht : t < 2048) (he : e < 2048) (hp : 0 < g 0 r → g 3 (r * 24 + g 0 r - 1) + g 4 (r * 24 + g 0 r - 1) ≤ 288) : xV yX0_endBand cX0_endBand 8 rmB o g [.int (zI (r : Int)), .int (zI (f : Int)), .int (zI (t : Int)), .int (zI (e : Int))] (fun u => EB g r f t e u) := by
  refine x_metV (lv0 := [some (.ref o.2.1), some (.int (zI (r : Int))), some (.int (zI (f : Int))), some (.int (zI (t : Int))), some (.int (zI (e : Int))), none, none, none]) (by decide) rfl hB rfl (Nat.le_of_ble_eq_true rfl) rfl (fun K ret => ?_)
  refine x_aload_n dX0_endBand_0 rfl ?_
  refine x_get5 dX0_endBand_1 ?_
  refine x_iload_n dX0_endBand_4 rfl ?_
  refine x_ald5 dX0_endBand_5 (by omega) (fun hb5 => ?_)
  refine x_iload_n dX0_endBand_6 rfl ?_
  refine x_isubN dX0_endBand_7 (by omega) ?_
  refine x_istore dX0_endBand_8 (by decide) rfl ?_
  refine x_iload dX0_endBand_10 rfl ?_
  refine x_if_ne (tgt := 16) dX0_endBand_12 (by decide) (by omega) (fun h1 => ?_) (fun h1 => ?_)
  · have tl : ∀ t7 : Option Value, ¬ (0 < g 0 r ∧ g 2 (r * 24 + g 0 r - 1) + 1 = t ∧ g 4 (r * 24 + g 0 r - 1) = g 5 r - f ∧ eqRn g (r * 288 + g 3 (r * 24 + g 0 r - 1)) (r * 288 + f) (g 5 r - f)) → ∀ x6 : Int32, bX K o rmB cX0_endBand 8 g 115 [some (.ref o.2.1), some (.int (zI (r : Int))), some (.int (zI (f : Int))), some (.int (zI (t : Int))), some (.int (zI (e : Int))), some (.int (zI ((g 5 r - f : Nat) : Int))), some (.int x6), t7] [] := by
      intro t7 hno x6
      refine x_aload_n dX0_endBand_115 rfl ?_
      refine x_get0 dX0_endBand_116 ?_
      refine x_iload_n dX0_endBand_119 rfl ?_
      refine x_ald0 dX0_endBand_120 (by omega) (fun hb120 => ?_)
      refine x_bipushN (q := 24) dX0_endBand_121 rfl (by decide) ?_
      refine x_icmp_ltN (tgt := 127) dX0_endBand_123 (by decide) (by omega) (by omega) (fun h3 => ?_) (fun h3 => ?_)
      · refine x_iload_n dX0_endBand_127 rfl ?_
        refine x_bipushN (q := 24) dX0_endBand_128 rfl (by decide) ?_
        refine x_imulN dX0_endBand_130 ?_
        refine x_aload_n dX0_endBand_131 rfl ?_
        refine x_get0 dX0_endBand_132 ?_
        refine x_iload_n dX0_endBand_135 rfl ?_
        refine x_ald0 dX0_endBand_136 (by omega) (fun hb136 => ?_)
        refine x_iaddN dX0_endBand_137 ?_
        refine x_istore dX0_endBand_138 (by decide) rfl ?_
        refine x_aload_n dX0_endBand_140 rfl ?_
        refine x_get1 dX0_endBand_141 ?_
        refine x_iload dX0_endBand_144 rfl ?_
        refine x_iload_n dX0_endBand_146 rfl ?_
        refine x_ast1 dX0_endBand_147 (by omega) (by omega) ?_
        refine x_aload_n dX0_endBand_148 rfl ?_
        refine x_get2 dX0_endBand_149 ?_
        refine x_iload dX0_endBand_152 rfl ?_
        refine x_iload dX0_endBand_154 rfl ?_
        refine x_ast2 dX0_endBand_156 (by omega) (by omega) ?_
        refine x_aload_n dX0_endBand_157 rfl ?_
        refine x_get3 dX0_endBand_158 ?_
        refine x_iload dX0_endBand_161 rfl ?_
        refine x_iload_n dX0_endBand_163 rfl ?_
        refine x_ast3 dX0_endBand_164 (by omega) (by omega) ?_
        refine x_aload_n dX0_endBand_165 rfl ?_
        refine x_get4 dX0_endBand_166 ?_
        refine x_iload dX0_endBand_169 rfl ?_
        refine x_iload dX0_endBand_171 rfl ?_
        refine x_ast4 dX0_endBand_173 (by omega) (by omega) ?_
        refine x_aload_n dX0_endBand_174 rfl ?_
        refine x_get0 dX0_endBand_175 ?_
        refine x_iload_n dX0_endBand_178 rfl ?_
        refine x_dup2 dX0_endBand_179 ?_
        refine x_ald0 dX0_endBand_180 (by omega) (fun hb180 => ?_)
        refine x_top (y := ((g 0 r : Nat) : Int)) (by rw [up2_k (by decide), up2_k (by decide), up2_k (by decide), up2_k (by decide)]) ?_
        refine x_iconstN (q := 1) dX0_endBand_181 rfl ?_
        refine x_iaddN dX0_endBand_182 ?_
        refine x_ast0 dX0_endBand_183 (by omega) (by omega) ?_
        exact ret _ _ _ dX0_endBand_184 (Or.inr (Or.inr ⟨by omega, hno, Or.inr ⟨h3, rfl⟩⟩))
      · exact ret _ _ _ dX0_endBand_126 (Or.inr (Or.inr ⟨by omega, hno, Or.inl ⟨h3, rfl⟩⟩))
    refine x_iload_n dX0_endBand_16 rfl ?_
    refine x_bipushN (q := 24) dX0_endBand_17 rfl (by decide) ?_
    refine x_imulN dX0_endBand_19 ?_
    refine x_aload_n dX0_endBand_20 rfl ?_
    refine x_get0 dX0_endBand_21 ?_
    refine x_iload_n dX0_endBand_24 rfl ?_
    refine x_ald0 dX0_endBand_25 (by omega) (fun hb25 => ?_)
    refine x_iaddN dX0_endBand_26 ?_
    refine x_iconstN (q := 1) dX0_endBand_27 rfl ?_
    refine x_isub dX0_endBand_28 ?_
    refine x_istore dX0_endBand_29 (by decide) rfl ?_
    refine x_aload_n dX0_endBand_31 rfl ?_
    refine x_get0 dX0_endBand_32 ?_
    refine x_iload_n dX0_endBand_35 rfl ?_
    refine x_ald0 dX0_endBand_36 (by omega) (fun hb36 => ?_)
    refine x_if_le (tgt := 115) dX0_endBand_37 (by decide) (by omega) (fun h2 => ?_) (fun h2 => ?_)
    · exact tl _ (fun hh => by omega) _
    · refine (show _ from ?_)
      have hpos : 0 < g 0 r := by omega
      have hpp := hp hpos
      have hee : (((r * 24 + g 0 r : Nat) : Int) - ((1 : Nat) : Int)) = ((r * 24 + g 0 r - 1 : Nat) : Int) := by omega
      rw [hee]
      refine x_aload_n dX0_endBand_40 rfl ?_
      refine x_get2 dX0_endBand_41 ?_
      refine x_iload dX0_endBand_44 rfl ?_
      refine x_ald2 dX0_endBand_46 (by omega) (fun hb46 => ?_)
      refine x_iconstN (q := 1) dX0_endBand_47 rfl ?_
      refine x_iaddN dX0_endBand_48 ?_
      refine x_iload_n dX0_endBand_49 rfl ?_
      refine x_icmp_neN (tgt := 115) dX0_endBand_50 (by decide) (by omega) (by omega) (fun h3 => ?_) (fun h3 => ?_)
      · exact tl _ (fun hh => h3 hh.2.1) _
      · refine x_aload_n dX0_endBand_53 rfl ?_
        refine x_get4 dX0_endBand_54 ?_
        refine x_iload dX0_endBand_57 rfl ?_
        refine x_ald4 dX0_endBand_59 (by omega) (fun hb59 => ?_)
        refine x_iload dX0_endBand_60 rfl ?_
        refine x_icmp_neN (tgt := 115) dX0_endBand_62 (by decide) (by omega) (by omega) (fun h4 => ?_) (fun h4 => ?_)
        · exact tl _ (fun hh => h4 hh.2.2.1) _
        · refine x_aload_n dX0_endBand_65 rfl ?_
          refine x_iload_n dX0_endBand_66 rfl ?_
          refine x_sipushN (q := 288) dX0_endBand_67 rfl (by decide) ?_
          refine x_imulN dX0_endBand_70 ?_
          refine x_aload_n dX0_endBand_71 rfl ?_
          refine x_get3 dX0_endBand_72 ?_
          refine x_iload dX0_endBand_75 rfl ?_
          refine x_ald3 dX0_endBand_77 (by omega) (fun hb77 => ?_)
          refine x_iaddN dX0_endBand_78 ?_
          refine x_iload_n dX0_endBand_79 rfl ?_
          refine x_sipushN (q := 288) dX0_endBand_80 rfl (by decide) ?_
          refine x_imulN dX0_endBand_83 ?_
          refine x_iload_n dX0_endBand_84 rfl ?_
          refine x_iaddN dX0_endBand_85 ?_
          refine x_iload dX0_endBand_86 rfl ?_
          refine x_callI (m_equalRuns o g hB (r * 288 + g 3 (r * 24 + g 0 r - 1)) (r * 288 + f) (g 5 r - f) (by omega) (by omega)) gw_X0_equalRuns cf_X0_equalRuns ⟨rfl, rfl, by decide, by decide⟩ rfl dX0_endBand_88 rfl (Nat.le_of_ble_eq_true rfl) (fun v hv => ?_)
          obtain ⟨c, rfl, hc⟩ := hv
          refine x_istore dX0_endBand_91 (by decide) rfl ?_
          refine x_iload dX0_endBand_93 rfl ?_
          refine x_if_eqB (tgt := 115) dX0_endBand_95 (by decide) (fun h5 => ?_) (fun h5 => ?_)
          · refine tl _ (fun hh => ?_) _
            rw [hc.mpr hh.2.2.2] at h5
            cases h5
          · refine x_aload_n dX0_endBand_98 rfl ?_
            refine x_get2 dX0_endBand_99 ?_
            refine x_iload dX0_endBand_102 rfl ?_
            refine x_iload dX0_endBand_104 rfl ?_
            refine x_ast2 dX0_endBand_106 (by omega) (by omega) ?_
            refine x_aload_n dX0_endBand_107 rfl ?_
            refine x_get5 dX0_endBand_108 ?_
            refine x_iload_n dX0_endBand_111 rfl ?_
            refine x_iload_n dX0_endBand_112 rfl ?_
            refine x_ast5 dX0_endBand_113 (by omega) (by omega) ?_
            exact ret _ _ _ dX0_endBand_114 (Or.inr (Or.inl ⟨by omega, ⟨hpos, h3, h4, hc.mp h5⟩, rfl⟩))
  · exact ret _ _ _ dX0_endBand_15 (Or.inl ⟨by omega, rfl⟩)
/-- the region that was made, made region r -/
theorem m_keep (o : Ox) (g : Gg) (hB : bdX g) (r : Nat) (L : List Bn) (hr : r < 3) (hR : Rep g 3 L []) : xV yX0_keep cX0_keep 3 rmA o g [.int (zI (r : Int))] (fun u => Rep u r L [] ∧ ∀ q, q ≠ r → AG g u q) := by
  refine x_metV (lv0 := [some (.ref o.2.1), some (.int (zI (r : Int))), none]) (by decide) rfl hB rfl (Nat.le_of_ble_eq_true rfl) rfl (fun K ret => ?_)
  obtain ⟨a1, a2, a3, a4, a5, -⟩ := hR
  rw [List.length_nil, Nat.add_zero] at a2 a4
  have loop2 : ∀ (m i : Nat) (u : Gg), i + m = tot L → (∀ q, q ≠ r → AG g u q) → u 0 r = L.length → u 5 r = tot L → (∀ k j, 1 ≤ k → k ≤ 4 → j < L.length → u k (r * 24 + j) = g k (72 + j)) → (∀ j, j < i → u 6 (r * 288 + j) = g 6 (864 + j) ∧ u 7 (r * 288 + j) = g 7 (864 + j)) → bX K o rmA cX0_keep 3 u 124 [some (.ref o.2.1), some (.int (zI (r : Int))), some (.int (zI (i : Int)))] [] := by
    intro m
    induction m with
    | zero =>
      intro i u hi hag h0 h5 hb hj
      have e5 : u 5 3 = tot L := (hag 3 (by omega)).2.1.trans a4
      refine x_iload_n dX0_keep_124 rfl ?_
      refine x_aload_n dX0_keep_125 rfl ?_
      refine x_get5 dX0_keep_126 ?_
      refine x_iconstN (q := 3) dX0_keep_129 rfl ?_
      refine x_ald5 dX0_keep_130 (by omega) (fun hb130 => ?_)
      refine x_icmp_geN (tgt := 184) dX0_keep_131 (by decide) (by omega) (by omega) (fun h1 => ?_) (fun h1 => ?_)
      · refine ret _ _ _ dX0_keep_184 ⟨⟨a1, by rw [List.length_nil]; omega, h0, by rw [h5]; rfl, ?_, trivial⟩, hag⟩
        have key : ∀ (M : List Bn) (i f : Nat), i + M.length ≤ L.length → f + tot M ≤ tot L → RB g 3 i f M → RB u r i f M := by
          intro M
          induction M with
          | nil => intro i f _ _ _; trivial
          | cons b M ihM =>
            intro i f hl hf hM
            obtain ⟨b1, b2, b3, b4, b5, b6⟩ := hM
            rw [List.length_cons] at hl
            simp only [tot] at hf
            refine ⟨(hb 1 i (by decide) (by decide) (by omega)).trans b1, (hb 2 i (by decide) (by decide) (by omega)).trans b2, (hb 3 i (by decide) (by decide) (by omega)).trans b3, (hb 4 i (by decide) (by decide) (by omega)).trans b4, ?_, ihM (i + 1) (f + b.2.2.length) (by omega) (by omega) b6⟩
            have kr : ∀ (p : List Rn) (n : Nat), n + p.length ≤ tot L → RR g (864 + n) p → RR u (r * 288 + n) p := by
              intro p
              induction p with
              | nil => intro n _ _; trivial
              | cons q p ihp =>
                intro n hn hq
                obtain ⟨c1, c2, c3⟩ := hq
                rw [List.length_cons] at hn
                have := hj n (by omega)
                exact ⟨this.1.trans c1, this.2.trans c2, ihp (n + 1) (by omega) c3⟩
            exact kr b.2.2 f (by omega) b5
        exact key L 0 0 (by omega) (by omega) a5
      · exact absurd h1 (by omega)
    | succ m ih =>
      intro i u hi hag h0 h5 hb hj
      have e5 : u 5 3 = tot L := (hag 3 (by omega)).2.1.trans a4
      have e6 : u 6 (864 + i) = g 6 (864 + i) := (hag 3 (by omega)).2.2.2 6 i (by decide) (by decide) (by omega)
      have e7 : u 7 (864 + i) = g 7 (864 + i) := (hag 3 (by omega)).2.2.2 7 i (by decide) (by decide) (by omega)
      refine x_iload_n dX0_keep_124 rfl ?_
      refine x_aload_n dX0_keep_125 rfl ?_
      refine x_get5 dX0_keep_126 ?_
      refine x_iconstN (q := 3) dX0_keep_129 rfl ?_
      refine x_ald5 dX0_keep_130 (by omega) (fun hb130 => ?_)
      refine x_icmp_geN (tgt := 184) dX0_keep_131 (by decide) (by omega) (by omega) (fun h1 => ?_) (fun h1 => ?_)
      · exact absurd h1 (by omega)
      · refine x_aload_n dX0_keep_134 rfl ?_
        refine x_get6 dX0_keep_135 ?_
        refine x_iload_n dX0_keep_138 rfl ?_
        refine x_sipushN (q := 288) dX0_keep_139 rfl (by decide) ?_
        refine x_imulN dX0_keep_142 ?_
        refine x_iload_n dX0_keep_143 rfl ?_
        refine x_iaddN dX0_keep_144 ?_
        refine x_aload_n dX0_keep_145 rfl ?_
        refine x_get6 dX0_keep_146 ?_
        refine x_sipushN (q := 864) dX0_keep_149 rfl (by decide) ?_
        refine x_iload_n dX0_keep_152 rfl ?_
        refine x_iaddN dX0_keep_153 ?_
        refine x_ald6 dX0_keep_154 (by omega) (fun hb154 => ?_)
        refine x_ast6 dX0_keep_155 (by omega) (by omega) ?_
        refine x_aload_n dX0_keep_156 rfl ?_
        refine x_get7 dX0_keep_157 ?_
        refine x_iload_n dX0_keep_160 rfl ?_
        refine x_sipushN (q := 288) dX0_keep_161 rfl (by decide) ?_
        refine x_imulN dX0_keep_164 ?_
        refine x_iload_n dX0_keep_165 rfl ?_
        refine x_iaddN dX0_keep_166 ?_
        refine x_aload_n dX0_keep_167 rfl ?_
        refine x_get7 dX0_keep_168 ?_
        refine x_sipushN (q := 864) dX0_keep_171 rfl (by decide) ?_
        refine x_iload_n dX0_keep_174 rfl ?_
        refine x_iaddN dX0_keep_175 ?_
        refine x_ald7 dX0_keep_176 (by omega) (fun hb176 => ?_)
        refine x_ast7 dX0_keep_177 (by omega) (by omega) ?_
        refine x_iincN (q := 1) dX0_keep_178 rfl rfl (by decide) rfl ?_
        refine x_goto (tgt := 124) dX0_keep_181 (by decide) ?_
        refine ih (i + 1) _ (by omega) (fun q hq => (hag q hq).tr ((AG.up (fun a => by omega) (fun _ b => absurd b (by decide)) (fun _ _ => by omega)).tr (AG.up (fun a => by omega) (fun _ b => absurd b (by decide)) (fun _ _ => by omega)))) ?_ ?_ ?_ ?_
        · rw [up2_k (by decide), up2_k (by decide)]
          exact h0
        · rw [up2_k (by decide), up2_k (by decide)]
          exact h5
        · intro k j c1 c2 c3
          rw [up2_k (by omega), up2_k (by omega)]
          exact hb k j c1 c2 c3
        · intro j hj2
          rw [up2_k (a := 6) (k := 7) (by decide)]
          by_cases e : j = i
          · subst e
            rw [up2_s, up2_s, up2_k (by decide)]
            exact ⟨e6, e7⟩
          · rw [up2_n (by omega), up2_n (by omega), up2_k (by decide)]
            exact hj j (by omega)
  have loop1 : ∀ (m i : Nat) (u : Gg), i + m = L.length → (∀ q, q ≠ r → AG g u q) → u 0 r = L.length → u 5 r = tot L → (∀ k j, 1 ≤ k → k ≤ 4 → j < i → u k (r * 24 + j) = g k (72 + j)) → bX K o rmA cX0_keep 3 u 26 [some (.ref o.2.1), some (.int (zI (r : Int))), some (.int (zI (i : Int)))] [] := by
    intro m
    induction m with
    | zero =>
      intro i u hi hag h0 h5 hb
      have e0 : u 0 3 = L.length := (hag 3 (by omega)).1.trans a3
      refine x_iload_n dX0_keep_26 rfl ?_
      refine x_aload_n dX0_keep_27 rfl ?_
      refine x_get0 dX0_keep_28 ?_
      refine x_iconstN (q := 3) dX0_keep_31 rfl ?_
      refine x_ald0 dX0_keep_32 (by omega) (fun hb32 => ?_)
      refine x_icmp_geN (tgt := 122) dX0_keep_33 (by decide) (by omega) (by omega) (fun h1 => ?_) (fun h1 => ?_)
      · refine x_iconstN (q := 0) dX0_keep_122 rfl ?_
        refine x_istore_n dX0_keep_123 (by decide) rfl ?_
        exact loop2 (tot L) 0 u (by omega) hag h0 h5 (fun k j c1 c2 c3 => hb k j c1 c2 (by omega)) (fun j hj => absurd hj (by omega))
      · exact absurd h1 (by omega)
    | succ m ih =>
      intro i u hi hag h0 h5 hb
      have e0 : u 0 3 = L.length := (hag 3 (by omega)).1.trans a3
      have e1 : ∀ k, 1 ≤ k → k ≤ 4 → u k (72 + i) = g k (72 + i) := fun k c1 c2 => (hag 3 (by omega)).2.2.1 k i c1 c2 (by omega)
      refine x_iload_n dX0_keep_26 rfl ?_
      refine x_aload_n dX0_keep_27 rfl ?_
      refine x_get0 dX0_keep_28 ?_
      refine x_iconstN (q := 3) dX0_keep_31 rfl ?_
      refine x_ald0 dX0_keep_32 (by omega) (fun hb32 => ?_)
      refine x_icmp_geN (tgt := 122) dX0_keep_33 (by decide) (by omega) (by omega) (fun h1 => ?_) (fun h1 => ?_)
      · exact absurd h1 (by omega)
      · refine x_aload_n dX0_keep_36 rfl ?_
        refine x_get1 dX0_keep_37 ?_
        refine x_iload_n dX0_keep_40 rfl ?_
        refine x_bipushN (q := 24) dX0_keep_41 rfl (by decide) ?_
        refine x_imulN dX0_keep_43 ?_
        refine x_iload_n dX0_keep_44 rfl ?_
        refine x_iaddN dX0_keep_45 ?_
        refine x_aload_n dX0_keep_46 rfl ?_
        refine x_get1 dX0_keep_47 ?_
        refine x_bipushN (q := 72) dX0_keep_50 rfl (by decide) ?_
        refine x_iload_n dX0_keep_52 rfl ?_
        refine x_iaddN dX0_keep_53 ?_
        refine x_ald1 dX0_keep_54 (by omega) (fun hb54 => ?_)
        refine x_ast1 dX0_keep_55 (by omega) (by omega) ?_
        refine x_aload_n dX0_keep_56 rfl ?_
        refine x_get2 dX0_keep_57 ?_
        refine x_iload_n dX0_keep_60 rfl ?_
        refine x_bipushN (q := 24) dX0_keep_61 rfl (by decide) ?_
        refine x_imulN dX0_keep_63 ?_
        refine x_iload_n dX0_keep_64 rfl ?_
        refine x_iaddN dX0_keep_65 ?_
        refine x_aload_n dX0_keep_66 rfl ?_
        refine x_get2 dX0_keep_67 ?_
        refine x_bipushN (q := 72) dX0_keep_70 rfl (by decide) ?_
        refine x_iload_n dX0_keep_72 rfl ?_
        refine x_iaddN dX0_keep_73 ?_
        refine x_ald2 dX0_keep_74 (by omega) (fun hb74 => ?_)
        refine x_ast2 dX0_keep_75 (by omega) (by omega) ?_
        refine x_aload_n dX0_keep_76 rfl ?_
        refine x_get3 dX0_keep_77 ?_
        refine x_iload_n dX0_keep_80 rfl ?_
        refine x_bipushN (q := 24) dX0_keep_81 rfl (by decide) ?_
        refine x_imulN dX0_keep_83 ?_
        refine x_iload_n dX0_keep_84 rfl ?_
        refine x_iaddN dX0_keep_85 ?_
        refine x_aload_n dX0_keep_86 rfl ?_
        refine x_get3 dX0_keep_87 ?_
        refine x_bipushN (q := 72) dX0_keep_90 rfl (by decide) ?_
        refine x_iload_n dX0_keep_92 rfl ?_
        refine x_iaddN dX0_keep_93 ?_
        refine x_ald3 dX0_keep_94 (by omega) (fun hb94 => ?_)
        refine x_ast3 dX0_keep_95 (by omega) (by omega) ?_
        refine x_aload_n dX0_keep_96 rfl ?_
        refine x_get4 dX0_keep_97 ?_
        refine x_iload_n dX0_keep_100 rfl ?_
        refine x_bipushN (q := 24) dX0_keep_101 rfl (by decide) ?_
        refine x_imulN dX0_keep_103 ?_
        refine x_iload_n dX0_keep_104 rfl ?_
        refine x_iaddN dX0_keep_105 ?_
        refine x_aload_n dX0_keep_106 rfl ?_
        refine x_get4 dX0_keep_107 ?_
        refine x_bipushN (q := 72) dX0_keep_110 rfl (by decide) ?_
        refine x_iload_n dX0_keep_112 rfl ?_
        refine x_iaddN dX0_keep_113 ?_
        refine x_ald4 dX0_keep_114 (by omega) (fun hb114 => ?_)
        refine x_ast4 dX0_keep_115 (by omega) (by omega) ?_
        refine x_iincN (q := 1) dX0_keep_116 rfl rfl (by decide) rfl ?_
        refine x_goto (tgt := 26) dX0_keep_119 (by decide) ?_
        refine ih (i + 1) _ (by omega) (fun q hq => (hag q hq).tr ((((AG.up ?_ ?_ ?_).tr (AG.up ?_ ?_ ?_)).tr (AG.up ?_ ?_ ?_)).tr (AG.up ?_ ?_ ?_))) ?_ ?_ ?_
        · intro a; omega
        · intro _ _; omega
        · intro a; exact absurd a (by decide)
        · intro a; omega
        · intro _ _; omega
        · intro a; exact absurd a (by decide)
        · intro a; omega
        · intro _ _; omega
        · intro a; exact absurd a (by decide)
        · intro a; omega
        · intro _ _; omega
        · intro a; exact absurd a (by decide)
        · rw [up2_k (by decide), up2_k (by decide), up2_k (by decide), up2_k (by decide)]
          exact h0
        · rw [up2_k (by decide), up2_k (by decide), up2_k (by decide), up2_k (by decide)]
          exact h5
        · intro k j c1 c2 c3
          by_cases e : j = i
          · subst e
            rcases (show k = 1 ∨ k = 2 ∨ k = 3 ∨ k = 4 by omega) with rfl | rfl | rfl | rfl
            · rw [up2_k (by decide), up2_k (by decide), up2_k (by decide), up2_s]
              exact e1 1 (by decide) (by decide)
            · rw [up2_k (by decide), up2_k (by decide), up2_s, up2_k (by decide)]
              exact e1 2 (by decide) (by decide)
            · rw [up2_k (by decide), up2_s, up2_k (by decide), up2_k (by decide)]
              exact e1 3 (by decide) (by decide)
            · rw [up2_s, up2_k (by decide), up2_k (by decide), up2_k (by decide)]
              exact e1 4 (by decide) (by decide)
          · rw [up2_n (by omega), up2_n (by omega), up2_n (by omega), up2_n (by omega)]
            exact hb k j c1 c2 (by omega)
  refine x_aload_n dX0_keep_0 rfl ?_
  refine x_get0 dX0_keep_1 ?_
  refine x_iload_n dX0_keep_4 rfl ?_
  refine x_aload_n dX0_keep_5 rfl ?_
  refine x_get0 dX0_keep_6 ?_
  refine x_iconstN (q := 3) dX0_keep_9 rfl ?_
  refine x_ald0 dX0_keep_10 (by omega) (fun hb10 => ?_)
  refine x_ast0 dX0_keep_11 (by omega) (by omega) ?_
  refine x_aload_n dX0_keep_12 rfl ?_
  refine x_get5 dX0_keep_13 ?_
  refine x_iload_n dX0_keep_16 rfl ?_
  refine x_aload_n dX0_keep_17 rfl ?_
  refine x_get5 dX0_keep_18 ?_
  refine x_iconstN (q := 3) dX0_keep_21 rfl ?_
  refine x_ald5 dX0_keep_22 (by omega) (fun hb22 => ?_)
  refine x_ast5 dX0_keep_23 (by omega) (by omega) ?_
  refine x_iconstN (q := 0) dX0_keep_24 rfl ?_
  refine x_istore_n dX0_keep_25 (by decide) rfl ?_
  refine loop1 L.length 0 _ (by omega) (fun q hq => (AG.up (fun _ => hq.symm) (fun a => absurd a (by decide)) (fun a => absurd a (by decide))).tr (AG.up (fun _ => hq.symm) (fun _ b => absurd b (by decide)) (fun a => absurd a (by decide)))) ?_ ?_ (fun k j _ _ hj => absurd hj (by omega))
  · rw [up2_k (by decide), up2_s]
    exact a3
  · rw [up2_s, up2_k (by decide)]
    exact a4
end
section
/-! BandRegion: mergeRuns -/
set_option maxRecDepth 100000
theorem x_bd {K : Kx} {o : Ox} {R : Room} {cc : ByteArray} {nL : Nat} {g : Gg} {pc : Nat} {lv : List (Option Value)} {st : List Value} (k : bdX g → bX K o R cc nL g pc lv st) : bX K o R cc nL g pc lv st := fun hB => k hB hB
/-- the runs p stand from cell i on, wherever region 3 alone has changed -/
def SRC (g : Gg) (i : Nat) (p : List Rn) : Prop := i + p.length ≤ 1440 ∧ ∀ w, (∀ q, q ≠ 3 → AG g w q) → RR w i p
/-- what covering answers: no band, or the cell of a band with the runs p -/
def CR (g : Gg) (a : Nat) (ca : Int) (p : List Rn) : Prop := (ca = -1 ∧ p = []) ∨ ∃ n f : Nat, ca = (n : Int) ∧ n < 120 ∧ g 3 n = f ∧ g 4 n = p.length ∧ f + p.length ≤ 288 ∧ RR g (a * 288 + f) p
/-- the pointer into a row: what is left of it tells all from x on -/
def PT (g : Gg) (pa : List Rn) (x i : Nat) (p : List Rn) : Prop := SRC g i p ∧ SR 0 24 p ∧ (∀ q ∈ p.head?, x ≤ q.2) ∧ ∀ z, x ≤ z → inR p z = inR pa z
theorem PT.keep {g : Gg} {pa p : List Rn} {x i e : Nat} (h : PT g pa x i p) (hx : x < e) (he : e ≤ chR p x) (hd : dpR p e = p) : PT g pa e i p := by
  obtain ⟨h1, h2, h3, h4⟩ := h
  have := dpR_SR h2 h3 he
  rw [hd] at this
  exact ⟨h1, this.1, this.2.1, fun z hz => h4 z (by omega)⟩
theorem PT.next {g : Gg} {pa p : List Rn} {q : Rn} {x i e : Nat} (h : PT g pa x i (q :: p)) (hx : x < e) (he : e ≤ chR (q :: p) x) (hd : q.2 < e) : PT g pa e (i + 1) p := by
  obtain ⟨h1, h2, h3, h4⟩ := h
  have := dpR_SR h2 h3 he
  rw [show dpR (q :: p) e = p from if_pos hd] at this
  refine ⟨⟨?_, fun w hw => (h1.2 w hw).2.2⟩, this.1, this.2.1, fun z hz => (this.2.2 z hz).trans (h4 z (by omega))⟩
  have := h1.1
  rw [List.length_cons] at this
  omega
abbrev lvMR (h : Nat) (ca : Int) (a : Nat) (cb : Int) (b kd f i eI j eJ x ga : Nat) (t13 t14 t15 t16 t17 t18 : Option Value) : List (Option Value) := [some (.ref h), some (.int (zI ca)), some (.int (zI (a : Int))), some (.int (zI cb)), some (.int (zI (b : Int))), some (.int (zI (kd : Int))), some (.int (zI (f : Int))), some (.int (zI (i : Int))), some (.int (zI (eI : Int))), some (.int (zI (j : Int))), some (.int (zI (eJ : Int))), some (.int (zI (x : Int))), some (.int (zI (ga : Int))), t13, t14, t15, t16, t17, t18]
set_option maxHeartbeats 4000000 in
theorem m_mergeRuns (o : Ox) (g : Gg) (hB : bdX g) (ca : Int) (a : Nat) (cb : Int) (b kd : Nat) (L : List Bn) (pa pb : List Rn) (ha : a < 5) (ha3 : a ≠ 3) (hb : b < 5) (hb3 : b ≠ 3) (hk : kd < 4) (hR : Rep g 3 L []) (ht : tot L ≤ 276) (hpa : CR g a ca pa) (hpb : CR g b cb pb) (sa : SR 0 24 pa) (sb : SR 0 24 pb) : xV yX0_mergeRuns cX0_mergeRuns 19 rmB o g [.int (zI ca), .int (zI (a : Int)), .int (zI cb), .int (zI (b : Int)), .int (zI (kd : Int))] (fun u => Rep u 3 L (ru (fun x => mixB kd (inR pa x) (inR pb x)) 24) ∧ ∀ q, q ≠ 3 → AG g u q) := by
  refine x_metV (lv0 := [some (.ref o.2.1), some (.int (zI ca)), some (.int (zI (a : Int))), some (.int (zI cb)), some (.int (zI (b : Int))), some (.int (zI (kd : Int))), none, none, none, none, none, none, none, none, none, none, none, none, none]) (by decide) rfl hB rfl (Nat.le_of_ble_eq_true rfl) rfl (fun K ret => ?_)
  have loop : ∀ (m x ga i j eI eJ : Nat) (p q : List Rn) (u : Gg) (t13 t14 t15 t16 t17 t18 : Option Value), 24 ≤ x + m → ga ≤ x → x ≤ 24 → PT g pa x i p → PT g pb x j q → eI = i + p.length → eJ = j + q.length → Rep u 3 L (ru (fun x => mixB kd (inR pa x) (inR pb x)) x) → (∀ q, q ≠ 3 → AG g u q) → bX K o rmB cX0_mergeRuns 19 u 97 (lvMR o.2.1 ca a cb b kd (tot L) i eI j eJ x ga t13 t14 t15 t16 t17 t18) [] := by
    intro m
    induction m with
    | zero =>
      intro x ga i j eI eJ p q u t13 t14 t15 t16 t17 t18 hm hga hx hp hq hei hej hRu hag
      have hx24 : x = 24 := by omega
      subst hx24
      refine x_iload dX0_mergeRuns_97 rfl ?_
      refine x_bipushN (q := 24) dX0_mergeRuns_99 rfl (by decide) ?_
      refine x_icmp_geN (tgt := 334) dX0_mergeRuns_101 (by decide) (by omega) (by omega) (fun h1 => ?_) (fun h1 => ?_)
      · exact ret _ _ _ dX0_mergeRuns_334 ⟨hRu, hag⟩
      · refine x_iload dX0_mergeRuns_104 rfl ?_
        refine x_bipushN (q := 24) dX0_mergeRuns_106 rfl (by decide) ?_
        refine x_icmp_geN (tgt := 334) dX0_mergeRuns_108 (by decide) (by omega) (by omega) (fun h2 => ?_) (fun h2 => ?_)
        · exact ret _ _ _ dX0_mergeRuns_334 ⟨hRu, hag⟩
        · exact absurd h2 (by omega)
    | succ m ih =>
      intro x ga i j eI eJ p q u t13 t14 t15 t16 t17 t18 hm hga hx hp hq hei hej hRu hag
      refine x_iload dX0_mergeRuns_97 rfl ?_
      refine x_bipushN (q := 24) dX0_mergeRuns_99 rfl (by decide) ?_
      refine x_icmp_geN (tgt := 334) dX0_mergeRuns_101 (by decide) (by omega) (by omega) (fun h1 => ?_) (fun h1 => ?_)
      · obtain rfl : x = 24 := by omega
        exact ret _ _ _ dX0_mergeRuns_334 ⟨hRu, hag⟩
      · refine x_iload dX0_mergeRuns_104 rfl ?_
        refine x_bipushN (q := 24) dX0_mergeRuns_106 rfl (by decide) ?_
        refine x_icmp_geN (tgt := 334) dX0_mergeRuns_108 (by decide) (by omega) (by omega) (fun h2 => ?_) (fun h2 => ?_)
        · obtain rfl : x = 24 := by omega
          exact ret _ _ _ dX0_mergeRuns_334 ⟨hRu, hag⟩
        · have hca := chR_gt hp.2.1 h2 hp.2.2.1
          have hcb := chR_gt hq.2.1 h2 hq.2.2.1
          have hpl := hp.1.1
          have hql := hq.1.1
          have hRp := hp.1.2 u hag
          have hRq := hq.1.2 u hag
          -- the end of the pass
          have k328 : ∀ (e i2 j2 : Nat) (p2 q2 : List Rn) (u : Gg) (t13 t14 t15 t16 t17 t18 : Option Value), x < e → e ≤ 24 → PT g pa e i2 p2 → PT g pb e j2 q2 → eI = i2 + p2.length → eJ = j2 + q2.length → Rep u 3 L (ru (fun x => mixB kd (inR pa x) (inR pb x)) e) → (∀ q, q ≠ 3 → AG g u q) → bX K o rmB cX0_mergeRuns 19 u 328 (lvMR o.2.1 ca a cb b kd (tot L) i2 eI j2 eJ e ga t13 t14 t15 t16 t17 t18) [] := by
            intro e i2 j2 p2 q2 u t13 t14 t15 t16 t17 t18 c1 c2 c3 c4 c5 c6 c7 c8
            refine x_iincN (q := 1) dX0_mergeRuns_328 rfl rfl (by decide) rfl ?_
            refine x_goto (tgt := 97) dX0_mergeRuns_331 (by decide) ?_
            exact ih e (ga + 1) i2 j2 eI eJ p2 q2 u _ _ _ _ _ _ (by omega) (by omega) c2 c3 c4 c5 c6 c7 c8
          have k308 : ∀ (e i2 : Nat) (p2 : List Rn) (u : Gg) (t13 t15 t16 t17 t18 : Option Value), x < e → e ≤ 24 → e ≤ chR q x → PT g pa e i2 p2 → eI = i2 + p2.length → Rep u 3 L (ru (fun x => mixB kd (inR pa x) (inR pb x)) e) → (∀ q, q ≠ 3 → AG g u q) → bX K o rmB cX0_mergeRuns 19 u 308 (lvMR o.2.1 ca a cb b kd (tot L) i2 eI j eJ e ga t13 (some (.int (zI (bI (inH q x))))) t15 t16 t17 t18) [] := by
            intro e i2 p2 u t13 t15 t16 t17 t18 c1 c2 c3 c4 c5 c6 c7
            have hRq := hq.1.2 u c7
            refine x_iload dX0_mergeRuns_308 rfl ?_
            cases q with
            | nil =>
              refine x_if_eqB (tgt := 328) dX0_mergeRuns_310 (by decide) (fun h3 => ?_) (fun h3 => ?_)
              · exact k328 e i2 j p2 [] u _ _ _ _ _ _ c1 c2 c4 (hq.keep c1 c3 rfl) c5 hej c6 c7
              · exact absurd h3 (by simp [inH])
            | cons q0 q =>
              obtain ⟨d1, d2, d3⟩ := hRq
              obtain ⟨f1, f2, f3, f4⟩ := hq.2.1
              have f5 := hq.2.2.1 q0 (by simp)
              rw [List.length_cons] at hql hej
              simp only [chR] at c3
              refine x_if_eqB (tgt := 328) dX0_mergeRuns_310 (by decide) (fun h3 => ?_) (fun h3 => ?_)
              · have h4 : ¬ q0.1 ≤ x := of_decide_eq_false h3
                rw [if_neg h4] at c3
                exact k328 e i2 j p2 (q0 :: q) u _ _ _ _ _ _ c1 c2 c4 (hq.keep c1 (by simp only [chR]; rw [if_neg h4]; exact c3) (if_neg (by omega))) c5 (by rw [List.length_cons]; exact hej) c6 c7
              · have h4 : q0.1 ≤ x := of_decide_eq_true h3
                rw [if_pos h4] at c3
                refine x_aload_n dX0_mergeRuns_313 rfl ?_
                refine x_get7 dX0_mergeRuns_314 ?_
                refine x_iload dX0_mergeRuns_317 rfl ?_
                refine x_ald7 dX0_mergeRuns_319 (by omega) (fun hb319 => ?_)
                refine x_iload dX0_mergeRuns_320 rfl ?_
                refine x_icmp_geN (tgt := 328) dX0_mergeRuns_322 (by decide) (by omega) (by omega) (fun h5 => ?_) (fun h5 => ?_)
                · exact k328 e i2 j p2 (q0 :: q) u _ _ _ _ _ _ c1 c2 c4 (hq.keep c1 (by simp only [chR]; rw [if_pos h4]; exact c3) (if_neg (by omega))) c5 (by rw [List.length_cons]; exact hej) c6 c7
                · refine x_iincN (q := 1) dX0_mergeRuns_325 rfl rfl (by decide) rfl ?_
                  exact k328 e i2 (j + 1) p2 q u _ _ _ _ _ _ c1 c2 c4 (hq.next c1 (by simp only [chR]; rw [if_pos h4]; exact c3) (by omega)) c5 (by omega) c6 c7
          have k284 : ∀ (e : Nat) (u : Gg) (t11 t15 t16 t18 : Option Value), x < e → e ≤ 24 → e ≤ chR p x → e ≤ chR q x → Rep u 3 L (ru (fun x => mixB kd (inR pa x) (inR pb x)) e) → (∀ q, q ≠ 3 → AG g u q) → bX K o rmB cX0_mergeRuns 19 u 284 (lvMR o.2.1 ca a cb b kd (tot L) i eI j eJ x ga (some (.int (zI (bI (inH p x))))) (some (.int (zI (bI (inH q x))))) t15 t16 (some (.int (zI (e : Int)))) t18) [] := by
            intro e u t11 t15 t16 t18 c1 c2 c3 c4 c6 c7
            have hRp := hp.1.2 u c7
            refine x_iload dX0_mergeRuns_284 rfl ?_
            refine x_istore dX0_mergeRuns_286 (by decide) rfl ?_
            refine x_iload dX0_mergeRuns_288 rfl ?_
            cases p with
            | nil =>
              refine x_if_eqB (tgt := 308) dX0_mergeRuns_290 (by decide) (fun h3 => ?_) (fun h3 => ?_)
              · exact k308 e i [] u _ _ _ _ _ c1 c2 c4 (hp.keep c1 c3 rfl) hei c6 c7
              · exact absurd h3 (by simp [inH])
            | cons p0 p =>
              obtain ⟨d1, d2, d3⟩ := hRp
              obtain ⟨f1, f2, f3, f4⟩ := hp.2.1
              have f5 := hp.2.2.1 p0 (by simp)
              rw [List.length_cons] at hpl hei
              simp only [chR] at c3
              refine x_if_eqB (tgt := 308) dX0_mergeRuns_290 (by decide) (fun h3 => ?_) (fun h3 => ?_)
              · have h4 : ¬ p0.1 ≤ x := of_decide_eq_false h3
                rw [if_neg h4] at c3
                exact k308 e i (p0 :: p) u _ _ _ _ _ c1 c2 c4 (hp.keep c1 (by simp only [chR]; rw [if_neg h4]; exact c3) (if_neg (by omega))) (by rw [List.length_cons]; exact hei) c6 c7
              · have h4 : p0.1 ≤ x := of_decide_eq_true h3
                rw [if_pos h4] at c3
                refine x_aload_n dX0_mergeRuns_293 rfl ?_
                refine x_get7 dX0_mergeRuns_294 ?_
                refine x_iload dX0_mergeRuns_297 rfl ?_
                refine x_ald7 dX0_mergeRuns_299 (by omega) (fun hb299 => ?_)
                refine x_iload dX0_mergeRuns_300 rfl ?_
                refine x_icmp_geN (tgt := 308) dX0_mergeRuns_302 (by decide) (by omega) (by omega) (fun h5 => ?_) (fun h5 => ?_)
                · exact k308 e i (p0 :: p) u _ _ _ _ _ c1 c2 c4 (hp.keep c1 (by simp only [chR]; rw [if_pos h4]; exact c3) (if_neg (by omega))) (by rw [List.length_cons]; exact hei) c6 c7
                · refine x_iincN (q := 1) dX0_mergeRuns_305 rfl rfl (by decide) rfl ?_
                  exact k308 e (i + 1) p u _ _ _ _ _ c1 c2 c4 (hp.next c1 (by simp only [chR]; rw [if_pos h4]; exact c3) (by omega)) (by omega) c6 c7
          have k253 : ∀ (e : Nat) (t15 t16 t17 t18 : Option Value), x < e → e ≤ 24 → e ≤ chR p x → e ≤ chR q x → bX K o rmB cX0_mergeRuns 19 u 253 (lvMR o.2.1 ca a cb b kd (tot L) i eI j eJ x ga (some (.int (zI (bI (inH p x))))) (some (.int (zI (bI (inH q x))))) t15 t16 t17 t18) [.int (zI (e : Int))] := by
            intro e t15 t16 t17 t18 c1 c2 c3 c4
            have hrow : ∀ z, x ≤ z → z < e → (fun x => mixB kd (inR pa x) (inR pb x)) z = mixB kd (inH p x) (inH q x) := by
              intro z z1 z2
              show mixB kd (inR pa z) (inR pb z) = _
              rw [← hp.2.2.2 z z1, ← hq.2.2.2 z z1, inH_in hp.2.1 hp.2.2.1 z1 (by omega), inH_in hq.2.1 hq.2.2.1 z1 (by omega)]
            refine x_istore dX0_mergeRuns_253 (by decide) rfl ?_
            refine x_iload dX0_mergeRuns_255 rfl ?_
            refine x_iload dX0_mergeRuns_257 rfl ?_
            refine x_iload dX0_mergeRuns_259 rfl ?_
            refine x_callS (m_wanted o.1 kd hk (inH p x) (inH q x)) gw_X0_wanted cf_X0_wanted ⟨rfl, rfl, by decide, by decide⟩ rfl dX0_mergeRuns_261 rfl (Nat.le_of_ble_eq_true rfl) (fun v hv => ?_)
            obtain rfl := hv
            refine x_istore dX0_mergeRuns_264 (by decide) rfl ?_
            refine x_iload dX0_mergeRuns_266 rfl ?_
            refine x_if_eqB (tgt := 284) dX0_mergeRuns_268 (by decide) (fun h3 => ?_) (fun h3 => ?_)
            · refine k284 e u none _ _ _ c1 c2 c3 c4 ?_ hag
              rw [ru_gap' (x := x) (e := e) (by omega) (fun z z1 z2 => (hrow z z1 z2).trans h3)]
              exact hRu
            · have hrun := ru_run' (row := fun x => mixB kd (inR pa x) (inR pb x)) c1 (fun z z1 z2 => (hrow z z1 z2).trans h3)
              have hlen := SR_len24 (ru_SR (fun x => mixB kd (inR pa x) (inR pb x)) e) c2
              rw [hrun] at hlen
              have hu5 : u 5 3 ≤ 288 := by have := hRu.2.1; have := hRu.2.2.2.1; omega
              refine x_bd (fun hBu => ?_)
              refine x_aload_n dX0_mergeRuns_271 rfl ?_
              refine x_iconstN (q := 3) dX0_mergeRuns_272 rfl ?_
              refine x_iload dX0_mergeRuns_273 rfl ?_
              refine x_iload dX0_mergeRuns_275 rfl ?_
              refine x_iload dX0_mergeRuns_277 rfl ?_
              refine x_iconstN (q := 1) dX0_mergeRuns_279 rfl ?_
              refine x_isubN dX0_mergeRuns_280 (by omega) ?_
              refine x_callV (m_addRun o u hBu 3 (tot L) x (e - 1) (by decide) hu5 (by omega) (by omega) (by omega)) gw_X0_addRun cf_X0_addRun ⟨rfl, rfl, by decide, by decide⟩ rfl dX0_mergeRuns_281 rfl (Nat.le_of_ble_eq_true rfl) (fun u2 hu2 => ?_)
              obtain rfl := hu2
              refine k284 e _ none _ _ _ c1 c2 c3 c4 ?_ (fun q hq => (hag q hq).tr (addR_ag hq hu5))
              rw [hrun]
              exact addR_rep hRu (by omega)
          have k237 : ∀ (t16 t17 t18 : Option Value), bX K o rmB cX0_mergeRuns 19 u 237 (lvMR o.2.1 ca a cb b kd (tot L) i eI j eJ x ga (some (.int (zI (bI (inH p x))))) (some (.int (zI (bI (inH q x))))) (some (.int (zI ((chR p x : Nat) : Int)))) t16 t17 t18) [.int (zI ((chR q x : Nat) : Int))] := by
            intro t16 t17 t18
            refine x_istore dX0_mergeRuns_237 (by decide) rfl ?_
            refine x_iload dX0_mergeRuns_239 rfl ?_
            refine x_iload dX0_mergeRuns_241 rfl ?_
            refine x_icmp_geN (tgt := 251) dX0_mergeRuns_243 (by decide) (by omega) (by omega) (fun h3 => ?_) (fun h3 => ?_)
            · refine x_iload dX0_mergeRuns_251 rfl ?_
              exact k253 (chR q x) _ _ _ _ hcb.1 hcb.2 h3 (Nat.le_refl _)
            · refine x_iload dX0_mergeRuns_246 rfl ?_
              refine x_goto (tgt := 253) dX0_mergeRuns_248 (by decide) ?_
              exact k253 (chR p x) _ _ _ _ hca.1 hca.2 (Nat.le_refl _) (by omega)
          have k199 : ∀ (t15 t16 t17 t18 : Option Value), bX K o rmB cX0_mergeRuns 19 u 199 (lvMR o.2.1 ca a cb b kd (tot L) i eI j eJ x ga (some (.int (zI (bI (inH p x))))) (some (.int (zI (bI (inH q x))))) t15 t16 t17 t18) [.int (zI ((chR p x : Nat) : Int))] := by
            intro t15 t16 t17 t18
            refine x_istore dX0_mergeRuns_199 (by decide) rfl ?_
            refine x_iload dX0_mergeRuns_201 rfl ?_
            refine x_iload dX0_mergeRuns_203 rfl ?_
            refine x_icmp_ltN (tgt := 213) dX0_mergeRuns_205 (by decide) (by omega) (by omega) (fun h3 => ?_) (fun h3 => ?_)
            · refine x_iload dX0_mergeRuns_213 rfl ?_
              cases q with
              | nil =>
                rw [List.length_nil] at hej
                exact absurd h3 (by omega)
              | cons q0 q =>
                obtain ⟨d1, d2, d3⟩ := hRq
                rw [List.length_cons] at hql hej
                refine x_if_eqB (tgt := 230) dX0_mergeRuns_215 (by decide) (fun h4 => ?_) (fun h4 => ?_)
                · refine x_aload_n dX0_mergeRuns_230 rfl ?_
                  refine x_get6 dX0_mergeRuns_231 ?_
                  refine x_iload dX0_mergeRuns_234 rfl ?_
                  refine x_ald6 dX0_mergeRuns_236 (by omega) (fun hb236 => ?_)
                  rw [d1]
                  rw [show q0.1 = chR (q0 :: q) x from (if_neg (of_decide_eq_false h4)).symm]
                  exact k237 _ _ _
                · refine x_aload_n dX0_mergeRuns_218 rfl ?_
                  refine x_get7 dX0_mergeRuns_219 ?_
                  refine x_iload dX0_mergeRuns_222 rfl ?_
                  refine x_ald7 dX0_mergeRuns_224 (by omega) (fun hb224 => ?_)
                  refine x_iconstN (q := 1) dX0_mergeRuns_225 rfl ?_
                  refine x_iaddN dX0_mergeRuns_226 ?_
                  refine x_goto (tgt := 237) dX0_mergeRuns_227 (by decide) ?_
                  rw [d2]
                  rw [show q0.2 + 1 = chR (q0 :: q) x from (if_pos (of_decide_eq_true h4)).symm]
                  exact k237 _ _ _
            · cases q with
              | nil =>
                refine x_bipushN (q := 24) dX0_mergeRuns_208 rfl (by decide) ?_
                refine x_goto (tgt := 237) dX0_mergeRuns_210 (by decide) ?_
                exact k237 _ _ _
              | cons q0 q =>
                rw [List.length_cons] at hej
                exact absurd h3 (by omega)
          have k161 : ∀ (t14 t15 t16 t17 t18 : Option Value), bX K o rmB cX0_mergeRuns 19 u 161 (lvMR o.2.1 ca a cb b kd (tot L) i eI j eJ x ga (some (.int (zI (bI (inH p x))))) t14 t15 t16 t17 t18) [.int (zI (bI (inH q x)))] := by
            intro t14 t15 t16 t17 t18
            refine x_istore dX0_mergeRuns_161 (by decide) rfl ?_
            refine x_iload dX0_mergeRuns_163 rfl ?_
            refine x_iload dX0_mergeRuns_165 rfl ?_
            refine x_icmp_ltN (tgt := 175) dX0_mergeRuns_167 (by decide) (by omega) (by omega) (fun h3 => ?_) (fun h3 => ?_)
            · refine x_iload dX0_mergeRuns_175 rfl ?_
              cases p with
              | nil =>
                rw [List.length_nil] at hei
                exact absurd h3 (by omega)
              | cons p0 p =>
                obtain ⟨d1, d2, d3⟩ := hRp
                rw [List.length_cons] at hpl hei
                refine x_if_eqB (tgt := 192) dX0_mergeRuns_177 (by decide) (fun h4 => ?_) (fun h4 => ?_)
                · refine x_aload_n dX0_mergeRuns_192 rfl ?_
                  refine x_get6 dX0_mergeRuns_193 ?_
                  refine x_iload dX0_mergeRuns_196 rfl ?_
                  refine x_ald6 dX0_mergeRuns_198 (by omega) (fun hb198 => ?_)
                  rw [d1]
                  rw [show p0.1 = chR (p0 :: p) x from (if_neg (of_decide_eq_false h4)).symm]
                  exact k199 _ _ _ _
                · refine x_aload_n dX0_mergeRuns_180 rfl ?_
                  refine x_get7 dX0_mergeRuns_181 ?_
                  refine x_iload dX0_mergeRuns_184 rfl ?_
                  refine x_ald7 dX0_mergeRuns_186 (by omega) (fun hb186 => ?_)
                  refine x_iconstN (q := 1) dX0_mergeRuns_187 rfl ?_
                  refine x_iaddN dX0_mergeRuns_188 ?_
                  refine x_goto (tgt := 199) dX0_mergeRuns_189 (by decide) ?_
                  rw [d2]
                  rw [show p0.2 + 1 = chR (p0 :: p) x from (if_pos (of_decide_eq_true h4)).symm]
                  exact k199 _ _ _ _
            · cases p with
              | nil =>
                refine x_bipushN (q := 24) dX0_mergeRuns_170 rfl (by decide) ?_
                refine x_goto (tgt := 199) dX0_mergeRuns_172 (by decide) ?_
                exact k199 _ _ _ _
              | cons p0 p =>
                rw [List.length_cons] at hei
                exact absurd h3 (by omega)
          have k135 : ∀ (t13 t14 t15 t16 t17 t18 : Option Value), bX K o rmB cX0_mergeRuns 19 u 135 (lvMR o.2.1 ca a cb b kd (tot L) i eI j eJ x ga t13 t14 t15 t16 t17 t18) [.int (zI (bI (inH p x)))] := by
            intro t13 t14 t15 t16 t17 t18
            refine x_istore dX0_mergeRuns_135 (by decide) rfl ?_
            refine x_iload dX0_mergeRuns_137 rfl ?_
            refine x_iload dX0_mergeRuns_139 rfl ?_
            refine x_icmp_geN (tgt := 160) dX0_mergeRuns_141 (by decide) (by omega) (by omega) (fun h3 => ?_) (fun h3 => ?_)
            · cases q with
              | nil =>
                refine x_iconstN (q := 0) dX0_mergeRuns_160 rfl ?_
                exact k161 _ _ _ _ _
              | cons q0 q =>
                rw [List.length_cons] at hej
                exact absurd h3 (by omega)
            · cases q with
              | nil =>
                rw [List.length_nil] at hej
                exact absurd h3 (by omega)
              | cons q0 q =>
                obtain ⟨d1, d2, d3⟩ := hRq
                rw [List.length_cons] at hql hej
                refine x_aload_n dX0_mergeRuns_144 rfl ?_
                refine x_get6 dX0_mergeRuns_145 ?_
                refine x_iload dX0_mergeRuns_148 rfl ?_
                refine x_ald6 dX0_mergeRuns_150 (by omega) (fun hb150 => ?_)
                refine x_iload dX0_mergeRuns_151 rfl ?_
                refine x_icmp_gtN (tgt := 160) dX0_mergeRuns_153 (by decide) (by omega) (by omega) (fun h4 => ?_) (fun h4 => ?_)
                · refine x_iconstN (q := 0) dX0_mergeRuns_160 rfl ?_
                  have e1 : inH (q0 :: q) x = false := decide_eq_false (by omega)
                  rw [e1] at k161
                  exact k161 _ _ _ _ _
                · refine x_iconstN (q := 1) dX0_mergeRuns_156 rfl ?_
                  refine x_goto (tgt := 161) dX0_mergeRuns_157 (by decide) ?_
                  have e1 : inH (q0 :: q) x = true := decide_eq_true (by omega)
                  rw [e1] at k161
                  exact k161 _ _ _ _ _
          refine x_iload dX0_mergeRuns_111 rfl ?_
          refine x_iload dX0_mergeRuns_113 rfl ?_
          refine x_icmp_geN (tgt := 134) dX0_mergeRuns_115 (by decide) (by omega) (by omega) (fun h3 => ?_) (fun h3 => ?_)
          · cases p with
            | nil =>
              refine x_iconstN (q := 0) dX0_mergeRuns_134 rfl ?_
              exact k135 _ _ _ _ _ _
            | cons p0 p =>
              rw [List.length_cons] at hei
              exact absurd h3 (by omega)
          · cases p with
            | nil =>
              rw [List.length_nil] at hei
              exact absurd h3 (by omega)
            | cons p0 p =>
              obtain ⟨d1, d2, d3⟩ := hRp
              rw [List.length_cons] at hpl hei
              refine x_aload_n dX0_mergeRuns_118 rfl ?_
              refine x_get6 dX0_mergeRuns_119 ?_
              refine x_iload dX0_mergeRuns_122 rfl ?_
              refine x_ald6 dX0_mergeRuns_124 (by omega) (fun hb124 => ?_)
              refine x_iload dX0_mergeRuns_125 rfl ?_
              refine x_icmp_gtN (tgt := 134) dX0_mergeRuns_127 (by decide) (by omega) (by omega) (fun h4 => ?_) (fun h4 => ?_)
              · refine x_iconstN (q := 0) dX0_mergeRuns_134 rfl ?_
                have e1 : inH (p0 :: p) x = false := decide_eq_false (by omega)
                rw [e1] at k135
                exact k135 _ _ _ _ _ _
              · refine x_iconstN (q := 1) dX0_mergeRuns_130 rfl ?_
                refine x_goto (tgt := 135) dX0_mergeRuns_131 (by decide) ?_
                have e1 : inH (p0 :: p) x = true := decide_eq_true (by omega)
                rw [e1] at k135
                exact k135 _ _ _ _ _ _
  have hRt := hR.2.2.2.1
  rw [List.length_nil, Nat.add_zero] at hRt
  have hd0 : ∀ (p : List Rn), SR 0 24 p → ∀ q ∈ p.head?, 0 ≤ q.2 := fun p _ q _ => Nat.zero_le _
  have k91 : ∀ (i j : Nat) (t11 t12 t13 t14 t15 t16 t17 t18 : Option Value), SRC g i pa → SRC g j pb → bX K o rmB cX0_mergeRuns 19 g 91 [some (.ref o.2.1), some (.int (zI ca)), some (.int (zI (a : Int))), some (.int (zI cb)), some (.int (zI (b : Int))), some (.int (zI (kd : Int))), some (.int (zI ((g 5 3 : Nat) : Int))), some (.int (zI (i : Int))), some (.int (zI ((i + pa.length : Nat) : Int))), some (.int (zI (j : Int))), some (.int (zI ((j + pb.length : Nat) : Int))), t11, t12, t13, t14, t15, t16, t17, t18] [] := by
    intro i j t11 t12 t13 t14 t15 t16 t17 t18 hi hj
    rw [hRt]
    refine x_iconstN (q := 0) dX0_mergeRuns_91 rfl ?_
    refine x_istore dX0_mergeRuns_92 (by decide) rfl ?_
    refine x_iconstN (q := 0) dX0_mergeRuns_94 rfl ?_
    refine x_istore dX0_mergeRuns_95 (by decide) rfl ?_
    exact loop 24 0 0 i j _ _ pa pb g _ _ _ _ _ _ (by omega) (by omega) (by omega) ⟨hi, sa, hd0 pa sa, fun _ _ => rfl⟩ ⟨hj, sb, hd0 pb sb, fun _ _ => rfl⟩ rfl rfl hR (fun q _ => AG.rf)
  have k49 : ∀ (i : Nat) (t9 t10 t11 t12 t13 t14 t15 t16 t17 t18 : Option Value), SRC g i pa → bX K o rmB cX0_mergeRuns 19 g 49 [some (.ref o.2.1), some (.int (zI ca)), some (.int (zI (a : Int))), some (.int (zI cb)), some (.int (zI (b : Int))), some (.int (zI (kd : Int))), some (.int (zI ((g 5 3 : Nat) : Int))), some (.int (zI (i : Int))), some (.int (zI ((i + pa.length : Nat) : Int))), t9, t10, t11, t12, t13, t14, t15, t16, t17, t18] [] := by
    intro i t9 t10 t11 t12 t13 t14 t15 t16 t17 t18 hi
    rcases hpb with ⟨rfl, rfl⟩ | ⟨n, f, rfl, c1, c2, c3, c4, c5⟩
    · refine x_iload_n dX0_mergeRuns_49 rfl ?_
      refine x_if_ge (tgt := 57) dX0_mergeRuns_50 (by decide) (by omega) (fun h1 => ?_) (fun h1 => ?_)
      · exact absurd h1 (by omega)
      · refine x_iconstN (q := 0) dX0_mergeRuns_53 rfl ?_
        refine x_goto (tgt := 70) dX0_mergeRuns_54 (by decide) ?_
        refine x_istore dX0_mergeRuns_70 (by decide) rfl ?_
        refine x_iload_n dX0_mergeRuns_72 rfl ?_
        refine x_if_ge (tgt := 80) dX0_mergeRuns_73 (by decide) (by omega) (fun h2 => ?_) (fun h2 => ?_)
        · exact absurd h2 (by omega)
        · refine x_iconstN (q := 0) dX0_mergeRuns_76 rfl ?_
          refine x_goto (tgt := 89) dX0_mergeRuns_77 (by decide) ?_
          refine x_istore dX0_mergeRuns_89 (by decide) rfl ?_
          exact k91 i 0 _ _ _ _ _ _ _ _ hi ⟨by simp, fun _ _ => trivial⟩
    · refine x_iload_n dX0_mergeRuns_49 rfl ?_
      refine x_if_ge (tgt := 57) dX0_mergeRuns_50 (by decide) (by omega) (fun h1 => ?_) (fun h1 => ?_)
      · refine x_iload dX0_mergeRuns_57 rfl ?_
        refine x_sipushN (q := 288) dX0_mergeRuns_59 rfl (by decide) ?_
        refine x_imulN dX0_mergeRuns_62 ?_
        refine x_aload_n dX0_mergeRuns_63 rfl ?_
        refine x_get3 dX0_mergeRuns_64 ?_
        refine x_iload_n dX0_mergeRuns_67 rfl ?_
        refine x_ald3 dX0_mergeRuns_68 (by omega) (fun hb68 => ?_)
        refine x_iaddN dX0_mergeRuns_69 ?_
        refine x_istore dX0_mergeRuns_70 (by decide) rfl ?_
        refine x_iload_n dX0_mergeRuns_72 rfl ?_
        refine x_if_ge (tgt := 80) dX0_mergeRuns_73 (by decide) (by omega) (fun h2 => ?_) (fun h2 => ?_)
        · refine x_iload dX0_mergeRuns_80 rfl ?_
          refine x_aload_n dX0_mergeRuns_82 rfl ?_
          refine x_get4 dX0_mergeRuns_83 ?_
          refine x_iload_n dX0_mergeRuns_86 rfl ?_
          refine x_ald4 dX0_mergeRuns_87 (by omega) (fun hb87 => ?_)
          refine x_iaddN dX0_mergeRuns_88 ?_
          refine x_top (y := ((b * 288 + g 3 n + pb.length : Nat) : Int)) (by omega) ?_
          refine x_istore dX0_mergeRuns_89 (by decide) rfl ?_
          exact k91 i (b * 288 + g 3 n) _ _ _ _ _ _ _ _ hi ⟨by omega, fun w hw => by
            rw [c2]
            refine RR_cg pb _ (fun z z1 z2 => ?_) c5
            have e : b * 288 + (z - b * 288) = z := by omega
            have a6 := (hw b hb3).2.2.2 6 (z - b * 288) (by decide) (by decide) (by omega)
            have a7 := (hw b hb3).2.2.2 7 (z - b * 288) (by decide) (by decide) (by omega)
            rw [e] at a6 a7
            exact ⟨a6, a7⟩⟩
        · exact absurd h2 (by omega)
      · exact absurd h1 (by omega)
  rcases hpa with ⟨rfl, rfl⟩ | ⟨n, f, rfl, c1, c2, c3, c4, c5⟩
  · refine x_aload_n dX0_mergeRuns_0 rfl ?_
    refine x_get5 dX0_mergeRuns_1 ?_
    refine x_iconstN (q := 3) dX0_mergeRuns_4 rfl ?_
    refine x_ald5 dX0_mergeRuns_5 (by omega) (fun hb5 => ?_)
    refine x_istore dX0_mergeRuns_6 (by decide) rfl ?_
    refine x_iload_n dX0_mergeRuns_8 rfl ?_
    refine x_if_ge (tgt := 16) dX0_mergeRuns_9 (by decide) (by omega) (fun h1 => ?_) (fun h1 => ?_)
    · exact absurd h1 (by omega)
    · refine x_iconstN (q := 0) dX0_mergeRuns_12 rfl ?_
      refine x_goto (tgt := 28) dX0_mergeRuns_13 (by decide) ?_
      refine x_istore dX0_mergeRuns_28 (by decide) rfl ?_
      refine x_iload_n dX0_mergeRuns_30 rfl ?_
      refine x_if_ge (tgt := 38) dX0_mergeRuns_31 (by decide) (by omega) (fun h2 => ?_) (fun h2 => ?_)
      · exact absurd h2 (by omega)
      · refine x_iconstN (q := 0) dX0_mergeRuns_34 rfl ?_
        refine x_goto (tgt := 47) dX0_mergeRuns_35 (by decide) ?_
        refine x_istore dX0_mergeRuns_47 (by decide) rfl ?_
        exact k49 0 _ _ _ _ _ _ _ _ _ _ ⟨by simp, fun _ _ => trivial⟩
  · refine x_aload_n dX0_mergeRuns_0 rfl ?_
    refine x_get5 dX0_mergeRuns_1 ?_
    refine x_iconstN (q := 3) dX0_mergeRuns_4 rfl ?_
    refine x_ald5 dX0_mergeRuns_5 (by omega) (fun hb5 => ?_)
    refine x_istore dX0_mergeRuns_6 (by decide) rfl ?_
    refine x_iload_n dX0_mergeRuns_8 rfl ?_
    refine x_if_ge (tgt := 16) dX0_mergeRuns_9 (by decide) (by omega) (fun h1 => ?_) (fun h1 => ?_)
    · refine x_iload_n dX0_mergeRuns_16 rfl ?_
      refine x_sipushN (q := 288) dX0_mergeRuns_17 rfl (by decide) ?_
      refine x_imulN dX0_mergeRuns_20 ?_
      refine x_aload_n dX0_mergeRuns_21 rfl ?_
      refine x_get3 dX0_mergeRuns_22 ?_
      refine x_iload_n dX0_mergeRuns_25 rfl ?_
      refine x_ald3 dX0_mergeRuns_26 (by omega) (fun hb26 => ?_)
      refine x_iaddN dX0_mergeRuns_27 ?_
      refine x_istore dX0_mergeRuns_28 (by decide) rfl ?_
      refine x_iload_n dX0_mergeRuns_30 rfl ?_
      refine x_if_ge (tgt := 38) dX0_mergeRuns_31 (by decide) (by omega) (fun h2 => ?_) (fun h2 => ?_)
      · refine x_iload dX0_mergeRuns_38 rfl ?_
        refine x_aload_n dX0_mergeRuns_40 rfl ?_
        refine x_get4 dX0_mergeRuns_41 ?_
        refine x_iload_n dX0_mergeRuns_44 rfl ?_
        refine x_ald4 dX0_mergeRuns_45 (by omega) (fun hb45 => ?_)
        refine x_iaddN dX0_mergeRuns_46 ?_
        refine x_top (y := ((a * 288 + g 3 n + pa.length : Nat) : Int)) (by omega) ?_
        refine x_istore dX0_mergeRuns_47 (by decide) rfl ?_
        exact k49 (a * 288 + g 3 n) _ _ _ _ _ _ _ _ _ _ ⟨by omega, fun w hw => by
          rw [c2]
          refine RR_cg pa _ (fun z z1 z2 => ?_) c5
          have e : a * 288 + (z - a * 288) = z := by omega
          have a6 := (hw a ha3).2.2.2 6 (z - a * 288) (by decide) (by decide) (by omega)
          have a7 := (hw a ha3).2.2.2 7 (z - a * 288) (by decide) (by decide) (by omega)
          rw [e] at a6 a7
          exact ⟨a6, a7⟩⟩
      · exact absurd h2 (by omega)
    · exact absurd h1 (by omega)
end
section
/-! BandRegion: merge, makeBox -/
set_option maxRecDepth 100000
theorem cvB_CR {g : Gg} {a y : Nat} {L1 L2 : List Bn} (ha : a < 5) (h : Rep g a (L1 ++ L2) []) : CR g a (cvB a L1.length L2 y) (rwB L2 y) := by
  obtain ⟨a1, a2, a3, a4, a5⟩ := h.at
  cases L2 with
  | nil => exact Or.inl ⟨rfl, rfl⟩
  | cons b L2 =>
    rw [List.length_cons] at a1
    simp only [tot] at a2
    obtain ⟨b1, b2, b3, b4, b5, b6⟩ := a5
    simp only [cvB, rwB]
    by_cases e : b.1 ≤ y
    · rw [if_pos e, if_pos e]
      exact Or.inr ⟨a * 24 + L1.length, tot L1, rfl, by omega, b3, b4, by omega, b5⟩
    · rw [if_neg e, if_neg e]
      exact Or.inl ⟨rfl, rfl⟩
theorem Rep.last {g : Gg} {r : Nat} {L : List Bn} {p : List Rn} (h : Rep g r L p) (h0 : 0 < g 0 r) : g 3 (r * 24 + g 0 r - 1) + g 4 (r * 24 + g 0 r - 1) ≤ 288 := by
  obtain ⟨h1, h2, h3, h4, h5, -⟩ := h
  rcases snoc_cases L with rfl | ⟨L0, b, rfl⟩
  · rw [List.length_nil] at h3
    omega
  · rw [List.length_append, List.length_singleton] at h3
    rw [RB_app] at h5
    obtain ⟨-, k1, k2, k3, k4, -⟩ := h5
    rw [Nat.zero_add] at k3 k4
    rw [show r * 24 + g 0 r - 1 = r * 24 + L0.length by omega, k3, k4]
    rw [tot_app] at h2
    simp only [tot] at h2
    omega
theorem row_in {A : Nat → Nat → Bool} {L1 L2 : List Bn} {y z x : Nat} (h : bu A 24 = L1 ++ L2) (h1 : ∀ b ∈ L1, b.2.1 < y) (h2 : ∀ b ∈ L2.head?, y ≤ b.2.1) (hx : x < 24) (hz : y ≤ z) (hz2 : z < chB L2 y) (hz3 : z < 24) : A x z = inR (rwB L2 y) x := by
  have hS := bu_SB A 24
  rw [h, SB_app] at hS
  rw [← bu_24 A hx hz3, h, inB_skip L1 L2 x z (fun b hb => by have := h1 b hb; omega)]
  exact rwB_in hS.2 h2 hz hz2
set_option maxHeartbeats 4000000 in
theorem m_merge (o : Ox) (g : Gg) (hB : bdX g) (a b kd : Nat) (A B T : Nat → Nat → Bool) (hT : ∀ x y, T x y = mixB kd (A x y) (B x y)) (ha : a < 5) (ha3 : a ≠ 3) (hb : b < 5) (hb3 : b ≠ 3) (hk : kd < 4) (hA : Rep g a (bu A 24) []) (hBb : Rep g b (bu B 24) []) : xV yX0_merge cX0_merge 14 rmC o g [.int (zI (a : Int)), .int (zI (b : Int)), .int (zI (kd : Int))] (fun u => Rep u 3 (bu T 24) [] ∧ ∀ q, q ≠ 3 → AG g u q) := by
  refine x_metV (lv0 := [some (.ref o.2.1), some (.int (zI (a : Int))), some (.int (zI (b : Int))), some (.int (zI (kd : Int))), none, none, none, none, none, none, none, none, none, none]) (by decide) rfl hB rfl (Nat.le_of_ble_eq_true rfl) rfl (fun K ret => ?_)
  have loop : ∀ (m y ga : Nat) (u : Gg) (t6 t7 t8 t9 t10 t11 t12 t13 : Option Value), 24 ≤ y + m → ga ≤ y → y ≤ 24 → Rep u 3 (bu T y) [] → (∀ q, q ≠ 3 → AG g u q) → bX K o rmC cX0_merge 14 u 11 [some (.ref o.2.1), some (.int (zI (a : Int))), some (.int (zI (b : Int))), some (.int (zI (kd : Int))), some (.int (zI (y : Int))), some (.int (zI (ga : Int))), t6, t7, t8, t9, t10, t11, t12, t13] [] := by
    intro m
    induction m with
    | zero =>
      intro y ga u t6 t7 t8 t9 t10 t11 t12 t13 hm hga hy hRu hag
      obtain rfl : y = 24 := by omega
      refine x_iload dX0_merge_11 rfl ?_
      refine x_bipushN (q := 24) dX0_merge_13 rfl (by decide) ?_
      refine x_icmp_geN (tgt := 145) dX0_merge_15 (by decide) (by omega) (by omega) (fun h1 => ?_) (fun h1 => ?_)
      · exact ret _ _ _ dX0_merge_145 ⟨hRu, hag⟩
      · refine x_iload dX0_merge_18 rfl ?_
        refine x_bipushN (q := 24) dX0_merge_20 rfl (by decide) ?_
        refine x_icmp_geN (tgt := 145) dX0_merge_22 (by decide) (by omega) (by omega) (fun h2 => ?_) (fun h2 => ?_)
        · exact ret _ _ _ dX0_merge_145 ⟨hRu, hag⟩
        · exact absurd h2 (by omega)
    | succ m ih =>
      intro y ga u t6 t7 t8 t9 t10 t11 t12 t13 hm hga hy hRu hag
      refine x_iload dX0_merge_11 rfl ?_
      refine x_bipushN (q := 24) dX0_merge_13 rfl (by decide) ?_
      refine x_icmp_geN (tgt := 145) dX0_merge_15 (by decide) (by omega) (by omega) (fun h1 => ?_) (fun h1 => ?_)
      · obtain rfl : y = 24 := by omega
        exact ret _ _ _ dX0_merge_145 ⟨hRu, hag⟩
      · refine x_iload dX0_merge_18 rfl ?_
        refine x_bipushN (q := 24) dX0_merge_20 rfl (by decide) ?_
        refine x_icmp_geN (tgt := 145) dX0_merge_22 (by decide) (by omega) (by omega) (fun h2 => ?_) (fun h2 => ?_)
        · obtain rfl : y = 24 := by omega
          exact ret _ _ _ dX0_merge_145 ⟨hRu, hag⟩
        · have hRa := hA.ag (hag a ha3)
          have hRb := hBb.ag (hag b hb3)
          refine x_bd (fun hBu => ?_)
          refine x_aload_n dX0_merge_25 rfl ?_
          refine x_iload_n dX0_merge_26 rfl ?_
          refine x_iload dX0_merge_27 rfl ?_
          refine x_callI (m_bandAt o u hBu a y _ ha (by omega) hRa) gw_X0_bandAt cf_X0_bandAt ⟨rfl, rfl, by decide, by decide⟩ rfl dX0_merge_29 rfl (Nat.le_of_ble_eq_true rfl) (fun v hv => ?_)
          obtain ⟨L1, L2, hL, rfl, l1, l2⟩ := hv
          refine x_istore dX0_merge_32 (by decide) rfl ?_
          refine x_aload_n dX0_merge_34 rfl ?_
          refine x_iload_n dX0_merge_35 rfl ?_
          refine x_iload dX0_merge_36 rfl ?_
          refine x_callI (m_bandAt o u hBu b y _ hb (by omega) hRb) gw_X0_bandAt cf_X0_bandAt ⟨rfl, rfl, by decide, by decide⟩ rfl dX0_merge_38 rfl (Nat.le_of_ble_eq_true rfl) (fun v hv => ?_)
          obtain ⟨M1, M2, hM, rfl, m1, m2⟩ := hv
          rw [hL] at hRa
          rw [hM] at hRb
          have sL := bu_SB A 24
          have sM := bu_SB B 24
          rw [hL, SB_app] at sL
          rw [hM, SB_app] at sM
          have cL := chB_gt sL.2 h2 l2
          have cM := chB_gt sM.2 h2 m2
          have nL := hRa.at.1
          have nM := hRb.at.1
          refine x_istore dX0_merge_41 (by decide) rfl ?_
          refine x_aload_n dX0_merge_43 rfl ?_
          refine x_iload_n dX0_merge_44 rfl ?_
          refine x_iload dX0_merge_45 rfl ?_
          refine x_iload dX0_merge_47 rfl ?_
          refine x_callI (m_changeAfter o u hBu a L1.length y L1 L2 ha (by omega) rfl hRa) gw_X0_changeAfter cf_X0_changeAfter ⟨rfl, rfl, by decide, by decide⟩ rfl dX0_merge_49 rfl (Nat.le_of_ble_eq_true rfl) (fun v hv => ?_)
          obtain rfl := hv
          refine x_istore dX0_merge_52 (by decide) rfl ?_
          refine x_aload_n dX0_merge_54 rfl ?_
          refine x_iload_n dX0_merge_55 rfl ?_
          refine x_iload dX0_merge_56 rfl ?_
          refine x_iload dX0_merge_58 rfl ?_
          refine x_callI (m_changeAfter o u hBu b M1.length y M1 M2 hb (by omega) rfl hRb) gw_X0_changeAfter cf_X0_changeAfter ⟨rfl, rfl, by decide, by decide⟩ rfl dX0_merge_60 rfl (Nat.le_of_ble_eq_true rfl) (fun v hv => ?_)
          obtain rfl := hv
          have k79 : ∀ (e : Nat) (t10 t11 t12 t13 : Option Value), y < e → e ≤ 24 → e ≤ chB L2 y → e ≤ chB M2 y → bX K o rmC cX0_merge 14 u 79 [some (.ref o.2.1), some (.int (zI (a : Int))), some (.int (zI (b : Int))), some (.int (zI (kd : Int))), some (.int (zI (y : Int))), some (.int (zI (ga : Int))), some (.int (zI ((L1.length : Nat) : Int))), some (.int (zI ((M1.length : Nat) : Int))), some (.int (zI ((chB L2 y : Nat) : Int))), some (.int (zI ((chB M2 y : Nat) : Int))), t10, t11, t12, t13] [.int (zI (e : Int))] := by
            intro e t10 t11 t12 t13 e1 e2 e3 e4
            have hbl := bu_len T hy
            have hu0 := hRu.2.2.1
            have hu5 := hRu.2.2.2.1
            rw [List.length_nil, Nat.add_zero] at hu5
            refine x_istore dX0_merge_79 (by decide) rfl ?_
            refine x_aload_n dX0_merge_81 rfl ?_
            refine x_iload_n dX0_merge_82 rfl ?_
            refine x_iload dX0_merge_83 rfl ?_
            refine x_iload dX0_merge_85 rfl ?_
            refine x_callI (m_covering o u hBu a L1.length y L1 L2 ha (by omega) rfl hRa) gw_X0_covering cf_X0_covering ⟨rfl, rfl, by decide, by decide⟩ rfl dX0_merge_87 rfl (Nat.le_of_ble_eq_true rfl) (fun v hv => ?_)
            obtain rfl := hv
            refine x_istore dX0_merge_90 (by decide) rfl ?_
            refine x_aload_n dX0_merge_92 rfl ?_
            refine x_iload_n dX0_merge_93 rfl ?_
            refine x_iload dX0_merge_94 rfl ?_
            refine x_iload dX0_merge_96 rfl ?_
            refine x_callI (m_covering o u hBu b M1.length y M1 M2 hb (by omega) rfl hRb) gw_X0_covering cf_X0_covering ⟨rfl, rfl, by decide, by decide⟩ rfl dX0_merge_98 rfl (Nat.le_of_ble_eq_true rfl) (fun v hv => ?_)
            obtain rfl := hv
            refine x_istore dX0_merge_101 (by decide) rfl ?_
            refine x_aload_n dX0_merge_103 rfl ?_
            refine x_get5 dX0_merge_104 ?_
            refine x_iconstN (q := 3) dX0_merge_107 rfl ?_
            refine x_ald5 dX0_merge_108 (by omega) (fun hb108 => ?_)
            refine x_top (y := ((tot (bu T y) : Nat) : Int)) (by omega) ?_
            refine x_istore dX0_merge_109 (by decide) rfl ?_
            refine x_aload_n dX0_merge_111 rfl ?_
            refine x_iload dX0_merge_112 rfl ?_
            refine x_iload_n dX0_merge_114 rfl ?_
            refine x_iload dX0_merge_115 rfl ?_
            refine x_iload_n dX0_merge_117 rfl ?_
            refine x_iload_n dX0_merge_118 rfl ?_
            refine x_callV (m_mergeRuns o u hBu _ a _ b kd (bu T y) (rwB L2 y) (rwB M2 y) ha ha3 hb hb3 hk hRu (by omega) (cvB_CR ha hRa) (cvB_CR hb hRb) (rwB_SR sL.2) (rwB_SR sM.2)) gw_X0_mergeRuns cf_X0_mergeRuns ⟨rfl, rfl, by decide, by decide⟩ rfl dX0_merge_119 rfl (Nat.le_of_ble_eq_true rfl) (fun u2 hu2 => ?_)
            obtain ⟨hR2, hag2⟩ := hu2
            have hrow : ∀ x z, x < 24 → y ≤ z → z < e → T x z = mixB kd (inR (rwB L2 y) x) (inR (rwB M2 y) x) := by
              intro x z hx hz1 hz2
              rw [hT, row_in hL l1 l2 hx hz1 (by omega) (by omega), row_in hM m1 m2 hx hz1 (by omega) (by omega)]
            rw [ru_cg (row' := fun x => T x y) 24 (fun x hx => (hrow x y hx (Nat.le_refl _) e1).symm)] at hR2
            have hrun : bu T e = pushB (bu T y) y (e - 1) (ru (fun x => T x y) 24) := bu_run' e1 (fun x z hx hz1 hz2 => (hrow x z hx hz1 hz2).trans (hrow x y hx (Nat.le_refl _) e1).symm)
            have hlen := (bu_len T e2).1
            rw [hrun] at hlen
            have h25 := hR2.2.2.2.1
            have h22 := hR2.2.1
            have h21 := hR2.1
            have h20 := hR2.2.2.1
            refine x_bd (fun hBu2 => ?_)
            refine x_aload_n dX0_merge_122 rfl ?_
            refine x_iconstN (q := 3) dX0_merge_123 rfl ?_
            refine x_iload dX0_merge_124 rfl ?_
            refine x_iload dX0_merge_126 rfl ?_
            refine x_iload dX0_merge_128 rfl ?_
            refine x_iconstN (q := 1) dX0_merge_130 rfl ?_
            refine x_isubN dX0_merge_131 (by omega) ?_
            refine x_callV (m_endBand o u2 hBu2 3 (tot (bu T y)) y (e - 1) (by decide) (by omega) (by omega) (by omega) (by omega) (by omega) (fun h => hR2.last h)) gw_X0_endBand cf_X0_endBand ⟨rfl, rfl, by decide, by decide⟩ rfl dX0_merge_132 rfl (Nat.le_of_ble_eq_true rfl) (fun u3 hu3 => ?_)
            have hag3 : ∀ q, q ≠ 3 → AG g u3 q := fun q hq => ((hag q hq).tr (hag2 q hq)).tr (EB_ag hu3 hq (by omega))
            have hR3 := EB_rep hu3 hR2 (by omega)
            rw [← hrun] at hR3
            refine x_iload dX0_merge_135 rfl ?_
            refine x_istore dX0_merge_137 (by decide) rfl ?_
            refine x_iincN (q := 1) dX0_merge_139 rfl rfl (by decide) rfl ?_
            refine x_goto (tgt := 11) dX0_merge_142 (by decide) ?_
            exact ih e (ga + 1) u3 _ _ _ _ _ _ _ _ (by omega) (by omega) e2 hR3 hag3
          refine x_istore dX0_merge_63 (by decide) rfl ?_
          refine x_iload dX0_merge_65 rfl ?_
          refine x_iload dX0_merge_67 rfl ?_
          refine x_icmp_geN (tgt := 77) dX0_merge_69 (by decide) (by omega) (by omega) (fun h3 => ?_) (fun h3 => ?_)
          · refine x_iload dX0_merge_77 rfl ?_
            exact k79 (chB M2 y) _ _ _ _ cM.1 cM.2 h3 (Nat.le_refl _)
          · refine x_iload dX0_merge_72 rfl ?_
            refine x_goto (tgt := 79) dX0_merge_74 (by decide) ?_
            exact k79 (chB L2 y) _ _ _ _ cL.1 cL.2 (Nat.le_refl _) (by omega)
  refine x_aload_n dX0_merge_0 rfl ?_
  refine x_iconstN (q := 3) dX0_merge_1 rfl ?_
  refine x_callV (m_start o g hB 3 (by decide)) gw_X0_start cf_X0_start ⟨rfl, rfl, by decide, by decide⟩ rfl dX0_merge_2 rfl (Nat.le_of_ble_eq_true rfl) (fun u hu => ?_)
  obtain rfl := hu
  refine x_iconstN (q := 0) dX0_merge_5 rfl ?_
  refine x_istore dX0_merge_6 (by decide) rfl ?_
  refine x_iconstN (q := 0) dX0_merge_8 rfl ?_
  refine x_istore dX0_merge_9 (by decide) rfl ?_
  exact loop 24 0 0 _ _ _ _ _ _ _ _ _ (by omega) (by omega) (by omega) (stG_rep g 3) (fun q hq => stG_ag g hq)
/-- the cells of a packed box -/
def boxS (c s : Int32) (x y : Nat) : Bool := decide (lo5 c ≤ x ∧ x < lo5 c + lo5 s ∧ hi5 c ≤ y ∧ y < hi5 c + hi5 s)
theorem box_none {c s : Int32} (h : ∀ x y, x < 24 → y < 24 → boxS c s x y = false) : bu (boxS c s) 24 = [] := bu_gap (y := 0) (e := 24) (by decide) (fun x z hx _ hz => h x z hx hz)
theorem box_one {c s : Int32} {l t r e : Nat} (h : ∀ x y, x < 24 → y < 24 → boxS c s x y = decide (l ≤ x ∧ x ≤ r ∧ t ≤ y ∧ y ≤ e)) (h1 : l ≤ r) (h2 : r < 24) (h3 : t ≤ e) (h4 : e < 24) : bu (boxS c s) 24 = [(t, e, [(l, r)])] := by
  have hrow : ∀ y, t ≤ y → y ≤ e → ru (fun x => boxS c s x y) 24 = [(l, r)] := by
    intro y hy1 hy2
    have hr : ∀ x, x < 24 → boxS c s x y = decide (l ≤ x ∧ x ≤ r) := fun x hx => by
      rw [h x y hx (by omega)]
      exact decide_eq_decide.mpr (by omega)
    rw [ru_gap' (x := r + 1) (e := 24) (by omega) (fun z z1 z2 => by rw [hr z z2]; exact decide_eq_false (by omega))]
    rw [ru_run' (x := l) (e := r + 1) (by omega) (fun z z1 z2 => by rw [hr z (by omega)]; exact decide_eq_true (by omega))]
    rw [ru_gap' (x := 0) (e := l) (by omega) (fun z z1 z2 => by rw [hr z (by omega)]; exact decide_eq_false (by omega))]
    rfl
  rw [bu_gap (y := e + 1) (e := 24) (by omega) (fun x z hx z1 z2 => by rw [h x z hx z2]; exact decide_eq_false (by omega))]
  rw [bu_run' (y := t) (e := e + 1) (by omega) (fun x z hx z1 z2 => by rw [h x z hx (by omega), h x t hx (by omega)]; exact decide_eq_decide.mpr (by omega))]
  rw [bu_gap (y := 0) (e := t) (by omega) (fun x z hx z1 z2 => by rw [h x z hx (by omega)]; exact decide_eq_false (by omega))]
  rw [hrow t (Nat.le_refl _) h3]
  exact pushB_nil t _ (by simp)
set_option maxHeartbeats 4000000 in
theorem m_makeBox (o : Ox) (g : Gg) (hB : bdX g) (c s : Int32) : xV yX0_makeBox cX0_makeBox 7 rmC o g [.int c, .int s] (fun u => Rep u 4 (bu (boxS c s) 24) [] ∧ ∀ q, q ≠ 4 → AG g u q) := by
  refine x_metV (lv0 := [some (.ref o.2.1), some (.int c), some (.int s), none, none, none, none]) (by decide) rfl hB rfl (Nat.le_of_ble_eq_true rfl) rfl (fun K ret => ?_)
  have b1 := lo5_lt c
  have b2 := hi5_lt c
  have b3 := lo5_lt s
  have b4 := hi5_lt s
  have k63 : ∀ (r e : Int), r = (if 23 < (lo5 c : Int) + lo5 s - 1 then 23 else (lo5 c : Int) + lo5 s - 1) → e = (if 23 < (hi5 c : Int) + hi5 s - 1 then 23 else (hi5 c : Int) + hi5 s - 1) → bX K o rmC cX0_makeBox 7 (stG g 4) 63 [some (.ref o.2.1), some (.int c), some (.int s), some (.int (zI ((lo5 c : Nat) : Int))), some (.int (zI ((hi5 c : Nat) : Int))), some (.int (zI r)), some (.int (zI e))] [] := by
    intro r e hr he
    have hr1 : r ≤ 23 ∧ -1 ≤ r ∧ r ≤ (lo5 c : Int) + lo5 s - 1 ∧ ((lo5 c : Int) + lo5 s - 1 ≤ 23 → r = (lo5 c : Int) + lo5 s - 1) ∧ (23 < (lo5 c : Int) + lo5 s - 1 → r = 23) := by split at hr <;> omega
    have he1 : e ≤ 23 ∧ -1 ≤ e ∧ e ≤ (hi5 c : Int) + hi5 s - 1 ∧ ((hi5 c : Int) + hi5 s - 1 ≤ 23 → e = (hi5 c : Int) + hi5 s - 1) ∧ (23 < (hi5 c : Int) + hi5 s - 1 → e = 23) := by split at he <;> omega
    clear hr he
    have hempty : r < (lo5 c : Int) ∨ e < (hi5 c : Int) → Rep (stG g 4) 4 (bu (boxS c s) 24) [] := by
      intro hh
      rw [box_none (fun x y hx hy => decide_eq_false (by omega))]
      exact stG_rep g 4
    refine x_iload_n dX0_makeBox_63 rfl ?_
    refine x_iload dX0_makeBox_64 rfl ?_
    refine x_icmp_gt (tgt := 76) dX0_makeBox_66 (by decide) (by omega) (by omega) (fun h1 => ?_) (fun h1 => ?_)
    · exact ret _ _ _ dX0_makeBox_76 ⟨hempty (Or.inl h1), fun q hq => stG_ag g hq⟩
    · refine x_iload dX0_makeBox_69 rfl ?_
      refine x_iload dX0_makeBox_71 rfl ?_
      refine x_icmp_le (tgt := 77) dX0_makeBox_73 (by decide) (by omega) (by omega) (fun h2 => ?_) (fun h2 => ?_)
      · obtain ⟨r', rfl⟩ : ∃ n : Nat, r = (n : Int) := ⟨r.toNat, by omega⟩
        obtain ⟨e', rfl⟩ : ∃ n : Nat, e = (n : Int) := ⟨e.toNat, by omega⟩
        have hR0 := stG_rep g 4
        have h05 := hR0.2.2.2.1
        simp only [tot, List.length_nil] at h05
        refine x_bd (fun hB1 => ?_)
        refine x_aload_n dX0_makeBox_77 rfl ?_
        refine x_iconstN (q := 4) dX0_makeBox_78 rfl ?_
        refine x_iconstN (q := 0) dX0_makeBox_79 rfl ?_
        refine x_iload_n dX0_makeBox_80 rfl ?_
        refine x_iload dX0_makeBox_81 rfl ?_
        refine x_callV (m_addRun o (stG g 4) hB1 4 0 (lo5 c) r' (by decide) (by omega) (by omega) (by omega) (by omega)) gw_X0_addRun cf_X0_addRun ⟨rfl, rfl, by decide, by decide⟩ rfl dX0_makeBox_83 rfl (Nat.le_of_ble_eq_true rfl) (fun u2 hu2 => ?_)
        have hR2 : Rep u2 4 [] [(lo5 c, r')] := by
          rw [hu2]
          exact addR_rep (L := []) (p := []) hR0 (by simp [tot, pushR])
        have hag2 : ∀ q, q ≠ 4 → AG g u2 q := fun q hq => by
          rw [hu2]
          exact (stG_ag g hq).tr (addR_ag hq (by omega))
        have h25 := hR2.2.2.2.1
        have h20 := hR2.2.2.1
        simp only [tot, List.length_nil, List.length_singleton] at h25 h20
        clear hu2
        refine x_bd (fun hB2 => ?_)
        refine x_aload_n dX0_makeBox_86 rfl ?_
        refine x_iconstN (q := 4) dX0_makeBox_87 rfl ?_
        refine x_iconstN (q := 0) dX0_makeBox_88 rfl ?_
        refine x_iload dX0_makeBox_89 rfl ?_
        refine x_iload dX0_makeBox_91 rfl ?_
        refine x_callV (m_endBand o u2 hB2 4 0 (hi5 c) e' (by decide) (by omega) (by omega) (by omega) (by omega) (by omega) (fun h => hR2.last h)) gw_X0_endBand cf_X0_endBand ⟨rfl, rfl, by decide, by decide⟩ rfl dX0_makeBox_93 rfl (Nat.le_of_ble_eq_true rfl) (fun u3 hu3 => ?_)
        refine ret _ _ _ dX0_makeBox_96 ⟨?_, fun q hq => (hag2 q hq).tr (EB_ag hu3 hq (by omega))⟩
        rw [box_one (l := lo5 c) (t := hi5 c) (r := r') (e := e') (fun x y hx hy => decide_eq_decide.mpr (by omega)) (by omega) (by omega) (by omega) (by omega)]
        exact EB_rep (L := []) hu3 hR2 (by simp [pushB])
      · exact ret _ _ _ dX0_makeBox_76 ⟨hempty (Or.inr h2), fun q hq => stG_ag g hq⟩
  have k52 : ∀ (r : Int), r = (if 23 < (lo5 c : Int) + lo5 s - 1 then 23 else (lo5 c : Int) + lo5 s - 1) → bX K o rmC cX0_makeBox 7 (stG g 4) 52 [some (.ref o.2.1), some (.int c), some (.int s), some (.int (zI ((lo5 c : Nat) : Int))), some (.int (zI ((hi5 c : Nat) : Int))), some (.int (zI r)), some (.int (zI ((hi5 c : Int) + hi5 s - 1)))] [] := by
    intro r hr
    refine x_iload dX0_makeBox_52 rfl ?_
    refine x_bipushN (q := 23) dX0_makeBox_54 rfl (by decide) ?_
    refine x_icmp_le (tgt := 63) dX0_makeBox_56 (by decide) (by omega) (by omega) (fun h1 => ?_) (fun h1 => ?_)
    · exact k63 r _ hr (by rw [if_neg (by omega)])
    · refine x_bipushN (q := 23) dX0_makeBox_59 rfl (by decide) ?_
      refine x_istore dX0_makeBox_61 (by decide) rfl ?_
      exact k63 r _ hr (by rw [if_pos (by omega)]; rfl)
  refine x_aload_n dX0_makeBox_0 rfl ?_
  refine x_iconstN (q := 4) dX0_makeBox_1 rfl ?_
  refine x_callV (m_start o g hB 4 (by decide)) gw_X0_start cf_X0_start ⟨rfl, rfl, by decide, by decide⟩ rfl dX0_makeBox_2 rfl (Nat.le_of_ble_eq_true rfl) (fun u hu => ?_)
  obtain rfl := hu
  refine x_iload_n dX0_makeBox_5 rfl ?_
  refine x_bipushN (q := 31) dX0_makeBox_6 rfl (by decide) ?_
  refine x_and31 dX0_makeBox_8 rfl ?_
  refine x_istore_n dX0_makeBox_9 (by decide) rfl ?_
  refine x_iload_n dX0_makeBox_10 rfl ?_
  refine x_iconstN (q := 5) dX0_makeBox_11 rfl ?_
  refine x_shr5 dX0_makeBox_12 rfl ?_
  refine x_bipushN (q := 31) dX0_makeBox_13 rfl (by decide) ?_
  refine x_and31 dX0_makeBox_15 rfl ?_
  refine x_top (y := ((hi5 c : Nat) : Int)) (rfl) ?_
  refine x_istore dX0_makeBox_16 (by decide) rfl ?_
  refine x_iload_n dX0_makeBox_18 rfl ?_
  refine x_iload_n dX0_makeBox_19 rfl ?_
  refine x_bipushN (q := 31) dX0_makeBox_20 rfl (by decide) ?_
  refine x_and31 dX0_makeBox_22 rfl ?_
  refine x_iadd dX0_makeBox_23 ?_
  refine x_iconstN (q := 1) dX0_makeBox_24 rfl ?_
  refine x_isub dX0_makeBox_25 ?_
  refine x_top (y := (lo5 c : Int) + lo5 s - 1) rfl ?_
  refine x_istore dX0_makeBox_26 (by decide) rfl ?_
  refine x_iload dX0_makeBox_28 rfl ?_
  refine x_iload_n dX0_makeBox_30 rfl ?_
  refine x_iconstN (q := 5) dX0_makeBox_31 rfl ?_
  refine x_shr5 dX0_makeBox_32 rfl ?_
  refine x_bipushN (q := 31) dX0_makeBox_33 rfl (by decide) ?_
  refine x_and31 dX0_makeBox_35 rfl ?_
  refine x_top (y := ((hi5 s : Nat) : Int)) (rfl) ?_
  refine x_iadd dX0_makeBox_36 ?_
  refine x_iconstN (q := 1) dX0_makeBox_37 rfl ?_
  refine x_isub dX0_makeBox_38 ?_
  refine x_top (y := (hi5 c : Int) + hi5 s - 1) rfl ?_
  refine x_istore dX0_makeBox_39 (by decide) rfl ?_
  refine x_iload dX0_makeBox_41 rfl ?_
  refine x_bipushN (q := 23) dX0_makeBox_43 rfl (by decide) ?_
  refine x_icmp_le (tgt := 52) dX0_makeBox_45 (by decide) (by omega) (by omega) (fun h1 => ?_) (fun h1 => ?_)
  · exact k52 _ (by rw [if_neg (by omega)])
  · refine x_bipushN (q := 23) dX0_makeBox_48 rfl (by decide) ?_
    refine x_istore dX0_makeBox_50 (by decide) rfl ?_
    exact k52 _ (by rw [if_pos (by omega)]; rfl)
end
section
/-! BandRegion: moveBand, move -/
set_option maxRecDepth 100000
/-- a place cut to 0 .. 24 -/
def clX (z : Int) : Nat := if z < 0 then 0 else if 24 < z then 24 else z.toNat
theorem clX_s (z : Int) : (z < 0 → clX z = 0) ∧ (24 < z → clX z = 24) ∧ (0 ≤ z → z ≤ 24 → (clX z : Int) = z) ∧ clX z ≤ 24 := by
  unfold clX
  refine ⟨fun h => if_pos h, fun h => ?_, fun h1 h2 => ?_, ?_⟩
  · rw [if_neg (by omega), if_pos h]
  · rw [if_neg (by omega), if_neg (by omega)]
    omega
  · split
    · omega
    · split <;> omega
/-- a row of runs, moved -/
def shR (rs : List Rn) (dx : Int) (x : Nat) : Bool := decide (0 ≤ (x : Int) - dx) && inR rs ((x : Int) - dx).toNat
theorem mv_row {rs p : List Rn} {q : Rn} {dx : Int} {nb z : Nat} (hrow : ∀ z, nb ≤ z → inR rs z = inR (q :: p) z) (hs : SR nb 24 (q :: p)) (h1 : clX ((nb : Int) + dx) ≤ z) (h2 : z < clX ((q.2 : Int) + 1 + dx)) : shR rs dx z = decide ((q.1 : Int) + dx ≤ z) := by
  obtain ⟨a1, a2, a3, a4⟩ := hs
  have c1 := clX_s ((nb : Int) + dx)
  have c2 := clX_s ((q.2 : Int) + 1 + dx)
  obtain ⟨w, hw⟩ : ∃ w : Nat, (z : Int) - dx = w := ⟨((z : Int) - dx).toNat, by omega⟩
  unfold shR
  rw [hw, hrow _ (by omega)]
  simp only [inR]
  rw [inR_lo p _ _ a4 (by omega)]
  have d1 : decide ((0 : Int) ≤ (w : Int)) = true := decide_eq_true (by omega)
  have d2 : decide ((w : Int).toNat ≤ q.2) = true := decide_eq_true (by omega)
  rw [d1, d2]
  simp only [Bool.true_and, Bool.and_true, Bool.or_false]
  exact decide_eq_decide.mpr (by omega)
theorem mv_in {rs p : List Rn} {q : Rn} {dx : Int} {nb l r : Nat} (hrow : ∀ z, nb ≤ z → inR rs z = inR (q :: p) z) (hs : SR nb 24 (q :: p)) (hl : (l : Int) = if (q.1 : Int) + dx < 0 then 0 else (q.1 : Int) + dx) (hr : (r : Int) = if 23 < (q.2 : Int) + dx then 23 else (q.2 : Int) + dx) (hle : l ≤ r) : ru (shR rs dx) (clX ((q.2 : Int) + 1 + dx)) = pushR (ru (shR rs dx) (clX ((nb : Int) + dx))) l r ∧ clX ((q.2 : Int) + 1 + dx) = r + 1 := by
  have a := hs
  obtain ⟨a1, a2, a3, a4⟩ := a
  have c1 := clX_s ((nb : Int) + dx)
  have c2 := clX_s ((q.2 : Int) + 1 + dx)
  have hl1 : ((q.1 : Int) + dx < 0 → l = 0) ∧ (0 ≤ (q.1 : Int) + dx → (l : Int) = (q.1 : Int) + dx) := by split at hl <;> omega
  have hr1 : (23 < (q.2 : Int) + dx → r = 23) ∧ ((q.2 : Int) + dx ≤ 23 → (r : Int) = (q.2 : Int) + dx) := by split at hr <;> omega
  have e : clX ((q.2 : Int) + 1 + dx) = r + 1 := by omega
  refine ⟨?_, e⟩
  have hX : clX ((nb : Int) + dx) ≤ l := by omega
  rw [e, ru_run' (x := l) (e := r + 1) (by omega) (fun z z1 z2 => (mv_row hrow hs (by omega) (by omega)).trans (decide_eq_true (by omega))), ru_gap' (x := clX ((nb : Int) + dx)) (e := l) hX (fun z z1 z2 => (mv_row hrow hs (by omega) (by omega)).trans (decide_eq_false (by omega)))]
  rfl
theorem mv_out {rs p : List Rn} {q : Rn} {dx : Int} {nb : Nat} {l r : Int} (hrow : ∀ z, nb ≤ z → inR rs z = inR (q :: p) z) (hs : SR nb 24 (q :: p)) (hl : l = if (q.1 : Int) + dx < 0 then 0 else (q.1 : Int) + dx) (hr : r = if 23 < (q.2 : Int) + dx then 23 else (q.2 : Int) + dx) (hle : r < l) : ru (shR rs dx) (clX ((q.2 : Int) + 1 + dx)) = ru (shR rs dx) (clX ((nb : Int) + dx)) := by
  have a := hs
  obtain ⟨a1, a2, a3, a4⟩ := a
  have c1 := clX_s ((nb : Int) + dx)
  have c2 := clX_s ((q.2 : Int) + 1 + dx)
  have hl1 : ((q.1 : Int) + dx < 0 → l = 0) ∧ (0 ≤ (q.1 : Int) + dx → l = (q.1 : Int) + dx) := by split at hl <;> omega
  have hr1 : (23 < (q.2 : Int) + dx → r = 23) ∧ ((q.2 : Int) + dx ≤ 23 → r = (q.2 : Int) + dx) := by split at hr <;> omega
  exact ru_gap' (by omega) (fun z z1 z2 => (mv_row hrow hs z1 z2).trans (decide_eq_false (by omega)))
theorem pushB_len (L : List Bn) (t e : Nat) (rs : List Rn) : (pushB L t e rs).length ≤ L.length + 1 := by
  by_cases hn : rs = []
  · subst hn
    rw [pushB_none]
    omega
  · rcases snoc_cases L with rfl | ⟨L0, b, rfl⟩
    · rw [pushB_nil t e hn]
      simp
    · rw [pushB_last L0 b t e hn]
      split <;> simp
set_option maxHeartbeats 4000000 in
theorem m_moveBand (o : Ox) (g : Gg) (hB : bdX g) (a n f : Nat) (dx : Int) (t e : Nat) (L : List Bn) (rs : List Rn) (ha : a < 5) (ha3 : a ≠ 3) (hn : n < 120) (hdx : -24 ≤ dx ∧ dx ≤ 24) (ht : t < 2048) (he : e < 2048) (h3 : g 3 n = f) (h4 : g 4 n = rs.length) (hf : f + rs.length ≤ 288) (hRR : RR g (a * 288 + f) rs) (hs : SR 0 24 rs) (hn3 : n < 72 ∨ 96 ≤ n) (hR : Rep g 3 L []) (hL : L.length < 24) (htl : tot L ≤ 276) : xV yX0_moveBand cX0_moveBand 11 rmC o g [.int (zI (a : Int)), .int (zI (n : Int)), .int (zI dx), .int (zI (t : Int)), .int (zI (e : Int))] (fun u => Rep u 3 (pushB L t e (ru (shR rs dx) 24)) [] ∧ ∀ q, q ≠ 3 → AG g u q) := by
  refine x_metV (lv0 := [some (.ref o.2.1), some (.int (zI (a : Int))), some (.int (zI (n : Int))), some (.int (zI dx)), some (.int (zI (t : Int))), some (.int (zI (e : Int))), none, none, none, none, none]) (by decide) rfl hB rfl (Nat.le_of_ble_eq_true rfl) rfl (fun K ret => ?_)
  have hn24 := SR_len24 hs (Nat.le_refl _)
  have loop : ∀ (p2 p1 : List Rn) (k nb : Nat) (u : Gg) (t8 t9 t10 : Option Value), rs = p1 ++ p2 → k = p1.length → SR nb 24 p2 → (∀ z, nb ≤ z → inR rs z = inR p2 z) → Rep u 3 L (ru (shR rs dx) (clX ((nb : Int) + dx))) → (∀ q, q ≠ 3 → AG g u q) → bX K o rmC cX0_moveBand 11 u 11 [some (.ref o.2.1), some (.int (zI (a : Int))), some (.int (zI (n : Int))), some (.int (zI dx)), some (.int (zI (t : Int))), some (.int (zI (e : Int))), some (.int (zI ((tot L : Nat) : Int))), some (.int (zI (k : Int))), t8, t9, t10] [] := by
    intro p2
    have hun : ∀ u : Gg, (∀ q, q ≠ 3 → AG g u q) → u 3 n = f ∧ u 4 n = rs.length := by
      intro u hag
      have e0 : n / 24 * 24 + n % 24 = n := by omega
      have hq := hag (n / 24) (by omega)
      have e3 := hq.2.2.1 3 (n % 24) (by decide) (by decide) (by omega)
      have e4 := hq.2.2.1 4 (n % 24) (by decide) (by decide) (by omega)
      rw [e0] at e3 e4
      exact ⟨e3.trans h3, e4.trans h4⟩
    induction p2 with
    | nil =>
      intro p1 k nb u t8 t9 t10 hp hk hsr hrow hRu hag
      obtain ⟨e3, e4⟩ := hun u hag
      have hlen : rs.length = p1.length := by rw [hp]; simp
      have c1 := clX_s ((nb : Int) + dx)
      have hfin : ru (shR rs dx) 24 = ru (shR rs dx) (clX ((nb : Int) + dx)) := ru_gap' c1.2.2.2 (fun z z1 z2 => by
        unfold shR
        by_cases hz : 0 ≤ (z : Int) - dx
        · rw [hrow _ (by omega)]
          simp [inR]
        · rw [decide_eq_false hz]
          rfl)
      rw [← hfin] at hRu
      have hu5 := hRu.2.2.2.1
      have hu2 := hRu.2.1
      have hu0 := hRu.2.2.1
      have hpl := pushB_len L t e (ru (shR rs dx) 24)
      refine x_iload dX0_moveBand_11 rfl ?_
      refine x_aload_n dX0_moveBand_13 rfl ?_
      refine x_get4 dX0_moveBand_14 ?_
      refine x_iload_n dX0_moveBand_17 rfl ?_
      refine x_ald4 dX0_moveBand_18 (by omega) (fun hb18 => ?_)
      refine x_icmp_geN (tgt := 104) dX0_moveBand_19 (by decide) (by omega) (by omega) (fun h1 => ?_) (fun h1 => ?_)
      · refine x_bd (fun hBu => ?_)
        refine x_aload_n dX0_moveBand_104 rfl ?_
        refine x_iconstN (q := 3) dX0_moveBand_105 rfl ?_
        refine x_iload dX0_moveBand_106 rfl ?_
        refine x_iload dX0_moveBand_108 rfl ?_
        refine x_iload dX0_moveBand_110 rfl ?_
        refine x_callV (m_endBand o u hBu 3 (tot L) t e (by decide) (by omega) (by omega) (by omega) ht he (fun h => hRu.last h)) gw_X0_endBand cf_X0_endBand ⟨rfl, rfl, by decide, by decide⟩ rfl dX0_moveBand_112 rfl (Nat.le_of_ble_eq_true rfl) (fun u3 hu3 => ?_)
        exact ret _ _ _ dX0_moveBand_115 ⟨EB_rep hu3 hRu (by omega), fun q hq => (hag q hq).tr (EB_ag hu3 hq (by omega))⟩
      · exact absurd h1 (by omega)
    | cons q p2 ih =>
      intro p1 k nb u t8 t9 t10 hp hk hsr hrow hRu hag
      obtain ⟨e3, e4⟩ := hun u hag
      have hlen : rs.length = p1.length + (p2.length + 1) := by rw [hp]; simp
      obtain ⟨s1, s2, s3, s4⟩ := hsr
      have hRRu : RR u (a * 288 + f) rs := by
        refine RR_cg rs _ (fun z z1 z2 => ?_) hRR
        have e0 : a * 288 + (z - a * 288) = z := by omega
        have a6 := (hag a ha3).2.2.2 6 (z - a * 288) (by decide) (by decide) (by omega)
        have a7 := (hag a ha3).2.2.2 7 (z - a * 288) (by decide) (by decide) (by omega)
        rw [e0] at a6 a7
        exact ⟨a6, a7⟩
      rw [hp, RR_app] at hRRu
      obtain ⟨-, d1, d2, -⟩ := hRRu
      rw [← hk] at d1 d2
      have hrow2 : ∀ z, q.2 + 1 ≤ z → inR rs z = inR p2 z := by
        intro z hz
        rw [hrow z (by omega)]
        simp only [inR]
        have d : decide (z ≤ q.2) = false := decide_eq_false (by omega)
        rw [d]
        simp
      have s5 := SR_lo p2 (q.2 + 2) (q.2 + 1) (by omega) s4
      have k98 : ∀ (u : Gg) (t8 t9 t10 : Option Value), Rep u 3 L (ru (shR rs dx) (clX ((q.2 : Int) + 1 + dx))) → (∀ q, q ≠ 3 → AG g u q) → bX K o rmC cX0_moveBand 11 u 98 [some (.ref o.2.1), some (.int (zI (a : Int))), some (.int (zI (n : Int))), some (.int (zI dx)), some (.int (zI (t : Int))), some (.int (zI (e : Int))), some (.int (zI ((tot L : Nat) : Int))), some (.int (zI (k : Int))), t8, t9, t10] [] := by
        intro u t8 t9 t10 hR2 hag2
        refine x_iincN (q := 1) dX0_moveBand_98 rfl rfl (by decide) rfl ?_
        refine x_goto (tgt := 11) dX0_moveBand_101 (by decide) ?_
        exact ih (p1 ++ [q]) (k + 1) (q.2 + 1) u _ _ _ (by rw [hp]; simp) (by rw [hk]; simp) s5 hrow2 hR2 hag2
      have k80 : ∀ (l r : Int) (t8 : Option Value), l = (if (q.1 : Int) + dx < 0 then 0 else (q.1 : Int) + dx) → r = (if 23 < (q.2 : Int) + dx then 23 else (q.2 : Int) + dx) → bX K o rmC cX0_moveBand 11 u 80 [some (.ref o.2.1), some (.int (zI (a : Int))), some (.int (zI (n : Int))), some (.int (zI dx)), some (.int (zI (t : Int))), some (.int (zI (e : Int))), some (.int (zI ((tot L : Nat) : Int))), some (.int (zI (k : Int))), t8, some (.int (zI l)), some (.int (zI r))] [] := by
        intro l r t8 hl hr
        have hl1 : 0 ≤ l ∧ l ≤ 48 := by split at hl <;> omega
        have hr1 : r ≤ 23 ∧ -25 ≤ r := by split at hr <;> omega
        refine x_iload dX0_moveBand_80 rfl ?_
        refine x_iload dX0_moveBand_82 rfl ?_
        refine x_icmp_gt (tgt := 98) dX0_moveBand_84 (by decide) (by omega) (by omega) (fun h1 => ?_) (fun h1 => ?_)
        · refine k98 u _ _ _ ?_ hag
          rw [mv_out hrow ⟨s1, s2, s3, s4⟩ hl hr h1]
          exact hRu
        · obtain ⟨l', rfl⟩ : ∃ n : Nat, l = (n : Int) := ⟨l.toNat, by omega⟩
          obtain ⟨r', rfl⟩ : ∃ n : Nat, r = (n : Int) := ⟨r.toNat, by omega⟩
          obtain ⟨m1, m2⟩ := mv_in hrow ⟨s1, s2, s3, s4⟩ hl hr (by omega)
          have hu5 : u 5 3 ≤ 288 := by have := hRu.2.1; have := hRu.2.2.2.1; omega
          have hlen2 := SR_len24 (ru_SR (shR rs dx) (clX ((q.2 : Int) + 1 + dx))) (clX_s _).2.2.2
          rw [m1] at hlen2
          refine x_bd (fun hBu => ?_)
          refine x_aload_n dX0_moveBand_87 rfl ?_
          refine x_iconstN (q := 3) dX0_moveBand_88 rfl ?_
          refine x_iload dX0_moveBand_89 rfl ?_
          refine x_iload dX0_moveBand_91 rfl ?_
          refine x_iload dX0_moveBand_93 rfl ?_
          refine x_callV (m_addRun o u hBu 3 (tot L) l' r' (by decide) hu5 (by omega) (by omega) (by omega)) gw_X0_addRun cf_X0_addRun ⟨rfl, rfl, by decide, by decide⟩ rfl dX0_moveBand_95 rfl (Nat.le_of_ble_eq_true rfl) (fun u2 hu2 => ?_)
          obtain rfl := hu2
          refine k98 _ _ _ _ ?_ (fun q hq => (hag q hq).tr (addR_ag hq hu5))
          rw [m1]
          exact addR_rep hRu (by omega)
      have k69 : ∀ (l : Int) (t8 : Option Value), l = (if (q.1 : Int) + dx < 0 then 0 else (q.1 : Int) + dx) → bX K o rmC cX0_moveBand 11 u 69 [some (.ref o.2.1), some (.int (zI (a : Int))), some (.int (zI (n : Int))), some (.int (zI dx)), some (.int (zI (t : Int))), some (.int (zI (e : Int))), some (.int (zI ((tot L : Nat) : Int))), some (.int (zI (k : Int))), t8, some (.int (zI l)), some (.int (zI ((q.2 : Int) + dx)))] [] := by
        intro l t8 hl
        refine x_iload dX0_moveBand_69 rfl ?_
        refine x_bipushN (q := 23) dX0_moveBand_71 rfl (by decide) ?_
        refine x_icmp_le (tgt := 80) dX0_moveBand_73 (by decide) (by omega) (by omega) (fun h1 => ?_) (fun h1 => ?_)
        · exact k80 l _ _ hl (by rw [if_neg (by omega)])
        · refine x_bipushN (q := 23) dX0_moveBand_76 rfl (by decide) ?_
          refine x_istore dX0_moveBand_78 (by decide) rfl ?_
          exact k80 l _ _ hl (by rw [if_pos (by omega)]; rfl)
      refine x_iload dX0_moveBand_11 rfl ?_
      refine x_aload_n dX0_moveBand_13 rfl ?_
      refine x_get4 dX0_moveBand_14 ?_
      refine x_iload_n dX0_moveBand_17 rfl ?_
      refine x_ald4 dX0_moveBand_18 (by omega) (fun hb18 => ?_)
      refine x_icmp_geN (tgt := 104) dX0_moveBand_19 (by decide) (by omega) (by omega) (fun h1 => ?_) (fun h1 => ?_)
      · exact absurd h1 (by omega)
      · refine x_iload_n dX0_moveBand_22 rfl ?_
        refine x_sipushN (q := 288) dX0_moveBand_23 rfl (by decide) ?_
        refine x_imulN dX0_moveBand_26 ?_
        refine x_aload_n dX0_moveBand_27 rfl ?_
        refine x_get3 dX0_moveBand_28 ?_
        refine x_iload_n dX0_moveBand_31 rfl ?_
        refine x_ald3 dX0_moveBand_32 (by omega) (fun hb32 => ?_)
        refine x_iaddN dX0_moveBand_33 ?_
        refine x_iload dX0_moveBand_34 rfl ?_
        refine x_iaddN dX0_moveBand_36 ?_
        refine x_top (y := ((a * 288 + f + k : Nat) : Int)) (by omega) ?_
        refine x_istore dX0_moveBand_37 (by decide) rfl ?_
        refine x_aload_n dX0_moveBand_39 rfl ?_
        refine x_get6 dX0_moveBand_40 ?_
        refine x_iload dX0_moveBand_43 rfl ?_
        refine x_ald6 dX0_moveBand_45 (by omega) (fun hb45 => ?_)
        refine x_iload_n dX0_moveBand_46 rfl ?_
        refine x_iadd dX0_moveBand_47 ?_
        refine x_top (y := (q.1 : Int) + dx) (by rw [d1]) ?_
        refine x_istore dX0_moveBand_48 (by decide) rfl ?_
        refine x_aload_n dX0_moveBand_50 rfl ?_
        refine x_get7 dX0_moveBand_51 ?_
        refine x_iload dX0_moveBand_54 rfl ?_
        refine x_ald7 dX0_moveBand_56 (by omega) (fun hb56 => ?_)
        refine x_iload_n dX0_moveBand_57 rfl ?_
        refine x_iadd dX0_moveBand_58 ?_
        refine x_top (y := (q.2 : Int) + dx) (by rw [d2]) ?_
        refine x_istore dX0_moveBand_59 (by decide) rfl ?_
        refine x_iload dX0_moveBand_61 rfl ?_
        refine x_if_ge (tgt := 69) dX0_moveBand_63 (by decide) (by omega) (fun h2 => ?_) (fun h2 => ?_)
        · exact k69 _ _ (by rw [if_neg (by omega)])
        · refine x_iconstN (q := 0) dX0_moveBand_66 rfl ?_
          refine x_istore dX0_moveBand_67 (by decide) rfl ?_
          exact k69 _ _ (by rw [if_pos (by omega)]; rfl)
  have hu5 := hR.2.2.2.1
  rw [List.length_nil, Nat.add_zero] at hu5
  refine x_aload_n dX0_moveBand_0 rfl ?_
  refine x_get5 dX0_moveBand_1 ?_
  refine x_iconstN (q := 3) dX0_moveBand_4 rfl ?_
  refine x_ald5 dX0_moveBand_5 (by omega) (fun hb5 => ?_)
  refine x_top (y := ((tot L : Nat) : Int)) (by omega) ?_
  refine x_istore dX0_moveBand_6 (by decide) rfl ?_
  refine x_iconstN (q := 0) dX0_moveBand_8 rfl ?_
  refine x_istore dX0_moveBand_9 (by decide) rfl ?_
  have c1 := clX_s (((0 : Nat) : Int) + dx)
  refine loop rs [] 0 0 g _ _ _ rfl rfl hs (fun z _ => rfl) ?_ (fun q _ => AG.rf)
  rw [ru_gap' (x := 0) (e := clX (((0 : Nat) : Int) + dx)) (Nat.zero_le _) (fun z z1 z2 => by
    unfold shR
    rw [decide_eq_false (by omega)]
    rfl)]
  exact hR
end
section
/-! THE PLAIN PART, 3: what the calls answer and do, over sets of cells -/
abbrev Sx : Type := Nat → Nat → Nat → Bool
def rowN (row : Nat → Bool) : Nat → Nat
  | 0 => 0
  | x + 1 => rowN row x + (if row x = true then 1 else 0)
def cntN (T : Nat → Nat → Bool) : Nat → Nat
  | 0 => 0
  | y + 1 => cntN T y + rowN (fun x => T x y) 24
def cnt (T : Nat → Nat → Bool) : Nat := cntN T 24
theorem wid_app : ∀ (p q : List Rn), wid (p ++ q) = wid p + wid q
  | [], q => by simp [wid]
  | a :: p, q => by
    simp only [List.cons_append, wid, wid_app p q]
    omega
theorem wid_push {p : List Rn} {lo x : Nat} (h : SR lo x p) : wid (pushR p x x) = wid p + 1 := by
  rcases snoc_cases p with rfl | ⟨p0, q, rfl⟩
  · rw [pushR_nil]
    simp [wid]
  · rw [pushR_last]
    rw [SR_app] at h
    obtain ⟨-, -, h1, h2, -⟩ := h
    by_cases e : x ≤ q.2 + 1
    · rw [if_pos e, wid_app, wid_app]
      simp only [wid]
      omega
    · rw [if_neg e, wid_app]
      simp only [wid]
      omega
theorem wid_ru (row : Nat → Bool) : ∀ (n : Nat), wid (ru row n) = rowN row n
  | 0 => rfl
  | n + 1 => by
    simp only [ru, rowN]
    by_cases h : row n = true
    · rw [if_pos h, if_pos h, wid_push (ru_SR row n), wid_ru row n]
    · rw [if_neg h, if_neg h, wid_ru row n]
      rfl
theorem areaB_app : ∀ (L M : List Bn), areaB (L ++ M) = areaB L + areaB M
  | [], M => by simp [areaB]
  | b :: L, M => by
    simp only [List.cons_append, areaB, areaB_app L M]
    omega
theorem areaB_push {L : List Bn} {lo y : Nat} {rs : List Rn} (h : SB lo y L) : areaB (pushB L y y rs) = areaB L + wid rs := by
  by_cases hn : rs = []
  · subst hn
    rw [pushB_none]
    rfl
  · rcases snoc_cases L with rfl | ⟨L0, b, rfl⟩
    · rw [pushB_nil y y hn]
      simp [areaB]
    · rw [pushB_last L0 b y y hn]
      rw [SB_app] at h
      obtain ⟨-, -, h1, h2, -⟩ := h
      by_cases hm : b.2.1 + 1 = y ∧ b.2.2 = rs
      · rw [if_pos hm, areaB_app, areaB_app]
        simp only [areaB, Nat.add_zero]
        rw [hm.2, show y - b.1 + 1 = (b.2.1 - b.1 + 1) + 1 by omega, Nat.mul_succ]
        omega
      · rw [if_neg hm, areaB_app]
        simp [areaB]
theorem areaB_bu (T : Nat → Nat → Bool) : ∀ (n : Nat), areaB (bu T n) = cntN T n
  | 0 => rfl
  | n + 1 => by
    simp only [bu, cntN]
    rw [areaB_push (bu_SB T n), areaB_bu T n, wid_ru]
/-- the arrays hold the sets S of the three regions -/
def XI (g : Gg) (S : Sx) : Prop := ∀ r, r < 3 → Rep g r (bu (S r) 24) []
def setS (S : Sx) (r : Nat) (T : Nat → Nat → Bool) : Sx := fun q => if q = r then T else S q
theorem XI.ag {g g' : Gg} {S : Sx} (h : XI g S) (ha : ∀ r, r < 3 → AG g g' r) : XI g' S := fun r hr => (h r hr).ag (ha r hr)
theorem XI.set {g g' : Gg} {S : Sx} {r : Nat} {T : Nat → Nat → Bool} (h : XI g S) (hr : Rep g' r (bu T 24) []) (ha : ∀ q, q < 3 → q ≠ r → AG g g' q) : XI g' (setS S r T) := by
  intro q hq
  unfold setS
  by_cases e : q = r
  · subst e
    rw [if_pos rfl]
    exact hr
  · rw [if_neg e]
    exact (h q hq).ag (ha q hq e)
def modS (S : Sx) (r : Nat) (T : Nat → Nat → Bool) : Int × Sx := (((cnt T : Nat) : Int), setS S r T)
def opBox (S : Sx) (r k : Int) (c s : Int32) : Int × Sx := if badZ r = true then (-1, S) else if k < 0 ∨ 3 < k then (-2, S) else modS S r.toNat (fun x y => mixB k.toNat (S r.toNat x y) (boxS c s x y))
def opComb (S : Sx) (t a b k : Int) : Int × Sx := if badZ t = true ∨ badZ a = true ∨ badZ b = true then (-1, S) else if k < 0 ∨ 3 < k then (-2, S) else modS S t.toNat (fun x y => mixB k.toNat (S a.toNat x y) (S b.toNat x y))
/-- a set moved -/
def shS (T : Nat → Nat → Bool) (dx dy : Int) (x y : Nat) : Bool := decide (0 ≤ (x : Int) - dx ∧ (x : Int) - dx < 24 ∧ 0 ≤ (y : Int) - dy ∧ (y : Int) - dy < 24) && T ((x : Int) - dx).toNat ((y : Int) - dy).toNat
def opMove (S : Sx) (r dx dy : Int) : Int × Sx := if badZ r = true then (-1, S) else modS S r.toNat (shS (S r.toNat) dx dy)
def opInv (S : Sx) (r : Int) : Int × Sx := if badZ r = true then (-1, S) else modS S r.toNat (fun x y => !(S r.toNat x y))
def qArea (S : Sx) (r : Int) : Int := if badZ r = true then -1 else ((cnt (S r.toNat) : Nat) : Int)
def qHas (S : Sx) (r x y : Int) : Bool := !badZ r && (decide (0 ≤ x ∧ x < 24 ∧ 0 ≤ y ∧ y < 24) && S r.toNat x.toNat y.toNat)
def qRects (S : Sx) (r : Int) : Int := if badZ r = true then -1 else ((tot (bu (S r.toNat) 24) : Nat) : Int)
/-- the i-th rectangle of the bands -/
def rectL : List Bn → Nat → Int
  | [], _ => -3
  | b :: L, i => match b.2.2[i]? with
    | some q => ((pkN q.1 b.1 q.2 b.2.1 : Nat) : Int)
    | none => rectL L (i - b.2.2.length)
def qRect (S : Sx) (r i : Int) : Int := if badZ r = true then -1 else if i < 0 then -3 else rectL (bu (S r.toNat) 24) i.toNat
def allR : List Bn → List Rn
  | [] => []
  | b :: L => b.2.2 ++ allR L
def minL (p : List Rn) (m : Nat) : Nat := p.foldl (fun m q => if q.1 < m then q.1 else m) m
def maxR (p : List Rn) (m : Nat) : Nat := p.foldl (fun m q => if m < q.2 then q.2 else m) m
def endB : List Bn → Nat
  | [] => 0
  | [b] => b.2.1
  | _ :: b :: L => endB (b :: L)
def arndL (L : List Bn) : Int := match L with
  | [] => -3
  | b :: M => ((pkN (minL (allR (b :: M)) 24) b.1 (maxR (allR (b :: M)) 0) (endB (b :: M)) : Nat) : Int)
def qArnd (S : Sx) (r : Int) : Int := if badZ r = true then -1 else arndL (bu (S r.toNat) 24)
def qSame (S : Sx) (a b : Int) : Bool := !badZ a && (!badZ b && decide (bu (S a.toNat) 24 = bu (S b.toNat) 24))
def qCov (S : Sx) (r : Int) (c s : Int32) : Int := if badZ r = true then -1 else if cnt (fun x y => S r.toNat x y && boxS c s x y) = 0 then 0 else if cnt (fun x y => S r.toNat x y && boxS c s x y) = cnt (boxS c s) then 2 else 1
theorem cntN_cg {T T' : Nat → Nat → Bool} : ∀ (n : Nat), (∀ x y, x < 24 → y < n → T x y = T' x y) → cntN T n = cntN T' n := by
  intro n h
  rw [← areaB_bu, ← areaB_bu, bu_cg n h]
-- ===== bands moved =====
theorem mvb_row {S0 : Nat → Nat → Bool} {L : List Bn} {b : Bn} {dx dy : Int} {nb z x : Nat} (hrow : ∀ x z, x < 24 → nb ≤ z → z < 24 → S0 x z = inB (b :: L) x z) (hs : SB nb 24 (b :: L)) (h1 : clX ((nb : Int) + dy) ≤ z) (h2 : z < clX ((b.2.1 : Int) + 1 + dy)) (hx : x < 24) : shS S0 dx dy x z = (decide ((b.1 : Int) + dy ≤ z) && shR b.2.2 dx x) := by
  obtain ⟨a1, a2, a3, a4, a5, a6⟩ := hs
  have c1 := clX_s ((nb : Int) + dy)
  have c2 := clX_s ((b.2.1 : Int) + 1 + dy)
  obtain ⟨w, hw⟩ : ∃ w : Nat, (z : Int) - dy = w := ⟨((z : Int) - dy).toNat, by omega⟩
  unfold shS shR
  rw [hw]
  by_cases e1 : 0 ≤ (x : Int) - dx
  · obtain ⟨v, hv⟩ : ∃ v : Nat, (x : Int) - dx = v := ⟨((x : Int) - dx).toNat, by omega⟩
    rw [hv]
    by_cases e2 : v < 24
    · have t1 : (v : Int).toNat = v := Int.toNat_natCast v
      have t2 : (w : Int).toNat = w := Int.toNat_natCast w
      rw [t1, t2, hrow v w e2 (by omega) (by omega)]
      simp only [inB]
      rw [inB_lo L _ v w a6 (by omega)]
      have d1 : decide ((0 : Int) ≤ v ∧ (v : Int) < 24 ∧ (0 : Int) ≤ w ∧ (w : Int) < 24) = true := decide_eq_true (by omega)
      have d2 : decide (w ≤ b.2.1) = true := decide_eq_true (by omega)
      have d3 : decide ((0 : Int) ≤ (v : Int)) = true := decide_eq_true (by omega)
      have d4 : decide (b.1 ≤ w) = decide ((b.1 : Int) + dy ≤ z) := decide_eq_decide.mpr (by omega)
      rw [d1, d2, d3, d4]
      simp
    · have d1 : decide ((0 : Int) ≤ v ∧ (v : Int) < 24 ∧ (0 : Int) ≤ w ∧ (w : Int) < 24) = false := decide_eq_false (by omega)
      have t1 : (v : Int).toNat = v := Int.toNat_natCast v
      rw [d1, t1, inR_hi b.2.2 0 v a5 (by omega)]
      simp
  · have d1 : decide ((0 : Int) ≤ (x : Int) - dx ∧ (x : Int) - dx < 24 ∧ (0 : Int) ≤ w ∧ (w : Int) < 24) = false := decide_eq_false (by omega)
    have d3 : decide ((0 : Int) ≤ (x : Int) - dx) = false := decide_eq_false e1
    rw [d1, d3]
    simp
theorem mvb_in {S0 : Nat → Nat → Bool} {L : List Bn} {b : Bn} {dx dy : Int} {nb t e : Nat} (hrow : ∀ x z, x < 24 → nb ≤ z → z < 24 → S0 x z = inB (b :: L) x z) (hs : SB nb 24 (b :: L)) (hl : (t : Int) = if (b.1 : Int) + dy < 0 then 0 else (b.1 : Int) + dy) (hr : (e : Int) = if 23 < (b.2.1 : Int) + dy then 23 else (b.2.1 : Int) + dy) (hle : t ≤ e) : bu (shS S0 dx dy) (clX ((b.2.1 : Int) + 1 + dy)) = pushB (bu (shS S0 dx dy) (clX ((nb : Int) + dy))) t e (ru (shR b.2.2 dx) 24) ∧ clX ((b.2.1 : Int) + 1 + dy) = e + 1 ∧ clX ((nb : Int) + dy) ≤ t := by
  have a := hs
  obtain ⟨a1, a2, a3, a4⟩ := a
  have c1 := clX_s ((nb : Int) + dy)
  have c2 := clX_s ((b.2.1 : Int) + 1 + dy)
  have hl1 : ((b.1 : Int) + dy < 0 → t = 0) ∧ (0 ≤ (b.1 : Int) + dy → (t : Int) = (b.1 : Int) + dy) := by split at hl <;> omega
  have hr1 : (23 < (b.2.1 : Int) + dy → e = 23) ∧ ((b.2.1 : Int) + dy ≤ 23 → (e : Int) = (b.2.1 : Int) + dy) := by split at hr <;> omega
  have ee : clX ((b.2.1 : Int) + 1 + dy) = e + 1 := by omega
  have hX : clX ((nb : Int) + dy) ≤ t := by omega
  refine ⟨?_, ee, hX⟩
  have hin : ∀ x z, x < 24 → t ≤ z → z < e + 1 → shS S0 dx dy x z = shR b.2.2 dx x := by
    intro x z hx z1 z2
    rw [mvb_row hrow hs (by omega) (by omega) hx, decide_eq_true (by omega), Bool.true_and]
  rw [ee, bu_run' (y := t) (e := e + 1) (by omega) (fun x z hx z1 z2 => (hin x z hx z1 z2).trans (hin x t hx (Nat.le_refl _) (by omega)).symm), bu_gap (y := clX ((nb : Int) + dy)) (e := t) hX (fun x z hx z1 z2 => by rw [mvb_row hrow hs (by omega) (by omega) hx, decide_eq_false (by omega), Bool.false_and]), ru_cg (row' := shR b.2.2 dx) 24 (fun x hx => hin x t hx (Nat.le_refl _) (by omega))]
  rfl
theorem mvb_out {S0 : Nat → Nat → Bool} {L : List Bn} {b : Bn} {dx dy : Int} {nb : Nat} {t e : Int} (hrow : ∀ x z, x < 24 → nb ≤ z → z < 24 → S0 x z = inB (b :: L) x z) (hs : SB nb 24 (b :: L)) (hl : t = if (b.1 : Int) + dy < 0 then 0 else (b.1 : Int) + dy) (hr : e = if 23 < (b.2.1 : Int) + dy then 23 else (b.2.1 : Int) + dy) (hle : e < t) : bu (shS S0 dx dy) (clX ((b.2.1 : Int) + 1 + dy)) = bu (shS S0 dx dy) (clX ((nb : Int) + dy)) := by
  have a := hs
  obtain ⟨a1, a2, a3, a4⟩ := a
  have c1 := clX_s ((nb : Int) + dy)
  have c2 := clX_s ((b.2.1 : Int) + 1 + dy)
  have hl1 : ((b.1 : Int) + dy < 0 → t = 0) ∧ (0 ≤ (b.1 : Int) + dy → t = (b.1 : Int) + dy) := by split at hl <;> omega
  have hr1 : (23 < (b.2.1 : Int) + dy → e = 23) ∧ ((b.2.1 : Int) + dy ≤ 23 → e = (b.2.1 : Int) + dy) := by split at hr <;> omega
  exact bu_gap (by omega) (fun x z hx z1 z2 => by rw [mvb_row hrow hs z1 z2 hx, decide_eq_false (by omega), Bool.false_and])
theorem shS_clamp (T : Nat → Nat → Bool) (dx dy : Int) {x y : Nat} (hx : x < 24) (hy : y < 24) : shS T (clampZ dx) (clampZ dy) x y = shS T dx dy x y := by
  have c : ∀ d : Int, (24 < d → clampZ d = 24) ∧ (d < -24 → clampZ d = -24) ∧ (-24 ≤ d → d ≤ 24 → clampZ d = d) := by
    intro d
    unfold clampZ
    refine ⟨fun h => if_pos h, fun h => ?_, fun h1 h2 => ?_⟩
    · rw [if_neg (by omega), if_pos h]
    · rw [if_neg (by omega), if_neg (by omega)]
  have c1 := c dx
  have c2 := c dy
  by_cases h : -24 ≤ dx ∧ dx ≤ 24 ∧ -24 ≤ dy ∧ dy ≤ 24
  · rw [c1.2.2 (by omega) (by omega), c2.2.2 (by omega) (by omega)]
  · unfold shS
    rw [decide_eq_false (by omega), decide_eq_false (by omega), Bool.false_and, Bool.false_and]
end
section
/-! BandRegion: area, box, combine, invert, covers, move -/
set_option maxRecDepth 100000
theorem bad_r {z : Int} (h : badZ z = false) : ∃ r : Nat, r < 3 ∧ z = (r : Int) := by
  have := of_decide_eq_false h
  exact ⟨z.toNat, by omega, by omega⟩
theorem p_area (o : Ox) (g : Gg) (hB : bdX g) (S : Sx) (hX : XI g S) (z : Int) (hz : -2147483648 ≤ z ∧ z < 2147483648) : xI yX0_area cX0_area 2 .int rmB o g [.int (zI z)] (fun v => v = zI (qArea S z)) := by
  refine x_metI (lv0 := [some (.ref o.2.1), some (.int (zI z))]) (by decide) rfl hB rfl (Nat.le_of_ble_eq_true rfl) rfl (fun v h => rfl) (fun K ret => ?_)
  refine x_iload_n dX0_area_0 rfl ?_
  refine x_callS (m_bad o.1 z hz) gw_X0_bad cf_X0_bad ⟨rfl, rfl, by decide, by decide⟩ rfl dX0_area_1 rfl (Nat.le_of_ble_eq_true rfl) (fun v hv => ?_)
  obtain rfl := hv
  refine x_if_eqB (tgt := 9) dX0_area_4 (by decide) (fun h1 => ?_) (fun h1 => ?_)
  · obtain ⟨r, hr, rfl⟩ := bad_r h1
    refine x_aload_n dX0_area_9 rfl ?_
    refine x_iload_n dX0_area_10 rfl ?_
    refine x_callI (m_cells o g hB r _ (by omega) (hX r hr) (bu_SB _ 24)) gw_X0_cells cf_X0_cells ⟨rfl, rfl, by decide, by decide⟩ rfl dX0_area_11 rfl (Nat.le_of_ble_eq_true rfl) (fun v hv => ?_)
    exact ret _ _ _ dX0_area_14 (by rw [hv, areaB_bu]; unfold qArea; rw [if_neg (by rw [h1]; decide)]; rfl)
  · refine x_iconst dX0_area_7 ?_
    exact ret _ _ _ dX0_area_8 (by unfold qArea; rw [if_pos h1])
set_option maxHeartbeats 4000000 in
theorem p_box (o : Ox) (g : Gg) (hB : bdX g) (S : Sx) (hX : XI g S) (z k : Int) (c s : Int32) (hz : -2147483648 ≤ z ∧ z < 2147483648) (hk : -2147483648 ≤ k ∧ k < 2147483648) : xC yX0_box cX0_box 5 .int rmD o g [.int (zI z), .int (zI k), .int c, .int s] (fun v u => v = zI (opBox S z k c s).1 ∧ XI u (opBox S z k c s).2) := by
  refine x_metC (lv0 := [some (.ref o.2.1), some (.int (zI z)), some (.int (zI k)), some (.int c), some (.int s)]) (by decide) rfl hB rfl (Nat.le_of_ble_eq_true rfl) rfl (fun v u h => rfl) (fun K ret => ?_)
  refine x_iload_n dX0_box_0 rfl ?_
  refine x_callS (m_bad o.1 z hz) gw_X0_bad cf_X0_bad ⟨rfl, rfl, by decide, by decide⟩ rfl dX0_box_1 rfl (Nat.le_of_ble_eq_true rfl) (fun v hv => ?_)
  obtain rfl := hv
  refine x_if_eqB (tgt := 9) dX0_box_4 (by decide) (fun h1 => ?_) (fun h1 => ?_)
  · have hbk : (k < 0 ∨ 3 < k) → bX K o rmD cX0_box 5 g 18 [some (.ref o.2.1), some (.int (zI z)), some (.int (zI k)), some (.int c), some (.int s)] [] := by
      intro hh
      refine x_bipush dX0_box_18 (by decide) (by decide) ?_
      refine ret _ _ _ _ dX0_box_20 ?_
      unfold opBox
      rw [if_neg (by rw [h1]; decide), if_pos hh]
      exact ⟨rfl, hX⟩
    refine x_iload_n dX0_box_9 rfl ?_
    refine x_if_lt (tgt := 18) dX0_box_10 (by decide) (by omega) (fun h2 => ?_) (fun h2 => ?_)
    · exact hbk (Or.inl h2)
    · refine x_iload_n dX0_box_13 rfl ?_
      refine x_iconstN (q := 3) dX0_box_14 rfl ?_
      refine x_icmp_le (tgt := 21) dX0_box_15 (by decide) (by omega) (by omega) (fun h3 => ?_) (fun h3 => ?_)
      · obtain ⟨r, hr, rfl⟩ := bad_r h1
        obtain ⟨kd, rfl⟩ : ∃ n : Nat, k = (n : Int) := ⟨k.toNat, by omega⟩
        refine x_aload_n dX0_box_21 rfl ?_
        refine x_iload_n dX0_box_22 rfl ?_
        refine x_iload dX0_box_23 rfl ?_
        refine x_callV (m_makeBox o g hB c s) gw_X0_makeBox cf_X0_makeBox ⟨rfl, rfl, by decide, by decide⟩ rfl dX0_box_25 rfl (Nat.le_of_ble_eq_true rfl) (fun u1 hu1 => ?_)
        refine x_bd (fun hB1 => ?_)
        refine x_aload_n dX0_box_28 rfl ?_
        refine x_iload_n dX0_box_29 rfl ?_
        refine x_iconstN (q := 4) dX0_box_30 rfl ?_
        refine x_iload_n dX0_box_31 rfl ?_
        refine x_callV (m_merge o u1 hB1 r 4 kd (S r) (boxS c s) (fun x y => mixB kd (S r x y) (boxS c s x y)) (fun _ _ => rfl) (by omega) (by omega) (by decide) (by decide) (by omega) ((hX r hr).ag (hu1.2 r (by omega))) hu1.1) gw_X0_merge cf_X0_merge ⟨rfl, rfl, by decide, by decide⟩ rfl dX0_box_32 rfl (Nat.le_of_ble_eq_true rfl) (fun u2 hu2 => ?_)
        refine x_bd (fun hB2 => ?_)
        refine x_aload_n dX0_box_35 rfl ?_
        refine x_iload_n dX0_box_36 rfl ?_
        refine x_callV (m_keep o u2 hB2 r _ hr hu2.1) gw_X0_keep cf_X0_keep ⟨rfl, rfl, by decide, by decide⟩ rfl dX0_box_37 rfl (Nat.le_of_ble_eq_true rfl) (fun u3 hu3 => ?_)
        refine x_bd (fun hB3 => ?_)
        refine x_aload_n dX0_box_40 rfl ?_
        refine x_iload_n dX0_box_41 rfl ?_
        refine x_callI (m_cells o u3 hB3 r _ (by omega) hu3.1 (bu_SB _ 24)) gw_X0_cells cf_X0_cells ⟨rfl, rfl, by decide, by decide⟩ rfl dX0_box_42 rfl (Nat.le_of_ble_eq_true rfl) (fun v hv => ?_)
        refine ret _ _ _ _ dX0_box_45 ?_
        unfold opBox
        rw [if_neg (by rw [h1]; decide), if_neg (by omega)]
        refine ⟨by rw [hv, areaB_bu]; rfl, hX.set hu3.1 (fun q hq hqr => ((hu1.2 q (by omega)).tr (hu2.2 q (by omega))).tr (hu3.2 q hqr))⟩
      · exact hbk (Or.inr (by omega))
  · refine x_iconst dX0_box_7 ?_
    refine ret _ _ _ _ dX0_box_8 ?_
    unfold opBox
    rw [if_pos h1]
    exact ⟨rfl, hX⟩
set_option maxHeartbeats 4000000 in
theorem p_combine (o : Ox) (g : Gg) (hB : bdX g) (S : Sx) (hX : XI g S) (z a b k : Int) (hz : -2147483648 ≤ z ∧ z < 2147483648) (ha : -2147483648 ≤ a ∧ a < 2147483648) (hb : -2147483648 ≤ b ∧ b < 2147483648) (hk : -2147483648 ≤ k ∧ k < 2147483648) : xC yX0_combine cX0_combine 5 .int rmD o g [.int (zI z), .int (zI a), .int (zI b), .int (zI k)] (fun v u => v = zI (opComb S z a b k).1 ∧ XI u (opComb S z a b k).2) := by
  refine x_metC (lv0 := [some (.ref o.2.1), some (.int (zI z)), some (.int (zI a)), some (.int (zI b)), some (.int (zI k))]) (by decide) rfl hB rfl (Nat.le_of_ble_eq_true rfl) rfl (fun v u h => rfl) (fun K ret => ?_)
  have hbb : (badZ z = true ∨ badZ a = true ∨ badZ b = true) → bX K o rmD cX0_combine 5 g 21 [some (.ref o.2.1), some (.int (zI z)), some (.int (zI a)), some (.int (zI b)), some (.int (zI k))] [] := by
    intro hh
    refine x_iconst dX0_combine_21 ?_
    refine ret _ _ _ _ dX0_combine_22 ?_
    unfold opComb
    rw [if_pos hh]
    exact ⟨rfl, hX⟩
  refine x_iload_n dX0_combine_0 rfl ?_
  refine x_callS (m_bad o.1 z hz) gw_X0_bad cf_X0_bad ⟨rfl, rfl, by decide, by decide⟩ rfl dX0_combine_1 rfl (Nat.le_of_ble_eq_true rfl) (fun v hv => ?_)
  obtain rfl := hv
  refine x_if_neB (tgt := 21) dX0_combine_4 (by decide) (fun h1 => ?_) (fun h1 => ?_)
  · exact hbb (Or.inl h1)
  · refine x_iload_n dX0_combine_7 rfl ?_
    refine x_callS (m_bad o.1 a ha) gw_X0_bad cf_X0_bad ⟨rfl, rfl, by decide, by decide⟩ rfl dX0_combine_8 rfl (Nat.le_of_ble_eq_true rfl) (fun v hv => ?_)
    obtain rfl := hv
    refine x_if_neB (tgt := 21) dX0_combine_11 (by decide) (fun h2 => ?_) (fun h2 => ?_)
    · exact hbb (Or.inr (Or.inl h2))
    · refine x_iload_n dX0_combine_14 rfl ?_
      refine x_callS (m_bad o.1 b hb) gw_X0_bad cf_X0_bad ⟨rfl, rfl, by decide, by decide⟩ rfl dX0_combine_15 rfl (Nat.le_of_ble_eq_true rfl) (fun v hv => ?_)
      obtain rfl := hv
      refine x_if_eqB (tgt := 23) dX0_combine_18 (by decide) (fun h3 => ?_) (fun h3 => ?_)
      · have hno : ¬ (badZ z = true ∨ badZ a = true ∨ badZ b = true) := by rw [h1, h2, h3]; decide
        have hbk : (k < 0 ∨ 3 < k) → bX K o rmD cX0_combine 5 g 34 [some (.ref o.2.1), some (.int (zI z)), some (.int (zI a)), some (.int (zI b)), some (.int (zI k))] [] := by
          intro hh
          refine x_bipush dX0_combine_34 (by decide) (by decide) ?_
          refine ret _ _ _ _ dX0_combine_36 ?_
          unfold opComb
          rw [if_neg hno, if_pos hh]
          exact ⟨rfl, hX⟩
        refine x_iload dX0_combine_23 rfl ?_
        refine x_if_lt (tgt := 34) dX0_combine_25 (by decide) (by omega) (fun h4 => ?_) (fun h4 => ?_)
        · exact hbk (Or.inl h4)
        · refine x_iload dX0_combine_28 rfl ?_
          refine x_iconstN (q := 3) dX0_combine_30 rfl ?_
          refine x_icmp_le (tgt := 37) dX0_combine_31 (by decide) (by omega) (by omega) (fun h5 => ?_) (fun h5 => ?_)
          · obtain ⟨r, hr, rfl⟩ := bad_r h1
            obtain ⟨ra, hra, rfl⟩ := bad_r h2
            obtain ⟨rb, hrb, rfl⟩ := bad_r h3
            obtain ⟨kd, rfl⟩ : ∃ n : Nat, k = (n : Int) := ⟨k.toNat, by omega⟩
            refine x_aload_n dX0_combine_37 rfl ?_
            refine x_iload_n dX0_combine_38 rfl ?_
            refine x_iload_n dX0_combine_39 rfl ?_
            refine x_iload dX0_combine_40 rfl ?_
            refine x_callV (m_merge o g hB ra rb kd (S ra) (S rb) (fun x y => mixB kd (S ra x y) (S rb x y)) (fun _ _ => rfl) (by omega) (by omega) (by omega) (by omega) (by omega) (hX ra hra) (hX rb hrb)) gw_X0_merge cf_X0_merge ⟨rfl, rfl, by decide, by decide⟩ rfl dX0_combine_42 rfl (Nat.le_of_ble_eq_true rfl) (fun u2 hu2 => ?_)
            refine x_bd (fun hB2 => ?_)
            refine x_aload_n dX0_combine_45 rfl ?_
            refine x_iload_n dX0_combine_46 rfl ?_
            refine x_callV (m_keep o u2 hB2 r _ hr hu2.1) gw_X0_keep cf_X0_keep ⟨rfl, rfl, by decide, by decide⟩ rfl dX0_combine_47 rfl (Nat.le_of_ble_eq_true rfl) (fun u3 hu3 => ?_)
            refine x_bd (fun hB3 => ?_)
            refine x_aload_n dX0_combine_50 rfl ?_
            refine x_iload_n dX0_combine_51 rfl ?_
            refine x_callI (m_cells o u3 hB3 r _ (by omega) hu3.1 (bu_SB _ 24)) gw_X0_cells cf_X0_cells ⟨rfl, rfl, by decide, by decide⟩ rfl dX0_combine_52 rfl (Nat.le_of_ble_eq_true rfl) (fun v hv => ?_)
            refine ret _ _ _ _ dX0_combine_55 ?_
            unfold opComb
            rw [if_neg hno, if_neg (by omega)]
            refine ⟨by rw [hv, areaB_bu]; rfl, hX.set hu3.1 (fun q hq hqr => (hu2.2 q (by omega)).tr (hu3.2 q hqr))⟩
          · exact hbk (Or.inr (by omega))
      · exact hbb (Or.inr (Or.inr h3))
theorem box_full : ∀ x y, x < 24 → y < 24 → boxS (zI ((0 : Nat) : Int)) (zI ((792 : Nat) : Int)) x y = true := by
  have h1 : lo5 (zI ((0 : Nat) : Int)) = 0 := by decide +kernel
  have h2 : hi5 (zI ((0 : Nat) : Int)) = 0 := by decide +kernel
  have h3 : lo5 (zI ((792 : Nat) : Int)) = 24 := by decide +kernel
  have h4 : hi5 (zI ((792 : Nat) : Int)) = 24 := by decide +kernel
  intro x y hx hy
  unfold boxS
  rw [h1, h2, h3, h4]
  exact decide_eq_true (by omega)
set_option maxHeartbeats 4000000 in
theorem p_invert (o : Ox) (g : Gg) (hB : bdX g) (S : Sx) (hX : XI g S) (z : Int) (hz : -2147483648 ≤ z ∧ z < 2147483648) : xC yX0_invert cX0_invert 2 .int rmD o g [.int (zI z)] (fun v u => v = zI (opInv S z).1 ∧ XI u (opInv S z).2) := by
  refine x_metC (lv0 := [some (.ref o.2.1), some (.int (zI z))]) (by decide) rfl hB rfl (Nat.le_of_ble_eq_true rfl) rfl (fun v u h => rfl) (fun K ret => ?_)
  refine x_iload_n dX0_invert_0 rfl ?_
  refine x_callS (m_bad o.1 z hz) gw_X0_bad cf_X0_bad ⟨rfl, rfl, by decide, by decide⟩ rfl dX0_invert_1 rfl (Nat.le_of_ble_eq_true rfl) (fun v hv => ?_)
  obtain rfl := hv
  refine x_if_eqB (tgt := 9) dX0_invert_4 (by decide) (fun h1 => ?_) (fun h1 => ?_)
  · obtain ⟨r, hr, rfl⟩ := bad_r h1
    refine x_aload_n dX0_invert_9 rfl ?_
    refine x_iconstN (q := 0) dX0_invert_10 rfl ?_
    refine x_sipushN (q := 792) dX0_invert_11 rfl (by decide) ?_
    refine x_callV (m_makeBox o g hB (zI ((0 : Nat) : Int)) (zI ((792 : Nat) : Int))) gw_X0_makeBox cf_X0_makeBox ⟨rfl, rfl, by decide, by decide⟩ rfl dX0_invert_14 rfl (Nat.le_of_ble_eq_true rfl) (fun u1 hu1 => ?_)
    refine x_bd (fun hB1 => ?_)
    refine x_aload_n dX0_invert_17 rfl ?_
    refine x_iload_n dX0_invert_18 rfl ?_
    refine x_iconstN (q := 4) dX0_invert_19 rfl ?_
    refine x_iconstN (q := 3) dX0_invert_20 rfl ?_
    refine x_callV (m_merge o u1 hB1 r 4 3 (S r) (boxS (zI ((0 : Nat) : Int)) (zI ((792 : Nat) : Int))) (fun x y => mixB 3 (S r x y) (boxS (zI ((0 : Nat) : Int)) (zI ((792 : Nat) : Int)) x y)) (fun _ _ => rfl) (by omega) (by omega) (by decide) (by decide) (by decide) ((hX r hr).ag (hu1.2 r (by omega))) hu1.1) gw_X0_merge cf_X0_merge ⟨rfl, rfl, by decide, by decide⟩ rfl dX0_invert_21 rfl (Nat.le_of_ble_eq_true rfl) (fun u2 hu2 => ?_)
    have e2 : bu (fun x y => mixB 3 (S r x y) (boxS (zI ((0 : Nat) : Int)) (zI ((792 : Nat) : Int)) x y)) 24 = bu (fun x y => !(S r x y)) 24 := bu_cg 24 (fun x y hx hy => by
      rw [box_full x y hx hy]
      cases S r x y <;> rfl)
    rw [e2] at hu2
    refine x_bd (fun hB2 => ?_)
    refine x_aload_n dX0_invert_24 rfl ?_
    refine x_iload_n dX0_invert_25 rfl ?_
    refine x_callV (m_keep o u2 hB2 r _ hr hu2.1) gw_X0_keep cf_X0_keep ⟨rfl, rfl, by decide, by decide⟩ rfl dX0_invert_26 rfl (Nat.le_of_ble_eq_true rfl) (fun u3 hu3 => ?_)
    refine x_bd (fun hB3 => ?_)
    refine x_aload_n dX0_invert_29 rfl ?_
    refine x_iload_n dX0_invert_30 rfl ?_
    refine x_callI (m_cells o u3 hB3 r _ (by omega) hu3.1 (bu_SB _ 24)) gw_X0_cells cf_X0_cells ⟨rfl, rfl, by decide, by decide⟩ rfl dX0_invert_31 rfl (Nat.le_of_ble_eq_true rfl) (fun v hv => ?_)
    refine ret _ _ _ _ dX0_invert_34 ?_
    unfold opInv
    rw [if_neg (by rw [h1]; decide)]
    refine ⟨by rw [hv, areaB_bu]; rfl, hX.set hu3.1 (fun q hq hqr => ((hu1.2 q (by omega)).tr (hu2.2 q (by omega))).tr (hu3.2 q hqr))⟩
  · refine x_iconst dX0_invert_7 ?_
    refine ret _ _ _ _ dX0_invert_8 ?_
    unfold opInv
    rw [if_pos h1]
    exact ⟨rfl, hX⟩
theorem rowN_le (row : Nat → Bool) : ∀ n, rowN row n ≤ n
  | 0 => Nat.le_refl _
  | n + 1 => by
    have := rowN_le row n
    simp only [rowN]
    split <;> omega
theorem cntN_le (T : Nat → Nat → Bool) : ∀ n, cntN T n ≤ 24 * n
  | 0 => Nat.le_refl _
  | n + 1 => by
    have := cntN_le T n
    have := rowN_le (fun x => T x n) 24
    simp only [cntN]
    omega
theorem cnt_le (T : Nat → Nat → Bool) : cnt T ≤ 576 := cntN_le T 24
set_option maxHeartbeats 4000000 in
theorem p_covers (o : Ox) (g : Gg) (hB : bdX g) (S : Sx) (hX : XI g S) (z : Int) (c s : Int32) (hz : -2147483648 ≤ z ∧ z < 2147483648) : xC yX0_covers cX0_covers 6 .int rmD o g [.int (zI z), .int c, .int s] (fun v u => v = zI (qCov S z c s) ∧ XI u S) := by
  refine x_metC (lv0 := [some (.ref o.2.1), some (.int (zI z)), some (.int c), some (.int s), none, none]) (by decide) rfl hB rfl (Nat.le_of_ble_eq_true rfl) rfl (fun v u h => rfl) (fun K ret => ?_)
  refine x_iload_n dX0_covers_0 rfl ?_
  refine x_callS (m_bad o.1 z hz) gw_X0_bad cf_X0_bad ⟨rfl, rfl, by decide, by decide⟩ rfl dX0_covers_1 rfl (Nat.le_of_ble_eq_true rfl) (fun v hv => ?_)
  obtain rfl := hv
  refine x_if_eqB (tgt := 9) dX0_covers_4 (by decide) (fun h1 => ?_) (fun h1 => ?_)
  · obtain ⟨r, hr, rfl⟩ := bad_r h1
    refine x_aload_n dX0_covers_9 rfl ?_
    refine x_iload_n dX0_covers_10 rfl ?_
    refine x_iload_n dX0_covers_11 rfl ?_
    refine x_callV (m_makeBox o g hB c s) gw_X0_makeBox cf_X0_makeBox ⟨rfl, rfl, by decide, by decide⟩ rfl dX0_covers_12 rfl (Nat.le_of_ble_eq_true rfl) (fun u1 hu1 => ?_)
    refine x_bd (fun hB1 => ?_)
    refine x_aload_n dX0_covers_15 rfl ?_
    refine x_iload_n dX0_covers_16 rfl ?_
    refine x_iconstN (q := 4) dX0_covers_17 rfl ?_
    refine x_iconstN (q := 1) dX0_covers_18 rfl ?_
    refine x_callV (m_merge o u1 hB1 r 4 1 (S r) (boxS c s) (fun x y => S r x y && boxS c s x y) (fun _ _ => rfl) (by omega) (by omega) (by decide) (by decide) (by decide) ((hX r hr).ag (hu1.2 r (by omega))) hu1.1) gw_X0_merge cf_X0_merge ⟨rfl, rfl, by decide, by decide⟩ rfl dX0_covers_19 rfl (Nat.le_of_ble_eq_true rfl) (fun u2 hu2 => ?_)
    refine x_bd (fun hB2 => ?_)
    have hX2 : XI u2 S := hX.ag (fun q hq => (hu1.2 q (by omega)).tr (hu2.2 q (by omega)))
    have c1 := cnt_le (fun x y => S r x y && boxS c s x y)
    have c2 := cnt_le (boxS c s)
    refine x_aload_n dX0_covers_22 rfl ?_
    refine x_iconstN (q := 3) dX0_covers_23 rfl ?_
    refine x_callI (m_cells o u2 hB2 3 _ (by decide) hu2.1 (bu_SB _ 24)) gw_X0_cells cf_X0_cells ⟨rfl, rfl, by decide, by decide⟩ rfl dX0_covers_24 rfl (Nat.le_of_ble_eq_true rfl) (fun v hv => ?_)
    rw [areaB_bu] at hv
    have hv : v = zI ((cnt (fun x y => S r x y && boxS c s x y) : Nat) : Int) := hv
    obtain rfl := hv
    refine x_istore dX0_covers_27 (by decide) rfl ?_
    refine x_iload dX0_covers_29 rfl ?_
    refine x_if_ne (tgt := 36) dX0_covers_31 (by decide) (by omega) (fun h2 => ?_) (fun h2 => ?_)
    · refine x_aload_n dX0_covers_36 rfl ?_
      refine x_iconstN (q := 4) dX0_covers_37 rfl ?_
      refine x_callI (m_cells o u2 hB2 4 _ (by decide) (hu1.1.ag (hu2.2 4 (by decide))) (bu_SB _ 24)) gw_X0_cells cf_X0_cells ⟨rfl, rfl, by decide, by decide⟩ rfl dX0_covers_38 rfl (Nat.le_of_ble_eq_true rfl) (fun v hv => ?_)
      rw [areaB_bu] at hv
      have hv : v = zI ((cnt (boxS c s) : Nat) : Int) := hv
      obtain rfl := hv
      refine x_istore dX0_covers_41 (by decide) rfl ?_
      refine x_iload dX0_covers_43 rfl ?_
      refine x_iload dX0_covers_45 rfl ?_
      refine x_icmp_neN (tgt := 54) dX0_covers_47 (by decide) (by omega) (by omega) (fun h3 => ?_) (fun h3 => ?_)
      · refine x_iconstN (q := 1) dX0_covers_54 rfl ?_
        refine ret _ _ _ _ dX0_covers_55 ⟨?_, hX2⟩
        unfold qCov
        rw [if_neg (by rw [h1]; decide), Int.toNat_natCast, if_neg (by omega), if_neg h3]
        rfl
      · refine x_iconstN (q := 2) dX0_covers_50 rfl ?_
        refine x_goto (tgt := 55) dX0_covers_51 (by decide) ?_
        refine ret _ _ _ _ dX0_covers_55 ⟨?_, hX2⟩
        unfold qCov
        rw [if_neg (by rw [h1]; decide), Int.toNat_natCast, if_neg (by omega), if_pos h3]
        rfl
    · refine x_iconstN (q := 0) dX0_covers_34 rfl ?_
      refine ret _ _ _ _ dX0_covers_35 ⟨?_, hX2⟩
      unfold qCov
      rw [if_neg (by rw [h1]; decide), Int.toNat_natCast, if_pos (by omega)]
      rfl
  · refine x_iconst dX0_covers_7 ?_
    refine ret _ _ _ _ dX0_covers_8 ⟨?_, hX⟩
    unfold qCov
    rw [if_pos h1]
set_option maxHeartbeats 4000000 in
theorem p_move (o : Ox) (g : Gg) (hB : bdX g) (S : Sx) (hX : XI g S) (z dx dy : Int) (hz : -2147483648 ≤ z ∧ z < 2147483648) (hdx : -2147483648 ≤ dx ∧ dx < 2147483648) (hdy : -2147483648 ≤ dy ∧ dy < 2147483648) : xC yX0_move cX0_move 10 .int rmD o g [.int (zI z), .int (zI dx), .int (zI dy)] (fun v u => v = zI (opMove S z dx dy).1 ∧ XI u (opMove S z dx dy).2) := by
  refine x_metC (lv0 := [some (.ref o.2.1), some (.int (zI z)), some (.int (zI dx)), some (.int (zI dy)), none, none, none, none, none, none]) (by decide) rfl hB rfl (Nat.le_of_ble_eq_true rfl) rfl (fun v u h => rfl) (fun K ret => ?_)
  refine x_iload_n dX0_move_0 rfl ?_
  refine x_callS (m_bad o.1 z hz) gw_X0_bad cf_X0_bad ⟨rfl, rfl, by decide, by decide⟩ rfl dX0_move_1 rfl (Nat.le_of_ble_eq_true rfl) (fun v hv => ?_)
  obtain rfl := hv
  refine x_if_eqB (tgt := 9) dX0_move_4 (by decide) (fun h1 => ?_) (fun h1 => ?_)
  · obtain ⟨r, hr, rfl⟩ := bad_r h1
    have ecx : ∀ d : Int, -24 ≤ clampZ d ∧ clampZ d ≤ 24 := by
      intro d
      unfold clampZ
      split
      · omega
      · split <;> omega
    have e2 : bu (shS (S r) (clampZ dx) (clampZ dy)) 24 = bu (shS (S r) dx dy) 24 := bu_cg 24 (fun x y hx hy => shS_clamp (S r) dx dy hx hy)
    have hop : opMove S (r : Int) dx dy = modS S r (shS (S r) dx dy) := by
      unfold opMove
      rw [if_neg (by rw [h1]; decide), Int.toNat_natCast]
    have hcx := ecx dx
    have hcy := ecx dy
    refine x_iload_n dX0_move_9 rfl ?_
    refine x_callS (m_clampMove o.1 dx hdx) gw_X0_clampMove cf_X0_clampMove ⟨rfl, rfl, by decide, by decide⟩ rfl dX0_move_10 rfl (Nat.le_of_ble_eq_true rfl) (fun v hv => ?_)
    obtain rfl := hv
    refine x_istore dX0_move_13 (by decide) rfl ?_
    refine x_iload_n dX0_move_15 rfl ?_
    refine x_callS (m_clampMove o.1 dy hdy) gw_X0_clampMove cf_X0_clampMove ⟨rfl, rfl, by decide, by decide⟩ rfl dX0_move_16 rfl (Nat.le_of_ble_eq_true rfl) (fun v hv => ?_)
    obtain rfl := hv
    revert hcx hcy e2
    generalize clampZ dx = ex
    generalize clampZ dy = ey
    intro e2 hcx hcy
    refine x_istore dX0_move_19 (by decide) rfl ?_
    refine x_aload_n dX0_move_21 rfl ?_
    refine x_iconstN (q := 3) dX0_move_22 rfl ?_
    refine x_callV (m_start o g hB 3 (by decide)) gw_X0_start cf_X0_start ⟨rfl, rfl, by decide, by decide⟩ rfl dX0_move_23 rfl (Nat.le_of_ble_eq_true rfl) (fun u hu => ?_)
    obtain rfl := hu
    have loop : ∀ (L2 L1 : List Bn) (i nb : Nat) (u : Gg) (t7 t8 t9 : Option Value), bu (S r) 24 = L1 ++ L2 → i = L1.length → SB nb 24 L2 → (∀ x y, x < 24 → nb ≤ y → y < 24 → S r x y = inB L2 x y) → Rep u 3 (bu (shS (S r) ex ey) (clX ((nb : Int) + ey))) [] → (∀ q, q ≠ 3 → AG g u q) → bX K o rmD cX0_move 10 u 29 [some (.ref o.2.1), some (.int (zI (r : Int))), some (.int (zI dx)), some (.int (zI dy)), some (.int (zI ex)), some (.int (zI ey)), some (.int (zI (i : Int))), t7, t8, t9] [] := by
      intro L2
      induction L2 with
      | nil =>
        intro L1 i nb u t7 t8 t9 hL hi hS hrow hRu hag
        have c1 := clX_s ((nb : Int) + ey)
        have hfin : bu (shS (S r) ex ey) 24 = bu (shS (S r) ex ey) (clX ((nb : Int) + ey)) := bu_gap c1.2.2.2 (fun x y hx y1 y2 => by
          unfold shS
          by_cases hh : 0 ≤ (x : Int) - ex ∧ (x : Int) - ex < 24 ∧ 0 ≤ (y : Int) - ey ∧ (y : Int) - ey < 24
          · rw [hrow _ _ (by omega) (by omega) (by omega)]
            simp [inB]
          · rw [decide_eq_false hh, Bool.false_and])
        rw [← hfin, e2] at hRu
        have hRr := (hX r hr).ag (hag r (by omega))
        have hr0 := hRr.2.2.1
        have hr1 := hRr.1
        rw [hL, List.append_nil] at hr0 hr1
        refine x_iload dX0_move_29 rfl ?_
        refine x_aload_n dX0_move_31 rfl ?_
        refine x_get0 dX0_move_32 ?_
        refine x_iload_n dX0_move_35 rfl ?_
        refine x_ald0 dX0_move_36 (by omega) (fun hb36 => ?_)
        refine x_icmp_geN (tgt := 118) dX0_move_37 (by decide) (by omega) (by omega) (fun h2 => ?_) (fun h2 => ?_)
        · refine x_bd (fun hB2 => ?_)
          refine x_aload_n dX0_move_118 rfl ?_
          refine x_iload_n dX0_move_119 rfl ?_
          refine x_callV (m_keep o u hB2 r _ hr hRu) gw_X0_keep cf_X0_keep ⟨rfl, rfl, by decide, by decide⟩ rfl dX0_move_120 rfl (Nat.le_of_ble_eq_true rfl) (fun u3 hu3 => ?_)
          refine x_bd (fun hB3 => ?_)
          refine x_aload_n dX0_move_123 rfl ?_
          refine x_iload_n dX0_move_124 rfl ?_
          refine x_callI (m_cells o u3 hB3 r _ (by omega) hu3.1 (bu_SB _ 24)) gw_X0_cells cf_X0_cells ⟨rfl, rfl, by decide, by decide⟩ rfl dX0_move_125 rfl (Nat.le_of_ble_eq_true rfl) (fun v hv => ?_)
          refine ret _ _ _ _ dX0_move_128 ?_
          rw [hop]
          refine ⟨by rw [hv, areaB_bu]; rfl, hX.set hu3.1 (fun q hq hqr => (hag q (by omega)).tr (hu3.2 q hqr))⟩
        · exact absurd h2 (by omega)
      | cons b L2 ih =>
        intro L1 i nb u t7 t8 t9 hL hi hS hrow hRu hag
        have hRr := (hX r hr).ag (hag r (by omega))
        rw [hL] at hRr
        obtain ⟨a1, a2, a3, a4, b1, b2, b3, b4, b5, b6⟩ := hRr.at
        obtain ⟨s1, s2, s3, s4, s5, s6⟩ := hS
        rw [List.length_cons] at a1 a3
        simp only [tot] at a2
        rw [← hi] at b1 b2 b3 b4
        have hrow2 : ∀ x y, x < 24 → b.2.1 + 1 ≤ y → y < 24 → S r x y = inB L2 x y := by
          intro x y hx y1 y2
          rw [hrow x y hx (by omega) y2]
          simp only [inB]
          rw [show decide (y ≤ b.2.1) = false from decide_eq_false (by omega)]
          simp
        have k112 : ∀ (u : Gg) (t7 t8 t9 : Option Value), Rep u 3 (bu (shS (S r) ex ey) (clX ((b.2.1 : Int) + 1 + ey))) [] → (∀ q, q ≠ 3 → AG g u q) → bX K o rmD cX0_move 10 u 112 [some (.ref o.2.1), some (.int (zI (r : Int))), some (.int (zI dx)), some (.int (zI dy)), some (.int (zI ex)), some (.int (zI ey)), some (.int (zI (i : Int))), t7, t8, t9] [] := by
          intro u t7 t8 t9 hR2 hag2
          refine x_iincN (q := 1) dX0_move_112 rfl rfl (by decide) rfl ?_
          refine x_goto (tgt := 29) dX0_move_115 (by decide) ?_
          exact ih (L1 ++ [b]) (i + 1) (b.2.1 + 1) u _ _ _ (by rw [hL]; simp) (by rw [hi]; simp) s6 hrow2 hR2 hag2
        have k92 : ∀ (t e : Int), t = (if (b.1 : Int) + ey < 0 then 0 else (b.1 : Int) + ey) → e = (if 23 < (b.2.1 : Int) + ey then 23 else (b.2.1 : Int) + ey) → bX K o rmD cX0_move 10 u 92 [some (.ref o.2.1), some (.int (zI (r : Int))), some (.int (zI dx)), some (.int (zI dy)), some (.int (zI ex)), some (.int (zI ey)), some (.int (zI (i : Int))), some (.int (zI ((r * 24 + i : Nat) : Int))), some (.int (zI t)), some (.int (zI e))] [] := by
          intro t e ht he
          have hl1 : 0 ≤ t ∧ t ≤ 48 := by split at ht <;> omega
          have hr1 : e ≤ 23 ∧ -25 ≤ e := by split at he <;> omega
          refine x_iload dX0_move_92 rfl ?_
          refine x_iload dX0_move_94 rfl ?_
          refine x_icmp_gt (tgt := 112) dX0_move_96 (by decide) (by omega) (by omega) (fun h3 => ?_) (fun h3 => ?_)
          · refine k112 u _ _ _ ?_ hag
            rw [mvb_out hrow ⟨s1, s2, s3, s4, s5, s6⟩ ht he h3]
            exact hRu
          · obtain ⟨t', rfl⟩ : ∃ n : Nat, t = (n : Int) := ⟨t.toNat, by omega⟩
            obtain ⟨e', rfl⟩ : ∃ n : Nat, e = (n : Int) := ⟨e.toNat, by omega⟩
            obtain ⟨m1, m2, m3⟩ := mvb_in (dx := ex) hrow ⟨s1, s2, s3, s4, s5, s6⟩ ht he (by omega)
            have hbl := bu_len (shS (S r) ex ey) (n := clX ((nb : Int) + ey)) (by omega)
            refine x_bd (fun hBu => ?_)
            refine x_aload_n dX0_move_99 rfl ?_
            refine x_iload_n dX0_move_100 rfl ?_
            refine x_iload dX0_move_101 rfl ?_
            refine x_iload dX0_move_103 rfl ?_
            refine x_iload dX0_move_105 rfl ?_
            refine x_iload dX0_move_107 rfl ?_
            refine x_callV (m_moveBand o u hBu r (r * 24 + i) (tot L1) ex t' e' _ b.2.2 (by omega) (by omega) (by omega) hcx (by omega) (by omega) b3 b4 (by omega) b5 s5 (Or.inl (by omega)) hRu (by omega) (by omega)) gw_X0_moveBand cf_X0_moveBand ⟨rfl, rfl, by decide, by decide⟩ rfl dX0_move_109 rfl (Nat.le_of_ble_eq_true rfl) (fun u2 hu2 => ?_)
            refine k112 u2 _ _ _ ?_ (fun q hq => (hag q hq).tr (hu2.2 q hq))
            rw [m1]
            exact hu2.1
        have k81 : ∀ (t : Int), t = (if (b.1 : Int) + ey < 0 then 0 else (b.1 : Int) + ey) → bX K o rmD cX0_move 10 u 81 [some (.ref o.2.1), some (.int (zI (r : Int))), some (.int (zI dx)), some (.int (zI dy)), some (.int (zI ex)), some (.int (zI ey)), some (.int (zI (i : Int))), some (.int (zI ((r * 24 + i : Nat) : Int))), some (.int (zI t)), some (.int (zI ((b.2.1 : Int) + ey)))] [] := by
          intro t ht
          refine x_iload dX0_move_81 rfl ?_
          refine x_bipushN (q := 23) dX0_move_83 rfl (by decide) ?_
          refine x_icmp_le (tgt := 92) dX0_move_85 (by decide) (by omega) (by omega) (fun h3 => ?_) (fun h3 => ?_)
          · exact k92 t _ ht (by rw [if_neg (by omega)])
          · refine x_bipushN (q := 23) dX0_move_88 rfl (by decide) ?_
            refine x_istore dX0_move_90 (by decide) rfl ?_
            exact k92 t _ ht (by rw [if_pos (by omega)]; rfl)
        refine x_iload dX0_move_29 rfl ?_
        refine x_aload_n dX0_move_31 rfl ?_
        refine x_get0 dX0_move_32 ?_
        refine x_iload_n dX0_move_35 rfl ?_
        refine x_ald0 dX0_move_36 (by omega) (fun hb36 => ?_)
        refine x_icmp_geN (tgt := 118) dX0_move_37 (by decide) (by omega) (by omega) (fun h2 => ?_) (fun h2 => ?_)
        · exact absurd h2 (by omega)
        · refine x_iload_n dX0_move_40 rfl ?_
          refine x_bipushN (q := 24) dX0_move_41 rfl (by decide) ?_
          refine x_imulN dX0_move_43 ?_
          refine x_iload dX0_move_44 rfl ?_
          refine x_iaddN dX0_move_46 ?_
          refine x_istore dX0_move_47 (by decide) rfl ?_
          refine x_aload_n dX0_move_49 rfl ?_
          refine x_get1 dX0_move_50 ?_
          refine x_iload dX0_move_53 rfl ?_
          refine x_ald1 dX0_move_55 (by omega) (fun hb55 => ?_)
          refine x_iload dX0_move_56 rfl ?_
          refine x_iadd dX0_move_58 ?_
          refine x_top (y := (b.1 : Int) + ey) (by rw [b1]) ?_
          refine x_istore dX0_move_59 (by decide) rfl ?_
          refine x_aload_n dX0_move_61 rfl ?_
          refine x_get2 dX0_move_62 ?_
          refine x_iload dX0_move_65 rfl ?_
          refine x_ald2 dX0_move_67 (by omega) (fun hb67 => ?_)
          refine x_iload dX0_move_68 rfl ?_
          refine x_iadd dX0_move_70 ?_
          refine x_top (y := (b.2.1 : Int) + ey) (by rw [b2]) ?_
          refine x_istore dX0_move_71 (by decide) rfl ?_
          refine x_iload dX0_move_73 rfl ?_
          refine x_if_ge (tgt := 81) dX0_move_75 (by decide) (by omega) (fun h3 => ?_) (fun h3 => ?_)
          · exact k81 _ (by rw [if_neg (by omega)])
          · refine x_iconstN (q := 0) dX0_move_78 rfl ?_
            refine x_istore dX0_move_79 (by decide) rfl ?_
            exact k81 _ (by rw [if_pos (by omega)]; rfl)
    refine x_iconstN (q := 0) dX0_move_26 rfl ?_
    refine x_istore dX0_move_27 (by decide) rfl ?_
    have c1 := clX_s (((0 : Nat) : Int) + ey)
    refine loop (bu (S r) 24) [] 0 0 _ _ _ _ rfl rfl (bu_SB (S r) 24) (fun x y hx _ hy => (bu_24 (S r) hx hy).symm) ?_ (fun q hq => stG_ag g hq)
    rw [bu_gap (y := 0) (e := clX (((0 : Nat) : Int) + ey)) (Nat.zero_le _) (fun x y hx y1 y2 => by
      unfold shS
      rw [decide_eq_false (by omega), Bool.false_and])]
    exact stG_rep g 3
  · refine x_iconst dX0_move_7 ?_
    refine ret _ _ _ _ dX0_move_8 ?_
    unfold opMove
    rw [if_pos h1]
    exact ⟨rfl, hX⟩
end
section
/-! BandRegion: has, rectangles, rectangle, around, same -/
set_option maxRecDepth 100000
set_option maxHeartbeats 4000000 in
theorem p_has (o : Ox) (g : Gg) (hB : bdX g) (S : Sx) (hX : XI g S) (z x y : Int) (hz : -2147483648 ≤ z ∧ z < 2147483648) (hx : -2147483648 ≤ x ∧ x < 2147483648) (hy : -2147483648 ≤ y ∧ y < 2147483648) : xI yX0_has cX0_has 8 .boolean rmB o g [.int (zI z), .int (zI x), .int (zI y)] (fun v => v = zI (bI (qHas S z x y))) := by
  refine x_metI (lv0 := [some (.ref o.2.1), some (.int (zI z)), some (.int (zI x)), some (.int (zI y)), none, none, none, none]) (by decide) rfl hB rfl (Nat.le_of_ble_eq_true rfl) rfl (fun v h => by rw [h]; exact bI_nar _) (fun K ret => ?_)
  have hno : qHas S z x y = false → bX K o rmB cX0_has 8 g 27 [some (.ref o.2.1), some (.int (zI z)), some (.int (zI x)), some (.int (zI y)), none, none, none, none] [] := by
    intro hh
    refine x_iconstN (q := 0) dX0_has_27 rfl ?_
    exact ret _ _ _ dX0_has_28 (by rw [hh]; rfl)
  refine x_iload_n dX0_has_0 rfl ?_
  refine x_callS (m_bad o.1 z hz) gw_X0_bad cf_X0_bad ⟨rfl, rfl, by decide, by decide⟩ rfl dX0_has_1 rfl (Nat.le_of_ble_eq_true rfl) (fun v hv => ?_)
  obtain rfl := hv
  refine x_if_neB (tgt := 27) dX0_has_4 (by decide) (fun h1 => ?_) (fun h1 => ?_)
  · exact hno (by unfold qHas; rw [h1]; rfl)
  · refine x_iload_n dX0_has_7 rfl ?_
    refine x_if_lt (tgt := 27) dX0_has_8 (by decide) (by omega) (fun h2 => ?_) (fun h2 => ?_)
    · exact hno (by unfold qHas; rw [show decide (0 ≤ x ∧ x < 24 ∧ 0 ≤ y ∧ y < 24) = false from decide_eq_false (by omega)]; simp)
    · refine x_iload_n dX0_has_11 rfl ?_
      refine x_bipushN (q := 24) dX0_has_12 rfl (by decide) ?_
      refine x_icmp_ge (tgt := 27) dX0_has_14 (by decide) (by omega) (by omega) (fun h3 => ?_) (fun h3 => ?_)
      · exact hno (by unfold qHas; rw [show decide (0 ≤ x ∧ x < 24 ∧ 0 ≤ y ∧ y < 24) = false from decide_eq_false (by omega)]; simp)
      · refine x_iload_n dX0_has_17 rfl ?_
        refine x_if_lt (tgt := 27) dX0_has_18 (by decide) (by omega) (fun h4 => ?_) (fun h4 => ?_)
        · exact hno (by unfold qHas; rw [show decide (0 ≤ x ∧ x < 24 ∧ 0 ≤ y ∧ y < 24) = false from decide_eq_false (by omega)]; simp)
        · refine x_iload_n dX0_has_21 rfl ?_
          refine x_bipushN (q := 24) dX0_has_22 rfl (by decide) ?_
          refine x_icmp_lt (tgt := 29) dX0_has_24 (by decide) (by omega) (by omega) (fun h5 => ?_) (fun h5 => ?_)
          · obtain ⟨r, hr, rfl⟩ := bad_r h1
            obtain ⟨x', rfl⟩ : ∃ n : Nat, x = (n : Int) := ⟨x.toNat, by omega⟩
            obtain ⟨y', rfl⟩ : ∃ n : Nat, y = (n : Int) := ⟨y.toNat, by omega⟩
            have hq : qHas S (r : Int) (x' : Int) (y' : Int) = S r x' y' := by
              unfold qHas
              rw [h1, decide_eq_true (by omega), Int.toNat_natCast, Int.toNat_natCast, Int.toNat_natCast]
              rfl
            rw [hq] at ret
            have hRr := hX r hr
            refine x_aload_n dX0_has_29 rfl ?_
            refine x_iload_n dX0_has_30 rfl ?_
            refine x_iload_n dX0_has_31 rfl ?_
            refine x_callI (m_bandAt o g hB r y' _ (by omega) (by omega) hRr) gw_X0_bandAt cf_X0_bandAt ⟨rfl, rfl, by decide, by decide⟩ rfl dX0_has_32 rfl (Nat.le_of_ble_eq_true rfl) (fun v hv => ?_)
            obtain ⟨L1, L2, hL, rfl, l1, l2⟩ := hv
            rw [hL] at hRr
            have nL := hRr.at.1
            have sL := bu_SB (S r) 24
            rw [hL, SB_app] at sL
            have cL := chB_gt sL.2 (show y' < 24 by omega) l2
            have hin := row_in hL l1 l2 (show x' < 24 by omega) (Nat.le_refl y') cL.1 (show y' < 24 by omega)
            refine x_istore dX0_has_35 (by decide) rfl ?_
            refine x_aload_n dX0_has_37 rfl ?_
            refine x_iload_n dX0_has_38 rfl ?_
            refine x_iload dX0_has_39 rfl ?_
            refine x_iload_n dX0_has_41 rfl ?_
            refine x_callI (m_covering o g hB r L1.length y' L1 L2 (by omega) (by omega) rfl hRr) gw_X0_covering cf_X0_covering ⟨rfl, rfl, by decide, by decide⟩ rfl dX0_has_42 rfl (Nat.le_of_ble_eq_true rfl) (fun v hv => ?_)
            obtain rfl := hv
            have hcr := cvB_CR (y := y') (show r < 5 by omega) hRr
            revert hcr hin
            generalize rwB L2 y' = p
            generalize cvB r L1.length L2 y' = cv
            intro hin hcr
            rcases hcr with ⟨rfl, rfl⟩ | ⟨n, f, rfl, c1, c2, c3, c4, c5⟩
            · refine x_istore dX0_has_45 (by decide) rfl ?_
              refine x_iload dX0_has_47 rfl ?_
              refine x_if_ge (tgt := 54) dX0_has_49 (by decide) (by omega) (fun h6 => ?_) (fun h6 => ?_)
              · exact absurd h6 (by omega)
              · refine x_iconstN (q := 0) dX0_has_52 rfl ?_
                exact ret _ _ _ dX0_has_53 (by rw [hin]; rfl)
            · have loop : ∀ (p2 p1 : List Rn) (k : Nat) (t7 : Option Value), p = p1 ++ p2 → k = p1.length → inR p x' = inR p2 x' → RR g (r * 288 + f + k) p2 → bX K o rmB cX0_has 8 g 57 [some (.ref o.2.1), some (.int (zI (r : Int))), some (.int (zI (x' : Int))), some (.int (zI (y' : Int))), some (.int (zI ((L1.length : Nat) : Int))), some (.int (zI (n : Int))), some (.int (zI (k : Int))), t7] [] := by
                intro p2
                induction p2 with
                | nil =>
                  intro p1 k t7 hp hk hi hRR
                  have hlen : p.length = p1.length := by rw [hp]; simp
                  refine x_iload dX0_has_57 rfl ?_
                  refine x_aload_n dX0_has_59 rfl ?_
                  refine x_get4 dX0_has_60 ?_
                  refine x_iload dX0_has_63 rfl ?_
                  refine x_ald4 dX0_has_65 (by omega) (fun hb65 => ?_)
                  refine x_icmp_geN (tgt := 117) dX0_has_66 (by decide) (by omega) (by omega) (fun h6 => ?_) (fun h6 => ?_)
                  · refine x_iconstN (q := 0) dX0_has_117 rfl ?_
                    exact ret _ _ _ dX0_has_118 (by rw [hin, hi]; rfl)
                  · exact absurd h6 (by omega)
                | cons q p2 ih =>
                  intro p1 k t7 hp hk hi hRR
                  have hlen : p.length = p1.length + (p2.length + 1) := by rw [hp]; simp
                  obtain ⟨d1, d2, d3⟩ := hRR
                  have k111 : ∀ t7 : Option Value, ¬ (q.1 ≤ x' ∧ x' ≤ q.2) → bX K o rmB cX0_has 8 g 111 [some (.ref o.2.1), some (.int (zI (r : Int))), some (.int (zI (x' : Int))), some (.int (zI (y' : Int))), some (.int (zI ((L1.length : Nat) : Int))), some (.int (zI (n : Int))), some (.int (zI (k : Int))), t7] [] := by
                    intro t7 hn
                    refine x_iincN (q := 1) dX0_has_111 rfl rfl (by decide) rfl ?_
                    refine x_goto (tgt := 57) dX0_has_114 (by decide) ?_
                    refine ih (p1 ++ [q]) (k + 1) _ (by rw [hp]; simp) (by rw [hk]; simp) ?_ d3
                    rw [hi]
                    simp only [inR]
                    rw [← Bool.decide_and, decide_eq_false hn, Bool.false_or]
                  refine x_iload dX0_has_57 rfl ?_
                  refine x_aload_n dX0_has_59 rfl ?_
                  refine x_get4 dX0_has_60 ?_
                  refine x_iload dX0_has_63 rfl ?_
                  refine x_ald4 dX0_has_65 (by omega) (fun hb65 => ?_)
                  refine x_icmp_geN (tgt := 117) dX0_has_66 (by decide) (by omega) (by omega) (fun h6 => ?_) (fun h6 => ?_)
                  · exact absurd h6 (by omega)
                  · refine x_iload_n dX0_has_69 rfl ?_
                    refine x_sipushN (q := 288) dX0_has_70 rfl (by decide) ?_
                    refine x_imulN dX0_has_73 ?_
                    refine x_aload_n dX0_has_74 rfl ?_
                    refine x_get3 dX0_has_75 ?_
                    refine x_iload dX0_has_78 rfl ?_
                    refine x_ald3 dX0_has_80 (by omega) (fun hb80 => ?_)
                    refine x_iaddN dX0_has_81 ?_
                    refine x_iload dX0_has_82 rfl ?_
                    refine x_iaddN dX0_has_84 ?_
                    refine x_top (y := ((r * 288 + f + k : Nat) : Int)) (by omega) ?_
                    refine x_istore dX0_has_85 (by decide) rfl ?_
                    refine x_aload_n dX0_has_87 rfl ?_
                    refine x_get6 dX0_has_88 ?_
                    refine x_iload dX0_has_91 rfl ?_
                    refine x_ald6 dX0_has_93 (by omega) (fun hb93 => ?_)
                    refine x_iload_n dX0_has_94 rfl ?_
                    refine x_icmp_gtN (tgt := 111) dX0_has_95 (by decide) (by omega) (by omega) (fun h7 => ?_) (fun h7 => ?_)
                    · exact k111 _ (by omega)
                    · refine x_iload_n dX0_has_98 rfl ?_
                      refine x_aload_n dX0_has_99 rfl ?_
                      refine x_get7 dX0_has_100 ?_
                      refine x_iload dX0_has_103 rfl ?_
                      refine x_ald7 dX0_has_105 (by omega) (fun hb105 => ?_)
                      refine x_icmp_gtN (tgt := 111) dX0_has_106 (by decide) (by omega) (by omega) (fun h8 => ?_) (fun h8 => ?_)
                      · exact k111 _ (by omega)
                      · refine x_iconstN (q := 1) dX0_has_109 rfl ?_
                        refine ret _ _ _ dX0_has_110 ?_
                        rw [hin, hi]
                        simp only [inR]
                        rw [← Bool.decide_and, decide_eq_true (by omega), Bool.true_or]
                        rfl
              refine x_istore dX0_has_45 (by decide) rfl ?_
              refine x_iload dX0_has_47 rfl ?_
              refine x_if_ge (tgt := 54) dX0_has_49 (by decide) (by omega) (fun h6 => ?_) (fun h6 => ?_)
              · refine x_iconstN (q := 0) dX0_has_54 rfl ?_
                refine x_istore dX0_has_55 (by decide) rfl ?_
                exact loop p [] 0 _ rfl rfl rfl c5
              · exact absurd h6 (by omega)
          · exact hno (by unfold qHas; rw [show decide (0 ≤ x ∧ x < 24 ∧ 0 ≤ y ∧ y < 24) = false from decide_eq_false (by omega)]; simp)
theorem p_rectangles (o : Ox) (g : Gg) (hB : bdX g) (S : Sx) (hX : XI g S) (z : Int) (hz : -2147483648 ≤ z ∧ z < 2147483648) : xI yX0_rectangles cX0_rectangles 2 .int rmB o g [.int (zI z)] (fun v => v = zI (qRects S z)) := by
  refine x_metI (lv0 := [some (.ref o.2.1), some (.int (zI z))]) (by decide) rfl hB rfl (Nat.le_of_ble_eq_true rfl) rfl (fun v h => rfl) (fun K ret => ?_)
  refine x_iload_n dX0_rectangles_0 rfl ?_
  refine x_callS (m_bad o.1 z hz) gw_X0_bad cf_X0_bad ⟨rfl, rfl, by decide, by decide⟩ rfl dX0_rectangles_1 rfl (Nat.le_of_ble_eq_true rfl) (fun v hv => ?_)
  obtain rfl := hv
  refine x_if_eqB (tgt := 11) dX0_rectangles_4 (by decide) (fun h1 => ?_) (fun h1 => ?_)
  · obtain ⟨r, hr, rfl⟩ := bad_r h1
    refine x_aload_n dX0_rectangles_11 rfl ?_
    refine x_get5 dX0_rectangles_12 ?_
    refine x_iload_n dX0_rectangles_15 rfl ?_
    refine x_ald5 dX0_rectangles_16 (by omega) (fun hb16 => ?_)
    refine ret _ _ _ dX0_rectangles_17 ?_
    unfold qRects
    rw [if_neg (by rw [h1]; decide), (hX r hr).2.2.2.1]
    rfl
  · refine x_iconst dX0_rectangles_7 ?_
    refine x_goto (tgt := 17) dX0_rectangles_8 (by decide) ?_
    exact ret _ _ _ dX0_rectangles_17 (by unfold qRects; rw [if_pos h1])
theorem RR_get {g : Gg} : ∀ (p : List Rn) (b k : Nat) (q : Rn), RR g b p → p[k]? = some q → g 6 (b + k) = q.1 ∧ g 7 (b + k) = q.2
  | [], _, _, _, _, h => by simp at h
  | a :: p, b, 0, q, hr, h => by
    simp at h
    subst h
    exact ⟨hr.1, hr.2.1⟩
  | a :: p, b, k + 1, q, hr, h => by
    have := RR_get p (b + 1) k q hr.2.2 (by simpa using h)
    rw [show b + (k + 1) = b + 1 + k by omega]
    exact this
theorem rectL_out : ∀ (L : List Bn) (i : Nat), tot L ≤ i → rectL L i = -3
  | [], _, _ => rfl
  | b :: L, i, h => by
    simp only [tot] at h
    simp only [rectL]
    rw [List.getElem?_eq_none (by omega)]
    exact rectL_out L _ (by omega)
theorem rectL_at : ∀ (L1 L2 : List Bn) (b : Bn) (i : Nat) (q : Rn), tot L1 ≤ i → b.2.2[i - tot L1]? = some q → rectL (L1 ++ b :: L2) i = ((pkN q.1 b.1 q.2 b.2.1 : Nat) : Int)
  | [], L2, b, i, q, _, h => by
    simp only [tot, Nat.sub_zero] at h
    simp only [List.nil_append, rectL]
    rw [h]
  | c :: L1, L2, b, i, q, h1, h => by
    simp only [tot] at h1 h
    simp only [List.cons_append, rectL]
    rw [List.getElem?_eq_none (by omega)]
    exact rectL_at L1 L2 b (i - c.2.2.length) q (by omega) (by rw [show i - c.2.2.length - tot L1 = i - (c.2.2.length + tot L1) by omega]; exact h)
set_option maxHeartbeats 4000000 in
theorem p_rectangle (o : Ox) (g : Gg) (hB : bdX g) (S : Sx) (hX : XI g S) (z i : Int) (hz : -2147483648 ≤ z ∧ z < 2147483648) (hi : -2147483648 ≤ i ∧ i < 2147483648) : xI yX0_rectangle cX0_rectangle 6 .int rmB o g [.int (zI z), .int (zI i)] (fun v => v = zI (qRect S z i)) := by
  refine x_metI (lv0 := [some (.ref o.2.1), some (.int (zI z)), some (.int (zI i)), none, none, none]) (by decide) rfl hB rfl (Nat.le_of_ble_eq_true rfl) rfl (fun v h => rfl) (fun K ret => ?_)
  refine x_iload_n dX0_rectangle_0 rfl ?_
  refine x_callS (m_bad o.1 z hz) gw_X0_bad cf_X0_bad ⟨rfl, rfl, by decide, by decide⟩ rfl dX0_rectangle_1 rfl (Nat.le_of_ble_eq_true rfl) (fun v hv => ?_)
  obtain rfl := hv
  refine x_if_eqB (tgt := 9) dX0_rectangle_4 (by decide) (fun h1 => ?_) (fun h1 => ?_)
  · obtain ⟨r, hr, rfl⟩ := bad_r h1
    have hq : qRect S (r : Int) i = if i < 0 then -3 else rectL (bu (S r) 24) i.toNat := by
      unfold qRect
      rw [if_neg (by rw [h1]; decide), Int.toNat_natCast]
    rw [hq] at ret
    have hRr := hX r hr
    have h5 := hRr.2.2.2.1
    have h52 := hRr.2.1
    rw [List.length_nil, Nat.add_zero] at h5 h52
    have hno : (i < 0 ∨ (tot (bu (S r) 24) : Int) ≤ i) → bX K o rmB cX0_rectangle 6 g 23 [some (.ref o.2.1), some (.int (zI (r : Int))), some (.int (zI i)), none, none, none] [] := by
      intro hh
      refine x_bipush dX0_rectangle_23 (by decide) (by decide) ?_
      refine ret _ _ _ dX0_rectangle_25 ?_
      by_cases h0 : i < 0
      · rw [if_pos h0]
      · rw [if_neg h0, rectL_out _ _ (by omega)]
    refine x_iload_n dX0_rectangle_9 rfl ?_
    refine x_if_lt (tgt := 23) dX0_rectangle_10 (by decide) (by omega) (fun h2 => ?_) (fun h2 => ?_)
    · exact hno (Or.inl h2)
    · refine x_iload_n dX0_rectangle_13 rfl ?_
      refine x_aload_n dX0_rectangle_14 rfl ?_
      refine x_get5 dX0_rectangle_15 ?_
      refine x_iload_n dX0_rectangle_18 rfl ?_
      refine x_ald5 dX0_rectangle_19 (by omega) (fun hb19 => ?_)
      refine x_icmp_lt (tgt := 26) dX0_rectangle_20 (by decide) (by omega) (by omega) (fun h3 => ?_) (fun h3 => ?_)
      · obtain ⟨n, rfl⟩ : ∃ n : Nat, i = (n : Int) := ⟨i.toNat, by omega⟩
        rw [if_neg (by omega), Int.toNat_natCast] at ret
        have loop : ∀ (L2 L1 : List Bn) (b : Bn) (k : Nat), bu (S r) 24 = L1 ++ b :: L2 → k = L1.length → tot L1 ≤ n → bX K o rmB cX0_rectangle 6 g 28 [some (.ref o.2.1), some (.int (zI (r : Int))), some (.int (zI (n : Int))), some (.int (zI (k : Int))), none, none] [] := by
          intro L2
          induction L2 with
          | nil =>
            intro L1 b k hL hk ht
            have hR2 := hRr
            rw [hL] at hR2
            obtain ⟨a1, a2, a3, a4, b1, b2, b3, b4, b5, b6⟩ := hR2.at
            rw [← hk] at b1 b2 b3 b4
            rw [List.length_singleton] at a1 a3
            simp only [tot, Nat.add_zero] at a2 a4
            obtain ⟨q, hq⟩ : ∃ q, b.2.2[n - tot L1]? = some q := ⟨_, List.getElem?_eq_getElem (by omega)⟩
            obtain ⟨d1, d2⟩ := RR_get _ _ _ _ b5 hq
            rw [show r * 288 + tot L1 + (n - tot L1) = r * 288 + n by omega] at d1 d2
            refine x_iload_n dX0_rectangle_28 rfl ?_
            refine x_aload_n dX0_rectangle_29 rfl ?_
            refine x_get0 dX0_rectangle_30 ?_
            refine x_iload_n dX0_rectangle_33 rfl ?_
            refine x_ald0 dX0_rectangle_34 (by omega) (fun hb34 => ?_)
            refine x_iconstN (q := 1) dX0_rectangle_35 rfl ?_
            refine x_isubN dX0_rectangle_36 (by omega) ?_
            refine x_icmp_geN (tgt := 63) dX0_rectangle_37 (by decide) (by omega) (by omega) (fun h4 => ?_) (fun h4 => ?_)
            · refine x_iload_n dX0_rectangle_63 rfl ?_
              refine x_bipushN (q := 24) dX0_rectangle_64 rfl (by decide) ?_
              refine x_imulN dX0_rectangle_66 ?_
              refine x_iload_n dX0_rectangle_67 rfl ?_
              refine x_iaddN dX0_rectangle_68 ?_
              refine x_istore dX0_rectangle_69 (by decide) rfl ?_
              refine x_iload_n dX0_rectangle_71 rfl ?_
              refine x_sipushN (q := 288) dX0_rectangle_72 rfl (by decide) ?_
              refine x_imulN dX0_rectangle_75 ?_
              refine x_iload_n dX0_rectangle_76 rfl ?_
              refine x_iaddN dX0_rectangle_77 ?_
              refine x_istore dX0_rectangle_78 (by decide) rfl ?_
              refine x_aload_n dX0_rectangle_80 rfl ?_
              refine x_get6 dX0_rectangle_81 ?_
              refine x_iload dX0_rectangle_84 rfl ?_
              refine x_ald6 dX0_rectangle_86 (by omega) (fun hb86 => ?_)
              refine x_aload_n dX0_rectangle_87 rfl ?_
              refine x_get1 dX0_rectangle_88 ?_
              refine x_iload dX0_rectangle_91 rfl ?_
              refine x_ald1 dX0_rectangle_93 (by omega) (fun hb93 => ?_)
              refine x_aload_n dX0_rectangle_94 rfl ?_
              refine x_get7 dX0_rectangle_95 ?_
              refine x_iload dX0_rectangle_98 rfl ?_
              refine x_ald7 dX0_rectangle_100 (by omega) (fun hb100 => ?_)
              refine x_aload_n dX0_rectangle_101 rfl ?_
              refine x_get2 dX0_rectangle_102 ?_
              refine x_iload dX0_rectangle_105 rfl ?_
              refine x_ald2 dX0_rectangle_107 (by omega) (fun hb107 => ?_)
              refine x_callS (m_packed o.1 _ _ _ _) gw_X0_packed cf_X0_packed ⟨rfl, rfl, by decide, by decide⟩ rfl dX0_rectangle_108 rfl (Nat.le_of_ble_eq_true rfl) (fun v hv => ?_)
              exact ret _ _ _ dX0_rectangle_111 (by rw [hv, hL, rectL_at L1 [] b n q ht hq, d1, d2, b1, b2])
            · exact absurd h4 (by omega)
          | cons c L2 ih =>
            intro L1 b k hL hk ht
            have hR2 := hRr
            rw [hL] at hR2
            obtain ⟨a1, a2, a3, a4, b1, b2, b3, b4, b5, b6⟩ := hR2.at
            obtain ⟨-, -, c3, -⟩ := b6
            rw [← hk] at b1 b2 b3 b4 c3
            rw [List.length_cons, List.length_cons] at a1 a3
            refine x_iload_n dX0_rectangle_28 rfl ?_
            refine x_aload_n dX0_rectangle_29 rfl ?_
            refine x_get0 dX0_rectangle_30 ?_
            refine x_iload_n dX0_rectangle_33 rfl ?_
            refine x_ald0 dX0_rectangle_34 (by omega) (fun hb34 => ?_)
            refine x_iconstN (q := 1) dX0_rectangle_35 rfl ?_
            refine x_isubN dX0_rectangle_36 (by omega) ?_
            refine x_icmp_geN (tgt := 63) dX0_rectangle_37 (by decide) (by omega) (by omega) (fun h4 => ?_) (fun h4 => ?_)
            · exact absurd h4 (by omega)
            · refine x_aload_n dX0_rectangle_40 rfl ?_
              refine x_get3 dX0_rectangle_41 ?_
              refine x_iload_n dX0_rectangle_44 rfl ?_
              refine x_bipushN (q := 24) dX0_rectangle_45 rfl (by decide) ?_
              refine x_imulN dX0_rectangle_47 ?_
              refine x_iload_n dX0_rectangle_48 rfl ?_
              refine x_iaddN dX0_rectangle_49 ?_
              refine x_iconstN (q := 1) dX0_rectangle_50 rfl ?_
              refine x_iaddN dX0_rectangle_51 ?_
              refine x_ald3 dX0_rectangle_52 (by omega) (fun hb52 => ?_)
              refine x_iload_n dX0_rectangle_53 rfl ?_
              have c3' : g 3 (r * 24 + k + 1) = tot L1 + b.2.2.length := c3
              refine x_icmp_gtN (tgt := 63) dX0_rectangle_54 (by decide) (by omega) (by omega) (fun h5 => ?_) (fun h5 => ?_)
              · obtain ⟨q, hq⟩ : ∃ q, b.2.2[n - tot L1]? = some q := ⟨_, List.getElem?_eq_getElem (by omega)⟩
                obtain ⟨d1, d2⟩ := RR_get _ _ _ _ b5 hq
                rw [show r * 288 + tot L1 + (n - tot L1) = r * 288 + n by omega] at d1 d2
                refine x_iload_n dX0_rectangle_63 rfl ?_
                refine x_bipushN (q := 24) dX0_rectangle_64 rfl (by decide) ?_
                refine x_imulN dX0_rectangle_66 ?_
                refine x_iload_n dX0_rectangle_67 rfl ?_
                refine x_iaddN dX0_rectangle_68 ?_
                refine x_istore dX0_rectangle_69 (by decide) rfl ?_
                refine x_iload_n dX0_rectangle_71 rfl ?_
                refine x_sipushN (q := 288) dX0_rectangle_72 rfl (by decide) ?_
                refine x_imulN dX0_rectangle_75 ?_
                refine x_iload_n dX0_rectangle_76 rfl ?_
                refine x_iaddN dX0_rectangle_77 ?_
                refine x_istore dX0_rectangle_78 (by decide) rfl ?_
                refine x_aload_n dX0_rectangle_80 rfl ?_
                refine x_get6 dX0_rectangle_81 ?_
                refine x_iload dX0_rectangle_84 rfl ?_
                refine x_ald6 dX0_rectangle_86 (by omega) (fun hb86 => ?_)
                refine x_aload_n dX0_rectangle_87 rfl ?_
                refine x_get1 dX0_rectangle_88 ?_
                refine x_iload dX0_rectangle_91 rfl ?_
                refine x_ald1 dX0_rectangle_93 (by omega) (fun hb93 => ?_)
                refine x_aload_n dX0_rectangle_94 rfl ?_
                refine x_get7 dX0_rectangle_95 ?_
                refine x_iload dX0_rectangle_98 rfl ?_
                refine x_ald7 dX0_rectangle_100 (by omega) (fun hb100 => ?_)
                refine x_aload_n dX0_rectangle_101 rfl ?_
                refine x_get2 dX0_rectangle_102 ?_
                refine x_iload dX0_rectangle_105 rfl ?_
                refine x_ald2 dX0_rectangle_107 (by omega) (fun hb107 => ?_)
                refine x_callS (m_packed o.1 _ _ _ _) gw_X0_packed cf_X0_packed ⟨rfl, rfl, by decide, by decide⟩ rfl dX0_rectangle_108 rfl (Nat.le_of_ble_eq_true rfl) (fun v hv => ?_)
                exact ret _ _ _ dX0_rectangle_111 (by rw [hv, hL, rectL_at L1 (c :: L2) b n q ht hq, d1, d2, b1, b2])
              · refine x_iincN (q := 1) dX0_rectangle_57 rfl rfl (by decide) rfl ?_
                refine x_goto (tgt := 28) dX0_rectangle_60 (by decide) ?_
                refine ih (L1 ++ [b]) c (k + 1) (by rw [hL]; simp) (by rw [hk]; simp) ?_
                rw [tot_app]
                simp only [tot]
                omega
        refine x_iconstN (q := 0) dX0_rectangle_26 rfl ?_
        refine x_istore_n dX0_rectangle_27 (by decide) rfl ?_
        cases hbu : bu (S r) 24 with
        | nil =>
          rw [hbu] at h5
          simp only [tot] at h5
          omega
        | cons b L => exact loop L [] b 0 hbu rfl (by simp [tot])
      · exact hno (Or.inr (by omega))
  · refine x_iconst dX0_rectangle_7 ?_
    exact ret _ _ _ dX0_rectangle_8 (by unfold qRect; rw [if_pos h1])
theorem RB_all {g : Gg} {r : Nat} : ∀ (L : List Bn) (i f : Nat), RB g r i f L → RR g (r * 288 + f) (allR L)
  | [], _, _, _ => trivial
  | b :: L, i, f, h => by
    simp only [allR]
    rw [RR_app]
    refine ⟨h.2.2.2.2.1, ?_⟩
    rw [Nat.add_assoc]
    exact RB_all L (i + 1) (f + b.2.2.length) h.2.2.2.2.2
theorem allR_len : ∀ (L : List Bn), (allR L).length = tot L
  | [] => rfl
  | b :: L => by simp [allR, tot, allR_len L]
theorem RB_end {g : Gg} {r : Nat} : ∀ (L : List Bn) (b : Bn) (i f : Nat), RB g r i f (b :: L) → g 2 (r * 24 + (i + L.length)) = endB (b :: L)
  | [], b, i, f, h => h.2.1
  | c :: L, b, i, f, h => by
    have := RB_end L c (i + 1) _ h.2.2.2.2.2
    rw [List.length_cons, show i + (L.length + 1) = i + 1 + L.length by omega]
    exact this
set_option maxHeartbeats 4000000 in
theorem p_around (o : Ox) (g : Gg) (hB : bdX g) (S : Sx) (hX : XI g S) (z : Int) (hz : -2147483648 ≤ z ∧ z < 2147483648) : xI yX0_around cX0_around 5 .int rmB o g [.int (zI z)] (fun v => v = zI (qArnd S z)) := by
  refine x_metI (lv0 := [some (.ref o.2.1), some (.int (zI z)), none, none, none]) (by decide) rfl hB rfl (Nat.le_of_ble_eq_true rfl) rfl (fun v h => rfl) (fun K ret => ?_)
  refine x_iload_n dX0_around_0 rfl ?_
  refine x_callS (m_bad o.1 z hz) gw_X0_bad cf_X0_bad ⟨rfl, rfl, by decide, by decide⟩ rfl dX0_around_1 rfl (Nat.le_of_ble_eq_true rfl) (fun v hv => ?_)
  obtain rfl := hv
  refine x_if_eqB (tgt := 9) dX0_around_4 (by decide) (fun h1 => ?_) (fun h1 => ?_)
  · obtain ⟨r, hr, rfl⟩ := bad_r h1
    have hq : qArnd S (r : Int) = arndL (bu (S r) 24) := by
      unfold qArnd
      rw [if_neg (by rw [h1]; decide), Int.toNat_natCast]
    rw [hq] at ret
    have hRr := hX r hr
    have hS := bu_SB (S r) 24
    revert hRr hS ret
    generalize bu (S r) 24 = L
    intro ret hRr hS
    obtain ⟨a1, a2, a3, a4, a5, -⟩ := hRr
    rw [List.length_nil, Nat.add_zero] at a2 a4
    have hall := RB_all L 0 0 a5
    rw [Nat.add_zero] at hall
    have hlen := allR_len L
    refine x_aload_n dX0_around_9 rfl ?_
    refine x_get5 dX0_around_10 ?_
    refine x_iload_n dX0_around_13 rfl ?_
    refine x_ald5 dX0_around_14 (by omega) (fun hb14 => ?_)
    refine x_if_ne (tgt := 21) dX0_around_15 (by decide) (by omega) (fun h2 => ?_) (fun h2 => ?_)
    · cases L with
      | nil =>
        simp only [tot] at a4
        exact absurd h2 (by omega)
      | cons b M =>
        have hend := RB_end M b 0 0 a5
        have htop := a5.1
        rw [Nat.add_zero] at htop
        rw [List.length_cons] at a3 a1
        have loop : ∀ (p2 p1 : List Rn) (k lf rg : Nat), allR (b :: M) = p1 ++ p2 → k = p1.length → lf < 2048 → rg < 2048 → minL p2 lf = minL (allR (b :: M)) 24 → maxR p2 rg = maxR (allR (b :: M)) 0 → RR g (r * 288 + k) p2 → bX K o rmB cX0_around 5 g 33 [some (.ref o.2.1), some (.int (zI (r : Int))), some (.int (zI (lf : Int))), some (.int (zI (rg : Int))), some (.int (zI ((r * 288 + k : Nat) : Int)))] [] := by
          intro p2
          induction p2 with
          | nil =>
            intro p1 k lf rg hp hk hlf hrg hmin hmax hRR
            have hl2 : (allR (b :: M)).length = p1.length := by rw [hp]; simp
            refine x_iload dX0_around_33 rfl ?_
            refine x_iload_n dX0_around_35 rfl ?_
            refine x_sipushN (q := 288) dX0_around_36 rfl (by decide) ?_
            refine x_imulN dX0_around_39 ?_
            refine x_aload_n dX0_around_40 rfl ?_
            refine x_get5 dX0_around_41 ?_
            refine x_iload_n dX0_around_44 rfl ?_
            refine x_ald5 dX0_around_45 (by omega) (fun hb45 => ?_)
            refine x_iaddN dX0_around_46 ?_
            refine x_icmp_geN (tgt := 94) dX0_around_47 (by decide) (by omega) (by omega) (fun h3 => ?_) (fun h3 => ?_)
            · refine x_iload_n dX0_around_94 rfl ?_
              refine x_bipushN (q := 24) dX0_around_95 rfl (by decide) ?_
              refine x_imulN dX0_around_97 ?_
              refine x_aload_n dX0_around_98 rfl ?_
              refine x_get0 dX0_around_99 ?_
              refine x_iload_n dX0_around_102 rfl ?_
              refine x_ald0 dX0_around_103 (by omega) (fun hb103 => ?_)
              refine x_iaddN dX0_around_104 ?_
              refine x_iconstN (q := 1) dX0_around_105 rfl ?_
              refine x_isubN dX0_around_106 (by omega) ?_
              refine x_top (y := ((r * 24 + (0 + M.length) : Nat) : Int)) (by omega) ?_
              refine x_istore dX0_around_107 (by decide) rfl ?_
              refine x_iload_n dX0_around_109 rfl ?_
              refine x_aload_n dX0_around_110 rfl ?_
              refine x_get1 dX0_around_111 ?_
              refine x_iload_n dX0_around_114 rfl ?_
              refine x_bipushN (q := 24) dX0_around_115 rfl (by decide) ?_
              refine x_imulN dX0_around_117 ?_
              refine x_ald1 dX0_around_118 (by omega) (fun hb118 => ?_)
              refine x_iload_n dX0_around_119 rfl ?_
              refine x_aload_n dX0_around_120 rfl ?_
              refine x_get2 dX0_around_121 ?_
              refine x_iload dX0_around_124 rfl ?_
              refine x_ald2 dX0_around_126 (by omega) (fun hb126 => ?_)
              refine x_callS (m_packed o.1 _ _ _ _) gw_X0_packed cf_X0_packed ⟨rfl, rfl, by decide, by decide⟩ rfl dX0_around_127 rfl (Nat.le_of_ble_eq_true rfl) (fun v hv => ?_)
              refine ret _ _ _ dX0_around_130 ?_
              rw [hv, hend, htop]
              show _ = zI ((pkN (minL (allR (b :: M)) 24) b.1 (maxR (allR (b :: M)) 0) (endB (b :: M)) : Nat) : Int)
              rw [← hmin, ← hmax]
              rfl
            · exact absurd h3 (by omega)
          | cons q p2 ih =>
            intro p1 k lf rg hp hk hlf hrg hmin hmax hRR
            have hl2 : (allR (b :: M)).length = p1.length + (p2.length + 1) := by rw [hp]; simp
            obtain ⟨d1, d2, d3⟩ := hRR
            have hq1 := hB 6 (r * 288 + k)
            have hq2 := hB 7 (r * 288 + k)
            have k88 : ∀ (lf2 rg2 : Nat), lf2 = (if q.1 < lf then q.1 else lf) → rg2 = (if rg < q.2 then q.2 else rg) → bX K o rmB cX0_around 5 g 88 [some (.ref o.2.1), some (.int (zI (r : Int))), some (.int (zI (lf2 : Int))), some (.int (zI (rg2 : Int))), some (.int (zI ((r * 288 + k : Nat) : Int)))] [] := by
              intro lf2 rg2 e1 e2
              refine x_iincN (q := 1) dX0_around_88 rfl rfl (by decide) rfl ?_
              refine x_goto (tgt := 33) dX0_around_91 (by decide) ?_
              refine ih (p1 ++ [q]) (k + 1) lf2 rg2 (by rw [hp]; simp) (by rw [hk]; simp) (by rw [e1]; split <;> omega) (by rw [e2]; split <;> omega) ?_ ?_ d3
              · rw [← hmin, e1]
                rfl
              · rw [← hmax, e2]
                rfl
            have k69 : ∀ (lf2 : Nat), lf2 = (if q.1 < lf then q.1 else lf) → bX K o rmB cX0_around 5 g 69 [some (.ref o.2.1), some (.int (zI (r : Int))), some (.int (zI (lf2 : Int))), some (.int (zI (rg : Int))), some (.int (zI ((r * 288 + k : Nat) : Int)))] [] := by
              intro lf2 e1
              refine x_aload_n dX0_around_69 rfl ?_
              refine x_get7 dX0_around_70 ?_
              refine x_iload dX0_around_73 rfl ?_
              refine x_ald7 dX0_around_75 (by omega) (fun hb75 => ?_)
              refine x_iload_n dX0_around_76 rfl ?_
              refine x_icmp_leN (tgt := 88) dX0_around_77 (by decide) (by omega) (by omega) (fun h4 => ?_) (fun h4 => ?_)
              · exact k88 lf2 rg e1 (by rw [if_neg (by omega)])
              · refine x_aload_n dX0_around_80 rfl ?_
                refine x_get7 dX0_around_81 ?_
                refine x_iload dX0_around_84 rfl ?_
                refine x_ald7 dX0_around_86 (by omega) (fun hb86 => ?_)
                refine x_istore_n dX0_around_87 (by decide) rfl ?_
                exact k88 lf2 _ e1 (by rw [if_pos (by omega), d2])
            refine x_iload dX0_around_33 rfl ?_
            refine x_iload_n dX0_around_35 rfl ?_
            refine x_sipushN (q := 288) dX0_around_36 rfl (by decide) ?_
            refine x_imulN dX0_around_39 ?_
            refine x_aload_n dX0_around_40 rfl ?_
            refine x_get5 dX0_around_41 ?_
            refine x_iload_n dX0_around_44 rfl ?_
            refine x_ald5 dX0_around_45 (by omega) (fun hb45 => ?_)
            refine x_iaddN dX0_around_46 ?_
            refine x_icmp_geN (tgt := 94) dX0_around_47 (by decide) (by omega) (by omega) (fun h3 => ?_) (fun h3 => ?_)
            · exact absurd h3 (by omega)
            · refine x_aload_n dX0_around_50 rfl ?_
              refine x_get6 dX0_around_51 ?_
              refine x_iload dX0_around_54 rfl ?_
              refine x_ald6 dX0_around_56 (by omega) (fun hb56 => ?_)
              refine x_iload_n dX0_around_57 rfl ?_
              refine x_icmp_geN (tgt := 69) dX0_around_58 (by decide) (by omega) (by omega) (fun h4 => ?_) (fun h4 => ?_)
              · exact k69 lf (by rw [if_neg (by omega)])
              · refine x_aload_n dX0_around_61 rfl ?_
                refine x_get6 dX0_around_62 ?_
                refine x_iload dX0_around_65 rfl ?_
                refine x_ald6 dX0_around_67 (by omega) (fun hb67 => ?_)
                refine x_istore_n dX0_around_68 (by decide) rfl ?_
                exact k69 _ (by rw [if_pos (by omega), d1])
        refine x_bipushN (q := 24) dX0_around_21 rfl (by decide) ?_
        refine x_istore_n dX0_around_23 (by decide) rfl ?_
        refine x_iconstN (q := 0) dX0_around_24 rfl ?_
        refine x_istore_n dX0_around_25 (by decide) rfl ?_
        refine x_iload_n dX0_around_26 rfl ?_
        refine x_sipushN (q := 288) dX0_around_27 rfl (by decide) ?_
        refine x_imulN dX0_around_30 ?_
        refine x_istore dX0_around_31 (by decide) rfl ?_
        exact loop (allR (b :: M)) [] 0 24 0 rfl rfl (by decide) (by decide) rfl rfl hall
    · cases L with
      | nil =>
        refine x_bipush dX0_around_18 (by decide) (by decide) ?_
        exact ret _ _ _ dX0_around_20 rfl
      | cons b M =>
        obtain ⟨-, -, -, s4, -⟩ := hS
        have : 0 < b.2.2.length := List.length_pos_iff.mpr s4
        simp only [tot] at a4
        exact absurd h2 (by omega)
  · refine x_iconst dX0_around_7 ?_
    exact ret _ _ _ dX0_around_8 (by unfold qArnd; rw [if_pos h1])
def skB : List Bn → List (Nat × Nat × Nat)
  | [] => []
  | b :: L => (b.1, b.2.1, b.2.2.length) :: skB L
theorem skB_len : ∀ L : List Bn, (skB L).length = L.length
  | [] => rfl
  | b :: L => by simp [skB, skB_len L]
theorem skB_app : ∀ (L M : List Bn), skB (L ++ M) = skB L ++ skB M
  | [], M => rfl
  | b :: L, M => by simp [skB, skB_app L M]
theorem skB_eq : ∀ (L M : List Bn), skB L = skB M → allR L = allR M → L = M
  | [], [], _, _ => rfl
  | [], c :: M, h, _ => by simp [skB] at h
  | b :: L, [], h, _ => by simp [skB] at h
  | b :: L, c :: M, h, h2 => by
    simp only [skB, List.cons.injEq, Prod.mk.injEq] at h
    simp only [allR] at h2
    obtain ⟨⟨e1, e2, e3⟩, e4⟩ := h
    obtain ⟨e5, e6⟩ := List.append_inj h2 e3
    have e7 := skB_eq L M e4 e6
    have e8 : b = c := Prod.ext e1 (Prod.ext e2 e5)
    rw [e7, e8]
set_option maxHeartbeats 4000000 in
theorem p_same (o : Ox) (g : Gg) (hB : bdX g) (S : Sx) (hX : XI g S) (a b : Int) (ha : -2147483648 ≤ a ∧ a < 2147483648) (hb : -2147483648 ≤ b ∧ b < 2147483648) : xI yX0_same cX0_same 6 .boolean rmB o g [.int (zI a), .int (zI b)] (fun v => v = zI (bI (qSame S a b))) := by
  refine x_metI (lv0 := [some (.ref o.2.1), some (.int (zI a)), some (.int (zI b)), none, none, none]) (by decide) rfl hB rfl (Nat.le_of_ble_eq_true rfl) rfl (fun v h => by rw [h]; exact bI_nar _) (fun K ret => ?_)
  have hbad : badZ a = true ∨ badZ b = true → bX K o rmB cX0_same 6 g 14 [some (.ref o.2.1), some (.int (zI a)), some (.int (zI b)), none, none, none] [] := by
    intro hh
    refine x_iconstN (q := 0) dX0_same_14 rfl ?_
    refine ret _ _ _ dX0_same_15 ?_
    have : qSame S a b = false := by
      unfold qSame
      rcases hh with h | h
      · rw [h]; rfl
      · rw [h]; simp
    rw [this]
    rfl
  refine x_iload_n dX0_same_0 rfl ?_
  refine x_callS (m_bad o.1 a ha) gw_X0_bad cf_X0_bad ⟨rfl, rfl, by decide, by decide⟩ rfl dX0_same_1 rfl (Nat.le_of_ble_eq_true rfl) (fun v hv => ?_)
  obtain rfl := hv
  refine x_if_neB (tgt := 14) dX0_same_4 (by decide) (fun h1 => ?_) (fun h1 => ?_)
  · exact hbad (Or.inl h1)
  · refine x_iload_n dX0_same_7 rfl ?_
    refine x_callS (m_bad o.1 b hb) gw_X0_bad cf_X0_bad ⟨rfl, rfl, by decide, by decide⟩ rfl dX0_same_8 rfl (Nat.le_of_ble_eq_true rfl) (fun v hv => ?_)
    obtain rfl := hv
    refine x_if_eqB (tgt := 16) dX0_same_11 (by decide) (fun h2 => ?_) (fun h2 => ?_)
    · obtain ⟨r, hr, rfl⟩ := bad_r h1
      obtain ⟨q, hq, rfl⟩ := bad_r h2
      have hqs : qSame S (r : Int) (q : Int) = decide (bu (S r) 24 = bu (S q) 24) := by
        unfold qSame
        rw [h1, h2, Int.toNat_natCast, Int.toNat_natCast]
        rfl
      rw [hqs] at ret
      have hRr := hX r hr
      have hRq := hX q hq
      revert hRr hRq ret
      generalize bu (S r) 24 = L
      generalize bu (S q) 24 = M
      intro ret hRr hRq
      have hall := RB_all L 0 0 hRr.2.2.2.2.1
      have hallM := RB_all M 0 0 hRq.2.2.2.2.1
      rw [Nat.add_zero] at hall hallM
      have hlen := allR_len L
      have hlenM := allR_len M
      have r0 := hRr.2.2.1
      have q0 := hRq.2.2.1
      have r5 := hRr.2.2.2.1
      have q5 := hRq.2.2.2.1
      have rl := hRr.1
      have ql := hRq.1
      have rt := hRr.2.1
      have qt := hRq.2.1
      rw [List.length_nil, Nat.add_zero] at r5 q5 rt qt
      have hne : (L.length ≠ M.length ∨ tot L ≠ tot M) → bX K o rmB cX0_same 6 g 46 [some (.ref o.2.1), some (.int (zI (r : Int))), some (.int (zI (q : Int))), none, none, none] [] := by
        intro hh
        refine x_iconstN (q := 0) dX0_same_46 rfl ?_
        refine ret _ _ _ dX0_same_47 ?_
        rw [decide_eq_false (fun e => by rw [e] at hh; rcases hh with h | h <;> exact h rfl)]
        rfl
      refine x_aload_n dX0_same_16 rfl ?_
      refine x_get0 dX0_same_17 ?_
      refine x_iload_n dX0_same_20 rfl ?_
      refine x_ald0 dX0_same_21 (by omega) (fun hb21 => ?_)
      refine x_aload_n dX0_same_22 rfl ?_
      refine x_get0 dX0_same_23 ?_
      refine x_iload_n dX0_same_26 rfl ?_
      refine x_ald0 dX0_same_27 (by omega) (fun hb27 => ?_)
      refine x_icmp_neN (tgt := 46) dX0_same_28 (by decide) (by omega) (by omega) (fun h3 => ?_) (fun h3 => ?_)
      · exact hne (Or.inl (by omega))
      · refine x_aload_n dX0_same_31 rfl ?_
        refine x_get5 dX0_same_32 ?_
        refine x_iload_n dX0_same_35 rfl ?_
        refine x_ald5 dX0_same_36 (by omega) (fun hb36 => ?_)
        refine x_aload_n dX0_same_37 rfl ?_
        refine x_get5 dX0_same_38 ?_
        refine x_iload_n dX0_same_41 rfl ?_
        refine x_ald5 dX0_same_42 (by omega) (fun hb42 => ?_)
        refine x_icmp_eqN (tgt := 48) dX0_same_43 (by decide) (by omega) (by omega) (fun h4 => ?_) (fun h4 => ?_)
        · have loop : ∀ (L2 M2 L1 M1 : List Bn) (i : Nat) (t4 t5 : Option Value), L = L1 ++ L2 → M = M1 ++ M2 → i = L1.length → i = M1.length → skB L1 = skB M1 → bX K o rmB cX0_same 6 g 50 [some (.ref o.2.1), some (.int (zI (r : Int))), some (.int (zI (q : Int))), some (.int (zI (i : Int))), t4, t5] [] := by
            intro L2
            induction L2 with
            | nil =>
              intro M2 L1 M1 i t4 t5 hL hM hi hj hsk
              have hl1 : L.length = L1.length := by rw [hL]; simp
              have hl2 : M.length = M1.length + M2.length := by rw [hM]; simp
              have hM2 : M2 = [] := List.length_eq_zero_iff.mp (by omega)
              subst hM2
              rw [List.append_nil] at hL hM
              refine x_iload_n dX0_same_50 rfl ?_
              refine x_aload_n dX0_same_51 rfl ?_
              refine x_get0 dX0_same_52 ?_
              refine x_iload_n dX0_same_55 rfl ?_
              refine x_ald0 dX0_same_56 (by omega) (fun hb56 => ?_)
              refine x_icmp_geN (tgt := 135) dX0_same_57 (by decide) (by omega) (by omega) (fun h5 => ?_) (fun h5 => ?_)
              · refine x_aload_n dX0_same_135 rfl ?_
                refine x_iload_n dX0_same_136 rfl ?_
                refine x_sipushN (q := 288) dX0_same_137 rfl (by decide) ?_
                refine x_imulN dX0_same_140 ?_
                refine x_iload_n dX0_same_141 rfl ?_
                refine x_sipushN (q := 288) dX0_same_142 rfl (by decide) ?_
                refine x_imulN dX0_same_145 ?_
                refine x_aload_n dX0_same_146 rfl ?_
                refine x_get5 dX0_same_147 ?_
                refine x_iload_n dX0_same_150 rfl ?_
                refine x_ald5 dX0_same_151 (by omega) (fun hb151 => ?_)
                refine x_callI (m_equalRuns o g hB (r * 288) (q * 288) (g 5 r) (by omega) (by omega)) gw_X0_equalRuns cf_X0_equalRuns ⟨rfl, rfl, by decide, by decide⟩ rfl dX0_same_152 rfl (Nat.le_of_ble_eq_true rfl) (fun v hv => ?_)
                obtain ⟨c, rfl, hc⟩ := hv
                refine ret _ _ _ dX0_same_155 ?_
                have hce : c = decide (L = M) := by
                  have hiff := RR_eq (allR L) (allR M) (r * 288) (q * 288) (by omega) hall hallM
                  by_cases e : L = M
                  · rw [decide_eq_true e]
                    refine hc.mpr (fun j hj => hiff.mpr (by rw [e]) j (by omega))
                  · rw [decide_eq_false e]
                    cases hcv : c with
                    | false => rfl
                    | true =>
                      exact absurd (skB_eq L M (by rw [hL, hM]; exact hsk) (hiff.mp (fun j hj => hc.mp hcv j (by omega)))) e
                rw [hce]
              · exact absurd h5 (by omega)
            | cons x L2 ih =>
              intro M2 L1 M1 i t4 t5 hL hM hi hj hsk
              have hl1 : L.length = L1.length + (L2.length + 1) := by rw [hL]; simp
              have hl2 : M.length = M1.length + M2.length := by rw [hM]; simp
              cases M2 with
              | nil =>
                rw [List.length_nil] at hl2
                omega
              | cons y M2 =>
                have hR1 := hRr
                have hR2 := hRq
                rw [hL] at hR1
                rw [hM] at hR2
                obtain ⟨-, -, -, -, b1, b2, b3, b4, b5, b6⟩ := hR1.at
                obtain ⟨-, -, -, -, d1, d2, d3, d4, d5, d6⟩ := hR2.at
                rw [← hi] at b1 b2 b3 b4
                rw [← hj] at d1 d2 d3 d4
                have hno : ∀ (t4 t5 : Option Value), ¬ (x.1 = y.1 ∧ x.2.1 = y.2.1 ∧ x.2.2.length = y.2.2.length) → bX K o rmB cX0_same 6 g 127 [some (.ref o.2.1), some (.int (zI (r : Int))), some (.int (zI (q : Int))), some (.int (zI (i : Int))), t4, t5] [] := by
                  intro t4 t5 hh
                  refine x_iconstN (q := 0) dX0_same_127 rfl ?_
                  refine ret _ _ _ dX0_same_128 ?_
                  rw [decide_eq_false (fun e => ?_)]
                  · rfl
                  · rw [hL, hM] at e
                    obtain ⟨-, e2⟩ := List.append_inj e (by omega)
                    obtain ⟨e3, -⟩ := List.cons.inj e2
                    exact hh (by rw [e3]; exact ⟨rfl, rfl, rfl⟩)
                refine x_iload_n dX0_same_50 rfl ?_
                refine x_aload_n dX0_same_51 rfl ?_
                refine x_get0 dX0_same_52 ?_
                refine x_iload_n dX0_same_55 rfl ?_
                refine x_ald0 dX0_same_56 (by omega) (fun hb56 => ?_)
                refine x_icmp_geN (tgt := 135) dX0_same_57 (by decide) (by omega) (by omega) (fun h5 => ?_) (fun h5 => ?_)
                · exact absurd h5 (by omega)
                · refine x_iload_n dX0_same_60 rfl ?_
                  refine x_bipushN (q := 24) dX0_same_61 rfl (by decide) ?_
                  refine x_imulN dX0_same_63 ?_
                  refine x_iload_n dX0_same_64 rfl ?_
                  refine x_iaddN dX0_same_65 ?_
                  refine x_istore dX0_same_66 (by decide) rfl ?_
                  refine x_iload_n dX0_same_68 rfl ?_
                  refine x_bipushN (q := 24) dX0_same_69 rfl (by decide) ?_
                  refine x_imulN dX0_same_71 ?_
                  refine x_iload_n dX0_same_72 rfl ?_
                  refine x_iaddN dX0_same_73 ?_
                  refine x_istore dX0_same_74 (by decide) rfl ?_
                  refine x_aload_n dX0_same_76 rfl ?_
                  refine x_get1 dX0_same_77 ?_
                  refine x_iload dX0_same_80 rfl ?_
                  refine x_ald1 dX0_same_82 (by omega) (fun hb82 => ?_)
                  refine x_aload_n dX0_same_83 rfl ?_
                  refine x_get1 dX0_same_84 ?_
                  refine x_iload dX0_same_87 rfl ?_
                  refine x_ald1 dX0_same_89 (by omega) (fun hb89 => ?_)
                  refine x_icmp_neN (tgt := 127) dX0_same_90 (by decide) (by omega) (by omega) (fun h6 => ?_) (fun h6 => ?_)
                  · exact hno _ _ (by omega)
                  · refine x_aload_n dX0_same_93 rfl ?_
                    refine x_get2 dX0_same_94 ?_
                    refine x_iload dX0_same_97 rfl ?_
                    refine x_ald2 dX0_same_99 (by omega) (fun hb99 => ?_)
                    refine x_aload_n dX0_same_100 rfl ?_
                    refine x_get2 dX0_same_101 ?_
                    refine x_iload dX0_same_104 rfl ?_
                    refine x_ald2 dX0_same_106 (by omega) (fun hb106 => ?_)
                    refine x_icmp_neN (tgt := 127) dX0_same_107 (by decide) (by omega) (by omega) (fun h7 => ?_) (fun h7 => ?_)
                    · exact hno _ _ (by omega)
                    · refine x_aload_n dX0_same_110 rfl ?_
                      refine x_get4 dX0_same_111 ?_
                      refine x_iload dX0_same_114 rfl ?_
                      refine x_ald4 dX0_same_116 (by omega) (fun hb116 => ?_)
                      refine x_aload_n dX0_same_117 rfl ?_
                      refine x_get4 dX0_same_118 ?_
                      refine x_iload dX0_same_121 rfl ?_
                      refine x_ald4 dX0_same_123 (by omega) (fun hb123 => ?_)
                      refine x_icmp_eqN (tgt := 129) dX0_same_124 (by decide) (by omega) (by omega) (fun h8 => ?_) (fun h8 => ?_)
                      · refine x_iincN (q := 1) dX0_same_129 rfl rfl (by decide) rfl ?_
                        refine x_goto (tgt := 50) dX0_same_132 (by decide) ?_
                        refine ih M2 (L1 ++ [x]) (M1 ++ [y]) (i + 1) _ _ (by rw [hL]; simp) (by rw [hM]; simp) (by rw [hi]; simp) (by rw [hj]; simp) ?_
                        rw [skB_app, skB_app, hsk]
                        simp only [skB]
                        rw [show x.1 = y.1 by omega, show x.2.1 = y.2.1 by omega, show x.2.2.length = y.2.2.length by omega]
                      · exact hno _ _ (by omega)
          refine x_iconstN (q := 0) dX0_same_48 rfl ?_
          refine x_istore_n dX0_same_49 (by decide) rfl ?_
          exact loop L M [] [] 0 _ _ rfl rfl rfl rfl rfl
        · exact hne (Or.inr (by omega))
    · exact hbad (Or.inr h2)
end
section
/-! BandRegionModel's world: the object at o.2.1, its two arrays of booleans at o.2.2 0 and 1 -/
set_option maxRecDepth 100000
abbrev Ff : Type := Nat → Nat → Bool
def upB (f : Ff) (k n : Nat) (v : Bool) : Ff := fun a b => if a = k ∧ b = n then v else f a b
theorem upB_s {f : Ff} {k n : Nat} {v : Bool} : upB f k n v k n = v := by simp [upB]
theorem upB_k {f : Ff} {k n a b : Nat} {v : Bool} (h : a ≠ k) : upB f k n v a b = f a b := by simp [upB, h]
theorem upB_n {f : Ff} {k n a b : Nat} {v : Bool} (h : b ≠ n) : upB f k n v a b = f a b := by simp [upB, h]
def wM (o : Ox) (f : Ff) : va_W := [(o.2.1, .inr (1, [.ref (o.2.2 0), .ref (o.2.2 1)])), (o.2.2 0, .inl (o.1.2.2, 1728, .inl (fun j => zI (bI (f 0 j))))), (o.2.2 1, .inl (o.1.2.2, 576, .inl (fun j => zI (bI (f 1 j)))))]
theorem upB_fn {f : Ff} {k n : Nat} {v : Bool} : upd (fun j => zI (bI (f k j))) n (zI (bI v)) = fun j => zI (bI (upB f k n v k j)) := by
  funext j
  unfold upd upB
  by_cases h : j = n
  · simp [h]
  · simp [h]
theorem upB_ne {f : Ff} {k n a : Nat} {v : Bool} (h : a ≠ k) : (fun j => zI (bI (f a j))) = fun j => zI (bI (upB f k n v a j)) := by
  funext j
  unfold upB
  simp [h]
theorem wM_set0 (o : Ox) (f : Ff) (n : Nat) (v : Bool) : (wM o f).set 1 (o.2.2 0, .inl (o.1.2.2, 1728, .inl (upd (fun j => zI (bI (f 0 j))) n (zI (bI v))))) = wM o (upB f 0 n v) := by
  rw [upB_fn]
  show ([(o.2.1, .inr (1, [.ref (o.2.2 0), .ref (o.2.2 1)])), (o.2.2 0, .inl (o.1.2.2, 1728, .inl (fun j => zI (bI (upB f 0 n v 0 j))))), (o.2.2 1, .inl (o.1.2.2, 576, .inl (fun j => zI (bI (f 1 j)))))] : va_W) = _
  rw [upB_ne (f := f) (k := 0) (n := n) (v := v) (a := 1) (by decide)]
  rfl
theorem wM_set1 (o : Ox) (f : Ff) (n : Nat) (v : Bool) : (wM o f).set 2 (o.2.2 1, .inl (o.1.2.2, 576, .inl (upd (fun j => zI (bI (f 1 j))) n (zI (bI v))))) = wM o (upB f 1 n v) := by
  rw [upB_fn]
  show ([(o.2.1, .inr (1, [.ref (o.2.2 0), .ref (o.2.2 1)])), (o.2.2 0, .inl (o.1.2.2, 1728, .inl (fun j => zI (bI (f 0 j))))), (o.2.2 1, .inl (o.1.2.2, 576, .inl (fun j => zI (bI (upB f 1 n v 1 j)))))] : va_W) = _
  rw [upB_ne (f := f) (k := 1) (n := n) (v := v) (a := 0) (by decide)]
  rfl
theorem m_get0 {K : Kx} {o : Ox} {R : Room} {cc : ByteArray} {nL : Nat} {f : Ff} {pc : Nat} {lv : List (Option Value)} {st : List Value} (hd : decode cc pc = .ok (.getfield 7, 3)) (k : bW K o.1 R RX1 cc nL (wM o f) (pc + 3) lv (.ref (o.2.2 0) :: st)) : bW K o.1 R RX1 cc nL (wM o f) pc lv (.ref o.2.1 :: st) := by
  obtain ⟨p, l, e, s, m, args, below, meth, c, Q, A, cells, slots⟩ := K
  intro S hK hA hcs H locs ls hP hD hS hl
  exact va_get (D := o.1.1) (ci := 1) (v := .ref (o.2.2 0)) (C := RX1) (T := TX1) (N := 2) S.1 S.2.1 S.2.2.2.2 in_X1 S.2.2.2.1 hK hP 0 rfl rfl 0 (by decide) (S.2.2.2.2 _ q171) (fun _ h9 => h9) rfl hd (k S hK hA hcs H locs ls hP hD hS hl)
theorem m_ald0 {K : Kx} {o : Ox} {R : Room} {cc : ByteArray} {nL : Nat} {f : Ff} {pc : Nat} {lv : List (Option Value)} {st : List Value} {n : Nat} (hd : decode cc pc = .ok (.baload, 1)) (hn : n < 1728) (k : bW K o.1 R RX1 cc nL (wM o f) (pc + 1) lv (.int (zI (bI (f 0 n))) :: st)) : bW K o.1 R RX1 cc nL (wM o f) pc lv (.int (zI (n : Int)) :: .ref (o.2.2 0) :: st) := by
  obtain ⟨p, l, e, s, m, args, below, meth, c, Q, A, cells, slots⟩ := K
  intro S hK hA hcs H locs ls hP hD hS hl
  refine va_zald S.1 S.2.1 hK hP 1 1 rfl rfl (zI_in hn (by decide)) hd ?_
  rw [zI_clamp (by omega)]
  exact k S hK hA hcs H locs ls hP hD hS hl
theorem m_ast0 {K : Kx} {o : Ox} {R : Room} {cc : ByteArray} {nL : Nat} {f : Ff} {pc : Nat} {lv : List (Option Value)} {st : List Value} {n : Nat} {v : Bool} (hd : decode cc pc = .ok (.bastore, 1)) (hn : n < 1728) (k : bW K o.1 R RX1 cc nL (wM o (upB f 0 n v)) (pc + 1) lv st) : bW K o.1 R RX1 cc nL (wM o f) pc lv (.int (zI (bI v)) :: .int (zI (n : Int)) :: .ref (o.2.2 0) :: st) := by
  obtain ⟨p, l, e, s, m, args, below, meth, c, Q, A, cells, slots⟩ := K
  intro S hK hA hcs H locs ls hP hD hS hl
  refine va_zast S.1 S.2.1 hK hP hD hS 1 1 rfl rfl (zI_in hn (by decide)) hd (fun H1 locs1 hP1 hD1 hS1 => ?_)
  rw [zI_clamp (by omega), bI_vp, wM_set0] at hP1 hD1
  exact k S hK hA hcs H1 locs1 ls hP1 hD1 hS1 hl
theorem m_get1 {K : Kx} {o : Ox} {R : Room} {cc : ByteArray} {nL : Nat} {f : Ff} {pc : Nat} {lv : List (Option Value)} {st : List Value} (hd : decode cc pc = .ok (.getfield 13, 3)) (k : bW K o.1 R RX1 cc nL (wM o f) (pc + 3) lv (.ref (o.2.2 1) :: st)) : bW K o.1 R RX1 cc nL (wM o f) pc lv (.ref o.2.1 :: st) := by
  obtain ⟨p, l, e, s, m, args, below, meth, c, Q, A, cells, slots⟩ := K
  intro S hK hA hcs H locs ls hP hD hS hl
  exact va_get (D := o.1.1) (ci := 1) (v := .ref (o.2.2 1)) (C := RX1) (T := TX1) (N := 2) S.1 S.2.1 S.2.2.2.2 in_X1 S.2.2.2.1 hK hP 0 rfl rfl 1 (by decide) (S.2.2.2.2 _ q172) (fun _ h9 => h9) rfl hd (k S hK hA hcs H locs ls hP hD hS hl)
theorem m_ald1 {K : Kx} {o : Ox} {R : Room} {cc : ByteArray} {nL : Nat} {f : Ff} {pc : Nat} {lv : List (Option Value)} {st : List Value} {n : Nat} (hd : decode cc pc = .ok (.baload, 1)) (hn : n < 576) (k : bW K o.1 R RX1 cc nL (wM o f) (pc + 1) lv (.int (zI (bI (f 1 n))) :: st)) : bW K o.1 R RX1 cc nL (wM o f) pc lv (.int (zI (n : Int)) :: .ref (o.2.2 1) :: st) := by
  obtain ⟨p, l, e, s, m, args, below, meth, c, Q, A, cells, slots⟩ := K
  intro S hK hA hcs H locs ls hP hD hS hl
  refine va_zald S.1 S.2.1 hK hP 2 1 rfl rfl (zI_in hn (by decide)) hd ?_
  rw [zI_clamp (by omega)]
  exact k S hK hA hcs H locs ls hP hD hS hl
theorem m_ast1 {K : Kx} {o : Ox} {R : Room} {cc : ByteArray} {nL : Nat} {f : Ff} {pc : Nat} {lv : List (Option Value)} {st : List Value} {n : Nat} {v : Bool} (hd : decode cc pc = .ok (.bastore, 1)) (hn : n < 576) (k : bW K o.1 R RX1 cc nL (wM o (upB f 1 n v)) (pc + 1) lv st) : bW K o.1 R RX1 cc nL (wM o f) pc lv (.int (zI (bI v)) :: .int (zI (n : Int)) :: .ref (o.2.2 1) :: st) := by
  obtain ⟨p, l, e, s, m, args, below, meth, c, Q, A, cells, slots⟩ := K
  intro S hK hA hcs H locs ls hP hD hS hl
  refine va_zast S.1 S.2.1 hK hP hD hS 2 1 rfl rfl (zI_in hn (by decide)) hd (fun H1 locs1 hP1 hD1 hS1 => ?_)
  rw [zI_clamp (by omega), bI_vp, wM_set1] at hP1 hD1
  exact k S hK hA hcs H1 locs1 ls hP1 hD1 hS1 hl
def mI (y : MethodName) (cc : ByteArray) (maxL : Nat) (rt : FieldType) (rm : Room) (o : Ox) (f : Ff) (As : List Value) (post : Int32 → Prop) : Prop := MetI y cc maxL rt rm o.1 (wM o f) (.ref o.2.1 :: As) (fun _ : Unit => wM o f) (fun r _ => post r)
def mC (y : MethodName) (cc : ByteArray) (maxL : Nat) (rt : FieldType) (rm : Room) (o : Ox) (f : Ff) (As : List Value) (post : Int32 → Ff → Prop) : Prop := MetI y cc maxL rt rm o.1 (wM o f) (.ref o.2.1 :: As) (wM o) post
theorem m_metI {y : MethodName} {cc : ByteArray} {maxL : Nat} {rt : FieldType} {rm : Room} {o : Ox} {f : Ff} {As : List Value} {post : Int32 → Prop} {lv0 : List (Option Value)} (hy : plainName y.cls = true) (hyc : y.cls = RX1) (hc : As.all (fun v => v.category == 1) = true) (hn : (lg_sl (.ref o.2.1 :: As)).length ≤ maxL) (hlv : ent (.ref o.2.1 :: As) maxL = lv0) (hz : ∀ r, post r → narrow rt (.int r) = .int r)
    (body : ∀ K : Kx, (∀ (r : Int32) (pc : Nat) (lv : List (Option Value)), decode cc pc = .ok (.ireturn, 1) → post r → bW K o.1 rm RX1 cc maxL (wM o f) pc lv [.int r]) → bW K o.1 rm RX1 cc maxL (wM o f) 0 lv0 []) : mI y cc maxL rt rm o f As post := by
  refine w_metI hy hyc (by simpa [Value.category] using hc) hn hlv (fun r _ h => hz r h) (fun K ret => body K (fun r pc lv hd hp => ret r () pc lv hd hp))
theorem m_metC {y : MethodName} {cc : ByteArray} {maxL : Nat} {rt : FieldType} {rm : Room} {o : Ox} {f : Ff} {As : List Value} {post : Int32 → Ff → Prop} {lv0 : List (Option Value)} (hy : plainName y.cls = true) (hyc : y.cls = RX1) (hc : As.all (fun v => v.category == 1) = true) (hn : (lg_sl (.ref o.2.1 :: As)).length ≤ maxL) (hlv : ent (.ref o.2.1 :: As) maxL = lv0) (hz : ∀ r u, post r u → narrow rt (.int r) = .int r)
    (body : ∀ K : Kx, (∀ (r : Int32) (u : Ff) (pc : Nat) (lv : List (Option Value)), decode cc pc = .ok (.ireturn, 1) → post r u → bW K o.1 rm RX1 cc maxL (wM o u) pc lv [.int r]) → bW K o.1 rm RX1 cc maxL (wM o f) 0 lv0 []) : mC y cc maxL rt rm o f As post := by
  refine w_metI hy hyc (by simpa [Value.category] using hc) hn hlv hz (fun K ret => body K (fun r u pc lv hd hp => ret r u pc lv hd hp))
theorem m_callI {K : Kx} {o : Ox} {R : Room} {cc : ByteArray} {nL : Nat} {f : Ff} {pc : Nat} {lv : List (Option Value)} {st st0 As : List Value} {y : MethodName} {cy : ByteArray} {maxL idx n : Nat} {rm : Room} {rt : FieldType} {post : Int32 → Prop} (hM : mI y cy maxL rt rm o f As post) (hw : GoodIn lw_all (wsV RX1 idx RX1 y (ws_ y cy maxL (some rt)))) (hcf : cfV y RX1 n) (hrm : rmOk rm R maxL) (hn : As.length = n) (hd : decode cc pc = .ok (.invokevirtual idx, 3)) (hst : st0 = As.reverse ++ .ref o.2.1 :: st) (hroom : (st.map fun v => v.category).sum ≤ 8)
    (k : ∀ r : Int32, post r → bW K o.1 R RX1 cc nL (wM o f) (pc + 3) lv (.int r :: st)) : bW K o.1 R RX1 cc nL (wM o f) pc lv st0 :=
  w_callI (q0 := 0) (ci := 1) (wr := []) hM hw hcf hrm hn hd hst hroom rfl rfl rfl [0, 1, 2] [] rfl rfl rfl (by decide) rfl (by intro i hi; cases hi) (fun r _ hp => k r hp)
end
section
/-! BandRegionModel: bad, inBox, mixed, area, has, equalRows -/
set_option maxRecDepth 100000
theorem n_bad (o : Ox) (f : Ff) (z : Int) (hz : -2147483648 ≤ z ∧ z < 2147483648) : mI yX1_bad cX1_bad 2 .boolean rmA o f [.int (zI z)] (fun r => r = zI (bI (badZ z))) := by
  refine m_metI (lv0 := [some (.ref o.2.1), some (.int (zI z))]) (by decide) rfl rfl (Nat.le_of_ble_eq_true rfl) rfl (fun r h => by rw [h]; exact bI_nar _) (fun K ret => ?_)
  refine r_iload_n dX1_bad_0 rfl ?_
  refine r_if_lt (tgt := 9) dX1_bad_1 (by decide) (by omega) (fun h1 => ?_) (fun h1 => ?_)
  · refine r_iconstN (q := 1) dX1_bad_9 rfl ?_
    refine r_goto (tgt := 14) dX1_bad_10 (by decide) ?_
    exact ret _ _ _ dX1_bad_14 (by rw [badZ_t (Or.inl h1)]; rfl)
  · refine r_iload_n dX1_bad_4 rfl ?_
    refine r_iconstN (q := 2) dX1_bad_5 rfl ?_
    refine r_icmp_le (tgt := 13) dX1_bad_6 (by decide) (by omega) (by omega) (fun h2 => ?_) (fun h2 => ?_)
    · refine r_iconstN (q := 0) dX1_bad_13 rfl ?_
      exact ret _ _ _ dX1_bad_14 (by rw [badZ_f (by omega)]; rfl)
    · refine r_iconstN (q := 1) dX1_bad_9 rfl ?_
      refine r_goto (tgt := 14) dX1_bad_10 (by decide) ?_
      exact ret _ _ _ dX1_bad_14 (by rw [badZ_t (by omega)]; rfl)
theorem n_inBox (o : Ox) (f : Ff) (x y : Nat) (c s : Int32) (hx : x < 2048) (hy : y < 2048) : mI yX1_inBox cX1_inBox 9 .boolean rmA o f [.int (zI (x : Int)), .int (zI (y : Int)), .int c, .int s] (fun r => r = zI (bI (boxS c s x y))) := by
  refine m_metI (lv0 := [some (.ref o.2.1), some (.int (zI (x : Int))), some (.int (zI (y : Int))), some (.int c), some (.int s), none, none, none, none]) (by decide) rfl rfl (Nat.le_of_ble_eq_true rfl) rfl (fun r h => by rw [h]; exact bI_nar _) (fun K ret => ?_)
  have b1 := lo5_lt c
  have b2 := hi5_lt c
  have b3 := lo5_lt s
  have b4 := hi5_lt s
  have hno : ∀ lv, boxS c s x y = false → bW K o.1 rmA RX1 cX1_inBox 9 (wM o f) 64 lv [] := by
    intro lv hh
    refine r_iconstN (q := 0) dX1_inBox_64 rfl ?_
    exact ret _ _ _ dX1_inBox_65 (by rw [hh]; rfl)
  refine r_iload_n dX1_inBox_0 rfl ?_
  refine r_bipushN (q := 31) dX1_inBox_1 rfl (by decide) ?_
  refine r_and31 dX1_inBox_3 rfl ?_
  refine r_istore dX1_inBox_4 (by decide) rfl ?_
  refine r_iload_n dX1_inBox_6 rfl ?_
  refine r_iconstN (q := 5) dX1_inBox_7 rfl ?_
  refine r_shr5 dX1_inBox_8 rfl ?_
  refine r_bipushN (q := 31) dX1_inBox_9 rfl (by decide) ?_
  refine r_and31 dX1_inBox_11 rfl ?_
  refine r_top (y := ((hi5 c : Nat) : Int)) (rfl) ?_
  refine r_istore dX1_inBox_12 (by decide) rfl ?_
  refine r_iload dX1_inBox_14 rfl ?_
  refine r_bipushN (q := 31) dX1_inBox_16 rfl (by decide) ?_
  refine r_and31 dX1_inBox_18 rfl ?_
  refine r_istore dX1_inBox_19 (by decide) rfl ?_
  refine r_iload dX1_inBox_21 rfl ?_
  refine r_iconstN (q := 5) dX1_inBox_23 rfl ?_
  refine r_shr5 dX1_inBox_24 rfl ?_
  refine r_bipushN (q := 31) dX1_inBox_25 rfl (by decide) ?_
  refine r_and31 dX1_inBox_27 rfl ?_
  refine r_top (y := ((hi5 s : Nat) : Int)) (rfl) ?_
  refine r_istore dX1_inBox_28 (by decide) rfl ?_
  refine r_iload dX1_inBox_30 rfl ?_
  refine r_iload_n dX1_inBox_32 rfl ?_
  refine r_icmp_gtN (tgt := 64) dX1_inBox_33 (by decide) (by omega) (by omega) (fun h1 => ?_) (fun h1 => ?_)
  · exact hno _ (decide_eq_false (by omega))
  · refine r_iload_n dX1_inBox_36 rfl ?_
    refine r_iload dX1_inBox_37 rfl ?_
    refine r_iload dX1_inBox_39 rfl ?_
    refine r_iaddN dX1_inBox_41 ?_
    refine r_icmp_geN (tgt := 64) dX1_inBox_42 (by decide) (by omega) (by omega) (fun h2 => ?_) (fun h2 => ?_)
    · exact hno _ (decide_eq_false (by omega))
    · refine r_iload dX1_inBox_45 rfl ?_
      refine r_iload_n dX1_inBox_47 rfl ?_
      refine r_icmp_gtN (tgt := 64) dX1_inBox_48 (by decide) (by omega) (by omega) (fun h3 => ?_) (fun h3 => ?_)
      · exact hno _ (decide_eq_false (by omega))
      · refine r_iload_n dX1_inBox_51 rfl ?_
        refine r_iload dX1_inBox_52 rfl ?_
        refine r_iload dX1_inBox_54 rfl ?_
        refine r_iaddN dX1_inBox_56 ?_
        refine r_icmp_geN (tgt := 64) dX1_inBox_57 (by decide) (by omega) (by omega) (fun h4 => ?_) (fun h4 => ?_)
        · exact hno _ (decide_eq_false (by omega))
        · refine r_iconstN (q := 1) dX1_inBox_60 rfl ?_
          refine r_goto (tgt := 65) dX1_inBox_61 (by decide) ?_
          exact ret _ _ _ dX1_inBox_65 (by rw [show boxS c s x y = true from decide_eq_true (by omega)]; rfl)
theorem n_mixed (o : Ox) (f : Ff) (a b : Bool) (k : Nat) (hk : k < 4) : mI yX1_mixed cX1_mixed 4 .boolean rmA o f [.int (zI (bI a)), .int (zI (bI b)), .int (zI (k : Int))] (fun r => r = zI (bI (mixB k a b))) := by
  refine m_metI (lv0 := [some (.ref o.2.1), some (.int (zI (bI a))), some (.int (zI (bI b))), some (.int (zI (k : Int)))]) (by decide) rfl rfl (Nat.le_of_ble_eq_true rfl) rfl (fun r h => by rw [h]; exact bI_nar _) (fun K ret => ?_)
  refine r_iload_n dX1_mixed_0 rfl ?_
  refine r_if_ne (tgt := 18) dX1_mixed_1 (by decide) (by omega) (fun g1 => ?_) (fun g1 => ?_)
  · refine r_iload_n dX1_mixed_18 rfl ?_
    refine r_iconstN (q := 1) dX1_mixed_19 rfl ?_
    refine r_icmp_neN (tgt := 37) dX1_mixed_20 (by decide) (by omega) (by omega) (fun g2 => ?_) (fun g2 => ?_)
    · refine r_iload_n dX1_mixed_37 rfl ?_
      refine r_iconstN (q := 2) dX1_mixed_38 rfl ?_
      refine r_icmp_neN (tgt := 56) dX1_mixed_39 (by decide) (by omega) (by omega) (fun g3 => ?_) (fun g3 => ?_)
      · obtain rfl : k = 3 := by omega
        refine r_iload_n dX1_mixed_56 rfl ?_
        refine r_iload_n dX1_mixed_57 rfl ?_
        refine r_icmp_eqB (tgt := 65) dX1_mixed_58 (by decide) (fun h1 => ?_) (fun h1 => ?_)
        · refine r_iconstN (q := 0) dX1_mixed_65 rfl ?_
          exact ret _ _ _ dX1_mixed_66 (by rw [h1]; cases b <;> rfl)
        · refine r_iconstN (q := 1) dX1_mixed_61 rfl ?_
          refine r_goto (tgt := 66) dX1_mixed_62 (by decide) ?_
          exact ret _ _ _ dX1_mixed_66 (by cases a <;> cases b <;> first | rfl | exact absurd rfl h1)
      · obtain rfl : k = 2 := by omega
        refine r_iload_n dX1_mixed_42 rfl ?_
        refine r_if_eqB (tgt := 54) dX1_mixed_43 (by decide) (fun h1 => ?_) (fun h1 => ?_)
        · refine r_iconstN (q := 0) dX1_mixed_54 rfl ?_
          exact ret _ _ _ dX1_mixed_55 (by rw [h1]; rfl)
        · refine r_iload_n dX1_mixed_46 rfl ?_
          refine r_if_neB (tgt := 54) dX1_mixed_47 (by decide) (fun h2 => ?_) (fun h2 => ?_)
          · refine r_iconstN (q := 0) dX1_mixed_54 rfl ?_
            exact ret _ _ _ dX1_mixed_55 (by rw [h1, h2]; rfl)
          · refine r_iconstN (q := 1) dX1_mixed_50 rfl ?_
            refine r_goto (tgt := 55) dX1_mixed_51 (by decide) ?_
            exact ret _ _ _ dX1_mixed_55 (by rw [h1, h2]; rfl)
    · obtain rfl : k = 1 := by omega
      refine r_iload_n dX1_mixed_23 rfl ?_
      refine r_if_eqB (tgt := 35) dX1_mixed_24 (by decide) (fun h1 => ?_) (fun h1 => ?_)
      · refine r_iconstN (q := 0) dX1_mixed_35 rfl ?_
        exact ret _ _ _ dX1_mixed_36 (by rw [h1]; rfl)
      · refine r_iload_n dX1_mixed_27 rfl ?_
        refine r_if_eqB (tgt := 35) dX1_mixed_28 (by decide) (fun h2 => ?_) (fun h2 => ?_)
        · refine r_iconstN (q := 0) dX1_mixed_35 rfl ?_
          exact ret _ _ _ dX1_mixed_36 (by rw [h1, h2]; rfl)
        · refine r_iconstN (q := 1) dX1_mixed_31 rfl ?_
          refine r_goto (tgt := 36) dX1_mixed_32 (by decide) ?_
          exact ret _ _ _ dX1_mixed_36 (by rw [h1, h2]; rfl)
  · obtain rfl : k = 0 := by omega
    refine r_iload_n dX1_mixed_4 rfl ?_
    refine r_if_neB (tgt := 12) dX1_mixed_5 (by decide) (fun h1 => ?_) (fun h1 => ?_)
    · refine r_iconstN (q := 1) dX1_mixed_12 rfl ?_
      refine r_goto (tgt := 17) dX1_mixed_13 (by decide) ?_
      exact ret _ _ _ dX1_mixed_17 (by rw [h1]; rfl)
    · refine r_iload_n dX1_mixed_8 rfl ?_
      refine r_if_eqB (tgt := 16) dX1_mixed_9 (by decide) (fun h2 => ?_) (fun h2 => ?_)
      · refine r_iconstN (q := 0) dX1_mixed_16 rfl ?_
        exact ret _ _ _ dX1_mixed_17 (by rw [h1, h2]; rfl)
      · refine r_iconstN (q := 1) dX1_mixed_12 rfl ?_
        refine r_goto (tgt := 17) dX1_mixed_13 (by decide) ?_
        exact ret _ _ _ dX1_mixed_17 (by rw [h1, h2]; rfl)
/-- the map of cells holds the sets S -/
def MI (f : Ff) (S : Sx) : Prop := ∀ r i, r < 3 → i < 576 → f 0 (r * 576 + i) = S r (i % 24) (i / 24)
theorem MI.xy {f : Ff} {S : Sx} (h : MI f S) {r x y : Nat} (hr : r < 3) (hx : x < 24) (hy : y < 24) : f 0 (r * 576 + y * 24 + x) = S r x y := by
  have := h r (y * 24 + x) hr (by omega)
  rw [show (y * 24 + x) % 24 = x by omega, show (y * 24 + x) / 24 = y by omega] at this
  rw [Nat.add_assoc]
  exact this
def cntF (T : Nat → Nat → Bool) : Nat → Nat
  | 0 => 0
  | n + 1 => cntF T n + (if T (n % 24) (n / 24) = true then 1 else 0)
theorem cntF_xy (T : Nat → Nat → Bool) : ∀ (y x : Nat), x ≤ 24 → cntF T (y * 24 + x) = cntN T y + rowN (fun x => T x y) x := by
  intro y
  induction y with
  | zero =>
    intro x
    induction x with
    | zero => intro _; rfl
    | succ x ih =>
      intro hx
      have := ih (by omega)
      rw [show 0 * 24 + (x + 1) = (0 * 24 + x) + 1 by omega]
      simp only [cntF, rowN]
      rw [this, show (0 * 24 + x) % 24 = x by omega, show (0 * 24 + x) / 24 = 0 by omega]
      omega
  | succ y ihy =>
    intro x
    induction x with
    | zero =>
      intro _
      have := ihy 24 (Nat.le_refl _)
      rw [show (y + 1) * 24 + 0 = y * 24 + 24 by omega, this]
      rfl
    | succ x ih =>
      intro hx
      have := ih (by omega)
      rw [show (y + 1) * 24 + (x + 1) = ((y + 1) * 24 + x) + 1 by omega]
      simp only [cntF, rowN]
      rw [this, show ((y + 1) * 24 + x) % 24 = x by omega, show ((y + 1) * 24 + x) / 24 = y + 1 by omega]
      omega
theorem cntF_all (T : Nat → Nat → Bool) : cntF T 576 = cnt T := cntF_xy T 24 0 (by decide)
theorem n_area (o : Ox) (f : Ff) (S : Sx) (hM : MI f S) (z : Int) (hz : -2147483648 ≤ z ∧ z < 2147483648) : mI yX1_area cX1_area 4 .int rmB o f [.int (zI z)] (fun v => v = zI (qArea S z)) := by
  refine m_metI (lv0 := [some (.ref o.2.1), some (.int (zI z)), none, none]) (by decide) rfl rfl (Nat.le_of_ble_eq_true rfl) rfl (fun v h => rfl) (fun K ret => ?_)
  refine r_aload_n dX1_area_0 rfl ?_
  refine r_iload_n dX1_area_1 rfl ?_
  refine m_callI (n_bad o f z hz) gw_X1_bad cf_X1_bad ⟨rfl, rfl, by decide, by decide⟩ rfl dX1_area_2 rfl (Nat.le_of_ble_eq_true rfl) (fun v hv => ?_)
  obtain rfl := hv
  refine r_if_eqB (tgt := 10) dX1_area_5 (by decide) (fun h1 => ?_) (fun h1 => ?_)
  · obtain ⟨r, hr, rfl⟩ := bad_r h1
    have loop : ∀ (m i n : Nat), i + m = 576 → n = cntF (S r) i → bW K o.1 rmB RX1 cX1_area 4 (wM o f) 14 [some (.ref o.2.1), some (.int (zI (r : Int))), some (.int (zI (n : Int))), some (.int (zI (i : Int)))] [] := by
      intro m
      induction m with
      | zero =>
        intro i n hi hn
        obtain rfl : i = 576 := by omega
        refine r_iload_n dX1_area_14 rfl ?_
        refine r_sipushN (q := 576) dX1_area_15 rfl (by decide) ?_
        refine r_icmp_geN (tgt := 45) dX1_area_18 (by decide) (by omega) (by omega) (fun h2 => ?_) (fun h2 => ?_)
        · refine r_iload_n dX1_area_45 rfl ?_
          refine ret _ _ _ dX1_area_46 ?_
          rw [hn, cntF_all]
          unfold qArea
          rw [if_neg (by rw [h1]; decide)]
          rfl
        · exact absurd h2 (by omega)
      | succ m ih =>
        intro i n hi hn
        refine r_iload_n dX1_area_14 rfl ?_
        refine r_sipushN (q := 576) dX1_area_15 rfl (by decide) ?_
        refine r_icmp_geN (tgt := 45) dX1_area_18 (by decide) (by omega) (by omega) (fun h2 => ?_) (fun h2 => ?_)
        · exact absurd h2 (by omega)
        · refine r_aload_n dX1_area_21 rfl ?_
          refine m_get0 dX1_area_22 ?_
          refine r_iload_n dX1_area_25 rfl ?_
          refine r_sipushN (q := 576) dX1_area_26 rfl (by decide) ?_
          refine r_imulN dX1_area_29 ?_
          refine r_iload_n dX1_area_30 rfl ?_
          refine r_iaddN dX1_area_31 ?_
          refine m_ald0 dX1_area_32 (by omega) ?_
          have hv := hM r i hr (by omega)
          refine r_if_eqB (tgt := 39) dX1_area_33 (by decide) (fun h3 => ?_) (fun h3 => ?_)
          · rw [hv] at h3
            refine r_iincN (q := 1) dX1_area_39 rfl rfl (by decide) rfl ?_
            refine r_goto (tgt := 14) dX1_area_42 (by decide) ?_
            exact ih (i + 1) n (by omega) (by simp only [cntF]; rw [h3, hn]; rfl)
          · rw [hv] at h3
            refine r_iincN (q := 1) dX1_area_36 rfl rfl (by decide) rfl ?_
            refine r_iincN (q := 1) dX1_area_39 rfl rfl (by decide) rfl ?_
            refine r_goto (tgt := 14) dX1_area_42 (by decide) ?_
            exact ih (i + 1) (n + 1) (by omega) (by simp only [cntF]; rw [h3, hn]; rfl)
    refine r_iconstN (q := 0) dX1_area_10 rfl ?_
    refine r_istore_n dX1_area_11 (by decide) rfl ?_
    refine r_iconstN (q := 0) dX1_area_12 rfl ?_
    refine r_istore_n dX1_area_13 (by decide) rfl ?_
    exact loop 576 0 0 (by omega) rfl
  · refine r_iconst dX1_area_8 ?_
    exact ret _ _ _ dX1_area_9 (by unfold qArea; rw [if_pos h1])
theorem n_has (o : Ox) (f : Ff) (S : Sx) (hM : MI f S) (z x y : Int) (hz : -2147483648 ≤ z ∧ z < 2147483648) (hx : -2147483648 ≤ x ∧ x < 2147483648) (hy : -2147483648 ≤ y ∧ y < 2147483648) : mI yX1_has cX1_has 4 .boolean rmB o f [.int (zI z), .int (zI x), .int (zI y)] (fun v => v = zI (bI (qHas S z x y))) := by
  refine m_metI (lv0 := [some (.ref o.2.1), some (.int (zI z)), some (.int (zI x)), some (.int (zI y))]) (by decide) rfl rfl (Nat.le_of_ble_eq_true rfl) rfl (fun v h => by rw [h]; exact bI_nar _) (fun K ret => ?_)
  have hno : qHas S z x y = false → bW K o.1 rmB RX1 cX1_has 4 (wM o f) 28 [some (.ref o.2.1), some (.int (zI z)), some (.int (zI x)), some (.int (zI y))] [] := by
    intro hh
    refine r_iconstN (q := 0) dX1_has_28 rfl ?_
    exact ret _ _ _ dX1_has_29 (by rw [hh]; rfl)
  have hno2 : ¬ (0 ≤ x ∧ x < 24 ∧ 0 ≤ y ∧ y < 24) → qHas S z x y = false := by
    intro hh
    unfold qHas
    rw [show decide (0 ≤ x ∧ x < 24 ∧ 0 ≤ y ∧ y < 24) = false from decide_eq_false hh]
    simp
  refine r_aload_n dX1_has_0 rfl ?_
  refine r_iload_n dX1_has_1 rfl ?_
  refine m_callI (n_bad o f z hz) gw_X1_bad cf_X1_bad ⟨rfl, rfl, by decide, by decide⟩ rfl dX1_has_2 rfl (Nat.le_of_ble_eq_true rfl) (fun v hv => ?_)
  obtain rfl := hv
  refine r_if_neB (tgt := 28) dX1_has_5 (by decide) (fun h1 => ?_) (fun h1 => ?_)
  · exact hno (by unfold qHas; rw [h1]; rfl)
  · refine r_iload_n dX1_has_8 rfl ?_
    refine r_if_lt (tgt := 28) dX1_has_9 (by decide) (by omega) (fun h2 => ?_) (fun h2 => ?_)
    · exact hno (hno2 (by omega))
    · refine r_iload_n dX1_has_12 rfl ?_
      refine r_bipushN (q := 23) dX1_has_13 rfl (by decide) ?_
      refine r_icmp_gt (tgt := 28) dX1_has_15 (by decide) (by omega) (by omega) (fun h3 => ?_) (fun h3 => ?_)
      · exact hno (hno2 (by omega))
      · refine r_iload_n dX1_has_18 rfl ?_
        refine r_if_lt (tgt := 28) dX1_has_19 (by decide) (by omega) (fun h4 => ?_) (fun h4 => ?_)
        · exact hno (hno2 (by omega))
        · refine r_iload_n dX1_has_22 rfl ?_
          refine r_bipushN (q := 23) dX1_has_23 rfl (by decide) ?_
          refine r_icmp_le (tgt := 30) dX1_has_25 (by decide) (by omega) (by omega) (fun h5 => ?_) (fun h5 => ?_)
          · obtain ⟨r, hr, rfl⟩ := bad_r h1
            obtain ⟨x', rfl⟩ : ∃ n : Nat, x = (n : Int) := ⟨x.toNat, by omega⟩
            obtain ⟨y', rfl⟩ : ∃ n : Nat, y = (n : Int) := ⟨y.toNat, by omega⟩
            refine r_aload_n dX1_has_30 rfl ?_
            refine m_get0 dX1_has_31 ?_
            refine r_iload_n dX1_has_34 rfl ?_
            refine r_sipushN (q := 576) dX1_has_35 rfl (by decide) ?_
            refine r_imulN dX1_has_38 ?_
            refine r_iload_n dX1_has_39 rfl ?_
            refine r_bipushN (q := 24) dX1_has_40 rfl (by decide) ?_
            refine r_imulN dX1_has_42 ?_
            refine r_iaddN dX1_has_43 ?_
            refine r_iload_n dX1_has_44 rfl ?_
            refine r_iaddN dX1_has_45 ?_
            refine m_ald0 dX1_has_46 (by omega) ?_
            refine ret _ _ _ dX1_has_47 ?_
            rw [hM.xy hr (by omega) (by omega)]
            unfold qHas
            rw [h1, decide_eq_true (by omega), Int.toNat_natCast, Int.toNat_natCast, Int.toNat_natCast]
            rfl
          · exact hno (hno2 (by omega))
/-- rows y and z are on the screen and equal -/
def eqW (T : Nat → Nat → Bool) (y z : Int) : Bool := decide (0 ≤ y ∧ 0 ≤ z ∧ y ≤ 23 ∧ z ≤ 23) && (List.range 24).all (fun x => T x y.toNat == T x z.toNat)
theorem eqW_iff {T : Nat → Nat → Bool} {y z : Int} : eqW T y z = true ↔ (0 ≤ y ∧ 0 ≤ z ∧ y ≤ 23 ∧ z ≤ 23) ∧ ∀ x, x < 24 → T x y.toNat = T x z.toNat := by
  unfold eqW
  rw [Bool.and_eq_true, decide_eq_true_iff, List.all_eq_true]
  simp only [List.mem_range, beq_iff_eq]
theorem eqW_t {T : Nat → Nat → Bool} {y z : Int} (h : (0 ≤ y ∧ 0 ≤ z ∧ y ≤ 23 ∧ z ≤ 23) ∧ ∀ x, x < 24 → T x y.toNat = T x z.toNat) : eqW T y z = true := eqW_iff.mpr h
theorem eqW_f {T : Nat → Nat → Bool} {y z : Int} (h : ¬ ((0 ≤ y ∧ 0 ≤ z ∧ y ≤ 23 ∧ z ≤ 23) ∧ ∀ x, x < 24 → T x y.toNat = T x z.toNat)) : eqW T y z = false := by
  cases e : eqW T y z with
  | false => rfl
  | true => exact absurd (eqW_iff.mp e) h
theorem n_equalRows (o : Ox) (f : Ff) (S : Sx) (hM : MI f S) (r : Nat) (hr : r < 3) (y z : Int) (hy : -2147483648 ≤ y ∧ y < 2147483648) (hz : -2147483648 ≤ z ∧ z < 2147483648) : mI yX1_equalRows cX1_equalRows 5 .boolean rmB o f [.int (zI (r : Int)), .int (zI y), .int (zI z)] (fun v => v = zI (bI (eqW (S r) y z))) := by
  refine m_metI (lv0 := [some (.ref o.2.1), some (.int (zI (r : Int))), some (.int (zI y)), some (.int (zI z)), none]) (by decide) rfl rfl (Nat.le_of_ble_eq_true rfl) rfl (fun v h => by rw [h]; exact bI_nar _) (fun K ret => ?_)
  have hno : ¬ (0 ≤ y ∧ 0 ≤ z ∧ y ≤ 23 ∧ z ≤ 23) → bW K o.1 rmB RX1 cX1_equalRows 5 (wM o f) 20 [some (.ref o.2.1), some (.int (zI (r : Int))), some (.int (zI y)), some (.int (zI z)), none] [] := by
    intro hh
    refine r_iconstN (q := 0) dX1_equalRows_20 rfl ?_
    exact ret _ _ _ dX1_equalRows_21 (by rw [eqW_f (T := S r) (y := y) (z := z) (fun h => hh h.1)]; rfl)
  refine r_iload_n dX1_equalRows_0 rfl ?_
  refine r_if_lt (tgt := 20) dX1_equalRows_1 (by decide) (by omega) (fun h1 => ?_) (fun h1 => ?_)
  · exact hno (by omega)
  · refine r_iload_n dX1_equalRows_4 rfl ?_
    refine r_if_lt (tgt := 20) dX1_equalRows_5 (by decide) (by omega) (fun h2 => ?_) (fun h2 => ?_)
    · exact hno (by omega)
    · refine r_iload_n dX1_equalRows_8 rfl ?_
      refine r_bipushN (q := 23) dX1_equalRows_9 rfl (by decide) ?_
      refine r_icmp_gt (tgt := 20) dX1_equalRows_11 (by decide) (by omega) (by omega) (fun h3 => ?_) (fun h3 => ?_)
      · exact hno (by omega)
      · refine r_iload_n dX1_equalRows_14 rfl ?_
        refine r_bipushN (q := 23) dX1_equalRows_15 rfl (by decide) ?_
        refine r_icmp_le (tgt := 22) dX1_equalRows_17 (by decide) (by omega) (by omega) (fun h4 => ?_) (fun h4 => ?_)
        · obtain ⟨y', rfl⟩ : ∃ n : Nat, y = (n : Int) := ⟨y.toNat, by omega⟩
          obtain ⟨z', rfl⟩ : ∃ n : Nat, z = (n : Int) := ⟨z.toNat, by omega⟩
          have loop : ∀ (m x : Nat), x + m = 24 → (∀ j, j < x → S r j y' = S r j z') → bW K o.1 rmB RX1 cX1_equalRows 5 (wM o f) 25 [some (.ref o.2.1), some (.int (zI (r : Int))), some (.int (zI (y' : Int))), some (.int (zI (z' : Int))), some (.int (zI (x : Int)))] [] := by
            intro m
            induction m with
            | zero =>
              intro x hx hj
              refine r_iload dX1_equalRows_25 rfl ?_
              refine r_bipushN (q := 24) dX1_equalRows_27 rfl (by decide) ?_
              refine r_icmp_geN (tgt := 79) dX1_equalRows_29 (by decide) (by omega) (by omega) (fun h5 => ?_) (fun h5 => ?_)
              · refine r_iconstN (q := 1) dX1_equalRows_79 rfl ?_
                refine ret _ _ _ dX1_equalRows_80 ?_
                rw [eqW_t (T := S r) (y := (y' : Int)) (z := (z' : Int)) ⟨by omega, fun j hj2 => by rw [Int.toNat_natCast, Int.toNat_natCast]; exact hj j (by omega)⟩]
                rfl
              · exact absurd h5 (by omega)
            | succ m ih =>
              intro x hx hj
              refine r_iload dX1_equalRows_25 rfl ?_
              refine r_bipushN (q := 24) dX1_equalRows_27 rfl (by decide) ?_
              refine r_icmp_geN (tgt := 79) dX1_equalRows_29 (by decide) (by omega) (by omega) (fun h5 => ?_) (fun h5 => ?_)
              · exact absurd h5 (by omega)
              · refine r_aload_n dX1_equalRows_32 rfl ?_
                refine m_get0 dX1_equalRows_33 ?_
                refine r_iload_n dX1_equalRows_36 rfl ?_
                refine r_sipushN (q := 576) dX1_equalRows_37 rfl (by decide) ?_
                refine r_imulN dX1_equalRows_40 ?_
                refine r_iload_n dX1_equalRows_41 rfl ?_
                refine r_bipushN (q := 24) dX1_equalRows_42 rfl (by decide) ?_
                refine r_imulN dX1_equalRows_44 ?_
                refine r_iaddN dX1_equalRows_45 ?_
                refine r_iload dX1_equalRows_46 rfl ?_
                refine r_iaddN dX1_equalRows_48 ?_
                refine m_ald0 dX1_equalRows_49 (by omega) ?_
                refine r_aload_n dX1_equalRows_50 rfl ?_
                refine m_get0 dX1_equalRows_51 ?_
                refine r_iload_n dX1_equalRows_54 rfl ?_
                refine r_sipushN (q := 576) dX1_equalRows_55 rfl (by decide) ?_
                refine r_imulN dX1_equalRows_58 ?_
                refine r_iload_n dX1_equalRows_59 rfl ?_
                refine r_bipushN (q := 24) dX1_equalRows_60 rfl (by decide) ?_
                refine r_imulN dX1_equalRows_62 ?_
                refine r_iaddN dX1_equalRows_63 ?_
                refine r_iload dX1_equalRows_64 rfl ?_
                refine r_iaddN dX1_equalRows_66 ?_
                refine m_ald0 dX1_equalRows_67 (by omega) ?_
                have e1 := hM.xy hr (show x < 24 by omega) (show y' < 24 by omega)
                have e2 := hM.xy hr (show x < 24 by omega) (show z' < 24 by omega)
                refine r_icmp_eqB (tgt := 73) dX1_equalRows_68 (by decide) (fun h6 => ?_) (fun h6 => ?_)
                · rw [e1, e2] at h6
                  refine r_iincN (q := 1) dX1_equalRows_73 rfl rfl (by decide) rfl ?_
                  refine r_goto (tgt := 25) dX1_equalRows_76 (by decide) ?_
                  exact ih (x + 1) (by omega) (fun j hj2 => by
                    by_cases e : j = x
                    · subst e
                      exact h6
                    · exact hj j (by omega))
                · rw [e1, e2] at h6
                  refine r_iconstN (q := 0) dX1_equalRows_71 rfl ?_
                  refine ret _ _ _ dX1_equalRows_72 ?_
                  rw [eqW_f (T := S r) (y := (y' : Int)) (z := (z' : Int)) (fun h => h6 (by have := h.2 x (by omega); rw [Int.toNat_natCast, Int.toNat_natCast] at this; exact this))]
                  rfl
          refine r_iconstN (q := 0) dX1_equalRows_22 rfl ?_
          refine r_istore dX1_equalRows_23 (by decide) rfl ?_
          exact loop 24 0 (by omega) (fun j hj => absurd hj (by omega))
        · exact hno (by omega)
end
section
/-! BandRegionModel: box, combine, move, invert, same, covers -/
set_option maxRecDepth 100000
/-- the first n cells of region r are T's, all others S's -/
def prt (S : Sx) (r n : Nat) (T : Nat → Nat → Bool) : Sx := fun q x y => if q = r ∧ y * 24 + x < n then T x y else S q x y
theorem MI.p0 {f : Ff} {S : Sx} {r : Nat} {T : Nat → Nat → Bool} (h : MI f S) : MI f (prt S r 0 T) := by
  intro q i hq hi
  unfold prt
  rw [if_neg (by omega)]
  exact h q i hq hi
theorem MI.pE {f : Ff} {S : Sx} {r : Nat} {T : Nat → Nat → Bool} (h : MI f (prt S r 576 T)) : MI f (setS S r T) := by
  intro q i hq hi
  rw [h q i hq hi]
  unfold prt setS
  by_cases e : q = r
  · rw [if_pos ⟨e, by omega⟩, if_pos e]
  · rw [if_neg (fun h => e h.1), if_neg e]
theorem MI.st {f : Ff} {S : Sx} {r n : Nat} {T : Nat → Nat → Bool} {v : Bool} (h : MI f (prt S r n T)) (hr : r < 3) (hn : n < 576) (hv : v = T (n % 24) (n / 24)) : MI (upB f 0 (r * 576 + n) v) (prt S r (n + 1) T) := by
  intro q i hq hi
  by_cases e : q = r ∧ i = n
  · obtain ⟨rfl, rfl⟩ := e
    rw [upB_s]
    unfold prt
    rw [if_pos ⟨rfl, by omega⟩]
    exact hv
  · rw [upB_n (by omega), h q i hq hi]
    unfold prt
    by_cases e2 : q = r ∧ i / 24 * 24 + i % 24 < n
    · rw [if_pos e2, if_pos ⟨e2.1, by omega⟩]
    · rw [if_neg e2, if_neg (by omega)]
theorem MI.old {f : Ff} {S : Sx} {r n : Nat} {T : Nat → Nat → Bool} (h : MI f (prt S r n T)) (hr : r < 3) (hn : n < 576) : f 0 (r * 576 + n) = S r (n % 24) (n / 24) := by
  rw [h r n hr hn]
  unfold prt
  rw [if_neg (by omega)]
theorem MI.w {f : Ff} {S : Sx} {n : Nat} {v : Bool} (h : MI f S) : MI (upB f 1 n v) S := by
  intro q i hq hi
  rw [upB_k (by decide)]
  exact h q i hq hi
theorem qArea_set {S : Sx} {r : Nat} {T : Nat → Nat → Bool} (hr : r < 3) : qArea (setS S r T) (r : Int) = ((cnt T : Nat) : Int) := by
  unfold qArea
  rw [if_neg (by rw [badZ_f (by omega)]; decide), Int.toNat_natCast]
  unfold setS
  rw [if_pos rfl]
set_option maxHeartbeats 4000000 in
theorem n_box (o : Ox) (f : Ff) (S : Sx) (hM : MI f S) (z k : Int) (c s : Int32) (hz : -2147483648 ≤ z ∧ z < 2147483648) (hk : -2147483648 ≤ k ∧ k < 2147483648) : mC yX1_box cX1_box 9 .int rmC o f [.int (zI z), .int (zI k), .int c, .int s] (fun v u => v = zI (opBox S z k c s).1 ∧ MI u (opBox S z k c s).2) := by
  refine m_metC (lv0 := [some (.ref o.2.1), some (.int (zI z)), some (.int (zI k)), some (.int c), some (.int s), none, none, none, none]) (by decide) rfl rfl (Nat.le_of_ble_eq_true rfl) rfl (fun v u h => rfl) (fun K ret => ?_)
  refine r_aload_n dX1_box_0 rfl ?_
  refine r_iload_n dX1_box_1 rfl ?_
  refine m_callI (n_bad o f z hz) gw_X1_bad cf_X1_bad ⟨rfl, rfl, by decide, by decide⟩ rfl dX1_box_2 rfl (Nat.le_of_ble_eq_true rfl) (fun v hv => ?_)
  obtain rfl := hv
  refine r_if_eqB (tgt := 10) dX1_box_5 (by decide) (fun h1 => ?_) (fun h1 => ?_)
  · have hbk : (k < 0 ∨ 3 < k) → bW K o.1 rmC RX1 cX1_box 9 (wM o f) 19 [some (.ref o.2.1), some (.int (zI z)), some (.int (zI k)), some (.int c), some (.int s), none, none, none, none] [] := by
      intro hh
      refine r_bipush dX1_box_19 (by decide) (by decide) ?_
      refine ret _ _ _ _ dX1_box_21 ?_
      unfold opBox
      rw [if_neg (by rw [h1]; decide), if_pos hh]
      exact ⟨rfl, hM⟩
    refine r_iload_n dX1_box_10 rfl ?_
    refine r_if_lt (tgt := 19) dX1_box_11 (by decide) (by omega) (fun h2 => ?_) (fun h2 => ?_)
    · exact hbk (Or.inl h2)
    · refine r_iload_n dX1_box_14 rfl ?_
      refine r_iconstN (q := 3) dX1_box_15 rfl ?_
      refine r_icmp_le (tgt := 22) dX1_box_16 (by decide) (by omega) (by omega) (fun h3 => ?_) (fun h3 => ?_)
      · obtain ⟨r, hr, rfl⟩ := bad_r h1
        obtain ⟨kd, rfl⟩ : ∃ n : Nat, k = (n : Int) := ⟨k.toNat, by omega⟩
        have hop : opBox S (r : Int) (kd : Int) c s = modS S r (fun x y => mixB kd (S r x y) (boxS c s x y)) := by
          unfold opBox
          rw [if_neg (by rw [h1]; decide), if_neg (by omega), Int.toNat_natCast, Int.toNat_natCast]
        rw [hop] at ret
        have outer : ∀ (m y : Nat) (f : Ff) (t6 t7 t8 : Option Value), y + m = 24 → MI f (prt S r (y * 24) (fun x y => mixB kd (S r x y) (boxS c s x y))) → bW K o.1 rmC RX1 cX1_box 9 (wM o f) 25 [some (.ref o.2.1), some (.int (zI (r : Int))), some (.int (zI (kd : Int))), some (.int c), some (.int s), some (.int (zI (y : Int))), t6, t7, t8] [] := by
          intro m
          induction m with
          | zero =>
            intro y f t6 t7 t8 hy hMf
            obtain rfl : y = 24 := by omega
            refine r_iload dX1_box_25 rfl ?_
            refine r_bipushN (q := 24) dX1_box_27 rfl (by decide) ?_
            refine r_icmp_geN (tgt := 104) dX1_box_29 (by decide) (by omega) (by omega) (fun h4 => ?_) (fun h4 => ?_)
            · refine r_aload_n dX1_box_104 rfl ?_
              refine r_iload_n dX1_box_105 rfl ?_
              refine m_callI (n_area o f _ (MI.pE hMf) (r : Int) (by omega)) gw_X1_area cf_X1_area ⟨rfl, rfl, by decide, by decide⟩ rfl dX1_box_106 rfl (Nat.le_of_ble_eq_true rfl) (fun v hv => ?_)
              refine ret _ _ _ _ dX1_box_109 ⟨?_, MI.pE hMf⟩
              rw [hv, qArea_set hr]
              rfl
            · exact absurd h4 (by omega)
          | succ m ih =>
            intro y f t6 t7 t8 hy hMf
            have inner : ∀ (n x : Nat) (f : Ff) (t7 t8 : Option Value), x + n = 24 → MI f (prt S r (y * 24 + x) (fun x y => mixB kd (S r x y) (boxS c s x y))) → bW K o.1 rmC RX1 cX1_box 9 (wM o f) 35 [some (.ref o.2.1), some (.int (zI (r : Int))), some (.int (zI (kd : Int))), some (.int c), some (.int s), some (.int (zI (y : Int))), some (.int (zI (x : Int))), t7, t8] [] := by
              intro n
              induction n with
              | zero =>
                intro x f t7 t8 hx hMx
                obtain rfl : x = 24 := by omega
                refine r_iload dX1_box_35 rfl ?_
                refine r_bipushN (q := 24) dX1_box_37 rfl (by decide) ?_
                refine r_icmp_geN (tgt := 98) dX1_box_39 (by decide) (by omega) (by omega) (fun h4 => ?_) (fun h4 => ?_)
                · refine r_iincN (q := 1) dX1_box_98 rfl rfl (by decide) rfl ?_
                  refine r_goto (tgt := 25) dX1_box_101 (by decide) ?_
                  exact ih (y + 1) f _ _ _ (by omega) (by rw [show (y + 1) * 24 = y * 24 + 24 by omega]; exact hMx)
                · exact absurd h4 (by omega)
              | succ n ih2 =>
                intro x f t7 t8 hx hMx
                refine r_iload dX1_box_35 rfl ?_
                refine r_bipushN (q := 24) dX1_box_37 rfl (by decide) ?_
                refine r_icmp_geN (tgt := 98) dX1_box_39 (by decide) (by omega) (by omega) (fun h4 => ?_) (fun h4 => ?_)
                · exact absurd h4 (by omega)
                · have hold := MI.old hMx hr (by omega)
                  rw [show (y * 24 + x) % 24 = x by omega, show (y * 24 + x) / 24 = y by omega] at hold
                  refine r_iload_n dX1_box_42 rfl ?_
                  refine r_sipushN (q := 576) dX1_box_43 rfl (by decide) ?_
                  refine r_imulN dX1_box_46 ?_
                  refine r_iload dX1_box_47 rfl ?_
                  refine r_bipushN (q := 24) dX1_box_49 rfl (by decide) ?_
                  refine r_imulN dX1_box_51 ?_
                  refine r_iaddN dX1_box_52 ?_
                  refine r_iload dX1_box_53 rfl ?_
                  refine r_iaddN dX1_box_55 ?_
                  refine r_top (y := ((r * 576 + (y * 24 + x) : Nat) : Int)) (by omega) ?_
                  refine r_istore dX1_box_56 (by decide) rfl ?_
                  refine r_aload_n dX1_box_58 rfl ?_
                  refine r_iload dX1_box_59 rfl ?_
                  refine r_iload dX1_box_61 rfl ?_
                  refine r_iload_n dX1_box_63 rfl ?_
                  refine r_iload dX1_box_64 rfl ?_
                  refine m_callI (n_inBox o f x y c s (by omega) (by omega)) gw_X1_inBox cf_X1_inBox ⟨rfl, rfl, by decide, by decide⟩ rfl dX1_box_66 rfl (Nat.le_of_ble_eq_true rfl) (fun v hv => ?_)
                  obtain rfl := hv
                  refine r_istore dX1_box_69 (by decide) rfl ?_
                  refine r_aload_n dX1_box_71 rfl ?_
                  refine m_get0 dX1_box_72 ?_
                  refine r_iload dX1_box_75 rfl ?_
                  refine r_aload_n dX1_box_77 rfl ?_
                  refine r_aload_n dX1_box_78 rfl ?_
                  refine m_get0 dX1_box_79 ?_
                  refine r_iload dX1_box_82 rfl ?_
                  refine m_ald0 dX1_box_84 (by omega) ?_
                  refine r_iload dX1_box_85 rfl ?_
                  refine r_iload_n dX1_box_87 rfl ?_
                  refine m_callI (n_mixed o f _ _ kd (by omega)) gw_X1_mixed cf_X1_mixed ⟨rfl, rfl, by decide, by decide⟩ rfl dX1_box_88 rfl (Nat.le_of_ble_eq_true rfl) (fun v hv => ?_)
                  obtain rfl := hv
                  refine m_ast0 dX1_box_91 (by omega) ?_
                  refine r_iincN (q := 1) dX1_box_92 rfl rfl (by decide) rfl ?_
                  refine r_goto (tgt := 35) dX1_box_95 (by decide) ?_
                  refine ih2 (x + 1) _ _ _ (by omega) (MI.st hMx hr (by omega) ?_)
                  rw [hold, show (y * 24 + x) % 24 = x by omega, show (y * 24 + x) / 24 = y by omega]
            refine r_iload dX1_box_25 rfl ?_
            refine r_bipushN (q := 24) dX1_box_27 rfl (by decide) ?_
            refine r_icmp_geN (tgt := 104) dX1_box_29 (by decide) (by omega) (by omega) (fun h4 => ?_) (fun h4 => ?_)
            · exact absurd h4 (by omega)
            · refine r_iconstN (q := 0) dX1_box_32 rfl ?_
              refine r_istore dX1_box_33 (by decide) rfl ?_
              exact inner 24 0 f _ _ (by omega) hMf
        refine r_iconstN (q := 0) dX1_box_22 rfl ?_
        refine r_istore dX1_box_23 (by decide) rfl ?_
        exact outer 24 0 f _ _ _ (by omega) (MI.p0 hM)
      · exact hbk (Or.inr (by omega))
  · refine r_iconst dX1_box_8 ?_
    refine ret _ _ _ _ dX1_box_9 ?_
    unfold opBox
    rw [if_pos h1]
    exact ⟨rfl, hM⟩
set_option maxHeartbeats 4000000 in
theorem n_combine (o : Ox) (f : Ff) (S : Sx) (hM : MI f S) (z a b k : Int) (hz : -2147483648 ≤ z ∧ z < 2147483648) (ha : -2147483648 ≤ a ∧ a < 2147483648) (hb : -2147483648 ≤ b ∧ b < 2147483648) (hk : -2147483648 ≤ k ∧ k < 2147483648) : mC yX1_combine cX1_combine 6 .int rmC o f [.int (zI z), .int (zI a), .int (zI b), .int (zI k)] (fun v u => v = zI (opComb S z a b k).1 ∧ MI u (opComb S z a b k).2) := by
  refine m_metC (lv0 := [some (.ref o.2.1), some (.int (zI z)), some (.int (zI a)), some (.int (zI b)), some (.int (zI k)), none]) (by decide) rfl rfl (Nat.le_of_ble_eq_true rfl) rfl (fun v u h => rfl) (fun K ret => ?_)
  have hbb : (badZ z = true ∨ badZ a = true ∨ badZ b = true) → bW K o.1 rmC RX1 cX1_combine 6 (wM o f) 24 [some (.ref o.2.1), some (.int (zI z)), some (.int (zI a)), some (.int (zI b)), some (.int (zI k)), none] [] := by
    intro hh
    refine r_iconst dX1_combine_24 ?_
    refine ret _ _ _ _ dX1_combine_25 ?_
    unfold opComb
    rw [if_pos hh]
    exact ⟨rfl, hM⟩
  refine r_aload_n dX1_combine_0 rfl ?_
  refine r_iload_n dX1_combine_1 rfl ?_
  refine m_callI (n_bad o f z hz) gw_X1_bad cf_X1_bad ⟨rfl, rfl, by decide, by decide⟩ rfl dX1_combine_2 rfl (Nat.le_of_ble_eq_true rfl) (fun v hv => ?_)
  obtain rfl := hv
  refine r_if_neB (tgt := 24) dX1_combine_5 (by decide) (fun h1 => ?_) (fun h1 => ?_)
  · exact hbb (Or.inl h1)
  · refine r_aload_n dX1_combine_8 rfl ?_
    refine r_iload_n dX1_combine_9 rfl ?_
    refine m_callI (n_bad o f a ha) gw_X1_bad cf_X1_bad ⟨rfl, rfl, by decide, by decide⟩ rfl dX1_combine_10 rfl (Nat.le_of_ble_eq_true rfl) (fun v hv => ?_)
    obtain rfl := hv
    refine r_if_neB (tgt := 24) dX1_combine_13 (by decide) (fun h2 => ?_) (fun h2 => ?_)
    · exact hbb (Or.inr (Or.inl h2))
    · refine r_aload_n dX1_combine_16 rfl ?_
      refine r_iload_n dX1_combine_17 rfl ?_
      refine m_callI (n_bad o f b hb) gw_X1_bad cf_X1_bad ⟨rfl, rfl, by decide, by decide⟩ rfl dX1_combine_18 rfl (Nat.le_of_ble_eq_true rfl) (fun v hv => ?_)
      obtain rfl := hv
      refine r_if_eqB (tgt := 26) dX1_combine_21 (by decide) (fun h3 => ?_) (fun h3 => ?_)
      · have hno : ¬ (badZ z = true ∨ badZ a = true ∨ badZ b = true) := by rw [h1, h2, h3]; decide
        have hbk : (k < 0 ∨ 3 < k) → bW K o.1 rmC RX1 cX1_combine 6 (wM o f) 37 [some (.ref o.2.1), some (.int (zI z)), some (.int (zI a)), some (.int (zI b)), some (.int (zI k)), none] [] := by
          intro hh
          refine r_bipush dX1_combine_37 (by decide) (by decide) ?_
          refine ret _ _ _ _ dX1_combine_39 ?_
          unfold opComb
          rw [if_neg hno, if_pos hh]
          exact ⟨rfl, hM⟩
        refine r_iload dX1_combine_26 rfl ?_
        refine r_if_lt (tgt := 37) dX1_combine_28 (by decide) (by omega) (fun h4 => ?_) (fun h4 => ?_)
        · exact hbk (Or.inl h4)
        · refine r_iload dX1_combine_31 rfl ?_
          refine r_iconstN (q := 3) dX1_combine_33 rfl ?_
          refine r_icmp_le (tgt := 40) dX1_combine_34 (by decide) (by omega) (by omega) (fun h5 => ?_) (fun h5 => ?_)
          · obtain ⟨r, hr, rfl⟩ := bad_r h1
            obtain ⟨ra, hra, rfl⟩ := bad_r h2
            obtain ⟨rb, hrb, rfl⟩ := bad_r h3
            obtain ⟨kd, rfl⟩ : ∃ n : Nat, k = (n : Int) := ⟨k.toNat, by omega⟩
            have hop : opComb S (r : Int) (ra : Int) (rb : Int) (kd : Int) = modS S r (fun x y => mixB kd (S ra x y) (S rb x y)) := by
              unfold opComb
              rw [if_neg hno, if_neg (by omega), Int.toNat_natCast, Int.toNat_natCast, Int.toNat_natCast, Int.toNat_natCast]
            rw [hop] at ret
            have loop2 : ∀ (m i : Nat) (f : Ff), i + m = 576 → (∀ j, j < 576 → f 1 j = mixB kd (S ra (j % 24) (j / 24)) (S rb (j % 24) (j / 24))) → MI f (prt S r i (fun x y => mixB kd (S ra x y) (S rb x y))) → bW K o.1 rmC RX1 cX1_combine 6 (wM o f) 99 [some (.ref o.2.1), some (.int (zI (r : Int))), some (.int (zI (ra : Int))), some (.int (zI (rb : Int))), some (.int (zI (kd : Int))), some (.int (zI (i : Int)))] [] := by
              intro m
              induction m with
              | zero =>
                intro i f hi hw hMf
                obtain rfl : i = 576 := by omega
                refine r_iload dX1_combine_99 rfl ?_
                refine r_sipushN (q := 576) dX1_combine_101 rfl (by decide) ?_
                refine r_icmp_geN (tgt := 133) dX1_combine_104 (by decide) (by omega) (by omega) (fun h6 => ?_) (fun h6 => ?_)
                · refine r_aload_n dX1_combine_133 rfl ?_
                  refine r_iload_n dX1_combine_134 rfl ?_
                  refine m_callI (n_area o f _ (MI.pE hMf) (r : Int) (by omega)) gw_X1_area cf_X1_area ⟨rfl, rfl, by decide, by decide⟩ rfl dX1_combine_135 rfl (Nat.le_of_ble_eq_true rfl) (fun v hv => ?_)
                  refine ret _ _ _ _ dX1_combine_138 ⟨?_, MI.pE hMf⟩
                  rw [hv, qArea_set hr]
                  rfl
                · exact absurd h6 (by omega)
              | succ m ih =>
                intro i f hi hw hMf
                refine r_iload dX1_combine_99 rfl ?_
                refine r_sipushN (q := 576) dX1_combine_101 rfl (by decide) ?_
                refine r_icmp_geN (tgt := 133) dX1_combine_104 (by decide) (by omega) (by omega) (fun h6 => ?_) (fun h6 => ?_)
                · exact absurd h6 (by omega)
                · refine r_aload_n dX1_combine_107 rfl ?_
                  refine m_get0 dX1_combine_108 ?_
                  refine r_iload_n dX1_combine_111 rfl ?_
                  refine r_sipushN (q := 576) dX1_combine_112 rfl (by decide) ?_
                  refine r_imulN dX1_combine_115 ?_
                  refine r_iload dX1_combine_116 rfl ?_
                  refine r_iaddN dX1_combine_118 ?_
                  refine r_aload_n dX1_combine_119 rfl ?_
                  refine m_get1 dX1_combine_120 ?_
                  refine r_iload dX1_combine_123 rfl ?_
                  refine m_ald1 dX1_combine_125 (by omega) ?_
                  refine m_ast0 dX1_combine_126 (by omega) ?_
                  refine r_iincN (q := 1) dX1_combine_127 rfl rfl (by decide) rfl ?_
                  refine r_goto (tgt := 99) dX1_combine_130 (by decide) ?_
                  refine ih (i + 1) _ (by omega) (fun j hj => ?_) (MI.st hMf hr (by omega) (hw i (by omega)))
                  rw [upB_k (by decide)]
                  exact hw j hj
            have loop1 : ∀ (m i : Nat) (f : Ff), i + m = 576 → (∀ j, j < i → f 1 j = mixB kd (S ra (j % 24) (j / 24)) (S rb (j % 24) (j / 24))) → MI f S → bW K o.1 rmC RX1 cX1_combine 6 (wM o f) 43 [some (.ref o.2.1), some (.int (zI (r : Int))), some (.int (zI (ra : Int))), some (.int (zI (rb : Int))), some (.int (zI (kd : Int))), some (.int (zI (i : Int)))] [] := by
              intro m
              induction m with
              | zero =>
                intro i f hi hw hMf
                obtain rfl : i = 576 := by omega
                refine r_iload dX1_combine_43 rfl ?_
                refine r_sipushN (q := 576) dX1_combine_45 rfl (by decide) ?_
                refine r_icmp_geN (tgt := 96) dX1_combine_48 (by decide) (by omega) (by omega) (fun h6 => ?_) (fun h6 => ?_)
                · refine r_iconstN (q := 0) dX1_combine_96 rfl ?_
                  refine r_istore dX1_combine_97 (by decide) rfl ?_
                  exact loop2 576 0 f (by omega) hw (MI.p0 hMf)
                · exact absurd h6 (by omega)
              | succ m ih =>
                intro i f hi hw hMf
                refine r_iload dX1_combine_43 rfl ?_
                refine r_sipushN (q := 576) dX1_combine_45 rfl (by decide) ?_
                refine r_icmp_geN (tgt := 96) dX1_combine_48 (by decide) (by omega) (by omega) (fun h6 => ?_) (fun h6 => ?_)
                · exact absurd h6 (by omega)
                · refine r_aload_n dX1_combine_51 rfl ?_
                  refine m_get1 dX1_combine_52 ?_
                  refine r_iload dX1_combine_55 rfl ?_
                  refine r_aload_n dX1_combine_57 rfl ?_
                  refine r_aload_n dX1_combine_58 rfl ?_
                  refine m_get0 dX1_combine_59 ?_
                  refine r_iload_n dX1_combine_62 rfl ?_
                  refine r_sipushN (q := 576) dX1_combine_63 rfl (by decide) ?_
                  refine r_imulN dX1_combine_66 ?_
                  refine r_iload dX1_combine_67 rfl ?_
                  refine r_iaddN dX1_combine_69 ?_
                  refine m_ald0 dX1_combine_70 (by omega) ?_
                  refine r_aload_n dX1_combine_71 rfl ?_
                  refine m_get0 dX1_combine_72 ?_
                  refine r_iload_n dX1_combine_75 rfl ?_
                  refine r_sipushN (q := 576) dX1_combine_76 rfl (by decide) ?_
                  refine r_imulN dX1_combine_79 ?_
                  refine r_iload dX1_combine_80 rfl ?_
                  refine r_iaddN dX1_combine_82 ?_
                  refine m_ald0 dX1_combine_83 (by omega) ?_
                  refine r_iload dX1_combine_84 rfl ?_
                  refine m_callI (n_mixed o f _ _ kd (by omega)) gw_X1_mixed cf_X1_mixed ⟨rfl, rfl, by decide, by decide⟩ rfl dX1_combine_86 rfl (Nat.le_of_ble_eq_true rfl) (fun v hv => ?_)
                  obtain rfl := hv
                  refine m_ast1 dX1_combine_89 (by omega) ?_
                  refine r_iincN (q := 1) dX1_combine_90 rfl rfl (by decide) rfl ?_
                  refine r_goto (tgt := 43) dX1_combine_93 (by decide) ?_
                  refine ih (i + 1) _ (by omega) (fun j hj => ?_) (MI.w hMf)
                  by_cases e : j = i
                  · subst e
                    rw [upB_s, hMf ra j hra (by omega), hMf rb j hrb (by omega)]
                  · rw [upB_n e]
                    exact hw j (by omega)
            refine r_iconstN (q := 0) dX1_combine_40 rfl ?_
            refine r_istore dX1_combine_41 (by decide) rfl ?_
            exact loop1 576 0 f (by omega) (fun j hj => absurd hj (by omega)) hM
          · exact hbk (Or.inr (by omega))
      · exact hbb (Or.inr (Or.inr h3))
theorem zI_wrap (z : Int) : zI z = zI (z - 4294967296) := by
  rw [← zI_sub, show zI 4294967296 = 0 by decide +kernel]
  simp
theorem wrap24 {x : Nat} {d : Int} (hx : x < 24) (hd : -2147483648 ≤ d ∧ d < 2147483648) : ∃ u : Int, zI ((x : Int) + d) = zI u ∧ (-2147483648 ≤ u ∧ u < 2147483648) ∧ ((0 ≤ u ∧ u < 24) → u = (x : Int) + d) ∧ ((0 ≤ (x : Int) + d ∧ (x : Int) + d < 24) → u = (x : Int) + d) := by
  by_cases h : (x : Int) + d < 2147483648
  · exact ⟨(x : Int) + d, rfl, by omega, fun _ => rfl, fun _ => rfl⟩
  · exact ⟨(x : Int) + d - 4294967296, zI_wrap _, by omega, fun hh => by omega, fun hh => by omega⟩
/-- the cells of the first n are moved -/
def WV (f : Ff) (T : Nat → Nat → Bool) (dx dy : Int) (n : Nat) : Prop := ∀ u v, u < 24 → v < 24 → f 1 (v * 24 + u) = (decide (0 ≤ (u : Int) - dx ∧ (u : Int) - dx < 24 ∧ 0 ≤ (v : Int) - dy ∧ (v : Int) - dy < 24 ∧ ((v : Int) - dy) * 24 + ((u : Int) - dx) < n) && T ((u : Int) - dx).toNat ((v : Int) - dy).toNat)
theorem WV.all {f : Ff} {T : Nat → Nat → Bool} {dx dy : Int} (h : WV f T dx dy 576) : ∀ j, j < 576 → f 1 j = shS T dx dy (j % 24) (j / 24) := by
  intro j hj
  have := h (j % 24) (j / 24) (by omega) (by omega)
  rw [show j / 24 * 24 + j % 24 = j by omega] at this
  rw [this]
  unfold shS
  congr 1
  exact decide_eq_decide.mpr (by omega)
theorem WV.skip {f : Ff} {T : Nat → Nat → Bool} {dx dy : Int} {x y : Nat} (h : WV f T dx dy (y * 24 + x)) (hx : x < 24) (hy : y < 24) (hn : ¬ (0 ≤ (x : Int) + dx ∧ (x : Int) + dx < 24 ∧ 0 ≤ (y : Int) + dy ∧ (y : Int) + dy < 24)) : WV f T dx dy (y * 24 + x + 1) := by
  intro u v hu hv
  rw [h u v hu hv]
  congr 1
  exact decide_eq_decide.mpr (by omega)
theorem WV.put {f : Ff} {T : Nat → Nat → Bool} {dx dy : Int} {x y U V : Nat} {b : Bool} (h : WV f T dx dy (y * 24 + x)) (hx : x < 24) (hy : y < 24) (hU : (U : Int) = (x : Int) + dx) (hV : (V : Int) = (y : Int) + dy) (hU2 : U < 24) (hV2 : V < 24) (hb : b = T x y) : WV (upB f 1 (V * 24 + U) b) T dx dy (y * 24 + x + 1) := by
  intro u v hu hv
  by_cases e : u = U ∧ v = V
  · obtain ⟨rfl, rfl⟩ := e
    rw [upB_s, hb, decide_eq_true (by omega), Bool.true_and, show ((u : Int) - dx).toNat = x by omega, show ((v : Int) - dy).toNat = y by omega]
  · rw [upB_n (by omega), h u v hu hv]
    congr 1
    exact decide_eq_decide.mpr (by omega)
set_option maxHeartbeats 4000000 in
theorem n_move (o : Ox) (f : Ff) (S : Sx) (hM : MI f S) (z dx dy : Int) (hz : -2147483648 ≤ z ∧ z < 2147483648) (hdx : -2147483648 ≤ dx ∧ dx < 2147483648) (hdy : -2147483648 ≤ dy ∧ dy < 2147483648) : mC yX1_move cX1_move 8 .int rmC o f [.int (zI z), .int (zI dx), .int (zI dy)] (fun v u => v = zI (opMove S z dx dy).1 ∧ MI u (opMove S z dx dy).2) := by
  refine m_metC (lv0 := [some (.ref o.2.1), some (.int (zI z)), some (.int (zI dx)), some (.int (zI dy)), none, none, none, none]) (by decide) rfl rfl (Nat.le_of_ble_eq_true rfl) rfl (fun v u h => rfl) (fun K ret => ?_)
  refine r_aload_n dX1_move_0 rfl ?_
  refine r_iload_n dX1_move_1 rfl ?_
  refine m_callI (n_bad o f z hz) gw_X1_bad cf_X1_bad ⟨rfl, rfl, by decide, by decide⟩ rfl dX1_move_2 rfl (Nat.le_of_ble_eq_true rfl) (fun v hv => ?_)
  obtain rfl := hv
  refine r_if_eqB (tgt := 10) dX1_move_5 (by decide) (fun h1 => ?_) (fun h1 => ?_)
  · obtain ⟨r, hr, rfl⟩ := bad_r h1
    have hop : opMove S (r : Int) dx dy = modS S r (shS (S r) dx dy) := by
      unfold opMove
      rw [if_neg (by rw [h1]; decide), Int.toNat_natCast]
    rw [hop] at ret
    have loop3 : ∀ (m i : Nat) (f : Ff) (t5 t6 t7 : Option Value), i + m = 576 → (∀ j, j < 576 → f 1 j = shS (S r) dx dy (j % 24) (j / 24)) → MI f (prt S r i (shS (S r) dx dy)) → bW K o.1 rmC RX1 cX1_move 8 (wM o f) 138 [some (.ref o.2.1), some (.int (zI (r : Int))), some (.int (zI dx)), some (.int (zI dy)), some (.int (zI (i : Int))), t5, t6, t7] [] := by
      intro m
      induction m with
      | zero =>
        intro i f t5 t6 t7 hi hw hMf
        obtain rfl : i = 576 := by omega
        refine r_iload dX1_move_138 rfl ?_
        refine r_sipushN (q := 576) dX1_move_140 rfl (by decide) ?_
        refine r_icmp_geN (tgt := 172) dX1_move_143 (by decide) (by omega) (by omega) (fun h2 => ?_) (fun h2 => ?_)
        · refine r_aload_n dX1_move_172 rfl ?_
          refine r_iload_n dX1_move_173 rfl ?_
          refine m_callI (n_area o f _ (MI.pE hMf) (r : Int) (by omega)) gw_X1_area cf_X1_area ⟨rfl, rfl, by decide, by decide⟩ rfl dX1_move_174 rfl (Nat.le_of_ble_eq_true rfl) (fun v hv => ?_)
          refine ret _ _ _ _ dX1_move_177 ⟨?_, MI.pE hMf⟩
          rw [hv, qArea_set hr]
          rfl
        · exact absurd h2 (by omega)
      | succ m ih =>
        intro i f t5 t6 t7 hi hw hMf
        refine r_iload dX1_move_138 rfl ?_
        refine r_sipushN (q := 576) dX1_move_140 rfl (by decide) ?_
        refine r_icmp_geN (tgt := 172) dX1_move_143 (by decide) (by omega) (by omega) (fun h2 => ?_) (fun h2 => ?_)
        · exact absurd h2 (by omega)
        · refine r_aload_n dX1_move_146 rfl ?_
          refine m_get0 dX1_move_147 ?_
          refine r_iload_n dX1_move_150 rfl ?_
          refine r_sipushN (q := 576) dX1_move_151 rfl (by decide) ?_
          refine r_imulN dX1_move_154 ?_
          refine r_iload dX1_move_155 rfl ?_
          refine r_iaddN dX1_move_157 ?_
          refine r_aload_n dX1_move_158 rfl ?_
          refine m_get1 dX1_move_159 ?_
          refine r_iload dX1_move_162 rfl ?_
          refine m_ald1 dX1_move_164 (by omega) ?_
          refine m_ast0 dX1_move_165 (by omega) ?_
          refine r_iincN (q := 1) dX1_move_166 rfl rfl (by decide) rfl ?_
          refine r_goto (tgt := 138) dX1_move_169 (by decide) ?_
          refine ih (i + 1) _ _ _ _ (by omega) (fun j hj => ?_) (MI.st hMf hr (by omega) (hw i (by omega)))
          rw [upB_k (by decide)]
          exact hw j hj
    have outer : ∀ (m y : Nat) (f : Ff) (t5 t6 t7 : Option Value), y + m = 24 → MI f S → WV f (S r) dx dy (y * 24) → bW K o.1 rmC RX1 cX1_move 8 (wM o f) 38 [some (.ref o.2.1), some (.int (zI (r : Int))), some (.int (zI dx)), some (.int (zI dy)), some (.int (zI (y : Int))), t5, t6, t7] [] := by
      intro m
      induction m with
      | zero =>
        intro y f t5 t6 t7 hy hMf hW
        obtain rfl : y = 24 := by omega
        refine r_iload dX1_move_38 rfl ?_
        refine r_bipushN (q := 24) dX1_move_40 rfl (by decide) ?_
        refine r_icmp_geN (tgt := 135) dX1_move_42 (by decide) (by omega) (by omega) (fun h2 => ?_) (fun h2 => ?_)
        · refine r_iconstN (q := 0) dX1_move_135 rfl ?_
          refine r_istore dX1_move_136 (by decide) rfl ?_
          exact loop3 576 0 f _ _ _ (by omega) hW.all (MI.p0 hMf)
        · exact absurd h2 (by omega)
      | succ m ih =>
        intro y f t5 t6 t7 hy hMf hW
        have inner : ∀ (n x : Nat) (f : Ff) (t6 t7 : Option Value), x + n = 24 → MI f S → WV f (S r) dx dy (y * 24 + x) → bW K o.1 rmC RX1 cX1_move 8 (wM o f) 48 [some (.ref o.2.1), some (.int (zI (r : Int))), some (.int (zI dx)), some (.int (zI dy)), some (.int (zI (y : Int))), some (.int (zI (x : Int))), t6, t7] [] := by
          intro n
          induction n with
          | zero =>
            intro x f t6 t7 hx hMf hW
            obtain rfl : x = 24 := by omega
            refine r_iload dX1_move_48 rfl ?_
            refine r_bipushN (q := 24) dX1_move_50 rfl (by decide) ?_
            refine r_icmp_geN (tgt := 129) dX1_move_52 (by decide) (by omega) (by omega) (fun h2 => ?_) (fun h2 => ?_)
            · refine r_iincN (q := 1) dX1_move_129 rfl rfl (by decide) rfl ?_
              refine r_goto (tgt := 38) dX1_move_132 (by decide) ?_
              exact ih (y + 1) f _ _ _ (by omega) hMf (by rw [show (y + 1) * 24 = y * 24 + 24 by omega]; exact hW)
            · exact absurd h2 (by omega)
          | succ n ih2 =>
            intro x f t6 t7 hx hMf hW
            obtain ⟨u, hu, ru, hu1, hu2⟩ := wrap24 (show x < 24 by omega) hdx
            obtain ⟨v, hv, rv, hv1, hv2⟩ := wrap24 (show y < 24 by omega) hdy
            have k123 : ∀ (f : Ff) (t6 t7 : Option Value), MI f S → WV f (S r) dx dy (y * 24 + x + 1) → bW K o.1 rmC RX1 cX1_move 8 (wM o f) 123 [some (.ref o.2.1), some (.int (zI (r : Int))), some (.int (zI dx)), some (.int (zI dy)), some (.int (zI (y : Int))), some (.int (zI (x : Int))), t6, t7] [] := by
              intro f t6 t7 hMf2 hW2
              refine r_iincN (q := 1) dX1_move_123 rfl rfl (by decide) rfl ?_
              refine r_goto (tgt := 48) dX1_move_126 (by decide) ?_
              exact ih2 (x + 1) f _ _ (by omega) hMf2 hW2
            refine r_iload dX1_move_48 rfl ?_
            refine r_bipushN (q := 24) dX1_move_50 rfl (by decide) ?_
            refine r_icmp_geN (tgt := 129) dX1_move_52 (by decide) (by omega) (by omega) (fun h2 => ?_) (fun h2 => ?_)
            · exact absurd h2 (by omega)
            · refine r_iload dX1_move_55 rfl ?_
              refine r_iload_n dX1_move_57 rfl ?_
              refine r_iadd dX1_move_58 ?_
              refine r_top32 hu ?_
              refine r_istore dX1_move_59 (by decide) rfl ?_
              refine r_iload dX1_move_61 rfl ?_
              refine r_iload_n dX1_move_63 rfl ?_
              refine r_iadd dX1_move_64 ?_
              refine r_top32 hv ?_
              refine r_istore dX1_move_65 (by decide) rfl ?_
              refine r_iload dX1_move_67 rfl ?_
              refine r_if_lt (tgt := 123) dX1_move_69 (by decide) (by omega) (fun h3 => ?_) (fun h3 => ?_)
              · exact k123 f _ _ hMf (hW.skip (by omega) (by omega) (by omega))
              · refine r_iload dX1_move_72 rfl ?_
                refine r_bipushN (q := 24) dX1_move_74 rfl (by decide) ?_
                refine r_icmp_ge (tgt := 123) dX1_move_76 (by decide) (by omega) (by omega) (fun h4 => ?_) (fun h4 => ?_)
                · exact k123 f _ _ hMf (hW.skip (by omega) (by omega) (by omega))
                · refine r_iload dX1_move_79 rfl ?_
                  refine r_if_lt (tgt := 123) dX1_move_81 (by decide) (by omega) (fun h5 => ?_) (fun h5 => ?_)
                  · exact k123 f _ _ hMf (hW.skip (by omega) (by omega) (by omega))
                  · refine r_iload dX1_move_84 rfl ?_
                    refine r_bipushN (q := 24) dX1_move_86 rfl (by decide) ?_
                    refine r_icmp_ge (tgt := 123) dX1_move_88 (by decide) (by omega) (by omega) (fun h6 => ?_) (fun h6 => ?_)
                    · exact k123 f _ _ hMf (hW.skip (by omega) (by omega) (by omega))
                    · obtain ⟨U, rfl⟩ : ∃ n : Nat, u = (n : Int) := ⟨u.toNat, by omega⟩
                      obtain ⟨V, rfl⟩ : ∃ n : Nat, v = (n : Int) := ⟨v.toNat, by omega⟩
                      refine r_aload_n dX1_move_91 rfl ?_
                      refine m_get1 dX1_move_92 ?_
                      refine r_iload dX1_move_95 rfl ?_
                      refine r_bipushN (q := 24) dX1_move_97 rfl (by decide) ?_
                      refine r_imulN dX1_move_99 ?_
                      refine r_iload dX1_move_100 rfl ?_
                      refine r_iaddN dX1_move_102 ?_
                      refine r_aload_n dX1_move_103 rfl ?_
                      refine m_get0 dX1_move_104 ?_
                      refine r_iload_n dX1_move_107 rfl ?_
                      refine r_sipushN (q := 576) dX1_move_108 rfl (by decide) ?_
                      refine r_imulN dX1_move_111 ?_
                      refine r_iload dX1_move_112 rfl ?_
                      refine r_bipushN (q := 24) dX1_move_114 rfl (by decide) ?_
                      refine r_imulN dX1_move_116 ?_
                      refine r_iaddN dX1_move_117 ?_
                      refine r_iload dX1_move_118 rfl ?_
                      refine r_iaddN dX1_move_120 ?_
                      refine m_ald0 dX1_move_121 (by omega) ?_
                      refine m_ast1 dX1_move_122 (by omega) ?_
                      exact k123 _ _ _ (MI.w hMf) (hW.put (by omega) (by omega) (hu1 (by omega)) (hv1 (by omega)) (by omega) (by omega) (hMf.xy hr (by omega) (by omega)))
        refine r_iload dX1_move_38 rfl ?_
        refine r_bipushN (q := 24) dX1_move_40 rfl (by decide) ?_
        refine r_icmp_geN (tgt := 135) dX1_move_42 (by decide) (by omega) (by omega) (fun h2 => ?_) (fun h2 => ?_)
        · exact absurd h2 (by omega)
        · refine r_iconstN (q := 0) dX1_move_45 rfl ?_
          refine r_istore dX1_move_46 (by decide) rfl ?_
          exact inner 24 0 f _ _ (by omega) hMf hW
    have loop1 : ∀ (m i : Nat) (f : Ff), i + m = 576 → MI f S → (∀ j, j < i → f 1 j = false) → bW K o.1 rmC RX1 cX1_move 8 (wM o f) 13 [some (.ref o.2.1), some (.int (zI (r : Int))), some (.int (zI dx)), some (.int (zI dy)), some (.int (zI (i : Int))), none, none, none] [] := by
      intro m
      induction m with
      | zero =>
        intro i f hi hMf hw
        obtain rfl : i = 576 := by omega
        refine r_iload dX1_move_13 rfl ?_
        refine r_sipushN (q := 576) dX1_move_15 rfl (by decide) ?_
        refine r_icmp_geN (tgt := 35) dX1_move_18 (by decide) (by omega) (by omega) (fun h2 => ?_) (fun h2 => ?_)
        · refine r_iconstN (q := 0) dX1_move_35 rfl ?_
          refine r_istore dX1_move_36 (by decide) rfl ?_
          refine outer 24 0 f _ _ _ (by omega) hMf (fun u v hu hv => ?_)
          rw [hw _ (by omega), decide_eq_false (by omega), Bool.false_and]
        · exact absurd h2 (by omega)
      | succ m ih =>
        intro i f hi hMf hw
        refine r_iload dX1_move_13 rfl ?_
        refine r_sipushN (q := 576) dX1_move_15 rfl (by decide) ?_
        refine r_icmp_geN (tgt := 35) dX1_move_18 (by decide) (by omega) (by omega) (fun h2 => ?_) (fun h2 => ?_)
        · exact absurd h2 (by omega)
        · refine r_aload_n dX1_move_21 rfl ?_
          refine m_get1 dX1_move_22 ?_
          refine r_iload dX1_move_25 rfl ?_
          refine r_iconstN (q := 0) dX1_move_27 rfl ?_
          refine m_ast1 (v := false) dX1_move_28 (by omega) ?_
          refine r_iincN (q := 1) dX1_move_29 rfl rfl (by decide) rfl ?_
          refine r_goto (tgt := 13) dX1_move_32 (by decide) ?_
          refine ih (i + 1) _ (by omega) (MI.w hMf) (fun j hj => ?_)
          by_cases e : j = i
          · subst e
            exact upB_s
          · rw [upB_n e]
            exact hw j (by omega)
    refine r_iconstN (q := 0) dX1_move_10 rfl ?_
    refine r_istore dX1_move_11 (by decide) rfl ?_
    exact loop1 576 0 f (by omega) hM (fun j hj => absurd hj (by omega))
  · refine r_iconst dX1_move_8 ?_
    refine ret _ _ _ _ dX1_move_9 ?_
    unfold opMove
    rw [if_pos h1]
    exact ⟨rfl, hM⟩
set_option maxHeartbeats 4000000 in
theorem n_invert (o : Ox) (f : Ff) (S : Sx) (hM : MI f S) (z : Int) (hz : -2147483648 ≤ z ∧ z < 2147483648) : mC yX1_invert cX1_invert 3 .int rmC o f [.int (zI z)] (fun v u => v = zI (opInv S z).1 ∧ MI u (opInv S z).2) := by
  refine m_metC (lv0 := [some (.ref o.2.1), some (.int (zI z)), none]) (by decide) rfl rfl (Nat.le_of_ble_eq_true rfl) rfl (fun v u h => rfl) (fun K ret => ?_)
  refine r_aload_n dX1_invert_0 rfl ?_
  refine r_iload_n dX1_invert_1 rfl ?_
  refine m_callI (n_bad o f z hz) gw_X1_bad cf_X1_bad ⟨rfl, rfl, by decide, by decide⟩ rfl dX1_invert_2 rfl (Nat.le_of_ble_eq_true rfl) (fun v hv => ?_)
  obtain rfl := hv
  refine r_if_eqB (tgt := 10) dX1_invert_5 (by decide) (fun h1 => ?_) (fun h1 => ?_)
  · obtain ⟨r, hr, rfl⟩ := bad_r h1
    have hop : opInv S (r : Int) = modS S r (fun x y => !(S r x y)) := by
      unfold opInv
      rw [if_neg (by rw [h1]; decide), Int.toNat_natCast]
    rw [hop] at ret
    have loop : ∀ (m i : Nat) (f : Ff), i + m = 576 → MI f (prt S r i (fun x y => !(S r x y))) → bW K o.1 rmC RX1 cX1_invert 3 (wM o f) 12 [some (.ref o.2.1), some (.int (zI (r : Int))), some (.int (zI (i : Int)))] [] := by
      intro m
      induction m with
      | zero =>
        intro i f hi hMf
        obtain rfl : i = 576 := by omega
        refine r_iload_n dX1_invert_12 rfl ?_
        refine r_sipushN (q := 576) dX1_invert_13 rfl (by decide) ?_
        refine r_icmp_geN (tgt := 57) dX1_invert_16 (by decide) (by omega) (by omega) (fun h2 => ?_) (fun h2 => ?_)
        · refine r_aload_n dX1_invert_57 rfl ?_
          refine r_iload_n dX1_invert_58 rfl ?_
          refine m_callI (n_area o f _ (MI.pE hMf) (r : Int) (by omega)) gw_X1_area cf_X1_area ⟨rfl, rfl, by decide, by decide⟩ rfl dX1_invert_59 rfl (Nat.le_of_ble_eq_true rfl) (fun v hv => ?_)
          refine ret _ _ _ _ dX1_invert_62 ⟨?_, MI.pE hMf⟩
          rw [hv, qArea_set hr]
          rfl
        · exact absurd h2 (by omega)
      | succ m ih =>
        intro i f hi hMf
        refine r_iload_n dX1_invert_12 rfl ?_
        refine r_sipushN (q := 576) dX1_invert_13 rfl (by decide) ?_
        refine r_icmp_geN (tgt := 57) dX1_invert_16 (by decide) (by omega) (by omega) (fun h2 => ?_) (fun h2 => ?_)
        · exact absurd h2 (by omega)
        · have hold := MI.old hMf hr (show i < 576 by omega)
          have k50 : ∀ v : Bool, v = !(f 0 (r * 576 + i)) → bW K o.1 rmC RX1 cX1_invert 3 (wM o f) 50 [some (.ref o.2.1), some (.int (zI (r : Int))), some (.int (zI (i : Int)))] [.int (zI (bI v)), .int (zI ((r * 576 + i : Nat) : Int)), .ref (o.2.2 0)] := by
            intro v hv
            refine m_ast0 (v := v) dX1_invert_50 (by omega) ?_
            refine r_iincN (q := 1) dX1_invert_51 rfl rfl (by decide) rfl ?_
            refine r_goto (tgt := 12) dX1_invert_54 (by decide) ?_
            exact ih (i + 1) _ (by omega) (MI.st hMf hr (by omega) (by rw [hv, hold]))
          refine r_aload_n dX1_invert_19 rfl ?_
          refine m_get0 dX1_invert_20 ?_
          refine r_iload_n dX1_invert_23 rfl ?_
          refine r_sipushN (q := 576) dX1_invert_24 rfl (by decide) ?_
          refine r_imulN dX1_invert_27 ?_
          refine r_iload_n dX1_invert_28 rfl ?_
          refine r_iaddN dX1_invert_29 ?_
          refine r_aload_n dX1_invert_30 rfl ?_
          refine m_get0 dX1_invert_31 ?_
          refine r_iload_n dX1_invert_34 rfl ?_
          refine r_sipushN (q := 576) dX1_invert_35 rfl (by decide) ?_
          refine r_imulN dX1_invert_38 ?_
          refine r_iload_n dX1_invert_39 rfl ?_
          refine r_iaddN dX1_invert_40 ?_
          refine m_ald0 dX1_invert_41 (by omega) ?_
          refine r_if_neB (tgt := 49) dX1_invert_42 (by decide) (fun h3 => ?_) (fun h3 => ?_)
          · refine r_iconstN (q := 0) dX1_invert_49 rfl ?_
            exact k50 false (by rw [h3]; rfl)
          · refine r_iconstN (q := 1) dX1_invert_45 rfl ?_
            refine r_goto (tgt := 50) dX1_invert_46 (by decide) ?_
            exact k50 true (by rw [h3]; rfl)
    refine r_iconstN (q := 0) dX1_invert_10 rfl ?_
    refine r_istore_n dX1_invert_11 (by decide) rfl ?_
    exact loop 576 0 f (by omega) (MI.p0 hM)
  · refine r_iconst dX1_invert_8 ?_
    refine ret _ _ _ _ dX1_invert_9 ?_
    unfold opInv
    rw [if_pos h1]
    exact ⟨rfl, hM⟩
theorem bu_iff {T T' : Nat → Nat → Bool} : bu T 24 = bu T' 24 ↔ ∀ i, i < 576 → T (i % 24) (i / 24) = T' (i % 24) (i / 24) := by
  constructor
  · intro h i hi
    rw [← bu_24 T (show i % 24 < 24 by omega) (show i / 24 < 24 by omega), h, bu_24 T' (by omega) (by omega)]
  · intro h
    refine bu_cg 24 (fun x y hx hy => ?_)
    have := h (y * 24 + x) (by omega)
    rw [show (y * 24 + x) % 24 = x by omega, show (y * 24 + x) / 24 = y by omega] at this
    exact this
theorem n_same (o : Ox) (f : Ff) (S : Sx) (hM : MI f S) (a b : Int) (ha : -2147483648 ≤ a ∧ a < 2147483648) (hb : -2147483648 ≤ b ∧ b < 2147483648) : mI yX1_same cX1_same 4 .boolean rmC o f [.int (zI a), .int (zI b)] (fun v => v = zI (bI (qSame S a b))) := by
  refine m_metI (lv0 := [some (.ref o.2.1), some (.int (zI a)), some (.int (zI b)), none]) (by decide) rfl rfl (Nat.le_of_ble_eq_true rfl) rfl (fun v h => by rw [h]; exact bI_nar _) (fun K ret => ?_)
  have hbad : badZ a = true ∨ badZ b = true → bW K o.1 rmC RX1 cX1_same 4 (wM o f) 16 [some (.ref o.2.1), some (.int (zI a)), some (.int (zI b)), none] [] := by
    intro hh
    refine r_iconstN (q := 0) dX1_same_16 rfl ?_
    refine ret _ _ _ dX1_same_17 ?_
    have : qSame S a b = false := by
      unfold qSame
      rcases hh with h | h
      · rw [h]; rfl
      · rw [h]; simp
    rw [this]
    rfl
  refine r_aload_n dX1_same_0 rfl ?_
  refine r_iload_n dX1_same_1 rfl ?_
  refine m_callI (n_bad o f a ha) gw_X1_bad cf_X1_bad ⟨rfl, rfl, by decide, by decide⟩ rfl dX1_same_2 rfl (Nat.le_of_ble_eq_true rfl) (fun v hv => ?_)
  obtain rfl := hv
  refine r_if_neB (tgt := 16) dX1_same_5 (by decide) (fun h1 => ?_) (fun h1 => ?_)
  · exact hbad (Or.inl h1)
  · refine r_aload_n dX1_same_8 rfl ?_
    refine r_iload_n dX1_same_9 rfl ?_
    refine m_callI (n_bad o f b hb) gw_X1_bad cf_X1_bad ⟨rfl, rfl, by decide, by decide⟩ rfl dX1_same_10 rfl (Nat.le_of_ble_eq_true rfl) (fun v hv => ?_)
    obtain rfl := hv
    refine r_if_eqB (tgt := 18) dX1_same_13 (by decide) (fun h2 => ?_) (fun h2 => ?_)
    · obtain ⟨r, hr, rfl⟩ := bad_r h1
      obtain ⟨q, hq, rfl⟩ := bad_r h2
      have hqs : qSame S (r : Int) (q : Int) = decide (bu (S r) 24 = bu (S q) 24) := by
        unfold qSame
        rw [h1, h2, Int.toNat_natCast, Int.toNat_natCast]
        rfl
      rw [hqs] at ret
      have loop : ∀ (m i : Nat), i + m = 576 → (∀ j, j < i → S r (j % 24) (j / 24) = S q (j % 24) (j / 24)) → bW K o.1 rmC RX1 cX1_same 4 (wM o f) 20 [some (.ref o.2.1), some (.int (zI (r : Int))), some (.int (zI (q : Int))), some (.int (zI (i : Int)))] [] := by
        intro m
        induction m with
        | zero =>
          intro i hi hj
          obtain rfl : i = 576 := by omega
          refine r_iload_n dX1_same_20 rfl ?_
          refine r_sipushN (q := 576) dX1_same_21 rfl (by decide) ?_
          refine r_icmp_geN (tgt := 62) dX1_same_24 (by decide) (by omega) (by omega) (fun h3 => ?_) (fun h3 => ?_)
          · refine r_iconstN (q := 1) dX1_same_62 rfl ?_
            exact ret _ _ _ dX1_same_63 (by rw [decide_eq_true (bu_iff.mpr hj)]; rfl)
          · exact absurd h3 (by omega)
        | succ m ih =>
          intro i hi hj
          refine r_iload_n dX1_same_20 rfl ?_
          refine r_sipushN (q := 576) dX1_same_21 rfl (by decide) ?_
          refine r_icmp_geN (tgt := 62) dX1_same_24 (by decide) (by omega) (by omega) (fun h3 => ?_) (fun h3 => ?_)
          · exact absurd h3 (by omega)
          · refine r_aload_n dX1_same_27 rfl ?_
            refine m_get0 dX1_same_28 ?_
            refine r_iload_n dX1_same_31 rfl ?_
            refine r_sipushN (q := 576) dX1_same_32 rfl (by decide) ?_
            refine r_imulN dX1_same_35 ?_
            refine r_iload_n dX1_same_36 rfl ?_
            refine r_iaddN dX1_same_37 ?_
            refine m_ald0 dX1_same_38 (by omega) ?_
            refine r_aload_n dX1_same_39 rfl ?_
            refine m_get0 dX1_same_40 ?_
            refine r_iload_n dX1_same_43 rfl ?_
            refine r_sipushN (q := 576) dX1_same_44 rfl (by decide) ?_
            refine r_imulN dX1_same_47 ?_
            refine r_iload_n dX1_same_48 rfl ?_
            refine r_iaddN dX1_same_49 ?_
            refine m_ald0 dX1_same_50 (by omega) ?_
            have e1 := hM r i hr (by omega)
            have e2 := hM q i hq (by omega)
            refine r_icmp_eqB (tgt := 56) dX1_same_51 (by decide) (fun h4 => ?_) (fun h4 => ?_)
            · rw [e1, e2] at h4
              refine r_iincN (q := 1) dX1_same_56 rfl rfl (by decide) rfl ?_
              refine r_goto (tgt := 20) dX1_same_59 (by decide) ?_
              exact ih (i + 1) (by omega) (fun j hj2 => by
                by_cases e : j = i
                · subst e
                  exact h4
                · exact hj j (by omega))
            · rw [e1, e2] at h4
              refine r_iconstN (q := 0) dX1_same_54 rfl ?_
              exact ret _ _ _ dX1_same_55 (by rw [decide_eq_false (fun h => h4 (bu_iff.mp h i (by omega)))]; rfl)
      refine r_iconstN (q := 0) dX1_same_18 rfl ?_
      refine r_istore_n dX1_same_19 (by decide) rfl ?_
      exact loop 576 0 (by omega) (fun j hj => absurd hj (by omega))
    · exact hbad (Or.inr h2)
theorem rowN_split (A B : Nat → Bool) : ∀ n, rowN B n = rowN (fun x => A x && B x) n + rowN (fun x => B x && !(A x)) n
  | 0 => rfl
  | n + 1 => by
    have h1 := rowN_split A B n
    have key : ∀ a b : Bool, (if b = true then (1 : Nat) else 0) = (if (a && b) = true then 1 else 0) + (if (b && !a) = true then 1 else 0) := by
      intro a b
      cases a <;> cases b <;> rfl
    have h2 := key (A n) (B n)
    simp only [rowN]
    rw [h1, h2]
    omega
theorem cntN_split (A B : Nat → Nat → Bool) : ∀ n, cntN B n = cntN (fun x y => A x y && B x y) n + cntN (fun x y => B x y && !(A x y)) n
  | 0 => rfl
  | n + 1 => by
    have := cntN_split A B n
    have := rowN_split (fun x => A x n) (fun x => B x n) 24
    simp only [cntN]
    omega
theorem qHas_r {S : Sx} {r x y : Nat} (hr : r < 3) (hx : x < 24) (hy : y < 24) : qHas S (r : Int) (x : Int) (y : Int) = S r x y := by
  unfold qHas
  rw [badZ_f (by omega), decide_eq_true (by omega), Int.toNat_natCast, Int.toNat_natCast, Int.toNat_natCast]
  rfl
set_option maxHeartbeats 4000000 in
theorem n_covers (o : Ox) (f : Ff) (S : Sx) (hM : MI f S) (z : Int) (c s : Int32) (hz : -2147483648 ≤ z ∧ z < 2147483648) : mI yX1_covers cX1_covers 9 .int rmC o f [.int (zI z), .int c, .int s] (fun v => v = zI (qCov S z c s)) := by
  refine m_metI (lv0 := [some (.ref o.2.1), some (.int (zI z)), some (.int c), some (.int s), none, none, none, none, none]) (by decide) rfl rfl (Nat.le_of_ble_eq_true rfl) rfl (fun v h => rfl) (fun K ret => ?_)
  refine r_aload_n dX1_covers_0 rfl ?_
  refine r_iload_n dX1_covers_1 rfl ?_
  refine m_callI (n_bad o f z hz) gw_X1_bad cf_X1_bad ⟨rfl, rfl, by decide, by decide⟩ rfl dX1_covers_2 rfl (Nat.le_of_ble_eq_true rfl) (fun v hv => ?_)
  obtain rfl := hv
  refine r_if_eqB (tgt := 10) dX1_covers_5 (by decide) (fun h1 => ?_) (fun h1 => ?_)
  · obtain ⟨r, hr, rfl⟩ := bad_r h1
    have hq : qCov S (r : Int) c s = if cnt (fun x y => S r x y && boxS c s x y) = 0 then 0 else if cnt (fun x y => S r x y && boxS c s x y) = cnt (boxS c s) then 2 else 1 := by
      unfold qCov
      rw [if_neg (by rw [h1]; decide), Int.toNat_natCast]
    have hsp : cnt (boxS c s) = cnt (fun x y => S r x y && boxS c s x y) + cnt (fun x y => boxS c s x y && !(S r x y)) := cntN_split (S r) (boxS c s) 24
    rw [hq] at ret
    have outer : ∀ (m y a b : Nat) (t7 t8 : Option Value), y + m = 24 → a = cntF (fun x y => S r x y && boxS c s x y) (y * 24) → b = cntF (fun x y => boxS c s x y && !(S r x y)) (y * 24) → a ≤ y * 24 → b ≤ y * 24 → bW K o.1 rmC RX1 cX1_covers 9 (wM o f) 19 [some (.ref o.2.1), some (.int (zI (r : Int))), some (.int c), some (.int s), some (.int (zI (a : Int))), some (.int (zI (b : Int))), some (.int (zI (y : Int))), t7, t8] [] := by
      intro m
      induction m with
      | zero =>
        intro y a b t7 t8 hy ha hb la lb
        obtain rfl : y = 24 := by omega
        have ha2 : a = cnt (fun x y => S r x y && boxS c s x y) := ha.trans (cntF_all _)
        have hb2 : b = cnt (fun x y => boxS c s x y && !(S r x y)) := hb.trans (cntF_all _)
        rw [← ha2, ← hb2] at hsp
        rw [← ha2, hsp] at ret
        refine r_iload dX1_covers_19 rfl ?_
        refine r_bipushN (q := 24) dX1_covers_21 rfl (by decide) ?_
        refine r_icmp_geN (tgt := 100) dX1_covers_23 (by decide) (by omega) (by omega) (fun h2 => ?_) (fun h2 => ?_)
        · refine r_iload dX1_covers_100 rfl ?_
          refine r_if_ne (tgt := 107) dX1_covers_102 (by decide) (by omega) (fun h3 => ?_) (fun h3 => ?_)
          · refine r_iload dX1_covers_107 rfl ?_
            refine r_if_ne (tgt := 116) dX1_covers_109 (by decide) (by omega) (fun h4 => ?_) (fun h4 => ?_)
            · refine r_iconstN (q := 1) dX1_covers_116 rfl ?_
              exact ret _ _ _ dX1_covers_117 (by rw [if_neg (by omega), if_neg (by omega)]; rfl)
            · refine r_iconstN (q := 2) dX1_covers_112 rfl ?_
              refine r_goto (tgt := 117) dX1_covers_113 (by decide) ?_
              exact ret _ _ _ dX1_covers_117 (by rw [if_neg (by omega), if_pos (by omega)]; rfl)
          · refine r_iconstN (q := 0) dX1_covers_105 rfl ?_
            exact ret _ _ _ dX1_covers_106 (by rw [if_pos (by omega)]; rfl)
        · exact absurd h2 (by omega)
      | succ m ih =>
        intro y a b t7 t8 hy ha hb la lb
        have inner : ∀ (n x a b : Nat) (t8 : Option Value), x + n = 24 → a = cntF (fun x y => S r x y && boxS c s x y) (y * 24 + x) → b = cntF (fun x y => boxS c s x y && !(S r x y)) (y * 24 + x) → a ≤ y * 24 + x → b ≤ y * 24 + x → bW K o.1 rmC RX1 cX1_covers 9 (wM o f) 29 [some (.ref o.2.1), some (.int (zI (r : Int))), some (.int c), some (.int s), some (.int (zI (a : Int))), some (.int (zI (b : Int))), some (.int (zI (y : Int))), some (.int (zI (x : Int))), t8] [] := by
          intro n
          induction n with
          | zero =>
            intro x a b t8 hx ha hb la lb
            obtain rfl : x = 24 := by omega
            refine r_iload dX1_covers_29 rfl ?_
            refine r_bipushN (q := 24) dX1_covers_31 rfl (by decide) ?_
            refine r_icmp_geN (tgt := 94) dX1_covers_33 (by decide) (by omega) (by omega) (fun h2 => ?_) (fun h2 => ?_)
            · refine r_iincN (q := 1) dX1_covers_94 rfl rfl (by decide) rfl ?_
              refine r_goto (tgt := 19) dX1_covers_97 (by decide) ?_
              have e : (y + 1) * 24 = y * 24 + 24 := by omega
              exact ih (y + 1) a b _ _ (by omega) (by rw [e]; exact ha) (by rw [e]; exact hb) (by omega) (by omega)
            · exact absurd h2 (by omega)
          | succ n ih2 =>
            intro x a b t8 hx ha hb la lb
            have k88 : ∀ (a2 b2 : Nat) (t8 : Option Value), a2 = a + (if (S r x y && boxS c s x y) = true then 1 else 0) → b2 = b + (if (boxS c s x y && !(S r x y)) = true then 1 else 0) → bW K o.1 rmC RX1 cX1_covers 9 (wM o f) 88 [some (.ref o.2.1), some (.int (zI (r : Int))), some (.int c), some (.int s), some (.int (zI (a2 : Int))), some (.int (zI (b2 : Int))), some (.int (zI (y : Int))), some (.int (zI (x : Int))), t8] [] := by
              intro a2 b2 t8 e1 e2
              refine r_iincN (q := 1) dX1_covers_88 rfl rfl (by decide) rfl ?_
              refine r_goto (tgt := 29) dX1_covers_91 (by decide) ?_
              have ex : (y * 24 + x) % 24 = x := by omega
              have ey : (y * 24 + x) / 24 = y := by omega
              refine ih2 (x + 1) a2 b2 _ (by omega) ?_ ?_ (by split at e1 <;> omega) (by split at e2 <;> omega)
              · show a2 = cntF _ ((y * 24 + x) + 1)
                simp only [cntF]
                rw [ex, ey, e1, ha]
              · show b2 = cntF _ ((y * 24 + x) + 1)
                simp only [cntF]
                rw [ex, ey, e2, hb]
            have k68 : ∀ (a2 : Nat), a2 = a + (if (S r x y && boxS c s x y) = true then 1 else 0) → bW K o.1 rmC RX1 cX1_covers 9 (wM o f) 68 [some (.ref o.2.1), some (.int (zI (r : Int))), some (.int c), some (.int s), some (.int (zI (a2 : Int))), some (.int (zI (b : Int))), some (.int (zI (y : Int))), some (.int (zI (x : Int))), some (.int (zI (bI (boxS c s x y))))] [] := by
              intro a2 e1
              refine r_iload dX1_covers_68 rfl ?_
              refine r_if_eqB (tgt := 88) dX1_covers_70 (by decide) (fun h3 => ?_) (fun h3 => ?_)
              · exact k88 a2 b _ e1 (by rw [h3]; rfl)
              · refine r_aload_n dX1_covers_73 rfl ?_
                refine r_iload_n dX1_covers_74 rfl ?_
                refine r_iload dX1_covers_75 rfl ?_
                refine r_iload dX1_covers_77 rfl ?_
                refine m_callI (n_has o f S hM (r : Int) (x : Int) (y : Int) (by omega) (by omega) (by omega)) gw_X1_has cf_X1_has ⟨rfl, rfl, by decide, by decide⟩ rfl dX1_covers_79 rfl (Nat.le_of_ble_eq_true rfl) (fun v hv => ?_)
                rw [qHas_r hr (by omega) (by omega)] at hv
                obtain rfl := hv
                refine r_if_neB (tgt := 88) dX1_covers_82 (by decide) (fun h4 => ?_) (fun h4 => ?_)
                · exact k88 a2 b _ e1 (by rw [h3, h4]; rfl)
                · refine r_iincN (q := 1) dX1_covers_85 rfl rfl (by decide) rfl ?_
                  exact k88 a2 (b + 1) _ e1 (by rw [h3, h4]; rfl)
            refine r_iload dX1_covers_29 rfl ?_
            refine r_bipushN (q := 24) dX1_covers_31 rfl (by decide) ?_
            refine r_icmp_geN (tgt := 94) dX1_covers_33 (by decide) (by omega) (by omega) (fun h2 => ?_) (fun h2 => ?_)
            · exact absurd h2 (by omega)
            · refine r_aload_n dX1_covers_36 rfl ?_
              refine r_iload dX1_covers_37 rfl ?_
              refine r_iload dX1_covers_39 rfl ?_
              refine r_iload_n dX1_covers_41 rfl ?_
              refine r_iload_n dX1_covers_42 rfl ?_
              refine m_callI (n_inBox o f x y c s (by omega) (by omega)) gw_X1_inBox cf_X1_inBox ⟨rfl, rfl, by decide, by decide⟩ rfl dX1_covers_43 rfl (Nat.le_of_ble_eq_true rfl) (fun v hv => ?_)
              obtain rfl := hv
              refine r_istore dX1_covers_46 (by decide) rfl ?_
              refine r_iload dX1_covers_48 rfl ?_
              refine r_if_eqB (tgt := 68) dX1_covers_50 (by decide) (fun h3 => ?_) (fun h3 => ?_)
              · exact k68 a (by rw [h3]; simp)
              · refine r_aload_n dX1_covers_53 rfl ?_
                refine r_iload_n dX1_covers_54 rfl ?_
                refine r_iload dX1_covers_55 rfl ?_
                refine r_iload dX1_covers_57 rfl ?_
                refine m_callI (n_has o f S hM (r : Int) (x : Int) (y : Int) (by omega) (by omega) (by omega)) gw_X1_has cf_X1_has ⟨rfl, rfl, by decide, by decide⟩ rfl dX1_covers_59 rfl (Nat.le_of_ble_eq_true rfl) (fun v hv => ?_)
                rw [qHas_r hr (by omega) (by omega)] at hv
                obtain rfl := hv
                refine r_if_eqB (tgt := 68) dX1_covers_62 (by decide) (fun h4 => ?_) (fun h4 => ?_)
                · exact k68 a (by rw [h4]; rfl)
                · refine r_iincN (q := 1) dX1_covers_65 rfl rfl (by decide) rfl ?_
                  exact k68 (a + 1) (by rw [h3, h4]; rfl)
        refine r_iload dX1_covers_19 rfl ?_
        refine r_bipushN (q := 24) dX1_covers_21 rfl (by decide) ?_
        refine r_icmp_geN (tgt := 100) dX1_covers_23 (by decide) (by omega) (by omega) (fun h2 => ?_) (fun h2 => ?_)
        · exact absurd h2 (by omega)
        · refine r_iconstN (q := 0) dX1_covers_26 rfl ?_
          refine r_istore dX1_covers_27 (by decide) rfl ?_
          exact inner 24 0 a b _ (by omega) ha hb la lb
    refine r_iconstN (q := 0) dX1_covers_10 rfl ?_
    refine r_istore dX1_covers_11 (by decide) rfl ?_
    refine r_iconstN (q := 0) dX1_covers_13 rfl ?_
    refine r_istore dX1_covers_14 (by decide) rfl ?_
    refine r_iconstN (q := 0) dX1_covers_16 rfl ?_
    refine r_istore dX1_covers_17 (by decide) rfl ?_
    exact outer 24 0 0 0 _ _ (by omega) rfl rfl (by omega) (by omega)
  · refine r_iconst dX1_covers_8 ?_
    exact ret _ _ _ dX1_covers_9 (by unfold qCov; rw [if_pos h1])
end
section
/-! THE PLAIN PART, 4: rectangles read off the rows; the box around -/
theorem nxR_ge {hi : Nat} : ∀ (p : List Rn) (lo : Nat), SR lo hi p → lo ≤ nxR lo p
  | [], _, _ => Nat.le_refl _
  | q :: p, lo, h => by
    obtain ⟨h1, h2, h3, h4⟩ := h
    have := nxR_ge p (q.2 + 2) h4
    simp only [nxR]
    omega
theorem inR_nx {hi : Nat} : ∀ (p : List Rn) (lo z : Nat), SR lo hi p → inR p z = true → z + 2 ≤ nxR lo p
  | [], _, _, _, h => by simp [inR] at h
  | q :: p, lo, z, hs, h => by
    obtain ⟨h1, h2, h3, h4⟩ := hs
    simp only [inR, Bool.or_eq_true, Bool.and_eq_true, decide_eq_true_iff] at h
    simp only [nxR]
    rcases h with h | h
    · have := nxR_ge p (q.2 + 2) h4
      omega
    · exact inR_nx p (q.2 + 2) z h4 h
/-- does a run begin at x -/
def newR (row : Nat → Bool) (x : Nat) : Bool := row x && !(decide (0 < x) && row (x - 1))
/-- the last run of the cells below x ends at x - 1 just when that cell is set -/
theorem last_ru {row : Nat → Bool} {x : Nat} {p : List Rn} {q : Rn} (h : ru row x = p ++ [q]) : (x ≤ q.2 + 1 ↔ (decide (0 < x) && row (x - 1)) = true) ∧ q.2 < x := by
  have hs := ru_SR row x
  have hi := ru_in row x (x - 1)
  rw [h] at hs hi
  have hs2 := hs
  rw [SR_app] at hs2
  obtain ⟨-, h1, h2, h3, -⟩ := hs2
  refine ⟨⟨fun hx => ?_, fun hx => ?_⟩, h3⟩
  · rw [inR_app] at hi
    have hq : inR [q] (x - 1) = true := by
      simp only [inR, Bool.or_false, Bool.and_eq_true, decide_eq_true_iff]
      omega
    rw [hq, Bool.or_true] at hi
    have := hi.symm
    rw [Bool.and_eq_true] at this
    rw [this.2, decide_eq_true (by omega)]
    rfl
  · rw [Bool.and_eq_true, decide_eq_true_iff] at hx
    rw [hx.2, decide_eq_true (by omega)] at hi
    have := inR_nx _ _ _ hs hi
    rw [nxR_snoc] at this
    omega
theorem push_len {row : Nat → Bool} {x : Nat} : (pushR (ru row x) x x).length = (ru row x).length + (if (decide (0 < x) && row (x - 1)) = true then 0 else 1) := by
  rcases snoc_cases (ru row x) with h | ⟨p, q, h⟩
  · rw [h, pushR_nil]
    have hi := ru_in row x (x - 1)
    rw [h] at hi
    by_cases e : (decide (0 < x) && row (x - 1)) = true
    · rw [Bool.and_eq_true, decide_eq_true_iff] at e
      rw [e.2, decide_eq_true (by omega)] at hi
      simp [inR] at hi
    · rw [if_neg e]
      rfl
  · have := (last_ru h).1
    rw [h, pushR_last]
    by_cases e : x ≤ q.2 + 1
    · rw [if_pos e, if_pos (this.mp e)]
      simp
    · rw [if_neg e, if_neg (fun hh => e (this.mpr hh))]
      simp
theorem ru_len (row : Nat → Bool) : ∀ n, (ru row n).length = rowN (newR row) n
  | 0 => rfl
  | n + 1 => by
    simp only [ru, rowN]
    rw [← ru_len row n]
    unfold newR
    by_cases h : row n = true
    · rw [if_pos h, push_len, h]
      cases (decide (0 < n) && row (n - 1)) <;> rfl
    · have h2 : row n = false := by
        cases e : row n
        · rfl
        · exact absurd e h
      rw [if_neg h, h2]
      rfl
theorem push_new {row : Nat → Bool} {x e : Nat} (h : ¬ (decide (0 < x) && row (x - 1)) = true) : pushR (ru row x) x e = ru row x ++ [(x, e)] := by
  rcases snoc_cases (ru row x) with h0 | ⟨p, q, h0⟩
  · rw [h0, pushR_nil]
    rfl
  · have := (last_ru h0).1
    rw [h0, pushR_last, if_neg (fun hh => h (this.mp hh))]
theorem ru_ext {row : Nat → Bool} {P : List Rn} {x u : Nat} (hu : row (u + 1) = false ∨ 24 ≤ u + 1) (h : ru row (u + 1) = P ++ [(x, u)]) : ∀ n, u + 1 + n ≤ 24 → ∃ M, ru row (u + 1 + n) = (P ++ [(x, u)]) ++ M
  | 0, _ => ⟨[], by rw [List.append_nil]; exact h⟩
  | n + 1, hn => by
    obtain ⟨M, hM⟩ := ru_ext hu h n (by omega)
    show ∃ M, (if row (u + 1 + n) = true then pushR (ru row (u + 1 + n)) (u + 1 + n) (u + 1 + n) else ru row (u + 1 + n)) = _
    by_cases hr : row (u + 1 + n) = true
    · rw [if_pos hr, hM]
      rcases snoc_cases M with rfl | ⟨M0, q, rfl⟩
      · rw [List.append_nil, pushR_last]
        by_cases e : u + 1 + n ≤ u + 1
        · have hn0 : n = 0 := by omega
          subst hn0
          rcases hu with hu | hu
          · rw [Nat.add_zero, hu] at hr
            cases hr
          · omega
        · rw [if_neg e]
          exact ⟨_, rfl⟩
      · rw [← List.append_assoc, pushR_last]
        by_cases e : u + 1 + n ≤ q.2 + 1
        · rw [if_pos e]
          exact ⟨M0 ++ [(q.1, u + 1 + n)], by simp⟩
        · rw [if_neg e]
          exact ⟨M0 ++ [q] ++ [(u + 1 + n, u + 1 + n)], by simp⟩
    · rw [if_neg hr]
      exact ⟨M, hM⟩
theorem ru_get {row : Nat → Bool} {x u : Nat} (h0 : ¬ (decide (0 < x) && row (x - 1)) = true) (hx : x ≤ u) (h1 : ∀ z, x ≤ z → z ≤ u → row z = true) (h2 : u < 24) (h3 : u + 1 < 24 → row (u + 1) = false) : ∃ M, ru row 24 = ru row x ++ (x, u) :: M := by
  have e1 : ru row (u + 1) = ru row x ++ [(x, u)] := by
    rw [ru_run' (x := x) (e := u + 1) (by omega) (fun z z1 z2 => h1 z z1 (by omega)), Nat.add_sub_cancel]
    exact push_new h0
  obtain ⟨M, hM⟩ := ru_ext (x := x) (by by_cases e : u + 1 < 24; exact Or.inl (h3 e); exact Or.inr (by omega)) e1 (24 - (u + 1)) (by omega)
  rw [show u + 1 + (24 - (u + 1)) = 24 by omega] at hM
  exact ⟨M, by rw [hM]; simp⟩
-- ===== the same for bands =====
theorem last_bu {T : Nat → Nat → Bool} {y : Nat} {L : List Bn} {b : Bn} (h : bu T (y + 1) = L ++ [b]) : (b.2.1 + 1 = y + 1 → b.2.2 = ru (fun x => T x y) 24) ∧ (ru (fun x => T x y) 24 ≠ [] → b.2.1 + 1 = y + 1 ∧ b.2.2 = ru (fun x => T x y) 24) := by
  have hs := bu_SB T y
  simp only [bu] at h
  by_cases hr : ru (fun x => T x y) 24 = []
  · rw [hr, pushB_none] at h
    rw [h, SB_app] at hs
    obtain ⟨-, -, -, h3, -⟩ := hs
    exact ⟨fun e => by omega, fun e => absurd hr e⟩
  · rcases snoc_cases (bu T y) with h0 | ⟨M, c, h0⟩
    · rw [h0, pushB_nil y y hr] at h
      have : b = (y, y, ru (fun x => T x y) 24) := by
        have h2 : [] ++ [(y, y, ru (fun x => T x y) 24)] = L ++ [b] := h
        have := (List.append_inj' h2 rfl).2
        simp at this
        exact this.symm
      subst this
      exact ⟨fun _ => rfl, fun _ => ⟨rfl, rfl⟩⟩
    · rw [h0, pushB_last M c y y hr] at h
      by_cases hm : c.2.1 + 1 = y ∧ c.2.2 = ru (fun x => T x y) 24
      · rw [if_pos hm] at h
        have := (List.append_inj' h rfl).2
        simp at this
        subst this
        exact ⟨fun _ => hm.2, fun _ => ⟨rfl, hm.2⟩⟩
      · rw [if_neg hm] at h
        have := (List.append_inj' h rfl).2
        simp at this
        subst this
        exact ⟨fun _ => rfl, fun _ => ⟨rfl, rfl⟩⟩
theorem eqW_ru {T : Nat → Nat → Bool} {y z : Nat} (hy : y < 24) (hz : z < 24) : eqW T (y : Int) (z : Int) = true ↔ ru (fun x => T x y) 24 = ru (fun x => T x z) 24 := by
  rw [eqW_iff]
  constructor
  · intro h
    exact ru_cg 24 (fun x hx => by have := h.2 x hx; rw [Int.toNat_natCast, Int.toNat_natCast] at this; exact this)
  · intro h
    refine ⟨by omega, fun x hx => ?_⟩
    rw [Int.toNat_natCast, Int.toNat_natCast]
    have h1 := ru_24 (fun x => T x y) hx
    have h2 := ru_24 (fun x => T x z) hx
    rw [h] at h1
    rw [h2] at h1
    exact h1.symm
/-- the last band ends right above row y with row y's runs just when the row above is row y -/
theorem merge_iff {T : Nat → Nat → Bool} {y : Nat} {L : List Bn} {b : Bn} (hy : y < 24) (hr : ru (fun x => T x y) 24 ≠ []) (h : bu T y = L ++ [b]) : (b.2.1 + 1 = y ∧ b.2.2 = ru (fun x => T x y) 24) ↔ eqW T ((y : Int) - 1) (y : Int) = true := by
  cases y with
  | zero => simp [bu] at h
  | succ y =>
    have hl := last_bu h
    rw [show ((y + 1 : Nat) : Int) - 1 = (y : Int) by omega, eqW_ru (by omega) hy]
    constructor
    · rintro ⟨h1, h2⟩
      rw [← hl.1 h1, h2]
    · intro h1
      have h2 := hl.2 (by rw [h1]; exact hr)
      exact ⟨h2.1, by rw [h2.2, h1]⟩
theorem no_above {T : Nat → Nat → Bool} {y : Nat} (hy : y < 24) (hr : ru (fun x => T x y) 24 ≠ []) (h : bu T y = []) : ¬ eqW T ((y : Int) - 1) (y : Int) = true := by
  cases y with
  | zero =>
    intro he
    have := (eqW_iff.mp he).1
    omega
  | succ y =>
    rw [show ((y + 1 : Nat) : Int) - 1 = (y : Int) by omega, eqW_ru (by omega) hy]
    intro he
    rw [← he] at hr
    simp only [bu] at h
    rcases snoc_cases (bu T y) with h0 | ⟨M, c, h0⟩
    · rw [h0, pushB_nil _ _ hr] at h
      cases h
    · rw [h0, pushB_last M c _ _ hr] at h
      split at h <;> simp at h
theorem tot_bu {T : Nat → Nat → Bool} {y : Nat} (hy : y < 24) : tot (bu T (y + 1)) = tot (bu T y) + (if eqW T ((y : Int) - 1) (y : Int) = true then 0 else (ru (fun x => T x y) 24).length) := by
  simp only [bu]
  by_cases hr : ru (fun x => T x y) 24 = []
  · rw [hr, pushB_none]
    split <;> simp
  · rcases snoc_cases (bu T y) with h0 | ⟨L, b, h0⟩
    · rw [if_neg (no_above hy hr h0), h0, pushB_nil _ _ hr]
      simp [tot]
    · have hm := merge_iff hy hr h0
      rw [h0, pushB_last L b _ _ hr]
      by_cases e : b.2.1 + 1 = y ∧ b.2.2 = ru (fun x => T x y) 24
      · rw [if_pos e, if_pos (hm.mp e), tot_app, tot_app]
        simp [tot]
      · rw [if_neg e, if_neg (fun hh => e (hm.mpr hh)), tot_app]
        simp [tot]
theorem pushB_new {T : Nat → Nat → Bool} {y e : Nat} (hy : y < 24) (hr : ru (fun x => T x y) 24 ≠ []) (h : ¬ eqW T ((y : Int) - 1) (y : Int) = true) : pushB (bu T y) y e (ru (fun x => T x y) 24) = bu T y ++ [(y, e, ru (fun x => T x y) 24)] := by
  rcases snoc_cases (bu T y) with h0 | ⟨L, b, h0⟩
  · rw [h0, pushB_nil _ _ hr]
    rfl
  · have hm := merge_iff hy hr h0
    rw [h0, pushB_last L b _ _ hr, if_neg (fun hh => h (hm.mp hh))]
theorem bu_ext {T : Nat → Nat → Bool} {P : List Bn} {y v : Nat} {rs : List Rn} (hv : ru (fun x => T x (v + 1)) 24 ≠ rs ∨ 24 ≤ v + 1) (h : bu T (v + 1) = P ++ [(y, v, rs)]) : ∀ n, v + 1 + n ≤ 24 → ∃ M, bu T (v + 1 + n) = (P ++ [(y, v, rs)]) ++ M
  | 0, _ => ⟨[], by rw [List.append_nil]; exact h⟩
  | n + 1, hn => by
    obtain ⟨M, hM⟩ := bu_ext hv h n (by omega)
    show ∃ M, pushB (bu T (v + 1 + n)) (v + 1 + n) (v + 1 + n) (ru (fun x => T x (v + 1 + n)) 24) = _
    by_cases hr : ru (fun x => T x (v + 1 + n)) 24 = []
    · rw [hr, pushB_none]
      exact ⟨M, hM⟩
    · rw [hM]
      rcases snoc_cases M with rfl | ⟨M0, q, rfl⟩
      · rw [List.append_nil, pushB_last _ _ _ _ hr]
        by_cases e : v + 1 = v + 1 + n ∧ rs = ru (fun x => T x (v + 1 + n)) 24
        · have hn0 : n = 0 := by omega
          subst hn0
          rcases hv with hv | hv
          · exact absurd e.2.symm hv
          · omega
        · rw [if_neg e]
          exact ⟨_, rfl⟩
      · rw [← List.append_assoc, pushB_last _ _ _ _ hr]
        by_cases e : q.2.1 + 1 = v + 1 + n ∧ q.2.2 = ru (fun x => T x (v + 1 + n)) 24
        · rw [if_pos e]
          exact ⟨M0 ++ [(q.1, v + 1 + n, q.2.2)], by simp⟩
        · rw [if_neg e]
          exact ⟨M0 ++ [q] ++ [(v + 1 + n, v + 1 + n, ru (fun x => T x (v + 1 + n)) 24)], by simp⟩
theorem bu_get {T : Nat → Nat → Bool} {y v : Nat} (hr : ru (fun x => T x y) 24 ≠ []) (h0 : ¬ eqW T ((y : Int) - 1) (y : Int) = true) (hy : y ≤ v) (h1 : ∀ z, y ≤ z → z ≤ v → ∀ x, x < 24 → T x z = T x y) (h2 : v < 24) (h3 : v + 1 < 24 → ¬ eqW T ((v : Int) + 1) (y : Int) = true) : ∃ M, bu T 24 = bu T y ++ (y, v, ru (fun x => T x y) 24) :: M := by
  have e1 : bu T (v + 1) = bu T y ++ [(y, v, ru (fun x => T x y) 24)] := by
    rw [bu_run' (y := y) (e := v + 1) (by omega) (fun x z hx z1 z2 => h1 z z1 (by omega) x hx), Nat.add_sub_cancel]
    exact pushB_new (by omega) hr h0
  obtain ⟨M, hM⟩ := bu_ext (y := y) (by
    by_cases e : v + 1 < 24
    · refine Or.inl (fun hh => h3 e ?_)
      rw [show (v : Int) + 1 = ((v + 1 : Nat) : Int) by omega, eqW_ru e (by omega)]
      exact hh
    · exact Or.inr (by omega)) e1 (24 - (v + 1)) (by omega)
  rw [show v + 1 + (24 - (v + 1)) = 24 by omega] at hM
  exact ⟨M, by rw [hM]; simp⟩
/-- does a rectangle begin at this cell -/
def begS (T : Nat → Nat → Bool) (x y : Nat) : Bool := newR (fun x => T x y) x && !(eqW T ((y : Int) - 1) (y : Int))
theorem rowN_f : ∀ (n : Nat) (row : Nat → Bool), (∀ x, x < n → row x = false) → rowN row n = 0
  | 0, _, _ => rfl
  | n + 1, row, h => by
    simp only [rowN]
    rw [rowN_f n row (fun x hx => h x (by omega)), h n (by omega)]
    rfl
theorem rowN_cg : ∀ (n : Nat) (row row' : Nat → Bool), (∀ x, x < n → row x = row' x) → rowN row n = rowN row' n
  | 0, _, _, _ => rfl
  | n + 1, row, row', h => by
    simp only [rowN]
    rw [rowN_cg n row row' (fun x hx => h x (by omega)), h n (by omega)]
theorem beg_row {T : Nat → Nat → Bool} {y n : Nat} : rowN (fun x => begS T x y) n = if eqW T ((y : Int) - 1) (y : Int) = true then 0 else (ru (fun x => T x y) n).length := by
  by_cases e : eqW T ((y : Int) - 1) (y : Int) = true
  · rw [if_pos e]
    exact rowN_f n _ (fun x _ => by unfold begS; rw [e]; simp)
  · rw [if_neg e, ru_len]
    have e2 : eqW T ((y : Int) - 1) (y : Int) = false := by
      cases h : eqW T ((y : Int) - 1) (y : Int)
      · rfl
      · exact absurd h e
    exact rowN_cg n _ _ (fun x _ => by unfold begS; rw [e2]; simp)
theorem beg_tot {T : Nat → Nat → Bool} : ∀ (n : Nat), n ≤ 24 → cntN (begS T) n = tot (bu T n)
  | 0, _ => rfl
  | n + 1, hn => by
    rw [tot_bu (by omega)]
    simp only [cntN]
    rw [beg_tot n (by omega), beg_row]
/-- the rectangle that begins at a cell is that of its number -/
theorem rect_at {T : Nat → Nat → Bool} {x y u v : Nat} (hx : x < 24) (hy : y < 24) (hb : begS T x y = true) (u0 : x ≤ u) (u1 : ∀ z, x ≤ z → z ≤ u → T z y = true) (u2 : u < 24) (u3 : u + 1 < 24 → T (u + 1) y = false) (v0 : y ≤ v) (v1 : ∀ z, y ≤ z → z ≤ v → ∀ x, x < 24 → T x z = T x y) (v2 : v < 24) (v3 : v + 1 < 24 → ¬ eqW T ((v : Int) + 1) (y : Int) = true) : rectL (bu T 24) (cntF (begS T) (y * 24 + x)) = ((pkN x y u v : Nat) : Int) := by
  unfold begS newR at hb
  rw [Bool.and_eq_true, Bool.and_eq_true] at hb
  obtain ⟨⟨b1, b2⟩, b3⟩ := hb
  have b2' : ¬ (decide (0 < x) && T (x - 1) y) = true := by
    intro h
    rw [h] at b2
    cases b2
  have b3' : ¬ eqW T ((y : Int) - 1) (y : Int) = true := by
    intro h
    rw [h] at b3
    cases b3
  obtain ⟨M, hM⟩ := ru_get (row := fun x => T x y) b2' u0 u1 u2 u3
  have hr : ru (fun x => T x y) 24 ≠ [] := by
    rw [hM]
    simp
  obtain ⟨N, hN⟩ := bu_get hr b3' v0 v1 v2 v3
  rw [hN, cntF_xy (begS T) y x (by omega), beg_tot y (by omega), beg_row, if_neg b3']
  refine rectL_at (bu T y) N (y, v, ru (fun x => T x y) 24) _ (x, u) (by omega) ?_
  show (ru (fun x => T x y) 24)[_]? = _
  rw [Nat.add_sub_cancel_left, hM, List.getElem?_append_right (Nat.le_refl _), Nat.sub_self]
  rfl
-- ===== the box around =====
theorem minL_s : ∀ (p : List Rn) (m : Nat), minL p m ≤ m ∧ (∀ q ∈ p, minL p m ≤ q.1) ∧ (minL p m = m ∨ ∃ q ∈ p, q.1 = minL p m)
  | [], m => ⟨Nat.le_refl _, fun q h => by simp at h, Or.inl rfl⟩
  | a :: p, m => by
    have ih := minL_s p (if a.1 < m then a.1 else m)
    have e : minL (a :: p) m = minL p (if a.1 < m then a.1 else m) := rfl
    rw [e]
    obtain ⟨h1, h2, h3⟩ := ih
    by_cases hm : a.1 < m
    · rw [if_pos hm] at h1 h2 h3 ⊢
      refine ⟨by omega, fun q hq => ?_, ?_⟩
      · rcases List.mem_cons.mp hq with rfl | hq
        · exact h1
        · exact h2 q hq
      · rcases h3 with h3 | ⟨q, hq, h3⟩
        · exact Or.inr ⟨a, List.mem_cons_self, h3.symm⟩
        · exact Or.inr ⟨q, List.mem_cons_of_mem _ hq, h3⟩
    · rw [if_neg hm] at h1 h2 h3 ⊢
      refine ⟨h1, fun q hq => ?_, ?_⟩
      · rcases List.mem_cons.mp hq with rfl | hq
        · omega
        · exact h2 q hq
      · rcases h3 with h3 | ⟨q, hq, h3⟩
        · exact Or.inl h3
        · exact Or.inr ⟨q, List.mem_cons_of_mem _ hq, h3⟩
theorem maxR_s : ∀ (p : List Rn) (m : Nat), m ≤ maxR p m ∧ (∀ q ∈ p, q.2 ≤ maxR p m) ∧ (maxR p m = m ∨ ∃ q ∈ p, q.2 = maxR p m)
  | [], m => ⟨Nat.le_refl _, fun q h => by simp at h, Or.inl rfl⟩
  | a :: p, m => by
    have ih := maxR_s p (if m < a.2 then a.2 else m)
    have e : maxR (a :: p) m = maxR p (if m < a.2 then a.2 else m) := rfl
    rw [e]
    obtain ⟨h1, h2, h3⟩ := ih
    by_cases hm : m < a.2
    · rw [if_pos hm] at h1 h2 h3 ⊢
      refine ⟨by omega, fun q hq => ?_, ?_⟩
      · rcases List.mem_cons.mp hq with rfl | hq
        · exact h1
        · exact h2 q hq
      · rcases h3 with h3 | ⟨q, hq, h3⟩
        · exact Or.inr ⟨a, List.mem_cons_self, h3.symm⟩
        · exact Or.inr ⟨q, List.mem_cons_of_mem _ hq, h3⟩
    · rw [if_neg hm] at h1 h2 h3 ⊢
      refine ⟨h1, fun q hq => ?_, ?_⟩
      · rcases List.mem_cons.mp hq with rfl | hq
        · omega
        · exact h2 q hq
      · rcases h3 with h3 | ⟨q, hq, h3⟩
        · exact Or.inl h3
        · exact Or.inr ⟨q, List.mem_cons_of_mem _ hq, h3⟩
theorem inR_mem : ∀ (p : List Rn) (x : Nat), inR p x = true ↔ ∃ q ∈ p, q.1 ≤ x ∧ x ≤ q.2
  | [], x => by simp [inR]
  | a :: p, x => by
    simp only [inR, Bool.or_eq_true, Bool.and_eq_true, decide_eq_true_iff, inR_mem p x, List.mem_cons]
    constructor
    · rintro (h | ⟨q, hq, h⟩)
      · exact ⟨a, Or.inl rfl, h⟩
      · exact ⟨q, Or.inr hq, h⟩
    · rintro ⟨q, rfl | hq, h⟩
      · exact Or.inl h
      · exact Or.inr ⟨q, hq, h⟩
theorem inB_mem : ∀ (L : List Bn) (x y : Nat), inB L x y = true ↔ ∃ b ∈ L, b.1 ≤ y ∧ y ≤ b.2.1 ∧ inR b.2.2 x = true
  | [], x, y => by simp [inB]
  | a :: L, x, y => by
    simp only [inB, Bool.or_eq_true, Bool.and_eq_true, decide_eq_true_iff, inB_mem L x y, List.mem_cons, and_assoc]
    constructor
    · rintro (h | ⟨q, hq, h⟩)
      · exact ⟨a, Or.inl rfl, h⟩
      · exact ⟨q, Or.inr hq, h⟩
    · rintro ⟨q, rfl | hq, h⟩
      · exact Or.inl h
      · exact Or.inr ⟨q, hq, h⟩
theorem allR_mem : ∀ (L : List Bn) (q : Rn), q ∈ allR L ↔ ∃ b ∈ L, q ∈ b.2.2
  | [], q => by simp [allR]
  | a :: L, q => by
    simp only [allR, List.mem_append, allR_mem L q, List.mem_cons]
    constructor
    · rintro (h | ⟨b, hb, h⟩)
      · exact ⟨a, Or.inl rfl, h⟩
      · exact ⟨b, Or.inr hb, h⟩
    · rintro ⟨b, rfl | hb, h⟩
      · exact Or.inl h
      · exact Or.inr ⟨b, hb, h⟩
theorem SB_mem {hi : Nat} : ∀ (L : List Bn) (lo : Nat), SB lo hi L → ∀ b ∈ L, lo ≤ b.1 ∧ b.1 ≤ b.2.1 ∧ b.2.1 < hi ∧ b.2.2 ≠ [] ∧ SR 0 24 b.2.2
  | [], _, _, b, h => by simp at h
  | a :: L, lo, hs, b, h => by
    obtain ⟨h1, h2, h3, h4, h5, h6⟩ := hs
    rcases List.mem_cons.mp h with rfl | h
    · exact ⟨h1, h2, h3, h4, h5⟩
    · have := SB_mem L _ h6 b h
      exact ⟨by omega, this.2⟩
theorem SR_mem {hi : Nat} : ∀ (p : List Rn) (lo : Nat), SR lo hi p → ∀ q ∈ p, q.1 ≤ q.2 ∧ q.2 < hi
  | [], _, _, b, h => by simp at h
  | a :: p, lo, hs, b, h => by
    obtain ⟨h1, h2, h3, h4⟩ := hs
    rcases List.mem_cons.mp h with rfl | h
    · exact ⟨h2, h3⟩
    · exact SR_mem p _ h4 b h
theorem endB_s {hi : Nat} : ∀ (M : List Bn) (b : Bn) (lo : Nat), SB lo hi (b :: M) → (∃ c ∈ b :: M, c.2.1 = endB (b :: M)) ∧ ∀ c ∈ b :: M, c.2.1 ≤ endB (b :: M)
  | [], b, lo, _ => ⟨⟨b, List.mem_cons_self, rfl⟩, fun c hc => by
      rw [List.mem_singleton.mp hc]
      exact Nat.le_refl _⟩
  | a :: M, b, lo, hs => by
    obtain ⟨h1, h2, h3, h4, h5, h6⟩ := hs
    obtain ⟨⟨c, hc, e⟩, ih⟩ := endB_s M a _ h6
    have ee : endB (b :: a :: M) = endB (a :: M) := rfl
    rw [ee]
    refine ⟨⟨c, List.mem_cons_of_mem _ hc, e⟩, fun d hd => ?_⟩
    rcases List.mem_cons.mp hd with rfl | hd
    · have := ih a List.mem_cons_self
      obtain ⟨g1, g2, -⟩ := h6
      omega
    · exact ih d hd
/-- what the model's walk over the cells has of the box around -/
def AR (T : Nat → Nat → Bool) (n x1 y1 : Nat) (x2 y2 : Int) : Prop := (∀ x y, x < 24 → y < 24 → y * 24 + x < n → T x y = true → x1 ≤ x ∧ (x : Int) ≤ x2 ∧ y1 ≤ y ∧ (y : Int) ≤ y2) ∧ ((x1 = 24 ∧ y1 = 24 ∧ x2 = -1 ∧ y2 = -1) ∨ ((∃ y, x1 < 24 ∧ y < 24 ∧ T x1 y = true) ∧ (∃ x, x < 24 ∧ y1 < 24 ∧ T x y1 = true) ∧ (∃ X y : Nat, x2 = (X : Int) ∧ X < 24 ∧ y < 24 ∧ T X y = true) ∧ ∃ Y x : Nat, y2 = (Y : Int) ∧ Y < 24 ∧ x < 24 ∧ T x Y = true))
theorem AR.no {T : Nat → Nat → Bool} {x y x1 y1 : Nat} {x2 y2 : Int} (h : AR T (y * 24 + x) x1 y1 x2 y2) (hx : x < 24) (ht : T x y = false) : AR T (y * 24 + x + 1) x1 y1 x2 y2 := by
  refine ⟨fun u v hu hv hn hT => h.1 u v hu hv ?_ hT, h.2⟩
  by_cases e : v * 24 + u = y * 24 + x
  · have e1 : v = y := by omega
    have e2 : u = x := by omega
    subst e1
    subst e2
    rw [ht] at hT
    cases hT
  · omega
theorem AR.yes {T : Nat → Nat → Bool} {x y x1 y1 : Nat} {x2 y2 : Int} (h : AR T (y * 24 + x) x1 y1 x2 y2) (hx : x < 24) (hy : y < 24) (ht : T x y = true) : AR T (y * 24 + x + 1) (if x < x1 then x else x1) (if y < y1 then y else y1) (if x2 < (x : Int) then (x : Int) else x2) (if y2 < (y : Int) then (y : Int) else y2) := by
  constructor
  · intro u v hu hv hn hT
    by_cases e : v * 24 + u = y * 24 + x
    · have e1 : v = y := by omega
      have e2 : u = x := by omega
      subst e1
      subst e2
      refine ⟨?_, ?_, ?_, ?_⟩ <;> split <;> omega
    · have := h.1 u v hu hv (by omega) hT
      refine ⟨?_, ?_, ?_, ?_⟩ <;> split <;> omega
  · refine Or.inr ⟨?_, ?_, ?_, ?_⟩
    · by_cases e : x < x1
      · rw [if_pos e]
        exact ⟨y, hx, hy, ht⟩
      · rw [if_neg e]
        rcases h.2 with h2 | h2
        · omega
        · exact h2.1
    · by_cases e : y < y1
      · rw [if_pos e]
        exact ⟨x, hx, hy, ht⟩
      · rw [if_neg e]
        rcases h.2 with h2 | h2
        · omega
        · exact h2.2.1
    · by_cases e : x2 < (x : Int)
      · rw [if_pos e]
        exact ⟨x, y, rfl, hx, hy, ht⟩
      · rw [if_neg e]
        rcases h.2 with h2 | h2
        · omega
        · exact h2.2.2.1
    · by_cases e : y2 < (y : Int)
      · rw [if_pos e]
        exact ⟨y, x, rfl, hy, hx, ht⟩
      · rw [if_neg e]
        rcases h.2 with h2 | h2
        · omega
        · exact h2.2.2.2
theorem AR.out {T : Nat → Nat → Bool} {x1 y1 : Nat} {x2 y2 : Int} (h : AR T 576 x1 y1 x2 y2) : (x2 < 0 → arndL (bu T 24) = -3) ∧ (0 ≤ x2 → ∃ X Y : Nat, x2 = (X : Int) ∧ y2 = (Y : Int) ∧ arndL (bu T 24) = ((pkN x1 y1 X Y : Nat) : Int)) := by
  obtain ⟨h1, h2⟩ := h
  constructor
  · intro hx
    rw [bu_gap (y := 0) (e := 24) (by decide) (fun x y hx2 _ hy => by
      cases e : T x y with
      | false => rfl
      | true =>
        have := h1 x y hx2 hy (by omega) e
        omega)]
    rfl
  · intro hx
    rcases h2 with h2 | ⟨⟨ya, a1, a2, a3⟩, ⟨xb, b1, b2, b3⟩, ⟨X, yc, rfl, c1, c2, c3⟩, ⟨Y, xd, rfl, d1, d2, d3⟩⟩
    · omega
    · refine ⟨X, Y, rfl, rfl, ?_⟩
      have hS := bu_SB T 24
      have hin : ∀ x y, x < 24 → y < 24 → (T x y = true ↔ inB (bu T 24) x y = true) := fun x y hx hy => by rw [bu_24 T hx hy]
      have hmem : ∀ x y, x < 24 → y < 24 → T x y = true → ∃ b ∈ bu T 24, b.1 ≤ y ∧ y ≤ b.2.1 ∧ ∃ q ∈ b.2.2, q.1 ≤ x ∧ x ≤ q.2 := by
        intro x y hx hy ht
        obtain ⟨b, hb, e1, e2, e3⟩ := (inB_mem _ x y).mp ((hin x y hx hy).mp ht)
        exact ⟨b, hb, e1, e2, (inR_mem _ _).mp e3⟩
      have hcor : ∀ b ∈ bu T 24, ∀ q ∈ b.2.2, ∀ x y, q.1 ≤ x → x ≤ q.2 → b.1 ≤ y → y ≤ b.2.1 → x < 24 ∧ y < 24 ∧ T x y = true := by
        intro b hb q hq x y e1 e2 e3 e4
        obtain ⟨m1, m2, m3, m4, m5⟩ := SB_mem _ _ hS b hb
        obtain ⟨n1, n2⟩ := SR_mem _ _ m5 q hq
        exact ⟨by omega, by omega, (hin x y (by omega) (by omega)).mpr ((inB_mem _ x y).mpr ⟨b, hb, e3, e4, (inR_mem _ _).mpr ⟨q, hq, e1, e2⟩⟩)⟩
      revert hmem hcor hS
      generalize bu T 24 = L
      intro hS hmem hcor
      cases L with
      | nil =>
        obtain ⟨b, hb, -⟩ := hmem x1 ya a1 a2 a3
        simp at hb
      | cons b M =>
        have hmin := minL_s (allR (b :: M)) 24
        have hmax := maxR_s (allR (b :: M)) 0
        have hend := endB_s M b 0 hS
        have hbm := SB_mem _ _ hS b List.mem_cons_self
        have e1 : minL (allR (b :: M)) 24 = x1 := by
          refine Nat.le_antisymm ?_ ?_
          · obtain ⟨c, hc, f1, f2, q, hq, f3, f4⟩ := hmem x1 ya a1 a2 a3
            have := hmin.2.1 q ((allR_mem _ q).mpr ⟨c, hc, hq⟩)
            omega
          · rcases hmin.2.2 with e | ⟨q, hq, e⟩
            · omega
            · obtain ⟨c, hc, hq2⟩ := (allR_mem _ q).mp hq
              obtain ⟨m1, m2, m3, m4, m5⟩ := SB_mem _ _ hS c hc
              obtain ⟨n1, n2⟩ := SR_mem _ _ m5 q hq2
              obtain ⟨k1, k2, k3⟩ := hcor c hc q hq2 q.1 c.1 (Nat.le_refl _) n1 (Nat.le_refl _) m2
              have := h1 q.1 c.1 k1 k2 (by omega) k3
              omega
        have e2 : maxR (allR (b :: M)) 0 = X := by
          refine Nat.le_antisymm ?_ ?_
          · rcases hmax.2.2 with e | ⟨q, hq, e⟩
            · omega
            · obtain ⟨c, hc, hq2⟩ := (allR_mem _ q).mp hq
              obtain ⟨m1, m2, m3, m4, m5⟩ := SB_mem _ _ hS c hc
              obtain ⟨n1, n2⟩ := SR_mem _ _ m5 q hq2
              obtain ⟨k1, k2, k3⟩ := hcor c hc q hq2 q.2 c.1 n1 (Nat.le_refl _) (Nat.le_refl _) m2
              have := h1 q.2 c.1 k1 k2 (by omega) k3
              omega
          · obtain ⟨c, hc, f1, f2, q, hq, f3, f4⟩ := hmem X yc c1 c2 c3
            have := hmax.2.1 q ((allR_mem _ q).mpr ⟨c, hc, hq⟩)
            omega
        have e3 : b.1 = y1 := by
          refine Nat.le_antisymm ?_ ?_
          · obtain ⟨c, hc, f1, f2, q, hq, f3, f4⟩ := hmem xb y1 b1 b2 b3
            rcases List.mem_cons.mp hc with rfl | hc2
            · exact f1
            · have := SB_mem _ _ hS.2.2.2.2.2 c hc2
              omega
          · obtain ⟨q, hq⟩ := List.exists_mem_of_ne_nil _ hbm.2.2.2.1
            obtain ⟨n1, n2⟩ := SR_mem _ _ hbm.2.2.2.2 q hq
            obtain ⟨k1, k2, k3⟩ := hcor b List.mem_cons_self q hq q.1 b.1 (Nat.le_refl _) n1 (Nat.le_refl _) hbm.2.1
            have := h1 q.1 b.1 k1 k2 (by omega) k3
            omega
        have e4 : endB (b :: M) = Y := by
          refine Nat.le_antisymm ?_ ?_
          · obtain ⟨c, hc, e⟩ := hend.1
            obtain ⟨m1, m2, m3, m4, m5⟩ := SB_mem _ _ hS c hc
            obtain ⟨q, hq⟩ := List.exists_mem_of_ne_nil _ m4
            obtain ⟨n1, n2⟩ := SR_mem _ _ m5 q hq
            obtain ⟨k1, k2, k3⟩ := hcor c hc q hq q.1 c.2.1 (Nat.le_refl _) n1 m2 (Nat.le_refl _)
            have := h1 q.1 c.2.1 k1 k2 (by omega) k3
            omega
          · obtain ⟨c, hc, f1, f2, q, hq, f3, f4⟩ := hmem xd Y d2 d1 d3
            have := hend.2 c hc
            omega
        show ((pkN (minL (allR (b :: M)) 24) b.1 (maxR (allR (b :: M)) 0) (endB (b :: M)) : Nat) : Int) = _
        rw [e1, e2, e3, e4]
end
section
/-! BandRegionModel: begins, from, rectangles, rectangle, around -/
set_option maxRecDepth 100000
theorem qHas_i {S : Sx} {r y : Nat} {x : Int} (hr : r < 3) (hy : y < 24) : qHas S (r : Int) x (y : Int) = (decide (0 ≤ x ∧ x < 24) && S r x.toNat y) := by
  unfold qHas
  rw [badZ_f (by omega), Int.toNat_natCast, Int.toNat_natCast]
  show (decide (0 ≤ x ∧ x < 24 ∧ 0 ≤ (y : Int) ∧ (y : Int) < 24) && S r x.toNat y) = _
  congr 1
  exact decide_eq_decide.mpr (by omega)
theorem n_begins (o : Ox) (f : Ff) (S : Sx) (hM : MI f S) (r x y : Nat) (hr : r < 3) (hx : x < 24) (hy : y < 24) : mI yX1_begins cX1_begins 4 .boolean rmC o f [.int (zI (r : Int)), .int (zI (x : Int)), .int (zI (y : Int))] (fun v => v = zI (bI (begS (S r) x y))) := by
  refine m_metI (lv0 := [some (.ref o.2.1), some (.int (zI (r : Int))), some (.int (zI (x : Int))), some (.int (zI (y : Int)))]) (by decide) rfl rfl (Nat.le_of_ble_eq_true rfl) rfl (fun v h => by rw [h]; exact bI_nar _) (fun K ret => ?_)
  have hno : begS (S r) x y = false → bW K o.1 rmC RX1 cX1_begins 4 (wM o f) 38 [some (.ref o.2.1), some (.int (zI (r : Int))), some (.int (zI (x : Int))), some (.int (zI (y : Int)))] [] := by
    intro hh
    refine r_iconstN (q := 0) dX1_begins_38 rfl ?_
    exact ret _ _ _ dX1_begins_39 (by rw [hh]; rfl)
  refine r_aload_n dX1_begins_0 rfl ?_
  refine r_iload_n dX1_begins_1 rfl ?_
  refine r_iload_n dX1_begins_2 rfl ?_
  refine r_iload_n dX1_begins_3 rfl ?_
  refine m_callI (n_has o f S hM (r : Int) (x : Int) (y : Int) (by omega) (by omega) (by omega)) gw_X1_has cf_X1_has ⟨rfl, rfl, by decide, by decide⟩ rfl dX1_begins_4 rfl (Nat.le_of_ble_eq_true rfl) (fun v hv => ?_)
  rw [qHas_r hr hx hy] at hv
  obtain rfl := hv
  refine r_if_eqB (tgt := 38) dX1_begins_7 (by decide) (fun h1 => ?_) (fun h1 => ?_)
  · exact hno (by unfold begS newR; dsimp only; rw [h1]; rfl)
  · refine r_aload_n dX1_begins_10 rfl ?_
    refine r_iload_n dX1_begins_11 rfl ?_
    refine r_iload_n dX1_begins_12 rfl ?_
    refine r_iconstN (q := 1) dX1_begins_13 rfl ?_
    refine r_isub dX1_begins_14 ?_
    refine r_iload_n dX1_begins_15 rfl ?_
    refine m_callI (n_has o f S hM (r : Int) ((x : Int) - ((1 : Nat) : Int)) (y : Int) (by omega) (by omega) (by omega)) gw_X1_has cf_X1_has ⟨rfl, rfl, by decide, by decide⟩ rfl dX1_begins_16 rfl (Nat.le_of_ble_eq_true rfl) (fun v hv => ?_)
    have hp : qHas S (r : Int) ((x : Int) - ((1 : Nat) : Int)) (y : Int) = (decide (0 < x) && S r (x - 1) y) := by
      rw [qHas_i hr hy, show ((x : Int) - ((1 : Nat) : Int)).toNat = x - 1 by omega]
      congr 1
      exact decide_eq_decide.mpr (by omega)
    rw [hp] at hv
    obtain rfl := hv
    refine r_if_neB (tgt := 38) dX1_begins_19 (by decide) (fun h2 => ?_) (fun h2 => ?_)
    · exact hno (by unfold begS newR; rw [h2]; simp)
    · refine r_aload_n dX1_begins_22 rfl ?_
      refine r_iload_n dX1_begins_23 rfl ?_
      refine r_iload_n dX1_begins_24 rfl ?_
      refine r_iconstN (q := 1) dX1_begins_25 rfl ?_
      refine r_isub dX1_begins_26 ?_
      refine r_iload_n dX1_begins_27 rfl ?_
      refine m_callI (n_equalRows o f S hM r hr ((y : Int) - ((1 : Nat) : Int)) (y : Int) (by omega) (by omega)) gw_X1_equalRows cf_X1_equalRows ⟨rfl, rfl, by decide, by decide⟩ rfl dX1_begins_28 rfl (Nat.le_of_ble_eq_true rfl) (fun v hv => ?_)
      have hv : v = zI (bI (eqW (S r) ((y : Int) - 1) (y : Int))) := hv
      obtain rfl := hv
      refine r_if_neB (tgt := 38) dX1_begins_31 (by decide) (fun h3 => ?_) (fun h3 => ?_)
      · exact hno (by unfold begS; rw [h3]; simp)
      · refine r_iconstN (q := 1) dX1_begins_34 rfl ?_
        refine r_goto (tgt := 39) dX1_begins_35 (by decide) ?_
        refine ret _ _ _ dX1_begins_39 ?_
        unfold begS newR
        dsimp only
        rw [h1, h2, h3]
        rfl
set_option maxHeartbeats 4000000 in
theorem n_from (o : Ox) (f : Ff) (S : Sx) (hM : MI f S) (r x y : Nat) (hr : r < 3) (hx : x < 24) (hy : y < 24) (hT : S r x y = true) : mI yX1_from cX1_from 7 .int rmC o f [.int (zI (r : Int)), .int (zI (x : Int)), .int (zI (y : Int))] (fun w => ∃ u v : Nat, w = zI ((pkN x y u v : Nat) : Int) ∧ (x ≤ u ∧ (∀ z, x ≤ z → z ≤ u → S r z y = true) ∧ u < 24 ∧ (u + 1 < 24 → S r (u + 1) y = false)) ∧ (y ≤ v ∧ (∀ z, y ≤ z → z ≤ v → ∀ x, x < 24 → S r x z = S r x y) ∧ v < 24 ∧ (v + 1 < 24 → ¬ eqW (S r) ((v : Int) + 1) (y : Int) = true))) := by
  refine m_metI (lv0 := [some (.ref o.2.1), some (.int (zI (r : Int))), some (.int (zI (x : Int))), some (.int (zI (y : Int))), none, none, none]) (by decide) rfl rfl (Nat.le_of_ble_eq_true rfl) rfl (fun v h => rfl) (fun K ret => ?_)
  have loop : ∀ (m k u v : Nat), k + m = 24 → x ≤ u → (∀ z, x ≤ z → z ≤ u → S r z y = true) → u < 24 → (u = x + k ∨ (u + 1 < 24 → S r (u + 1) y = false)) → y ≤ v → (∀ z, y ≤ z → z ≤ v → ∀ x, x < 24 → S r x z = S r x y) → v < 24 → (v = y + k ∨ (v + 1 < 24 → ¬ eqW (S r) ((v : Int) + 1) (y : Int) = true)) → bW K o.1 rmC RX1 cX1_from 7 (wM o f) 9 [some (.ref o.2.1), some (.int (zI (r : Int))), some (.int (zI (x : Int))), some (.int (zI (y : Int))), some (.int (zI (u : Int))), some (.int (zI (v : Int))), some (.int (zI (k : Int)))] [] := by
    intro m
    induction m with
    | zero =>
      intro k u v hk u0 u1 u2 u3 v0 v1 v2 v3
      refine r_iload dX1_from_9 rfl ?_
      refine r_bipushN (q := 24) dX1_from_11 rfl (by decide) ?_
      refine r_icmp_geN (tgt := 54) dX1_from_13 (by decide) (by omega) (by omega) (fun h1 => ?_) (fun h1 => ?_)
      · refine r_iload_n dX1_from_54 rfl ?_
        refine r_bipushN (q := 32) dX1_from_55 rfl (by decide) ?_
        refine r_iload_n dX1_from_57 rfl ?_
        refine r_imulN dX1_from_58 ?_
        refine r_iaddN dX1_from_59 ?_
        refine r_sipushN (q := 1024) dX1_from_60 rfl (by decide) ?_
        refine r_iload dX1_from_63 rfl ?_
        refine r_imulN dX1_from_65 ?_
        refine r_iaddN dX1_from_66 ?_
        refine r_ldcN (q := 32768) dX1_from_67 q237 (by decide +kernel) ?_
        refine r_iload dX1_from_69 rfl ?_
        refine r_imulN dX1_from_71 ?_
        refine r_iaddN dX1_from_72 ?_
        refine ret _ _ _ dX1_from_73 ⟨u, v, rfl, ⟨u0, u1, u2, ?_⟩, ⟨v0, v1, v2, ?_⟩⟩
        · rcases u3 with h | h
          · omega
          · exact h
        · rcases v3 with h | h
          · omega
          · exact h
      · exact absurd h1 (by omega)
    | succ m ih =>
      intro k u v hk u0 u1 u2 u3 v0 v1 v2 v3
      have k48 : ∀ (u2 v2 : Nat), x ≤ u2 → (∀ z, x ≤ z → z ≤ u2 → S r z y = true) → u2 < 24 → (u2 = x + (k + 1) ∨ (u2 + 1 < 24 → S r (u2 + 1) y = false)) → y ≤ v2 → (∀ z, y ≤ z → z ≤ v2 → ∀ x, x < 24 → S r x z = S r x y) → v2 < 24 → (v2 = y + (k + 1) ∨ (v2 + 1 < 24 → ¬ eqW (S r) ((v2 : Int) + 1) (y : Int) = true)) → bW K o.1 rmC RX1 cX1_from 7 (wM o f) 48 [some (.ref o.2.1), some (.int (zI (r : Int))), some (.int (zI (x : Int))), some (.int (zI (y : Int))), some (.int (zI (u2 : Int))), some (.int (zI (v2 : Int))), some (.int (zI (k : Int)))] [] := by
        intro u2 v2 c1 c2 c3 c4 c5 c6 c7 c8
        refine r_iincN (q := 1) dX1_from_48 rfl rfl (by decide) rfl ?_
        refine r_goto (tgt := 9) dX1_from_51 (by decide) ?_
        exact ih (k + 1) u2 v2 (by omega) c1 c2 c3 c4 c5 c6 c7 c8
      have k32 : ∀ (u2 : Nat), x ≤ u2 → (∀ z, x ≤ z → z ≤ u2 → S r z y = true) → u2 < 24 → (u2 = x + (k + 1) ∨ (u2 + 1 < 24 → S r (u2 + 1) y = false)) → bW K o.1 rmC RX1 cX1_from 7 (wM o f) 32 [some (.ref o.2.1), some (.int (zI (r : Int))), some (.int (zI (x : Int))), some (.int (zI (y : Int))), some (.int (zI (u2 : Int))), some (.int (zI (v : Int))), some (.int (zI (k : Int)))] [] := by
        intro u2 c1 c2 c3 c4
        refine r_aload_n dX1_from_32 rfl ?_
        refine r_iload_n dX1_from_33 rfl ?_
        refine r_iload dX1_from_34 rfl ?_
        refine r_iconstN (q := 1) dX1_from_36 rfl ?_
        refine r_iaddN dX1_from_37 ?_
        refine r_iload_n dX1_from_38 rfl ?_
        refine m_callI (n_equalRows o f S hM r hr ((v + 1 : Nat) : Int) (y : Int) (by omega) (by omega)) gw_X1_equalRows cf_X1_equalRows ⟨rfl, rfl, by decide, by decide⟩ rfl dX1_from_39 rfl (Nat.le_of_ble_eq_true rfl) (fun w hw => ?_)
        obtain rfl := hw
        have ev : ((v + 1 : Nat) : Int) = (v : Int) + 1 := by omega
        refine r_if_eqB (tgt := 48) dX1_from_42 (by decide) (fun h2 => ?_) (fun h2 => ?_)
        · exact k48 u2 v c1 c2 c3 c4 v0 v1 v2 (Or.inr (fun _ h => by rw [ev, h] at h2; cases h2))
        · have he := eqW_iff.mp h2
          rw [Int.toNat_natCast, Int.toNat_natCast] at he
          refine r_iincN (q := 1) dX1_from_45 rfl rfl (by decide) rfl ?_
          refine k48 u2 (v + 1) c1 c2 c3 c4 (by omega) (fun z z1 z2 w hw => ?_) (by omega) ?_
          · by_cases e : z = v + 1
            · subst e
              exact he.2 w hw
            · exact v1 z z1 (by omega) w hw
          · rcases v3 with h | h
            · exact Or.inl (by omega)
            · exact absurd (by rw [← ev]; exact h2) (h (by omega))
      refine r_iload dX1_from_9 rfl ?_
      refine r_bipushN (q := 24) dX1_from_11 rfl (by decide) ?_
      refine r_icmp_geN (tgt := 54) dX1_from_13 (by decide) (by omega) (by omega) (fun h1 => ?_) (fun h1 => ?_)
      · exact absurd h1 (by omega)
      · refine r_aload_n dX1_from_16 rfl ?_
        refine r_iload_n dX1_from_17 rfl ?_
        refine r_iload dX1_from_18 rfl ?_
        refine r_iconstN (q := 1) dX1_from_20 rfl ?_
        refine r_iaddN dX1_from_21 ?_
        refine r_iload_n dX1_from_22 rfl ?_
        refine m_callI (n_has o f S hM (r : Int) ((u + 1 : Nat) : Int) (y : Int) (by omega) (by omega) (by omega)) gw_X1_has cf_X1_has ⟨rfl, rfl, by decide, by decide⟩ rfl dX1_from_23 rfl (Nat.le_of_ble_eq_true rfl) (fun w hw => ?_)
        rw [qHas_i hr hy, Int.toNat_natCast] at hw
        obtain rfl := hw
        refine r_if_eqB (tgt := 32) dX1_from_26 (by decide) (fun h2 => ?_) (fun h2 => ?_)
        · refine k32 u u0 u1 u2 (Or.inr (fun hu => ?_))
          rw [decide_eq_true (by omega), Bool.true_and] at h2
          exact h2
        · rw [Bool.and_eq_true, decide_eq_true_iff] at h2
          refine r_iincN (q := 1) dX1_from_29 rfl rfl (by decide) rfl ?_
          refine k32 (u + 1) (by omega) (fun z z1 z2 => ?_) (by omega) ?_
          · by_cases e : z = u + 1
            · subst e
              exact h2.2
            · exact u1 z z1 (by omega)
          · rcases u3 with h | h
            · exact Or.inl (by omega)
            · have := h (by omega)
              rw [h2.2] at this
              cases this
  refine r_iload_n dX1_from_0 rfl ?_
  refine r_istore dX1_from_1 (by decide) rfl ?_
  refine r_iload_n dX1_from_3 rfl ?_
  refine r_istore dX1_from_4 (by decide) rfl ?_
  refine r_iconstN (q := 0) dX1_from_6 rfl ?_
  refine r_istore dX1_from_7 (by decide) rfl ?_
  exact loop 24 0 x y (by omega) (Nat.le_refl _) (fun z z1 z2 => by rw [show z = x by omega]; exact hT) hx (Or.inl rfl) (Nat.le_refl _) (fun z z1 z2 w hw => by rw [show z = y by omega]) hy (Or.inl rfl)
set_option maxHeartbeats 4000000 in
theorem n_rectangles (o : Ox) (f : Ff) (S : Sx) (hM : MI f S) (z : Int) (hz : -2147483648 ≤ z ∧ z < 2147483648) : mI yX1_rectangles cX1_rectangles 5 .int rmD o f [.int (zI z)] (fun v => v = zI (qRects S z)) := by
  refine m_metI (lv0 := [some (.ref o.2.1), some (.int (zI z)), none, none, none]) (by decide) rfl rfl (Nat.le_of_ble_eq_true rfl) rfl (fun v h => rfl) (fun K ret => ?_)
  refine r_aload_n dX1_rectangles_0 rfl ?_
  refine r_iload_n dX1_rectangles_1 rfl ?_
  refine m_callI (n_bad o f z hz) gw_X1_bad cf_X1_bad ⟨rfl, rfl, by decide, by decide⟩ rfl dX1_rectangles_2 rfl (Nat.le_of_ble_eq_true rfl) (fun v hv => ?_)
  obtain rfl := hv
  refine r_if_eqB (tgt := 10) dX1_rectangles_5 (by decide) (fun h1 => ?_) (fun h1 => ?_)
  · obtain ⟨r, hr, rfl⟩ := bad_r h1
    have hq : qRects S (r : Int) = ((cntF (begS (S r)) 576 : Nat) : Int) := by
      unfold qRects
      rw [if_neg (by rw [h1]; decide), Int.toNat_natCast, cntF_all]
      unfold cnt
      rw [beg_tot 24 (Nat.le_refl _)]
    rw [hq] at ret
    have outer : ∀ (m y n : Nat) (t4 : Option Value), y + m = 24 → n = cntF (begS (S r)) (y * 24) → bW K o.1 rmD RX1 cX1_rectangles 5 (wM o f) 14 [some (.ref o.2.1), some (.int (zI (r : Int))), some (.int (zI (n : Int))), some (.int (zI (y : Int))), t4] [] := by
      intro m
      induction m with
      | zero =>
        intro y n t4 hy hn
        obtain rfl : y = 24 := by omega
        refine r_iload_n dX1_rectangles_14 rfl ?_
        refine r_bipushN (q := 24) dX1_rectangles_15 rfl (by decide) ?_
        refine r_icmp_geN (tgt := 56) dX1_rectangles_17 (by decide) (by omega) (by omega) (fun h2 => ?_) (fun h2 => ?_)
        · refine r_iload_n dX1_rectangles_56 rfl ?_
          exact ret _ _ _ dX1_rectangles_57 (by rw [hn])
        · exact absurd h2 (by omega)
      | succ m ih =>
        intro y n t4 hy hn
        have inner : ∀ (m2 x n : Nat), x + m2 = 24 → n = cntF (begS (S r)) (y * 24 + x) → bW K o.1 rmD RX1 cX1_rectangles 5 (wM o f) 23 [some (.ref o.2.1), some (.int (zI (r : Int))), some (.int (zI (n : Int))), some (.int (zI (y : Int))), some (.int (zI (x : Int)))] [] := by
          intro m2
          induction m2 with
          | zero =>
            intro x n hx hn
            obtain rfl : x = 24 := by omega
            refine r_iload dX1_rectangles_23 rfl ?_
            refine r_bipushN (q := 24) dX1_rectangles_25 rfl (by decide) ?_
            refine r_icmp_geN (tgt := 50) dX1_rectangles_27 (by decide) (by omega) (by omega) (fun h2 => ?_) (fun h2 => ?_)
            · refine r_iincN (q := 1) dX1_rectangles_50 rfl rfl (by decide) rfl ?_
              refine r_goto (tgt := 14) dX1_rectangles_53 (by decide) ?_
              exact ih (y + 1) n _ (by omega) (by rw [show (y + 1) * 24 = y * 24 + 24 by omega]; exact hn)
            · exact absurd h2 (by omega)
          | succ m2 ih2 =>
            intro x n hx hn
            have hst : cntF (begS (S r)) (y * 24 + (x + 1)) = cntF (begS (S r)) (y * 24 + x) + (if begS (S r) x y = true then 1 else 0) := by
              show cntF (begS (S r)) ((y * 24 + x) + 1) = _
              simp only [cntF]
              rw [show (y * 24 + x) % 24 = x by omega, show (y * 24 + x) / 24 = y by omega]
            refine r_iload dX1_rectangles_23 rfl ?_
            refine r_bipushN (q := 24) dX1_rectangles_25 rfl (by decide) ?_
            refine r_icmp_geN (tgt := 50) dX1_rectangles_27 (by decide) (by omega) (by omega) (fun h2 => ?_) (fun h2 => ?_)
            · exact absurd h2 (by omega)
            · refine r_aload_n dX1_rectangles_30 rfl ?_
              refine r_iload_n dX1_rectangles_31 rfl ?_
              refine r_iload dX1_rectangles_32 rfl ?_
              refine r_iload_n dX1_rectangles_34 rfl ?_
              refine m_callI (n_begins o f S hM r x y hr (by omega) (by omega)) gw_X1_begins cf_X1_begins ⟨rfl, rfl, by decide, by decide⟩ rfl dX1_rectangles_35 rfl (Nat.le_of_ble_eq_true rfl) (fun v hv => ?_)
              obtain rfl := hv
              refine r_if_eqB (tgt := 44) dX1_rectangles_38 (by decide) (fun h3 => ?_) (fun h3 => ?_)
              · refine r_iincN (q := 1) dX1_rectangles_44 rfl rfl (by decide) rfl ?_
                refine r_goto (tgt := 23) dX1_rectangles_47 (by decide) ?_
                exact ih2 (x + 1) n (by omega) (by rw [hst, h3, hn]; rfl)
              · refine r_iincN (q := 1) dX1_rectangles_41 rfl rfl (by decide) rfl ?_
                refine r_iincN (q := 1) dX1_rectangles_44 rfl rfl (by decide) rfl ?_
                refine r_goto (tgt := 23) dX1_rectangles_47 (by decide) ?_
                exact ih2 (x + 1) (n + 1) (by omega) (by rw [hst, h3, hn]; rfl)
        refine r_iload_n dX1_rectangles_14 rfl ?_
        refine r_bipushN (q := 24) dX1_rectangles_15 rfl (by decide) ?_
        refine r_icmp_geN (tgt := 56) dX1_rectangles_17 (by decide) (by omega) (by omega) (fun h2 => ?_) (fun h2 => ?_)
        · exact absurd h2 (by omega)
        · refine r_iconstN (q := 0) dX1_rectangles_20 rfl ?_
          refine r_istore dX1_rectangles_21 (by decide) rfl ?_
          exact inner 24 0 n (by omega) hn
    refine r_iconstN (q := 0) dX1_rectangles_10 rfl ?_
    refine r_istore_n dX1_rectangles_11 (by decide) rfl ?_
    refine r_iconstN (q := 0) dX1_rectangles_12 rfl ?_
    refine r_istore_n dX1_rectangles_13 (by decide) rfl ?_
    exact outer 24 0 0 _ (by omega) rfl
  · refine r_iconst dX1_rectangles_8 ?_
    exact ret _ _ _ dX1_rectangles_9 (by unfold qRects; rw [if_pos h1])
set_option maxHeartbeats 4000000 in
theorem n_rectangle (o : Ox) (f : Ff) (S : Sx) (hM : MI f S) (z i : Int) (hz : -2147483648 ≤ z ∧ z < 2147483648) (hi : -2147483648 ≤ i ∧ i < 2147483648) : mI yX1_rectangle cX1_rectangle 6 .int rmD o f [.int (zI z), .int (zI i)] (fun v => v = zI (qRect S z i)) := by
  refine m_metI (lv0 := [some (.ref o.2.1), some (.int (zI z)), some (.int (zI i)), none, none, none]) (by decide) rfl rfl (Nat.le_of_ble_eq_true rfl) rfl (fun v h => rfl) (fun K ret => ?_)
  refine r_aload_n dX1_rectangle_0 rfl ?_
  refine r_iload_n dX1_rectangle_1 rfl ?_
  refine m_callI (n_bad o f z hz) gw_X1_bad cf_X1_bad ⟨rfl, rfl, by decide, by decide⟩ rfl dX1_rectangle_2 rfl (Nat.le_of_ble_eq_true rfl) (fun v hv => ?_)
  obtain rfl := hv
  refine r_if_eqB (tgt := 10) dX1_rectangle_5 (by decide) (fun h1 => ?_) (fun h1 => ?_)
  · obtain ⟨r, hr, rfl⟩ := bad_r h1
    have hq : qRect S (r : Int) i = if i < 0 then -3 else rectL (bu (S r) 24) i.toNat := by
      unfold qRect
      rw [if_neg (by rw [h1]; decide), Int.toNat_natCast]
    rw [hq] at ret
    have outer : ∀ (m y n : Nat) (t5 : Option Value), y + m = 24 → n = cntF (begS (S r)) (y * 24) → n ≤ y * 24 → (i < 0 ∨ (n : Int) ≤ i) → bW K o.1 rmD RX1 cX1_rectangle 6 (wM o f) 15 [some (.ref o.2.1), some (.int (zI (r : Int))), some (.int (zI i)), some (.int (zI (n : Int))), some (.int (zI (y : Int))), t5] [] := by
      intro m
      induction m with
      | zero =>
        intro y n t5 hy hn hnl hni
        obtain rfl : y = 24 := by omega
        refine r_iload dX1_rectangle_15 rfl ?_
        refine r_bipushN (q := 24) dX1_rectangle_17 rfl (by decide) ?_
        refine r_icmp_geN (tgt := 74) dX1_rectangle_19 (by decide) (by omega) (by omega) (fun h2 => ?_) (fun h2 => ?_)
        · refine r_bipush dX1_rectangle_74 (by decide) (by decide) ?_
          refine ret _ _ _ dX1_rectangle_76 ?_
          by_cases h0 : i < 0
          · rw [if_pos h0]
          · rw [if_neg h0, rectL_out]
            have : n = tot (bu (S r) 24) := by
              rw [hn, ← beg_tot 24 (Nat.le_refl _)]
              exact cntF_all _
            omega
        · exact absurd h2 (by omega)
      | succ m ih =>
        intro y n t5 hy hn hnl hni
        have inner : ∀ (m2 x n : Nat), x + m2 = 24 → n = cntF (begS (S r)) (y * 24 + x) → n ≤ y * 24 + x → (i < 0 ∨ (n : Int) ≤ i) → bW K o.1 rmD RX1 cX1_rectangle 6 (wM o f) 25 [some (.ref o.2.1), some (.int (zI (r : Int))), some (.int (zI i)), some (.int (zI (n : Int))), some (.int (zI (y : Int))), some (.int (zI (x : Int)))] [] := by
          intro m2
          induction m2 with
          | zero =>
            intro x n hx hn hnl hni
            obtain rfl : x = 24 := by omega
            refine r_iload dX1_rectangle_25 rfl ?_
            refine r_bipushN (q := 24) dX1_rectangle_27 rfl (by decide) ?_
            refine r_icmp_geN (tgt := 68) dX1_rectangle_29 (by decide) (by omega) (by omega) (fun h2 => ?_) (fun h2 => ?_)
            · refine r_iincN (q := 1) dX1_rectangle_68 rfl rfl (by decide) rfl ?_
              refine r_goto (tgt := 15) dX1_rectangle_71 (by decide) ?_
              exact ih (y + 1) n _ (by omega) (by rw [show (y + 1) * 24 = y * 24 + 24 by omega]; exact hn) (by omega) hni
            · exact absurd h2 (by omega)
          | succ m2 ih2 =>
            intro x n hx hn hnl hni
            have hst : cntF (begS (S r)) (y * 24 + (x + 1)) = cntF (begS (S r)) (y * 24 + x) + (if begS (S r) x y = true then 1 else 0) := by
              show cntF (begS (S r)) ((y * 24 + x) + 1) = _
              simp only [cntF]
              rw [show (y * 24 + x) % 24 = x by omega, show (y * 24 + x) / 24 = y by omega]
            refine r_iload dX1_rectangle_25 rfl ?_
            refine r_bipushN (q := 24) dX1_rectangle_27 rfl (by decide) ?_
            refine r_icmp_geN (tgt := 68) dX1_rectangle_29 (by decide) (by omega) (by omega) (fun h2 => ?_) (fun h2 => ?_)
            · exact absurd h2 (by omega)
            · refine r_aload_n dX1_rectangle_32 rfl ?_
              refine r_iload_n dX1_rectangle_33 rfl ?_
              refine r_iload dX1_rectangle_34 rfl ?_
              refine r_iload dX1_rectangle_36 rfl ?_
              refine m_callI (n_begins o f S hM r x y hr (by omega) (by omega)) gw_X1_begins cf_X1_begins ⟨rfl, rfl, by decide, by decide⟩ rfl dX1_rectangle_38 rfl (Nat.le_of_ble_eq_true rfl) (fun v hv => ?_)
              obtain rfl := hv
              refine r_if_eqB (tgt := 62) dX1_rectangle_41 (by decide) (fun h3 => ?_) (fun h3 => ?_)
              · refine r_iincN (q := 1) dX1_rectangle_62 rfl rfl (by decide) rfl ?_
                refine r_goto (tgt := 25) dX1_rectangle_65 (by decide) ?_
                exact ih2 (x + 1) n (by omega) (by rw [hst, h3, hn]; rfl) (by omega) hni
              · refine r_iload_n dX1_rectangle_44 rfl ?_
                refine r_iload_n dX1_rectangle_45 rfl ?_
                refine r_icmp_ne (tgt := 59) dX1_rectangle_46 (by decide) (by omega) (by omega) (fun h4 => ?_) (fun h4 => ?_)
                · refine r_iincN (q := 1) dX1_rectangle_59 rfl rfl (by decide) rfl ?_
                  refine r_iincN (q := 1) dX1_rectangle_62 rfl rfl (by decide) rfl ?_
                  refine r_goto (tgt := 25) dX1_rectangle_65 (by decide) ?_
                  exact ih2 (x + 1) (n + 1) (by omega) (by rw [hst, h3, hn]; rfl) (by omega) (by omega)
                · refine r_aload_n dX1_rectangle_49 rfl ?_
                  refine r_iload_n dX1_rectangle_50 rfl ?_
                  refine r_iload dX1_rectangle_51 rfl ?_
                  refine r_iload dX1_rectangle_53 rfl ?_
                  have hT : S r x y = true := by
                    unfold begS newR at h3
                    rw [Bool.and_eq_true, Bool.and_eq_true] at h3
                    exact h3.1.1
                  refine m_callI (n_from o f S hM r x y hr (by omega) (by omega) hT) gw_X1_from cf_X1_from ⟨rfl, rfl, by decide, by decide⟩ rfl dX1_rectangle_55 rfl (Nat.le_of_ble_eq_true rfl) (fun v hv => ?_)
                  obtain ⟨u, v', hw, ⟨u0, u1, u2, u3⟩, ⟨v0, v1, v2, v3⟩⟩ := hv
                  refine ret _ _ _ dX1_rectangle_58 ?_
                  rw [hw, if_neg (by omega), show i.toNat = n by omega, hn, rect_at (by omega) (by omega) h3 u0 u1 u2 u3 v0 v1 v2 v3]
        refine r_iload dX1_rectangle_15 rfl ?_
        refine r_bipushN (q := 24) dX1_rectangle_17 rfl (by decide) ?_
        refine r_icmp_geN (tgt := 74) dX1_rectangle_19 (by decide) (by omega) (by omega) (fun h2 => ?_) (fun h2 => ?_)
        · exact absurd h2 (by omega)
        · refine r_iconstN (q := 0) dX1_rectangle_22 rfl ?_
          refine r_istore dX1_rectangle_23 (by decide) rfl ?_
          exact inner 24 0 n (by omega) hn hnl hni
    refine r_iconstN (q := 0) dX1_rectangle_10 rfl ?_
    refine r_istore_n dX1_rectangle_11 (by decide) rfl ?_
    refine r_iconstN (q := 0) dX1_rectangle_12 rfl ?_
    refine r_istore dX1_rectangle_13 (by decide) rfl ?_
    exact outer 24 0 0 _ (by omega) rfl (by omega) (by omega)
  · refine r_iconst dX1_rectangle_8 ?_
    exact ret _ _ _ dX1_rectangle_9 (by unfold qRect; rw [if_pos h1])
set_option maxHeartbeats 4000000 in
theorem n_around (o : Ox) (f : Ff) (S : Sx) (hM : MI f S) (z : Int) (hz : -2147483648 ≤ z ∧ z < 2147483648) : mI yX1_around cX1_around 8 .int rmD o f [.int (zI z)] (fun v => v = zI (qArnd S z)) := by
  refine m_metI (lv0 := [some (.ref o.2.1), some (.int (zI z)), none, none, none, none, none, none]) (by decide) rfl rfl (Nat.le_of_ble_eq_true rfl) rfl (fun v h => rfl) (fun K ret => ?_)
  refine r_aload_n dX1_around_0 rfl ?_
  refine r_iload_n dX1_around_1 rfl ?_
  refine m_callI (n_bad o f z hz) gw_X1_bad cf_X1_bad ⟨rfl, rfl, by decide, by decide⟩ rfl dX1_around_2 rfl (Nat.le_of_ble_eq_true rfl) (fun v hv => ?_)
  obtain rfl := hv
  refine r_if_eqB (tgt := 10) dX1_around_5 (by decide) (fun h1 => ?_) (fun h1 => ?_)
  · obtain ⟨r, hr, rfl⟩ := bad_r h1
    have hq : qArnd S (r : Int) = arndL (bu (S r) 24) := by
      unfold qArnd
      rw [if_neg (by rw [h1]; decide), Int.toNat_natCast]
    rw [hq] at ret
    have outer : ∀ (m y x1 y1 : Nat) (x2 y2 : Int) (t7 : Option Value), y + m = 24 → x1 ≤ 24 → y1 ≤ 24 → (-1 ≤ x2 ∧ x2 < 24) → (-1 ≤ y2 ∧ y2 < 24) → AR (S r) (y * 24) x1 y1 x2 y2 → bW K o.1 rmD RX1 cX1_around 8 (wM o f) 25 [some (.ref o.2.1), some (.int (zI (r : Int))), some (.int (zI (x1 : Int))), some (.int (zI (y1 : Int))), some (.int (zI x2)), some (.int (zI y2)), some (.int (zI (y : Int))), t7] [] := by
      intro m
      induction m with
      | zero =>
        intro y x1 y1 x2 y2 t7 hy b1 b2 b3 b4 hA
        obtain rfl : y = 24 := by omega
        obtain ⟨o1, o2⟩ := AR.out hA
        refine r_iload dX1_around_25 rfl ?_
        refine r_bipushN (q := 24) dX1_around_27 rfl (by decide) ?_
        refine r_icmp_geN (tgt := 124) dX1_around_29 (by decide) (by omega) (by omega) (fun h2 => ?_) (fun h2 => ?_)
        · refine r_iload dX1_around_124 rfl ?_
          refine r_if_ge (tgt := 132) dX1_around_126 (by decide) (by omega) (fun h3 => ?_) (fun h3 => ?_)
          · obtain ⟨X, Y, rfl, rfl, e⟩ := o2 h3
            refine r_iload_n dX1_around_132 rfl ?_
            refine r_bipushN (q := 32) dX1_around_133 rfl (by decide) ?_
            refine r_iload_n dX1_around_135 rfl ?_
            refine r_imulN dX1_around_136 ?_
            refine r_iaddN dX1_around_137 ?_
            refine r_sipushN (q := 1024) dX1_around_138 rfl (by decide) ?_
            refine r_iload dX1_around_141 rfl ?_
            refine r_imulN dX1_around_143 ?_
            refine r_iaddN dX1_around_144 ?_
            refine r_ldcN (q := 32768) dX1_around_145 q237 (by decide +kernel) ?_
            refine r_iload dX1_around_147 rfl ?_
            refine r_imulN dX1_around_149 ?_
            refine r_iaddN dX1_around_150 ?_
            exact ret _ _ _ dX1_around_151 (by rw [e]; rfl)
          · refine r_bipush dX1_around_129 (by decide) (by decide) ?_
            exact ret _ _ _ dX1_around_131 (by rw [o1 h3])
        · exact absurd h2 (by omega)
      | succ m ih =>
        intro y x1 y1 x2 y2 t7 hy b1 b2 b3 b4 hA
        have inner : ∀ (m2 x x1 y1 : Nat) (x2 y2 : Int), x + m2 = 24 → x1 ≤ 24 → y1 ≤ 24 → (-1 ≤ x2 ∧ x2 < 24) → (-1 ≤ y2 ∧ y2 < 24) → AR (S r) (y * 24 + x) x1 y1 x2 y2 → bW K o.1 rmD RX1 cX1_around 8 (wM o f) 35 [some (.ref o.2.1), some (.int (zI (r : Int))), some (.int (zI (x1 : Int))), some (.int (zI (y1 : Int))), some (.int (zI x2)), some (.int (zI y2)), some (.int (zI (y : Int))), some (.int (zI (x : Int)))] [] := by
          intro m2
          induction m2 with
          | zero =>
            intro x x1 y1 x2 y2 hx b1 b2 b3 b4 hA
            obtain rfl : x = 24 := by omega
            refine r_iload dX1_around_35 rfl ?_
            refine r_bipushN (q := 24) dX1_around_37 rfl (by decide) ?_
            refine r_icmp_geN (tgt := 118) dX1_around_39 (by decide) (by omega) (by omega) (fun h2 => ?_) (fun h2 => ?_)
            · refine r_iincN (q := 1) dX1_around_118 rfl rfl (by decide) rfl ?_
              refine r_goto (tgt := 25) dX1_around_121 (by decide) ?_
              exact ih (y + 1) x1 y1 x2 y2 _ (by omega) b1 b2 b3 b4 (by rw [show (y + 1) * 24 = y * 24 + 24 by omega]; exact hA)
            · exact absurd h2 (by omega)
          | succ m2 ih2 =>
            intro x x1 y1 x2 y2 hx b1 b2 b3 b4 hA
            have k112 : ∀ (a1 c1 : Nat) (a2 c2 : Int), a1 ≤ 24 → c1 ≤ 24 → (-1 ≤ a2 ∧ a2 < 24) → (-1 ≤ c2 ∧ c2 < 24) → AR (S r) (y * 24 + x + 1) a1 c1 a2 c2 → bW K o.1 rmD RX1 cX1_around 8 (wM o f) 112 [some (.ref o.2.1), some (.int (zI (r : Int))), some (.int (zI (a1 : Int))), some (.int (zI (c1 : Int))), some (.int (zI a2)), some (.int (zI c2)), some (.int (zI (y : Int))), some (.int (zI (x : Int)))] [] := by
              intro a1 c1 a2 c2 e1 e2 e3 e4 hA2
              refine r_iincN (q := 1) dX1_around_112 rfl rfl (by decide) rfl ?_
              refine r_goto (tgt := 35) dX1_around_115 (by decide) ?_
              exact ih2 (x + 1) a1 c1 a2 c2 (by omega) e1 e2 e3 e4 hA2
            refine r_iload dX1_around_35 rfl ?_
            refine r_bipushN (q := 24) dX1_around_37 rfl (by decide) ?_
            refine r_icmp_geN (tgt := 118) dX1_around_39 (by decide) (by omega) (by omega) (fun h2 => ?_) (fun h2 => ?_)
            · exact absurd h2 (by omega)
            · refine r_aload_n dX1_around_42 rfl ?_
              refine r_iload_n dX1_around_43 rfl ?_
              refine r_iload dX1_around_44 rfl ?_
              refine r_iload dX1_around_46 rfl ?_
              refine m_callI (n_has o f S hM (r : Int) (x : Int) (y : Int) (by omega) (by omega) (by omega)) gw_X1_has cf_X1_has ⟨rfl, rfl, by decide, by decide⟩ rfl dX1_around_48 rfl (Nat.le_of_ble_eq_true rfl) (fun v hv => ?_)
              rw [qHas_r hr (by omega) (by omega)] at hv
              obtain rfl := hv
              refine r_if_eqB (tgt := 112) dX1_around_51 (by decide) (fun h3 => ?_) (fun h3 => ?_)
              · exact k112 x1 y1 x2 y2 b1 b2 b3 b4 (hA.no (by omega) h3)
              · have hA2 := hA.yes (by omega) (by omega) h3
                have k110 : ∀ (a1 c1 : Nat) (a2 c2 : Int) (w5 : Int), a1 = (if x < x1 then x else x1) → c1 = (if y < y1 then y else y1) → a2 = (if x2 < (x : Int) then (x : Int) else x2) → c2 = (if y2 < (y : Int) then (y : Int) else y2) → bW K o.1 rmD RX1 cX1_around 8 (wM o f) 110 [some (.ref o.2.1), some (.int (zI (r : Int))), some (.int (zI (a1 : Int))), some (.int (zI (c1 : Int))), some (.int (zI a2)), some (.int (zI w5)), some (.int (zI (y : Int))), some (.int (zI (x : Int)))] [.int (zI c2)] := by
                  intro a1 c1 a2 c2 w5 e1 e2 e3 e4
                  refine r_istore dX1_around_110 (by decide) rfl ?_
                  rw [← e1, ← e2, ← e3, ← e4] at hA2
                  exact k112 a1 c1 a2 c2 (by split at e1 <;> omega) (by split at e2 <;> omega) (by split at e3 <;> omega) (by split at e4 <;> omega) hA2
                have k95 : ∀ (a1 c1 w3 : Nat) (a2 : Int), a1 = (if x < x1 then x else x1) → c1 = (if y < y1 then y else y1) → a2 = (if x2 < (x : Int) then (x : Int) else x2) → bW K o.1 rmD RX1 cX1_around 8 (wM o f) 95 [some (.ref o.2.1), some (.int (zI (r : Int))), some (.int (zI (a1 : Int))), some (.int (zI (w3 : Int))), some (.int (zI a2)), some (.int (zI y2)), some (.int (zI (y : Int))), some (.int (zI (x : Int)))] [.int (zI (c1 : Int))] := by
                  intro a1 c1 w3 a2 e1 e2 e3
                  refine r_istore_n dX1_around_95 (by decide) rfl ?_
                  refine r_iload dX1_around_96 rfl ?_
                  refine r_iload dX1_around_98 rfl ?_
                  refine r_icmp_le (tgt := 108) dX1_around_100 (by decide) (by omega) (by omega) (fun h4 => ?_) (fun h4 => ?_)
                  · refine r_iload dX1_around_108 rfl ?_
                    exact k110 a1 c1 a2 y2 _ e1 e2 e3 (by rw [if_neg (by omega)])
                  · refine r_iload dX1_around_103 rfl ?_
                    refine r_goto (tgt := 110) dX1_around_105 (by decide) ?_
                    exact k110 a1 c1 a2 _ _ e1 e2 e3 (by rw [if_pos (by omega)])
                have k81 : ∀ (a1 : Nat) (a2 w4 : Int), a1 = (if x < x1 then x else x1) → a2 = (if x2 < (x : Int) then (x : Int) else x2) → bW K o.1 rmD RX1 cX1_around 8 (wM o f) 81 [some (.ref o.2.1), some (.int (zI (r : Int))), some (.int (zI (a1 : Int))), some (.int (zI (y1 : Int))), some (.int (zI w4)), some (.int (zI y2)), some (.int (zI (y : Int))), some (.int (zI (x : Int)))] [.int (zI a2)] := by
                  intro a1 a2 w4 e1 e3
                  refine r_istore dX1_around_81 (by decide) rfl ?_
                  refine r_iload dX1_around_83 rfl ?_
                  refine r_iload_n dX1_around_85 rfl ?_
                  refine r_icmp_geN (tgt := 94) dX1_around_86 (by decide) (by omega) (by omega) (fun h4 => ?_) (fun h4 => ?_)
                  · refine r_iload_n dX1_around_94 rfl ?_
                    exact k95 a1 y1 _ a2 e1 (by rw [if_neg (by omega)]) e3
                  · refine r_iload dX1_around_89 rfl ?_
                    refine r_goto (tgt := 95) dX1_around_91 (by decide) ?_
                    exact k95 a1 y _ a2 e1 (by rw [if_pos (by omega)]) e3
                have k66 : ∀ (a1 w2 : Nat), a1 = (if x < x1 then x else x1) → bW K o.1 rmD RX1 cX1_around 8 (wM o f) 66 [some (.ref o.2.1), some (.int (zI (r : Int))), some (.int (zI (w2 : Int))), some (.int (zI (y1 : Int))), some (.int (zI x2)), some (.int (zI y2)), some (.int (zI (y : Int))), some (.int (zI (x : Int)))] [.int (zI (a1 : Int))] := by
                  intro a1 w2 e1
                  refine r_istore_n dX1_around_66 (by decide) rfl ?_
                  refine r_iload dX1_around_67 rfl ?_
                  refine r_iload dX1_around_69 rfl ?_
                  refine r_icmp_le (tgt := 79) dX1_around_71 (by decide) (by omega) (by omega) (fun h4 => ?_) (fun h4 => ?_)
                  · refine r_iload dX1_around_79 rfl ?_
                    exact k81 a1 x2 _ e1 (by rw [if_neg (by omega)])
                  · refine r_iload dX1_around_74 rfl ?_
                    refine r_goto (tgt := 81) dX1_around_76 (by decide) ?_
                    exact k81 a1 _ _ e1 (by rw [if_pos (by omega)])
                refine r_iload dX1_around_54 rfl ?_
                refine r_iload_n dX1_around_56 rfl ?_
                refine r_icmp_geN (tgt := 65) dX1_around_57 (by decide) (by omega) (by omega) (fun h4 => ?_) (fun h4 => ?_)
                · refine r_iload_n dX1_around_65 rfl ?_
                  exact k66 x1 _ (by rw [if_neg (by omega)])
                · refine r_iload dX1_around_60 rfl ?_
                  refine r_goto (tgt := 66) dX1_around_62 (by decide) ?_
                  exact k66 x _ (by rw [if_pos (by omega)])
        refine r_iload dX1_around_25 rfl ?_
        refine r_bipushN (q := 24) dX1_around_27 rfl (by decide) ?_
        refine r_icmp_geN (tgt := 124) dX1_around_29 (by decide) (by omega) (by omega) (fun h2 => ?_) (fun h2 => ?_)
        · exact absurd h2 (by omega)
        · refine r_iconstN (q := 0) dX1_around_32 rfl ?_
          refine r_istore dX1_around_33 (by decide) rfl ?_
          exact inner 24 0 x1 y1 x2 y2 (by omega) b1 b2 b3 b4 hA
    refine r_bipushN (q := 24) dX1_around_10 rfl (by decide) ?_
    refine r_istore_n dX1_around_12 (by decide) rfl ?_
    refine r_bipushN (q := 24) dX1_around_13 rfl (by decide) ?_
    refine r_istore_n dX1_around_15 (by decide) rfl ?_
    refine r_iconst dX1_around_16 ?_
    refine r_istore dX1_around_17 (by decide) rfl ?_
    refine r_iconst dX1_around_19 ?_
    refine r_istore dX1_around_20 (by decide) rfl ?_
    refine r_iconstN (q := 0) dX1_around_22 rfl ?_
    refine r_istore dX1_around_23 (by decide) rfl ?_
    exact outer 24 0 24 24 (-1) (-1) _ (by omega) (by omega) (by omega) (by omega) (by omega) ⟨fun x y _ _ h => absurd h (by omega), Or.inl ⟨rfl, rfl, rfl, rfl⟩⟩
  · refine r_iconst dX1_around_8 ?_
    exact ret _ _ _ dX1_around_9 (by unfold qArnd; rw [if_pos h1])
end
section
/-! the two constructors -/
set_option maxRecDepth 100000
def rmX : Room := { frames := 1, cells := 8, slots := 3370, locals := 12 }
def rmY : Room := { frames := 1, cells := 2, slots := 2304, locals := 12 }
def wX0 (a : Nat) : va_W := [(a, .inr (0, [.null, .null, .null, .null, .null, .null, .null, .null]))]
def wM0 (a : Nat) : va_W := [(a, .inr (1, [.null, .null]))]
def ad8 (q0 q1 q2 q3 q4 q5 q6 q7 : Nat) : Nat → Nat := fun k => match k with
  | 0 => q0
  | 1 => q1
  | 2 => q2
  | 3 => q3
  | 4 => q4
  | 5 => q5
  | 6 => q6
  | _ => q7
def ad2 (q0 q1 : Nat) : Nat → Nat := fun k => match k with
  | 0 => q0
  | _ => q1
theorem z0_arr (n : Nat) (cA : ClassId) : vp_cell cA (n, .inl (fun _ => zI ((0 : Nat) : Int))) = arrV cA n (fun _ => defaultValue .int) := by
  rw [show zI ((0 : Nat) : Int) = 0 by decide +kernel]
  rfl
theorem zf_arr (n : Nat) (cA : ClassId) : vp_cell cA (n, .inl (fun _ => zI (bI false))) = arrV cA n (fun _ => defaultValue .boolean) := by
  rw [zI_0eq]
  rfl
theorem tyG_int {G : Gx} {cl : List vw_C} {s : State} {cA : ClassId} (h : va_K G.1 cl (tyG G ++ [(cA, .int)]) s) : cA = G.2.1 := Option.some.inj (Eq.trans (show some cA = s.vm.findClass ("[" ++ FieldType.int.toString) from ((h.2 2 (cA, .int) rfl).2 : s.vm.findClass ("[" ++ FieldType.int.toString) = some cA).symm) ((h.2 0 (G.2.1, .int) rfl).2 : s.vm.findClass ("[" ++ FieldType.int.toString) = some G.2.1))
theorem tyG_bool {G : Gx} {cl : List vw_C} {s : State} {cA : ClassId} (h : va_K G.1 cl (tyG G ++ [(cA, .boolean)]) s) : cA = G.2.2 := Option.some.inj (Eq.trans (show some cA = s.vm.findClass ("[" ++ FieldType.boolean.toString) from ((h.2 2 (cA, .boolean) rfl).2 : s.vm.findClass ("[" ++ FieldType.boolean.toString) = some cA).symm) ((h.2 1 (G.2.2, .boolean) rfl).2 : s.vm.findClass ("[" ++ FieldType.boolean.toString) = some G.2.2))
set_option maxHeartbeats 4000000 in
theorem c_initX0 (G : Gx) (a : Nat) (l : Launch) (sz : Nat) : Met l yX0_init (ws_ yX0_init cX0_init 1 none) rmX (mPc G (wX0 a) [.ref a] sz) (va_Qv (fun u : (Nat → Nat) × Gg => ∀ k j, u.2 k j = 0) (mB G (fun u : (Nat → Nat) × Gg => wX (G, a, u.1) u.2) (va_A (wX0 a) sz)) (va_A (wX0 a) sz)) 8 3370 (va_A (wX0 a) sz) := by
  refine Met.ofW (cc := cX0_init) (maxL := 1) (ret := none) (by decide) rfl ?_
  intro p e s m args below meth c s₁ B hml hv
  obtain ⟨rfl, hsz, hP, hK, hD0⟩ := hv
  subst hsz
  have hx := B.exec
  have hb := B.bytes
  have hr := B.returns
  have hts := atoms_spec (ws := ws_ yX0_init cX0_init 1 none) B.pre
  have hts : ∀ w ∈ lw_all, w.before _ s = true := fun w h => hts w (List.mem_cons_of_mem _ h)
  have hown : s.vm.findClass RX0 = some m.cls := findClass_of_methodNamed B.named
  have hlocks := B.notSynchronized
  have hin : meth.name = "<init>" := (name_of_methodNamed B.named B.method).1
  have hD := hD0.self (sz := s.heap.size)
  generalize hAe : va_A (wX0 a) s.heap.size = A at hD ⊢
  have hA : ∀ q : Nat, s.heap.size ≤ q → A q := fun q h => by rw [← hAe]; exact Or.inr h
  have hS : va_S A s.heap s.heap [] := va_S.rf
  have hl := lv_entry ([.ref a]) (n := 1) (Nat.le_of_ble_eq_true rfl)
  rw [lg_entry_eq]
  generalize (lg_sl ([.ref a]) ++ List.replicate (1 - (lg_sl ([.ref a])).length) Slot.unset).toArray = ls at hl ⊢
  have hl : lv_has ls 1 [(0, .ref a)] := hl
  refine lv_aload_n hx hb dX0_init_0 rfl (lv_at hl 0 rfl) ?_
  refine W.objInit hx hb hown (hts _ q27) (hts _ q28) (hts _ q29) rfl (by rw [hml]; exact hl.1) rfl dX0_init_1 (Nat.le_of_ble_eq_true rfl) (Nat.le_of_ble_eq_true rfl) ?_
  refine W.eq (g2 := F0 m 4 ls []) rfl ?_
  have hP : va_P G.1 vwCl [(a, .inr (0, [.null, .null, .null, .null, .null, .null, .null, .null]))] s.heap := hP
  have hD : va_D A [(a, .inr (0, [.null, .null, .null, .null, .null, .null, .null, .null]))] := hD
  refine lv_aload_n hx hb dX0_init_4 rfl (lv_at hl 0 rfl) ?_
  refine lv_iconst (v := 5) hx hb dX0_init_5 (by decide +kernel) ?_
  refine va_newa (atype := .int) (ty := .int) (N' := 5) (a0 := (5, .inl (fun _ => zI ((0 : Nat) : Int)))) hx hb (hts _ q55) rfl hK hP hD hS hA (z0_arr 5) (by decide +kernel) (by decide +kernel) (by decide +kernel) (Nat.le_of_ble_eq_true rfl) (Nat.le_of_ble_eq_true rfl) dX0_init_6 (fun q0_ cA0 H hK0 hP hD hS => ?_)
  have eA0 := tyG_int hK0
  subst eA0
  have hP : va_P G.1 vwCl [(a, .inr (0, [.null, .null, .null, .null, .null, .null, .null, .null])), (q0_, .inl (G.2.1, 5, .inl (fun _ => zI ((0 : Nat) : Int))))] H := hP
  have hD : va_D A [(a, .inr (0, [.null, .null, .null, .null, .null, .null, .null, .null])), (q0_, .inl (G.2.1, 5, .inl (fun _ => zI ((0 : Nat) : Int))))] := hD
  refine va_putF (D := G.1) (ci := 0) (v := .ref q0_) (ty := .array .int) (C := RX0) (T := TX0) (N := 8) hx hb hts in_X0 tyX0 tyX0_ok nmX0 hown hK hP hD hS 0 rfl rfl 0 (by decide) (hts _ q30) (fun _ h9 => h9) rfl hin rfl (by decide +kernel) rfl rfl (Nat.le_of_ble_eq_true rfl) dX0_init_8 (fun H locs hP hD hS => ?_)
  have hP : va_P G.1 vwCl [(a, .inr (0, [.ref q0_, .null, .null, .null, .null, .null, .null, .null])), (q0_, .inl (G.2.1, 5, .inl (fun _ => zI ((0 : Nat) : Int))))] H := hP
  have hD : va_D A [(a, .inr (0, [.ref q0_, .null, .null, .null, .null, .null, .null, .null])), (q0_, .inl (G.2.1, 5, .inl (fun _ => zI ((0 : Nat) : Int))))] := hD
  refine lv_aload_n hx hb dX0_init_11 rfl (lv_at hl 0 rfl) ?_
  refine lv_bipush (v := 120) hx hb dX0_init_12 (by decide +kernel) ?_
  refine va_newa (atype := .int) (ty := .int) (N' := 120) (a0 := (120, .inl (fun _ => zI ((0 : Nat) : Int)))) hx hb (hts _ q55) rfl hK hP hD hS hA (z0_arr 120) (by decide +kernel) (by decide +kernel) (by decide +kernel) (Nat.le_of_ble_eq_true rfl) (Nat.le_of_ble_eq_true rfl) dX0_init_14 (fun q1_ cA1 H hK1 hP hD hS => ?_)
  have eA1 := tyG_int hK1
  subst eA1
  have hP : va_P G.1 vwCl [(a, .inr (0, [.ref q0_, .null, .null, .null, .null, .null, .null, .null])), (q0_, .inl (G.2.1, 5, .inl (fun _ => zI ((0 : Nat) : Int)))), (q1_, .inl (G.2.1, 120, .inl (fun _ => zI ((0 : Nat) : Int))))] H := hP
  have hD : va_D A [(a, .inr (0, [.ref q0_, .null, .null, .null, .null, .null, .null, .null])), (q0_, .inl (G.2.1, 5, .inl (fun _ => zI ((0 : Nat) : Int)))), (q1_, .inl (G.2.1, 120, .inl (fun _ => zI ((0 : Nat) : Int))))] := hD
  refine va_putF (D := G.1) (ci := 0) (v := .ref q1_) (ty := .array .int) (C := RX0) (T := TX0) (N := 8) hx hb hts in_X0 tyX0 tyX0_ok nmX0 hown hK hP hD hS 0 rfl rfl 1 (by decide) (hts _ q31) (fun _ h9 => h9) rfl hin rfl (by decide +kernel) rfl rfl (Nat.le_of_ble_eq_true rfl) dX0_init_16 (fun H locs hP hD hS => ?_)
  have hP : va_P G.1 vwCl [(a, .inr (0, [.ref q0_, .ref q1_, .null, .null, .null, .null, .null, .null])), (q0_, .inl (G.2.1, 5, .inl (fun _ => zI ((0 : Nat) : Int)))), (q1_, .inl (G.2.1, 120, .inl (fun _ => zI ((0 : Nat) : Int))))] H := hP
  have hD : va_D A [(a, .inr (0, [.ref q0_, .ref q1_, .null, .null, .null, .null, .null, .null])), (q0_, .inl (G.2.1, 5, .inl (fun _ => zI ((0 : Nat) : Int)))), (q1_, .inl (G.2.1, 120, .inl (fun _ => zI ((0 : Nat) : Int))))] := hD
  refine lv_aload_n hx hb dX0_init_19 rfl (lv_at hl 0 rfl) ?_
  refine lv_bipush (v := 120) hx hb dX0_init_20 (by decide +kernel) ?_
  refine va_newa (atype := .int) (ty := .int) (N' := 120) (a0 := (120, .inl (fun _ => zI ((0 : Nat) : Int)))) hx hb (hts _ q55) rfl hK hP hD hS hA (z0_arr 120) (by decide +kernel) (by decide +kernel) (by decide +kernel) (Nat.le_of_ble_eq_true rfl) (Nat.le_of_ble_eq_true rfl) dX0_init_22 (fun q2_ cA2 H hK2 hP hD hS => ?_)
  have eA2 := tyG_int hK2
  subst eA2
  have hP : va_P G.1 vwCl [(a, .inr (0, [.ref q0_, .ref q1_, .null, .null, .null, .null, .null, .null])), (q0_, .inl (G.2.1, 5, .inl (fun _ => zI ((0 : Nat) : Int)))), (q1_, .inl (G.2.1, 120, .inl (fun _ => zI ((0 : Nat) : Int)))), (q2_, .inl (G.2.1, 120, .inl (fun _ => zI ((0 : Nat) : Int))))] H := hP
  have hD : va_D A [(a, .inr (0, [.ref q0_, .ref q1_, .null, .null, .null, .null, .null, .null])), (q0_, .inl (G.2.1, 5, .inl (fun _ => zI ((0 : Nat) : Int)))), (q1_, .inl (G.2.1, 120, .inl (fun _ => zI ((0 : Nat) : Int)))), (q2_, .inl (G.2.1, 120, .inl (fun _ => zI ((0 : Nat) : Int))))] := hD
  refine va_putF (D := G.1) (ci := 0) (v := .ref q2_) (ty := .array .int) (C := RX0) (T := TX0) (N := 8) hx hb hts in_X0 tyX0 tyX0_ok nmX0 hown hK hP hD hS 0 rfl rfl 2 (by decide) (hts _ q32) (fun _ h9 => h9) rfl hin rfl (by decide +kernel) rfl rfl (Nat.le_of_ble_eq_true rfl) dX0_init_24 (fun H locs hP hD hS => ?_)
  have hP : va_P G.1 vwCl [(a, .inr (0, [.ref q0_, .ref q1_, .ref q2_, .null, .null, .null, .null, .null])), (q0_, .inl (G.2.1, 5, .inl (fun _ => zI ((0 : Nat) : Int)))), (q1_, .inl (G.2.1, 120, .inl (fun _ => zI ((0 : Nat) : Int)))), (q2_, .inl (G.2.1, 120, .inl (fun _ => zI ((0 : Nat) : Int))))] H := hP
  have hD : va_D A [(a, .inr (0, [.ref q0_, .ref q1_, .ref q2_, .null, .null, .null, .null, .null])), (q0_, .inl (G.2.1, 5, .inl (fun _ => zI ((0 : Nat) : Int)))), (q1_, .inl (G.2.1, 120, .inl (fun _ => zI ((0 : Nat) : Int)))), (q2_, .inl (G.2.1, 120, .inl (fun _ => zI ((0 : Nat) : Int))))] := hD
  refine lv_aload_n hx hb dX0_init_27 rfl (lv_at hl 0 rfl) ?_
  refine lv_bipush (v := 120) hx hb dX0_init_28 (by decide +kernel) ?_
  refine va_newa (atype := .int) (ty := .int) (N' := 120) (a0 := (120, .inl (fun _ => zI ((0 : Nat) : Int)))) hx hb (hts _ q55) rfl hK hP hD hS hA (z0_arr 120) (by decide +kernel) (by decide +kernel) (by decide +kernel) (Nat.le_of_ble_eq_true rfl) (Nat.le_of_ble_eq_true rfl) dX0_init_30 (fun q3_ cA3 H hK3 hP hD hS => ?_)
  have eA3 := tyG_int hK3
  subst eA3
  have hP : va_P G.1 vwCl [(a, .inr (0, [.ref q0_, .ref q1_, .ref q2_, .null, .null, .null, .null, .null])), (q0_, .inl (G.2.1, 5, .inl (fun _ => zI ((0 : Nat) : Int)))), (q1_, .inl (G.2.1, 120, .inl (fun _ => zI ((0 : Nat) : Int)))), (q2_, .inl (G.2.1, 120, .inl (fun _ => zI ((0 : Nat) : Int)))), (q3_, .inl (G.2.1, 120, .inl (fun _ => zI ((0 : Nat) : Int))))] H := hP
  have hD : va_D A [(a, .inr (0, [.ref q0_, .ref q1_, .ref q2_, .null, .null, .null, .null, .null])), (q0_, .inl (G.2.1, 5, .inl (fun _ => zI ((0 : Nat) : Int)))), (q1_, .inl (G.2.1, 120, .inl (fun _ => zI ((0 : Nat) : Int)))), (q2_, .inl (G.2.1, 120, .inl (fun _ => zI ((0 : Nat) : Int)))), (q3_, .inl (G.2.1, 120, .inl (fun _ => zI ((0 : Nat) : Int))))] := hD
  refine va_putF (D := G.1) (ci := 0) (v := .ref q3_) (ty := .array .int) (C := RX0) (T := TX0) (N := 8) hx hb hts in_X0 tyX0 tyX0_ok nmX0 hown hK hP hD hS 0 rfl rfl 3 (by decide) (hts _ q33) (fun _ h9 => h9) rfl hin rfl (by decide +kernel) rfl rfl (Nat.le_of_ble_eq_true rfl) dX0_init_32 (fun H locs hP hD hS => ?_)
  have hP : va_P G.1 vwCl [(a, .inr (0, [.ref q0_, .ref q1_, .ref q2_, .ref q3_, .null, .null, .null, .null])), (q0_, .inl (G.2.1, 5, .inl (fun _ => zI ((0 : Nat) : Int)))), (q1_, .inl (G.2.1, 120, .inl (fun _ => zI ((0 : Nat) : Int)))), (q2_, .inl (G.2.1, 120, .inl (fun _ => zI ((0 : Nat) : Int)))), (q3_, .inl (G.2.1, 120, .inl (fun _ => zI ((0 : Nat) : Int))))] H := hP
  have hD : va_D A [(a, .inr (0, [.ref q0_, .ref q1_, .ref q2_, .ref q3_, .null, .null, .null, .null])), (q0_, .inl (G.2.1, 5, .inl (fun _ => zI ((0 : Nat) : Int)))), (q1_, .inl (G.2.1, 120, .inl (fun _ => zI ((0 : Nat) : Int)))), (q2_, .inl (G.2.1, 120, .inl (fun _ => zI ((0 : Nat) : Int)))), (q3_, .inl (G.2.1, 120, .inl (fun _ => zI ((0 : Nat) : Int))))] := hD
  refine lv_aload_n hx hb dX0_init_35 rfl (lv_at hl 0 rfl) ?_
  refine lv_bipush (v := 120) hx hb dX0_init_36 (by decide +kernel) ?_
  refine va_newa (atype := .int) (ty := .int) (N' := 120) (a0 := (120, .inl (fun _ => zI ((0 : Nat) : Int)))) hx hb (hts _ q55) rfl hK hP hD hS hA (z0_arr 120) (by decide +kernel) (by decide +kernel) (by decide +kernel) (Nat.le_of_ble_eq_true rfl) (Nat.le_of_ble_eq_true rfl) dX0_init_38 (fun q4_ cA4 H hK4 hP hD hS => ?_)
  have eA4 := tyG_int hK4
  subst eA4
  have hP : va_P G.1 vwCl [(a, .inr (0, [.ref q0_, .ref q1_, .ref q2_, .ref q3_, .null, .null, .null, .null])), (q0_, .inl (G.2.1, 5, .inl (fun _ => zI ((0 : Nat) : Int)))), (q1_, .inl (G.2.1, 120, .inl (fun _ => zI ((0 : Nat) : Int)))), (q2_, .inl (G.2.1, 120, .inl (fun _ => zI ((0 : Nat) : Int)))), (q3_, .inl (G.2.1, 120, .inl (fun _ => zI ((0 : Nat) : Int)))), (q4_, .inl (G.2.1, 120, .inl (fun _ => zI ((0 : Nat) : Int))))] H := hP
  have hD : va_D A [(a, .inr (0, [.ref q0_, .ref q1_, .ref q2_, .ref q3_, .null, .null, .null, .null])), (q0_, .inl (G.2.1, 5, .inl (fun _ => zI ((0 : Nat) : Int)))), (q1_, .inl (G.2.1, 120, .inl (fun _ => zI ((0 : Nat) : Int)))), (q2_, .inl (G.2.1, 120, .inl (fun _ => zI ((0 : Nat) : Int)))), (q3_, .inl (G.2.1, 120, .inl (fun _ => zI ((0 : Nat) : Int)))), (q4_, .inl (G.2.1, 120, .inl (fun _ => zI ((0 : Nat) : Int))))] := hD
  refine va_putF (D := G.1) (ci := 0) (v := .ref q4_) (ty := .array .int) (C := RX0) (T := TX0) (N := 8) hx hb hts in_X0 tyX0 tyX0_ok nmX0 hown hK hP hD hS 0 rfl rfl 4 (by decide) (hts _ q34) (fun _ h9 => h9) rfl hin rfl (by decide +kernel) rfl rfl (Nat.le_of_ble_eq_true rfl) dX0_init_40 (fun H locs hP hD hS => ?_)
  have hP : va_P G.1 vwCl [(a, .inr (0, [.ref q0_, .ref q1_, .ref q2_, .ref q3_, .ref q4_, .null, .null, .null])), (q0_, .inl (G.2.1, 5, .inl (fun _ => zI ((0 : Nat) : Int)))), (q1_, .inl (G.2.1, 120, .inl (fun _ => zI ((0 : Nat) : Int)))), (q2_, .inl (G.2.1, 120, .inl (fun _ => zI ((0 : Nat) : Int)))), (q3_, .inl (G.2.1, 120, .inl (fun _ => zI ((0 : Nat) : Int)))), (q4_, .inl (G.2.1, 120, .inl (fun _ => zI ((0 : Nat) : Int))))] H := hP
  have hD : va_D A [(a, .inr (0, [.ref q0_, .ref q1_, .ref q2_, .ref q3_, .ref q4_, .null, .null, .null])), (q0_, .inl (G.2.1, 5, .inl (fun _ => zI ((0 : Nat) : Int)))), (q1_, .inl (G.2.1, 120, .inl (fun _ => zI ((0 : Nat) : Int)))), (q2_, .inl (G.2.1, 120, .inl (fun _ => zI ((0 : Nat) : Int)))), (q3_, .inl (G.2.1, 120, .inl (fun _ => zI ((0 : Nat) : Int)))), (q4_, .inl (G.2.1, 120, .inl (fun _ => zI ((0 : Nat) : Int))))] := hD
  refine lv_aload_n hx hb dX0_init_43 rfl (lv_at hl 0 rfl) ?_
  refine lv_iconst (v := 5) hx hb dX0_init_44 (by decide +kernel) ?_
  refine va_newa (atype := .int) (ty := .int) (N' := 5) (a0 := (5, .inl (fun _ => zI ((0 : Nat) : Int)))) hx hb (hts _ q55) rfl hK hP hD hS hA (z0_arr 5) (by decide +kernel) (by decide +kernel) (by decide +kernel) (Nat.le_of_ble_eq_true rfl) (Nat.le_of_ble_eq_true rfl) dX0_init_45 (fun q5_ cA5 H hK5 hP hD hS => ?_)
  have eA5 := tyG_int hK5
  subst eA5
  have hP : va_P G.1 vwCl [(a, .inr (0, [.ref q0_, .ref q1_, .ref q2_, .ref q3_, .ref q4_, .null, .null, .null])), (q0_, .inl (G.2.1, 5, .inl (fun _ => zI ((0 : Nat) : Int)))), (q1_, .inl (G.2.1, 120, .inl (fun _ => zI ((0 : Nat) : Int)))), (q2_, .inl (G.2.1, 120, .inl (fun _ => zI ((0 : Nat) : Int)))), (q3_, .inl (G.2.1, 120, .inl (fun _ => zI ((0 : Nat) : Int)))), (q4_, .inl (G.2.1, 120, .inl (fun _ => zI ((0 : Nat) : Int)))), (q5_, .inl (G.2.1, 5, .inl (fun _ => zI ((0 : Nat) : Int))))] H := hP
  have hD : va_D A [(a, .inr (0, [.ref q0_, .ref q1_, .ref q2_, .ref q3_, .ref q4_, .null, .null, .null])), (q0_, .inl (G.2.1, 5, .inl (fun _ => zI ((0 : Nat) : Int)))), (q1_, .inl (G.2.1, 120, .inl (fun _ => zI ((0 : Nat) : Int)))), (q2_, .inl (G.2.1, 120, .inl (fun _ => zI ((0 : Nat) : Int)))), (q3_, .inl (G.2.1, 120, .inl (fun _ => zI ((0 : Nat) : Int)))), (q4_, .inl (G.2.1, 120, .inl (fun _ => zI ((0 : Nat) : Int)))), (q5_, .inl (G.2.1, 5, .inl (fun _ => zI ((0 : Nat) : Int))))] := hD
  refine va_putF (D := G.1) (ci := 0) (v := .ref q5_) (ty := .array .int) (C := RX0) (T := TX0) (N := 8) hx hb hts in_X0 tyX0 tyX0_ok nmX0 hown hK hP hD hS 0 rfl rfl 5 (by decide) (hts _ q35) (fun _ h9 => h9) rfl hin rfl (by decide +kernel) rfl rfl (Nat.le_of_ble_eq_true rfl) dX0_init_47 (fun H locs hP hD hS => ?_)
  have hP : va_P G.1 vwCl [(a, .inr (0, [.ref q0_, .ref q1_, .ref q2_, .ref q3_, .ref q4_, .ref q5_, .null, .null])), (q0_, .inl (G.2.1, 5, .inl (fun _ => zI ((0 : Nat) : Int)))), (q1_, .inl (G.2.1, 120, .inl (fun _ => zI ((0 : Nat) : Int)))), (q2_, .inl (G.2.1, 120, .inl (fun _ => zI ((0 : Nat) : Int)))), (q3_, .inl (G.2.1, 120, .inl (fun _ => zI ((0 : Nat) : Int)))), (q4_, .inl (G.2.1, 120, .inl (fun _ => zI ((0 : Nat) : Int)))), (q5_, .inl (G.2.1, 5, .inl (fun _ => zI ((0 : Nat) : Int))))] H := hP
  have hD : va_D A [(a, .inr (0, [.ref q0_, .ref q1_, .ref q2_, .ref q3_, .ref q4_, .ref q5_, .null, .null])), (q0_, .inl (G.2.1, 5, .inl (fun _ => zI ((0 : Nat) : Int)))), (q1_, .inl (G.2.1, 120, .inl (fun _ => zI ((0 : Nat) : Int)))), (q2_, .inl (G.2.1, 120, .inl (fun _ => zI ((0 : Nat) : Int)))), (q3_, .inl (G.2.1, 120, .inl (fun _ => zI ((0 : Nat) : Int)))), (q4_, .inl (G.2.1, 120, .inl (fun _ => zI ((0 : Nat) : Int)))), (q5_, .inl (G.2.1, 5, .inl (fun _ => zI ((0 : Nat) : Int))))] := hD
  refine lv_aload_n hx hb dX0_init_50 rfl (lv_at hl 0 rfl) ?_
  refine lv_sipush (v := 1440) hx hb dX0_init_51 (by decide +kernel) ?_
  refine va_newa (atype := .int) (ty := .int) (N' := 1440) (a0 := (1440, .inl (fun _ => zI ((0 : Nat) : Int)))) hx hb (hts _ q55) rfl hK hP hD hS hA (z0_arr 1440) (by decide +kernel) (by decide +kernel) (by decide +kernel) (Nat.le_of_ble_eq_true rfl) (Nat.le_of_ble_eq_true rfl) dX0_init_54 (fun q6_ cA6 H hK6 hP hD hS => ?_)
  have eA6 := tyG_int hK6
  subst eA6
  have hP : va_P G.1 vwCl [(a, .inr (0, [.ref q0_, .ref q1_, .ref q2_, .ref q3_, .ref q4_, .ref q5_, .null, .null])), (q0_, .inl (G.2.1, 5, .inl (fun _ => zI ((0 : Nat) : Int)))), (q1_, .inl (G.2.1, 120, .inl (fun _ => zI ((0 : Nat) : Int)))), (q2_, .inl (G.2.1, 120, .inl (fun _ => zI ((0 : Nat) : Int)))), (q3_, .inl (G.2.1, 120, .inl (fun _ => zI ((0 : Nat) : Int)))), (q4_, .inl (G.2.1, 120, .inl (fun _ => zI ((0 : Nat) : Int)))), (q5_, .inl (G.2.1, 5, .inl (fun _ => zI ((0 : Nat) : Int)))), (q6_, .inl (G.2.1, 1440, .inl (fun _ => zI ((0 : Nat) : Int))))] H := hP
  have hD : va_D A [(a, .inr (0, [.ref q0_, .ref q1_, .ref q2_, .ref q3_, .ref q4_, .ref q5_, .null, .null])), (q0_, .inl (G.2.1, 5, .inl (fun _ => zI ((0 : Nat) : Int)))), (q1_, .inl (G.2.1, 120, .inl (fun _ => zI ((0 : Nat) : Int)))), (q2_, .inl (G.2.1, 120, .inl (fun _ => zI ((0 : Nat) : Int)))), (q3_, .inl (G.2.1, 120, .inl (fun _ => zI ((0 : Nat) : Int)))), (q4_, .inl (G.2.1, 120, .inl (fun _ => zI ((0 : Nat) : Int)))), (q5_, .inl (G.2.1, 5, .inl (fun _ => zI ((0 : Nat) : Int)))), (q6_, .inl (G.2.1, 1440, .inl (fun _ => zI ((0 : Nat) : Int))))] := hD
  refine va_putF (D := G.1) (ci := 0) (v := .ref q6_) (ty := .array .int) (C := RX0) (T := TX0) (N := 8) hx hb hts in_X0 tyX0 tyX0_ok nmX0 hown hK hP hD hS 0 rfl rfl 6 (by decide) (hts _ q36) (fun _ h9 => h9) rfl hin rfl (by decide +kernel) rfl rfl (Nat.le_of_ble_eq_true rfl) dX0_init_56 (fun H locs hP hD hS => ?_)
  have hP : va_P G.1 vwCl [(a, .inr (0, [.ref q0_, .ref q1_, .ref q2_, .ref q3_, .ref q4_, .ref q5_, .ref q6_, .null])), (q0_, .inl (G.2.1, 5, .inl (fun _ => zI ((0 : Nat) : Int)))), (q1_, .inl (G.2.1, 120, .inl (fun _ => zI ((0 : Nat) : Int)))), (q2_, .inl (G.2.1, 120, .inl (fun _ => zI ((0 : Nat) : Int)))), (q3_, .inl (G.2.1, 120, .inl (fun _ => zI ((0 : Nat) : Int)))), (q4_, .inl (G.2.1, 120, .inl (fun _ => zI ((0 : Nat) : Int)))), (q5_, .inl (G.2.1, 5, .inl (fun _ => zI ((0 : Nat) : Int)))), (q6_, .inl (G.2.1, 1440, .inl (fun _ => zI ((0 : Nat) : Int))))] H := hP
  have hD : va_D A [(a, .inr (0, [.ref q0_, .ref q1_, .ref q2_, .ref q3_, .ref q4_, .ref q5_, .ref q6_, .null])), (q0_, .inl (G.2.1, 5, .inl (fun _ => zI ((0 : Nat) : Int)))), (q1_, .inl (G.2.1, 120, .inl (fun _ => zI ((0 : Nat) : Int)))), (q2_, .inl (G.2.1, 120, .inl (fun _ => zI ((0 : Nat) : Int)))), (q3_, .inl (G.2.1, 120, .inl (fun _ => zI ((0 : Nat) : Int)))), (q4_, .inl (G.2.1, 120, .inl (fun _ => zI ((0 : Nat) : Int)))), (q5_, .inl (G.2.1, 5, .inl (fun _ => zI ((0 : Nat) : Int)))), (q6_, .inl (G.2.1, 1440, .inl (fun _ => zI ((0 : Nat) : Int))))] := hD
  refine lv_aload_n hx hb dX0_init_59 rfl (lv_at hl 0 rfl) ?_
  refine lv_sipush (v := 1440) hx hb dX0_init_60 (by decide +kernel) ?_
  refine va_newa (atype := .int) (ty := .int) (N' := 1440) (a0 := (1440, .inl (fun _ => zI ((0 : Nat) : Int)))) hx hb (hts _ q55) rfl hK hP hD hS hA (z0_arr 1440) (by decide +kernel) (by decide +kernel) (by decide +kernel) (Nat.le_of_ble_eq_true rfl) (Nat.le_of_ble_eq_true rfl) dX0_init_63 (fun q7_ cA7 H hK7 hP hD hS => ?_)
  have eA7 := tyG_int hK7
  subst eA7
  have hP : va_P G.1 vwCl [(a, .inr (0, [.ref q0_, .ref q1_, .ref q2_, .ref q3_, .ref q4_, .ref q5_, .ref q6_, .null])), (q0_, .inl (G.2.1, 5, .inl (fun _ => zI ((0 : Nat) : Int)))), (q1_, .inl (G.2.1, 120, .inl (fun _ => zI ((0 : Nat) : Int)))), (q2_, .inl (G.2.1, 120, .inl (fun _ => zI ((0 : Nat) : Int)))), (q3_, .inl (G.2.1, 120, .inl (fun _ => zI ((0 : Nat) : Int)))), (q4_, .inl (G.2.1, 120, .inl (fun _ => zI ((0 : Nat) : Int)))), (q5_, .inl (G.2.1, 5, .inl (fun _ => zI ((0 : Nat) : Int)))), (q6_, .inl (G.2.1, 1440, .inl (fun _ => zI ((0 : Nat) : Int)))), (q7_, .inl (G.2.1, 1440, .inl (fun _ => zI ((0 : Nat) : Int))))] H := hP
  have hD : va_D A [(a, .inr (0, [.ref q0_, .ref q1_, .ref q2_, .ref q3_, .ref q4_, .ref q5_, .ref q6_, .null])), (q0_, .inl (G.2.1, 5, .inl (fun _ => zI ((0 : Nat) : Int)))), (q1_, .inl (G.2.1, 120, .inl (fun _ => zI ((0 : Nat) : Int)))), (q2_, .inl (G.2.1, 120, .inl (fun _ => zI ((0 : Nat) : Int)))), (q3_, .inl (G.2.1, 120, .inl (fun _ => zI ((0 : Nat) : Int)))), (q4_, .inl (G.2.1, 120, .inl (fun _ => zI ((0 : Nat) : Int)))), (q5_, .inl (G.2.1, 5, .inl (fun _ => zI ((0 : Nat) : Int)))), (q6_, .inl (G.2.1, 1440, .inl (fun _ => zI ((0 : Nat) : Int)))), (q7_, .inl (G.2.1, 1440, .inl (fun _ => zI ((0 : Nat) : Int))))] := hD
  refine va_putF (D := G.1) (ci := 0) (v := .ref q7_) (ty := .array .int) (C := RX0) (T := TX0) (N := 8) hx hb hts in_X0 tyX0 tyX0_ok nmX0 hown hK hP hD hS 0 rfl rfl 7 (by decide) (hts _ q37) (fun _ h9 => h9) rfl hin rfl (by decide +kernel) rfl rfl (Nat.le_of_ble_eq_true rfl) dX0_init_65 (fun H locs hP hD hS => ?_)
  have hP : va_P G.1 vwCl [(a, .inr (0, [.ref q0_, .ref q1_, .ref q2_, .ref q3_, .ref q4_, .ref q5_, .ref q6_, .ref q7_])), (q0_, .inl (G.2.1, 5, .inl (fun _ => zI ((0 : Nat) : Int)))), (q1_, .inl (G.2.1, 120, .inl (fun _ => zI ((0 : Nat) : Int)))), (q2_, .inl (G.2.1, 120, .inl (fun _ => zI ((0 : Nat) : Int)))), (q3_, .inl (G.2.1, 120, .inl (fun _ => zI ((0 : Nat) : Int)))), (q4_, .inl (G.2.1, 120, .inl (fun _ => zI ((0 : Nat) : Int)))), (q5_, .inl (G.2.1, 5, .inl (fun _ => zI ((0 : Nat) : Int)))), (q6_, .inl (G.2.1, 1440, .inl (fun _ => zI ((0 : Nat) : Int)))), (q7_, .inl (G.2.1, 1440, .inl (fun _ => zI ((0 : Nat) : Int))))] H := hP
  have hD : va_D A [(a, .inr (0, [.ref q0_, .ref q1_, .ref q2_, .ref q3_, .ref q4_, .ref q5_, .ref q6_, .ref q7_])), (q0_, .inl (G.2.1, 5, .inl (fun _ => zI ((0 : Nat) : Int)))), (q1_, .inl (G.2.1, 120, .inl (fun _ => zI ((0 : Nat) : Int)))), (q2_, .inl (G.2.1, 120, .inl (fun _ => zI ((0 : Nat) : Int)))), (q3_, .inl (G.2.1, 120, .inl (fun _ => zI ((0 : Nat) : Int)))), (q4_, .inl (G.2.1, 120, .inl (fun _ => zI ((0 : Nat) : Int)))), (q5_, .inl (G.2.1, 5, .inl (fun _ => zI ((0 : Nat) : Int)))), (q6_, .inl (G.2.1, 1440, .inl (fun _ => zI ((0 : Nat) : Int)))), (q7_, .inl (G.2.1, 1440, .inl (fun _ => zI ((0 : Nat) : Int))))] := hD
  have hP : va_P G.1 vwCl (wX (G, a, ad8 q0_ q1_ q2_ q3_ q4_ q5_ q6_ q7_) (fun _ _ => 0)) H := hP
  have hD : va_D A (wX (G, a, ad8 q0_ q1_ q2_ q3_ q4_ q5_ q6_ q7_) (fun _ _ => 0)) := hD
  refine lv_aload_n hx hb dX0_init_68 rfl (lv_at hl 0 rfl) ?_
  refine va_get (D := G.1) (ci := 0) (v := .ref q0_) (C := RX0) (T := TX0) (N := 8) hx hb hts in_X0 hown hK hP 0 rfl rfl 0 (by decide) (hts _ q30) (fun _ h9 => h9) rfl dX0_init_69 ?_
  refine lv_iconst (v := zI ((0 : Nat) : Int)) hx hb dX0_init_72 rfl ?_
  refine lv_iconst (v := zI ((0 : Nat) : Int)) hx hb dX0_init_73 rfl ?_
  refine va_iast hx hb hK hP hD hS 1 0 rfl rfl (zI_in (n := 0) (N := 5) (by decide) (by decide)) dX0_init_74 (fun H locs hP hD hS => ?_)
  rw [zI_clamp (by decide)] at hP hD
  have e9 := wX_set0 (G, a, ad8 q0_ q1_ q2_ q3_ q4_ q5_ q6_ q7_) (fun _ _ => 0) 0 0
  have hP : va_P G.1 vwCl ((wX (G, a, ad8 q0_ q1_ q2_ q3_ q4_ q5_ q6_ q7_) (fun _ _ => 0)).set 1 ((G, a, ad8 q0_ q1_ q2_ q3_ q4_ q5_ q6_ q7_).2.2 0, .inl (G.2.1, 5, .inl (upd (fun j => zI (((fun _ _ => 0 : Gg) 0 j : Nat) : Int)) 0 (zI ((0 : Nat) : Int)))))) H := hP
  have hD : va_D A ((wX (G, a, ad8 q0_ q1_ q2_ q3_ q4_ q5_ q6_ q7_) (fun _ _ => 0)).set 1 ((G, a, ad8 q0_ q1_ q2_ q3_ q4_ q5_ q6_ q7_).2.2 0, .inl (G.2.1, 5, .inl (upd (fun j => zI (((fun _ _ => 0 : Gg) 0 j : Nat) : Int)) 0 (zI ((0 : Nat) : Int)))))) := hD
  rw [e9] at hP hD
  have hpost : ∀ k j, up2 (fun _ _ => 0) 0 0 0 k j = 0 := by
    intro k j
    unfold up2
    split <;> rfl
  refine W.widen (k := 8) (n := 3370) (Nat.le_of_ble_eq_true rfl) (Nat.le_of_ble_eq_true rfl) ?_
  exact W.vret hx hb hr (fun t ht hW => ⟨⟨(ad8 q0_ q1_ q2_ q3_ q4_ q5_ q6_ q7_, up2 (fun _ _ => 0) 0 0 0), rfl, hpost, by rw [ht]; exact hP, va_K.moved hW.alike hK, hD⟩, hS.F ht⟩) hS.2.2 dX0_init_75 hlocks
set_option maxHeartbeats 4000000 in
theorem c_initX1 (G : Gx) (a : Nat) (l : Launch) (sz : Nat) : Met l yX1_init (ws_ yX1_init cX1_init 1 none) rmY (mPc G (wM0 a) [.ref a] sz) (va_Qv (fun u : (Nat → Nat) × Ff => ∀ k j, u.2 k j = false) (mB G (fun u : (Nat → Nat) × Ff => wM (G, a, u.1) u.2) (va_A (wM0 a) sz)) (va_A (wM0 a) sz)) 2 2304 (va_A (wM0 a) sz) := by
  refine Met.ofW (cc := cX1_init) (maxL := 1) (ret := none) (by decide) rfl ?_
  intro p e s m args below meth c s₁ B hml hv
  obtain ⟨rfl, hsz, hP, hK, hD0⟩ := hv
  subst hsz
  have hx := B.exec
  have hb := B.bytes
  have hr := B.returns
  have hts := atoms_spec (ws := ws_ yX1_init cX1_init 1 none) B.pre
  have hts : ∀ w ∈ lw_all, w.before _ s = true := fun w h => hts w (List.mem_cons_of_mem _ h)
  have hown : s.vm.findClass RX1 = some m.cls := findClass_of_methodNamed B.named
  have hlocks := B.notSynchronized
  have hin : meth.name = "<init>" := (name_of_methodNamed B.named B.method).1
  have hD := hD0.self (sz := s.heap.size)
  generalize hAe : va_A (wM0 a) s.heap.size = A at hD ⊢
  have hA : ∀ q : Nat, s.heap.size ≤ q → A q := fun q h => by rw [← hAe]; exact Or.inr h
  have hS : va_S A s.heap s.heap [] := va_S.rf
  have hl := lv_entry ([.ref a]) (n := 1) (Nat.le_of_ble_eq_true rfl)
  rw [lg_entry_eq]
  generalize (lg_sl ([.ref a]) ++ List.replicate (1 - (lg_sl ([.ref a])).length) Slot.unset).toArray = ls at hl ⊢
  have hl : lv_has ls 1 [(0, .ref a)] := hl
  refine lv_aload_n hx hb dX1_init_0 rfl (lv_at hl 0 rfl) ?_
  refine W.objInit hx hb hown (hts _ q170) (hts _ q28) (hts _ q29) rfl (by rw [hml]; exact hl.1) rfl dX1_init_1 (Nat.le_of_ble_eq_true rfl) (Nat.le_of_ble_eq_true rfl) ?_
  refine W.eq (g2 := F0 m 4 ls []) rfl ?_
  have hP : va_P G.1 vwCl [(a, .inr (1, [.null, .null]))] s.heap := hP
  have hD : va_D A [(a, .inr (1, [.null, .null]))] := hD
  refine lv_aload_n hx hb dX1_init_4 rfl (lv_at hl 0 rfl) ?_
  refine lv_sipush (v := 1728) hx hb dX1_init_5 (by decide +kernel) ?_
  refine va_newa (atype := .boolean) (ty := .boolean) (N' := 1728) (a0 := (1728, .inl (fun _ => zI (bI false)))) hx hb (hts _ q178) rfl hK hP hD hS hA (zf_arr 1728) (by decide +kernel) (by decide +kernel) (by decide +kernel) (Nat.le_of_ble_eq_true rfl) (Nat.le_of_ble_eq_true rfl) dX1_init_8 (fun q0_ cA0 H hK0 hP hD hS => ?_)
  have eA0 := tyG_bool hK0
  subst eA0
  have hP : va_P G.1 vwCl [(a, .inr (1, [.null, .null])), (q0_, .inl (G.2.2, 1728, .inl (fun _ => zI (bI false))))] H := hP
  have hD : va_D A [(a, .inr (1, [.null, .null])), (q0_, .inl (G.2.2, 1728, .inl (fun _ => zI (bI false))))] := hD
  refine va_putF (D := G.1) (ci := 1) (v := .ref q0_) (ty := .array .boolean) (C := RX1) (T := TX1) (N := 2) hx hb hts in_X1 tyX1 tyX1_ok nmX1 hown hK hP hD hS 0 rfl rfl 0 (by decide) (hts _ q171) (fun _ h9 => h9) rfl hin rfl (by decide +kernel) rfl rfl (Nat.le_of_ble_eq_true rfl) dX1_init_10 (fun H locs hP hD hS => ?_)
  have hP : va_P G.1 vwCl [(a, .inr (1, [.ref q0_, .null])), (q0_, .inl (G.2.2, 1728, .inl (fun _ => zI (bI false))))] H := hP
  have hD : va_D A [(a, .inr (1, [.ref q0_, .null])), (q0_, .inl (G.2.2, 1728, .inl (fun _ => zI (bI false))))] := hD
  refine lv_aload_n hx hb dX1_init_13 rfl (lv_at hl 0 rfl) ?_
  refine lv_sipush (v := 576) hx hb dX1_init_14 (by decide +kernel) ?_
  refine va_newa (atype := .boolean) (ty := .boolean) (N' := 576) (a0 := (576, .inl (fun _ => zI (bI false)))) hx hb (hts _ q178) rfl hK hP hD hS hA (zf_arr 576) (by decide +kernel) (by decide +kernel) (by decide +kernel) (Nat.le_of_ble_eq_true rfl) (Nat.le_of_ble_eq_true rfl) dX1_init_17 (fun q1_ cA1 H hK1 hP hD hS => ?_)
  have eA1 := tyG_bool hK1
  subst eA1
  have hP : va_P G.1 vwCl [(a, .inr (1, [.ref q0_, .null])), (q0_, .inl (G.2.2, 1728, .inl (fun _ => zI (bI false)))), (q1_, .inl (G.2.2, 576, .inl (fun _ => zI (bI false))))] H := hP
  have hD : va_D A [(a, .inr (1, [.ref q0_, .null])), (q0_, .inl (G.2.2, 1728, .inl (fun _ => zI (bI false)))), (q1_, .inl (G.2.2, 576, .inl (fun _ => zI (bI false))))] := hD
  refine va_putF (D := G.1) (ci := 1) (v := .ref q1_) (ty := .array .boolean) (C := RX1) (T := TX1) (N := 2) hx hb hts in_X1 tyX1 tyX1_ok nmX1 hown hK hP hD hS 0 rfl rfl 1 (by decide) (hts _ q172) (fun _ h9 => h9) rfl hin rfl (by decide +kernel) rfl rfl (Nat.le_of_ble_eq_true rfl) dX1_init_19 (fun H locs hP hD hS => ?_)
  have hP : va_P G.1 vwCl [(a, .inr (1, [.ref q0_, .ref q1_])), (q0_, .inl (G.2.2, 1728, .inl (fun _ => zI (bI false)))), (q1_, .inl (G.2.2, 576, .inl (fun _ => zI (bI false))))] H := hP
  have hD : va_D A [(a, .inr (1, [.ref q0_, .ref q1_])), (q0_, .inl (G.2.2, 1728, .inl (fun _ => zI (bI false)))), (q1_, .inl (G.2.2, 576, .inl (fun _ => zI (bI false))))] := hD
  have hP : va_P G.1 vwCl (wM (G, a, ad2 q0_ q1_) (fun _ _ => false)) H := hP
  have hD : va_D A (wM (G, a, ad2 q0_ q1_) (fun _ _ => false)) := hD
  refine W.widen (k := 2) (n := 2304) (Nat.le_of_ble_eq_true rfl) (Nat.le_of_ble_eq_true rfl) ?_
  exact W.vret hx hb hr (fun t ht hW => ⟨⟨(ad2 q0_ q1_, fun _ _ => false), rfl, fun _ _ => rfl, by rw [ht]; exact hP, va_K.moved hW.alike hK, hD⟩, hS.F ht⟩) hS.2.2 dX1_init_22 hlocks
end
section
-- ===== end of PART A; then your names; then what follows =====
/-! THE CLAIM OUT OF ONE WALK OF THE LAW'S BODY. Your part is whole_start (and what it stands on); all else here is the same for every law, but numbers. -/
def R_law : String := "BandRegionLaw"
def lw_P (b : Addr) (xs : List Int32) (args : Array Value) (s : State) : Prop := args = #[.ref b] ∧ s.IntsAt b xs ∧ xs.length ≤ 320 ∧ (Jvm.Cond.and given_1 narrow_1).before args s = true
def lw_Q (_ : Array Value) (s : State) (o : Outcome) (t : State) : Prop := o = .returned (some (.int 1)) ∧ Framed s o t [] 600000 7290000
def lw_Z (below : List Frame) (a : Array Value) (s : State) : State → Prop := fun t => ∃ o, t.status = .running ∧ Ended t below o ∧ lw_Q a s o t
/-- the law's own end, with 1 on the stack, nothing written that was there before, its room as the claim has it -/
theorem lw_ret {p : Program} {l : Launch} {e : Env} {s : State} {m : MethodId} {below : List Frame} {meth : Method} {c : Code} {b : Nat} (hx : p.tables.exec = Jvm.exec) (hb : c.code = code) (hr : meth.sig.returnType = ret) (hlocks : meth.locks = false) {pc : Nat} {H : Heap} {ls : Array Slot} (hdg : decode code pc = .ok (.ireturn, 1)) : W p l e room_1 s m #[Value.ref b] below meth c H [] 600000 7290000 (lw_Z below #[Value.ref b] s) (F0 m pc ls [.int 1]) := by
  intro T hT X
  obtain ⟨fs, hret, hrun, hended, hW, hframe⟩ := X.leave (v := some (.int 1)) (hlocks := hlocks) (fun h => by rw [hr] at h; cases h)
  have hmeth' : T.vm.method? m = some meth := X.method'
  refine ⟨T.setFrames fs, ?_, .returned (some (.int 1)), hrun, hended, rfl, ⟨_, rfl⟩, hW, hframe⟩
  jvm_step X.here [X.here.top, hx, hb, hdg, hmeth', hr, ret, narrow_b1]
  (try refine ⟨rfl, ?_⟩); (try refine ⟨rfl, ?_⟩)
  first | (intro acts; rw [hret _ acts rfl rfl rfl]) | rw [hret _ _ rfl rfl rfl]
  exact Steps.refl _
/-- what holds at the law's entry: the machine, the code, the tables' words (any of lw_tbl by 'hts w (by decide +kernel)'), the script of L ints xs at the cell b, what the Statement gives of the start (any of its parts by flat_of_before) -/
def lw_At (p : Program) (s : State) (m : MethodId) (meth : Method) (c : Code) (b L : Nat) (xs : Nat → Int32) : Prop :=
  p.tables.exec = Jvm.exec ∧ c.code = code ∧ meth.sig.returnType = ret ∧ c.maxLocals = 4 ∧ s.vm.findClass R_law = some m.cls ∧ (∀ w ∈ lw_tbl, w.before #[Value.ref b] s = true) ∧ va_X b L xs s s.heap ∧ b < s.heap.size ∧ meth.locks = false ∧ (Jvm.Cond.and given_1 narrow_1).before #[Value.ref b] s = true
end
section
/-! the rows of the law -/
set_option maxRecDepth 100000
theorem gl_X0_box : GoodIn lw_all (wsV R_law 13 RX0 yX0_box (ws_ yX0_box cX0_box 5 (some .int))) := lw_V q56 q57 q58 q20 q59
theorem gl_X0_combine : GoodIn lw_all (wsV R_law 18 RX0 yX0_combine (ws_ yX0_combine cX0_combine 5 (some .int))) := lw_V q114 q115 q116 q20 q117
theorem gl_X0_move : GoodIn lw_all (wsV R_law 22 RX0 yX0_move (ws_ yX0_move cX0_move 10 (some .int))) := lw_V q118 q119 q120 q20 q121
theorem gl_X0_invert : GoodIn lw_all (wsV R_law 27 RX0 yX0_invert (ws_ yX0_invert cX0_invert 2 (some .int))) := lw_V q129 q130 q131 q20 q132
theorem gl_X0_area : GoodIn lw_all (wsV R_law 32 RX0 yX0_area (ws_ yX0_area cX0_area 2 (some .int))) := lw_V q133 q134 q135 q20 q136
theorem gl_X0_has : GoodIn lw_all (wsV R_law 36 RX0 yX0_has (ws_ yX0_has cX0_has 8 (some .boolean))) := lw_V q137 q138 q139 q20 q140
theorem gl_X0_rectangles : GoodIn lw_all (wsV R_law 41 RX0 yX0_rectangles (ws_ yX0_rectangles cX0_rectangles 2 (some .int))) := lw_V q141 q142 q143 q20 q144
theorem gl_X0_rectangle : GoodIn lw_all (wsV R_law 45 RX0 yX0_rectangle (ws_ yX0_rectangle cX0_rectangle 6 (some .int))) := lw_V q145 q146 q147 q20 q148
theorem gl_X0_around : GoodIn lw_all (wsV R_law 50 RX0 yX0_around (ws_ yX0_around cX0_around 5 (some .int))) := lw_V q153 q154 q155 q20 q156
theorem gl_X0_same : GoodIn lw_all (wsV R_law 54 RX0 yX0_same (ws_ yX0_same cX0_same 6 (some .boolean))) := lw_V q157 q158 q159 q20 q160
theorem gl_X0_covers : GoodIn lw_all (wsV R_law 59 RX0 yX0_covers (ws_ yX0_covers cX0_covers 6 (some .int))) := lw_V q161 q162 q163 q20 q164
theorem gl_X1_box : GoodIn lw_all (wsV R_law 17 RX1 yX1_box (ws_ yX1_box cX1_box 9 (some .int))) := lw_V q179 q180 q181 q21 q182
theorem gl_X1_combine : GoodIn lw_all (wsV R_law 21 RX1 yX1_combine (ws_ yX1_combine cX1_combine 6 (some .int))) := lw_V q199 q200 q201 q21 q202
theorem gl_X1_move : GoodIn lw_all (wsV R_law 26 RX1 yX1_move (ws_ yX1_move cX1_move 8 (some .int))) := lw_V q203 q204 q205 q21 q206
theorem gl_X1_invert : GoodIn lw_all (wsV R_law 31 RX1 yX1_invert (ws_ yX1_invert cX1_invert 3 (some .int))) := lw_V q207 q208 q209 q21 q210
theorem gl_X1_area : GoodIn lw_all (wsV R_law 35 RX1 yX1_area (ws_ yX1_area cX1_area 4 (some .int))) := lw_V q211 q196 q197 q21 q198
theorem gl_X1_has : GoodIn lw_all (wsV R_law 40 RX1 yX1_has (ws_ yX1_has cX1_has 4 (some .boolean))) := lw_V q212 q213 q214 q21 q215
theorem gl_X1_rectangles : GoodIn lw_all (wsV R_law 44 RX1 yX1_rectangles (ws_ yX1_rectangles cX1_rectangles 5 (some .int))) := lw_V q216 q217 q218 q21 q219
theorem gl_X1_rectangle : GoodIn lw_all (wsV R_law 49 RX1 yX1_rectangle (ws_ yX1_rectangle cX1_rectangle 6 (some .int))) := lw_V q229 q230 q231 q21 q232
theorem gl_X1_around : GoodIn lw_all (wsV R_law 53 RX1 yX1_around (ws_ yX1_around cX1_around 8 (some .int))) := lw_V q238 q239 q240 q21 q241
theorem gl_X1_same : GoodIn lw_all (wsV R_law 58 RX1 yX1_same (ws_ yX1_same cX1_same 4 (some .boolean))) := lw_V q242 q243 q244 q21 q245
theorem gl_X1_covers : GoodIn lw_all (wsV R_law 62 RX1 yX1_covers (ws_ yX1_covers cX1_covers 9 (some .int))) := lw_V q246 q247 q248 q21 q249
/-- the script lies where the law's run can read it -/
def lsc (K : Kx) (b L : Nat) (xs : Nat → Int32) : Prop := match K with
  | (_, _, _, s, _, _, _, _, _, _, A, _, _) => va_X b L xs s s.heap ∧ b < s.heap.size ∧ ¬ A b
def lo4 (x : Int32) : Nat := x.toBitVec.toNat % 16
theorem lo4_lt (x : Int32) : lo4 x < 16 := Nat.mod_lt _ (by decide)
theorem lo4_and (x : Int32) : x &&& zI 15 = zI ((lo4 x : Nat) : Int) := by
  rw [zI_nat]
  exact pk_and x 4 (by decide +kernel)
theorem r_sld {K : Kx} {G : Gx} {R : Room} {own : String} {cc : ByteArray} {nL : Nat} {w : va_W} {pc : Nat} {lv : List (Option Value)} {st : List Value} {b L n : Nat} {xs : Nat → Int32} (hs : lsc K b L xs) (hL : L ≤ 320) (hn : n < L) (hd : decode cc pc = .ok (.iaload, 1)) (k : bW K G R own cc nL w (pc + 1) lv (.int (xs n) :: st)) : bW K G R own cc nL w pc lv (.int (zI (n : Int)) :: .ref b :: st) := by
  obtain ⟨p, l, e, s, m, args, below, meth, c, Q, A, cells, slots⟩ := K
  intro S hK hA hcs H locs ls hP hD hS hl
  obtain ⟨s1, s2, s3⟩ := hs
  refine va_sld S.1 S.2.1 s1 s2 s3 hS (zI_in hn (by omega)) hd ?_
  rw [zI_clamp (by omega)]
  exact k S hK hA hcs H locs ls hP hD hS hl
theorem r_slen {K : Kx} {G : Gx} {R : Room} {own : String} {cc : ByteArray} {nL : Nat} {w : va_W} {pc : Nat} {lv : List (Option Value)} {st : List Value} {b L : Nat} {xs : Nat → Int32} (hs : lsc K b L xs) (hd : decode cc pc = .ok (.arraylength, 1)) (k : bW K G R own cc nL w (pc + 1) lv (.int (zI (L : Int)) :: st)) : bW K G R own cc nL w pc lv (.ref b :: st) := by
  obtain ⟨p, l, e, s, m, args, below, meth, c, Q, A, cells, slots⟩ := K
  intro S hK hA hcs H locs ls hP hD hS hl
  obtain ⟨s1, s2, s3⟩ := hs
  refine va_slen S.1 S.2.1 s1 s2 s3 hS hd ?_
  rw [show Int32.ofNat L = zI (L : Int) from (zI_nat L).symm]
  exact k S hK hA hcs H locs ls hP hD hS hl
theorem r_and15 {K : Kx} {G : Gx} {R : Room} {own : String} {cc : ByteArray} {nL : Nat} {w : va_W} {pc : Nat} {lv : List (Option Value)} {st : List Value} {x : Int32} {q : Nat} (hd : decode cc pc = .ok (.iand, 1)) (hq : (q : Int) = 15) (k : bW K G R own cc nL w (pc + 1) lv (.int (zI ((lo4 x : Nat) : Int)) :: st)) : bW K G R own cc nL w pc lv (.int (zI (q : Int)) :: .int x :: st) := by
  obtain ⟨p, l, e, s, m, args, below, meth, c, Q, A, cells, slots⟩ := K
  intro S hK hA hcs H locs ls hP hD hS hl
  rw [hq]
  exact lv_iand S.1 S.2.1 hd (by rw [lo4_and]; exact k S hK hA hcs H locs ls hP hD hS hl)
theorem l_newX0 {p : Program} {l : Launch} {e : Env} {s : State} {m : MethodId} {args : Array Value} {below : List Frame} {meth : Method} {c : Code} {Q : State → Prop} {A : Nat → Prop} {cells slots : Nat} {G : Gx} {R : Room} {cc : ByteArray} {nL : Nat} {w : va_W} {pc : Nat} {lv : List (Option Value)} {st : List Value} {idx : Nat} (hlk : Cond.classLink R_law idx RX0 ∈ lw_all) (hd : decode cc pc = .ok (.new idx, 3)) (hcl : cells + 1 ≤ R.cells) (hsl : slots + 8 ≤ R.slots)
    (k : ∀ a : Nat, bW (p, l, e, s, m, args, below, meth, c, Q, A, cells + 1, slots + 8) G R R_law cc nL (w ++ wX0 a) (pc + 3) lv (.ref a :: st)) : bW (p, l, e, s, m, args, below, meth, c, Q, A, cells, slots) G R R_law cc nL w pc lv st := by
  intro S hK hA hcs H locs ls hP hD hS hl
  refine va_new (ci := 0) (fs := [.null, .null, .null, .null, .null, .null, .null, .null]) (C := RX0) (T := TX0) (N := 8) S.1 S.2.1 S.2.2.2.2 in_X0 tyX0 tyX0_ok S.2.2.2.1 (S.2.2.2.2 _ hlk) (S.2.2.2.2 _ q23) (S.2.2.2.2 _ q20) hK hP hD hS hA rfl (fun j hj => by rcases (show j = 0 ∨ j = 1 ∨ j = 2 ∨ j = 3 ∨ j = 4 ∨ j = 5 ∨ j = 6 ∨ j = 7 by omega) with rfl | rfl | rfl | rfl | rfl | rfl | rfl | rfl <;> rfl) hcl hsl hd (fun q H1 hP1 hD1 hS1 => ?_)
  exact k q S hK hA ⟨hcl, hsl⟩ H1 locs ls hP1 hD1 hS1 hl
theorem l_newX1 {p : Program} {l : Launch} {e : Env} {s : State} {m : MethodId} {args : Array Value} {below : List Frame} {meth : Method} {c : Code} {Q : State → Prop} {A : Nat → Prop} {cells slots : Nat} {G : Gx} {R : Room} {cc : ByteArray} {nL : Nat} {w : va_W} {pc : Nat} {lv : List (Option Value)} {st : List Value} {idx : Nat} (hlk : Cond.classLink R_law idx RX1 ∈ lw_all) (hd : decode cc pc = .ok (.new idx, 3)) (hcl : cells + 1 ≤ R.cells) (hsl : slots + 2 ≤ R.slots)
    (k : ∀ a : Nat, bW (p, l, e, s, m, args, below, meth, c, Q, A, cells + 1, slots + 2) G R R_law cc nL (w ++ wM0 a) (pc + 3) lv (.ref a :: st)) : bW (p, l, e, s, m, args, below, meth, c, Q, A, cells, slots) G R R_law cc nL w pc lv st := by
  intro S hK hA hcs H locs ls hP hD hS hl
  refine va_new (ci := 1) (fs := [.null, .null]) (C := RX1) (T := TX1) (N := 2) S.1 S.2.1 S.2.2.2.2 in_X1 tyX1 tyX1_ok S.2.2.2.1 (S.2.2.2.2 _ hlk) (S.2.2.2.2 _ q166) (S.2.2.2.2 _ q21) hK hP hD hS hA rfl (fun j hj => by rcases (show j = 0 ∨ j = 1 by omega) with rfl | rfl <;> rfl) hcl hsl hd (fun q H1 hP1 hD1 hS1 => ?_)
  exact k q S hK hA ⟨hcl, hsl⟩ H1 locs ls hP1 hD1 hS1 hl
theorem l_initX0 {p : Program} {l : Launch} {e : Env} {s : State} {m : MethodId} {args : Array Value} {below : List Frame} {meth : Method} {c : Code} {Q : State → Prop} {A : Nat → Prop} {cells slots : Nat} {G : Gx} {R : Room} {cc : ByteArray} {nL : Nat} {w : va_W} {pc : Nat} {lv : List (Option Value)} {st : List Value} {wr : va_W} {a idx : Nat} (hlk : Cond.methodLink R_law idx yX0_init ∈ lw_all) (hR : rmX.frames + 1 ≤ R.frames ∧ 8 + (1 + 11) + rmX.locals ≤ R.locals) (hd : decode cc pc = .ok (.invokespecial idx, 3)) (hroom : (st.map fun v => v.category).sum ≤ 8)
    (isC isR : List Nat) (hC : isC.map (fun i => w[i]?) = (wX0 a).map some) (hCs : isC.filterMap (fun i => w[i]?) = wX0 a) (hR2 : isR.map (fun i => w[i]?) = wr.map some) (hndC : va_nd isC = true) (hnd : va_nd isR = true) (hdis : ∀ i ∈ isR, i ∉ isC) (hcl : cells + 8 ≤ R.cells) (hsl : slots + 3370 ≤ R.slots)
    (k : ∀ (ad : Nat → Nat) (g : Gg), (∀ k j, g k j = 0) → bW (p, l, e, s, m, args, below, meth, c, Q, A, cells + 8, slots + 3370) G R R_law cc nL (wr ++ wX (G, a, ad) g) (pc + 3) lv st) : bW (p, l, e, s, m, args, below, meth, c, Q, A, cells, slots) G R R_law cc nL w pc lv (.ref a :: st) := by
  intro S hK hA hcs H locs ls hP hD hS hl
  have hPc := hP.sub (ws' := wX0 a) isC hCs
  have hDc := hD.sub (ws' := wX0 a) isC hndC hC
  have hF := va_free (wc := wX0 a) hD hS hA isC hC
  refine va_callv (va_runI (As := []) (rest := st) S (c_initX0 G a l H.size) (cwI 0 S.2.2.2.2 (lw_meth q26) rfl rfl rfl (S.2.2.2.2 _ q20) (S.2.2.2.2 _ hlk) (S.2.2.2.2 _ q25) rfl (by decide +kernel) hR) ⟨mPc_blind, fun U hU hW => ⟨rfl, by rw [hU], by rw [hU]; exact hPc, va_K.moved hW.alike hK, hDc.weaken (fun _ _ _ _ => trivial)⟩⟩ rfl rfl hl.1 rfl (lv_room hroom) hd ⟨hcl, hsl⟩) hS (fun q _ h => hF q h) hF (fun u t H1 locs1 ht hvm hp hB hz hk hS1 => ?_)
  obtain ⟨hP1, hK1, hD1⟩ := hB
  rw [ht] at hP1
  obtain ⟨hP2, hD2⟩ := va_join (wr := wr) (w1 := wX (G, a, u.1) u.2) hP hD isC isR hC hR2 hnd hdis hk hF hP1 hD1
  exact k u.1 u.2 hp S hK hA ⟨hcl, hsl⟩ H1 locs1 ls hP2 hD2 hS1 hl
theorem l_initX1 {p : Program} {l : Launch} {e : Env} {s : State} {m : MethodId} {args : Array Value} {below : List Frame} {meth : Method} {c : Code} {Q : State → Prop} {A : Nat → Prop} {cells slots : Nat} {G : Gx} {R : Room} {cc : ByteArray} {nL : Nat} {w : va_W} {pc : Nat} {lv : List (Option Value)} {st : List Value} {wr : va_W} {a idx : Nat} (hlk : Cond.methodLink R_law idx yX1_init ∈ lw_all) (hR : rmY.frames + 1 ≤ R.frames ∧ 8 + (1 + 11) + rmY.locals ≤ R.locals) (hd : decode cc pc = .ok (.invokespecial idx, 3)) (hroom : (st.map fun v => v.category).sum ≤ 8)
    (isC isR : List Nat) (hC : isC.map (fun i => w[i]?) = (wM0 a).map some) (hCs : isC.filterMap (fun i => w[i]?) = wM0 a) (hR2 : isR.map (fun i => w[i]?) = wr.map some) (hndC : va_nd isC = true) (hnd : va_nd isR = true) (hdis : ∀ i ∈ isR, i ∉ isC) (hcl : cells + 2 ≤ R.cells) (hsl : slots + 2304 ≤ R.slots)
    (k : ∀ (ad : Nat → Nat) (g : Ff), (∀ k j, g k j = false) → bW (p, l, e, s, m, args, below, meth, c, Q, A, cells + 2, slots + 2304) G R R_law cc nL (wr ++ wM (G, a, ad) g) (pc + 3) lv st) : bW (p, l, e, s, m, args, below, meth, c, Q, A, cells, slots) G R R_law cc nL w pc lv (.ref a :: st) := by
  intro S hK hA hcs H locs ls hP hD hS hl
  have hPc := hP.sub (ws' := wM0 a) isC hCs
  have hDc := hD.sub (ws' := wM0 a) isC hndC hC
  have hF := va_free (wc := wM0 a) hD hS hA isC hC
  refine va_callv (va_runI (As := []) (rest := st) S (c_initX1 G a l H.size) (cwI 0 S.2.2.2.2 (lw_meth q169) rfl rfl rfl (S.2.2.2.2 _ q21) (S.2.2.2.2 _ hlk) (S.2.2.2.2 _ q168) rfl (by decide +kernel) hR) ⟨mPc_blind, fun U hU hW => ⟨rfl, by rw [hU], by rw [hU]; exact hPc, va_K.moved hW.alike hK, hDc.weaken (fun _ _ _ _ => trivial)⟩⟩ rfl rfl hl.1 rfl (lv_room hroom) hd ⟨hcl, hsl⟩) hS (fun q _ h => hF q h) hF (fun u t H1 locs1 ht hvm hp hB hz hk hS1 => ?_)
  obtain ⟨hP1, hK1, hD1⟩ := hB
  rw [ht] at hP1
  obtain ⟨hP2, hD2⟩ := va_join (wr := wr) (w1 := wM (G, a, u.1) u.2) hP hD isC isR hC hR2 hnd hdis hk hF hP1 hD1
  exact k u.1 u.2 hp S hK hA ⟨hcl, hsl⟩ H1 locs1 ls hP2 hD2 hS1 hl
/-- the law's end -/
theorem l_ret {p : Program} {l : Launch} {e : Env} {s : State} {m : MethodId} {below : List Frame} {meth : Method} {c : Code} {b : Nat} {cells slots : Nat} {G : Gx} {w : va_W} {pc : Nat} {lv : List (Option Value)} (hr : meth.sig.returnType = ret) (hlocks : meth.locks = false) (hd : decode code pc = .ok (.ireturn, 1)) : bW (p, l, e, s, m, #[Value.ref b], below, meth, c, lw_Z below #[Value.ref b] s, (fun q => s.heap.size ≤ q), cells, slots) G room_1 R_law code 4 w pc lv [.int (zI 1)] := by
  rw [show zI 1 = 1 by decide +kernel]
  intro S hK hA hcs H locs ls hP hD hS hl
  refine va_forget (fun q hq => hS.2.2 q hq) ?_
  refine W.widen (k := 600000) (n := 7290000) hcs.1 hcs.2 ?_
  exact lw_ret S.1 S.2.1 hr hlocks hd
theorem l_callXI {K : Kx} {o : Ox} {am : Nat} {ad : Nat → Nat} {g : Gg} {f : Ff} {pc : Nat} {lv : List (Option Value)} {st st0 As : List Value} {y : MethodName} {cy : ByteArray} {maxL idx n : Nat} {rm : Room} {rt : FieldType} {post : Int32 → Prop} (hM : xI y cy maxL rt rm o g As post) (hw : GoodIn lw_all (wsV R_law idx RX0 y (ws_ y cy maxL (some rt)))) (hcf : cfV y RX0 n) (hrm : rmOk rm room_1 maxL) (hn : As.length = n) (hd : decode code pc = .ok (.invokevirtual idx, 3)) (hst : st0 = As.reverse ++ .ref o.2.1 :: st) (hroom : (st.map fun v => v.category).sum ≤ 8)
    (k : ∀ r : Int32, post r → bW K o.1 room_1 R_law code 4 (wM (o.1, am, ad) f ++ wX o g) (pc + 3) lv (.int r :: st)) : bW K o.1 room_1 R_law code 4 (wX o g ++ wM (o.1, am, ad) f) pc lv st0 :=
  w_callI (q0 := 0) (ci := 0) (wr := wM (o.1, am, ad) f) hM hw hcf hrm hn hd hst hroom rfl rfl rfl [0, 1, 2, 3, 4, 5, 6, 7, 8] [9, 10, 11] rfl rfl rfl (by decide) (by decide) (by decide) (fun r _ hp => k r hp)
theorem l_callXC {K : Kx} {o : Ox} {am : Nat} {ad : Nat → Nat} {g : Gg} {f : Ff} {pc : Nat} {lv : List (Option Value)} {st st0 As : List Value} {y : MethodName} {cy : ByteArray} {maxL idx n : Nat} {rm : Room} {rt : FieldType} {post : Int32 → Gg → Prop} (hM : xC y cy maxL rt rm o g As post) (hw : GoodIn lw_all (wsV R_law idx RX0 y (ws_ y cy maxL (some rt)))) (hcf : cfV y RX0 n) (hrm : rmOk rm room_1 maxL) (hn : As.length = n) (hd : decode code pc = .ok (.invokevirtual idx, 3)) (hst : st0 = As.reverse ++ .ref o.2.1 :: st) (hroom : (st.map fun v => v.category).sum ≤ 8)
    (k : ∀ (r : Int32) (u : Gg), bdX u → post r u → bW K o.1 room_1 R_law code 4 (wM (o.1, am, ad) f ++ wX o u) (pc + 3) lv (.int r :: st)) : bW K o.1 room_1 R_law code 4 (wX o g ++ wM (o.1, am, ad) f) pc lv st0 :=
  w_callI (q0 := 0) (ci := 0) (wr := wM (o.1, am, ad) f) hM hw hcf hrm hn hd hst hroom rfl rfl rfl [0, 1, 2, 3, 4, 5, 6, 7, 8] [9, 10, 11] rfl rfl rfl (by decide) (by decide) (by decide) (fun r u hp => k r u hp.1 hp.2)
theorem l_callMI {K : Kx} {o : Ox} {am : Nat} {ad : Nat → Nat} {g : Gg} {f : Ff} {pc : Nat} {lv : List (Option Value)} {st st0 As : List Value} {y : MethodName} {cy : ByteArray} {maxL idx n : Nat} {rm : Room} {rt : FieldType} {post : Int32 → Prop} (hM : mI y cy maxL rt rm (o.1, am, ad) f As post) (hw : GoodIn lw_all (wsV R_law idx RX1 y (ws_ y cy maxL (some rt)))) (hcf : cfV y RX1 n) (hrm : rmOk rm room_1 maxL) (hn : As.length = n) (hd : decode code pc = .ok (.invokevirtual idx, 3)) (hst : st0 = As.reverse ++ .ref am :: st) (hroom : (st.map fun v => v.category).sum ≤ 8)
    (k : ∀ r : Int32, post r → bW K o.1 room_1 R_law code 4 (wX o g ++ wM (o.1, am, ad) f) (pc + 3) lv (.int r :: st)) : bW K o.1 room_1 R_law code 4 (wM (o.1, am, ad) f ++ wX o g) pc lv st0 :=
  w_callI (q0 := 0) (ci := 1) (wr := wX o g) hM hw hcf hrm hn hd hst hroom rfl rfl rfl [0, 1, 2] [3, 4, 5, 6, 7, 8, 9, 10, 11] rfl rfl rfl (by decide) (by decide) (by decide) (fun r _ hp => k r hp)
theorem l_callMC {K : Kx} {o : Ox} {am : Nat} {ad : Nat → Nat} {g : Gg} {f : Ff} {pc : Nat} {lv : List (Option Value)} {st st0 As : List Value} {y : MethodName} {cy : ByteArray} {maxL idx n : Nat} {rm : Room} {rt : FieldType} {post : Int32 → Ff → Prop} (hM : mC y cy maxL rt rm (o.1, am, ad) f As post) (hw : GoodIn lw_all (wsV R_law idx RX1 y (ws_ y cy maxL (some rt)))) (hcf : cfV y RX1 n) (hrm : rmOk rm room_1 maxL) (hn : As.length = n) (hd : decode code pc = .ok (.invokevirtual idx, 3)) (hst : st0 = As.reverse ++ .ref am :: st) (hroom : (st.map fun v => v.category).sum ≤ 8)
    (k : ∀ (r : Int32) (u : Ff), post r u → bW K o.1 room_1 R_law code 4 (wX o g ++ wM (o.1, am, ad) u) (pc + 3) lv (.int r :: st)) : bW K o.1 room_1 R_law code 4 (wM (o.1, am, ad) f ++ wX o g) pc lv st0 :=
  w_callI (q0 := 0) (ci := 1) (wr := wX o g) hM hw hcf hrm hn hd hst hroom rfl rfl rfl [0, 1, 2] [3, 4, 5, 6, 7, 8, 9, 10, 11] rfl rfl rfl (by decide) (by decide) (by decide) (fun r u hp => k r u hp)
theorem lx_box (o : Ox) (g : Gg) (hB : bdX g) (S : Sx) (hX : XI g S) (vz vk vc vs : Int32) : xC yX0_box cX0_box 5 .int rmD o g [.int vz, .int vk, .int vc, .int vs] (fun v u => v = zI (opBox S vz.toInt vk.toInt vc vs).1 ∧ XI u (opBox S vz.toInt vk.toInt vc vs).2) := by
  have h := p_box o g hB S hX vz.toInt vk.toInt vc vs (zI_rng vz) (zI_rng vk)
  simp only [zI_self] at h
  exact h
theorem lm_box (o : Ox) (f : Ff) (S : Sx) (hM : MI f S) (vz vk vc vs : Int32) : mC yX1_box cX1_box 9 .int rmC o f [.int vz, .int vk, .int vc, .int vs] (fun v u => v = zI (opBox S vz.toInt vk.toInt vc vs).1 ∧ MI u (opBox S vz.toInt vk.toInt vc vs).2) := by
  have h := n_box o f S hM vz.toInt vk.toInt vc vs (zI_rng vz) (zI_rng vk)
  simp only [zI_self] at h
  exact h
theorem lx_combine (o : Ox) (g : Gg) (hB : bdX g) (S : Sx) (hX : XI g S) (vt va vb vk : Int32) : xC yX0_combine cX0_combine 5 .int rmD o g [.int vt, .int va, .int vb, .int vk] (fun v u => v = zI (opComb S vt.toInt va.toInt vb.toInt vk.toInt).1 ∧ XI u (opComb S vt.toInt va.toInt vb.toInt vk.toInt).2) := by
  have h := p_combine o g hB S hX vt.toInt va.toInt vb.toInt vk.toInt (zI_rng vt) (zI_rng va) (zI_rng vb) (zI_rng vk)
  simp only [zI_self] at h
  exact h
theorem lm_combine (o : Ox) (f : Ff) (S : Sx) (hM : MI f S) (vt va vb vk : Int32) : mC yX1_combine cX1_combine 6 .int rmC o f [.int vt, .int va, .int vb, .int vk] (fun v u => v = zI (opComb S vt.toInt va.toInt vb.toInt vk.toInt).1 ∧ MI u (opComb S vt.toInt va.toInt vb.toInt vk.toInt).2) := by
  have h := n_combine o f S hM vt.toInt va.toInt vb.toInt vk.toInt (zI_rng vt) (zI_rng va) (zI_rng vb) (zI_rng vk)
  simp only [zI_self] at h
  exact h
theorem lx_move (o : Ox) (g : Gg) (hB : bdX g) (S : Sx) (hX : XI g S) (vz vx vy : Int32) : xC yX0_move cX0_move 10 .int rmD o g [.int vz, .int vx, .int vy] (fun v u => v = zI (opMove S vz.toInt vx.toInt vy.toInt).1 ∧ XI u (opMove S vz.toInt vx.toInt vy.toInt).2) := by
  have h := p_move o g hB S hX vz.toInt vx.toInt vy.toInt (zI_rng vz) (zI_rng vx) (zI_rng vy)
  simp only [zI_self] at h
  exact h
theorem lm_move (o : Ox) (f : Ff) (S : Sx) (hM : MI f S) (vz vx vy : Int32) : mC yX1_move cX1_move 8 .int rmC o f [.int vz, .int vx, .int vy] (fun v u => v = zI (opMove S vz.toInt vx.toInt vy.toInt).1 ∧ MI u (opMove S vz.toInt vx.toInt vy.toInt).2) := by
  have h := n_move o f S hM vz.toInt vx.toInt vy.toInt (zI_rng vz) (zI_rng vx) (zI_rng vy)
  simp only [zI_self] at h
  exact h
theorem lx_invert (o : Ox) (g : Gg) (hB : bdX g) (S : Sx) (hX : XI g S) (vz : Int32) : xC yX0_invert cX0_invert 2 .int rmD o g [.int vz] (fun v u => v = zI (opInv S vz.toInt).1 ∧ XI u (opInv S vz.toInt).2) := by
  have h := p_invert o g hB S hX vz.toInt (zI_rng vz)
  simp only [zI_self] at h
  exact h
theorem lm_invert (o : Ox) (f : Ff) (S : Sx) (hM : MI f S) (vz : Int32) : mC yX1_invert cX1_invert 3 .int rmC o f [.int vz] (fun v u => v = zI (opInv S vz.toInt).1 ∧ MI u (opInv S vz.toInt).2) := by
  have h := n_invert o f S hM vz.toInt (zI_rng vz)
  simp only [zI_self] at h
  exact h
theorem lx_area (o : Ox) (g : Gg) (hB : bdX g) (S : Sx) (hX : XI g S) (vz : Int32) : xI yX0_area cX0_area 2 .int rmB o g [.int vz] (fun v => v = zI (qArea S vz.toInt)) := by
  have h := p_area o g hB S hX vz.toInt (zI_rng vz)
  simp only [zI_self] at h
  exact h
theorem lm_area (o : Ox) (f : Ff) (S : Sx) (hM : MI f S) (vz : Int32) : mI yX1_area cX1_area 4 .int rmB o f [.int vz] (fun v => v = zI (qArea S vz.toInt)) := by
  have h := n_area o f S hM vz.toInt (zI_rng vz)
  simp only [zI_self] at h
  exact h
theorem lx_has (o : Ox) (g : Gg) (hB : bdX g) (S : Sx) (hX : XI g S) (vz vx vy : Int32) : xI yX0_has cX0_has 8 .boolean rmB o g [.int vz, .int vx, .int vy] (fun v => v = zI (bI (qHas S vz.toInt vx.toInt vy.toInt))) := by
  have h := p_has o g hB S hX vz.toInt vx.toInt vy.toInt (zI_rng vz) (zI_rng vx) (zI_rng vy)
  simp only [zI_self] at h
  exact h
theorem lm_has (o : Ox) (f : Ff) (S : Sx) (hM : MI f S) (vz vx vy : Int32) : mI yX1_has cX1_has 4 .boolean rmB o f [.int vz, .int vx, .int vy] (fun v => v = zI (bI (qHas S vz.toInt vx.toInt vy.toInt))) := by
  have h := n_has o f S hM vz.toInt vx.toInt vy.toInt (zI_rng vz) (zI_rng vx) (zI_rng vy)
  simp only [zI_self] at h
  exact h
theorem lx_rectangles (o : Ox) (g : Gg) (hB : bdX g) (S : Sx) (hX : XI g S) (vz : Int32) : xI yX0_rectangles cX0_rectangles 2 .int rmB o g [.int vz] (fun v => v = zI (qRects S vz.toInt)) := by
  have h := p_rectangles o g hB S hX vz.toInt (zI_rng vz)
  simp only [zI_self] at h
  exact h
theorem lm_rectangles (o : Ox) (f : Ff) (S : Sx) (hM : MI f S) (vz : Int32) : mI yX1_rectangles cX1_rectangles 5 .int rmD o f [.int vz] (fun v => v = zI (qRects S vz.toInt)) := by
  have h := n_rectangles o f S hM vz.toInt (zI_rng vz)
  simp only [zI_self] at h
  exact h
theorem lx_rectangle (o : Ox) (g : Gg) (hB : bdX g) (S : Sx) (hX : XI g S) (vz vi : Int32) : xI yX0_rectangle cX0_rectangle 6 .int rmB o g [.int vz, .int vi] (fun v => v = zI (qRect S vz.toInt vi.toInt)) := by
  have h := p_rectangle o g hB S hX vz.toInt vi.toInt (zI_rng vz) (zI_rng vi)
  simp only [zI_self] at h
  exact h
theorem lm_rectangle (o : Ox) (f : Ff) (S : Sx) (hM : MI f S) (vz vi : Int32) : mI yX1_rectangle cX1_rectangle 6 .int rmD o f [.int vz, .int vi] (fun v => v = zI (qRect S vz.toInt vi.toInt)) := by
  have h := n_rectangle o f S hM vz.toInt vi.toInt (zI_rng vz) (zI_rng vi)
  simp only [zI_self] at h
  exact h
theorem lx_around (o : Ox) (g : Gg) (hB : bdX g) (S : Sx) (hX : XI g S) (vz : Int32) : xI yX0_around cX0_around 5 .int rmB o g [.int vz] (fun v => v = zI (qArnd S vz.toInt)) := by
  have h := p_around o g hB S hX vz.toInt (zI_rng vz)
  simp only [zI_self] at h
  exact h
theorem lm_around (o : Ox) (f : Ff) (S : Sx) (hM : MI f S) (vz : Int32) : mI yX1_around cX1_around 8 .int rmD o f [.int vz] (fun v => v = zI (qArnd S vz.toInt)) := by
  have h := n_around o f S hM vz.toInt (zI_rng vz)
  simp only [zI_self] at h
  exact h
theorem lx_same (o : Ox) (g : Gg) (hB : bdX g) (S : Sx) (hX : XI g S) (va vb : Int32) : xI yX0_same cX0_same 6 .boolean rmB o g [.int va, .int vb] (fun v => v = zI (bI (qSame S va.toInt vb.toInt))) := by
  have h := p_same o g hB S hX va.toInt vb.toInt (zI_rng va) (zI_rng vb)
  simp only [zI_self] at h
  exact h
theorem lm_same (o : Ox) (f : Ff) (S : Sx) (hM : MI f S) (va vb : Int32) : mI yX1_same cX1_same 4 .boolean rmC o f [.int va, .int vb] (fun v => v = zI (bI (qSame S va.toInt vb.toInt))) := by
  have h := n_same o f S hM va.toInt vb.toInt (zI_rng va) (zI_rng vb)
  simp only [zI_self] at h
  exact h
theorem lx_covers (o : Ox) (g : Gg) (hB : bdX g) (S : Sx) (hX : XI g S) (vz vc vs : Int32) : xC yX0_covers cX0_covers 6 .int rmD o g [.int vz, .int vc, .int vs] (fun v u => v = zI (qCov S vz.toInt vc vs) ∧ XI u S) := by
  have h := p_covers o g hB S hX vz.toInt vc vs (zI_rng vz)
  simp only [zI_self] at h
  exact h
theorem lm_covers (o : Ox) (f : Ff) (S : Sx) (hM : MI f S) (vz vc vs : Int32) : mI yX1_covers cX1_covers 9 .int rmC o f [.int vz, .int vc, .int vs] (fun v => v = zI (qCov S vz.toInt vc vs)) := by
  have h := n_covers o f S hM vz.toInt vc vs (zI_rng vz)
  simp only [zI_self] at h
  exact h
end
section
/-! THE LAW: a case of its switch each, its loop, its start -/
set_option maxRecDepth 100000
abbrev lvL (b : Nat) (o : Ox) (am i : Nat) : List (Option Value) := [some (.ref b), some (.ref o.2.1), some (.ref am), some (.int (zI (i : Int)))]
abbrev bL (K : Kx) (o : Ox) (am : Nat) (ad : Nat → Nat) (g : Gg) (f : Ff) (pc : Nat) (lv : List (Option Value)) (st : List Value) : Prop := bW K o.1 room_1 R_law code 4 (wX o g ++ wM (o.1, am, ad) f) pc lv st
set_option maxHeartbeats 4000000 in
theorem lc_box {K : Kx} {o : Ox} {am : Nat} {ad : Nat → Nat} {b L i : Nat} {xs : Nat → Int32} {g : Gg} {f : Ff} {S : Sx} (hs : lsc K b L xs) (hL : L ≤ 320) (hi : i + 5 ≤ L) (hB : bdX g) (hX : XI g S) (hM : MI f S) (k : ∀ (g : Gg) (f : Ff) (S : Sx), bdX g → XI g S → MI f S → bL K o am ad g f 485 (lvL b o am i) []) : bL K o am ad g f 92 (lvL b o am i) [] := by
  refine r_aload_n dL_law_92 rfl ?_
  refine r_aload_n dL_law_93 rfl ?_
  refine r_iload_n dL_law_94 rfl ?_
  refine r_iconstN (q := 1) dL_law_95 rfl ?_
  refine r_iaddN dL_law_96 ?_
  refine r_sld hs hL (by omega) dL_law_97 ?_
  refine r_aload_n dL_law_98 rfl ?_
  refine r_iload_n dL_law_99 rfl ?_
  refine r_iconstN (q := 2) dL_law_100 rfl ?_
  refine r_iaddN dL_law_101 ?_
  refine r_sld hs hL (by omega) dL_law_102 ?_
  refine r_aload_n dL_law_103 rfl ?_
  refine r_iload_n dL_law_104 rfl ?_
  refine r_iconstN (q := 3) dL_law_105 rfl ?_
  refine r_iaddN dL_law_106 ?_
  refine r_sld hs hL (by omega) dL_law_107 ?_
  refine r_aload_n dL_law_108 rfl ?_
  refine r_iload_n dL_law_109 rfl ?_
  refine r_iconstN (q := 4) dL_law_110 rfl ?_
  refine r_iaddN dL_law_111 ?_
  refine r_sld hs hL (by omega) dL_law_112 ?_
  refine l_callXC (lx_box o g hB S hX _ _ _ _) gl_X0_box cf_X0_box ⟨rfl, rfl, by decide, by decide⟩ rfl dL_law_113 rfl (Nat.le_of_ble_eq_true rfl) (fun v u hBu hv => ?_)
  obtain ⟨rfl, hX2⟩ := hv
  refine r_aload_n dL_law_116 rfl ?_
  refine r_aload_n dL_law_117 rfl ?_
  refine r_iload_n dL_law_118 rfl ?_
  refine r_iconstN (q := 1) dL_law_119 rfl ?_
  refine r_iaddN dL_law_120 ?_
  refine r_sld hs hL (by omega) dL_law_121 ?_
  refine r_aload_n dL_law_122 rfl ?_
  refine r_iload_n dL_law_123 rfl ?_
  refine r_iconstN (q := 2) dL_law_124 rfl ?_
  refine r_iaddN dL_law_125 ?_
  refine r_sld hs hL (by omega) dL_law_126 ?_
  refine r_aload_n dL_law_127 rfl ?_
  refine r_iload_n dL_law_128 rfl ?_
  refine r_iconstN (q := 3) dL_law_129 rfl ?_
  refine r_iaddN dL_law_130 ?_
  refine r_sld hs hL (by omega) dL_law_131 ?_
  refine r_aload_n dL_law_132 rfl ?_
  refine r_iload_n dL_law_133 rfl ?_
  refine r_iconstN (q := 4) dL_law_134 rfl ?_
  refine r_iaddN dL_law_135 ?_
  refine r_sld hs hL (by omega) dL_law_136 ?_
  refine l_callMC (lm_box (o.1, am, ad) f S hM _ _ _ _) gl_X1_box cf_X1_box ⟨rfl, rfl, by decide, by decide⟩ rfl dL_law_137 rfl (Nat.le_of_ble_eq_true rfl) (fun v u2 hv => ?_)
  obtain ⟨rfl, hM2⟩ := hv
  refine r_icmp_eq32 (tgt := 485) dL_law_140 (by decide) (fun _ => k _ _ _ hBu hX2 hM2) (fun h => absurd rfl h)
set_option maxHeartbeats 4000000 in
theorem lc_combine {K : Kx} {o : Ox} {am : Nat} {ad : Nat → Nat} {b L i : Nat} {xs : Nat → Int32} {g : Gg} {f : Ff} {S : Sx} (hs : lsc K b L xs) (hL : L ≤ 320) (hi : i + 5 ≤ L) (hB : bdX g) (hX : XI g S) (hM : MI f S) (k : ∀ (g : Gg) (f : Ff) (S : Sx), bdX g → XI g S → MI f S → bL K o am ad g f 485 (lvL b o am i) []) : bL K o am ad g f 145 (lvL b o am i) [] := by
  refine r_aload_n dL_law_145 rfl ?_
  refine r_aload_n dL_law_146 rfl ?_
  refine r_iload_n dL_law_147 rfl ?_
  refine r_iconstN (q := 1) dL_law_148 rfl ?_
  refine r_iaddN dL_law_149 ?_
  refine r_sld hs hL (by omega) dL_law_150 ?_
  refine r_aload_n dL_law_151 rfl ?_
  refine r_iload_n dL_law_152 rfl ?_
  refine r_iconstN (q := 2) dL_law_153 rfl ?_
  refine r_iaddN dL_law_154 ?_
  refine r_sld hs hL (by omega) dL_law_155 ?_
  refine r_aload_n dL_law_156 rfl ?_
  refine r_iload_n dL_law_157 rfl ?_
  refine r_iconstN (q := 3) dL_law_158 rfl ?_
  refine r_iaddN dL_law_159 ?_
  refine r_sld hs hL (by omega) dL_law_160 ?_
  refine r_aload_n dL_law_161 rfl ?_
  refine r_iload_n dL_law_162 rfl ?_
  refine r_iconstN (q := 4) dL_law_163 rfl ?_
  refine r_iaddN dL_law_164 ?_
  refine r_sld hs hL (by omega) dL_law_165 ?_
  refine l_callXC (lx_combine o g hB S hX _ _ _ _) gl_X0_combine cf_X0_combine ⟨rfl, rfl, by decide, by decide⟩ rfl dL_law_166 rfl (Nat.le_of_ble_eq_true rfl) (fun v u hBu hv => ?_)
  obtain ⟨rfl, hX2⟩ := hv
  refine r_aload_n dL_law_169 rfl ?_
  refine r_aload_n dL_law_170 rfl ?_
  refine r_iload_n dL_law_171 rfl ?_
  refine r_iconstN (q := 1) dL_law_172 rfl ?_
  refine r_iaddN dL_law_173 ?_
  refine r_sld hs hL (by omega) dL_law_174 ?_
  refine r_aload_n dL_law_175 rfl ?_
  refine r_iload_n dL_law_176 rfl ?_
  refine r_iconstN (q := 2) dL_law_177 rfl ?_
  refine r_iaddN dL_law_178 ?_
  refine r_sld hs hL (by omega) dL_law_179 ?_
  refine r_aload_n dL_law_180 rfl ?_
  refine r_iload_n dL_law_181 rfl ?_
  refine r_iconstN (q := 3) dL_law_182 rfl ?_
  refine r_iaddN dL_law_183 ?_
  refine r_sld hs hL (by omega) dL_law_184 ?_
  refine r_aload_n dL_law_185 rfl ?_
  refine r_iload_n dL_law_186 rfl ?_
  refine r_iconstN (q := 4) dL_law_187 rfl ?_
  refine r_iaddN dL_law_188 ?_
  refine r_sld hs hL (by omega) dL_law_189 ?_
  refine l_callMC (lm_combine (o.1, am, ad) f S hM _ _ _ _) gl_X1_combine cf_X1_combine ⟨rfl, rfl, by decide, by decide⟩ rfl dL_law_190 rfl (Nat.le_of_ble_eq_true rfl) (fun v u2 hv => ?_)
  obtain ⟨rfl, hM2⟩ := hv
  refine r_icmp_eq32 (tgt := 485) dL_law_193 (by decide) (fun _ => k _ _ _ hBu hX2 hM2) (fun h => absurd rfl h)
set_option maxHeartbeats 4000000 in
theorem lc_move {K : Kx} {o : Ox} {am : Nat} {ad : Nat → Nat} {b L i : Nat} {xs : Nat → Int32} {g : Gg} {f : Ff} {S : Sx} (hs : lsc K b L xs) (hL : L ≤ 320) (hi : i + 5 ≤ L) (hB : bdX g) (hX : XI g S) (hM : MI f S) (k : ∀ (g : Gg) (f : Ff) (S : Sx), bdX g → XI g S → MI f S → bL K o am ad g f 485 (lvL b o am i) []) : bL K o am ad g f 198 (lvL b o am i) [] := by
  refine r_aload_n dL_law_198 rfl ?_
  refine r_aload_n dL_law_199 rfl ?_
  refine r_iload_n dL_law_200 rfl ?_
  refine r_iconstN (q := 1) dL_law_201 rfl ?_
  refine r_iaddN dL_law_202 ?_
  refine r_sld hs hL (by omega) dL_law_203 ?_
  refine r_aload_n dL_law_204 rfl ?_
  refine r_iload_n dL_law_205 rfl ?_
  refine r_iconstN (q := 2) dL_law_206 rfl ?_
  refine r_iaddN dL_law_207 ?_
  refine r_sld hs hL (by omega) dL_law_208 ?_
  refine r_aload_n dL_law_209 rfl ?_
  refine r_iload_n dL_law_210 rfl ?_
  refine r_iconstN (q := 3) dL_law_211 rfl ?_
  refine r_iaddN dL_law_212 ?_
  refine r_sld hs hL (by omega) dL_law_213 ?_
  refine l_callXC (lx_move o g hB S hX _ _ _) gl_X0_move cf_X0_move ⟨rfl, rfl, by decide, by decide⟩ rfl dL_law_214 rfl (Nat.le_of_ble_eq_true rfl) (fun v u hBu hv => ?_)
  obtain ⟨rfl, hX2⟩ := hv
  refine r_aload_n dL_law_217 rfl ?_
  refine r_aload_n dL_law_218 rfl ?_
  refine r_iload_n dL_law_219 rfl ?_
  refine r_iconstN (q := 1) dL_law_220 rfl ?_
  refine r_iaddN dL_law_221 ?_
  refine r_sld hs hL (by omega) dL_law_222 ?_
  refine r_aload_n dL_law_223 rfl ?_
  refine r_iload_n dL_law_224 rfl ?_
  refine r_iconstN (q := 2) dL_law_225 rfl ?_
  refine r_iaddN dL_law_226 ?_
  refine r_sld hs hL (by omega) dL_law_227 ?_
  refine r_aload_n dL_law_228 rfl ?_
  refine r_iload_n dL_law_229 rfl ?_
  refine r_iconstN (q := 3) dL_law_230 rfl ?_
  refine r_iaddN dL_law_231 ?_
  refine r_sld hs hL (by omega) dL_law_232 ?_
  refine l_callMC (lm_move (o.1, am, ad) f S hM _ _ _) gl_X1_move cf_X1_move ⟨rfl, rfl, by decide, by decide⟩ rfl dL_law_233 rfl (Nat.le_of_ble_eq_true rfl) (fun v u2 hv => ?_)
  obtain ⟨rfl, hM2⟩ := hv
  refine r_icmp_eq32 (tgt := 485) dL_law_236 (by decide) (fun _ => k _ _ _ hBu hX2 hM2) (fun h => absurd rfl h)
set_option maxHeartbeats 4000000 in
theorem lc_invert {K : Kx} {o : Ox} {am : Nat} {ad : Nat → Nat} {b L i : Nat} {xs : Nat → Int32} {g : Gg} {f : Ff} {S : Sx} (hs : lsc K b L xs) (hL : L ≤ 320) (hi : i + 5 ≤ L) (hB : bdX g) (hX : XI g S) (hM : MI f S) (k : ∀ (g : Gg) (f : Ff) (S : Sx), bdX g → XI g S → MI f S → bL K o am ad g f 485 (lvL b o am i) []) : bL K o am ad g f 241 (lvL b o am i) [] := by
  refine r_aload_n dL_law_241 rfl ?_
  refine r_aload_n dL_law_242 rfl ?_
  refine r_iload_n dL_law_243 rfl ?_
  refine r_iconstN (q := 1) dL_law_244 rfl ?_
  refine r_iaddN dL_law_245 ?_
  refine r_sld hs hL (by omega) dL_law_246 ?_
  refine l_callXC (lx_invert o g hB S hX _) gl_X0_invert cf_X0_invert ⟨rfl, rfl, by decide, by decide⟩ rfl dL_law_247 rfl (Nat.le_of_ble_eq_true rfl) (fun v u hBu hv => ?_)
  obtain ⟨rfl, hX2⟩ := hv
  refine r_aload_n dL_law_250 rfl ?_
  refine r_aload_n dL_law_251 rfl ?_
  refine r_iload_n dL_law_252 rfl ?_
  refine r_iconstN (q := 1) dL_law_253 rfl ?_
  refine r_iaddN dL_law_254 ?_
  refine r_sld hs hL (by omega) dL_law_255 ?_
  refine l_callMC (lm_invert (o.1, am, ad) f S hM _) gl_X1_invert cf_X1_invert ⟨rfl, rfl, by decide, by decide⟩ rfl dL_law_256 rfl (Nat.le_of_ble_eq_true rfl) (fun v u2 hv => ?_)
  obtain ⟨rfl, hM2⟩ := hv
  refine r_icmp_eq32 (tgt := 485) dL_law_259 (by decide) (fun _ => k _ _ _ hBu hX2 hM2) (fun h => absurd rfl h)
set_option maxHeartbeats 4000000 in
theorem lc_area {K : Kx} {o : Ox} {am : Nat} {ad : Nat → Nat} {b L i : Nat} {xs : Nat → Int32} {g : Gg} {f : Ff} {S : Sx} (hs : lsc K b L xs) (hL : L ≤ 320) (hi : i + 5 ≤ L) (hB : bdX g) (hX : XI g S) (hM : MI f S) (k : ∀ (g : Gg) (f : Ff) (S : Sx), bdX g → XI g S → MI f S → bL K o am ad g f 485 (lvL b o am i) []) : bL K o am ad g f 264 (lvL b o am i) [] := by
  refine r_aload_n dL_law_264 rfl ?_
  refine r_aload_n dL_law_265 rfl ?_
  refine r_iload_n dL_law_266 rfl ?_
  refine r_iconstN (q := 1) dL_law_267 rfl ?_
  refine r_iaddN dL_law_268 ?_
  refine r_sld hs hL (by omega) dL_law_269 ?_
  refine l_callXI (lx_area o g hB S hX _) gl_X0_area cf_X0_area ⟨rfl, rfl, by decide, by decide⟩ rfl dL_law_270 rfl (Nat.le_of_ble_eq_true rfl) (fun v hv => ?_)
  obtain rfl := hv
  refine r_aload_n dL_law_273 rfl ?_
  refine r_aload_n dL_law_274 rfl ?_
  refine r_iload_n dL_law_275 rfl ?_
  refine r_iconstN (q := 1) dL_law_276 rfl ?_
  refine r_iaddN dL_law_277 ?_
  refine r_sld hs hL (by omega) dL_law_278 ?_
  refine l_callMI (lm_area (o.1, am, ad) f S hM _) gl_X1_area cf_X1_area ⟨rfl, rfl, by decide, by decide⟩ rfl dL_law_279 rfl (Nat.le_of_ble_eq_true rfl) (fun v hv => ?_)
  obtain rfl := hv
  refine r_icmp_eq32 (tgt := 485) dL_law_282 (by decide) (fun _ => k _ _ _ hB hX hM) (fun h => absurd rfl h)
set_option maxHeartbeats 4000000 in
theorem lc_has {K : Kx} {o : Ox} {am : Nat} {ad : Nat → Nat} {b L i : Nat} {xs : Nat → Int32} {g : Gg} {f : Ff} {S : Sx} (hs : lsc K b L xs) (hL : L ≤ 320) (hi : i + 5 ≤ L) (hB : bdX g) (hX : XI g S) (hM : MI f S) (k : ∀ (g : Gg) (f : Ff) (S : Sx), bdX g → XI g S → MI f S → bL K o am ad g f 485 (lvL b o am i) []) : bL K o am ad g f 287 (lvL b o am i) [] := by
  refine r_aload_n dL_law_287 rfl ?_
  refine r_aload_n dL_law_288 rfl ?_
  refine r_iload_n dL_law_289 rfl ?_
  refine r_iconstN (q := 1) dL_law_290 rfl ?_
  refine r_iaddN dL_law_291 ?_
  refine r_sld hs hL (by omega) dL_law_292 ?_
  refine r_aload_n dL_law_293 rfl ?_
  refine r_iload_n dL_law_294 rfl ?_
  refine r_iconstN (q := 2) dL_law_295 rfl ?_
  refine r_iaddN dL_law_296 ?_
  refine r_sld hs hL (by omega) dL_law_297 ?_
  refine r_aload_n dL_law_298 rfl ?_
  refine r_iload_n dL_law_299 rfl ?_
  refine r_iconstN (q := 3) dL_law_300 rfl ?_
  refine r_iaddN dL_law_301 ?_
  refine r_sld hs hL (by omega) dL_law_302 ?_
  refine l_callXI (lx_has o g hB S hX _ _ _) gl_X0_has cf_X0_has ⟨rfl, rfl, by decide, by decide⟩ rfl dL_law_303 rfl (Nat.le_of_ble_eq_true rfl) (fun v hv => ?_)
  obtain rfl := hv
  refine r_aload_n dL_law_306 rfl ?_
  refine r_aload_n dL_law_307 rfl ?_
  refine r_iload_n dL_law_308 rfl ?_
  refine r_iconstN (q := 1) dL_law_309 rfl ?_
  refine r_iaddN dL_law_310 ?_
  refine r_sld hs hL (by omega) dL_law_311 ?_
  refine r_aload_n dL_law_312 rfl ?_
  refine r_iload_n dL_law_313 rfl ?_
  refine r_iconstN (q := 2) dL_law_314 rfl ?_
  refine r_iaddN dL_law_315 ?_
  refine r_sld hs hL (by omega) dL_law_316 ?_
  refine r_aload_n dL_law_317 rfl ?_
  refine r_iload_n dL_law_318 rfl ?_
  refine r_iconstN (q := 3) dL_law_319 rfl ?_
  refine r_iaddN dL_law_320 ?_
  refine r_sld hs hL (by omega) dL_law_321 ?_
  refine l_callMI (lm_has (o.1, am, ad) f S hM _ _ _) gl_X1_has cf_X1_has ⟨rfl, rfl, by decide, by decide⟩ rfl dL_law_322 rfl (Nat.le_of_ble_eq_true rfl) (fun v hv => ?_)
  obtain rfl := hv
  refine r_icmp_eq32 (tgt := 485) dL_law_325 (by decide) (fun _ => k _ _ _ hB hX hM) (fun h => absurd rfl h)
set_option maxHeartbeats 4000000 in
theorem lc_rectangles {K : Kx} {o : Ox} {am : Nat} {ad : Nat → Nat} {b L i : Nat} {xs : Nat → Int32} {g : Gg} {f : Ff} {S : Sx} (hs : lsc K b L xs) (hL : L ≤ 320) (hi : i + 5 ≤ L) (hB : bdX g) (hX : XI g S) (hM : MI f S) (k : ∀ (g : Gg) (f : Ff) (S : Sx), bdX g → XI g S → MI f S → bL K o am ad g f 485 (lvL b o am i) []) : bL K o am ad g f 330 (lvL b o am i) [] := by
  refine r_aload_n dL_law_330 rfl ?_
  refine r_aload_n dL_law_331 rfl ?_
  refine r_iload_n dL_law_332 rfl ?_
  refine r_iconstN (q := 1) dL_law_333 rfl ?_
  refine r_iaddN dL_law_334 ?_
  refine r_sld hs hL (by omega) dL_law_335 ?_
  refine l_callXI (lx_rectangles o g hB S hX _) gl_X0_rectangles cf_X0_rectangles ⟨rfl, rfl, by decide, by decide⟩ rfl dL_law_336 rfl (Nat.le_of_ble_eq_true rfl) (fun v hv => ?_)
  obtain rfl := hv
  refine r_aload_n dL_law_339 rfl ?_
  refine r_aload_n dL_law_340 rfl ?_
  refine r_iload_n dL_law_341 rfl ?_
  refine r_iconstN (q := 1) dL_law_342 rfl ?_
  refine r_iaddN dL_law_343 ?_
  refine r_sld hs hL (by omega) dL_law_344 ?_
  refine l_callMI (lm_rectangles (o.1, am, ad) f S hM _) gl_X1_rectangles cf_X1_rectangles ⟨rfl, rfl, by decide, by decide⟩ rfl dL_law_345 rfl (Nat.le_of_ble_eq_true rfl) (fun v hv => ?_)
  obtain rfl := hv
  refine r_icmp_eq32 (tgt := 485) dL_law_348 (by decide) (fun _ => k _ _ _ hB hX hM) (fun h => absurd rfl h)
set_option maxHeartbeats 4000000 in
theorem lc_rectangle {K : Kx} {o : Ox} {am : Nat} {ad : Nat → Nat} {b L i : Nat} {xs : Nat → Int32} {g : Gg} {f : Ff} {S : Sx} (hs : lsc K b L xs) (hL : L ≤ 320) (hi : i + 5 ≤ L) (hB : bdX g) (hX : XI g S) (hM : MI f S) (k : ∀ (g : Gg) (f : Ff) (S : Sx), bdX g → XI g S → MI f S → bL K o am ad g f 485 (lvL b o am i) []) : bL K o am ad g f 353 (lvL b o am i) [] := by
  refine r_aload_n dL_law_353 rfl ?_
  refine r_aload_n dL_law_354 rfl ?_
  refine r_iload_n dL_law_355 rfl ?_
  refine r_iconstN (q := 1) dL_law_356 rfl ?_
  refine r_iaddN dL_law_357 ?_
  refine r_sld hs hL (by omega) dL_law_358 ?_
  refine r_aload_n dL_law_359 rfl ?_
  refine r_iload_n dL_law_360 rfl ?_
  refine r_iconstN (q := 2) dL_law_361 rfl ?_
  refine r_iaddN dL_law_362 ?_
  refine r_sld hs hL (by omega) dL_law_363 ?_
  refine l_callXI (lx_rectangle o g hB S hX _ _) gl_X0_rectangle cf_X0_rectangle ⟨rfl, rfl, by decide, by decide⟩ rfl dL_law_364 rfl (Nat.le_of_ble_eq_true rfl) (fun v hv => ?_)
  obtain rfl := hv
  refine r_aload_n dL_law_367 rfl ?_
  refine r_aload_n dL_law_368 rfl ?_
  refine r_iload_n dL_law_369 rfl ?_
  refine r_iconstN (q := 1) dL_law_370 rfl ?_
  refine r_iaddN dL_law_371 ?_
  refine r_sld hs hL (by omega) dL_law_372 ?_
  refine r_aload_n dL_law_373 rfl ?_
  refine r_iload_n dL_law_374 rfl ?_
  refine r_iconstN (q := 2) dL_law_375 rfl ?_
  refine r_iaddN dL_law_376 ?_
  refine r_sld hs hL (by omega) dL_law_377 ?_
  refine l_callMI (lm_rectangle (o.1, am, ad) f S hM _ _) gl_X1_rectangle cf_X1_rectangle ⟨rfl, rfl, by decide, by decide⟩ rfl dL_law_378 rfl (Nat.le_of_ble_eq_true rfl) (fun v hv => ?_)
  obtain rfl := hv
  refine r_icmp_eq32 (tgt := 485) dL_law_381 (by decide) (fun _ => k _ _ _ hB hX hM) (fun h => absurd rfl h)
set_option maxHeartbeats 4000000 in
theorem lc_around {K : Kx} {o : Ox} {am : Nat} {ad : Nat → Nat} {b L i : Nat} {xs : Nat → Int32} {g : Gg} {f : Ff} {S : Sx} (hs : lsc K b L xs) (hL : L ≤ 320) (hi : i + 5 ≤ L) (hB : bdX g) (hX : XI g S) (hM : MI f S) (k : ∀ (g : Gg) (f : Ff) (S : Sx), bdX g → XI g S → MI f S → bL K o am ad g f 485 (lvL b o am i) []) : bL K o am ad g f 386 (lvL b o am i) [] := by
  refine r_aload_n dL_law_386 rfl ?_
  refine r_aload_n dL_law_387 rfl ?_
  refine r_iload_n dL_law_388 rfl ?_
  refine r_iconstN (q := 1) dL_law_389 rfl ?_
  refine r_iaddN dL_law_390 ?_
  refine r_sld hs hL (by omega) dL_law_391 ?_
  refine l_callXI (lx_around o g hB S hX _) gl_X0_around cf_X0_around ⟨rfl, rfl, by decide, by decide⟩ rfl dL_law_392 rfl (Nat.le_of_ble_eq_true rfl) (fun v hv => ?_)
  obtain rfl := hv
  refine r_aload_n dL_law_395 rfl ?_
  refine r_aload_n dL_law_396 rfl ?_
  refine r_iload_n dL_law_397 rfl ?_
  refine r_iconstN (q := 1) dL_law_398 rfl ?_
  refine r_iaddN dL_law_399 ?_
  refine r_sld hs hL (by omega) dL_law_400 ?_
  refine l_callMI (lm_around (o.1, am, ad) f S hM _) gl_X1_around cf_X1_around ⟨rfl, rfl, by decide, by decide⟩ rfl dL_law_401 rfl (Nat.le_of_ble_eq_true rfl) (fun v hv => ?_)
  obtain rfl := hv
  refine r_icmp_eq32 (tgt := 485) dL_law_404 (by decide) (fun _ => k _ _ _ hB hX hM) (fun h => absurd rfl h)
set_option maxHeartbeats 4000000 in
theorem lc_same {K : Kx} {o : Ox} {am : Nat} {ad : Nat → Nat} {b L i : Nat} {xs : Nat → Int32} {g : Gg} {f : Ff} {S : Sx} (hs : lsc K b L xs) (hL : L ≤ 320) (hi : i + 5 ≤ L) (hB : bdX g) (hX : XI g S) (hM : MI f S) (k : ∀ (g : Gg) (f : Ff) (S : Sx), bdX g → XI g S → MI f S → bL K o am ad g f 485 (lvL b o am i) []) : bL K o am ad g f 409 (lvL b o am i) [] := by
  refine r_aload_n dL_law_409 rfl ?_
  refine r_aload_n dL_law_410 rfl ?_
  refine r_iload_n dL_law_411 rfl ?_
  refine r_iconstN (q := 1) dL_law_412 rfl ?_
  refine r_iaddN dL_law_413 ?_
  refine r_sld hs hL (by omega) dL_law_414 ?_
  refine r_aload_n dL_law_415 rfl ?_
  refine r_iload_n dL_law_416 rfl ?_
  refine r_iconstN (q := 2) dL_law_417 rfl ?_
  refine r_iaddN dL_law_418 ?_
  refine r_sld hs hL (by omega) dL_law_419 ?_
  refine l_callXI (lx_same o g hB S hX _ _) gl_X0_same cf_X0_same ⟨rfl, rfl, by decide, by decide⟩ rfl dL_law_420 rfl (Nat.le_of_ble_eq_true rfl) (fun v hv => ?_)
  obtain rfl := hv
  refine r_aload_n dL_law_423 rfl ?_
  refine r_aload_n dL_law_424 rfl ?_
  refine r_iload_n dL_law_425 rfl ?_
  refine r_iconstN (q := 1) dL_law_426 rfl ?_
  refine r_iaddN dL_law_427 ?_
  refine r_sld hs hL (by omega) dL_law_428 ?_
  refine r_aload_n dL_law_429 rfl ?_
  refine r_iload_n dL_law_430 rfl ?_
  refine r_iconstN (q := 2) dL_law_431 rfl ?_
  refine r_iaddN dL_law_432 ?_
  refine r_sld hs hL (by omega) dL_law_433 ?_
  refine l_callMI (lm_same (o.1, am, ad) f S hM _ _) gl_X1_same cf_X1_same ⟨rfl, rfl, by decide, by decide⟩ rfl dL_law_434 rfl (Nat.le_of_ble_eq_true rfl) (fun v hv => ?_)
  obtain rfl := hv
  refine r_icmp_eq32 (tgt := 485) dL_law_437 (by decide) (fun _ => k _ _ _ hB hX hM) (fun h => absurd rfl h)
set_option maxHeartbeats 4000000 in
theorem lc_covers {K : Kx} {o : Ox} {am : Nat} {ad : Nat → Nat} {b L i : Nat} {xs : Nat → Int32} {g : Gg} {f : Ff} {S : Sx} (hs : lsc K b L xs) (hL : L ≤ 320) (hi : i + 5 ≤ L) (hB : bdX g) (hX : XI g S) (hM : MI f S) (k : ∀ (g : Gg) (f : Ff) (S : Sx), bdX g → XI g S → MI f S → bL K o am ad g f 485 (lvL b o am i) []) : bL K o am ad g f 442 (lvL b o am i) [] := by
  refine r_aload_n dL_law_442 rfl ?_
  refine r_aload_n dL_law_443 rfl ?_
  refine r_iload_n dL_law_444 rfl ?_
  refine r_iconstN (q := 1) dL_law_445 rfl ?_
  refine r_iaddN dL_law_446 ?_
  refine r_sld hs hL (by omega) dL_law_447 ?_
  refine r_aload_n dL_law_448 rfl ?_
  refine r_iload_n dL_law_449 rfl ?_
  refine r_iconstN (q := 2) dL_law_450 rfl ?_
  refine r_iaddN dL_law_451 ?_
  refine r_sld hs hL (by omega) dL_law_452 ?_
  refine r_aload_n dL_law_453 rfl ?_
  refine r_iload_n dL_law_454 rfl ?_
  refine r_iconstN (q := 3) dL_law_455 rfl ?_
  refine r_iaddN dL_law_456 ?_
  refine r_sld hs hL (by omega) dL_law_457 ?_
  refine l_callXC (lx_covers o g hB S hX _ _ _) gl_X0_covers cf_X0_covers ⟨rfl, rfl, by decide, by decide⟩ rfl dL_law_458 rfl (Nat.le_of_ble_eq_true rfl) (fun v u hBu hv => ?_)
  obtain ⟨rfl, hX2⟩ := hv
  refine r_aload_n dL_law_461 rfl ?_
  refine r_aload_n dL_law_462 rfl ?_
  refine r_iload_n dL_law_463 rfl ?_
  refine r_iconstN (q := 1) dL_law_464 rfl ?_
  refine r_iaddN dL_law_465 ?_
  refine r_sld hs hL (by omega) dL_law_466 ?_
  refine r_aload_n dL_law_467 rfl ?_
  refine r_iload_n dL_law_468 rfl ?_
  refine r_iconstN (q := 2) dL_law_469 rfl ?_
  refine r_iaddN dL_law_470 ?_
  refine r_sld hs hL (by omega) dL_law_471 ?_
  refine r_aload_n dL_law_472 rfl ?_
  refine r_iload_n dL_law_473 rfl ?_
  refine r_iconstN (q := 3) dL_law_474 rfl ?_
  refine r_iaddN dL_law_475 ?_
  refine r_sld hs hL (by omega) dL_law_476 ?_
  refine l_callMI (lm_covers (o.1, am, ad) f S hM _ _ _) gl_X1_covers cf_X1_covers ⟨rfl, rfl, by decide, by decide⟩ rfl dL_law_477 rfl (Nat.le_of_ble_eq_true rfl) (fun v hv => ?_)
  obtain rfl := hv
  refine r_icmp_eq32 (tgt := 485) dL_law_480 (by decide) (fun _ => k _ _ _ hBu hX2 hM) (fun h => absurd rfl h)
/-- THE LAW'S LOOP: at its head, with i ints read, both hold the same three sets -/
theorem law_loop {K : Kx} {o : Ox} {am : Nat} {ad : Nat → Nat} {b L : Nat} {xs : Nat → Int32} (hs : lsc K b L xs) (hL : L ≤ 320) (kend : ∀ (w : va_W) (lv : List (Option Value)), bW K o.1 room_1 R_law code 4 w 492 lv [.int (zI 1)]) :
    ∀ (n i : Nat) (g : Gg) (f : Ff) (S : Sx), i ≤ L → L + 1 ≤ i + n → bdX g → XI g S → MI f S → bL K o am ad g f 18 (lvL b o am i) [] := by
  intro n
  induction n with
  | zero =>
    intro i g f S h1 h2
    exact absurd h2 (by omega)
  | succ n ih =>
    intro i g f S h1 h2 hB hX hM
    refine r_iload_n dL_law_18 rfl ?_
    refine r_aload_n dL_law_19 rfl ?_
    refine r_slen hs dL_law_20 ?_
    refine r_iconstN (q := 5) dL_law_21 rfl ?_
    refine r_isub dL_law_22 ?_
    refine r_icmp_gt (tgt := 491) dL_law_23 (by decide) (by omega) (by omega) (fun h3 => ?_) (fun h3 => ?_)
    · refine r_iconst dL_law_491 ?_
      exact kend _ _
    · have hi : i + 5 ≤ L := by omega
      have k485 : ∀ (g : Gg) (f : Ff) (S : Sx), bdX g → XI g S → MI f S → bL K o am ad g f 485 (lvL b o am i) [] := by
        intro g f S hB hX hM
        refine r_iincN (q := 5) dL_law_485 rfl rfl (by decide) rfl ?_
        refine r_goto (tgt := 18) dL_law_488 (by decide) ?_
        exact ih (i + 5) g f S (by omega) (by omega) hB hX hM
      refine r_aload_n dL_law_26 rfl ?_
      refine r_iload_n dL_law_27 rfl ?_
      refine r_sld hs hL (by omega) dL_law_28 ?_
      refine r_bipushN (q := 15) dL_law_29 rfl (by decide) ?_
      refine r_and15 dL_law_31 rfl ?_
      have hv := lo4_lt (xs i)
      revert hv
      generalize lo4 (xs i) = v
      intro hv
      rcases (show v = 0 ∨ v = 1 ∨ v = 2 ∨ v = 3 ∨ v = 4 ∨ v = 5 ∨ v = 6 ∨ v = 7 ∨ v = 8 ∨ v = 9 ∨ v = 10 ∨ 11 ≤ v by omega) with rfl | rfl | rfl | rfl | rfl | rfl | rfl | rfl | rfl | rfl | rfl | hv2
      · exact r_tin (tgt := 92) dL_law_32 (by omega) (by decide) (by decide) rfl (by decide) (lc_box hs hL hi hB hX hM k485)
      · exact r_tin (tgt := 145) dL_law_32 (by omega) (by decide) (by decide) rfl (by decide) (lc_combine hs hL hi hB hX hM k485)
      · exact r_tin (tgt := 198) dL_law_32 (by omega) (by decide) (by decide) rfl (by decide) (lc_move hs hL hi hB hX hM k485)
      · exact r_tin (tgt := 241) dL_law_32 (by omega) (by decide) (by decide) rfl (by decide) (lc_invert hs hL hi hB hX hM k485)
      · exact r_tin (tgt := 264) dL_law_32 (by omega) (by decide) (by decide) rfl (by decide) (lc_area hs hL hi hB hX hM k485)
      · exact r_tin (tgt := 287) dL_law_32 (by omega) (by decide) (by decide) rfl (by decide) (lc_has hs hL hi hB hX hM k485)
      · exact r_tin (tgt := 330) dL_law_32 (by omega) (by decide) (by decide) rfl (by decide) (lc_rectangles hs hL hi hB hX hM k485)
      · exact r_tin (tgt := 353) dL_law_32 (by omega) (by decide) (by decide) rfl (by decide) (lc_rectangle hs hL hi hB hX hM k485)
      · exact r_tin (tgt := 386) dL_law_32 (by omega) (by decide) (by decide) rfl (by decide) (lc_around hs hL hi hB hX hM k485)
      · exact r_tin (tgt := 409) dL_law_32 (by omega) (by decide) (by decide) rfl (by decide) (lc_same hs hL hi hB hX hM k485)
      · exact r_tin (tgt := 442) dL_law_32 (by omega) (by decide) (by decide) rfl (by decide) (lc_covers hs hL hi hB hX hM k485)
      · exact r_tout (tgt := 485) dL_law_32 (by omega) (Or.inr (by omega)) (by decide) (k485 g f S hB hX hM)
theorem bu_none {T : Nat → Nat → Bool} (h : ∀ x y, T x y = false) : bu T 24 = [] := bu_gap (y := 0) (e := 24) (by decide) (fun x y _ _ _ => h x y)
theorem XI_new {g : Gg} (h : ∀ k j, g k j = 0) : XI g (fun _ _ _ => false) := by
  intro r hr
  have e : bu ((fun _ _ _ => false : Sx) r) 24 = [] := bu_none (fun _ _ => rfl)
  rw [e]
  exact ⟨by decide, by decide, h 0 r, h 5 r, trivial, trivial⟩
theorem MI_new {f : Ff} (h : ∀ k j, f k j = false) : MI f (fun _ _ _ => false) := fun _ _ _ _ => h _ _
set_option maxHeartbeats 4000000 in
/-- THE LAW, from its entry -/
theorem whole_start {p : Program} {e : Env} {s : State} {m : MethodId} {below : List Frame} {meth : Method} {c : Code} (l : Launch) {b L : Nat} {xs : Nat → Int32} (hL : L ≤ 320) (C0 : lw_At p s m meth c b L xs) : W p l e room_1 s m #[Value.ref b] below meth c s.heap [] 0 0 (lw_Z below #[Value.ref b] s) (entryFrame m ([Value.ref b] : List Value).toArray 4) := by
  obtain ⟨hx, hb, hr, hml, hown, hts0, hXs, hbl, hlocks, hgv⟩ := C0
  have hts : ∀ w ∈ lw_all, w.before #[Value.ref b] s = true := fun w h => hts0 w (lw_all_tbl h)
  have hbA : ¬ (fun q : Nat => s.heap.size ≤ q) b := Nat.not_le.mpr hbl
  obtain ⟨c0, iS0, hKn0⟩ := u_known (C := RX0) (T := TX0) (N := 8) (n := 8) hts in_X0 (hts _ q23)
  obtain ⟨c1, iS1, hKn1⟩ := u_known (C := RX1) (T := TX1) (N := 2) (n := 2) hts in_X1 (hts _ q166)
  obtain ⟨cI, kI, compI, i1, i2, i3⟩ := Cond.arrayClass_spec (hts _ q55)
  obtain ⟨cZ, kZ, compZ, z1, z2, z3⟩ := Cond.arrayClass_spec (hts _ q178)
  obtain ⟨dC, dI, hKc⟩ : ∃ (dC : Nat → ClassId) (dI : Nat → Nat → Nat), ∀ (k : Nat) (q : vw_C), vwCl[k]? = some q → u_Kn s q.1 q.2.1 q.2.2 (dC k) (dI k) := by
    refine ⟨fun k => if k = 0 then c0 else c1, fun k => if k = 0 then iS0 else iS1, ?_⟩
    intro k q hq
    match k, hq with
    | 0, hq => cases hq; exact hKn0
    | 1, hq => cases hq; exact hKn1
    | k + 2, hq => simp [vwCl] at hq
  have hK : va_K (dC, dI) vwCl (tyG ((dC, dI), cI, cZ)) s := by
    refine ⟨hKc, fun k q hq => ?_⟩
    match k, hq with
    | 0, hq => cases hq; exact ⟨fun n z => ⟨fun k h => (by cases h), kI, i2, compI, i3⟩, i1⟩
    | 1, hq => cases hq; exact ⟨fun n z => ⟨fun k h => (by cases h), kZ, z2, compZ, z3⟩, z1⟩
    | k + 2, hq => simp [tyG] at hq
  have hS : va_S (fun q : Nat => s.heap.size ≤ q) s.heap s.heap [] := va_S.rf
  have hP : va_P (dC, dI) vwCl [] s.heap := fun k q h => by simp at h
  have hD : va_D (fun q : Nat => s.heap.size ≤ q) [] := ⟨fun i j p q h => by simp at h, fun k q h => by simp at h⟩
  have hl := lvp_entry [Value.ref b] (n := 4) (by intro w hw; rw [List.mem_singleton.mp hw]; rfl) (Nat.le_of_ble_eq_true rfl)
  rw [lg_entry_eq]
  generalize (lg_sl ([Value.ref b]) ++ List.replicate (4 - (lg_sl ([Value.ref b])).length) Slot.unset).toArray = ls at hl ⊢
  have hl : lvp ls 4 [some (.ref b), none, none, none] := hl
  have key : bW (p, l, e, s, m, #[Value.ref b], below, meth, c, lw_Z below #[Value.ref b] s, (fun q => s.heap.size ≤ q), 0, 0) ((dC, dI), cI, cZ) room_1 R_law code 4 [] 0 [some (.ref b), none, none, none] [] := by
    refine l_newX0 q22 dL_law_0 (Nat.le_of_ble_eq_true rfl) (Nat.le_of_ble_eq_true rfl) (fun a => ?_)
    refine r_dup dL_law_3 ?_
    refine l_initX0 (wr := []) q24 ⟨Nat.le_of_ble_eq_true rfl, Nat.le_of_ble_eq_true rfl⟩ dL_law_4 (Nat.le_of_ble_eq_true rfl) [0] [] rfl rfl rfl (by decide) (by decide) (by decide) (Nat.le_of_ble_eq_true rfl) (Nat.le_of_ble_eq_true rfl) (fun ax g hg => ?_)
    refine r_astore_n dL_law_7 (by decide) rfl ?_
    refine l_newX1 q165 dL_law_8 (Nat.le_of_ble_eq_true rfl) (Nat.le_of_ble_eq_true rfl) (fun am => ?_)
    refine r_dup dL_law_11 ?_
    refine l_initX1 (wr := wX (((dC, dI), cI, cZ), a, ax) g) q167 ⟨Nat.le_of_ble_eq_true rfl, Nat.le_of_ble_eq_true rfl⟩ dL_law_12 (Nat.le_of_ble_eq_true rfl) [9] [0, 1, 2, 3, 4, 5, 6, 7, 8] rfl rfl rfl (by decide) (by decide) (by decide) (Nat.le_of_ble_eq_true rfl) (Nat.le_of_ble_eq_true rfl) (fun ad f hf => ?_)
    refine r_astore_n dL_law_15 (by decide) rfl ?_
    refine r_iconstN (q := 0) dL_law_16 rfl ?_
    refine r_istore_n dL_law_17 (by decide) rfl ?_
    exact law_loop (o := (((dC, dI), cI, cZ), a, ax)) ⟨hXs, hbl, hbA⟩ hL (fun w lv => l_ret hr hlocks dL_law_492) (L + 1) 0 g f (fun _ _ _ => false) (Nat.zero_le _) (by omega) (fun k j => by rw [hg]; decide) (XI_new hg) (MI_new hf)
  exact key ⟨hx, hb, hml, hown, hts⟩ hK (fun _ h => h) ⟨Nat.zero_le _, Nat.zero_le _⟩ s.heap [] ls hP hD hS hl
end
section
-- ===== YOUR PART ENDS =====
set_option maxHeartbeats 4000000 in
theorem lw_walk (l : Launch) (b : Addr) (xs : List Int32) : MetFree l x (headSpec (Jvm.Cond.code x code maxLocals ret :: tables_1) room_1) (lw_P b xs) (fun _ _ _ _ _ => True) lw_Q := by
  refine MetFree.of_bodyS (code := code) (maxLocals := maxLocals) (ret := ret) (by decide) ?_ ?_
  · intro args s m h hn
    obtain ⟨meth, c, h1, h2, h3, h4, h5, h6, -, -⟩ := Cond.code_spec hn (atoms_spec (ws := Jvm.Cond.code x code maxLocals ret :: tables_1) h _ List.mem_cons_self)
    exact ⟨meth, c, h1, h2, h3, h4, h5, h6⟩
  · intro p e s m args below meth c s₁ B hml0 hP _
    obtain ⟨rfl, hx, hbd, hgv⟩ := hP
    obtain ⟨scr, harrAt, hlist, hof, hsmall⟩ := hx
    obtain ⟨hcb, hkn, -, -⟩ := State.arrayAt?_spec harrAt
    have hown : s.vm.findClass R_law = some m.cls := findClass_of_methodNamed B.named
    have hts0 : ∀ c ∈ (Jvm.Cond.code x code maxLocals ret :: tables_1), c.before #[Value.ref b] s = true := atoms_spec (ws := Jvm.Cond.code x code maxLocals ret :: tables_1) B.pre
    have hts : ∀ w ∈ lw_tbl, w.before #[Value.ref b] s = true := k2_hts_sels lw_privs (fun w hw => hts0 w (List.mem_cons_of_mem _ hw)) lw_privs_ok
    have hml : c.maxLocals = 4 := B.maxLocals_eq (hts0 _ List.mem_cons_self)
    have X₀ : Stand p l e room_1 s m #[Value.ref b] below meth c s₁ [] 0 0 := Stand.of_body B
    have hh0 : s₁.heap = s.heap := by rw [B.state]; rfl
    have hsz : scr.slots.size = xs.length := by rw [← Array.length_toList, hlist, List.length_map]
    have hval : ∀ j : Nat, j < xs.length → scr.slots[j]? = some (.int (xs.getD j 0)) := fun j hj => by
      rw [← Array.getElem?_toList, hlist]
      simp [hj]
    have hbl : b < s.heap.size := (Array.getElem?_eq_some_iff.mp hcb).1
    have hX : va_X b xs.length (fun j => xs.getD j 0) s s.heap := ⟨scr, hcb, hof, hkn, hsz, hval⟩
    have K : W p l e room_1 s m #[Value.ref b] below meth c s₁.heap [] 0 0 (lw_Z below #[Value.ref b] s) (entryFrame m ([Value.ref b] : List Value).toArray 4) := by
      rw [hh0]
      exact whole_start l hbd ⟨B.exec, B.bytes, B.returns, hml, hown, hts, hX, hbl, B.notSynchronized, hgv⟩
    obtain ⟨t, a1, o, b1, b2, b3⟩ := K s₁ rfl X₀
    exact ⟨t, o, a1, b1, b2, b3⟩
theorem lw_pre_spec {args : Array Value} {s : State} (h : (Jvm.Cond.and given_1 narrow_1).before args s = true) (hr : rest_1_c.before args s = true) : ∃ (b : Addr) (xs : List Int32), lw_P b xs args s := by
  have hs := flat_of_before _ h
  have hq := flat_of_before _ hr
  have hc : (Cond.count 1).before args s = true := hs _ (by decide +kernel)
  have harr : (Cond.arrayOf (.arg 0) .int).before args s = true := hs _ (by decide +kernel)
  have hle : (Cond.le (.length (.arg 0)) (.int 320)).before args s = true := hs _ (by decide +kernel)
  have hlen : (Cond.isInt (.length (.arg 0))).before args s = true := hq _ (by decide +kernel)
  have hall : (Cond.all (.arg 0) (.isInt (.elem (.arg 0) (.index 0)))).before args s = true := hq _ (by decide +kernel)
  obtain ⟨b, xs, hb, hx⟩ := State.ints_of_pre rfl harr hlen hall
  have hsm : xs.length < 2 ^ 31 := hx.choose_spec.2.2.2
  have hev : (Term.length (.arg 0)).eval args s none [] s = some (.int xs.length.toInt32) := hx.length_eval hb
  have hv := Cond.le_ints hev (show (Term.int 320).eval args s none [] s = some (.int 320) from rfl)
  have hd : xs.length.toInt32 ≤ 320 := by
    simpa [Cond.before, Cond.holds, hv] using hle
  have hN : xs.length ≤ 320 := (Int32.ofNat_le_ofNat hsm (by decide)).mp (show Int32.ofNat xs.length ≤ Int32.ofNat 320 from hd)
  exact ⟨b, xs, Cond.one_arg hc (show args[0]? = some (.ref b) from hb), hx, hN, h⟩
theorem lw_comes (l : Launch) : Comes l x (Jvm.Cond.code x code maxLocals ret :: tables_1) room_1 (fun tb e args s => Calls_1 tb e args s ∧ rest_1 tb e args s ∧ Pre_1 tb e args s)
    (fun _ _ args s o t => lw_Q args s o t) := by
  intro p e ha hc hk s m args below hf hfit hheap happ hpre
  obtain ⟨b, xs, hP⟩ := lw_pre_spec hpre.2.2 hpre.2.1
  obtain ⟨k, o, h1, h2, h3, hQ⟩ := lw_walk l b xs p e ha hc hk s m args below hf ((Spec.applies_iff_loose hf).mp happ).1 hP trivial
  exact ⟨k, o, h1, h2, h3, hQ⟩
theorem lw_frame {s t : State} {o : Outcome} {args : Array Value} (h : Framed s o t [] 600000 7290000) :
    Framed s o t (fieldLocs frame_1_writes args s ++ arrayLocs frame_1_arrays args s ++ staticLocs frame_1_statics s) 600000 7290000 := h
theorem lw_limb (L : Cond) (hL : ∀ (args : Array Value) (s t : State), L.after args s (.returned (some (.int 1))) t = true) :
    ArmFor flags0 classFile x code maxLocals ret World_1 tables_1 room_1 Calls_1 rest_1 Pre_1
      (fun tb e a s o t => postC L tb e a s o t ∧ Framed s o t (fieldLocs frame_1_writes a s ++ arrayLocs frame_1_arrays a s ++ staticLocs frame_1_statics s) 600000 7290000) := by
  intro l _ _ _ p e ha hc hk s m args below hf hfit hheap happ hpre
  obtain ⟨k, o, h1, h2, h3, rfl, hF⟩ := lw_comes l p e ha hc hk s m args below hf hfit hheap happ hpre
  exact ⟨k, _, h1, h2, h3, hL args s _, lw_frame hF⟩
theorem i_vc : Claimed_1_1 ∧ Claimed_1_2 := ⟨lw_limb limb_1_1 (fun args s t => by simp [limb_1_1, Cond.after, Cond.holds, Cond.value]), lw_limb limb_1_2 (fun args s t => Cond.after_iff.mpr (by
  first | (rw [show limb_1_2 = Cond.eq .result (.int 1) from rfl, Cond.eq_ints (x := 1) (y := 1) rfl rfl]; simp; done) | (simp [limb_1_2, Cond.value, Term.eval]; done)))⟩
end
