section
-- ===== PART A: goes FIRST, ahead of the names: the tables' words, and 'selects' of the private methods out of them =====
/-- a private method of a class that the tables say can be made, by its rows of tables_1 -/
def lw_okq (q : MethodName × Nat) : Prop := (q.1.cls ≠ "java/lang/invoke/MethodHandle" ∧ q.1.cls ≠ "java/lang/invoke/VarHandle") ∧ Cond.instantiable q.1.cls q.2 ∈ tables_1 ∧ Cond.privateMethod q.1 ∈ tables_1 ∧ Cond.instanceMethod q.1 ∈ tables_1
set_option maxRecDepth 100000
theorem lw_t1 {w : Cond} (h : w ∈ tables_1_1) : w ∈ tables_1 := List.mem_append_left _ h
theorem lw_t2 {w : Cond} (h : w ∈ tables_1_2) : w ∈ tables_1 := List.mem_append_right _ h
theorem lw_p0 : lw_okq (⟨"AtlasPacker", "pack", "(IIII)I"⟩, 14) := ⟨⟨by decide +kernel, by decide +kernel⟩, lw_t1 (List.mem_of_getElem? (i := 4) rfl), lw_t1 (List.mem_of_getElem? (i := 16) rfl), lw_t1 (List.mem_of_getElem? (i := 17) rfl)⟩
theorem lw_p1 : lw_okq (⟨"AtlasPacker", "isSize", "(II)Z"⟩, 14) := ⟨⟨by decide +kernel, by decide +kernel⟩, lw_t1 (List.mem_of_getElem? (i := 4) rfl), lw_t1 (List.mem_of_getElem? (i := 69) rfl), lw_t1 (List.mem_of_getElem? (i := 70) rfl)⟩
theorem lw_p2 : lw_okq (⟨"AtlasPacker", "lowest", "(II)I"⟩, 14) := ⟨⟨by decide +kernel, by decide +kernel⟩, lw_t1 (List.mem_of_getElem? (i := 4) rfl), lw_t1 (List.mem_of_getElem? (i := 73) rfl), lw_t1 (List.mem_of_getElem? (i := 74) rfl)⟩
theorem lw_p3 : lw_okq (⟨"AtlasPacker", "wideOf", "(I)I"⟩, 14) := ⟨⟨by decide +kernel, by decide +kernel⟩, lw_t1 (List.mem_of_getElem? (i := 4) rfl), lw_t1 (List.mem_of_getElem? (i := 77) rfl), lw_t1 (List.mem_of_getElem? (i := 78) rfl)⟩
theorem lw_p4 : lw_okq (⟨"AtlasPacker", "highOf", "(I)I"⟩, 14) := ⟨⟨by decide +kernel, by decide +kernel⟩, lw_t1 (List.mem_of_getElem? (i := 4) rfl), lw_t1 (List.mem_of_getElem? (i := 81) rfl), lw_t1 (List.mem_of_getElem? (i := 82) rfl)⟩
theorem lw_p5 : lw_okq (⟨"AtlasPacker", "bottomOf", "(I)I"⟩, 14) := ⟨⟨by decide +kernel, by decide +kernel⟩, lw_t1 (List.mem_of_getElem? (i := 4) rfl), lw_t1 (List.mem_of_getElem? (i := 85) rfl), lw_t1 (List.mem_of_getElem? (i := 86) rfl)⟩
theorem lw_p6 : lw_okq (⟨"AtlasPacker", "leftOf", "(I)I"⟩, 14) := ⟨⟨by decide +kernel, by decide +kernel⟩, lw_t1 (List.mem_of_getElem? (i := 4) rfl), lw_t1 (List.mem_of_getElem? (i := 89) rfl), lw_t1 (List.mem_of_getElem? (i := 90) rfl)⟩
theorem lw_p7 : lw_okq (⟨"AtlasPacker", "flip", "(I)V"⟩, 14) := ⟨⟨by decide +kernel, by decide +kernel⟩, lw_t1 (List.mem_of_getElem? (i := 4) rfl), lw_t1 (List.mem_of_getElem? (i := 93) rfl), lw_t1 (List.mem_of_getElem? (i := 94) rfl)⟩
theorem lw_p8 : lw_okq (⟨"AtlasPacker", "splitHoles", "(I)V"⟩, 14) := ⟨⟨by decide +kernel, by decide +kernel⟩, lw_t1 (List.mem_of_getElem? (i := 4) rfl), lw_t1 (List.mem_of_getElem? (i := 97) rfl), lw_t1 (List.mem_of_getElem? (i := 98) rfl)⟩
theorem lw_p9 : lw_okq (⟨"AtlasPacker", "meets", "(II)Z"⟩, 14) := ⟨⟨by decide +kernel, by decide +kernel⟩, lw_t1 (List.mem_of_getElem? (i := 4) rfl), lw_t1 (List.mem_of_getElem? (i := 101) rfl), lw_t1 (List.mem_of_getElem? (i := 102) rfl)⟩
theorem lw_p10 : lw_okq (⟨"AtlasPacker", "splitOne", "(II)V"⟩, 14) := ⟨⟨by decide +kernel, by decide +kernel⟩, lw_t1 (List.mem_of_getElem? (i := 4) rfl), lw_t1 (List.mem_of_getElem? (i := 105) rfl), lw_t1 (List.mem_of_getElem? (i := 106) rfl)⟩
theorem lw_p11 : lw_okq (⟨"AtlasPacker", "offer", "(IIII)V"⟩, 14) := ⟨⟨by decide +kernel, by decide +kernel⟩, lw_t1 (List.mem_of_getElem? (i := 4) rfl), lw_t1 (List.mem_of_getElem? (i := 109) rfl), lw_t1 (List.mem_of_getElem? (i := 110) rfl)⟩
theorem lw_p12 : lw_okq (⟨"AtlasPacker", "keepCandidate", "(I)V"⟩, 14) := ⟨⟨by decide +kernel, by decide +kernel⟩, lw_t1 (List.mem_of_getElem? (i := 4) rfl), lw_t1 (List.mem_of_getElem? (i := 113) rfl), lw_t1 (List.mem_of_getElem? (i := 114) rfl)⟩
theorem lw_p13 : lw_okq (⟨"AtlasPacker", "isCovered", "(I)Z"⟩, 14) := ⟨⟨by decide +kernel, by decide +kernel⟩, lw_t1 (List.mem_of_getElem? (i := 4) rfl), lw_t1 (List.mem_of_getElem? (i := 117) rfl), lw_t1 (List.mem_of_getElem? (i := 118) rfl)⟩
theorem lw_p14 : lw_okq (⟨"AtlasPacker", "inside", "(II)Z"⟩, 14) := ⟨⟨by decide +kernel, by decide +kernel⟩, lw_t1 (List.mem_of_getElem? (i := 4) rfl), lw_t1 (List.mem_of_getElem? (i := 121) rfl), lw_t1 (List.mem_of_getElem? (i := 122) rfl)⟩
theorem lw_p15 : lw_okq (⟨"AtlasPacker", "isUsed", "(I)Z"⟩, 14) := ⟨⟨by decide +kernel, by decide +kernel⟩, lw_t1 (List.mem_of_getElem? (i := 4) rfl), lw_t1 (List.mem_of_getElem? (i := 129) rfl), lw_t1 (List.mem_of_getElem? (i := 130) rfl)⟩
def lw_privs_1 : List (MethodName × Nat) := [(⟨"AtlasPacker", "pack", "(IIII)I"⟩, 14), (⟨"AtlasPacker", "isSize", "(II)Z"⟩, 14), (⟨"AtlasPacker", "lowest", "(II)I"⟩, 14), (⟨"AtlasPacker", "wideOf", "(I)I"⟩, 14), (⟨"AtlasPacker", "highOf", "(I)I"⟩, 14), (⟨"AtlasPacker", "bottomOf", "(I)I"⟩, 14), (⟨"AtlasPacker", "leftOf", "(I)I"⟩, 14), (⟨"AtlasPacker", "flip", "(I)V"⟩, 14), (⟨"AtlasPacker", "splitHoles", "(I)V"⟩, 14), (⟨"AtlasPacker", "meets", "(II)Z"⟩, 14), (⟨"AtlasPacker", "splitOne", "(II)V"⟩, 14), (⟨"AtlasPacker", "offer", "(IIII)V"⟩, 14), (⟨"AtlasPacker", "keepCandidate", "(I)V"⟩, 14), (⟨"AtlasPacker", "isCovered", "(I)Z"⟩, 14), (⟨"AtlasPacker", "inside", "(II)Z"⟩, 14), (⟨"AtlasPacker", "isUsed", "(I)Z"⟩, 14)]
theorem lw_r1 : ∀ q ∈ lw_privs_1, lw_okq q := List.forall_mem_cons.mpr ⟨lw_p0, List.forall_mem_cons.mpr ⟨lw_p1, List.forall_mem_cons.mpr ⟨lw_p2, List.forall_mem_cons.mpr ⟨lw_p3, List.forall_mem_cons.mpr ⟨lw_p4, List.forall_mem_cons.mpr ⟨lw_p5, List.forall_mem_cons.mpr ⟨lw_p6, List.forall_mem_cons.mpr ⟨lw_p7, List.forall_mem_cons.mpr ⟨lw_p8, List.forall_mem_cons.mpr ⟨lw_p9, List.forall_mem_cons.mpr ⟨lw_p10, List.forall_mem_cons.mpr ⟨lw_p11, List.forall_mem_cons.mpr ⟨lw_p12, List.forall_mem_cons.mpr ⟨lw_p13, List.forall_mem_cons.mpr ⟨lw_p14, List.forall_mem_cons.mpr ⟨lw_p15, fun _ h => absurd h List.not_mem_nil⟩⟩⟩⟩⟩⟩⟩⟩⟩⟩⟩⟩⟩⟩⟩⟩
theorem lw_p16 : lw_okq (⟨"AtlasPacker", "findHoles", "()V"⟩, 14) := ⟨⟨by decide +kernel, by decide +kernel⟩, lw_t1 (List.mem_of_getElem? (i := 4) rfl), lw_t1 (List.mem_of_getElem? (i := 133) rfl), lw_t1 (List.mem_of_getElem? (i := 134) rfl)⟩
theorem lw_p17 : lw_okq (⟨"AtlasPacker", "sweepFrom", "(I)V"⟩, 14) := ⟨⟨by decide +kernel, by decide +kernel⟩, lw_t1 (List.mem_of_getElem? (i := 4) rfl), lw_t1 (List.mem_of_getElem? (i := 137) rfl), lw_t1 (List.mem_of_getElem? (i := 138) rfl)⟩
theorem lw_p18 : lw_okq (⟨"AtlasPacker", "heightAt", "(II)I"⟩, 14) := ⟨⟨by decide +kernel, by decide +kernel⟩, lw_t1 (List.mem_of_getElem? (i := 4) rfl), lw_t1 (List.mem_of_getElem? (i := 141) rfl), lw_t1 (List.mem_of_getElem? (i := 142) rfl)⟩
theorem lw_p19 : lw_okq (⟨"AtlasPacker", "keepIfLowest", "(IIII)V"⟩, 14) := ⟨⟨by decide +kernel, by decide +kernel⟩, lw_t1 (List.mem_of_getElem? (i := 4) rfl), lw_t1 (List.mem_of_getElem? (i := 145) rfl), lw_t1 (List.mem_of_getElem? (i := 146) rfl)⟩
theorem lw_p20 : lw_okq (⟨"AtlasPackerModel", "isSize", "(II)Z"⟩, 8) := ⟨⟨by decide +kernel, by decide +kernel⟩, lw_t1 (List.mem_of_getElem? (i := 181) rfl), lw_t1 (List.mem_of_getElem? (i := 217) rfl), lw_t1 (List.mem_of_getElem? (i := 218) rfl)⟩
theorem lw_p21 : lw_okq (⟨"AtlasPackerModel", "count", "()I"⟩, 8) := ⟨⟨by decide +kernel, by decide +kernel⟩, lw_t1 (List.mem_of_getElem? (i := 181) rfl), lw_t1 (List.mem_of_getElem? (i := 221) rfl), lw_t1 (List.mem_of_getElem? (i := 222) rfl)⟩
theorem lw_p22 : lw_okq (⟨"AtlasPackerModel", "best", "(II)I"⟩, 8) := ⟨⟨by decide +kernel, by decide +kernel⟩, lw_t1 (List.mem_of_getElem? (i := 181) rfl), lw_t1 (List.mem_of_getElem? (i := 225) rfl), lw_t1 (List.mem_of_getElem? (i := 226) rfl)⟩
theorem lw_p23 : lw_okq (⟨"AtlasPackerModel", "good", "(IIII)Z"⟩, 8) := ⟨⟨by decide +kernel, by decide +kernel⟩, lw_t1 (List.mem_of_getElem? (i := 181) rfl), lw_t1 (List.mem_of_getElem? (i := 229) rfl), lw_t1 (List.mem_of_getElem? (i := 230) rfl)⟩
theorem lw_p24 : lw_okq (⟨"AtlasPackerModel", "lay", "(III)I"⟩, 8) := ⟨⟨by decide +kernel, by decide +kernel⟩, lw_t1 (List.mem_of_getElem? (i := 181) rfl), lw_t1 (List.mem_of_getElem? (i := 233) rfl), lw_t1 (List.mem_of_getElem? (i := 234) rfl)⟩
theorem lw_p25 : lw_okq (⟨"AtlasPackerModel", "paint", "(II)V"⟩, 8) := ⟨⟨by decide +kernel, by decide +kernel⟩, lw_t1 (List.mem_of_getElem? (i := 181) rfl), lw_t1 (List.mem_of_getElem? (i := 237) rfl), lw_t1 (List.mem_of_getElem? (i := 238) rfl)⟩
theorem lw_p26 : lw_okq (⟨"AtlasPackerModel", "isThere", "(I)Z"⟩, 8) := ⟨⟨by decide +kernel, by decide +kernel⟩, lw_t1 (List.mem_of_getElem? (i := 181) rfl), lw_t2 (List.mem_of_getElem? (i := 5) rfl), lw_t2 (List.mem_of_getElem? (i := 6) rfl)⟩
theorem lw_p27 : lw_okq (⟨"AtlasPackerModel", "areaOfHole", "(III)I"⟩, 8) := ⟨⟨by decide +kernel, by decide +kernel⟩, lw_t1 (List.mem_of_getElem? (i := 181) rfl), lw_t2 (List.mem_of_getElem? (i := 25) rfl), lw_t2 (List.mem_of_getElem? (i := 26) rfl)⟩
theorem lw_p28 : lw_okq (⟨"AtlasPackerModel", "tallest", "(III)I"⟩, 8) := ⟨⟨by decide +kernel, by decide +kernel⟩, lw_t1 (List.mem_of_getElem? (i := 181) rfl), lw_t2 (List.mem_of_getElem? (i := 29) rfl), lw_t2 (List.mem_of_getElem? (i := 30) rfl)⟩
theorem lw_p29 : lw_okq (⟨"AtlasPackerModel", "closed", "(IIII)Z"⟩, 8) := ⟨⟨by decide +kernel, by decide +kernel⟩, lw_t1 (List.mem_of_getElem? (i := 181) rfl), lw_t2 (List.mem_of_getElem? (i := 33) rfl), lw_t2 (List.mem_of_getElem? (i := 34) rfl)⟩
def lw_privs_2 : List (MethodName × Nat) := [(⟨"AtlasPacker", "findHoles", "()V"⟩, 14), (⟨"AtlasPacker", "sweepFrom", "(I)V"⟩, 14), (⟨"AtlasPacker", "heightAt", "(II)I"⟩, 14), (⟨"AtlasPacker", "keepIfLowest", "(IIII)V"⟩, 14), (⟨"AtlasPackerModel", "isSize", "(II)Z"⟩, 8), (⟨"AtlasPackerModel", "count", "()I"⟩, 8), (⟨"AtlasPackerModel", "best", "(II)I"⟩, 8), (⟨"AtlasPackerModel", "good", "(IIII)Z"⟩, 8), (⟨"AtlasPackerModel", "lay", "(III)I"⟩, 8), (⟨"AtlasPackerModel", "paint", "(II)V"⟩, 8), (⟨"AtlasPackerModel", "isThere", "(I)Z"⟩, 8), (⟨"AtlasPackerModel", "areaOfHole", "(III)I"⟩, 8), (⟨"AtlasPackerModel", "tallest", "(III)I"⟩, 8), (⟨"AtlasPackerModel", "closed", "(IIII)Z"⟩, 8)]
theorem lw_r2 : ∀ q ∈ lw_privs_2, lw_okq q := List.forall_mem_cons.mpr ⟨lw_p16, List.forall_mem_cons.mpr ⟨lw_p17, List.forall_mem_cons.mpr ⟨lw_p18, List.forall_mem_cons.mpr ⟨lw_p19, List.forall_mem_cons.mpr ⟨lw_p20, List.forall_mem_cons.mpr ⟨lw_p21, List.forall_mem_cons.mpr ⟨lw_p22, List.forall_mem_cons.mpr ⟨lw_p23, List.forall_mem_cons.mpr ⟨lw_p24, List.forall_mem_cons.mpr ⟨lw_p25, List.forall_mem_cons.mpr ⟨lw_p26, List.forall_mem_cons.mpr ⟨lw_p27, List.forall_mem_cons.mpr ⟨lw_p28, List.forall_mem_cons.mpr ⟨lw_p29, fun _ h => absurd h List.not_mem_nil⟩⟩⟩⟩⟩⟩⟩⟩⟩⟩⟩⟩⟩⟩
def lw_privs : List (MethodName × Nat) := lw_privs_1 ++ (lw_privs_2)
def lw_tbl : List Cond := k2_sels lw_privs ++ tables_1
theorem lw_privs_ok : ∀ q ∈ lw_privs, lw_okq q := by
  show ∀ q ∈ lw_privs_1 ++ (lw_privs_2), lw_okq q
  exact List.forall_mem_append.mpr ⟨lw_r1, lw_r2⟩
-- ===== ONE list of words for every method: the tables' words that hold all through a run =====
def lw_all : List Cond := lw_tbl.filter goodWord
/-- a word of the tables by its place: claim/WORDS.tsv -/
theorem lw_w {w : Cond} (i : Nat) (h : lw_tbl[i]? = some w) (g : goodWord w = true) : w ∈ lw_all := List.mem_filter.mpr ⟨List.mem_of_getElem? h, g⟩
theorem lw_all_tbl {w : Cond} (h : w ∈ lw_all) : w ∈ lw_tbl := (List.mem_filter.mp h).1
theorem lw_self : GoodIn lw_all lw_all := fun w h => ⟨h, good_of_word (List.mem_filter.mp h).2⟩
/-- a class's field words, by their places -/
theorem lw_in (ws : List Cond) (ps : List Nat) (hp : ws = ps.filterMap (fun i => lw_tbl[i]?)) (hg : ws.all goodWord = true) : ∀ w ∈ ws, w ∈ lw_all := by
  intro w h
  have h1 := List.all_eq_true.mp hg w h
  rw [hp] at h
  obtain ⟨i, -, hi⟩ := List.mem_filterMap.mp h
  exact lw_w i hi h1
/-- the words of a contract for the method y with code b, L locals, answer r -/
abbrev ws_ (y : MethodName) (b : ByteArray) (L : Nat) (r : Option FieldType) : List Cond := Cond.code y b L r :: lw_all
theorem lw_meth {y : MethodName} {b : ByteArray} {L : Nat} {r : Option FieldType} (h : Cond.code y b L r ∈ lw_all) : GoodIn lw_all (ws_ y b L r) := by
  intro w hw
  rcases List.mem_cons.mp hw with e | e
  · rw [e]
    exact lw_self _ h
  · exact lw_self _ e
theorem lw_app {a c : List Cond} (ha : ∀ w ∈ a, w ∈ lw_all) (hc : GoodIn lw_all c) : GoodIn lw_all (a ++ c) := by
  intro w hw
  rcases List.mem_append.mp hw with e | e
  · exact lw_self w (ha w e)
  · exact hc w e
/-- what a call through an object asks: cwV n hts (lw_V ..) -/
theorem lw_V {own : String} {idx : Nat} {C : String} {y : MethodName} {b : ByteArray} {L : Nat} {r : Option FieldType} (h1 : Cond.methodLink own idx y ∈ lw_all) (h2 : Cond.instanceMethod y ∈ lw_all) (h3 : Cond.selects C y y ∈ lw_all) (h4 : Cond.initialized C ∈ lw_all) (h5 : Cond.code y b L r ∈ lw_all) : GoodIn lw_all (wsV own idx C y (ws_ y b L r)) := by
  refine lw_app ?_ (lw_meth h5)
  intro w hw
  simp only [List.mem_cons, List.not_mem_nil, or_false] at hw
  rcases hw with e | e | e | e
  · rw [e]; exact h1
  · rw [e]; exact h2
  · rw [e]; exact h3
  · rw [e]; exact h4
/-- what a static call asks: va_cwS n hts (lw_S ..) -/
theorem lw_S {own : String} {idx : Nat} {y : MethodName} {b : ByteArray} {L : Nat} {r : Option FieldType} (h1 : Cond.methodLink own idx y ∈ lw_all) (h2 : Cond.static y ∈ lw_all) (h3 : Cond.initialized y.cls ∈ lw_all) (h4 : Cond.code y b L r ∈ lw_all) : GoodIn lw_all (va_wsS own idx y (ws_ y b L r)) := by
  refine lw_app ?_ (lw_meth h4)
  intro w hw
  simp only [List.mem_cons, List.not_mem_nil, or_false] at hw
  rcases hw with e | e | e
  · rw [e]; exact h1
  · rw [e]; exact h2
  · rw [e]; exact h3
/-- the words of a contract for a method WITH HANDLERS (hh: its table) -/
abbrev wsW_ (y : MethodName) (b : ByteArray) (L : Nat) (r : Option FieldType) (hh : List (Nat × Nat × Nat × Nat)) : List Cond := Cond.codeWith y b L r hh :: lw_all
theorem lw_methW {y : MethodName} {b : ByteArray} {L : Nat} {r : Option FieldType} {hh : List (Nat × Nat × Nat × Nat)} (h : Cond.codeWith y b L r hh ∈ lw_all) : GoodIn lw_all (wsW_ y b L r hh) := by
  intro w hw
  rcases List.mem_cons.mp hw with e | e
  · rw [e]
    exact lw_self _ h
  · exact lw_self _ e
/-- any list of words by their places (lw_in), good -/
theorem lw_good {ws : List Cond} (h : ∀ w ∈ ws, w ∈ lw_all) : GoodIn lw_all ws := fun w hw => lw_self w (h w hw)
/-- what a call of a method with handlers asks: vx_cwVW n hts (lw_VW ..), vx_cwSW n hts (lw_SW ..) -/
theorem lw_VW {own : String} {idx : Nat} {C : String} {y : MethodName} {b : ByteArray} {L : Nat} {r : Option FieldType} {hh : List (Nat × Nat × Nat × Nat)} (h1 : Cond.methodLink own idx y ∈ lw_all) (h2 : Cond.instanceMethod y ∈ lw_all) (h3 : Cond.selects C y y ∈ lw_all) (h4 : Cond.initialized C ∈ lw_all) (h5 : Cond.codeWith y b L r hh ∈ lw_all) : GoodIn lw_all (wsV own idx C y (wsW_ y b L r hh)) := by
  refine lw_app ?_ (lw_methW h5)
  intro w hw
  simp only [List.mem_cons, List.not_mem_nil, or_false] at hw
  rcases hw with e | e | e | e
  · rw [e]; exact h1
  · rw [e]; exact h2
  · rw [e]; exact h3
  · rw [e]; exact h4
theorem lw_SW {own : String} {idx : Nat} {y : MethodName} {b : ByteArray} {L : Nat} {r : Option FieldType} {hh : List (Nat × Nat × Nat × Nat)} (h1 : Cond.methodLink own idx y ∈ lw_all) (h2 : Cond.static y ∈ lw_all) (h3 : Cond.initialized y.cls ∈ lw_all) (h4 : Cond.codeWith y b L r hh ∈ lw_all) : GoodIn lw_all (va_wsS own idx y (wsW_ y b L r hh)) := by
  refine lw_app ?_ (lw_methW h4)
  intro w hw
  simp only [List.mem_cons, List.not_mem_nil, or_false] at hw
  rcases hw with e | e | e
  · rw [e]; exact h1
  · rw [e]; exact h2
  · rw [e]; exact h3
/-- a word by its place in its run of the tables -/
theorem lw_at {r : List Cond} (hr : ∀ w ∈ r, w ∈ lw_tbl) {w : Cond} (i : Nat) (h : r[i]? = some w) : w ∈ lw_tbl := hr w (List.mem_of_getElem? h)
theorem lw_g {w : Cond} (h : w ∈ lw_tbl) (g : goodWord w = true) : w ∈ lw_all := List.mem_filter.mpr ⟨h, g⟩
theorem lw_ms : ∀ w ∈ k2_sels lw_privs, w ∈ lw_tbl := fun w h => show w ∈ k2_sels lw_privs ++ tables_1 from List.mem_append_left _ h
theorem lw_m1 : ∀ w ∈ tables_1_1, w ∈ lw_tbl := fun w h => show w ∈ k2_sels lw_privs ++ tables_1 from List.mem_append_right (k2_sels lw_privs) (show w ∈ tables_1 from List.mem_append_left _ h)
theorem lw_m2 : ∀ w ∈ tables_1_2, w ∈ lw_tbl := fun w h => show w ∈ k2_sels lw_privs ++ tables_1 from List.mem_append_right (k2_sels lw_privs) (show w ∈ tables_1 from List.mem_append_right _ h)
theorem qs0 : (Cond.selects "AtlasPacker" ⟨"AtlasPacker", "pack", "(IIII)I"⟩ ⟨"AtlasPacker", "pack", "(IIII)I"⟩) ∈ lw_all := lw_g (lw_at lw_ms 0 rfl) rfl
theorem qs1 : (Cond.selects "AtlasPacker" ⟨"AtlasPacker", "isSize", "(II)Z"⟩ ⟨"AtlasPacker", "isSize", "(II)Z"⟩) ∈ lw_all := lw_g (lw_at lw_ms 1 rfl) rfl
theorem qs2 : (Cond.selects "AtlasPacker" ⟨"AtlasPacker", "lowest", "(II)I"⟩ ⟨"AtlasPacker", "lowest", "(II)I"⟩) ∈ lw_all := lw_g (lw_at lw_ms 2 rfl) rfl
theorem qs3 : (Cond.selects "AtlasPacker" ⟨"AtlasPacker", "wideOf", "(I)I"⟩ ⟨"AtlasPacker", "wideOf", "(I)I"⟩) ∈ lw_all := lw_g (lw_at lw_ms 3 rfl) rfl
theorem qs4 : (Cond.selects "AtlasPacker" ⟨"AtlasPacker", "highOf", "(I)I"⟩ ⟨"AtlasPacker", "highOf", "(I)I"⟩) ∈ lw_all := lw_g (lw_at lw_ms 4 rfl) rfl
theorem qs5 : (Cond.selects "AtlasPacker" ⟨"AtlasPacker", "bottomOf", "(I)I"⟩ ⟨"AtlasPacker", "bottomOf", "(I)I"⟩) ∈ lw_all := lw_g (lw_at lw_ms 5 rfl) rfl
theorem qs6 : (Cond.selects "AtlasPacker" ⟨"AtlasPacker", "leftOf", "(I)I"⟩ ⟨"AtlasPacker", "leftOf", "(I)I"⟩) ∈ lw_all := lw_g (lw_at lw_ms 6 rfl) rfl
theorem qs7 : (Cond.selects "AtlasPacker" ⟨"AtlasPacker", "flip", "(I)V"⟩ ⟨"AtlasPacker", "flip", "(I)V"⟩) ∈ lw_all := lw_g (lw_at lw_ms 7 rfl) rfl
theorem qs8 : (Cond.selects "AtlasPacker" ⟨"AtlasPacker", "splitHoles", "(I)V"⟩ ⟨"AtlasPacker", "splitHoles", "(I)V"⟩) ∈ lw_all := lw_g (lw_at lw_ms 8 rfl) rfl
theorem qs9 : (Cond.selects "AtlasPacker" ⟨"AtlasPacker", "meets", "(II)Z"⟩ ⟨"AtlasPacker", "meets", "(II)Z"⟩) ∈ lw_all := lw_g (lw_at lw_ms 9 rfl) rfl
theorem qs10 : (Cond.selects "AtlasPacker" ⟨"AtlasPacker", "splitOne", "(II)V"⟩ ⟨"AtlasPacker", "splitOne", "(II)V"⟩) ∈ lw_all := lw_g (lw_at lw_ms 10 rfl) rfl
theorem qs11 : (Cond.selects "AtlasPacker" ⟨"AtlasPacker", "offer", "(IIII)V"⟩ ⟨"AtlasPacker", "offer", "(IIII)V"⟩) ∈ lw_all := lw_g (lw_at lw_ms 11 rfl) rfl
theorem qs12 : (Cond.selects "AtlasPacker" ⟨"AtlasPacker", "keepCandidate", "(I)V"⟩ ⟨"AtlasPacker", "keepCandidate", "(I)V"⟩) ∈ lw_all := lw_g (lw_at lw_ms 12 rfl) rfl
theorem qs13 : (Cond.selects "AtlasPacker" ⟨"AtlasPacker", "isCovered", "(I)Z"⟩ ⟨"AtlasPacker", "isCovered", "(I)Z"⟩) ∈ lw_all := lw_g (lw_at lw_ms 13 rfl) rfl
theorem qs14 : (Cond.selects "AtlasPacker" ⟨"AtlasPacker", "inside", "(II)Z"⟩ ⟨"AtlasPacker", "inside", "(II)Z"⟩) ∈ lw_all := lw_g (lw_at lw_ms 14 rfl) rfl
theorem qs15 : (Cond.selects "AtlasPacker" ⟨"AtlasPacker", "isUsed", "(I)Z"⟩ ⟨"AtlasPacker", "isUsed", "(I)Z"⟩) ∈ lw_all := lw_g (lw_at lw_ms 15 rfl) rfl
theorem qs16 : (Cond.selects "AtlasPacker" ⟨"AtlasPacker", "findHoles", "()V"⟩ ⟨"AtlasPacker", "findHoles", "()V"⟩) ∈ lw_all := lw_g (lw_at lw_ms 16 rfl) rfl
theorem qs17 : (Cond.selects "AtlasPacker" ⟨"AtlasPacker", "sweepFrom", "(I)V"⟩ ⟨"AtlasPacker", "sweepFrom", "(I)V"⟩) ∈ lw_all := lw_g (lw_at lw_ms 17 rfl) rfl
theorem qs18 : (Cond.selects "AtlasPacker" ⟨"AtlasPacker", "heightAt", "(II)I"⟩ ⟨"AtlasPacker", "heightAt", "(II)I"⟩) ∈ lw_all := lw_g (lw_at lw_ms 18 rfl) rfl
theorem qs19 : (Cond.selects "AtlasPacker" ⟨"AtlasPacker", "keepIfLowest", "(IIII)V"⟩ ⟨"AtlasPacker", "keepIfLowest", "(IIII)V"⟩) ∈ lw_all := lw_g (lw_at lw_ms 19 rfl) rfl
theorem qs20 : (Cond.selects "AtlasPackerModel" ⟨"AtlasPackerModel", "isSize", "(II)Z"⟩ ⟨"AtlasPackerModel", "isSize", "(II)Z"⟩) ∈ lw_all := lw_g (lw_at lw_ms 20 rfl) rfl
theorem qs21 : (Cond.selects "AtlasPackerModel" ⟨"AtlasPackerModel", "count", "()I"⟩ ⟨"AtlasPackerModel", "count", "()I"⟩) ∈ lw_all := lw_g (lw_at lw_ms 21 rfl) rfl
theorem qs22 : (Cond.selects "AtlasPackerModel" ⟨"AtlasPackerModel", "best", "(II)I"⟩ ⟨"AtlasPackerModel", "best", "(II)I"⟩) ∈ lw_all := lw_g (lw_at lw_ms 22 rfl) rfl
theorem qs23 : (Cond.selects "AtlasPackerModel" ⟨"AtlasPackerModel", "good", "(IIII)Z"⟩ ⟨"AtlasPackerModel", "good", "(IIII)Z"⟩) ∈ lw_all := lw_g (lw_at lw_ms 23 rfl) rfl
theorem qs24 : (Cond.selects "AtlasPackerModel" ⟨"AtlasPackerModel", "lay", "(III)I"⟩ ⟨"AtlasPackerModel", "lay", "(III)I"⟩) ∈ lw_all := lw_g (lw_at lw_ms 24 rfl) rfl
theorem qs25 : (Cond.selects "AtlasPackerModel" ⟨"AtlasPackerModel", "paint", "(II)V"⟩ ⟨"AtlasPackerModel", "paint", "(II)V"⟩) ∈ lw_all := lw_g (lw_at lw_ms 25 rfl) rfl
theorem qs26 : (Cond.selects "AtlasPackerModel" ⟨"AtlasPackerModel", "isThere", "(I)Z"⟩ ⟨"AtlasPackerModel", "isThere", "(I)Z"⟩) ∈ lw_all := lw_g (lw_at lw_ms 26 rfl) rfl
theorem qs27 : (Cond.selects "AtlasPackerModel" ⟨"AtlasPackerModel", "areaOfHole", "(III)I"⟩ ⟨"AtlasPackerModel", "areaOfHole", "(III)I"⟩) ∈ lw_all := lw_g (lw_at lw_ms 27 rfl) rfl
theorem qs28 : (Cond.selects "AtlasPackerModel" ⟨"AtlasPackerModel", "tallest", "(III)I"⟩ ⟨"AtlasPackerModel", "tallest", "(III)I"⟩) ∈ lw_all := lw_g (lw_at lw_ms 28 rfl) rfl
theorem qs29 : (Cond.selects "AtlasPackerModel" ⟨"AtlasPackerModel", "closed", "(IIII)Z"⟩ ⟨"AtlasPackerModel", "closed", "(IIII)Z"⟩) ∈ lw_all := lw_g (lw_at lw_ms 29 rfl) rfl
end
section
/-! AtlasPacker -/
set_option maxRecDepth 100000
def RX1 : String := "AtlasPacker"
def TX1 : u_T := fun k => match k with
  | 0 => ("AtlasPacker", "columnCount", "I", false)
  | 1 => ("AtlasPacker", "rowCount", "I", false)
  | 2 => ("AtlasPacker", "rectangleCount", "I", false)
  | 3 => ("AtlasPacker", "left", "[B", true)
  | 4 => ("AtlasPacker", "bottom", "[B", true)
  | 5 => ("AtlasPacker", "wide", "[B", true)
  | 6 => ("AtlasPacker", "high", "[B", true)
  | 7 => ("AtlasPacker", "freeBits", "[I", true)
  | 8 => ("AtlasPacker", "holeCount", "I", false)
  | 9 => ("AtlasPacker", "hole", "[I", true)
  | 10 => ("AtlasPacker", "candidateCount", "I", false)
  | 11 => ("AtlasPacker", "candidate", "[I", true)
  | 12 => ("AtlasPacker", "stackStart", "[B", true)
  | _ => ("AtlasPacker", "stackHeight", "[B", true)
def tyX1 : Nat → FieldType := fun k => match k with
  | 0 => .int
  | 1 => .int
  | 2 => .int
  | 3 => .array .byte
  | 4 => .array .byte
  | 5 => .array .byte
  | 6 => .array .byte
  | 7 => .array .int
  | 8 => .int
  | 9 => .array .int
  | 10 => .int
  | 11 => .array .int
  | 12 => .array .byte
  | _ => .array .byte
abbrev wsX10 : List Cond := u_ws RX1 TX1 14
set_option maxRecDepth 100000 in
theorem nmX1 : ∀ a, a < 14 → ∀ b, b < 14 → a ≠ b → (TX1 a).2.1 ≠ (TX1 b).2.1 := by decide +kernel
set_option maxRecDepth 100000 in
theorem tyX1_ok : ∀ k, k < 14 → parseFieldDescriptor (TX1 k).2.2.1 = some (tyX1 k) := by decide +kernel
abbrev cX1_init : ByteArray := prog_1_method_1_code
def yX1_init : MethodName := ⟨RX1, "<init>", "(II)V"⟩
abbrev cX1_clear : ByteArray := prog_1_method_11_code
def yX1_clear : MethodName := ⟨RX1, "clear", "()I"⟩
abbrev cX1_pack : ByteArray := prog_1_method_15_code
def yX1_pack : MethodName := ⟨RX1, "pack", "(IIII)I"⟩
abbrev cX1_place : ByteArray := prog_1_method_2_code
def yX1_place : MethodName := ⟨RX1, "place", "(IIZ)I"⟩
abbrev cX1_isSize : ByteArray := prog_1_method_12_code
def yX1_isSize : MethodName := ⟨RX1, "isSize", "(II)Z"⟩
abbrev cX1_lowest : ByteArray := prog_1_method_14_code
def yX1_lowest : MethodName := ⟨RX1, "lowest", "(II)I"⟩
abbrev cX1_wideOf : ByteArray := prog_1_method_18_code
def yX1_wideOf : MethodName := ⟨RX1, "wideOf", "(I)I"⟩
abbrev cX1_highOf : ByteArray := prog_1_method_19_code
def yX1_highOf : MethodName := ⟨RX1, "highOf", "(I)I"⟩
abbrev cX1_bottomOf : ByteArray := prog_1_method_17_code
def yX1_bottomOf : MethodName := ⟨RX1, "bottomOf", "(I)I"⟩
abbrev cX1_leftOf : ByteArray := prog_1_method_16_code
def yX1_leftOf : MethodName := ⟨RX1, "leftOf", "(I)I"⟩
abbrev cX1_flip : ByteArray := prog_1_method_22_code
def yX1_flip : MethodName := ⟨RX1, "flip", "(I)V"⟩
abbrev cX1_splitHoles : ByteArray := prog_1_method_23_code
def yX1_splitHoles : MethodName := ⟨RX1, "splitHoles", "(I)V"⟩
abbrev cX1_meets : ByteArray := prog_1_method_21_code
def yX1_meets : MethodName := ⟨RX1, "meets", "(II)Z"⟩
abbrev cX1_splitOne : ByteArray := prog_1_method_26_code
def yX1_splitOne : MethodName := ⟨RX1, "splitOne", "(II)V"⟩
abbrev cX1_offer : ByteArray := prog_1_method_24_code
def yX1_offer : MethodName := ⟨RX1, "offer", "(IIII)V"⟩
abbrev cX1_keepCandidate : ByteArray := prog_1_method_25_code
def yX1_keepCandidate : MethodName := ⟨RX1, "keepCandidate", "(I)V"⟩
abbrev cX1_isCovered : ByteArray := prog_1_method_27_code
def yX1_isCovered : MethodName := ⟨RX1, "isCovered", "(I)Z"⟩
abbrev cX1_inside : ByteArray := prog_1_method_20_code
def yX1_inside : MethodName := ⟨RX1, "inside", "(II)Z"⟩
abbrev cX1_remove : ByteArray := prog_1_method_3_code
def yX1_remove : MethodName := ⟨RX1, "remove", "(I)I"⟩
abbrev cX1_isUsed : ByteArray := prog_1_method_13_code
def yX1_isUsed : MethodName := ⟨RX1, "isUsed", "(I)Z"⟩
abbrev cX1_findHoles : ByteArray := prog_1_method_28_code
def yX1_findHoles : MethodName := ⟨RX1, "findHoles", "()V"⟩
abbrev cX1_sweepFrom : ByteArray := prog_1_method_30_code
def yX1_sweepFrom : MethodName := ⟨RX1, "sweepFrom", "(I)V"⟩
abbrev cX1_heightAt : ByteArray := prog_1_method_29_code
def yX1_heightAt : MethodName := ⟨RX1, "heightAt", "(II)I"⟩
abbrev cX1_keepIfLowest : ByteArray := prog_1_method_31_code
def yX1_keepIfLowest : MethodName := ⟨RX1, "keepIfLowest", "(IIII)V"⟩
abbrev cX1_look : ByteArray := prog_1_method_4_code
def yX1_look : MethodName := ⟨RX1, "look", "(II)I"⟩
abbrev cX1_owner : ByteArray := prog_1_method_5_code
def yX1_owner : MethodName := ⟨RX1, "owner", "(II)I"⟩
abbrev cX1_freeCells : ByteArray := prog_1_method_6_code
def yX1_freeCells : MethodName := ⟨RX1, "freeCells", "()I"⟩
abbrev cX1_holes : ByteArray := prog_1_method_7_code
def yX1_holes : MethodName := ⟨RX1, "holes", "()I"⟩
abbrev cX1_largestHole : ByteArray := prog_1_method_8_code
def yX1_largestHole : MethodName := ⟨RX1, "largestHole", "()I"⟩
abbrev cX1_bestPlace : ByteArray := prog_1_method_9_code
def yX1_bestPlace : MethodName := ⟨RX1, "bestPlace", "(II)I"⟩
abbrev cX1_fitting : ByteArray := prog_1_method_10_code
def yX1_fitting : MethodName := ⟨RX1, "fitting", "()I"⟩
/-! AtlasPackerModel -/
set_option maxRecDepth 100000
def RX2 : String := "AtlasPackerModel"
def TX2 : u_T := fun k => match k with
  | 0 => ("AtlasPackerModel", "columns", "I", false)
  | 1 => ("AtlasPackerModel", "rows", "I", false)
  | 2 => ("AtlasPackerModel", "cell", "[I", false)
  | 3 => ("AtlasPackerModel", "left", "[I", false)
  | 4 => ("AtlasPackerModel", "bottom", "[I", false)
  | 5 => ("AtlasPackerModel", "wide", "[I", false)
  | 6 => ("AtlasPackerModel", "high", "[I", false)
  | _ => ("AtlasPackerModel", "there", "[Z", false)
def tyX2 : Nat → FieldType := fun k => match k with
  | 0 => .int
  | 1 => .int
  | 2 => .array .int
  | 3 => .array .int
  | 4 => .array .int
  | 5 => .array .int
  | 6 => .array .int
  | _ => .array .boolean
abbrev wsX20 : List Cond := u_ws RX2 TX2 8
theorem nmX2 : ∀ a, a < 8 → ∀ b, b < 8 → a ≠ b → (TX2 a).2.1 ≠ (TX2 b).2.1 := by decide +kernel
theorem tyX2_ok : ∀ k, k < 8 → parseFieldDescriptor (TX2 k).2.2.1 = some (tyX2 k) := by decide +kernel
abbrev cX2_init : ByteArray := prog_3_method_1_code
def yX2_init : MethodName := ⟨RX2, "<init>", "(II)V"⟩
abbrev cX2_place : ByteArray := prog_3_method_8_code
def yX2_place : MethodName := ⟨RX2, "place", "(IIZ)I"⟩
abbrev cX2_isSize : ByteArray := prog_3_method_2_code
def yX2_isSize : MethodName := ⟨RX2, "isSize", "(II)Z"⟩
abbrev cX2_count : ByteArray := prog_3_method_7_code
def yX2_count : MethodName := ⟨RX2, "count", "()I"⟩
abbrev cX2_best : ByteArray := prog_3_method_4_code
def yX2_best : MethodName := ⟨RX2, "best", "(II)I"⟩
abbrev cX2_good : ByteArray := prog_3_method_3_code
def yX2_good : MethodName := ⟨RX2, "good", "(IIII)Z"⟩
abbrev cX2_lay : ByteArray := prog_3_method_6_code
def yX2_lay : MethodName := ⟨RX2, "lay", "(III)I"⟩
abbrev cX2_paint : ByteArray := prog_3_method_5_code
def yX2_paint : MethodName := ⟨RX2, "paint", "(II)V"⟩
abbrev cX2_remove : ByteArray := prog_3_method_10_code
def yX2_remove : MethodName := ⟨RX2, "remove", "(I)I"⟩
abbrev cX2_isThere : ByteArray := prog_3_method_9_code
def yX2_isThere : MethodName := ⟨RX2, "isThere", "(I)Z"⟩
abbrev cX2_look : ByteArray := prog_3_method_11_code
def yX2_look : MethodName := ⟨RX2, "look", "(II)I"⟩
abbrev cX2_owner : ByteArray := prog_3_method_12_code
def yX2_owner : MethodName := ⟨RX2, "owner", "(II)I"⟩
abbrev cX2_freeCells : ByteArray := prog_3_method_13_code
def yX2_freeCells : MethodName := ⟨RX2, "freeCells", "()I"⟩
abbrev cX2_holes : ByteArray := prog_3_method_17_code
def yX2_holes : MethodName := ⟨RX2, "holes", "()I"⟩
abbrev cX2_areaOfHole : ByteArray := prog_3_method_16_code
def yX2_areaOfHole : MethodName := ⟨RX2, "areaOfHole", "(III)I"⟩
abbrev cX2_tallest : ByteArray := prog_3_method_14_code
def yX2_tallest : MethodName := ⟨RX2, "tallest", "(III)I"⟩
abbrev cX2_closed : ByteArray := prog_3_method_15_code
def yX2_closed : MethodName := ⟨RX2, "closed", "(IIII)Z"⟩
abbrev cX2_largestHole : ByteArray := prog_3_method_18_code
def yX2_largestHole : MethodName := ⟨RX2, "largestHole", "()I"⟩
abbrev cX2_bestPlace : ByteArray := prog_3_method_19_code
def yX2_bestPlace : MethodName := ⟨RX2, "bestPlace", "(II)I"⟩
abbrev cX2_fitting : ByteArray := prog_3_method_20_code
def yX2_fitting : MethodName := ⟨RX2, "fitting", "()I"⟩
abbrev cX2_clear : ByteArray := prog_3_method_21_code
def yX2_clear : MethodName := ⟨RX2, "clear", "()I"⟩
/-! AtlasPackerLaw -/
set_option maxRecDepth 100000
def RX0 : String := "AtlasPackerLaw"
abbrev cX0_cell : ByteArray := method_2_code
def yX0_cell : MethodName := ⟨RX0, "cell", "([II)I"⟩
/-! java/lang/Object -/
set_option maxRecDepth 100000
def RJ0 : String := "java/lang/Object"
abbrev cJ0_init : ByteArray := object_method_1_code
def yJ0_init : MethodName := ⟨RJ0, "<init>", "()V"⟩
/-! the law's own entry -/
set_option maxRecDepth 100000
abbrev cL_law : ByteArray := code
end
section
set_option maxRecDepth 100000
theorem q31 : (Jvm.Cond.initialized "AtlasPacker") ∈ lw_all := lw_g (lw_at lw_m1 1 rfl) rfl
theorem q34 : (Jvm.Cond.instantiable "AtlasPacker" (14 : Nat)) ∈ lw_all := lw_g (lw_at lw_m1 4 rfl) rfl
theorem q36 : (Jvm.Cond.instanceMethod ({ cls := "AtlasPacker", name := "<init>", desc := "(II)V" } : Jvm.MethodName)) ∈ lw_all := lw_g (lw_at lw_m1 6 rfl) rfl
theorem q37 : (Jvm.Cond.code ({ cls := "AtlasPacker", name := "<init>", desc := "(II)V" } : Jvm.MethodName) prog_1_method_1_code (3 : Nat) (Option.none : Option Jvm.ClassFile.FieldType)) ∈ lw_all := lw_g (lw_at lw_m1 7 rfl) rfl
theorem q38 : (Jvm.Cond.methodLink "AtlasPacker" (1 : Nat) ({ cls := "java/lang/Object", name := "<init>", desc := "()V" } : Jvm.MethodName)) ∈ lw_all := lw_g (lw_at lw_m1 8 rfl) rfl
theorem q41 : (Jvm.Cond.methodLink "AtlasPacker" (45 : Nat) ({ cls := "AtlasPacker", name := "clear", desc := "()I" } : Jvm.MethodName)) ∈ lw_all := lw_g (lw_at lw_m1 11 rfl) rfl
theorem q42 : (Jvm.Cond.instanceMethod ({ cls := "AtlasPacker", name := "clear", desc := "()I" } : Jvm.MethodName)) ∈ lw_all := lw_g (lw_at lw_m1 12 rfl) rfl
theorem q43 : (Jvm.Cond.selects "AtlasPacker" ({ cls := "AtlasPacker", name := "clear", desc := "()I" } : Jvm.MethodName) ({ cls := "AtlasPacker", name := "clear", desc := "()I" } : Jvm.MethodName)) ∈ lw_all := lw_g (lw_at lw_m1 13 rfl) rfl
theorem q44 : (Jvm.Cond.code ({ cls := "AtlasPacker", name := "clear", desc := "()I" } : Jvm.MethodName) prog_1_method_11_code (3 : Nat) (Option.some Jvm.ClassFile.FieldType.int)) ∈ lw_all := lw_g (lw_at lw_m1 14 rfl) rfl
theorem q45 : (Jvm.Cond.methodLink "AtlasPacker" (84 : Nat) ({ cls := "AtlasPacker", name := "pack", desc := "(IIII)I" } : Jvm.MethodName)) ∈ lw_all := lw_g (lw_at lw_m1 15 rfl) rfl
theorem q46 : (Jvm.Cond.privateMethod ({ cls := "AtlasPacker", name := "pack", desc := "(IIII)I" } : Jvm.MethodName)) ∈ lw_tbl := lw_at lw_m1 16 rfl
theorem q47 : (Jvm.Cond.instanceMethod ({ cls := "AtlasPacker", name := "pack", desc := "(IIII)I" } : Jvm.MethodName)) ∈ lw_all := lw_g (lw_at lw_m1 17 rfl) rfl
theorem q48 : (Jvm.Cond.code ({ cls := "AtlasPacker", name := "pack", desc := "(IIII)I" } : Jvm.MethodName) prog_1_method_15_code (5 : Nat) (Option.some Jvm.ClassFile.FieldType.int)) ∈ lw_all := lw_g (lw_at lw_m1 18 rfl) rfl
theorem q49 : (Jvm.Cond.fieldLink "AtlasPacker" (38 : Nat) "AtlasPacker" "columnCount" "I") ∈ lw_all := lw_g (lw_at lw_m1 19 rfl) rfl
theorem q50 : (Jvm.Cond.fieldLink "AtlasPacker" (42 : Nat) "AtlasPacker" "rowCount" "I") ∈ lw_all := lw_g (lw_at lw_m1 20 rfl) rfl
theorem q51 : (Jvm.Cond.fieldLink "AtlasPacker" (53 : Nat) "AtlasPacker" "rectangleCount" "I") ∈ lw_all := lw_g (lw_at lw_m1 21 rfl) rfl
theorem q52 : (Jvm.Cond.fieldLink "AtlasPacker" (7 : Nat) "AtlasPacker" "left" "[B") ∈ lw_all := lw_g (lw_at lw_m1 22 rfl) rfl
theorem q53 : (Jvm.Cond.fieldLink "AtlasPacker" (13 : Nat) "AtlasPacker" "bottom" "[B") ∈ lw_all := lw_g (lw_at lw_m1 23 rfl) rfl
theorem q54 : (Jvm.Cond.fieldLink "AtlasPacker" (16 : Nat) "AtlasPacker" "wide" "[B") ∈ lw_all := lw_g (lw_at lw_m1 24 rfl) rfl
theorem q55 : (Jvm.Cond.fieldLink "AtlasPacker" (19 : Nat) "AtlasPacker" "high" "[B") ∈ lw_all := lw_g (lw_at lw_m1 25 rfl) rfl
theorem q56 : (Jvm.Cond.fieldLink "AtlasPacker" (22 : Nat) "AtlasPacker" "freeBits" "[I") ∈ lw_all := lw_g (lw_at lw_m1 26 rfl) rfl
theorem q57 : (Jvm.Cond.fieldLink "AtlasPacker" (74 : Nat) "AtlasPacker" "holeCount" "I") ∈ lw_all := lw_g (lw_at lw_m1 27 rfl) rfl
theorem q58 : (Jvm.Cond.fieldLink "AtlasPacker" (26 : Nat) "AtlasPacker" "hole" "[I") ∈ lw_all := lw_g (lw_at lw_m1 28 rfl) rfl
theorem q59 : (Jvm.Cond.fieldLink "AtlasPacker" (94 : Nat) "AtlasPacker" "candidateCount" "I") ∈ lw_all := lw_g (lw_at lw_m1 29 rfl) rfl
theorem q60 : (Jvm.Cond.fieldLink "AtlasPacker" (29 : Nat) "AtlasPacker" "candidate" "[I") ∈ lw_all := lw_g (lw_at lw_m1 30 rfl) rfl
theorem q61 : (Jvm.Cond.fieldLink "AtlasPacker" (32 : Nat) "AtlasPacker" "stackStart" "[B") ∈ lw_all := lw_g (lw_at lw_m1 31 rfl) rfl
theorem q62 : (Jvm.Cond.fieldLink "AtlasPacker" (35 : Nat) "AtlasPacker" "stackHeight" "[B") ∈ lw_all := lw_g (lw_at lw_m1 32 rfl) rfl
theorem q63 : (Jvm.Cond.lays "AtlasPacker" "AtlasPacker" "columnCount" "I") ∈ lw_all := lw_g (lw_at lw_m1 33 rfl) rfl
theorem q64 : (Jvm.Cond.soleField "AtlasPacker" "columnCount") ∈ lw_all := lw_g (lw_at lw_m1 34 rfl) rfl
theorem q65 : (Jvm.Cond.lays "AtlasPacker" "AtlasPacker" "rowCount" "I") ∈ lw_all := lw_g (lw_at lw_m1 35 rfl) rfl
theorem q66 : (Jvm.Cond.soleField "AtlasPacker" "rowCount") ∈ lw_all := lw_g (lw_at lw_m1 36 rfl) rfl
theorem q67 : (Jvm.Cond.lays "AtlasPacker" "AtlasPacker" "rectangleCount" "I") ∈ lw_all := lw_g (lw_at lw_m1 37 rfl) rfl
theorem q68 : (Jvm.Cond.soleField "AtlasPacker" "rectangleCount") ∈ lw_all := lw_g (lw_at lw_m1 38 rfl) rfl
theorem q69 : (Jvm.Cond.laysFinal "AtlasPacker" "AtlasPacker" "left" "[B") ∈ lw_all := lw_g (lw_at lw_m1 39 rfl) rfl
theorem q70 : (Jvm.Cond.soleField "AtlasPacker" "left") ∈ lw_all := lw_g (lw_at lw_m1 40 rfl) rfl
theorem q71 : (Jvm.Cond.laysFinal "AtlasPacker" "AtlasPacker" "bottom" "[B") ∈ lw_all := lw_g (lw_at lw_m1 41 rfl) rfl
theorem q72 : (Jvm.Cond.soleField "AtlasPacker" "bottom") ∈ lw_all := lw_g (lw_at lw_m1 42 rfl) rfl
theorem q73 : (Jvm.Cond.laysFinal "AtlasPacker" "AtlasPacker" "wide" "[B") ∈ lw_all := lw_g (lw_at lw_m1 43 rfl) rfl
theorem q74 : (Jvm.Cond.soleField "AtlasPacker" "wide") ∈ lw_all := lw_g (lw_at lw_m1 44 rfl) rfl
theorem q75 : (Jvm.Cond.laysFinal "AtlasPacker" "AtlasPacker" "high" "[B") ∈ lw_all := lw_g (lw_at lw_m1 45 rfl) rfl
theorem q76 : (Jvm.Cond.soleField "AtlasPacker" "high") ∈ lw_all := lw_g (lw_at lw_m1 46 rfl) rfl
theorem q77 : (Jvm.Cond.laysFinal "AtlasPacker" "AtlasPacker" "freeBits" "[I") ∈ lw_all := lw_g (lw_at lw_m1 47 rfl) rfl
theorem q78 : (Jvm.Cond.soleField "AtlasPacker" "freeBits") ∈ lw_all := lw_g (lw_at lw_m1 48 rfl) rfl
theorem q79 : (Jvm.Cond.lays "AtlasPacker" "AtlasPacker" "holeCount" "I") ∈ lw_all := lw_g (lw_at lw_m1 49 rfl) rfl
theorem q80 : (Jvm.Cond.soleField "AtlasPacker" "holeCount") ∈ lw_all := lw_g (lw_at lw_m1 50 rfl) rfl
theorem q81 : (Jvm.Cond.laysFinal "AtlasPacker" "AtlasPacker" "hole" "[I") ∈ lw_all := lw_g (lw_at lw_m1 51 rfl) rfl
theorem q82 : (Jvm.Cond.soleField "AtlasPacker" "hole") ∈ lw_all := lw_g (lw_at lw_m1 52 rfl) rfl
theorem q83 : (Jvm.Cond.lays "AtlasPacker" "AtlasPacker" "candidateCount" "I") ∈ lw_all := lw_g (lw_at lw_m1 53 rfl) rfl
theorem q84 : (Jvm.Cond.soleField "AtlasPacker" "candidateCount") ∈ lw_all := lw_g (lw_at lw_m1 54 rfl) rfl
theorem q85 : (Jvm.Cond.laysFinal "AtlasPacker" "AtlasPacker" "candidate" "[I") ∈ lw_all := lw_g (lw_at lw_m1 55 rfl) rfl
theorem q86 : (Jvm.Cond.soleField "AtlasPacker" "candidate") ∈ lw_all := lw_g (lw_at lw_m1 56 rfl) rfl
theorem q87 : (Jvm.Cond.laysFinal "AtlasPacker" "AtlasPacker" "stackStart" "[B") ∈ lw_all := lw_g (lw_at lw_m1 57 rfl) rfl
theorem q88 : (Jvm.Cond.soleField "AtlasPacker" "stackStart") ∈ lw_all := lw_g (lw_at lw_m1 58 rfl) rfl
theorem q89 : (Jvm.Cond.laysFinal "AtlasPacker" "AtlasPacker" "stackHeight" "[B") ∈ lw_all := lw_g (lw_at lw_m1 59 rfl) rfl
theorem q90 : (Jvm.Cond.soleField "AtlasPacker" "stackHeight") ∈ lw_all := lw_g (lw_at lw_m1 60 rfl) rfl
theorem q91 : (Jvm.Cond.superclass "AtlasPacker" "java/lang/Object") ∈ lw_all := lw_g (lw_at lw_m1 61 rfl) rfl
theorem q95 : (Jvm.Cond.instanceMethod ({ cls := "AtlasPacker", name := "place", desc := "(IIZ)I" } : Jvm.MethodName)) ∈ lw_all := lw_g (lw_at lw_m1 65 rfl) rfl
theorem q96 : (Jvm.Cond.selects "AtlasPacker" ({ cls := "AtlasPacker", name := "place", desc := "(IIZ)I" } : Jvm.MethodName) ({ cls := "AtlasPacker", name := "place", desc := "(IIZ)I" } : Jvm.MethodName)) ∈ lw_all := lw_g (lw_at lw_m1 66 rfl) rfl
theorem q97 : (Jvm.Cond.code ({ cls := "AtlasPacker", name := "place", desc := "(IIZ)I" } : Jvm.MethodName) prog_1_method_2_code (7 : Nat) (Option.some Jvm.ClassFile.FieldType.int)) ∈ lw_all := lw_g (lw_at lw_m1 67 rfl) rfl
theorem q98 : (Jvm.Cond.methodLink "AtlasPacker" (49 : Nat) ({ cls := "AtlasPacker", name := "isSize", desc := "(II)Z" } : Jvm.MethodName)) ∈ lw_all := lw_g (lw_at lw_m1 68 rfl) rfl
theorem q99 : (Jvm.Cond.privateMethod ({ cls := "AtlasPacker", name := "isSize", desc := "(II)Z" } : Jvm.MethodName)) ∈ lw_tbl := lw_at lw_m1 69 rfl
theorem q100 : (Jvm.Cond.instanceMethod ({ cls := "AtlasPacker", name := "isSize", desc := "(II)Z" } : Jvm.MethodName)) ∈ lw_all := lw_g (lw_at lw_m1 70 rfl) rfl
theorem q101 : (Jvm.Cond.code ({ cls := "AtlasPacker", name := "isSize", desc := "(II)Z" } : Jvm.MethodName) prog_1_method_12_code (3 : Nat) (Option.some Jvm.ClassFile.FieldType.boolean)) ∈ lw_all := lw_g (lw_at lw_m1 71 rfl) rfl
theorem q102 : (Jvm.Cond.methodLink "AtlasPacker" (56 : Nat) ({ cls := "AtlasPacker", name := "lowest", desc := "(II)I" } : Jvm.MethodName)) ∈ lw_all := lw_g (lw_at lw_m1 72 rfl) rfl
theorem q103 : (Jvm.Cond.privateMethod ({ cls := "AtlasPacker", name := "lowest", desc := "(II)I" } : Jvm.MethodName)) ∈ lw_tbl := lw_at lw_m1 73 rfl
theorem q104 : (Jvm.Cond.instanceMethod ({ cls := "AtlasPacker", name := "lowest", desc := "(II)I" } : Jvm.MethodName)) ∈ lw_all := lw_g (lw_at lw_m1 74 rfl) rfl
theorem q105 : (Jvm.Cond.code ({ cls := "AtlasPacker", name := "lowest", desc := "(II)I" } : Jvm.MethodName) prog_1_method_14_code (7 : Nat) (Option.some Jvm.ClassFile.FieldType.int)) ∈ lw_all := lw_g (lw_at lw_m1 75 rfl) rfl
theorem q106 : (Jvm.Cond.methodLink "AtlasPacker" (77 : Nat) ({ cls := "AtlasPacker", name := "wideOf", desc := "(I)I" } : Jvm.MethodName)) ∈ lw_all := lw_g (lw_at lw_m1 76 rfl) rfl
theorem q107 : (Jvm.Cond.privateMethod ({ cls := "AtlasPacker", name := "wideOf", desc := "(I)I" } : Jvm.MethodName)) ∈ lw_tbl := lw_at lw_m1 77 rfl
theorem q108 : (Jvm.Cond.instanceMethod ({ cls := "AtlasPacker", name := "wideOf", desc := "(I)I" } : Jvm.MethodName)) ∈ lw_all := lw_g (lw_at lw_m1 78 rfl) rfl
theorem q109 : (Jvm.Cond.code ({ cls := "AtlasPacker", name := "wideOf", desc := "(I)I" } : Jvm.MethodName) prog_1_method_18_code (2 : Nat) (Option.some Jvm.ClassFile.FieldType.int)) ∈ lw_all := lw_g (lw_at lw_m1 79 rfl) rfl
theorem q110 : (Jvm.Cond.methodLink "AtlasPacker" (81 : Nat) ({ cls := "AtlasPacker", name := "highOf", desc := "(I)I" } : Jvm.MethodName)) ∈ lw_all := lw_g (lw_at lw_m1 80 rfl) rfl
theorem q111 : (Jvm.Cond.privateMethod ({ cls := "AtlasPacker", name := "highOf", desc := "(I)I" } : Jvm.MethodName)) ∈ lw_tbl := lw_at lw_m1 81 rfl
theorem q112 : (Jvm.Cond.instanceMethod ({ cls := "AtlasPacker", name := "highOf", desc := "(I)I" } : Jvm.MethodName)) ∈ lw_all := lw_g (lw_at lw_m1 82 rfl) rfl
theorem q113 : (Jvm.Cond.code ({ cls := "AtlasPacker", name := "highOf", desc := "(I)I" } : Jvm.MethodName) prog_1_method_19_code (2 : Nat) (Option.some Jvm.ClassFile.FieldType.int)) ∈ lw_all := lw_g (lw_at lw_m1 83 rfl) rfl
theorem q114 : (Jvm.Cond.methodLink "AtlasPacker" (88 : Nat) ({ cls := "AtlasPacker", name := "bottomOf", desc := "(I)I" } : Jvm.MethodName)) ∈ lw_all := lw_g (lw_at lw_m1 84 rfl) rfl
theorem q115 : (Jvm.Cond.privateMethod ({ cls := "AtlasPacker", name := "bottomOf", desc := "(I)I" } : Jvm.MethodName)) ∈ lw_tbl := lw_at lw_m1 85 rfl
theorem q116 : (Jvm.Cond.instanceMethod ({ cls := "AtlasPacker", name := "bottomOf", desc := "(I)I" } : Jvm.MethodName)) ∈ lw_all := lw_g (lw_at lw_m1 86 rfl) rfl
theorem q117 : (Jvm.Cond.code ({ cls := "AtlasPacker", name := "bottomOf", desc := "(I)I" } : Jvm.MethodName) prog_1_method_17_code (2 : Nat) (Option.some Jvm.ClassFile.FieldType.int)) ∈ lw_all := lw_g (lw_at lw_m1 87 rfl) rfl
theorem q118 : (Jvm.Cond.methodLink "AtlasPacker" (91 : Nat) ({ cls := "AtlasPacker", name := "leftOf", desc := "(I)I" } : Jvm.MethodName)) ∈ lw_all := lw_g (lw_at lw_m1 88 rfl) rfl
theorem q119 : (Jvm.Cond.privateMethod ({ cls := "AtlasPacker", name := "leftOf", desc := "(I)I" } : Jvm.MethodName)) ∈ lw_tbl := lw_at lw_m1 89 rfl
theorem q120 : (Jvm.Cond.instanceMethod ({ cls := "AtlasPacker", name := "leftOf", desc := "(I)I" } : Jvm.MethodName)) ∈ lw_all := lw_g (lw_at lw_m1 90 rfl) rfl
theorem q121 : (Jvm.Cond.code ({ cls := "AtlasPacker", name := "leftOf", desc := "(I)I" } : Jvm.MethodName) prog_1_method_16_code (2 : Nat) (Option.some Jvm.ClassFile.FieldType.int)) ∈ lw_all := lw_g (lw_at lw_m1 91 rfl) rfl
theorem q122 : (Jvm.Cond.methodLink "AtlasPacker" (60 : Nat) ({ cls := "AtlasPacker", name := "flip", desc := "(I)V" } : Jvm.MethodName)) ∈ lw_all := lw_g (lw_at lw_m1 92 rfl) rfl
theorem q123 : (Jvm.Cond.privateMethod ({ cls := "AtlasPacker", name := "flip", desc := "(I)V" } : Jvm.MethodName)) ∈ lw_tbl := lw_at lw_m1 93 rfl
theorem q124 : (Jvm.Cond.instanceMethod ({ cls := "AtlasPacker", name := "flip", desc := "(I)V" } : Jvm.MethodName)) ∈ lw_all := lw_g (lw_at lw_m1 94 rfl) rfl
theorem q125 : (Jvm.Cond.code ({ cls := "AtlasPacker", name := "flip", desc := "(I)V" } : Jvm.MethodName) prog_1_method_22_code (4 : Nat) (Option.none : Option Jvm.ClassFile.FieldType)) ∈ lw_all := lw_g (lw_at lw_m1 95 rfl) rfl
theorem q126 : (Jvm.Cond.methodLink "AtlasPacker" (64 : Nat) ({ cls := "AtlasPacker", name := "splitHoles", desc := "(I)V" } : Jvm.MethodName)) ∈ lw_all := lw_g (lw_at lw_m1 96 rfl) rfl
theorem q127 : (Jvm.Cond.privateMethod ({ cls := "AtlasPacker", name := "splitHoles", desc := "(I)V" } : Jvm.MethodName)) ∈ lw_tbl := lw_at lw_m1 97 rfl
theorem q128 : (Jvm.Cond.instanceMethod ({ cls := "AtlasPacker", name := "splitHoles", desc := "(I)V" } : Jvm.MethodName)) ∈ lw_all := lw_g (lw_at lw_m1 98 rfl) rfl
theorem q129 : (Jvm.Cond.code ({ cls := "AtlasPacker", name := "splitHoles", desc := "(I)V" } : Jvm.MethodName) prog_1_method_23_code (4 : Nat) (Option.none : Option Jvm.ClassFile.FieldType)) ∈ lw_all := lw_g (lw_at lw_m1 99 rfl) rfl
theorem q130 : (Jvm.Cond.methodLink "AtlasPacker" (97 : Nat) ({ cls := "AtlasPacker", name := "meets", desc := "(II)Z" } : Jvm.MethodName)) ∈ lw_all := lw_g (lw_at lw_m1 100 rfl) rfl
theorem q131 : (Jvm.Cond.privateMethod ({ cls := "AtlasPacker", name := "meets", desc := "(II)Z" } : Jvm.MethodName)) ∈ lw_tbl := lw_at lw_m1 101 rfl
theorem q132 : (Jvm.Cond.instanceMethod ({ cls := "AtlasPacker", name := "meets", desc := "(II)Z" } : Jvm.MethodName)) ∈ lw_all := lw_g (lw_at lw_m1 102 rfl) rfl
theorem q133 : (Jvm.Cond.code ({ cls := "AtlasPacker", name := "meets", desc := "(II)Z" } : Jvm.MethodName) prog_1_method_21_code (3 : Nat) (Option.some Jvm.ClassFile.FieldType.boolean)) ∈ lw_all := lw_g (lw_at lw_m1 103 rfl) rfl
theorem q134 : (Jvm.Cond.methodLink "AtlasPacker" (100 : Nat) ({ cls := "AtlasPacker", name := "splitOne", desc := "(II)V" } : Jvm.MethodName)) ∈ lw_all := lw_g (lw_at lw_m1 104 rfl) rfl
theorem q135 : (Jvm.Cond.privateMethod ({ cls := "AtlasPacker", name := "splitOne", desc := "(II)V" } : Jvm.MethodName)) ∈ lw_tbl := lw_at lw_m1 105 rfl
theorem q136 : (Jvm.Cond.instanceMethod ({ cls := "AtlasPacker", name := "splitOne", desc := "(II)V" } : Jvm.MethodName)) ∈ lw_all := lw_g (lw_at lw_m1 106 rfl) rfl
theorem q137 : (Jvm.Cond.code ({ cls := "AtlasPacker", name := "splitOne", desc := "(II)V" } : Jvm.MethodName) prog_1_method_26_code (11 : Nat) (Option.none : Option Jvm.ClassFile.FieldType)) ∈ lw_all := lw_g (lw_at lw_m1 107 rfl) rfl
theorem q138 : (Jvm.Cond.methodLink "AtlasPacker" (110 : Nat) ({ cls := "AtlasPacker", name := "offer", desc := "(IIII)V" } : Jvm.MethodName)) ∈ lw_all := lw_g (lw_at lw_m1 108 rfl) rfl
theorem q139 : (Jvm.Cond.privateMethod ({ cls := "AtlasPacker", name := "offer", desc := "(IIII)V" } : Jvm.MethodName)) ∈ lw_tbl := lw_at lw_m1 109 rfl
theorem q140 : (Jvm.Cond.instanceMethod ({ cls := "AtlasPacker", name := "offer", desc := "(IIII)V" } : Jvm.MethodName)) ∈ lw_all := lw_g (lw_at lw_m1 110 rfl) rfl
theorem q141 : (Jvm.Cond.code ({ cls := "AtlasPacker", name := "offer", desc := "(IIII)V" } : Jvm.MethodName) prog_1_method_24_code (6 : Nat) (Option.none : Option Jvm.ClassFile.FieldType)) ∈ lw_all := lw_g (lw_at lw_m1 111 rfl) rfl
theorem q142 : (Jvm.Cond.methodLink "AtlasPacker" (104 : Nat) ({ cls := "AtlasPacker", name := "keepCandidate", desc := "(I)V" } : Jvm.MethodName)) ∈ lw_all := lw_g (lw_at lw_m1 112 rfl) rfl
theorem q143 : (Jvm.Cond.privateMethod ({ cls := "AtlasPacker", name := "keepCandidate", desc := "(I)V" } : Jvm.MethodName)) ∈ lw_tbl := lw_at lw_m1 113 rfl
theorem q144 : (Jvm.Cond.instanceMethod ({ cls := "AtlasPacker", name := "keepCandidate", desc := "(I)V" } : Jvm.MethodName)) ∈ lw_all := lw_g (lw_at lw_m1 114 rfl) rfl
theorem q145 : (Jvm.Cond.code ({ cls := "AtlasPacker", name := "keepCandidate", desc := "(I)V" } : Jvm.MethodName) prog_1_method_25_code (2 : Nat) (Option.none : Option Jvm.ClassFile.FieldType)) ∈ lw_all := lw_g (lw_at lw_m1 115 rfl) rfl
theorem q146 : (Jvm.Cond.methodLink "AtlasPacker" (107 : Nat) ({ cls := "AtlasPacker", name := "isCovered", desc := "(I)Z" } : Jvm.MethodName)) ∈ lw_all := lw_g (lw_at lw_m1 116 rfl) rfl
theorem q147 : (Jvm.Cond.privateMethod ({ cls := "AtlasPacker", name := "isCovered", desc := "(I)Z" } : Jvm.MethodName)) ∈ lw_tbl := lw_at lw_m1 117 rfl
theorem q148 : (Jvm.Cond.instanceMethod ({ cls := "AtlasPacker", name := "isCovered", desc := "(I)Z" } : Jvm.MethodName)) ∈ lw_all := lw_g (lw_at lw_m1 118 rfl) rfl
theorem q149 : (Jvm.Cond.code ({ cls := "AtlasPacker", name := "isCovered", desc := "(I)Z" } : Jvm.MethodName) prog_1_method_27_code (4 : Nat) (Option.some Jvm.ClassFile.FieldType.boolean)) ∈ lw_all := lw_g (lw_at lw_m1 119 rfl) rfl
theorem q150 : (Jvm.Cond.methodLink "AtlasPacker" (114 : Nat) ({ cls := "AtlasPacker", name := "inside", desc := "(II)Z" } : Jvm.MethodName)) ∈ lw_all := lw_g (lw_at lw_m1 120 rfl) rfl
theorem q151 : (Jvm.Cond.privateMethod ({ cls := "AtlasPacker", name := "inside", desc := "(II)Z" } : Jvm.MethodName)) ∈ lw_tbl := lw_at lw_m1 121 rfl
theorem q152 : (Jvm.Cond.instanceMethod ({ cls := "AtlasPacker", name := "inside", desc := "(II)Z" } : Jvm.MethodName)) ∈ lw_all := lw_g (lw_at lw_m1 122 rfl) rfl
theorem q153 : (Jvm.Cond.code ({ cls := "AtlasPacker", name := "inside", desc := "(II)Z" } : Jvm.MethodName) prog_1_method_20_code (3 : Nat) (Option.some Jvm.ClassFile.FieldType.boolean)) ∈ lw_all := lw_g (lw_at lw_m1 123 rfl) rfl
theorem q155 : (Jvm.Cond.instanceMethod ({ cls := "AtlasPacker", name := "remove", desc := "(I)I" } : Jvm.MethodName)) ∈ lw_all := lw_g (lw_at lw_m1 125 rfl) rfl
theorem q156 : (Jvm.Cond.selects "AtlasPacker" ({ cls := "AtlasPacker", name := "remove", desc := "(I)I" } : Jvm.MethodName) ({ cls := "AtlasPacker", name := "remove", desc := "(I)I" } : Jvm.MethodName)) ∈ lw_all := lw_g (lw_at lw_m1 126 rfl) rfl
theorem q157 : (Jvm.Cond.code ({ cls := "AtlasPacker", name := "remove", desc := "(I)I" } : Jvm.MethodName) prog_1_method_3_code (2 : Nat) (Option.some Jvm.ClassFile.FieldType.int)) ∈ lw_all := lw_g (lw_at lw_m1 127 rfl) rfl
theorem q158 : (Jvm.Cond.methodLink "AtlasPacker" (67 : Nat) ({ cls := "AtlasPacker", name := "isUsed", desc := "(I)Z" } : Jvm.MethodName)) ∈ lw_all := lw_g (lw_at lw_m1 128 rfl) rfl
theorem q159 : (Jvm.Cond.privateMethod ({ cls := "AtlasPacker", name := "isUsed", desc := "(I)Z" } : Jvm.MethodName)) ∈ lw_tbl := lw_at lw_m1 129 rfl
theorem q160 : (Jvm.Cond.instanceMethod ({ cls := "AtlasPacker", name := "isUsed", desc := "(I)Z" } : Jvm.MethodName)) ∈ lw_all := lw_g (lw_at lw_m1 130 rfl) rfl
theorem q161 : (Jvm.Cond.code ({ cls := "AtlasPacker", name := "isUsed", desc := "(I)Z" } : Jvm.MethodName) prog_1_method_13_code (2 : Nat) (Option.some Jvm.ClassFile.FieldType.boolean)) ∈ lw_all := lw_g (lw_at lw_m1 131 rfl) rfl
theorem q162 : (Jvm.Cond.methodLink "AtlasPacker" (71 : Nat) ({ cls := "AtlasPacker", name := "findHoles", desc := "()V" } : Jvm.MethodName)) ∈ lw_all := lw_g (lw_at lw_m1 132 rfl) rfl
theorem q163 : (Jvm.Cond.privateMethod ({ cls := "AtlasPacker", name := "findHoles", desc := "()V" } : Jvm.MethodName)) ∈ lw_tbl := lw_at lw_m1 133 rfl
theorem q164 : (Jvm.Cond.instanceMethod ({ cls := "AtlasPacker", name := "findHoles", desc := "()V" } : Jvm.MethodName)) ∈ lw_all := lw_g (lw_at lw_m1 134 rfl) rfl
theorem q165 : (Jvm.Cond.code ({ cls := "AtlasPacker", name := "findHoles", desc := "()V" } : Jvm.MethodName) prog_1_method_28_code (2 : Nat) (Option.none : Option Jvm.ClassFile.FieldType)) ∈ lw_all := lw_g (lw_at lw_m1 135 rfl) rfl
theorem q166 : (Jvm.Cond.methodLink "AtlasPacker" (117 : Nat) ({ cls := "AtlasPacker", name := "sweepFrom", desc := "(I)V" } : Jvm.MethodName)) ∈ lw_all := lw_g (lw_at lw_m1 136 rfl) rfl
theorem q167 : (Jvm.Cond.privateMethod ({ cls := "AtlasPacker", name := "sweepFrom", desc := "(I)V" } : Jvm.MethodName)) ∈ lw_tbl := lw_at lw_m1 137 rfl
theorem q168 : (Jvm.Cond.instanceMethod ({ cls := "AtlasPacker", name := "sweepFrom", desc := "(I)V" } : Jvm.MethodName)) ∈ lw_all := lw_g (lw_at lw_m1 138 rfl) rfl
theorem q169 : (Jvm.Cond.code ({ cls := "AtlasPacker", name := "sweepFrom", desc := "(I)V" } : Jvm.MethodName) prog_1_method_30_code (6 : Nat) (Option.none : Option Jvm.ClassFile.FieldType)) ∈ lw_all := lw_g (lw_at lw_m1 139 rfl) rfl
theorem q170 : (Jvm.Cond.methodLink "AtlasPacker" (120 : Nat) ({ cls := "AtlasPacker", name := "heightAt", desc := "(II)I" } : Jvm.MethodName)) ∈ lw_all := lw_g (lw_at lw_m1 140 rfl) rfl
theorem q171 : (Jvm.Cond.privateMethod ({ cls := "AtlasPacker", name := "heightAt", desc := "(II)I" } : Jvm.MethodName)) ∈ lw_tbl := lw_at lw_m1 141 rfl
theorem q172 : (Jvm.Cond.instanceMethod ({ cls := "AtlasPacker", name := "heightAt", desc := "(II)I" } : Jvm.MethodName)) ∈ lw_all := lw_g (lw_at lw_m1 142 rfl) rfl
theorem q173 : (Jvm.Cond.code ({ cls := "AtlasPacker", name := "heightAt", desc := "(II)I" } : Jvm.MethodName) prog_1_method_29_code (4 : Nat) (Option.some Jvm.ClassFile.FieldType.int)) ∈ lw_all := lw_g (lw_at lw_m1 143 rfl) rfl
theorem q174 : (Jvm.Cond.methodLink "AtlasPacker" (123 : Nat) ({ cls := "AtlasPacker", name := "keepIfLowest", desc := "(IIII)V" } : Jvm.MethodName)) ∈ lw_all := lw_g (lw_at lw_m1 144 rfl) rfl
theorem q175 : (Jvm.Cond.privateMethod ({ cls := "AtlasPacker", name := "keepIfLowest", desc := "(IIII)V" } : Jvm.MethodName)) ∈ lw_tbl := lw_at lw_m1 145 rfl
theorem q176 : (Jvm.Cond.instanceMethod ({ cls := "AtlasPacker", name := "keepIfLowest", desc := "(IIII)V" } : Jvm.MethodName)) ∈ lw_all := lw_g (lw_at lw_m1 146 rfl) rfl
theorem q177 : (Jvm.Cond.code ({ cls := "AtlasPacker", name := "keepIfLowest", desc := "(IIII)V" } : Jvm.MethodName) prog_1_method_31_code (6 : Nat) (Option.none : Option Jvm.ClassFile.FieldType)) ∈ lw_all := lw_g (lw_at lw_m1 147 rfl) rfl
theorem q179 : (Jvm.Cond.instanceMethod ({ cls := "AtlasPacker", name := "look", desc := "(II)I" } : Jvm.MethodName)) ∈ lw_all := lw_g (lw_at lw_m1 149 rfl) rfl
theorem q180 : (Jvm.Cond.selects "AtlasPacker" ({ cls := "AtlasPacker", name := "look", desc := "(II)I" } : Jvm.MethodName) ({ cls := "AtlasPacker", name := "look", desc := "(II)I" } : Jvm.MethodName)) ∈ lw_all := lw_g (lw_at lw_m1 150 rfl) rfl
theorem q181 : (Jvm.Cond.code ({ cls := "AtlasPacker", name := "look", desc := "(II)I" } : Jvm.MethodName) prog_1_method_4_code (3 : Nat) (Option.some Jvm.ClassFile.FieldType.int)) ∈ lw_all := lw_g (lw_at lw_m1 151 rfl) rfl
theorem q183 : (Jvm.Cond.instanceMethod ({ cls := "AtlasPacker", name := "owner", desc := "(II)I" } : Jvm.MethodName)) ∈ lw_all := lw_g (lw_at lw_m1 153 rfl) rfl
theorem q184 : (Jvm.Cond.selects "AtlasPacker" ({ cls := "AtlasPacker", name := "owner", desc := "(II)I" } : Jvm.MethodName) ({ cls := "AtlasPacker", name := "owner", desc := "(II)I" } : Jvm.MethodName)) ∈ lw_all := lw_g (lw_at lw_m1 154 rfl) rfl
theorem q185 : (Jvm.Cond.code ({ cls := "AtlasPacker", name := "owner", desc := "(II)I" } : Jvm.MethodName) prog_1_method_5_code (4 : Nat) (Option.some Jvm.ClassFile.FieldType.int)) ∈ lw_all := lw_g (lw_at lw_m1 155 rfl) rfl
theorem q187 : (Jvm.Cond.instanceMethod ({ cls := "AtlasPacker", name := "freeCells", desc := "()I" } : Jvm.MethodName)) ∈ lw_all := lw_g (lw_at lw_m1 157 rfl) rfl
theorem q188 : (Jvm.Cond.selects "AtlasPacker" ({ cls := "AtlasPacker", name := "freeCells", desc := "()I" } : Jvm.MethodName) ({ cls := "AtlasPacker", name := "freeCells", desc := "()I" } : Jvm.MethodName)) ∈ lw_all := lw_g (lw_at lw_m1 158 rfl) rfl
theorem q189 : (Jvm.Cond.code ({ cls := "AtlasPacker", name := "freeCells", desc := "()I" } : Jvm.MethodName) prog_1_method_6_code (3 : Nat) (Option.some Jvm.ClassFile.FieldType.int)) ∈ lw_all := lw_g (lw_at lw_m1 159 rfl) rfl
theorem q191 : (Jvm.Cond.instanceMethod ({ cls := "AtlasPacker", name := "holes", desc := "()I" } : Jvm.MethodName)) ∈ lw_all := lw_g (lw_at lw_m1 161 rfl) rfl
theorem q192 : (Jvm.Cond.selects "AtlasPacker" ({ cls := "AtlasPacker", name := "holes", desc := "()I" } : Jvm.MethodName) ({ cls := "AtlasPacker", name := "holes", desc := "()I" } : Jvm.MethodName)) ∈ lw_all := lw_g (lw_at lw_m1 162 rfl) rfl
theorem q193 : (Jvm.Cond.code ({ cls := "AtlasPacker", name := "holes", desc := "()I" } : Jvm.MethodName) prog_1_method_7_code (1 : Nat) (Option.some Jvm.ClassFile.FieldType.int)) ∈ lw_all := lw_g (lw_at lw_m1 163 rfl) rfl
theorem q195 : (Jvm.Cond.instanceMethod ({ cls := "AtlasPacker", name := "largestHole", desc := "()I" } : Jvm.MethodName)) ∈ lw_all := lw_g (lw_at lw_m1 165 rfl) rfl
theorem q196 : (Jvm.Cond.selects "AtlasPacker" ({ cls := "AtlasPacker", name := "largestHole", desc := "()I" } : Jvm.MethodName) ({ cls := "AtlasPacker", name := "largestHole", desc := "()I" } : Jvm.MethodName)) ∈ lw_all := lw_g (lw_at lw_m1 166 rfl) rfl
theorem q197 : (Jvm.Cond.code ({ cls := "AtlasPacker", name := "largestHole", desc := "()I" } : Jvm.MethodName) prog_1_method_8_code (4 : Nat) (Option.some Jvm.ClassFile.FieldType.int)) ∈ lw_all := lw_g (lw_at lw_m1 167 rfl) rfl
theorem q199 : (Jvm.Cond.instanceMethod ({ cls := "AtlasPacker", name := "bestPlace", desc := "(II)I" } : Jvm.MethodName)) ∈ lw_all := lw_g (lw_at lw_m1 169 rfl) rfl
theorem q200 : (Jvm.Cond.selects "AtlasPacker" ({ cls := "AtlasPacker", name := "bestPlace", desc := "(II)I" } : Jvm.MethodName) ({ cls := "AtlasPacker", name := "bestPlace", desc := "(II)I" } : Jvm.MethodName)) ∈ lw_all := lw_g (lw_at lw_m1 170 rfl) rfl
theorem q201 : (Jvm.Cond.code ({ cls := "AtlasPacker", name := "bestPlace", desc := "(II)I" } : Jvm.MethodName) prog_1_method_9_code (3 : Nat) (Option.some Jvm.ClassFile.FieldType.int)) ∈ lw_all := lw_g (lw_at lw_m1 171 rfl) rfl
theorem q203 : (Jvm.Cond.instanceMethod ({ cls := "AtlasPacker", name := "fitting", desc := "()I" } : Jvm.MethodName)) ∈ lw_all := lw_g (lw_at lw_m1 173 rfl) rfl
theorem q204 : (Jvm.Cond.selects "AtlasPacker" ({ cls := "AtlasPacker", name := "fitting", desc := "()I" } : Jvm.MethodName) ({ cls := "AtlasPacker", name := "fitting", desc := "()I" } : Jvm.MethodName)) ∈ lw_all := lw_g (lw_at lw_m1 174 rfl) rfl
theorem q205 : (Jvm.Cond.code ({ cls := "AtlasPacker", name := "fitting", desc := "()I" } : Jvm.MethodName) prog_1_method_10_code (5 : Nat) (Option.some Jvm.ClassFile.FieldType.int)) ∈ lw_all := lw_g (lw_at lw_m1 175 rfl) rfl
theorem in_X1 : ∀ w ∈ wsX10, w ∈ lw_all := lw_in wsX10 [63, 65, 67, 69, 71, 73, 75, 77, 79, 81, 83, 85, 87, 89] (by decide +kernel) (by decide +kernel)
theorem q32 : (Jvm.Cond.initialized "AtlasPackerModel") ∈ lw_all := lw_g (lw_at lw_m1 2 rfl) rfl
theorem q211 : (Jvm.Cond.instantiable "AtlasPackerModel" (8 : Nat)) ∈ lw_all := lw_g (lw_at lw_m1 181 rfl) rfl
theorem q213 : (Jvm.Cond.instanceMethod ({ cls := "AtlasPackerModel", name := "<init>", desc := "(II)V" } : Jvm.MethodName)) ∈ lw_all := lw_g (lw_at lw_m1 183 rfl) rfl
theorem q214 : (Jvm.Cond.code ({ cls := "AtlasPackerModel", name := "<init>", desc := "(II)V" } : Jvm.MethodName) prog_3_method_1_code (4 : Nat) (Option.none : Option Jvm.ClassFile.FieldType)) ∈ lw_all := lw_g (lw_at lw_m1 184 rfl) rfl
theorem q215 : (Jvm.Cond.methodLink "AtlasPackerModel" (1 : Nat) ({ cls := "java/lang/Object", name := "<init>", desc := "()V" } : Jvm.MethodName)) ∈ lw_all := lw_g (lw_at lw_m1 185 rfl) rfl
theorem q216 : (Jvm.Cond.fieldLink "AtlasPackerModel" (29 : Nat) "AtlasPackerModel" "columns" "I") ∈ lw_all := lw_g (lw_at lw_m1 186 rfl) rfl
theorem q217 : (Jvm.Cond.fieldLink "AtlasPackerModel" (33 : Nat) "AtlasPackerModel" "rows" "I") ∈ lw_all := lw_g (lw_at lw_m1 187 rfl) rfl
theorem q218 : (Jvm.Cond.fieldLink "AtlasPackerModel" (7 : Nat) "AtlasPackerModel" "cell" "[I") ∈ lw_all := lw_g (lw_at lw_m1 188 rfl) rfl
theorem q219 : (Jvm.Cond.fieldLink "AtlasPackerModel" (13 : Nat) "AtlasPackerModel" "left" "[I") ∈ lw_all := lw_g (lw_at lw_m1 189 rfl) rfl
theorem q220 : (Jvm.Cond.fieldLink "AtlasPackerModel" (16 : Nat) "AtlasPackerModel" "bottom" "[I") ∈ lw_all := lw_g (lw_at lw_m1 190 rfl) rfl
theorem q221 : (Jvm.Cond.fieldLink "AtlasPackerModel" (19 : Nat) "AtlasPackerModel" "wide" "[I") ∈ lw_all := lw_g (lw_at lw_m1 191 rfl) rfl
theorem q222 : (Jvm.Cond.fieldLink "AtlasPackerModel" (22 : Nat) "AtlasPackerModel" "high" "[I") ∈ lw_all := lw_g (lw_at lw_m1 192 rfl) rfl
theorem q223 : (Jvm.Cond.fieldLink "AtlasPackerModel" (25 : Nat) "AtlasPackerModel" "there" "[Z") ∈ lw_all := lw_g (lw_at lw_m1 193 rfl) rfl
theorem q224 : (Jvm.Cond.lays "AtlasPackerModel" "AtlasPackerModel" "columns" "I") ∈ lw_all := lw_g (lw_at lw_m1 194 rfl) rfl
theorem q225 : (Jvm.Cond.soleField "AtlasPackerModel" "columns") ∈ lw_all := lw_g (lw_at lw_m1 195 rfl) rfl
theorem q226 : (Jvm.Cond.lays "AtlasPackerModel" "AtlasPackerModel" "rows" "I") ∈ lw_all := lw_g (lw_at lw_m1 196 rfl) rfl
theorem q227 : (Jvm.Cond.soleField "AtlasPackerModel" "rows") ∈ lw_all := lw_g (lw_at lw_m1 197 rfl) rfl
theorem q228 : (Jvm.Cond.lays "AtlasPackerModel" "AtlasPackerModel" "cell" "[I") ∈ lw_all := lw_g (lw_at lw_m1 198 rfl) rfl
theorem q229 : (Jvm.Cond.soleField "AtlasPackerModel" "cell") ∈ lw_all := lw_g (lw_at lw_m1 199 rfl) rfl
theorem q230 : (Jvm.Cond.lays "AtlasPackerModel" "AtlasPackerModel" "left" "[I") ∈ lw_all := lw_g (lw_at lw_m1 200 rfl) rfl
theorem q231 : (Jvm.Cond.soleField "AtlasPackerModel" "left") ∈ lw_all := lw_g (lw_at lw_m1 201 rfl) rfl
theorem q232 : (Jvm.Cond.lays "AtlasPackerModel" "AtlasPackerModel" "bottom" "[I") ∈ lw_all := lw_g (lw_at lw_m1 202 rfl) rfl
theorem q233 : (Jvm.Cond.soleField "AtlasPackerModel" "bottom") ∈ lw_all := lw_g (lw_at lw_m1 203 rfl) rfl
theorem q234 : (Jvm.Cond.lays "AtlasPackerModel" "AtlasPackerModel" "wide" "[I") ∈ lw_all := lw_g (lw_at lw_m1 204 rfl) rfl
theorem q235 : (Jvm.Cond.soleField "AtlasPackerModel" "wide") ∈ lw_all := lw_g (lw_at lw_m1 205 rfl) rfl
theorem q236 : (Jvm.Cond.lays "AtlasPackerModel" "AtlasPackerModel" "high" "[I") ∈ lw_all := lw_g (lw_at lw_m1 206 rfl) rfl
theorem q237 : (Jvm.Cond.soleField "AtlasPackerModel" "high") ∈ lw_all := lw_g (lw_at lw_m1 207 rfl) rfl
theorem q238 : (Jvm.Cond.lays "AtlasPackerModel" "AtlasPackerModel" "there" "[Z") ∈ lw_all := lw_g (lw_at lw_m1 208 rfl) rfl
theorem q239 : (Jvm.Cond.soleField "AtlasPackerModel" "there") ∈ lw_all := lw_g (lw_at lw_m1 209 rfl) rfl
theorem q240 : (Jvm.Cond.superclass "AtlasPackerModel" "java/lang/Object") ∈ lw_all := lw_g (lw_at lw_m1 210 rfl) rfl
theorem q243 : (Jvm.Cond.instanceMethod ({ cls := "AtlasPackerModel", name := "place", desc := "(IIZ)I" } : Jvm.MethodName)) ∈ lw_all := lw_g (lw_at lw_m1 213 rfl) rfl
theorem q244 : (Jvm.Cond.selects "AtlasPackerModel" ({ cls := "AtlasPackerModel", name := "place", desc := "(IIZ)I" } : Jvm.MethodName) ({ cls := "AtlasPackerModel", name := "place", desc := "(IIZ)I" } : Jvm.MethodName)) ∈ lw_all := lw_g (lw_at lw_m1 214 rfl) rfl
theorem q245 : (Jvm.Cond.code ({ cls := "AtlasPackerModel", name := "place", desc := "(IIZ)I" } : Jvm.MethodName) prog_3_method_8_code (6 : Nat) (Option.some Jvm.ClassFile.FieldType.int)) ∈ lw_all := lw_g (lw_at lw_m1 215 rfl) rfl
theorem q246 : (Jvm.Cond.methodLink "AtlasPackerModel" (44 : Nat) ({ cls := "AtlasPackerModel", name := "isSize", desc := "(II)Z" } : Jvm.MethodName)) ∈ lw_all := lw_g (lw_at lw_m1 216 rfl) rfl
theorem q247 : (Jvm.Cond.privateMethod ({ cls := "AtlasPackerModel", name := "isSize", desc := "(II)Z" } : Jvm.MethodName)) ∈ lw_tbl := lw_at lw_m1 217 rfl
theorem q248 : (Jvm.Cond.instanceMethod ({ cls := "AtlasPackerModel", name := "isSize", desc := "(II)Z" } : Jvm.MethodName)) ∈ lw_all := lw_g (lw_at lw_m1 218 rfl) rfl
theorem q249 : (Jvm.Cond.code ({ cls := "AtlasPackerModel", name := "isSize", desc := "(II)Z" } : Jvm.MethodName) prog_3_method_2_code (3 : Nat) (Option.some Jvm.ClassFile.FieldType.boolean)) ∈ lw_all := lw_g (lw_at lw_m1 219 rfl) rfl
theorem q250 : (Jvm.Cond.methodLink "AtlasPackerModel" (48 : Nat) ({ cls := "AtlasPackerModel", name := "count", desc := "()I" } : Jvm.MethodName)) ∈ lw_all := lw_g (lw_at lw_m1 220 rfl) rfl
theorem q251 : (Jvm.Cond.privateMethod ({ cls := "AtlasPackerModel", name := "count", desc := "()I" } : Jvm.MethodName)) ∈ lw_tbl := lw_at lw_m1 221 rfl
theorem q252 : (Jvm.Cond.instanceMethod ({ cls := "AtlasPackerModel", name := "count", desc := "()I" } : Jvm.MethodName)) ∈ lw_all := lw_g (lw_at lw_m1 222 rfl) rfl
theorem q253 : (Jvm.Cond.code ({ cls := "AtlasPackerModel", name := "count", desc := "()I" } : Jvm.MethodName) prog_3_method_7_code (3 : Nat) (Option.some Jvm.ClassFile.FieldType.int)) ∈ lw_all := lw_g (lw_at lw_m1 223 rfl) rfl
theorem q254 : (Jvm.Cond.methodLink "AtlasPackerModel" (52 : Nat) ({ cls := "AtlasPackerModel", name := "best", desc := "(II)I" } : Jvm.MethodName)) ∈ lw_all := lw_g (lw_at lw_m1 224 rfl) rfl
theorem q255 : (Jvm.Cond.privateMethod ({ cls := "AtlasPackerModel", name := "best", desc := "(II)I" } : Jvm.MethodName)) ∈ lw_tbl := lw_at lw_m1 225 rfl
theorem q256 : (Jvm.Cond.instanceMethod ({ cls := "AtlasPackerModel", name := "best", desc := "(II)I" } : Jvm.MethodName)) ∈ lw_all := lw_g (lw_at lw_m1 226 rfl) rfl
theorem q257 : (Jvm.Cond.code ({ cls := "AtlasPackerModel", name := "best", desc := "(II)I" } : Jvm.MethodName) prog_3_method_4_code (5 : Nat) (Option.some Jvm.ClassFile.FieldType.int)) ∈ lw_all := lw_g (lw_at lw_m1 227 rfl) rfl
theorem q258 : (Jvm.Cond.methodLink "AtlasPackerModel" (36 : Nat) ({ cls := "AtlasPackerModel", name := "good", desc := "(IIII)Z" } : Jvm.MethodName)) ∈ lw_all := lw_g (lw_at lw_m1 228 rfl) rfl
theorem q259 : (Jvm.Cond.privateMethod ({ cls := "AtlasPackerModel", name := "good", desc := "(IIII)Z" } : Jvm.MethodName)) ∈ lw_tbl := lw_at lw_m1 229 rfl
theorem q260 : (Jvm.Cond.instanceMethod ({ cls := "AtlasPackerModel", name := "good", desc := "(IIII)Z" } : Jvm.MethodName)) ∈ lw_all := lw_g (lw_at lw_m1 230 rfl) rfl
theorem q261 : (Jvm.Cond.code ({ cls := "AtlasPackerModel", name := "good", desc := "(IIII)Z" } : Jvm.MethodName) prog_3_method_3_code (7 : Nat) (Option.some Jvm.ClassFile.FieldType.boolean)) ∈ lw_all := lw_g (lw_at lw_m1 231 rfl) rfl
theorem q262 : (Jvm.Cond.methodLink "AtlasPackerModel" (56 : Nat) ({ cls := "AtlasPackerModel", name := "lay", desc := "(III)I" } : Jvm.MethodName)) ∈ lw_all := lw_g (lw_at lw_m1 232 rfl) rfl
theorem q263 : (Jvm.Cond.privateMethod ({ cls := "AtlasPackerModel", name := "lay", desc := "(III)I" } : Jvm.MethodName)) ∈ lw_tbl := lw_at lw_m1 233 rfl
theorem q264 : (Jvm.Cond.instanceMethod ({ cls := "AtlasPackerModel", name := "lay", desc := "(III)I" } : Jvm.MethodName)) ∈ lw_all := lw_g (lw_at lw_m1 234 rfl) rfl
theorem q265 : (Jvm.Cond.code ({ cls := "AtlasPackerModel", name := "lay", desc := "(III)I" } : Jvm.MethodName) prog_3_method_6_code (6 : Nat) (Option.some Jvm.ClassFile.FieldType.int)) ∈ lw_all := lw_g (lw_at lw_m1 235 rfl) rfl
theorem q266 : (Jvm.Cond.methodLink "AtlasPackerModel" (40 : Nat) ({ cls := "AtlasPackerModel", name := "paint", desc := "(II)V" } : Jvm.MethodName)) ∈ lw_all := lw_g (lw_at lw_m1 236 rfl) rfl
theorem q267 : (Jvm.Cond.privateMethod ({ cls := "AtlasPackerModel", name := "paint", desc := "(II)V" } : Jvm.MethodName)) ∈ lw_tbl := lw_at lw_m1 237 rfl
theorem q268 : (Jvm.Cond.instanceMethod ({ cls := "AtlasPackerModel", name := "paint", desc := "(II)V" } : Jvm.MethodName)) ∈ lw_all := lw_g (lw_at lw_m1 238 rfl) rfl
theorem q269 : (Jvm.Cond.code ({ cls := "AtlasPackerModel", name := "paint", desc := "(II)V" } : Jvm.MethodName) prog_3_method_5_code (5 : Nat) (Option.none : Option Jvm.ClassFile.FieldType)) ∈ lw_all := lw_g (lw_at lw_m1 239 rfl) rfl
theorem q271 : (Jvm.Cond.instanceMethod ({ cls := "AtlasPackerModel", name := "remove", desc := "(I)I" } : Jvm.MethodName)) ∈ lw_all := lw_g (lw_at lw_m2 1 rfl) rfl
theorem q272 : (Jvm.Cond.selects "AtlasPackerModel" ({ cls := "AtlasPackerModel", name := "remove", desc := "(I)I" } : Jvm.MethodName) ({ cls := "AtlasPackerModel", name := "remove", desc := "(I)I" } : Jvm.MethodName)) ∈ lw_all := lw_g (lw_at lw_m2 2 rfl) rfl
theorem q273 : (Jvm.Cond.code ({ cls := "AtlasPackerModel", name := "remove", desc := "(I)I" } : Jvm.MethodName) prog_3_method_10_code (2 : Nat) (Option.some Jvm.ClassFile.FieldType.int)) ∈ lw_all := lw_g (lw_at lw_m2 3 rfl) rfl
theorem q274 : (Jvm.Cond.methodLink "AtlasPackerModel" (60 : Nat) ({ cls := "AtlasPackerModel", name := "isThere", desc := "(I)Z" } : Jvm.MethodName)) ∈ lw_all := lw_g (lw_at lw_m2 4 rfl) rfl
theorem q275 : (Jvm.Cond.privateMethod ({ cls := "AtlasPackerModel", name := "isThere", desc := "(I)Z" } : Jvm.MethodName)) ∈ lw_tbl := lw_at lw_m2 5 rfl
theorem q276 : (Jvm.Cond.instanceMethod ({ cls := "AtlasPackerModel", name := "isThere", desc := "(I)Z" } : Jvm.MethodName)) ∈ lw_all := lw_g (lw_at lw_m2 6 rfl) rfl
theorem q277 : (Jvm.Cond.code ({ cls := "AtlasPackerModel", name := "isThere", desc := "(I)Z" } : Jvm.MethodName) prog_3_method_9_code (2 : Nat) (Option.some Jvm.ClassFile.FieldType.boolean)) ∈ lw_all := lw_g (lw_at lw_m2 7 rfl) rfl
theorem q279 : (Jvm.Cond.instanceMethod ({ cls := "AtlasPackerModel", name := "look", desc := "(II)I" } : Jvm.MethodName)) ∈ lw_all := lw_g (lw_at lw_m2 9 rfl) rfl
theorem q280 : (Jvm.Cond.selects "AtlasPackerModel" ({ cls := "AtlasPackerModel", name := "look", desc := "(II)I" } : Jvm.MethodName) ({ cls := "AtlasPackerModel", name := "look", desc := "(II)I" } : Jvm.MethodName)) ∈ lw_all := lw_g (lw_at lw_m2 10 rfl) rfl
theorem q281 : (Jvm.Cond.code ({ cls := "AtlasPackerModel", name := "look", desc := "(II)I" } : Jvm.MethodName) prog_3_method_11_code (3 : Nat) (Option.some Jvm.ClassFile.FieldType.int)) ∈ lw_all := lw_g (lw_at lw_m2 11 rfl) rfl
theorem q283 : (Jvm.Cond.instanceMethod ({ cls := "AtlasPackerModel", name := "owner", desc := "(II)I" } : Jvm.MethodName)) ∈ lw_all := lw_g (lw_at lw_m2 13 rfl) rfl
theorem q284 : (Jvm.Cond.selects "AtlasPackerModel" ({ cls := "AtlasPackerModel", name := "owner", desc := "(II)I" } : Jvm.MethodName) ({ cls := "AtlasPackerModel", name := "owner", desc := "(II)I" } : Jvm.MethodName)) ∈ lw_all := lw_g (lw_at lw_m2 14 rfl) rfl
theorem q285 : (Jvm.Cond.code ({ cls := "AtlasPackerModel", name := "owner", desc := "(II)I" } : Jvm.MethodName) prog_3_method_12_code (4 : Nat) (Option.some Jvm.ClassFile.FieldType.int)) ∈ lw_all := lw_g (lw_at lw_m2 15 rfl) rfl
theorem q287 : (Jvm.Cond.instanceMethod ({ cls := "AtlasPackerModel", name := "freeCells", desc := "()I" } : Jvm.MethodName)) ∈ lw_all := lw_g (lw_at lw_m2 17 rfl) rfl
theorem q288 : (Jvm.Cond.selects "AtlasPackerModel" ({ cls := "AtlasPackerModel", name := "freeCells", desc := "()I" } : Jvm.MethodName) ({ cls := "AtlasPackerModel", name := "freeCells", desc := "()I" } : Jvm.MethodName)) ∈ lw_all := lw_g (lw_at lw_m2 18 rfl) rfl
theorem q289 : (Jvm.Cond.code ({ cls := "AtlasPackerModel", name := "freeCells", desc := "()I" } : Jvm.MethodName) prog_3_method_13_code (4 : Nat) (Option.some Jvm.ClassFile.FieldType.int)) ∈ lw_all := lw_g (lw_at lw_m2 19 rfl) rfl
theorem q291 : (Jvm.Cond.instanceMethod ({ cls := "AtlasPackerModel", name := "holes", desc := "()I" } : Jvm.MethodName)) ∈ lw_all := lw_g (lw_at lw_m2 21 rfl) rfl
theorem q292 : (Jvm.Cond.selects "AtlasPackerModel" ({ cls := "AtlasPackerModel", name := "holes", desc := "()I" } : Jvm.MethodName) ({ cls := "AtlasPackerModel", name := "holes", desc := "()I" } : Jvm.MethodName)) ∈ lw_all := lw_g (lw_at lw_m2 22 rfl) rfl
theorem q293 : (Jvm.Cond.code ({ cls := "AtlasPackerModel", name := "holes", desc := "()I" } : Jvm.MethodName) prog_3_method_17_code (4 : Nat) (Option.some Jvm.ClassFile.FieldType.int)) ∈ lw_all := lw_g (lw_at lw_m2 23 rfl) rfl
theorem q294 : (Jvm.Cond.methodLink "AtlasPackerModel" (70 : Nat) ({ cls := "AtlasPackerModel", name := "areaOfHole", desc := "(III)I" } : Jvm.MethodName)) ∈ lw_all := lw_g (lw_at lw_m2 24 rfl) rfl
theorem q295 : (Jvm.Cond.privateMethod ({ cls := "AtlasPackerModel", name := "areaOfHole", desc := "(III)I" } : Jvm.MethodName)) ∈ lw_tbl := lw_at lw_m2 25 rfl
theorem q296 : (Jvm.Cond.instanceMethod ({ cls := "AtlasPackerModel", name := "areaOfHole", desc := "(III)I" } : Jvm.MethodName)) ∈ lw_all := lw_g (lw_at lw_m2 26 rfl) rfl
theorem q297 : (Jvm.Cond.code ({ cls := "AtlasPackerModel", name := "areaOfHole", desc := "(III)I" } : Jvm.MethodName) prog_3_method_16_code (5 : Nat) (Option.some Jvm.ClassFile.FieldType.int)) ∈ lw_all := lw_g (lw_at lw_m2 27 rfl) rfl
theorem q298 : (Jvm.Cond.methodLink "AtlasPackerModel" (64 : Nat) ({ cls := "AtlasPackerModel", name := "tallest", desc := "(III)I" } : Jvm.MethodName)) ∈ lw_all := lw_g (lw_at lw_m2 28 rfl) rfl
theorem q299 : (Jvm.Cond.privateMethod ({ cls := "AtlasPackerModel", name := "tallest", desc := "(III)I" } : Jvm.MethodName)) ∈ lw_tbl := lw_at lw_m2 29 rfl
theorem q300 : (Jvm.Cond.instanceMethod ({ cls := "AtlasPackerModel", name := "tallest", desc := "(III)I" } : Jvm.MethodName)) ∈ lw_all := lw_g (lw_at lw_m2 30 rfl) rfl
theorem q301 : (Jvm.Cond.code ({ cls := "AtlasPackerModel", name := "tallest", desc := "(III)I" } : Jvm.MethodName) prog_3_method_14_code (5 : Nat) (Option.some Jvm.ClassFile.FieldType.int)) ∈ lw_all := lw_g (lw_at lw_m2 31 rfl) rfl
theorem q302 : (Jvm.Cond.methodLink "AtlasPackerModel" (67 : Nat) ({ cls := "AtlasPackerModel", name := "closed", desc := "(IIII)Z" } : Jvm.MethodName)) ∈ lw_all := lw_g (lw_at lw_m2 32 rfl) rfl
theorem q303 : (Jvm.Cond.privateMethod ({ cls := "AtlasPackerModel", name := "closed", desc := "(IIII)Z" } : Jvm.MethodName)) ∈ lw_tbl := lw_at lw_m2 33 rfl
theorem q304 : (Jvm.Cond.instanceMethod ({ cls := "AtlasPackerModel", name := "closed", desc := "(IIII)Z" } : Jvm.MethodName)) ∈ lw_all := lw_g (lw_at lw_m2 34 rfl) rfl
theorem q305 : (Jvm.Cond.code ({ cls := "AtlasPackerModel", name := "closed", desc := "(IIII)Z" } : Jvm.MethodName) prog_3_method_15_code (5 : Nat) (Option.some Jvm.ClassFile.FieldType.boolean)) ∈ lw_all := lw_g (lw_at lw_m2 35 rfl) rfl
theorem q307 : (Jvm.Cond.instanceMethod ({ cls := "AtlasPackerModel", name := "largestHole", desc := "()I" } : Jvm.MethodName)) ∈ lw_all := lw_g (lw_at lw_m2 37 rfl) rfl
theorem q308 : (Jvm.Cond.selects "AtlasPackerModel" ({ cls := "AtlasPackerModel", name := "largestHole", desc := "()I" } : Jvm.MethodName) ({ cls := "AtlasPackerModel", name := "largestHole", desc := "()I" } : Jvm.MethodName)) ∈ lw_all := lw_g (lw_at lw_m2 38 rfl) rfl
theorem q309 : (Jvm.Cond.code ({ cls := "AtlasPackerModel", name := "largestHole", desc := "()I" } : Jvm.MethodName) prog_3_method_18_code (5 : Nat) (Option.some Jvm.ClassFile.FieldType.int)) ∈ lw_all := lw_g (lw_at lw_m2 39 rfl) rfl
theorem q311 : (Jvm.Cond.instanceMethod ({ cls := "AtlasPackerModel", name := "bestPlace", desc := "(II)I" } : Jvm.MethodName)) ∈ lw_all := lw_g (lw_at lw_m2 41 rfl) rfl
theorem q312 : (Jvm.Cond.selects "AtlasPackerModel" ({ cls := "AtlasPackerModel", name := "bestPlace", desc := "(II)I" } : Jvm.MethodName) ({ cls := "AtlasPackerModel", name := "bestPlace", desc := "(II)I" } : Jvm.MethodName)) ∈ lw_all := lw_g (lw_at lw_m2 42 rfl) rfl
theorem q313 : (Jvm.Cond.code ({ cls := "AtlasPackerModel", name := "bestPlace", desc := "(II)I" } : Jvm.MethodName) prog_3_method_19_code (3 : Nat) (Option.some Jvm.ClassFile.FieldType.int)) ∈ lw_all := lw_g (lw_at lw_m2 43 rfl) rfl
theorem q315 : (Jvm.Cond.instanceMethod ({ cls := "AtlasPackerModel", name := "fitting", desc := "()I" } : Jvm.MethodName)) ∈ lw_all := lw_g (lw_at lw_m2 45 rfl) rfl
theorem q316 : (Jvm.Cond.selects "AtlasPackerModel" ({ cls := "AtlasPackerModel", name := "fitting", desc := "()I" } : Jvm.MethodName) ({ cls := "AtlasPackerModel", name := "fitting", desc := "()I" } : Jvm.MethodName)) ∈ lw_all := lw_g (lw_at lw_m2 46 rfl) rfl
theorem q317 : (Jvm.Cond.code ({ cls := "AtlasPackerModel", name := "fitting", desc := "()I" } : Jvm.MethodName) prog_3_method_20_code (6 : Nat) (Option.some Jvm.ClassFile.FieldType.int)) ∈ lw_all := lw_g (lw_at lw_m2 47 rfl) rfl
theorem q319 : (Jvm.Cond.instanceMethod ({ cls := "AtlasPackerModel", name := "clear", desc := "()I" } : Jvm.MethodName)) ∈ lw_all := lw_g (lw_at lw_m2 49 rfl) rfl
theorem q320 : (Jvm.Cond.selects "AtlasPackerModel" ({ cls := "AtlasPackerModel", name := "clear", desc := "()I" } : Jvm.MethodName) ({ cls := "AtlasPackerModel", name := "clear", desc := "()I" } : Jvm.MethodName)) ∈ lw_all := lw_g (lw_at lw_m2 50 rfl) rfl
theorem q321 : (Jvm.Cond.code ({ cls := "AtlasPackerModel", name := "clear", desc := "()I" } : Jvm.MethodName) prog_3_method_21_code (3 : Nat) (Option.some Jvm.ClassFile.FieldType.int)) ∈ lw_all := lw_g (lw_at lw_m2 51 rfl) rfl
theorem in_X2 : ∀ w ∈ wsX20, w ∈ lw_all := lw_in wsX20 [224, 226, 228, 230, 232, 234, 236, 238] (by decide +kernel) (by decide +kernel)
theorem q30 : (Jvm.Cond.initialized "AtlasPackerLaw") ∈ lw_all := lw_g (lw_at lw_m1 0 rfl) rfl
theorem q33 : (Jvm.Cond.classLink "AtlasPackerLaw" (7 : Nat) "AtlasPacker") ∈ lw_all := lw_g (lw_at lw_m1 3 rfl) rfl
theorem q35 : (Jvm.Cond.methodLink "AtlasPackerLaw" (15 : Nat) ({ cls := "AtlasPacker", name := "<init>", desc := "(II)V" } : Jvm.MethodName)) ∈ lw_all := lw_g (lw_at lw_m1 5 rfl) rfl
theorem q94 : (Jvm.Cond.methodLink "AtlasPackerLaw" (21 : Nat) ({ cls := "AtlasPacker", name := "place", desc := "(IIZ)I" } : Jvm.MethodName)) ∈ lw_all := lw_g (lw_at lw_m1 64 rfl) rfl
theorem q154 : (Jvm.Cond.methodLink "AtlasPackerLaw" (26 : Nat) ({ cls := "AtlasPacker", name := "remove", desc := "(I)I" } : Jvm.MethodName)) ∈ lw_all := lw_g (lw_at lw_m1 124 rfl) rfl
theorem q178 : (Jvm.Cond.methodLink "AtlasPackerLaw" (31 : Nat) ({ cls := "AtlasPacker", name := "look", desc := "(II)I" } : Jvm.MethodName)) ∈ lw_all := lw_g (lw_at lw_m1 148 rfl) rfl
theorem q182 : (Jvm.Cond.methodLink "AtlasPackerLaw" (36 : Nat) ({ cls := "AtlasPacker", name := "owner", desc := "(II)I" } : Jvm.MethodName)) ∈ lw_all := lw_g (lw_at lw_m1 152 rfl) rfl
theorem q186 : (Jvm.Cond.methodLink "AtlasPackerLaw" (40 : Nat) ({ cls := "AtlasPacker", name := "freeCells", desc := "()I" } : Jvm.MethodName)) ∈ lw_all := lw_g (lw_at lw_m1 156 rfl) rfl
theorem q190 : (Jvm.Cond.methodLink "AtlasPackerLaw" (45 : Nat) ({ cls := "AtlasPacker", name := "holes", desc := "()I" } : Jvm.MethodName)) ∈ lw_all := lw_g (lw_at lw_m1 160 rfl) rfl
theorem q194 : (Jvm.Cond.methodLink "AtlasPackerLaw" (49 : Nat) ({ cls := "AtlasPacker", name := "largestHole", desc := "()I" } : Jvm.MethodName)) ∈ lw_all := lw_g (lw_at lw_m1 164 rfl) rfl
theorem q198 : (Jvm.Cond.methodLink "AtlasPackerLaw" (53 : Nat) ({ cls := "AtlasPacker", name := "bestPlace", desc := "(II)I" } : Jvm.MethodName)) ∈ lw_all := lw_g (lw_at lw_m1 168 rfl) rfl
theorem q202 : (Jvm.Cond.methodLink "AtlasPackerLaw" (57 : Nat) ({ cls := "AtlasPacker", name := "fitting", desc := "()I" } : Jvm.MethodName)) ∈ lw_all := lw_g (lw_at lw_m1 172 rfl) rfl
theorem q206 : (Jvm.Cond.methodLink "AtlasPackerLaw" (61 : Nat) ({ cls := "AtlasPacker", name := "clear", desc := "()I" } : Jvm.MethodName)) ∈ lw_all := lw_g (lw_at lw_m1 176 rfl) rfl
theorem q207 : (Jvm.Cond.methodLink "AtlasPackerLaw" (9 : Nat) ({ cls := "AtlasPackerLaw", name := "cell", desc := "([II)I" } : Jvm.MethodName)) ∈ lw_all := lw_g (lw_at lw_m1 177 rfl) rfl
theorem q208 : (Jvm.Cond.static ({ cls := "AtlasPackerLaw", name := "cell", desc := "([II)I" } : Jvm.MethodName)) ∈ lw_all := lw_g (lw_at lw_m1 178 rfl) rfl
theorem q209 : (Jvm.Cond.code ({ cls := "AtlasPackerLaw", name := "cell", desc := "([II)I" } : Jvm.MethodName) method_2_code (2 : Nat) (Option.some Jvm.ClassFile.FieldType.int)) ∈ lw_all := lw_g (lw_at lw_m1 179 rfl) rfl
theorem q210 : (Jvm.Cond.classLink "AtlasPackerLaw" (18 : Nat) "AtlasPackerModel") ∈ lw_all := lw_g (lw_at lw_m1 180 rfl) rfl
theorem q212 : (Jvm.Cond.methodLink "AtlasPackerLaw" (20 : Nat) ({ cls := "AtlasPackerModel", name := "<init>", desc := "(II)V" } : Jvm.MethodName)) ∈ lw_all := lw_g (lw_at lw_m1 182 rfl) rfl
theorem q242 : (Jvm.Cond.methodLink "AtlasPackerLaw" (25 : Nat) ({ cls := "AtlasPackerModel", name := "place", desc := "(IIZ)I" } : Jvm.MethodName)) ∈ lw_all := lw_g (lw_at lw_m1 212 rfl) rfl
theorem q270 : (Jvm.Cond.methodLink "AtlasPackerLaw" (30 : Nat) ({ cls := "AtlasPackerModel", name := "remove", desc := "(I)I" } : Jvm.MethodName)) ∈ lw_all := lw_g (lw_at lw_m2 0 rfl) rfl
theorem q278 : (Jvm.Cond.methodLink "AtlasPackerLaw" (35 : Nat) ({ cls := "AtlasPackerModel", name := "look", desc := "(II)I" } : Jvm.MethodName)) ∈ lw_all := lw_g (lw_at lw_m2 8 rfl) rfl
theorem q282 : (Jvm.Cond.methodLink "AtlasPackerLaw" (39 : Nat) ({ cls := "AtlasPackerModel", name := "owner", desc := "(II)I" } : Jvm.MethodName)) ∈ lw_all := lw_g (lw_at lw_m2 12 rfl) rfl
theorem q286 : (Jvm.Cond.methodLink "AtlasPackerLaw" (44 : Nat) ({ cls := "AtlasPackerModel", name := "freeCells", desc := "()I" } : Jvm.MethodName)) ∈ lw_all := lw_g (lw_at lw_m2 16 rfl) rfl
theorem q290 : (Jvm.Cond.methodLink "AtlasPackerLaw" (48 : Nat) ({ cls := "AtlasPackerModel", name := "holes", desc := "()I" } : Jvm.MethodName)) ∈ lw_all := lw_g (lw_at lw_m2 20 rfl) rfl
theorem q306 : (Jvm.Cond.methodLink "AtlasPackerLaw" (52 : Nat) ({ cls := "AtlasPackerModel", name := "largestHole", desc := "()I" } : Jvm.MethodName)) ∈ lw_all := lw_g (lw_at lw_m2 36 rfl) rfl
theorem q310 : (Jvm.Cond.methodLink "AtlasPackerLaw" (56 : Nat) ({ cls := "AtlasPackerModel", name := "bestPlace", desc := "(II)I" } : Jvm.MethodName)) ∈ lw_all := lw_g (lw_at lw_m2 40 rfl) rfl
theorem q314 : (Jvm.Cond.methodLink "AtlasPackerLaw" (60 : Nat) ({ cls := "AtlasPackerModel", name := "fitting", desc := "()I" } : Jvm.MethodName)) ∈ lw_all := lw_g (lw_at lw_m2 44 rfl) rfl
theorem q318 : (Jvm.Cond.methodLink "AtlasPackerLaw" (64 : Nat) ({ cls := "AtlasPackerModel", name := "clear", desc := "()I" } : Jvm.MethodName)) ∈ lw_all := lw_g (lw_at lw_m2 48 rfl) rfl
theorem q39 : (Jvm.Cond.instanceMethod ({ cls := "java/lang/Object", name := "<init>", desc := "()V" } : Jvm.MethodName)) ∈ lw_all := lw_g (lw_at lw_m1 9 rfl) rfl
theorem q40 : (Jvm.Cond.code ({ cls := "java/lang/Object", name := "<init>", desc := "()V" } : Jvm.MethodName) object_method_1_code (1 : Nat) (Option.none : Option Jvm.ClassFile.FieldType)) ∈ lw_all := lw_g (lw_at lw_m1 10 rfl) rfl
theorem q92 : (Jvm.Cond.arrayClass Jvm.ClassFile.FieldType.byte) ∈ lw_all := lw_g (lw_at lw_m1 62 rfl) rfl
theorem q93 : (Jvm.Cond.arrayClass Jvm.ClassFile.FieldType.int) ∈ lw_all := lw_g (lw_at lw_m1 63 rfl) rfl
theorem q241 : (Jvm.Cond.arrayClass Jvm.ClassFile.FieldType.boolean) ∈ lw_all := lw_g (lw_at lw_m1 211 rfl) rfl
end
section
set_option maxRecDepth 100000
theorem dX1_init_0 : decode cX1_init 0 = .ok (.aload_n 0, 1) := by decide +kernel
theorem dX1_init_1 : decode cX1_init 1 = .ok (.invokespecial 1, 3) := by decide +kernel
theorem dX1_init_4 : decode cX1_init 4 = .ok (.aload_n 0, 1) := by decide +kernel
theorem dX1_init_5 : decode cX1_init 5 = .ok (.bipush 20, 2) := by decide +kernel
theorem dX1_init_7 : decode cX1_init 7 = .ok (.newarray .byte, 2) := by decide +kernel
theorem dX1_init_9 : decode cX1_init 9 = .ok (.putfield 7, 3) := by decide +kernel
theorem dX1_init_12 : decode cX1_init 12 = .ok (.aload_n 0, 1) := by decide +kernel
theorem dX1_init_13 : decode cX1_init 13 = .ok (.bipush 20, 2) := by decide +kernel
theorem dX1_init_15 : decode cX1_init 15 = .ok (.newarray .byte, 2) := by decide +kernel
theorem dX1_init_17 : decode cX1_init 17 = .ok (.putfield 13, 3) := by decide +kernel
theorem dX1_init_20 : decode cX1_init 20 = .ok (.aload_n 0, 1) := by decide +kernel
theorem dX1_init_21 : decode cX1_init 21 = .ok (.bipush 20, 2) := by decide +kernel
theorem dX1_init_23 : decode cX1_init 23 = .ok (.newarray .byte, 2) := by decide +kernel
theorem dX1_init_25 : decode cX1_init 25 = .ok (.putfield 16, 3) := by decide +kernel
theorem dX1_init_28 : decode cX1_init 28 = .ok (.aload_n 0, 1) := by decide +kernel
theorem dX1_init_29 : decode cX1_init 29 = .ok (.bipush 20, 2) := by decide +kernel
theorem dX1_init_31 : decode cX1_init 31 = .ok (.newarray .byte, 2) := by decide +kernel
theorem dX1_init_33 : decode cX1_init 33 = .ok (.putfield 19, 3) := by decide +kernel
theorem dX1_init_36 : decode cX1_init 36 = .ok (.aload_n 0, 1) := by decide +kernel
theorem dX1_init_37 : decode cX1_init 37 = .ok (.bipush 16, 2) := by decide +kernel
theorem dX1_init_39 : decode cX1_init 39 = .ok (.newarray .int, 2) := by decide +kernel
theorem dX1_init_41 : decode cX1_init 41 = .ok (.putfield 22, 3) := by decide +kernel
theorem dX1_init_44 : decode cX1_init 44 = .ok (.aload_n 0, 1) := by decide +kernel
theorem dX1_init_45 : decode cX1_init 45 = .ok (.sipush 256, 3) := by decide +kernel
theorem dX1_init_48 : decode cX1_init 48 = .ok (.newarray .int, 2) := by decide +kernel
theorem dX1_init_50 : decode cX1_init 50 = .ok (.putfield 26, 3) := by decide +kernel
theorem dX1_init_53 : decode cX1_init 53 = .ok (.aload_n 0, 1) := by decide +kernel
theorem dX1_init_54 : decode cX1_init 54 = .ok (.sipush 1024, 3) := by decide +kernel
theorem dX1_init_57 : decode cX1_init 57 = .ok (.newarray .int, 2) := by decide +kernel
theorem dX1_init_59 : decode cX1_init 59 = .ok (.putfield 29, 3) := by decide +kernel
theorem dX1_init_62 : decode cX1_init 62 = .ok (.aload_n 0, 1) := by decide +kernel
theorem dX1_init_63 : decode cX1_init 63 = .ok (.bipush 17, 2) := by decide +kernel
theorem dX1_init_65 : decode cX1_init 65 = .ok (.newarray .byte, 2) := by decide +kernel
theorem dX1_init_67 : decode cX1_init 67 = .ok (.putfield 32, 3) := by decide +kernel
theorem dX1_init_70 : decode cX1_init 70 = .ok (.aload_n 0, 1) := by decide +kernel
theorem dX1_init_71 : decode cX1_init 71 = .ok (.bipush 17, 2) := by decide +kernel
theorem dX1_init_73 : decode cX1_init 73 = .ok (.newarray .byte, 2) := by decide +kernel
theorem dX1_init_75 : decode cX1_init 75 = .ok (.putfield 35, 3) := by decide +kernel
theorem dX1_init_78 : decode cX1_init 78 = .ok (.aload_n 0, 1) := by decide +kernel
theorem dX1_init_79 : decode cX1_init 79 = .ok (.iload_n 1, 1) := by decide +kernel
theorem dX1_init_80 : decode cX1_init 80 = .ok (.iconst 4, 1) := by decide +kernel
theorem dX1_init_81 : decode cX1_init 81 = .ok (.if_icmp .ge 7, 3) := by decide +kernel
theorem dX1_init_84 : decode cX1_init 84 = .ok (.iconst 4, 1) := by decide +kernel
theorem dX1_init_85 : decode cX1_init 85 = .ok (.goto 15, 3) := by decide +kernel
theorem dX1_init_88 : decode cX1_init 88 = .ok (.iload_n 1, 1) := by decide +kernel
theorem dX1_init_89 : decode cX1_init 89 = .ok (.bipush 16, 2) := by decide +kernel
theorem dX1_init_91 : decode cX1_init 91 = .ok (.if_icmp .le 8, 3) := by decide +kernel
theorem dX1_init_94 : decode cX1_init 94 = .ok (.bipush 16, 2) := by decide +kernel
theorem dX1_init_96 : decode cX1_init 96 = .ok (.goto 4, 3) := by decide +kernel
theorem dX1_init_99 : decode cX1_init 99 = .ok (.iload_n 1, 1) := by decide +kernel
theorem dX1_init_100 : decode cX1_init 100 = .ok (.putfield 38, 3) := by decide +kernel
theorem dX1_init_103 : decode cX1_init 103 = .ok (.aload_n 0, 1) := by decide +kernel
theorem dX1_init_104 : decode cX1_init 104 = .ok (.iload_n 2, 1) := by decide +kernel
theorem dX1_init_105 : decode cX1_init 105 = .ok (.iconst 4, 1) := by decide +kernel
theorem dX1_init_106 : decode cX1_init 106 = .ok (.if_icmp .ge 7, 3) := by decide +kernel
theorem dX1_init_109 : decode cX1_init 109 = .ok (.iconst 4, 1) := by decide +kernel
theorem dX1_init_110 : decode cX1_init 110 = .ok (.goto 15, 3) := by decide +kernel
theorem dX1_init_113 : decode cX1_init 113 = .ok (.iload_n 2, 1) := by decide +kernel
theorem dX1_init_114 : decode cX1_init 114 = .ok (.bipush 16, 2) := by decide +kernel
theorem dX1_init_116 : decode cX1_init 116 = .ok (.if_icmp .le 8, 3) := by decide +kernel
theorem dX1_init_119 : decode cX1_init 119 = .ok (.bipush 16, 2) := by decide +kernel
theorem dX1_init_121 : decode cX1_init 121 = .ok (.goto 4, 3) := by decide +kernel
theorem dX1_init_124 : decode cX1_init 124 = .ok (.iload_n 2, 1) := by decide +kernel
theorem dX1_init_125 : decode cX1_init 125 = .ok (.putfield 42, 3) := by decide +kernel
theorem dX1_init_128 : decode cX1_init 128 = .ok (.aload_n 0, 1) := by decide +kernel
theorem dX1_init_129 : decode cX1_init 129 = .ok (.invokevirtual 45, 3) := by decide +kernel
theorem dX1_init_132 : decode cX1_init 132 = .ok (.pop, 1) := by decide +kernel
theorem dX1_init_133 : decode cX1_init 133 = .ok (.return_, 1) := by decide +kernel
theorem dX1_clear_0 : decode cX1_clear 0 = .ok (.aload_n 0, 1) := by decide +kernel
theorem dX1_clear_1 : decode cX1_clear 1 = .ok (.getfield 53, 3) := by decide +kernel
theorem dX1_clear_4 : decode cX1_clear 4 = .ok (.istore_n 1, 1) := by decide +kernel
theorem dX1_clear_5 : decode cX1_clear 5 = .ok (.iconst 0, 1) := by decide +kernel
theorem dX1_clear_6 : decode cX1_clear 6 = .ok (.istore_n 2, 1) := by decide +kernel
theorem dX1_clear_7 : decode cX1_clear 7 = .ok (.iload_n 2, 1) := by decide +kernel
theorem dX1_clear_8 : decode cX1_clear 8 = .ok (.bipush 20, 2) := by decide +kernel
theorem dX1_clear_10 : decode cX1_clear 10 = .ok (.if_icmp .ge 16, 3) := by decide +kernel
theorem dX1_clear_13 : decode cX1_clear 13 = .ok (.aload_n 0, 1) := by decide +kernel
theorem dX1_clear_14 : decode cX1_clear 14 = .ok (.getfield 16, 3) := by decide +kernel
theorem dX1_clear_17 : decode cX1_clear 17 = .ok (.iload_n 2, 1) := by decide +kernel
theorem dX1_clear_18 : decode cX1_clear 18 = .ok (.iconst 0, 1) := by decide +kernel
theorem dX1_clear_19 : decode cX1_clear 19 = .ok (.bastore, 1) := by decide +kernel
theorem dX1_clear_20 : decode cX1_clear 20 = .ok (.iinc 2 1, 3) := by decide +kernel
theorem dX1_clear_23 : decode cX1_clear 23 = .ok (.goto (-16), 3) := by decide +kernel
theorem dX1_clear_26 : decode cX1_clear 26 = .ok (.aload_n 0, 1) := by decide +kernel
theorem dX1_clear_27 : decode cX1_clear 27 = .ok (.iconst 0, 1) := by decide +kernel
theorem dX1_clear_28 : decode cX1_clear 28 = .ok (.putfield 53, 3) := by decide +kernel
theorem dX1_clear_31 : decode cX1_clear 31 = .ok (.iconst 0, 1) := by decide +kernel
theorem dX1_clear_32 : decode cX1_clear 32 = .ok (.istore_n 2, 1) := by decide +kernel
theorem dX1_clear_33 : decode cX1_clear 33 = .ok (.iload_n 2, 1) := by decide +kernel
theorem dX1_clear_34 : decode cX1_clear 34 = .ok (.aload_n 0, 1) := by decide +kernel
theorem dX1_clear_35 : decode cX1_clear 35 = .ok (.getfield 42, 3) := by decide +kernel
theorem dX1_clear_38 : decode cX1_clear 38 = .ok (.if_icmp .ge 23, 3) := by decide +kernel
theorem dX1_clear_41 : decode cX1_clear 41 = .ok (.aload_n 0, 1) := by decide +kernel
theorem dX1_clear_42 : decode cX1_clear 42 = .ok (.getfield 22, 3) := by decide +kernel
theorem dX1_clear_45 : decode cX1_clear 45 = .ok (.iload_n 2, 1) := by decide +kernel
theorem dX1_clear_46 : decode cX1_clear 46 = .ok (.iconst 1, 1) := by decide +kernel
theorem dX1_clear_47 : decode cX1_clear 47 = .ok (.aload_n 0, 1) := by decide +kernel
theorem dX1_clear_48 : decode cX1_clear 48 = .ok (.getfield 38, 3) := by decide +kernel
theorem dX1_clear_51 : decode cX1_clear 51 = .ok (.ishl, 1) := by decide +kernel
theorem dX1_clear_52 : decode cX1_clear 52 = .ok (.iconst 1, 1) := by decide +kernel
theorem dX1_clear_53 : decode cX1_clear 53 = .ok (.isub, 1) := by decide +kernel
theorem dX1_clear_54 : decode cX1_clear 54 = .ok (.iastore, 1) := by decide +kernel
theorem dX1_clear_55 : decode cX1_clear 55 = .ok (.iinc 2 1, 3) := by decide +kernel
theorem dX1_clear_58 : decode cX1_clear 58 = .ok (.goto (-25), 3) := by decide +kernel
theorem dX1_clear_61 : decode cX1_clear 61 = .ok (.aload_n 0, 1) := by decide +kernel
theorem dX1_clear_62 : decode cX1_clear 62 = .ok (.getfield 26, 3) := by decide +kernel
theorem dX1_clear_65 : decode cX1_clear 65 = .ok (.iconst 0, 1) := by decide +kernel
theorem dX1_clear_66 : decode cX1_clear 66 = .ok (.aload_n 0, 1) := by decide +kernel
theorem dX1_clear_67 : decode cX1_clear 67 = .ok (.iconst 0, 1) := by decide +kernel
theorem dX1_clear_68 : decode cX1_clear 68 = .ok (.iconst 0, 1) := by decide +kernel
theorem dX1_clear_69 : decode cX1_clear 69 = .ok (.aload_n 0, 1) := by decide +kernel
theorem dX1_clear_70 : decode cX1_clear 70 = .ok (.getfield 38, 3) := by decide +kernel
theorem dX1_clear_73 : decode cX1_clear 73 = .ok (.aload_n 0, 1) := by decide +kernel
theorem dX1_clear_74 : decode cX1_clear 74 = .ok (.getfield 42, 3) := by decide +kernel
theorem dX1_clear_77 : decode cX1_clear 77 = .ok (.invokevirtual 84, 3) := by decide +kernel
theorem dX1_clear_80 : decode cX1_clear 80 = .ok (.iastore, 1) := by decide +kernel
theorem dX1_clear_81 : decode cX1_clear 81 = .ok (.aload_n 0, 1) := by decide +kernel
theorem dX1_clear_82 : decode cX1_clear 82 = .ok (.iconst 1, 1) := by decide +kernel
theorem dX1_clear_83 : decode cX1_clear 83 = .ok (.putfield 74, 3) := by decide +kernel
theorem dX1_clear_86 : decode cX1_clear 86 = .ok (.iload_n 1, 1) := by decide +kernel
theorem dX1_clear_87 : decode cX1_clear 87 = .ok (.ireturn, 1) := by decide +kernel
theorem dX1_pack_0 : decode cX1_pack 0 = .ok (.iload_n 1, 1) := by decide +kernel
theorem dX1_pack_1 : decode cX1_pack 1 = .ok (.bipush 15, 2) := by decide +kernel
theorem dX1_pack_3 : decode cX1_pack 3 = .ok (.ishl, 1) := by decide +kernel
theorem dX1_pack_4 : decode cX1_pack 4 = .ok (.iload_n 2, 1) := by decide +kernel
theorem dX1_pack_5 : decode cX1_pack 5 = .ok (.bipush 10, 2) := by decide +kernel
theorem dX1_pack_7 : decode cX1_pack 7 = .ok (.ishl, 1) := by decide +kernel
theorem dX1_pack_8 : decode cX1_pack 8 = .ok (.ior, 1) := by decide +kernel
theorem dX1_pack_9 : decode cX1_pack 9 = .ok (.iload_n 3, 1) := by decide +kernel
theorem dX1_pack_10 : decode cX1_pack 10 = .ok (.iconst 5, 1) := by decide +kernel
theorem dX1_pack_11 : decode cX1_pack 11 = .ok (.ishl, 1) := by decide +kernel
theorem dX1_pack_12 : decode cX1_pack 12 = .ok (.ior, 1) := by decide +kernel
theorem dX1_pack_13 : decode cX1_pack 13 = .ok (.iload 4, 2) := by decide +kernel
theorem dX1_pack_15 : decode cX1_pack 15 = .ok (.ior, 1) := by decide +kernel
theorem dX1_pack_16 : decode cX1_pack 16 = .ok (.ireturn, 1) := by decide +kernel
theorem dX1_place_0 : decode cX1_place 0 = .ok (.aload_n 0, 1) := by decide +kernel
theorem dX1_place_1 : decode cX1_place 1 = .ok (.iload_n 1, 1) := by decide +kernel
theorem dX1_place_2 : decode cX1_place 2 = .ok (.iload_n 2, 1) := by decide +kernel
theorem dX1_place_3 : decode cX1_place 3 = .ok (.invokevirtual 49, 3) := by decide +kernel
theorem dX1_place_6 : decode cX1_place 6 = .ok (.ifCond .ne 5, 3) := by decide +kernel
theorem dX1_place_9 : decode cX1_place 9 = .ok (.iconst (-1), 1) := by decide +kernel
theorem dX1_place_10 : decode cX1_place 10 = .ok (.ireturn, 1) := by decide +kernel
theorem dX1_place_11 : decode cX1_place 11 = .ok (.aload_n 0, 1) := by decide +kernel
theorem dX1_place_12 : decode cX1_place 12 = .ok (.getfield 53, 3) := by decide +kernel
theorem dX1_place_15 : decode cX1_place 15 = .ok (.bipush 20, 2) := by decide +kernel
theorem dX1_place_17 : decode cX1_place 17 = .ok (.if_icmp .lt 6, 3) := by decide +kernel
theorem dX1_place_20 : decode cX1_place 20 = .ok (.bipush (-2), 2) := by decide +kernel
theorem dX1_place_22 : decode cX1_place 22 = .ok (.ireturn, 1) := by decide +kernel
theorem dX1_place_23 : decode cX1_place 23 = .ok (.aload_n 0, 1) := by decide +kernel
theorem dX1_place_24 : decode cX1_place 24 = .ok (.iload_n 1, 1) := by decide +kernel
theorem dX1_place_25 : decode cX1_place 25 = .ok (.iload_n 2, 1) := by decide +kernel
theorem dX1_place_26 : decode cX1_place 26 = .ok (.invokevirtual 56, 3) := by decide +kernel
theorem dX1_place_29 : decode cX1_place 29 = .ok (.istore 4, 2) := by decide +kernel
theorem dX1_place_31 : decode cX1_place 31 = .ok (.iconst 0, 1) := by decide +kernel
theorem dX1_place_32 : decode cX1_place 32 = .ok (.istore 5, 2) := by decide +kernel
theorem dX1_place_34 : decode cX1_place 34 = .ok (.iload_n 3, 1) := by decide +kernel
theorem dX1_place_35 : decode cX1_place 35 = .ok (.ifCond .eq 44, 3) := by decide +kernel
theorem dX1_place_38 : decode cX1_place 38 = .ok (.aload_n 0, 1) := by decide +kernel
theorem dX1_place_39 : decode cX1_place 39 = .ok (.iload_n 2, 1) := by decide +kernel
theorem dX1_place_40 : decode cX1_place 40 = .ok (.iload_n 1, 1) := by decide +kernel
theorem dX1_place_41 : decode cX1_place 41 = .ok (.invokevirtual 56, 3) := by decide +kernel
theorem dX1_place_44 : decode cX1_place 44 = .ok (.istore 6, 2) := by decide +kernel
theorem dX1_place_46 : decode cX1_place 46 = .ok (.iload 6, 2) := by decide +kernel
theorem dX1_place_48 : decode cX1_place 48 = .ok (.ifCond .lt 19, 3) := by decide +kernel
theorem dX1_place_51 : decode cX1_place 51 = .ok (.iload 4, 2) := by decide +kernel
theorem dX1_place_53 : decode cX1_place 53 = .ok (.ifCond .lt 10, 3) := by decide +kernel
theorem dX1_place_56 : decode cX1_place 56 = .ok (.iload 6, 2) := by decide +kernel
theorem dX1_place_58 : decode cX1_place 58 = .ok (.iload 4, 2) := by decide +kernel
theorem dX1_place_60 : decode cX1_place 60 = .ok (.if_icmp .ge 7, 3) := by decide +kernel
theorem dX1_place_63 : decode cX1_place 63 = .ok (.iconst 1, 1) := by decide +kernel
theorem dX1_place_64 : decode cX1_place 64 = .ok (.goto 4, 3) := by decide +kernel
theorem dX1_place_67 : decode cX1_place 67 = .ok (.iconst 0, 1) := by decide +kernel
theorem dX1_place_68 : decode cX1_place 68 = .ok (.istore 5, 2) := by decide +kernel
theorem dX1_place_70 : decode cX1_place 70 = .ok (.iload 5, 2) := by decide +kernel
theorem dX1_place_72 : decode cX1_place 72 = .ok (.ifCond .eq 7, 3) := by decide +kernel
theorem dX1_place_75 : decode cX1_place 75 = .ok (.iload 6, 2) := by decide +kernel
theorem dX1_place_77 : decode cX1_place 77 = .ok (.istore 4, 2) := by decide +kernel
theorem dX1_place_79 : decode cX1_place 79 = .ok (.iload 4, 2) := by decide +kernel
theorem dX1_place_81 : decode cX1_place 81 = .ok (.ifCond .ge 6, 3) := by decide +kernel
theorem dX1_place_84 : decode cX1_place 84 = .ok (.bipush (-3), 2) := by decide +kernel
theorem dX1_place_86 : decode cX1_place 86 = .ok (.ireturn, 1) := by decide +kernel
theorem dX1_place_87 : decode cX1_place 87 = .ok (.iconst 0, 1) := by decide +kernel
theorem dX1_place_88 : decode cX1_place 88 = .ok (.istore 6, 2) := by decide +kernel
theorem dX1_place_90 : decode cX1_place 90 = .ok (.iload 6, 2) := by decide +kernel
theorem dX1_place_92 : decode cX1_place 92 = .ok (.bipush 19, 2) := by decide +kernel
theorem dX1_place_94 : decode cX1_place 94 = .ok (.if_icmp .ge 19, 3) := by decide +kernel
theorem dX1_place_97 : decode cX1_place 97 = .ok (.aload_n 0, 1) := by decide +kernel
theorem dX1_place_98 : decode cX1_place 98 = .ok (.getfield 16, 3) := by decide +kernel
theorem dX1_place_101 : decode cX1_place 101 = .ok (.iload 6, 2) := by decide +kernel
theorem dX1_place_103 : decode cX1_place 103 = .ok (.baload, 1) := by decide +kernel
theorem dX1_place_104 : decode cX1_place 104 = .ok (.ifCond .eq 9, 3) := by decide +kernel
theorem dX1_place_107 : decode cX1_place 107 = .ok (.iinc 6 1, 3) := by decide +kernel
theorem dX1_place_110 : decode cX1_place 110 = .ok (.goto (-20), 3) := by decide +kernel
theorem dX1_place_113 : decode cX1_place 113 = .ok (.aload_n 0, 1) := by decide +kernel
theorem dX1_place_114 : decode cX1_place 114 = .ok (.getfield 7, 3) := by decide +kernel
theorem dX1_place_117 : decode cX1_place 117 = .ok (.iload 6, 2) := by decide +kernel
theorem dX1_place_119 : decode cX1_place 119 = .ok (.iload 4, 2) := by decide +kernel
theorem dX1_place_121 : decode cX1_place 121 = .ok (.sipush 255, 3) := by decide +kernel
theorem dX1_place_124 : decode cX1_place 124 = .ok (.iand, 1) := by decide +kernel
theorem dX1_place_125 : decode cX1_place 125 = .ok (.i2b, 1) := by decide +kernel
theorem dX1_place_126 : decode cX1_place 126 = .ok (.bastore, 1) := by decide +kernel
theorem dX1_place_127 : decode cX1_place 127 = .ok (.aload_n 0, 1) := by decide +kernel
theorem dX1_place_128 : decode cX1_place 128 = .ok (.getfield 13, 3) := by decide +kernel
theorem dX1_place_131 : decode cX1_place 131 = .ok (.iload 6, 2) := by decide +kernel
theorem dX1_place_133 : decode cX1_place 133 = .ok (.iload 4, 2) := by decide +kernel
theorem dX1_place_135 : decode cX1_place 135 = .ok (.bipush 8, 2) := by decide +kernel
theorem dX1_place_137 : decode cX1_place 137 = .ok (.ishr, 1) := by decide +kernel
theorem dX1_place_138 : decode cX1_place 138 = .ok (.i2b, 1) := by decide +kernel
theorem dX1_place_139 : decode cX1_place 139 = .ok (.bastore, 1) := by decide +kernel
theorem dX1_place_140 : decode cX1_place 140 = .ok (.aload_n 0, 1) := by decide +kernel
theorem dX1_place_141 : decode cX1_place 141 = .ok (.getfield 16, 3) := by decide +kernel
theorem dX1_place_144 : decode cX1_place 144 = .ok (.iload 6, 2) := by decide +kernel
theorem dX1_place_146 : decode cX1_place 146 = .ok (.iload 5, 2) := by decide +kernel
theorem dX1_place_148 : decode cX1_place 148 = .ok (.ifCond .eq 7, 3) := by decide +kernel
theorem dX1_place_151 : decode cX1_place 151 = .ok (.iload_n 2, 1) := by decide +kernel
theorem dX1_place_152 : decode cX1_place 152 = .ok (.goto 4, 3) := by decide +kernel
theorem dX1_place_155 : decode cX1_place 155 = .ok (.iload_n 1, 1) := by decide +kernel
theorem dX1_place_156 : decode cX1_place 156 = .ok (.i2b, 1) := by decide +kernel
theorem dX1_place_157 : decode cX1_place 157 = .ok (.bastore, 1) := by decide +kernel
theorem dX1_place_158 : decode cX1_place 158 = .ok (.aload_n 0, 1) := by decide +kernel
theorem dX1_place_159 : decode cX1_place 159 = .ok (.getfield 19, 3) := by decide +kernel
theorem dX1_place_162 : decode cX1_place 162 = .ok (.iload 6, 2) := by decide +kernel
theorem dX1_place_164 : decode cX1_place 164 = .ok (.iload 5, 2) := by decide +kernel
theorem dX1_place_166 : decode cX1_place 166 = .ok (.ifCond .eq 7, 3) := by decide +kernel
theorem dX1_place_169 : decode cX1_place 169 = .ok (.iload_n 1, 1) := by decide +kernel
theorem dX1_place_170 : decode cX1_place 170 = .ok (.goto 4, 3) := by decide +kernel
theorem dX1_place_173 : decode cX1_place 173 = .ok (.iload_n 2, 1) := by decide +kernel
theorem dX1_place_174 : decode cX1_place 174 = .ok (.i2b, 1) := by decide +kernel
theorem dX1_place_175 : decode cX1_place 175 = .ok (.bastore, 1) := by decide +kernel
theorem dX1_place_176 : decode cX1_place 176 = .ok (.aload_n 0, 1) := by decide +kernel
theorem dX1_place_177 : decode cX1_place 177 = .ok (.dup, 1) := by decide +kernel
theorem dX1_place_178 : decode cX1_place 178 = .ok (.getfield 53, 3) := by decide +kernel
theorem dX1_place_181 : decode cX1_place 181 = .ok (.iconst 1, 1) := by decide +kernel
theorem dX1_place_182 : decode cX1_place 182 = .ok (.iadd, 1) := by decide +kernel
theorem dX1_place_183 : decode cX1_place 183 = .ok (.putfield 53, 3) := by decide +kernel
theorem dX1_place_186 : decode cX1_place 186 = .ok (.aload_n 0, 1) := by decide +kernel
theorem dX1_place_187 : decode cX1_place 187 = .ok (.iload 6, 2) := by decide +kernel
theorem dX1_place_189 : decode cX1_place 189 = .ok (.invokevirtual 60, 3) := by decide +kernel
theorem dX1_place_192 : decode cX1_place 192 = .ok (.aload_n 0, 1) := by decide +kernel
theorem dX1_place_193 : decode cX1_place 193 = .ok (.iload 6, 2) := by decide +kernel
theorem dX1_place_195 : decode cX1_place 195 = .ok (.invokevirtual 64, 3) := by decide +kernel
theorem dX1_place_198 : decode cX1_place 198 = .ok (.iload 6, 2) := by decide +kernel
theorem dX1_place_200 : decode cX1_place 200 = .ok (.ireturn, 1) := by decide +kernel
theorem dX1_isSize_0 : decode cX1_isSize 0 = .ok (.iload_n 1, 1) := by decide +kernel
theorem dX1_isSize_1 : decode cX1_isSize 1 = .ok (.iconst 1, 1) := by decide +kernel
theorem dX1_isSize_2 : decode cX1_isSize 2 = .ok (.if_icmp .lt 24, 3) := by decide +kernel
theorem dX1_isSize_5 : decode cX1_isSize 5 = .ok (.iload_n 1, 1) := by decide +kernel
theorem dX1_isSize_6 : decode cX1_isSize 6 = .ok (.bipush 16, 2) := by decide +kernel
theorem dX1_isSize_8 : decode cX1_isSize 8 = .ok (.if_icmp .gt 18, 3) := by decide +kernel
theorem dX1_isSize_11 : decode cX1_isSize 11 = .ok (.iload_n 2, 1) := by decide +kernel
theorem dX1_isSize_12 : decode cX1_isSize 12 = .ok (.iconst 1, 1) := by decide +kernel
theorem dX1_isSize_13 : decode cX1_isSize 13 = .ok (.if_icmp .lt 13, 3) := by decide +kernel
theorem dX1_isSize_16 : decode cX1_isSize 16 = .ok (.iload_n 2, 1) := by decide +kernel
theorem dX1_isSize_17 : decode cX1_isSize 17 = .ok (.bipush 16, 2) := by decide +kernel
theorem dX1_isSize_19 : decode cX1_isSize 19 = .ok (.if_icmp .gt 7, 3) := by decide +kernel
theorem dX1_isSize_22 : decode cX1_isSize 22 = .ok (.iconst 1, 1) := by decide +kernel
theorem dX1_isSize_23 : decode cX1_isSize 23 = .ok (.goto 4, 3) := by decide +kernel
theorem dX1_isSize_26 : decode cX1_isSize 26 = .ok (.iconst 0, 1) := by decide +kernel
theorem dX1_isSize_27 : decode cX1_isSize 27 = .ok (.ireturn, 1) := by decide +kernel
theorem dX1_lowest_0 : decode cX1_lowest 0 = .ok (.bipush (-3), 2) := by decide +kernel
theorem dX1_lowest_2 : decode cX1_lowest 2 = .ok (.istore_n 3, 1) := by decide +kernel
theorem dX1_lowest_3 : decode cX1_lowest 3 = .ok (.iconst 0, 1) := by decide +kernel
theorem dX1_lowest_4 : decode cX1_lowest 4 = .ok (.istore 4, 2) := by decide +kernel
theorem dX1_lowest_6 : decode cX1_lowest 6 = .ok (.iload 4, 2) := by decide +kernel
theorem dX1_lowest_8 : decode cX1_lowest 8 = .ok (.aload_n 0, 1) := by decide +kernel
theorem dX1_lowest_9 : decode cX1_lowest 9 = .ok (.getfield 74, 3) := by decide +kernel
theorem dX1_lowest_12 : decode cX1_lowest 12 = .ok (.if_icmp .ge 73, 3) := by decide +kernel
theorem dX1_lowest_15 : decode cX1_lowest 15 = .ok (.aload_n 0, 1) := by decide +kernel
theorem dX1_lowest_16 : decode cX1_lowest 16 = .ok (.getfield 26, 3) := by decide +kernel
theorem dX1_lowest_19 : decode cX1_lowest 19 = .ok (.iload 4, 2) := by decide +kernel
theorem dX1_lowest_21 : decode cX1_lowest 21 = .ok (.iaload, 1) := by decide +kernel
theorem dX1_lowest_22 : decode cX1_lowest 22 = .ok (.istore 5, 2) := by decide +kernel
theorem dX1_lowest_24 : decode cX1_lowest 24 = .ok (.aload_n 0, 1) := by decide +kernel
theorem dX1_lowest_25 : decode cX1_lowest 25 = .ok (.iload 5, 2) := by decide +kernel
theorem dX1_lowest_27 : decode cX1_lowest 27 = .ok (.invokevirtual 77, 3) := by decide +kernel
theorem dX1_lowest_30 : decode cX1_lowest 30 = .ok (.iload_n 1, 1) := by decide +kernel
theorem dX1_lowest_31 : decode cX1_lowest 31 = .ok (.if_icmp .lt 48, 3) := by decide +kernel
theorem dX1_lowest_34 : decode cX1_lowest 34 = .ok (.aload_n 0, 1) := by decide +kernel
theorem dX1_lowest_35 : decode cX1_lowest 35 = .ok (.iload 5, 2) := by decide +kernel
theorem dX1_lowest_37 : decode cX1_lowest 37 = .ok (.invokevirtual 81, 3) := by decide +kernel
theorem dX1_lowest_40 : decode cX1_lowest 40 = .ok (.iload_n 2, 1) := by decide +kernel
theorem dX1_lowest_41 : decode cX1_lowest 41 = .ok (.if_icmp .ge 6, 3) := by decide +kernel
theorem dX1_lowest_44 : decode cX1_lowest 44 = .ok (.goto 35, 3) := by decide +kernel
theorem dX1_lowest_47 : decode cX1_lowest 47 = .ok (.sipush 256, 3) := by decide +kernel
theorem dX1_lowest_50 : decode cX1_lowest 50 = .ok (.aload_n 0, 1) := by decide +kernel
theorem dX1_lowest_51 : decode cX1_lowest 51 = .ok (.iload 5, 2) := by decide +kernel
theorem dX1_lowest_53 : decode cX1_lowest 53 = .ok (.invokevirtual 88, 3) := by decide +kernel
theorem dX1_lowest_56 : decode cX1_lowest 56 = .ok (.imul, 1) := by decide +kernel
theorem dX1_lowest_57 : decode cX1_lowest 57 = .ok (.aload_n 0, 1) := by decide +kernel
theorem dX1_lowest_58 : decode cX1_lowest 58 = .ok (.iload 5, 2) := by decide +kernel
theorem dX1_lowest_60 : decode cX1_lowest 60 = .ok (.invokevirtual 91, 3) := by decide +kernel
theorem dX1_lowest_63 : decode cX1_lowest 63 = .ok (.iadd, 1) := by decide +kernel
theorem dX1_lowest_64 : decode cX1_lowest 64 = .ok (.istore 6, 2) := by decide +kernel
theorem dX1_lowest_66 : decode cX1_lowest 66 = .ok (.iload_n 3, 1) := by decide +kernel
theorem dX1_lowest_67 : decode cX1_lowest 67 = .ok (.ifCond .lt 9, 3) := by decide +kernel
theorem dX1_lowest_70 : decode cX1_lowest 70 = .ok (.iload 6, 2) := by decide +kernel
theorem dX1_lowest_72 : decode cX1_lowest 72 = .ok (.iload_n 3, 1) := by decide +kernel
theorem dX1_lowest_73 : decode cX1_lowest 73 = .ok (.if_icmp .ge 6, 3) := by decide +kernel
theorem dX1_lowest_76 : decode cX1_lowest 76 = .ok (.iload 6, 2) := by decide +kernel
theorem dX1_lowest_78 : decode cX1_lowest 78 = .ok (.istore_n 3, 1) := by decide +kernel
theorem dX1_lowest_79 : decode cX1_lowest 79 = .ok (.iinc 4 1, 3) := by decide +kernel
theorem dX1_lowest_82 : decode cX1_lowest 82 = .ok (.goto (-76), 3) := by decide +kernel
theorem dX1_lowest_85 : decode cX1_lowest 85 = .ok (.iload_n 3, 1) := by decide +kernel
theorem dX1_lowest_86 : decode cX1_lowest 86 = .ok (.ireturn, 1) := by decide +kernel
theorem dX1_wideOf_0 : decode cX1_wideOf 0 = .ok (.iload_n 1, 1) := by decide +kernel
theorem dX1_wideOf_1 : decode cX1_wideOf 1 = .ok (.iconst 5, 1) := by decide +kernel
theorem dX1_wideOf_2 : decode cX1_wideOf 2 = .ok (.ishr, 1) := by decide +kernel
theorem dX1_wideOf_3 : decode cX1_wideOf 3 = .ok (.bipush 31, 2) := by decide +kernel
theorem dX1_wideOf_5 : decode cX1_wideOf 5 = .ok (.iand, 1) := by decide +kernel
theorem dX1_wideOf_6 : decode cX1_wideOf 6 = .ok (.ireturn, 1) := by decide +kernel
theorem dX1_highOf_0 : decode cX1_highOf 0 = .ok (.iload_n 1, 1) := by decide +kernel
theorem dX1_highOf_1 : decode cX1_highOf 1 = .ok (.bipush 31, 2) := by decide +kernel
theorem dX1_highOf_3 : decode cX1_highOf 3 = .ok (.iand, 1) := by decide +kernel
theorem dX1_highOf_4 : decode cX1_highOf 4 = .ok (.ireturn, 1) := by decide +kernel
theorem dX1_bottomOf_0 : decode cX1_bottomOf 0 = .ok (.iload_n 1, 1) := by decide +kernel
theorem dX1_bottomOf_1 : decode cX1_bottomOf 1 = .ok (.bipush 10, 2) := by decide +kernel
theorem dX1_bottomOf_3 : decode cX1_bottomOf 3 = .ok (.ishr, 1) := by decide +kernel
theorem dX1_bottomOf_4 : decode cX1_bottomOf 4 = .ok (.bipush 31, 2) := by decide +kernel
theorem dX1_bottomOf_6 : decode cX1_bottomOf 6 = .ok (.iand, 1) := by decide +kernel
theorem dX1_bottomOf_7 : decode cX1_bottomOf 7 = .ok (.ireturn, 1) := by decide +kernel
theorem dX1_leftOf_0 : decode cX1_leftOf 0 = .ok (.iload_n 1, 1) := by decide +kernel
theorem dX1_leftOf_1 : decode cX1_leftOf 1 = .ok (.bipush 15, 2) := by decide +kernel
theorem dX1_leftOf_3 : decode cX1_leftOf 3 = .ok (.ishr, 1) := by decide +kernel
theorem dX1_leftOf_4 : decode cX1_leftOf 4 = .ok (.ireturn, 1) := by decide +kernel
theorem dX1_flip_0 : decode cX1_flip 0 = .ok (.iconst 1, 1) := by decide +kernel
theorem dX1_flip_1 : decode cX1_flip 1 = .ok (.aload_n 0, 1) := by decide +kernel
theorem dX1_flip_2 : decode cX1_flip 2 = .ok (.getfield 16, 3) := by decide +kernel
theorem dX1_flip_5 : decode cX1_flip 5 = .ok (.iload_n 1, 1) := by decide +kernel
theorem dX1_flip_6 : decode cX1_flip 6 = .ok (.baload, 1) := by decide +kernel
theorem dX1_flip_7 : decode cX1_flip 7 = .ok (.ishl, 1) := by decide +kernel
theorem dX1_flip_8 : decode cX1_flip 8 = .ok (.iconst 1, 1) := by decide +kernel
theorem dX1_flip_9 : decode cX1_flip 9 = .ok (.isub, 1) := by decide +kernel
theorem dX1_flip_10 : decode cX1_flip 10 = .ok (.aload_n 0, 1) := by decide +kernel
theorem dX1_flip_11 : decode cX1_flip 11 = .ok (.getfield 7, 3) := by decide +kernel
theorem dX1_flip_14 : decode cX1_flip 14 = .ok (.iload_n 1, 1) := by decide +kernel
theorem dX1_flip_15 : decode cX1_flip 15 = .ok (.baload, 1) := by decide +kernel
theorem dX1_flip_16 : decode cX1_flip 16 = .ok (.ishl, 1) := by decide +kernel
theorem dX1_flip_17 : decode cX1_flip 17 = .ok (.istore_n 2, 1) := by decide +kernel
theorem dX1_flip_18 : decode cX1_flip 18 = .ok (.aload_n 0, 1) := by decide +kernel
theorem dX1_flip_19 : decode cX1_flip 19 = .ok (.getfield 13, 3) := by decide +kernel
theorem dX1_flip_22 : decode cX1_flip 22 = .ok (.iload_n 1, 1) := by decide +kernel
theorem dX1_flip_23 : decode cX1_flip 23 = .ok (.baload, 1) := by decide +kernel
theorem dX1_flip_24 : decode cX1_flip 24 = .ok (.istore_n 3, 1) := by decide +kernel
theorem dX1_flip_25 : decode cX1_flip 25 = .ok (.iload_n 3, 1) := by decide +kernel
theorem dX1_flip_26 : decode cX1_flip 26 = .ok (.aload_n 0, 1) := by decide +kernel
theorem dX1_flip_27 : decode cX1_flip 27 = .ok (.getfield 13, 3) := by decide +kernel
theorem dX1_flip_30 : decode cX1_flip 30 = .ok (.iload_n 1, 1) := by decide +kernel
theorem dX1_flip_31 : decode cX1_flip 31 = .ok (.baload, 1) := by decide +kernel
theorem dX1_flip_32 : decode cX1_flip 32 = .ok (.aload_n 0, 1) := by decide +kernel
theorem dX1_flip_33 : decode cX1_flip 33 = .ok (.getfield 19, 3) := by decide +kernel
theorem dX1_flip_36 : decode cX1_flip 36 = .ok (.iload_n 1, 1) := by decide +kernel
theorem dX1_flip_37 : decode cX1_flip 37 = .ok (.baload, 1) := by decide +kernel
theorem dX1_flip_38 : decode cX1_flip 38 = .ok (.iadd, 1) := by decide +kernel
theorem dX1_flip_39 : decode cX1_flip 39 = .ok (.if_icmp .ge 19, 3) := by decide +kernel
theorem dX1_flip_42 : decode cX1_flip 42 = .ok (.aload_n 0, 1) := by decide +kernel
theorem dX1_flip_43 : decode cX1_flip 43 = .ok (.getfield 22, 3) := by decide +kernel
theorem dX1_flip_46 : decode cX1_flip 46 = .ok (.iload_n 3, 1) := by decide +kernel
theorem dX1_flip_47 : decode cX1_flip 47 = .ok (.dup2, 1) := by decide +kernel
theorem dX1_flip_48 : decode cX1_flip 48 = .ok (.iaload, 1) := by decide +kernel
theorem dX1_flip_49 : decode cX1_flip 49 = .ok (.iload_n 2, 1) := by decide +kernel
theorem dX1_flip_50 : decode cX1_flip 50 = .ok (.ixor, 1) := by decide +kernel
theorem dX1_flip_51 : decode cX1_flip 51 = .ok (.iastore, 1) := by decide +kernel
theorem dX1_flip_52 : decode cX1_flip 52 = .ok (.iinc 3 1, 3) := by decide +kernel
theorem dX1_flip_55 : decode cX1_flip 55 = .ok (.goto (-30), 3) := by decide +kernel
theorem dX1_flip_58 : decode cX1_flip 58 = .ok (.return_, 1) := by decide +kernel
theorem dX1_splitHoles_0 : decode cX1_splitHoles 0 = .ok (.aload_n 0, 1) := by decide +kernel
theorem dX1_splitHoles_1 : decode cX1_splitHoles 1 = .ok (.aload_n 0, 1) := by decide +kernel
theorem dX1_splitHoles_2 : decode cX1_splitHoles 2 = .ok (.getfield 7, 3) := by decide +kernel
theorem dX1_splitHoles_5 : decode cX1_splitHoles 5 = .ok (.iload_n 1, 1) := by decide +kernel
theorem dX1_splitHoles_6 : decode cX1_splitHoles 6 = .ok (.baload, 1) := by decide +kernel
theorem dX1_splitHoles_7 : decode cX1_splitHoles 7 = .ok (.aload_n 0, 1) := by decide +kernel
theorem dX1_splitHoles_8 : decode cX1_splitHoles 8 = .ok (.getfield 13, 3) := by decide +kernel
theorem dX1_splitHoles_11 : decode cX1_splitHoles 11 = .ok (.iload_n 1, 1) := by decide +kernel
theorem dX1_splitHoles_12 : decode cX1_splitHoles 12 = .ok (.baload, 1) := by decide +kernel
theorem dX1_splitHoles_13 : decode cX1_splitHoles 13 = .ok (.aload_n 0, 1) := by decide +kernel
theorem dX1_splitHoles_14 : decode cX1_splitHoles 14 = .ok (.getfield 16, 3) := by decide +kernel
theorem dX1_splitHoles_17 : decode cX1_splitHoles 17 = .ok (.iload_n 1, 1) := by decide +kernel
theorem dX1_splitHoles_18 : decode cX1_splitHoles 18 = .ok (.baload, 1) := by decide +kernel
theorem dX1_splitHoles_19 : decode cX1_splitHoles 19 = .ok (.aload_n 0, 1) := by decide +kernel
theorem dX1_splitHoles_20 : decode cX1_splitHoles 20 = .ok (.getfield 19, 3) := by decide +kernel
end
section
set_option maxRecDepth 100000
theorem dX1_splitHoles_23 : decode cX1_splitHoles 23 = .ok (.iload_n 1, 1) := by decide +kernel
theorem dX1_splitHoles_24 : decode cX1_splitHoles 24 = .ok (.baload, 1) := by decide +kernel
theorem dX1_splitHoles_25 : decode cX1_splitHoles 25 = .ok (.invokevirtual 84, 3) := by decide +kernel
theorem dX1_splitHoles_28 : decode cX1_splitHoles 28 = .ok (.istore_n 2, 1) := by decide +kernel
theorem dX1_splitHoles_29 : decode cX1_splitHoles 29 = .ok (.aload_n 0, 1) := by decide +kernel
theorem dX1_splitHoles_30 : decode cX1_splitHoles 30 = .ok (.iconst 0, 1) := by decide +kernel
theorem dX1_splitHoles_31 : decode cX1_splitHoles 31 = .ok (.putfield 94, 3) := by decide +kernel
theorem dX1_splitHoles_34 : decode cX1_splitHoles 34 = .ok (.iconst 0, 1) := by decide +kernel
theorem dX1_splitHoles_35 : decode cX1_splitHoles 35 = .ok (.istore_n 3, 1) := by decide +kernel
theorem dX1_splitHoles_36 : decode cX1_splitHoles 36 = .ok (.iload_n 3, 1) := by decide +kernel
theorem dX1_splitHoles_37 : decode cX1_splitHoles 37 = .ok (.aload_n 0, 1) := by decide +kernel
theorem dX1_splitHoles_38 : decode cX1_splitHoles 38 = .ok (.getfield 74, 3) := by decide +kernel
theorem dX1_splitHoles_41 : decode cX1_splitHoles 41 = .ok (.if_icmp .ge 47, 3) := by decide +kernel
theorem dX1_splitHoles_44 : decode cX1_splitHoles 44 = .ok (.aload_n 0, 1) := by decide +kernel
theorem dX1_splitHoles_45 : decode cX1_splitHoles 45 = .ok (.aload_n 0, 1) := by decide +kernel
theorem dX1_splitHoles_46 : decode cX1_splitHoles 46 = .ok (.getfield 26, 3) := by decide +kernel
theorem dX1_splitHoles_49 : decode cX1_splitHoles 49 = .ok (.iload_n 3, 1) := by decide +kernel
theorem dX1_splitHoles_50 : decode cX1_splitHoles 50 = .ok (.iaload, 1) := by decide +kernel
theorem dX1_splitHoles_51 : decode cX1_splitHoles 51 = .ok (.iload_n 2, 1) := by decide +kernel
theorem dX1_splitHoles_52 : decode cX1_splitHoles 52 = .ok (.invokevirtual 97, 3) := by decide +kernel
theorem dX1_splitHoles_55 : decode cX1_splitHoles 55 = .ok (.ifCond .eq 17, 3) := by decide +kernel
theorem dX1_splitHoles_58 : decode cX1_splitHoles 58 = .ok (.aload_n 0, 1) := by decide +kernel
theorem dX1_splitHoles_59 : decode cX1_splitHoles 59 = .ok (.aload_n 0, 1) := by decide +kernel
theorem dX1_splitHoles_60 : decode cX1_splitHoles 60 = .ok (.getfield 26, 3) := by decide +kernel
theorem dX1_splitHoles_63 : decode cX1_splitHoles 63 = .ok (.iload_n 3, 1) := by decide +kernel
theorem dX1_splitHoles_64 : decode cX1_splitHoles 64 = .ok (.iaload, 1) := by decide +kernel
theorem dX1_splitHoles_65 : decode cX1_splitHoles 65 = .ok (.iload_n 2, 1) := by decide +kernel
theorem dX1_splitHoles_66 : decode cX1_splitHoles 66 = .ok (.invokevirtual 100, 3) := by decide +kernel
theorem dX1_splitHoles_69 : decode cX1_splitHoles 69 = .ok (.goto 13, 3) := by decide +kernel
theorem dX1_splitHoles_72 : decode cX1_splitHoles 72 = .ok (.aload_n 0, 1) := by decide +kernel
theorem dX1_splitHoles_73 : decode cX1_splitHoles 73 = .ok (.aload_n 0, 1) := by decide +kernel
theorem dX1_splitHoles_74 : decode cX1_splitHoles 74 = .ok (.getfield 26, 3) := by decide +kernel
theorem dX1_splitHoles_77 : decode cX1_splitHoles 77 = .ok (.iload_n 3, 1) := by decide +kernel
theorem dX1_splitHoles_78 : decode cX1_splitHoles 78 = .ok (.iaload, 1) := by decide +kernel
theorem dX1_splitHoles_79 : decode cX1_splitHoles 79 = .ok (.invokevirtual 104, 3) := by decide +kernel
theorem dX1_splitHoles_82 : decode cX1_splitHoles 82 = .ok (.iinc 3 1, 3) := by decide +kernel
theorem dX1_splitHoles_85 : decode cX1_splitHoles 85 = .ok (.goto (-49), 3) := by decide +kernel
theorem dX1_splitHoles_88 : decode cX1_splitHoles 88 = .ok (.aload_n 0, 1) := by decide +kernel
theorem dX1_splitHoles_89 : decode cX1_splitHoles 89 = .ok (.iconst 0, 1) := by decide +kernel
theorem dX1_splitHoles_90 : decode cX1_splitHoles 90 = .ok (.putfield 74, 3) := by decide +kernel
theorem dX1_splitHoles_93 : decode cX1_splitHoles 93 = .ok (.iconst 0, 1) := by decide +kernel
theorem dX1_splitHoles_94 : decode cX1_splitHoles 94 = .ok (.istore_n 3, 1) := by decide +kernel
theorem dX1_splitHoles_95 : decode cX1_splitHoles 95 = .ok (.iload_n 3, 1) := by decide +kernel
theorem dX1_splitHoles_96 : decode cX1_splitHoles 96 = .ok (.aload_n 0, 1) := by decide +kernel
theorem dX1_splitHoles_97 : decode cX1_splitHoles 97 = .ok (.getfield 94, 3) := by decide +kernel
theorem dX1_splitHoles_100 : decode cX1_splitHoles 100 = .ok (.if_icmp .ge 45, 3) := by decide +kernel
theorem dX1_splitHoles_103 : decode cX1_splitHoles 103 = .ok (.aload_n 0, 1) := by decide +kernel
theorem dX1_splitHoles_104 : decode cX1_splitHoles 104 = .ok (.iload_n 3, 1) := by decide +kernel
theorem dX1_splitHoles_105 : decode cX1_splitHoles 105 = .ok (.invokevirtual 107, 3) := by decide +kernel
theorem dX1_splitHoles_108 : decode cX1_splitHoles 108 = .ok (.ifCond .eq 6, 3) := by decide +kernel
theorem dX1_splitHoles_111 : decode cX1_splitHoles 111 = .ok (.goto 28, 3) := by decide +kernel
theorem dX1_splitHoles_114 : decode cX1_splitHoles 114 = .ok (.aload_n 0, 1) := by decide +kernel
theorem dX1_splitHoles_115 : decode cX1_splitHoles 115 = .ok (.getfield 26, 3) := by decide +kernel
theorem dX1_splitHoles_118 : decode cX1_splitHoles 118 = .ok (.aload_n 0, 1) := by decide +kernel
theorem dX1_splitHoles_119 : decode cX1_splitHoles 119 = .ok (.getfield 74, 3) := by decide +kernel
theorem dX1_splitHoles_122 : decode cX1_splitHoles 122 = .ok (.aload_n 0, 1) := by decide +kernel
theorem dX1_splitHoles_123 : decode cX1_splitHoles 123 = .ok (.getfield 29, 3) := by decide +kernel
theorem dX1_splitHoles_126 : decode cX1_splitHoles 126 = .ok (.iload_n 3, 1) := by decide +kernel
theorem dX1_splitHoles_127 : decode cX1_splitHoles 127 = .ok (.iaload, 1) := by decide +kernel
theorem dX1_splitHoles_128 : decode cX1_splitHoles 128 = .ok (.iastore, 1) := by decide +kernel
theorem dX1_splitHoles_129 : decode cX1_splitHoles 129 = .ok (.aload_n 0, 1) := by decide +kernel
theorem dX1_splitHoles_130 : decode cX1_splitHoles 130 = .ok (.dup, 1) := by decide +kernel
theorem dX1_splitHoles_131 : decode cX1_splitHoles 131 = .ok (.getfield 74, 3) := by decide +kernel
theorem dX1_splitHoles_134 : decode cX1_splitHoles 134 = .ok (.iconst 1, 1) := by decide +kernel
theorem dX1_splitHoles_135 : decode cX1_splitHoles 135 = .ok (.iadd, 1) := by decide +kernel
theorem dX1_splitHoles_136 : decode cX1_splitHoles 136 = .ok (.putfield 74, 3) := by decide +kernel
theorem dX1_splitHoles_139 : decode cX1_splitHoles 139 = .ok (.iinc 3 1, 3) := by decide +kernel
theorem dX1_splitHoles_142 : decode cX1_splitHoles 142 = .ok (.goto (-47), 3) := by decide +kernel
theorem dX1_splitHoles_145 : decode cX1_splitHoles 145 = .ok (.return_, 1) := by decide +kernel
theorem dX1_meets_0 : decode cX1_meets 0 = .ok (.aload_n 0, 1) := by decide +kernel
theorem dX1_meets_1 : decode cX1_meets 1 = .ok (.iload_n 1, 1) := by decide +kernel
theorem dX1_meets_2 : decode cX1_meets 2 = .ok (.invokevirtual 91, 3) := by decide +kernel
theorem dX1_meets_5 : decode cX1_meets 5 = .ok (.aload_n 0, 1) := by decide +kernel
theorem dX1_meets_6 : decode cX1_meets 6 = .ok (.iload_n 2, 1) := by decide +kernel
theorem dX1_meets_7 : decode cX1_meets 7 = .ok (.invokevirtual 91, 3) := by decide +kernel
theorem dX1_meets_10 : decode cX1_meets 10 = .ok (.aload_n 0, 1) := by decide +kernel
theorem dX1_meets_11 : decode cX1_meets 11 = .ok (.iload_n 2, 1) := by decide +kernel
theorem dX1_meets_12 : decode cX1_meets 12 = .ok (.invokevirtual 77, 3) := by decide +kernel
theorem dX1_meets_15 : decode cX1_meets 15 = .ok (.iadd, 1) := by decide +kernel
theorem dX1_meets_16 : decode cX1_meets 16 = .ok (.if_icmp .ge 22, 3) := by decide +kernel
theorem dX1_meets_19 : decode cX1_meets 19 = .ok (.aload_n 0, 1) := by decide +kernel
theorem dX1_meets_20 : decode cX1_meets 20 = .ok (.iload_n 2, 1) := by decide +kernel
theorem dX1_meets_21 : decode cX1_meets 21 = .ok (.invokevirtual 91, 3) := by decide +kernel
theorem dX1_meets_24 : decode cX1_meets 24 = .ok (.aload_n 0, 1) := by decide +kernel
theorem dX1_meets_25 : decode cX1_meets 25 = .ok (.iload_n 1, 1) := by decide +kernel
theorem dX1_meets_26 : decode cX1_meets 26 = .ok (.invokevirtual 91, 3) := by decide +kernel
theorem dX1_meets_29 : decode cX1_meets 29 = .ok (.aload_n 0, 1) := by decide +kernel
theorem dX1_meets_30 : decode cX1_meets 30 = .ok (.iload_n 1, 1) := by decide +kernel
theorem dX1_meets_31 : decode cX1_meets 31 = .ok (.invokevirtual 77, 3) := by decide +kernel
theorem dX1_meets_34 : decode cX1_meets 34 = .ok (.iadd, 1) := by decide +kernel
theorem dX1_meets_35 : decode cX1_meets 35 = .ok (.if_icmp .lt 5, 3) := by decide +kernel
theorem dX1_meets_38 : decode cX1_meets 38 = .ok (.iconst 0, 1) := by decide +kernel
theorem dX1_meets_39 : decode cX1_meets 39 = .ok (.ireturn, 1) := by decide +kernel
theorem dX1_meets_40 : decode cX1_meets 40 = .ok (.aload_n 0, 1) := by decide +kernel
theorem dX1_meets_41 : decode cX1_meets 41 = .ok (.iload_n 1, 1) := by decide +kernel
theorem dX1_meets_42 : decode cX1_meets 42 = .ok (.invokevirtual 88, 3) := by decide +kernel
theorem dX1_meets_45 : decode cX1_meets 45 = .ok (.aload_n 0, 1) := by decide +kernel
theorem dX1_meets_46 : decode cX1_meets 46 = .ok (.iload_n 2, 1) := by decide +kernel
theorem dX1_meets_47 : decode cX1_meets 47 = .ok (.invokevirtual 88, 3) := by decide +kernel
theorem dX1_meets_50 : decode cX1_meets 50 = .ok (.aload_n 0, 1) := by decide +kernel
theorem dX1_meets_51 : decode cX1_meets 51 = .ok (.iload_n 2, 1) := by decide +kernel
theorem dX1_meets_52 : decode cX1_meets 52 = .ok (.invokevirtual 81, 3) := by decide +kernel
theorem dX1_meets_55 : decode cX1_meets 55 = .ok (.iadd, 1) := by decide +kernel
theorem dX1_meets_56 : decode cX1_meets 56 = .ok (.if_icmp .ge 26, 3) := by decide +kernel
theorem dX1_meets_59 : decode cX1_meets 59 = .ok (.aload_n 0, 1) := by decide +kernel
theorem dX1_meets_60 : decode cX1_meets 60 = .ok (.iload_n 2, 1) := by decide +kernel
theorem dX1_meets_61 : decode cX1_meets 61 = .ok (.invokevirtual 88, 3) := by decide +kernel
theorem dX1_meets_64 : decode cX1_meets 64 = .ok (.aload_n 0, 1) := by decide +kernel
theorem dX1_meets_65 : decode cX1_meets 65 = .ok (.iload_n 1, 1) := by decide +kernel
theorem dX1_meets_66 : decode cX1_meets 66 = .ok (.invokevirtual 88, 3) := by decide +kernel
theorem dX1_meets_69 : decode cX1_meets 69 = .ok (.aload_n 0, 1) := by decide +kernel
theorem dX1_meets_70 : decode cX1_meets 70 = .ok (.iload_n 1, 1) := by decide +kernel
theorem dX1_meets_71 : decode cX1_meets 71 = .ok (.invokevirtual 81, 3) := by decide +kernel
theorem dX1_meets_74 : decode cX1_meets 74 = .ok (.iadd, 1) := by decide +kernel
theorem dX1_meets_75 : decode cX1_meets 75 = .ok (.if_icmp .ge 7, 3) := by decide +kernel
theorem dX1_meets_78 : decode cX1_meets 78 = .ok (.iconst 1, 1) := by decide +kernel
theorem dX1_meets_79 : decode cX1_meets 79 = .ok (.goto 4, 3) := by decide +kernel
theorem dX1_meets_82 : decode cX1_meets 82 = .ok (.iconst 0, 1) := by decide +kernel
theorem dX1_meets_83 : decode cX1_meets 83 = .ok (.ireturn, 1) := by decide +kernel
theorem dX1_splitOne_0 : decode cX1_splitOne 0 = .ok (.aload_n 0, 1) := by decide +kernel
theorem dX1_splitOne_1 : decode cX1_splitOne 1 = .ok (.iload_n 1, 1) := by decide +kernel
theorem dX1_splitOne_2 : decode cX1_splitOne 2 = .ok (.invokevirtual 91, 3) := by decide +kernel
theorem dX1_splitOne_5 : decode cX1_splitOne 5 = .ok (.istore_n 3, 1) := by decide +kernel
theorem dX1_splitOne_6 : decode cX1_splitOne 6 = .ok (.aload_n 0, 1) := by decide +kernel
theorem dX1_splitOne_7 : decode cX1_splitOne 7 = .ok (.iload_n 1, 1) := by decide +kernel
theorem dX1_splitOne_8 : decode cX1_splitOne 8 = .ok (.invokevirtual 88, 3) := by decide +kernel
theorem dX1_splitOne_11 : decode cX1_splitOne 11 = .ok (.istore 4, 2) := by decide +kernel
theorem dX1_splitOne_13 : decode cX1_splitOne 13 = .ok (.aload_n 0, 1) := by decide +kernel
theorem dX1_splitOne_14 : decode cX1_splitOne 14 = .ok (.iload_n 1, 1) := by decide +kernel
theorem dX1_splitOne_15 : decode cX1_splitOne 15 = .ok (.invokevirtual 77, 3) := by decide +kernel
theorem dX1_splitOne_18 : decode cX1_splitOne 18 = .ok (.istore 5, 2) := by decide +kernel
theorem dX1_splitOne_20 : decode cX1_splitOne 20 = .ok (.aload_n 0, 1) := by decide +kernel
theorem dX1_splitOne_21 : decode cX1_splitOne 21 = .ok (.iload_n 1, 1) := by decide +kernel
theorem dX1_splitOne_22 : decode cX1_splitOne 22 = .ok (.invokevirtual 81, 3) := by decide +kernel
theorem dX1_splitOne_25 : decode cX1_splitOne 25 = .ok (.istore 6, 2) := by decide +kernel
theorem dX1_splitOne_27 : decode cX1_splitOne 27 = .ok (.aload_n 0, 1) := by decide +kernel
theorem dX1_splitOne_28 : decode cX1_splitOne 28 = .ok (.iload_n 2, 1) := by decide +kernel
theorem dX1_splitOne_29 : decode cX1_splitOne 29 = .ok (.invokevirtual 91, 3) := by decide +kernel
theorem dX1_splitOne_32 : decode cX1_splitOne 32 = .ok (.iload_n 3, 1) := by decide +kernel
theorem dX1_splitOne_33 : decode cX1_splitOne 33 = .ok (.isub, 1) := by decide +kernel
theorem dX1_splitOne_34 : decode cX1_splitOne 34 = .ok (.istore 7, 2) := by decide +kernel
theorem dX1_splitOne_36 : decode cX1_splitOne 36 = .ok (.iload_n 3, 1) := by decide +kernel
theorem dX1_splitOne_37 : decode cX1_splitOne 37 = .ok (.iload 5, 2) := by decide +kernel
theorem dX1_splitOne_39 : decode cX1_splitOne 39 = .ok (.iadd, 1) := by decide +kernel
theorem dX1_splitOne_40 : decode cX1_splitOne 40 = .ok (.aload_n 0, 1) := by decide +kernel
theorem dX1_splitOne_41 : decode cX1_splitOne 41 = .ok (.iload_n 2, 1) := by decide +kernel
theorem dX1_splitOne_42 : decode cX1_splitOne 42 = .ok (.invokevirtual 91, 3) := by decide +kernel
theorem dX1_splitOne_45 : decode cX1_splitOne 45 = .ok (.isub, 1) := by decide +kernel
theorem dX1_splitOne_46 : decode cX1_splitOne 46 = .ok (.aload_n 0, 1) := by decide +kernel
theorem dX1_splitOne_47 : decode cX1_splitOne 47 = .ok (.iload_n 2, 1) := by decide +kernel
theorem dX1_splitOne_48 : decode cX1_splitOne 48 = .ok (.invokevirtual 77, 3) := by decide +kernel
theorem dX1_splitOne_51 : decode cX1_splitOne 51 = .ok (.isub, 1) := by decide +kernel
theorem dX1_splitOne_52 : decode cX1_splitOne 52 = .ok (.istore 8, 2) := by decide +kernel
theorem dX1_splitOne_54 : decode cX1_splitOne 54 = .ok (.aload_n 0, 1) := by decide +kernel
theorem dX1_splitOne_55 : decode cX1_splitOne 55 = .ok (.iload_n 2, 1) := by decide +kernel
theorem dX1_splitOne_56 : decode cX1_splitOne 56 = .ok (.invokevirtual 88, 3) := by decide +kernel
theorem dX1_splitOne_59 : decode cX1_splitOne 59 = .ok (.iload 4, 2) := by decide +kernel
theorem dX1_splitOne_61 : decode cX1_splitOne 61 = .ok (.isub, 1) := by decide +kernel
theorem dX1_splitOne_62 : decode cX1_splitOne 62 = .ok (.istore 9, 2) := by decide +kernel
theorem dX1_splitOne_64 : decode cX1_splitOne 64 = .ok (.iload 4, 2) := by decide +kernel
theorem dX1_splitOne_66 : decode cX1_splitOne 66 = .ok (.iload 6, 2) := by decide +kernel
theorem dX1_splitOne_68 : decode cX1_splitOne 68 = .ok (.iadd, 1) := by decide +kernel
theorem dX1_splitOne_69 : decode cX1_splitOne 69 = .ok (.aload_n 0, 1) := by decide +kernel
theorem dX1_splitOne_70 : decode cX1_splitOne 70 = .ok (.iload_n 2, 1) := by decide +kernel
theorem dX1_splitOne_71 : decode cX1_splitOne 71 = .ok (.invokevirtual 88, 3) := by decide +kernel
theorem dX1_splitOne_74 : decode cX1_splitOne 74 = .ok (.isub, 1) := by decide +kernel
theorem dX1_splitOne_75 : decode cX1_splitOne 75 = .ok (.aload_n 0, 1) := by decide +kernel
theorem dX1_splitOne_76 : decode cX1_splitOne 76 = .ok (.iload_n 2, 1) := by decide +kernel
theorem dX1_splitOne_77 : decode cX1_splitOne 77 = .ok (.invokevirtual 81, 3) := by decide +kernel
theorem dX1_splitOne_80 : decode cX1_splitOne 80 = .ok (.isub, 1) := by decide +kernel
theorem dX1_splitOne_81 : decode cX1_splitOne 81 = .ok (.istore 10, 2) := by decide +kernel
theorem dX1_splitOne_83 : decode cX1_splitOne 83 = .ok (.iload 7, 2) := by decide +kernel
theorem dX1_splitOne_85 : decode cX1_splitOne 85 = .ok (.ifCond .le 14, 3) := by decide +kernel
theorem dX1_splitOne_88 : decode cX1_splitOne 88 = .ok (.aload_n 0, 1) := by decide +kernel
theorem dX1_splitOne_89 : decode cX1_splitOne 89 = .ok (.iload_n 3, 1) := by decide +kernel
theorem dX1_splitOne_90 : decode cX1_splitOne 90 = .ok (.iload 4, 2) := by decide +kernel
theorem dX1_splitOne_92 : decode cX1_splitOne 92 = .ok (.iload 7, 2) := by decide +kernel
theorem dX1_splitOne_94 : decode cX1_splitOne 94 = .ok (.iload 6, 2) := by decide +kernel
theorem dX1_splitOne_96 : decode cX1_splitOne 96 = .ok (.invokevirtual 110, 3) := by decide +kernel
theorem dX1_splitOne_99 : decode cX1_splitOne 99 = .ok (.iload 8, 2) := by decide +kernel
theorem dX1_splitOne_101 : decode cX1_splitOne 101 = .ok (.ifCond .le 20, 3) := by decide +kernel
theorem dX1_splitOne_104 : decode cX1_splitOne 104 = .ok (.aload_n 0, 1) := by decide +kernel
theorem dX1_splitOne_105 : decode cX1_splitOne 105 = .ok (.iload_n 3, 1) := by decide +kernel
theorem dX1_splitOne_106 : decode cX1_splitOne 106 = .ok (.iload 5, 2) := by decide +kernel
theorem dX1_splitOne_108 : decode cX1_splitOne 108 = .ok (.iadd, 1) := by decide +kernel
theorem dX1_splitOne_109 : decode cX1_splitOne 109 = .ok (.iload 8, 2) := by decide +kernel
theorem dX1_splitOne_111 : decode cX1_splitOne 111 = .ok (.isub, 1) := by decide +kernel
theorem dX1_splitOne_112 : decode cX1_splitOne 112 = .ok (.iload 4, 2) := by decide +kernel
theorem dX1_splitOne_114 : decode cX1_splitOne 114 = .ok (.iload 8, 2) := by decide +kernel
theorem dX1_splitOne_116 : decode cX1_splitOne 116 = .ok (.iload 6, 2) := by decide +kernel
theorem dX1_splitOne_118 : decode cX1_splitOne 118 = .ok (.invokevirtual 110, 3) := by decide +kernel
theorem dX1_splitOne_121 : decode cX1_splitOne 121 = .ok (.iload 9, 2) := by decide +kernel
theorem dX1_splitOne_123 : decode cX1_splitOne 123 = .ok (.ifCond .le 14, 3) := by decide +kernel
theorem dX1_splitOne_126 : decode cX1_splitOne 126 = .ok (.aload_n 0, 1) := by decide +kernel
theorem dX1_splitOne_127 : decode cX1_splitOne 127 = .ok (.iload_n 3, 1) := by decide +kernel
theorem dX1_splitOne_128 : decode cX1_splitOne 128 = .ok (.iload 4, 2) := by decide +kernel
theorem dX1_splitOne_130 : decode cX1_splitOne 130 = .ok (.iload 5, 2) := by decide +kernel
theorem dX1_splitOne_132 : decode cX1_splitOne 132 = .ok (.iload 9, 2) := by decide +kernel
theorem dX1_splitOne_134 : decode cX1_splitOne 134 = .ok (.invokevirtual 110, 3) := by decide +kernel
theorem dX1_splitOne_137 : decode cX1_splitOne 137 = .ok (.iload 10, 2) := by decide +kernel
theorem dX1_splitOne_139 : decode cX1_splitOne 139 = .ok (.ifCond .le 20, 3) := by decide +kernel
theorem dX1_splitOne_142 : decode cX1_splitOne 142 = .ok (.aload_n 0, 1) := by decide +kernel
theorem dX1_splitOne_143 : decode cX1_splitOne 143 = .ok (.iload_n 3, 1) := by decide +kernel
theorem dX1_splitOne_144 : decode cX1_splitOne 144 = .ok (.iload 4, 2) := by decide +kernel
theorem dX1_splitOne_146 : decode cX1_splitOne 146 = .ok (.iload 6, 2) := by decide +kernel
theorem dX1_splitOne_148 : decode cX1_splitOne 148 = .ok (.iadd, 1) := by decide +kernel
theorem dX1_splitOne_149 : decode cX1_splitOne 149 = .ok (.iload 10, 2) := by decide +kernel
theorem dX1_splitOne_151 : decode cX1_splitOne 151 = .ok (.isub, 1) := by decide +kernel
theorem dX1_splitOne_152 : decode cX1_splitOne 152 = .ok (.iload 5, 2) := by decide +kernel
theorem dX1_splitOne_154 : decode cX1_splitOne 154 = .ok (.iload 10, 2) := by decide +kernel
theorem dX1_splitOne_156 : decode cX1_splitOne 156 = .ok (.invokevirtual 110, 3) := by decide +kernel
theorem dX1_splitOne_159 : decode cX1_splitOne 159 = .ok (.return_, 1) := by decide +kernel
theorem dX1_offer_0 : decode cX1_offer 0 = .ok (.aload_n 0, 1) := by decide +kernel
theorem dX1_offer_1 : decode cX1_offer 1 = .ok (.iload_n 1, 1) := by decide +kernel
theorem dX1_offer_2 : decode cX1_offer 2 = .ok (.iload_n 2, 1) := by decide +kernel
theorem dX1_offer_3 : decode cX1_offer 3 = .ok (.iload_n 3, 1) := by decide +kernel
theorem dX1_offer_4 : decode cX1_offer 4 = .ok (.iload 4, 2) := by decide +kernel
theorem dX1_offer_6 : decode cX1_offer 6 = .ok (.invokevirtual 84, 3) := by decide +kernel
theorem dX1_offer_9 : decode cX1_offer 9 = .ok (.istore 5, 2) := by decide +kernel
theorem dX1_offer_11 : decode cX1_offer 11 = .ok (.aload_n 0, 1) := by decide +kernel
theorem dX1_offer_12 : decode cX1_offer 12 = .ok (.iload 5, 2) := by decide +kernel
theorem dX1_offer_14 : decode cX1_offer 14 = .ok (.invokevirtual 104, 3) := by decide +kernel
theorem dX1_offer_17 : decode cX1_offer 17 = .ok (.return_, 1) := by decide +kernel
theorem dX1_keepCandidate_0 : decode cX1_keepCandidate 0 = .ok (.aload_n 0, 1) := by decide +kernel
theorem dX1_keepCandidate_1 : decode cX1_keepCandidate 1 = .ok (.getfield 29, 3) := by decide +kernel
theorem dX1_keepCandidate_4 : decode cX1_keepCandidate 4 = .ok (.aload_n 0, 1) := by decide +kernel
theorem dX1_keepCandidate_5 : decode cX1_keepCandidate 5 = .ok (.getfield 94, 3) := by decide +kernel
theorem dX1_keepCandidate_8 : decode cX1_keepCandidate 8 = .ok (.iload_n 1, 1) := by decide +kernel
theorem dX1_keepCandidate_9 : decode cX1_keepCandidate 9 = .ok (.iastore, 1) := by decide +kernel
theorem dX1_keepCandidate_10 : decode cX1_keepCandidate 10 = .ok (.aload_n 0, 1) := by decide +kernel
theorem dX1_keepCandidate_11 : decode cX1_keepCandidate 11 = .ok (.dup, 1) := by decide +kernel
theorem dX1_keepCandidate_12 : decode cX1_keepCandidate 12 = .ok (.getfield 94, 3) := by decide +kernel
theorem dX1_keepCandidate_15 : decode cX1_keepCandidate 15 = .ok (.iconst 1, 1) := by decide +kernel
theorem dX1_keepCandidate_16 : decode cX1_keepCandidate 16 = .ok (.iadd, 1) := by decide +kernel
theorem dX1_keepCandidate_17 : decode cX1_keepCandidate 17 = .ok (.putfield 94, 3) := by decide +kernel
theorem dX1_keepCandidate_20 : decode cX1_keepCandidate 20 = .ok (.return_, 1) := by decide +kernel
theorem dX1_isCovered_0 : decode cX1_isCovered 0 = .ok (.aload_n 0, 1) := by decide +kernel
theorem dX1_isCovered_1 : decode cX1_isCovered 1 = .ok (.getfield 29, 3) := by decide +kernel
theorem dX1_isCovered_4 : decode cX1_isCovered 4 = .ok (.iload_n 1, 1) := by decide +kernel
theorem dX1_isCovered_5 : decode cX1_isCovered 5 = .ok (.iaload, 1) := by decide +kernel
theorem dX1_isCovered_6 : decode cX1_isCovered 6 = .ok (.istore_n 2, 1) := by decide +kernel
theorem dX1_isCovered_7 : decode cX1_isCovered 7 = .ok (.iconst 0, 1) := by decide +kernel
theorem dX1_isCovered_8 : decode cX1_isCovered 8 = .ok (.istore_n 3, 1) := by decide +kernel
theorem dX1_isCovered_9 : decode cX1_isCovered 9 = .ok (.iload_n 3, 1) := by decide +kernel
theorem dX1_isCovered_10 : decode cX1_isCovered 10 = .ok (.aload_n 0, 1) := by decide +kernel
theorem dX1_isCovered_11 : decode cX1_isCovered 11 = .ok (.getfield 94, 3) := by decide +kernel
theorem dX1_isCovered_14 : decode cX1_isCovered 14 = .ok (.if_icmp .ge 48, 3) := by decide +kernel
theorem dX1_isCovered_17 : decode cX1_isCovered 17 = .ok (.iload_n 3, 1) := by decide +kernel
theorem dX1_isCovered_18 : decode cX1_isCovered 18 = .ok (.iload_n 1, 1) := by decide +kernel
theorem dX1_isCovered_19 : decode cX1_isCovered 19 = .ok (.if_icmp .eq 37, 3) := by decide +kernel
theorem dX1_isCovered_22 : decode cX1_isCovered 22 = .ok (.aload_n 0, 1) := by decide +kernel
theorem dX1_isCovered_23 : decode cX1_isCovered 23 = .ok (.iload_n 2, 1) := by decide +kernel
theorem dX1_isCovered_24 : decode cX1_isCovered 24 = .ok (.aload_n 0, 1) := by decide +kernel
theorem dX1_isCovered_25 : decode cX1_isCovered 25 = .ok (.getfield 29, 3) := by decide +kernel
theorem dX1_isCovered_28 : decode cX1_isCovered 28 = .ok (.iload_n 3, 1) := by decide +kernel
theorem dX1_isCovered_29 : decode cX1_isCovered 29 = .ok (.iaload, 1) := by decide +kernel
theorem dX1_isCovered_30 : decode cX1_isCovered 30 = .ok (.invokevirtual 114, 3) := by decide +kernel
theorem dX1_isCovered_33 : decode cX1_isCovered 33 = .ok (.ifCond .ne 6, 3) := by decide +kernel
theorem dX1_isCovered_36 : decode cX1_isCovered 36 = .ok (.goto 20, 3) := by decide +kernel
theorem dX1_isCovered_39 : decode cX1_isCovered 39 = .ok (.aload_n 0, 1) := by decide +kernel
theorem dX1_isCovered_40 : decode cX1_isCovered 40 = .ok (.getfield 29, 3) := by decide +kernel
theorem dX1_isCovered_43 : decode cX1_isCovered 43 = .ok (.iload_n 3, 1) := by decide +kernel
theorem dX1_isCovered_44 : decode cX1_isCovered 44 = .ok (.iaload, 1) := by decide +kernel
theorem dX1_isCovered_45 : decode cX1_isCovered 45 = .ok (.iload_n 2, 1) := by decide +kernel
theorem dX1_isCovered_46 : decode cX1_isCovered 46 = .ok (.if_icmp .ne 8, 3) := by decide +kernel
theorem dX1_isCovered_49 : decode cX1_isCovered 49 = .ok (.iload_n 3, 1) := by decide +kernel
theorem dX1_isCovered_50 : decode cX1_isCovered 50 = .ok (.iload_n 1, 1) := by decide +kernel
theorem dX1_isCovered_51 : decode cX1_isCovered 51 = .ok (.if_icmp .ge 5, 3) := by decide +kernel
theorem dX1_isCovered_54 : decode cX1_isCovered 54 = .ok (.iconst 1, 1) := by decide +kernel
theorem dX1_isCovered_55 : decode cX1_isCovered 55 = .ok (.ireturn, 1) := by decide +kernel
theorem dX1_isCovered_56 : decode cX1_isCovered 56 = .ok (.iinc 3 1, 3) := by decide +kernel
theorem dX1_isCovered_59 : decode cX1_isCovered 59 = .ok (.goto (-50), 3) := by decide +kernel
theorem dX1_isCovered_62 : decode cX1_isCovered 62 = .ok (.iconst 0, 1) := by decide +kernel
theorem dX1_isCovered_63 : decode cX1_isCovered 63 = .ok (.ireturn, 1) := by decide +kernel
theorem dX1_inside_0 : decode cX1_inside 0 = .ok (.aload_n 0, 1) := by decide +kernel
theorem dX1_inside_1 : decode cX1_inside 1 = .ok (.iload_n 1, 1) := by decide +kernel
theorem dX1_inside_2 : decode cX1_inside 2 = .ok (.invokevirtual 91, 3) := by decide +kernel
theorem dX1_inside_5 : decode cX1_inside 5 = .ok (.aload_n 0, 1) := by decide +kernel
theorem dX1_inside_6 : decode cX1_inside 6 = .ok (.iload_n 2, 1) := by decide +kernel
theorem dX1_inside_7 : decode cX1_inside 7 = .ok (.invokevirtual 91, 3) := by decide +kernel
theorem dX1_inside_10 : decode cX1_inside 10 = .ok (.if_icmp .lt 16, 3) := by decide +kernel
theorem dX1_inside_13 : decode cX1_inside 13 = .ok (.aload_n 0, 1) := by decide +kernel
theorem dX1_inside_14 : decode cX1_inside 14 = .ok (.iload_n 1, 1) := by decide +kernel
theorem dX1_inside_15 : decode cX1_inside 15 = .ok (.invokevirtual 88, 3) := by decide +kernel
theorem dX1_inside_18 : decode cX1_inside 18 = .ok (.aload_n 0, 1) := by decide +kernel
theorem dX1_inside_19 : decode cX1_inside 19 = .ok (.iload_n 2, 1) := by decide +kernel
theorem dX1_inside_20 : decode cX1_inside 20 = .ok (.invokevirtual 88, 3) := by decide +kernel
theorem dX1_inside_23 : decode cX1_inside 23 = .ok (.if_icmp .ge 5, 3) := by decide +kernel
theorem dX1_inside_26 : decode cX1_inside 26 = .ok (.iconst 0, 1) := by decide +kernel
theorem dX1_inside_27 : decode cX1_inside 27 = .ok (.ireturn, 1) := by decide +kernel
theorem dX1_inside_28 : decode cX1_inside 28 = .ok (.aload_n 0, 1) := by decide +kernel
theorem dX1_inside_29 : decode cX1_inside 29 = .ok (.iload_n 1, 1) := by decide +kernel
theorem dX1_inside_30 : decode cX1_inside 30 = .ok (.invokevirtual 91, 3) := by decide +kernel
theorem dX1_inside_33 : decode cX1_inside 33 = .ok (.aload_n 0, 1) := by decide +kernel
theorem dX1_inside_34 : decode cX1_inside 34 = .ok (.iload_n 1, 1) := by decide +kernel
theorem dX1_inside_35 : decode cX1_inside 35 = .ok (.invokevirtual 77, 3) := by decide +kernel
theorem dX1_inside_38 : decode cX1_inside 38 = .ok (.iadd, 1) := by decide +kernel
theorem dX1_inside_39 : decode cX1_inside 39 = .ok (.aload_n 0, 1) := by decide +kernel
theorem dX1_inside_40 : decode cX1_inside 40 = .ok (.iload_n 2, 1) := by decide +kernel
theorem dX1_inside_41 : decode cX1_inside 41 = .ok (.invokevirtual 91, 3) := by decide +kernel
theorem dX1_inside_44 : decode cX1_inside 44 = .ok (.aload_n 0, 1) := by decide +kernel
theorem dX1_inside_45 : decode cX1_inside 45 = .ok (.iload_n 2, 1) := by decide +kernel
theorem dX1_inside_46 : decode cX1_inside 46 = .ok (.invokevirtual 77, 3) := by decide +kernel
theorem dX1_inside_49 : decode cX1_inside 49 = .ok (.iadd, 1) := by decide +kernel
theorem dX1_inside_50 : decode cX1_inside 50 = .ok (.if_icmp .le 5, 3) := by decide +kernel
theorem dX1_inside_53 : decode cX1_inside 53 = .ok (.iconst 0, 1) := by decide +kernel
theorem dX1_inside_54 : decode cX1_inside 54 = .ok (.ireturn, 1) := by decide +kernel
theorem dX1_inside_55 : decode cX1_inside 55 = .ok (.aload_n 0, 1) := by decide +kernel
theorem dX1_inside_56 : decode cX1_inside 56 = .ok (.iload_n 1, 1) := by decide +kernel
theorem dX1_inside_57 : decode cX1_inside 57 = .ok (.invokevirtual 88, 3) := by decide +kernel
theorem dX1_inside_60 : decode cX1_inside 60 = .ok (.aload_n 0, 1) := by decide +kernel
theorem dX1_inside_61 : decode cX1_inside 61 = .ok (.iload_n 1, 1) := by decide +kernel
theorem dX1_inside_62 : decode cX1_inside 62 = .ok (.invokevirtual 81, 3) := by decide +kernel
theorem dX1_inside_65 : decode cX1_inside 65 = .ok (.iadd, 1) := by decide +kernel
theorem dX1_inside_66 : decode cX1_inside 66 = .ok (.aload_n 0, 1) := by decide +kernel
theorem dX1_inside_67 : decode cX1_inside 67 = .ok (.iload_n 2, 1) := by decide +kernel
theorem dX1_inside_68 : decode cX1_inside 68 = .ok (.invokevirtual 88, 3) := by decide +kernel
theorem dX1_inside_71 : decode cX1_inside 71 = .ok (.aload_n 0, 1) := by decide +kernel
theorem dX1_inside_72 : decode cX1_inside 72 = .ok (.iload_n 2, 1) := by decide +kernel
theorem dX1_inside_73 : decode cX1_inside 73 = .ok (.invokevirtual 81, 3) := by decide +kernel
theorem dX1_inside_76 : decode cX1_inside 76 = .ok (.iadd, 1) := by decide +kernel
theorem dX1_inside_77 : decode cX1_inside 77 = .ok (.if_icmp .gt 7, 3) := by decide +kernel
theorem dX1_inside_80 : decode cX1_inside 80 = .ok (.iconst 1, 1) := by decide +kernel
theorem dX1_inside_81 : decode cX1_inside 81 = .ok (.goto 4, 3) := by decide +kernel
theorem dX1_inside_84 : decode cX1_inside 84 = .ok (.iconst 0, 1) := by decide +kernel
theorem dX1_inside_85 : decode cX1_inside 85 = .ok (.ireturn, 1) := by decide +kernel
theorem dX1_remove_0 : decode cX1_remove 0 = .ok (.aload_n 0, 1) := by decide +kernel
theorem dX1_remove_1 : decode cX1_remove 1 = .ok (.iload_n 1, 1) := by decide +kernel
theorem dX1_remove_2 : decode cX1_remove 2 = .ok (.invokevirtual 67, 3) := by decide +kernel
theorem dX1_remove_5 : decode cX1_remove 5 = .ok (.ifCond .ne 5, 3) := by decide +kernel
theorem dX1_remove_8 : decode cX1_remove 8 = .ok (.iconst (-1), 1) := by decide +kernel
theorem dX1_remove_9 : decode cX1_remove 9 = .ok (.ireturn, 1) := by decide +kernel
theorem dX1_remove_10 : decode cX1_remove 10 = .ok (.aload_n 0, 1) := by decide +kernel
theorem dX1_remove_11 : decode cX1_remove 11 = .ok (.iload_n 1, 1) := by decide +kernel
theorem dX1_remove_12 : decode cX1_remove 12 = .ok (.invokevirtual 60, 3) := by decide +kernel
theorem dX1_remove_15 : decode cX1_remove 15 = .ok (.aload_n 0, 1) := by decide +kernel
theorem dX1_remove_16 : decode cX1_remove 16 = .ok (.getfield 16, 3) := by decide +kernel
theorem dX1_remove_19 : decode cX1_remove 19 = .ok (.iload_n 1, 1) := by decide +kernel
theorem dX1_remove_20 : decode cX1_remove 20 = .ok (.iconst 0, 1) := by decide +kernel
theorem dX1_remove_21 : decode cX1_remove 21 = .ok (.bastore, 1) := by decide +kernel
theorem dX1_remove_22 : decode cX1_remove 22 = .ok (.aload_n 0, 1) := by decide +kernel
theorem dX1_remove_23 : decode cX1_remove 23 = .ok (.dup, 1) := by decide +kernel
theorem dX1_remove_24 : decode cX1_remove 24 = .ok (.getfield 53, 3) := by decide +kernel
theorem dX1_remove_27 : decode cX1_remove 27 = .ok (.iconst 1, 1) := by decide +kernel
theorem dX1_remove_28 : decode cX1_remove 28 = .ok (.isub, 1) := by decide +kernel
theorem dX1_remove_29 : decode cX1_remove 29 = .ok (.putfield 53, 3) := by decide +kernel
theorem dX1_remove_32 : decode cX1_remove 32 = .ok (.aload_n 0, 1) := by decide +kernel
theorem dX1_remove_33 : decode cX1_remove 33 = .ok (.invokevirtual 71, 3) := by decide +kernel
theorem dX1_remove_36 : decode cX1_remove 36 = .ok (.aload_n 0, 1) := by decide +kernel
theorem dX1_remove_37 : decode cX1_remove 37 = .ok (.getfield 53, 3) := by decide +kernel
theorem dX1_remove_40 : decode cX1_remove 40 = .ok (.ireturn, 1) := by decide +kernel
theorem dX1_isUsed_0 : decode cX1_isUsed 0 = .ok (.iload_n 1, 1) := by decide +kernel
theorem dX1_isUsed_1 : decode cX1_isUsed 1 = .ok (.ifCond .lt 22, 3) := by decide +kernel
theorem dX1_isUsed_4 : decode cX1_isUsed 4 = .ok (.iload_n 1, 1) := by decide +kernel
theorem dX1_isUsed_5 : decode cX1_isUsed 5 = .ok (.bipush 20, 2) := by decide +kernel
theorem dX1_isUsed_7 : decode cX1_isUsed 7 = .ok (.if_icmp .ge 16, 3) := by decide +kernel
theorem dX1_isUsed_10 : decode cX1_isUsed 10 = .ok (.aload_n 0, 1) := by decide +kernel
theorem dX1_isUsed_11 : decode cX1_isUsed 11 = .ok (.getfield 16, 3) := by decide +kernel
theorem dX1_isUsed_14 : decode cX1_isUsed 14 = .ok (.iload_n 1, 1) := by decide +kernel
theorem dX1_isUsed_15 : decode cX1_isUsed 15 = .ok (.baload, 1) := by decide +kernel
theorem dX1_isUsed_16 : decode cX1_isUsed 16 = .ok (.ifCond .eq 7, 3) := by decide +kernel
theorem dX1_isUsed_19 : decode cX1_isUsed 19 = .ok (.iconst 1, 1) := by decide +kernel
theorem dX1_isUsed_20 : decode cX1_isUsed 20 = .ok (.goto 4, 3) := by decide +kernel
theorem dX1_isUsed_23 : decode cX1_isUsed 23 = .ok (.iconst 0, 1) := by decide +kernel
theorem dX1_isUsed_24 : decode cX1_isUsed 24 = .ok (.ireturn, 1) := by decide +kernel
theorem dX1_findHoles_0 : decode cX1_findHoles 0 = .ok (.aload_n 0, 1) := by decide +kernel
theorem dX1_findHoles_1 : decode cX1_findHoles 1 = .ok (.iconst 0, 1) := by decide +kernel
theorem dX1_findHoles_2 : decode cX1_findHoles 2 = .ok (.putfield 74, 3) := by decide +kernel
theorem dX1_findHoles_5 : decode cX1_findHoles 5 = .ok (.iconst 0, 1) := by decide +kernel
theorem dX1_findHoles_6 : decode cX1_findHoles 6 = .ok (.istore_n 1, 1) := by decide +kernel
theorem dX1_findHoles_7 : decode cX1_findHoles 7 = .ok (.iload_n 1, 1) := by decide +kernel
theorem dX1_findHoles_8 : decode cX1_findHoles 8 = .ok (.aload_n 0, 1) := by decide +kernel
theorem dX1_findHoles_9 : decode cX1_findHoles 9 = .ok (.getfield 42, 3) := by decide +kernel
theorem dX1_findHoles_12 : decode cX1_findHoles 12 = .ok (.if_icmp .ge 14, 3) := by decide +kernel
theorem dX1_findHoles_15 : decode cX1_findHoles 15 = .ok (.aload_n 0, 1) := by decide +kernel
theorem dX1_findHoles_16 : decode cX1_findHoles 16 = .ok (.iload_n 1, 1) := by decide +kernel
theorem dX1_findHoles_17 : decode cX1_findHoles 17 = .ok (.invokevirtual 117, 3) := by decide +kernel
theorem dX1_findHoles_20 : decode cX1_findHoles 20 = .ok (.iinc 1 1, 3) := by decide +kernel
theorem dX1_findHoles_23 : decode cX1_findHoles 23 = .ok (.goto (-16), 3) := by decide +kernel
theorem dX1_findHoles_26 : decode cX1_findHoles 26 = .ok (.return_, 1) := by decide +kernel
end
section
set_option maxRecDepth 100000
theorem dX1_sweepFrom_0 : decode cX1_sweepFrom 0 = .ok (.iconst 0, 1) := by decide +kernel
theorem dX1_sweepFrom_1 : decode cX1_sweepFrom 1 = .ok (.istore_n 2, 1) := by decide +kernel
theorem dX1_sweepFrom_2 : decode cX1_sweepFrom 2 = .ok (.iconst 0, 1) := by decide +kernel
theorem dX1_sweepFrom_3 : decode cX1_sweepFrom 3 = .ok (.istore_n 3, 1) := by decide +kernel
theorem dX1_sweepFrom_4 : decode cX1_sweepFrom 4 = .ok (.iload_n 3, 1) := by decide +kernel
theorem dX1_sweepFrom_5 : decode cX1_sweepFrom 5 = .ok (.aload_n 0, 1) := by decide +kernel
theorem dX1_sweepFrom_6 : decode cX1_sweepFrom 6 = .ok (.getfield 38, 3) := by decide +kernel
theorem dX1_sweepFrom_9 : decode cX1_sweepFrom 9 = .ok (.if_icmp .gt 123, 3) := by decide +kernel
theorem dX1_sweepFrom_12 : decode cX1_sweepFrom 12 = .ok (.iload_n 3, 1) := by decide +kernel
theorem dX1_sweepFrom_13 : decode cX1_sweepFrom 13 = .ok (.aload_n 0, 1) := by decide +kernel
theorem dX1_sweepFrom_14 : decode cX1_sweepFrom 14 = .ok (.getfield 38, 3) := by decide +kernel
theorem dX1_sweepFrom_17 : decode cX1_sweepFrom 17 = .ok (.if_icmp .ge 12, 3) := by decide +kernel
theorem dX1_sweepFrom_20 : decode cX1_sweepFrom 20 = .ok (.aload_n 0, 1) := by decide +kernel
theorem dX1_sweepFrom_21 : decode cX1_sweepFrom 21 = .ok (.iload_n 3, 1) := by decide +kernel
theorem dX1_sweepFrom_22 : decode cX1_sweepFrom 22 = .ok (.iload_n 1, 1) := by decide +kernel
theorem dX1_sweepFrom_23 : decode cX1_sweepFrom 23 = .ok (.invokevirtual 120, 3) := by decide +kernel
theorem dX1_sweepFrom_26 : decode cX1_sweepFrom 26 = .ok (.goto 4, 3) := by decide +kernel
theorem dX1_sweepFrom_29 : decode cX1_sweepFrom 29 = .ok (.iconst 0, 1) := by decide +kernel
theorem dX1_sweepFrom_30 : decode cX1_sweepFrom 30 = .ok (.istore 4, 2) := by decide +kernel
theorem dX1_sweepFrom_32 : decode cX1_sweepFrom 32 = .ok (.iload_n 3, 1) := by decide +kernel
theorem dX1_sweepFrom_33 : decode cX1_sweepFrom 33 = .ok (.istore 5, 2) := by decide +kernel
theorem dX1_sweepFrom_35 : decode cX1_sweepFrom 35 = .ok (.iload_n 2, 1) := by decide +kernel
theorem dX1_sweepFrom_36 : decode cX1_sweepFrom 36 = .ok (.ifCond .le 47, 3) := by decide +kernel
theorem dX1_sweepFrom_39 : decode cX1_sweepFrom 39 = .ok (.aload_n 0, 1) := by decide +kernel
theorem dX1_sweepFrom_40 : decode cX1_sweepFrom 40 = .ok (.getfield 35, 3) := by decide +kernel
theorem dX1_sweepFrom_43 : decode cX1_sweepFrom 43 = .ok (.iload_n 2, 1) := by decide +kernel
theorem dX1_sweepFrom_44 : decode cX1_sweepFrom 44 = .ok (.iconst 1, 1) := by decide +kernel
theorem dX1_sweepFrom_45 : decode cX1_sweepFrom 45 = .ok (.isub, 1) := by decide +kernel
theorem dX1_sweepFrom_46 : decode cX1_sweepFrom 46 = .ok (.baload, 1) := by decide +kernel
theorem dX1_sweepFrom_47 : decode cX1_sweepFrom 47 = .ok (.iload 4, 2) := by decide +kernel
theorem dX1_sweepFrom_49 : decode cX1_sweepFrom 49 = .ok (.if_icmp .le 34, 3) := by decide +kernel
theorem dX1_sweepFrom_52 : decode cX1_sweepFrom 52 = .ok (.iinc 2 (-1), 3) := by decide +kernel
theorem dX1_sweepFrom_55 : decode cX1_sweepFrom 55 = .ok (.aload_n 0, 1) := by decide +kernel
theorem dX1_sweepFrom_56 : decode cX1_sweepFrom 56 = .ok (.getfield 32, 3) := by decide +kernel
theorem dX1_sweepFrom_59 : decode cX1_sweepFrom 59 = .ok (.iload_n 2, 1) := by decide +kernel
theorem dX1_sweepFrom_60 : decode cX1_sweepFrom 60 = .ok (.baload, 1) := by decide +kernel
theorem dX1_sweepFrom_61 : decode cX1_sweepFrom 61 = .ok (.istore 5, 2) := by decide +kernel
theorem dX1_sweepFrom_63 : decode cX1_sweepFrom 63 = .ok (.aload_n 0, 1) := by decide +kernel
theorem dX1_sweepFrom_64 : decode cX1_sweepFrom 64 = .ok (.iload 5, 2) := by decide +kernel
theorem dX1_sweepFrom_66 : decode cX1_sweepFrom 66 = .ok (.iload_n 1, 1) := by decide +kernel
theorem dX1_sweepFrom_67 : decode cX1_sweepFrom 67 = .ok (.iload_n 3, 1) := by decide +kernel
theorem dX1_sweepFrom_68 : decode cX1_sweepFrom 68 = .ok (.iload 5, 2) := by decide +kernel
theorem dX1_sweepFrom_70 : decode cX1_sweepFrom 70 = .ok (.isub, 1) := by decide +kernel
theorem dX1_sweepFrom_71 : decode cX1_sweepFrom 71 = .ok (.aload_n 0, 1) := by decide +kernel
theorem dX1_sweepFrom_72 : decode cX1_sweepFrom 72 = .ok (.getfield 35, 3) := by decide +kernel
theorem dX1_sweepFrom_75 : decode cX1_sweepFrom 75 = .ok (.iload_n 2, 1) := by decide +kernel
theorem dX1_sweepFrom_76 : decode cX1_sweepFrom 76 = .ok (.baload, 1) := by decide +kernel
theorem dX1_sweepFrom_77 : decode cX1_sweepFrom 77 = .ok (.invokevirtual 123, 3) := by decide +kernel
theorem dX1_sweepFrom_80 : decode cX1_sweepFrom 80 = .ok (.goto (-45), 3) := by decide +kernel
theorem dX1_sweepFrom_83 : decode cX1_sweepFrom 83 = .ok (.iload 4, 2) := by decide +kernel
theorem dX1_sweepFrom_85 : decode cX1_sweepFrom 85 = .ok (.ifCond .le 41, 3) := by decide +kernel
theorem dX1_sweepFrom_88 : decode cX1_sweepFrom 88 = .ok (.iload_n 2, 1) := by decide +kernel
theorem dX1_sweepFrom_89 : decode cX1_sweepFrom 89 = .ok (.ifCond .eq 16, 3) := by decide +kernel
theorem dX1_sweepFrom_92 : decode cX1_sweepFrom 92 = .ok (.aload_n 0, 1) := by decide +kernel
theorem dX1_sweepFrom_93 : decode cX1_sweepFrom 93 = .ok (.getfield 35, 3) := by decide +kernel
theorem dX1_sweepFrom_96 : decode cX1_sweepFrom 96 = .ok (.iload_n 2, 1) := by decide +kernel
theorem dX1_sweepFrom_97 : decode cX1_sweepFrom 97 = .ok (.iconst 1, 1) := by decide +kernel
theorem dX1_sweepFrom_98 : decode cX1_sweepFrom 98 = .ok (.isub, 1) := by decide +kernel
theorem dX1_sweepFrom_99 : decode cX1_sweepFrom 99 = .ok (.baload, 1) := by decide +kernel
theorem dX1_sweepFrom_100 : decode cX1_sweepFrom 100 = .ok (.iload 4, 2) := by decide +kernel
theorem dX1_sweepFrom_102 : decode cX1_sweepFrom 102 = .ok (.if_icmp .ge 24, 3) := by decide +kernel
theorem dX1_sweepFrom_105 : decode cX1_sweepFrom 105 = .ok (.aload_n 0, 1) := by decide +kernel
theorem dX1_sweepFrom_106 : decode cX1_sweepFrom 106 = .ok (.getfield 32, 3) := by decide +kernel
theorem dX1_sweepFrom_109 : decode cX1_sweepFrom 109 = .ok (.iload_n 2, 1) := by decide +kernel
theorem dX1_sweepFrom_110 : decode cX1_sweepFrom 110 = .ok (.iload 5, 2) := by decide +kernel
theorem dX1_sweepFrom_112 : decode cX1_sweepFrom 112 = .ok (.i2b, 1) := by decide +kernel
theorem dX1_sweepFrom_113 : decode cX1_sweepFrom 113 = .ok (.bastore, 1) := by decide +kernel
theorem dX1_sweepFrom_114 : decode cX1_sweepFrom 114 = .ok (.aload_n 0, 1) := by decide +kernel
theorem dX1_sweepFrom_115 : decode cX1_sweepFrom 115 = .ok (.getfield 35, 3) := by decide +kernel
theorem dX1_sweepFrom_118 : decode cX1_sweepFrom 118 = .ok (.iload_n 2, 1) := by decide +kernel
theorem dX1_sweepFrom_119 : decode cX1_sweepFrom 119 = .ok (.iload 4, 2) := by decide +kernel
theorem dX1_sweepFrom_121 : decode cX1_sweepFrom 121 = .ok (.i2b, 1) := by decide +kernel
theorem dX1_sweepFrom_122 : decode cX1_sweepFrom 122 = .ok (.bastore, 1) := by decide +kernel
theorem dX1_sweepFrom_123 : decode cX1_sweepFrom 123 = .ok (.iinc 2 1, 3) := by decide +kernel
theorem dX1_sweepFrom_126 : decode cX1_sweepFrom 126 = .ok (.iinc 3 1, 3) := by decide +kernel
theorem dX1_sweepFrom_129 : decode cX1_sweepFrom 129 = .ok (.goto (-125), 3) := by decide +kernel
theorem dX1_sweepFrom_132 : decode cX1_sweepFrom 132 = .ok (.return_, 1) := by decide +kernel
theorem dX1_heightAt_0 : decode cX1_heightAt 0 = .ok (.iload_n 2, 1) := by decide +kernel
theorem dX1_heightAt_1 : decode cX1_heightAt 1 = .ok (.istore_n 3, 1) := by decide +kernel
theorem dX1_heightAt_2 : decode cX1_heightAt 2 = .ok (.iload_n 3, 1) := by decide +kernel
theorem dX1_heightAt_3 : decode cX1_heightAt 3 = .ok (.aload_n 0, 1) := by decide +kernel
theorem dX1_heightAt_4 : decode cX1_heightAt 4 = .ok (.getfield 42, 3) := by decide +kernel
theorem dX1_heightAt_7 : decode cX1_heightAt 7 = .ok (.if_icmp .ge 22, 3) := by decide +kernel
theorem dX1_heightAt_10 : decode cX1_heightAt 10 = .ok (.aload_n 0, 1) := by decide +kernel
theorem dX1_heightAt_11 : decode cX1_heightAt 11 = .ok (.getfield 22, 3) := by decide +kernel
theorem dX1_heightAt_14 : decode cX1_heightAt 14 = .ok (.iload_n 3, 1) := by decide +kernel
theorem dX1_heightAt_15 : decode cX1_heightAt 15 = .ok (.iaload, 1) := by decide +kernel
theorem dX1_heightAt_16 : decode cX1_heightAt 16 = .ok (.iload_n 1, 1) := by decide +kernel
theorem dX1_heightAt_17 : decode cX1_heightAt 17 = .ok (.ishr, 1) := by decide +kernel
theorem dX1_heightAt_18 : decode cX1_heightAt 18 = .ok (.iconst 1, 1) := by decide +kernel
theorem dX1_heightAt_19 : decode cX1_heightAt 19 = .ok (.iand, 1) := by decide +kernel
theorem dX1_heightAt_20 : decode cX1_heightAt 20 = .ok (.ifCond .eq 9, 3) := by decide +kernel
theorem dX1_heightAt_23 : decode cX1_heightAt 23 = .ok (.iinc 3 1, 3) := by decide +kernel
theorem dX1_heightAt_26 : decode cX1_heightAt 26 = .ok (.goto (-24), 3) := by decide +kernel
theorem dX1_heightAt_29 : decode cX1_heightAt 29 = .ok (.iload_n 3, 1) := by decide +kernel
theorem dX1_heightAt_30 : decode cX1_heightAt 30 = .ok (.iload_n 2, 1) := by decide +kernel
theorem dX1_heightAt_31 : decode cX1_heightAt 31 = .ok (.isub, 1) := by decide +kernel
theorem dX1_heightAt_32 : decode cX1_heightAt 32 = .ok (.ireturn, 1) := by decide +kernel
theorem dX1_keepIfLowest_0 : decode cX1_keepIfLowest 0 = .ok (.iconst 1, 1) := by decide +kernel
theorem dX1_keepIfLowest_1 : decode cX1_keepIfLowest 1 = .ok (.iload_n 3, 1) := by decide +kernel
theorem dX1_keepIfLowest_2 : decode cX1_keepIfLowest 2 = .ok (.ishl, 1) := by decide +kernel
theorem dX1_keepIfLowest_3 : decode cX1_keepIfLowest 3 = .ok (.iconst 1, 1) := by decide +kernel
theorem dX1_keepIfLowest_4 : decode cX1_keepIfLowest 4 = .ok (.isub, 1) := by decide +kernel
theorem dX1_keepIfLowest_5 : decode cX1_keepIfLowest 5 = .ok (.iload_n 1, 1) := by decide +kernel
theorem dX1_keepIfLowest_6 : decode cX1_keepIfLowest 6 = .ok (.ishl, 1) := by decide +kernel
theorem dX1_keepIfLowest_7 : decode cX1_keepIfLowest 7 = .ok (.istore 5, 2) := by decide +kernel
theorem dX1_keepIfLowest_9 : decode cX1_keepIfLowest 9 = .ok (.iload_n 2, 1) := by decide +kernel
theorem dX1_keepIfLowest_10 : decode cX1_keepIfLowest 10 = .ok (.ifCond .le 20, 3) := by decide +kernel
theorem dX1_keepIfLowest_13 : decode cX1_keepIfLowest 13 = .ok (.aload_n 0, 1) := by decide +kernel
theorem dX1_keepIfLowest_14 : decode cX1_keepIfLowest 14 = .ok (.getfield 22, 3) := by decide +kernel
theorem dX1_keepIfLowest_17 : decode cX1_keepIfLowest 17 = .ok (.iload_n 2, 1) := by decide +kernel
theorem dX1_keepIfLowest_18 : decode cX1_keepIfLowest 18 = .ok (.iconst 1, 1) := by decide +kernel
theorem dX1_keepIfLowest_19 : decode cX1_keepIfLowest 19 = .ok (.isub, 1) := by decide +kernel
theorem dX1_keepIfLowest_20 : decode cX1_keepIfLowest 20 = .ok (.iaload, 1) := by decide +kernel
theorem dX1_keepIfLowest_21 : decode cX1_keepIfLowest 21 = .ok (.iload 5, 2) := by decide +kernel
theorem dX1_keepIfLowest_23 : decode cX1_keepIfLowest 23 = .ok (.iand, 1) := by decide +kernel
theorem dX1_keepIfLowest_24 : decode cX1_keepIfLowest 24 = .ok (.iload 5, 2) := by decide +kernel
theorem dX1_keepIfLowest_26 : decode cX1_keepIfLowest 26 = .ok (.if_icmp .ne 4, 3) := by decide +kernel
theorem dX1_keepIfLowest_29 : decode cX1_keepIfLowest 29 = .ok (.return_, 1) := by decide +kernel
theorem dX1_keepIfLowest_30 : decode cX1_keepIfLowest 30 = .ok (.aload_n 0, 1) := by decide +kernel
theorem dX1_keepIfLowest_31 : decode cX1_keepIfLowest 31 = .ok (.getfield 26, 3) := by decide +kernel
theorem dX1_keepIfLowest_34 : decode cX1_keepIfLowest 34 = .ok (.aload_n 0, 1) := by decide +kernel
theorem dX1_keepIfLowest_35 : decode cX1_keepIfLowest 35 = .ok (.getfield 74, 3) := by decide +kernel
theorem dX1_keepIfLowest_38 : decode cX1_keepIfLowest 38 = .ok (.aload_n 0, 1) := by decide +kernel
theorem dX1_keepIfLowest_39 : decode cX1_keepIfLowest 39 = .ok (.iload_n 1, 1) := by decide +kernel
theorem dX1_keepIfLowest_40 : decode cX1_keepIfLowest 40 = .ok (.iload_n 2, 1) := by decide +kernel
theorem dX1_keepIfLowest_41 : decode cX1_keepIfLowest 41 = .ok (.iload_n 3, 1) := by decide +kernel
theorem dX1_keepIfLowest_42 : decode cX1_keepIfLowest 42 = .ok (.iload 4, 2) := by decide +kernel
theorem dX1_keepIfLowest_44 : decode cX1_keepIfLowest 44 = .ok (.invokevirtual 84, 3) := by decide +kernel
theorem dX1_keepIfLowest_47 : decode cX1_keepIfLowest 47 = .ok (.iastore, 1) := by decide +kernel
theorem dX1_keepIfLowest_48 : decode cX1_keepIfLowest 48 = .ok (.aload_n 0, 1) := by decide +kernel
theorem dX1_keepIfLowest_49 : decode cX1_keepIfLowest 49 = .ok (.dup, 1) := by decide +kernel
theorem dX1_keepIfLowest_50 : decode cX1_keepIfLowest 50 = .ok (.getfield 74, 3) := by decide +kernel
theorem dX1_keepIfLowest_53 : decode cX1_keepIfLowest 53 = .ok (.iconst 1, 1) := by decide +kernel
theorem dX1_keepIfLowest_54 : decode cX1_keepIfLowest 54 = .ok (.iadd, 1) := by decide +kernel
theorem dX1_keepIfLowest_55 : decode cX1_keepIfLowest 55 = .ok (.putfield 74, 3) := by decide +kernel
theorem dX1_keepIfLowest_58 : decode cX1_keepIfLowest 58 = .ok (.return_, 1) := by decide +kernel
theorem dX1_look_0 : decode cX1_look 0 = .ok (.aload_n 0, 1) := by decide +kernel
theorem dX1_look_1 : decode cX1_look 1 = .ok (.iload_n 1, 1) := by decide +kernel
theorem dX1_look_2 : decode cX1_look 2 = .ok (.invokevirtual 67, 3) := by decide +kernel
theorem dX1_look_5 : decode cX1_look 5 = .ok (.ifCond .ne 5, 3) := by decide +kernel
theorem dX1_look_8 : decode cX1_look 8 = .ok (.iconst (-1), 1) := by decide +kernel
theorem dX1_look_9 : decode cX1_look 9 = .ok (.ireturn, 1) := by decide +kernel
theorem dX1_look_10 : decode cX1_look 10 = .ok (.iload_n 2, 1) := by decide +kernel
theorem dX1_look_11 : decode cX1_look 11 = .ok (.ifCond .ne 10, 3) := by decide +kernel
theorem dX1_look_14 : decode cX1_look 14 = .ok (.aload_n 0, 1) := by decide +kernel
theorem dX1_look_15 : decode cX1_look 15 = .ok (.getfield 7, 3) := by decide +kernel
theorem dX1_look_18 : decode cX1_look 18 = .ok (.iload_n 1, 1) := by decide +kernel
theorem dX1_look_19 : decode cX1_look 19 = .ok (.baload, 1) := by decide +kernel
theorem dX1_look_20 : decode cX1_look 20 = .ok (.ireturn, 1) := by decide +kernel
theorem dX1_look_21 : decode cX1_look 21 = .ok (.iload_n 2, 1) := by decide +kernel
theorem dX1_look_22 : decode cX1_look 22 = .ok (.iconst 1, 1) := by decide +kernel
theorem dX1_look_23 : decode cX1_look 23 = .ok (.if_icmp .ne 10, 3) := by decide +kernel
theorem dX1_look_26 : decode cX1_look 26 = .ok (.aload_n 0, 1) := by decide +kernel
theorem dX1_look_27 : decode cX1_look 27 = .ok (.getfield 13, 3) := by decide +kernel
theorem dX1_look_30 : decode cX1_look 30 = .ok (.iload_n 1, 1) := by decide +kernel
theorem dX1_look_31 : decode cX1_look 31 = .ok (.baload, 1) := by decide +kernel
theorem dX1_look_32 : decode cX1_look 32 = .ok (.ireturn, 1) := by decide +kernel
theorem dX1_look_33 : decode cX1_look 33 = .ok (.iload_n 2, 1) := by decide +kernel
theorem dX1_look_34 : decode cX1_look 34 = .ok (.iconst 2, 1) := by decide +kernel
theorem dX1_look_35 : decode cX1_look 35 = .ok (.if_icmp .ne 10, 3) := by decide +kernel
theorem dX1_look_38 : decode cX1_look 38 = .ok (.aload_n 0, 1) := by decide +kernel
theorem dX1_look_39 : decode cX1_look 39 = .ok (.getfield 16, 3) := by decide +kernel
theorem dX1_look_42 : decode cX1_look 42 = .ok (.iload_n 1, 1) := by decide +kernel
theorem dX1_look_43 : decode cX1_look 43 = .ok (.baload, 1) := by decide +kernel
theorem dX1_look_44 : decode cX1_look 44 = .ok (.ireturn, 1) := by decide +kernel
theorem dX1_look_45 : decode cX1_look 45 = .ok (.iload_n 2, 1) := by decide +kernel
theorem dX1_look_46 : decode cX1_look 46 = .ok (.iconst 3, 1) := by decide +kernel
theorem dX1_look_47 : decode cX1_look 47 = .ok (.if_icmp .ne 12, 3) := by decide +kernel
theorem dX1_look_50 : decode cX1_look 50 = .ok (.aload_n 0, 1) := by decide +kernel
theorem dX1_look_51 : decode cX1_look 51 = .ok (.getfield 19, 3) := by decide +kernel
theorem dX1_look_54 : decode cX1_look 54 = .ok (.iload_n 1, 1) := by decide +kernel
theorem dX1_look_55 : decode cX1_look 55 = .ok (.baload, 1) := by decide +kernel
theorem dX1_look_56 : decode cX1_look 56 = .ok (.goto 4, 3) := by decide +kernel
theorem dX1_look_59 : decode cX1_look 59 = .ok (.iconst (-1), 1) := by decide +kernel
theorem dX1_look_60 : decode cX1_look 60 = .ok (.ireturn, 1) := by decide +kernel
theorem dX1_owner_0 : decode cX1_owner 0 = .ok (.iload_n 1, 1) := by decide +kernel
theorem dX1_owner_1 : decode cX1_owner 1 = .ok (.ifCond .lt 23, 3) := by decide +kernel
theorem dX1_owner_4 : decode cX1_owner 4 = .ok (.iload_n 1, 1) := by decide +kernel
theorem dX1_owner_5 : decode cX1_owner 5 = .ok (.aload_n 0, 1) := by decide +kernel
theorem dX1_owner_6 : decode cX1_owner 6 = .ok (.getfield 38, 3) := by decide +kernel
theorem dX1_owner_9 : decode cX1_owner 9 = .ok (.if_icmp .ge 15, 3) := by decide +kernel
theorem dX1_owner_12 : decode cX1_owner 12 = .ok (.iload_n 2, 1) := by decide +kernel
theorem dX1_owner_13 : decode cX1_owner 13 = .ok (.ifCond .lt 11, 3) := by decide +kernel
theorem dX1_owner_16 : decode cX1_owner 16 = .ok (.iload_n 2, 1) := by decide +kernel
theorem dX1_owner_17 : decode cX1_owner 17 = .ok (.aload_n 0, 1) := by decide +kernel
theorem dX1_owner_18 : decode cX1_owner 18 = .ok (.getfield 42, 3) := by decide +kernel
theorem dX1_owner_21 : decode cX1_owner 21 = .ok (.if_icmp .lt 5, 3) := by decide +kernel
theorem dX1_owner_24 : decode cX1_owner 24 = .ok (.iconst (-1), 1) := by decide +kernel
theorem dX1_owner_25 : decode cX1_owner 25 = .ok (.ireturn, 1) := by decide +kernel
theorem dX1_owner_26 : decode cX1_owner 26 = .ok (.iconst 0, 1) := by decide +kernel
theorem dX1_owner_27 : decode cX1_owner 27 = .ok (.istore_n 3, 1) := by decide +kernel
theorem dX1_owner_28 : decode cX1_owner 28 = .ok (.iload_n 3, 1) := by decide +kernel
theorem dX1_owner_29 : decode cX1_owner 29 = .ok (.bipush 20, 2) := by decide +kernel
theorem dX1_owner_31 : decode cX1_owner 31 = .ok (.if_icmp .ge 77, 3) := by decide +kernel
theorem dX1_owner_34 : decode cX1_owner 34 = .ok (.aload_n 0, 1) := by decide +kernel
theorem dX1_owner_35 : decode cX1_owner 35 = .ok (.getfield 16, 3) := by decide +kernel
theorem dX1_owner_38 : decode cX1_owner 38 = .ok (.iload_n 3, 1) := by decide +kernel
theorem dX1_owner_39 : decode cX1_owner 39 = .ok (.baload, 1) := by decide +kernel
theorem dX1_owner_40 : decode cX1_owner 40 = .ok (.ifCond .eq 62, 3) := by decide +kernel
theorem dX1_owner_43 : decode cX1_owner 43 = .ok (.iload_n 1, 1) := by decide +kernel
theorem dX1_owner_44 : decode cX1_owner 44 = .ok (.aload_n 0, 1) := by decide +kernel
theorem dX1_owner_45 : decode cX1_owner 45 = .ok (.getfield 7, 3) := by decide +kernel
theorem dX1_owner_48 : decode cX1_owner 48 = .ok (.iload_n 3, 1) := by decide +kernel
theorem dX1_owner_49 : decode cX1_owner 49 = .ok (.baload, 1) := by decide +kernel
theorem dX1_owner_50 : decode cX1_owner 50 = .ok (.if_icmp .lt 52, 3) := by decide +kernel
theorem dX1_owner_53 : decode cX1_owner 53 = .ok (.iload_n 2, 1) := by decide +kernel
theorem dX1_owner_54 : decode cX1_owner 54 = .ok (.aload_n 0, 1) := by decide +kernel
theorem dX1_owner_55 : decode cX1_owner 55 = .ok (.getfield 13, 3) := by decide +kernel
theorem dX1_owner_58 : decode cX1_owner 58 = .ok (.iload_n 3, 1) := by decide +kernel
theorem dX1_owner_59 : decode cX1_owner 59 = .ok (.baload, 1) := by decide +kernel
theorem dX1_owner_60 : decode cX1_owner 60 = .ok (.if_icmp .ge 6, 3) := by decide +kernel
theorem dX1_owner_63 : decode cX1_owner 63 = .ok (.goto 39, 3) := by decide +kernel
theorem dX1_owner_66 : decode cX1_owner 66 = .ok (.iload_n 1, 1) := by decide +kernel
theorem dX1_owner_67 : decode cX1_owner 67 = .ok (.aload_n 0, 1) := by decide +kernel
theorem dX1_owner_68 : decode cX1_owner 68 = .ok (.getfield 7, 3) := by decide +kernel
theorem dX1_owner_71 : decode cX1_owner 71 = .ok (.iload_n 3, 1) := by decide +kernel
theorem dX1_owner_72 : decode cX1_owner 72 = .ok (.baload, 1) := by decide +kernel
theorem dX1_owner_73 : decode cX1_owner 73 = .ok (.aload_n 0, 1) := by decide +kernel
theorem dX1_owner_74 : decode cX1_owner 74 = .ok (.getfield 16, 3) := by decide +kernel
theorem dX1_owner_77 : decode cX1_owner 77 = .ok (.iload_n 3, 1) := by decide +kernel
theorem dX1_owner_78 : decode cX1_owner 78 = .ok (.baload, 1) := by decide +kernel
theorem dX1_owner_79 : decode cX1_owner 79 = .ok (.iadd, 1) := by decide +kernel
theorem dX1_owner_80 : decode cX1_owner 80 = .ok (.if_icmp .ge 22, 3) := by decide +kernel
theorem dX1_owner_83 : decode cX1_owner 83 = .ok (.iload_n 2, 1) := by decide +kernel
theorem dX1_owner_84 : decode cX1_owner 84 = .ok (.aload_n 0, 1) := by decide +kernel
theorem dX1_owner_85 : decode cX1_owner 85 = .ok (.getfield 13, 3) := by decide +kernel
theorem dX1_owner_88 : decode cX1_owner 88 = .ok (.iload_n 3, 1) := by decide +kernel
theorem dX1_owner_89 : decode cX1_owner 89 = .ok (.baload, 1) := by decide +kernel
theorem dX1_owner_90 : decode cX1_owner 90 = .ok (.aload_n 0, 1) := by decide +kernel
theorem dX1_owner_91 : decode cX1_owner 91 = .ok (.getfield 19, 3) := by decide +kernel
theorem dX1_owner_94 : decode cX1_owner 94 = .ok (.iload_n 3, 1) := by decide +kernel
theorem dX1_owner_95 : decode cX1_owner 95 = .ok (.baload, 1) := by decide +kernel
theorem dX1_owner_96 : decode cX1_owner 96 = .ok (.iadd, 1) := by decide +kernel
theorem dX1_owner_97 : decode cX1_owner 97 = .ok (.if_icmp .ge 5, 3) := by decide +kernel
theorem dX1_owner_100 : decode cX1_owner 100 = .ok (.iload_n 3, 1) := by decide +kernel
theorem dX1_owner_101 : decode cX1_owner 101 = .ok (.ireturn, 1) := by decide +kernel
theorem dX1_owner_102 : decode cX1_owner 102 = .ok (.iinc 3 1, 3) := by decide +kernel
theorem dX1_owner_105 : decode cX1_owner 105 = .ok (.goto (-77), 3) := by decide +kernel
theorem dX1_owner_108 : decode cX1_owner 108 = .ok (.bipush (-3), 2) := by decide +kernel
theorem dX1_owner_110 : decode cX1_owner 110 = .ok (.ireturn, 1) := by decide +kernel
theorem dX1_freeCells_0 : decode cX1_freeCells 0 = .ok (.aload_n 0, 1) := by decide +kernel
theorem dX1_freeCells_1 : decode cX1_freeCells 1 = .ok (.getfield 38, 3) := by decide +kernel
theorem dX1_freeCells_4 : decode cX1_freeCells 4 = .ok (.aload_n 0, 1) := by decide +kernel
theorem dX1_freeCells_5 : decode cX1_freeCells 5 = .ok (.getfield 42, 3) := by decide +kernel
theorem dX1_freeCells_8 : decode cX1_freeCells 8 = .ok (.imul, 1) := by decide +kernel
theorem dX1_freeCells_9 : decode cX1_freeCells 9 = .ok (.istore_n 1, 1) := by decide +kernel
theorem dX1_freeCells_10 : decode cX1_freeCells 10 = .ok (.iconst 0, 1) := by decide +kernel
theorem dX1_freeCells_11 : decode cX1_freeCells 11 = .ok (.istore_n 2, 1) := by decide +kernel
theorem dX1_freeCells_12 : decode cX1_freeCells 12 = .ok (.iload_n 2, 1) := by decide +kernel
theorem dX1_freeCells_13 : decode cX1_freeCells 13 = .ok (.bipush 20, 2) := by decide +kernel
theorem dX1_freeCells_15 : decode cX1_freeCells 15 = .ok (.if_icmp .ge 34, 3) := by decide +kernel
theorem dX1_freeCells_18 : decode cX1_freeCells 18 = .ok (.aload_n 0, 1) := by decide +kernel
theorem dX1_freeCells_19 : decode cX1_freeCells 19 = .ok (.getfield 16, 3) := by decide +kernel
theorem dX1_freeCells_22 : decode cX1_freeCells 22 = .ok (.iload_n 2, 1) := by decide +kernel
theorem dX1_freeCells_23 : decode cX1_freeCells 23 = .ok (.baload, 1) := by decide +kernel
theorem dX1_freeCells_24 : decode cX1_freeCells 24 = .ok (.ifCond .eq 19, 3) := by decide +kernel
theorem dX1_freeCells_27 : decode cX1_freeCells 27 = .ok (.iload_n 1, 1) := by decide +kernel
theorem dX1_freeCells_28 : decode cX1_freeCells 28 = .ok (.aload_n 0, 1) := by decide +kernel
theorem dX1_freeCells_29 : decode cX1_freeCells 29 = .ok (.getfield 16, 3) := by decide +kernel
theorem dX1_freeCells_32 : decode cX1_freeCells 32 = .ok (.iload_n 2, 1) := by decide +kernel
theorem dX1_freeCells_33 : decode cX1_freeCells 33 = .ok (.baload, 1) := by decide +kernel
theorem dX1_freeCells_34 : decode cX1_freeCells 34 = .ok (.aload_n 0, 1) := by decide +kernel
theorem dX1_freeCells_35 : decode cX1_freeCells 35 = .ok (.getfield 19, 3) := by decide +kernel
theorem dX1_freeCells_38 : decode cX1_freeCells 38 = .ok (.iload_n 2, 1) := by decide +kernel
theorem dX1_freeCells_39 : decode cX1_freeCells 39 = .ok (.baload, 1) := by decide +kernel
theorem dX1_freeCells_40 : decode cX1_freeCells 40 = .ok (.imul, 1) := by decide +kernel
theorem dX1_freeCells_41 : decode cX1_freeCells 41 = .ok (.isub, 1) := by decide +kernel
theorem dX1_freeCells_42 : decode cX1_freeCells 42 = .ok (.istore_n 1, 1) := by decide +kernel
theorem dX1_freeCells_43 : decode cX1_freeCells 43 = .ok (.iinc 2 1, 3) := by decide +kernel
theorem dX1_freeCells_46 : decode cX1_freeCells 46 = .ok (.goto (-34), 3) := by decide +kernel
theorem dX1_freeCells_49 : decode cX1_freeCells 49 = .ok (.iload_n 1, 1) := by decide +kernel
theorem dX1_freeCells_50 : decode cX1_freeCells 50 = .ok (.ireturn, 1) := by decide +kernel
theorem dX1_holes_0 : decode cX1_holes 0 = .ok (.aload_n 0, 1) := by decide +kernel
theorem dX1_holes_1 : decode cX1_holes 1 = .ok (.getfield 74, 3) := by decide +kernel
theorem dX1_holes_4 : decode cX1_holes 4 = .ok (.ireturn, 1) := by decide +kernel
theorem dX1_largestHole_0 : decode cX1_largestHole 0 = .ok (.iconst 0, 1) := by decide +kernel
theorem dX1_largestHole_1 : decode cX1_largestHole 1 = .ok (.istore_n 1, 1) := by decide +kernel
theorem dX1_largestHole_2 : decode cX1_largestHole 2 = .ok (.iconst 0, 1) := by decide +kernel
theorem dX1_largestHole_3 : decode cX1_largestHole 3 = .ok (.istore_n 2, 1) := by decide +kernel
theorem dX1_largestHole_4 : decode cX1_largestHole 4 = .ok (.iload_n 2, 1) := by decide +kernel
theorem dX1_largestHole_5 : decode cX1_largestHole 5 = .ok (.aload_n 0, 1) := by decide +kernel
theorem dX1_largestHole_6 : decode cX1_largestHole 6 = .ok (.getfield 74, 3) := by decide +kernel
theorem dX1_largestHole_9 : decode cX1_largestHole 9 = .ok (.if_icmp .ge 38, 3) := by decide +kernel
theorem dX1_largestHole_12 : decode cX1_largestHole 12 = .ok (.aload_n 0, 1) := by decide +kernel
theorem dX1_largestHole_13 : decode cX1_largestHole 13 = .ok (.aload_n 0, 1) := by decide +kernel
theorem dX1_largestHole_14 : decode cX1_largestHole 14 = .ok (.getfield 26, 3) := by decide +kernel
theorem dX1_largestHole_17 : decode cX1_largestHole 17 = .ok (.iload_n 2, 1) := by decide +kernel
theorem dX1_largestHole_18 : decode cX1_largestHole 18 = .ok (.iaload, 1) := by decide +kernel
theorem dX1_largestHole_19 : decode cX1_largestHole 19 = .ok (.invokevirtual 77, 3) := by decide +kernel
theorem dX1_largestHole_22 : decode cX1_largestHole 22 = .ok (.aload_n 0, 1) := by decide +kernel
theorem dX1_largestHole_23 : decode cX1_largestHole 23 = .ok (.aload_n 0, 1) := by decide +kernel
theorem dX1_largestHole_24 : decode cX1_largestHole 24 = .ok (.getfield 26, 3) := by decide +kernel
theorem dX1_largestHole_27 : decode cX1_largestHole 27 = .ok (.iload_n 2, 1) := by decide +kernel
theorem dX1_largestHole_28 : decode cX1_largestHole 28 = .ok (.iaload, 1) := by decide +kernel
theorem dX1_largestHole_29 : decode cX1_largestHole 29 = .ok (.invokevirtual 81, 3) := by decide +kernel
theorem dX1_largestHole_32 : decode cX1_largestHole 32 = .ok (.imul, 1) := by decide +kernel
theorem dX1_largestHole_33 : decode cX1_largestHole 33 = .ok (.istore_n 3, 1) := by decide +kernel
theorem dX1_largestHole_34 : decode cX1_largestHole 34 = .ok (.iload_n 3, 1) := by decide +kernel
theorem dX1_largestHole_35 : decode cX1_largestHole 35 = .ok (.iload_n 1, 1) := by decide +kernel
theorem dX1_largestHole_36 : decode cX1_largestHole 36 = .ok (.if_icmp .le 5, 3) := by decide +kernel
theorem dX1_largestHole_39 : decode cX1_largestHole 39 = .ok (.iload_n 3, 1) := by decide +kernel
theorem dX1_largestHole_40 : decode cX1_largestHole 40 = .ok (.istore_n 1, 1) := by decide +kernel
theorem dX1_largestHole_41 : decode cX1_largestHole 41 = .ok (.iinc 2 1, 3) := by decide +kernel
theorem dX1_largestHole_44 : decode cX1_largestHole 44 = .ok (.goto (-40), 3) := by decide +kernel
theorem dX1_largestHole_47 : decode cX1_largestHole 47 = .ok (.iload_n 1, 1) := by decide +kernel
theorem dX1_largestHole_48 : decode cX1_largestHole 48 = .ok (.ireturn, 1) := by decide +kernel
theorem dX1_bestPlace_0 : decode cX1_bestPlace 0 = .ok (.aload_n 0, 1) := by decide +kernel
theorem dX1_bestPlace_1 : decode cX1_bestPlace 1 = .ok (.iload_n 1, 1) := by decide +kernel
theorem dX1_bestPlace_2 : decode cX1_bestPlace 2 = .ok (.iload_n 2, 1) := by decide +kernel
theorem dX1_bestPlace_3 : decode cX1_bestPlace 3 = .ok (.invokevirtual 49, 3) := by decide +kernel
theorem dX1_bestPlace_6 : decode cX1_bestPlace 6 = .ok (.ifCond .eq 12, 3) := by decide +kernel
theorem dX1_bestPlace_9 : decode cX1_bestPlace 9 = .ok (.aload_n 0, 1) := by decide +kernel
theorem dX1_bestPlace_10 : decode cX1_bestPlace 10 = .ok (.iload_n 1, 1) := by decide +kernel
theorem dX1_bestPlace_11 : decode cX1_bestPlace 11 = .ok (.iload_n 2, 1) := by decide +kernel
theorem dX1_bestPlace_12 : decode cX1_bestPlace 12 = .ok (.invokevirtual 56, 3) := by decide +kernel
theorem dX1_bestPlace_15 : decode cX1_bestPlace 15 = .ok (.goto 4, 3) := by decide +kernel
theorem dX1_bestPlace_18 : decode cX1_bestPlace 18 = .ok (.iconst (-1), 1) := by decide +kernel
theorem dX1_bestPlace_19 : decode cX1_bestPlace 19 = .ok (.ireturn, 1) := by decide +kernel
theorem dX1_fitting_0 : decode cX1_fitting 0 = .ok (.iconst 0, 1) := by decide +kernel
theorem dX1_fitting_1 : decode cX1_fitting 1 = .ok (.istore_n 1, 1) := by decide +kernel
theorem dX1_fitting_2 : decode cX1_fitting 2 = .ok (.iconst 1, 1) := by decide +kernel
theorem dX1_fitting_3 : decode cX1_fitting 3 = .ok (.istore_n 2, 1) := by decide +kernel
theorem dX1_fitting_4 : decode cX1_fitting 4 = .ok (.iload_n 2, 1) := by decide +kernel
theorem dX1_fitting_5 : decode cX1_fitting 5 = .ok (.bipush 16, 2) := by decide +kernel
theorem dX1_fitting_7 : decode cX1_fitting 7 = .ok (.if_icmp .gt 75, 3) := by decide +kernel
theorem dX1_fitting_10 : decode cX1_fitting 10 = .ok (.iconst 0, 1) := by decide +kernel
theorem dX1_fitting_11 : decode cX1_fitting 11 = .ok (.istore_n 3, 1) := by decide +kernel
theorem dX1_fitting_12 : decode cX1_fitting 12 = .ok (.iconst 0, 1) := by decide +kernel
theorem dX1_fitting_13 : decode cX1_fitting 13 = .ok (.istore 4, 2) := by decide +kernel
theorem dX1_fitting_15 : decode cX1_fitting 15 = .ok (.iload 4, 2) := by decide +kernel
theorem dX1_fitting_17 : decode cX1_fitting 17 = .ok (.aload_n 0, 1) := by decide +kernel
theorem dX1_fitting_18 : decode cX1_fitting 18 = .ok (.getfield 74, 3) := by decide +kernel
theorem dX1_fitting_21 : decode cX1_fitting 21 = .ok (.if_icmp .ge 51, 3) := by decide +kernel
theorem dX1_fitting_24 : decode cX1_fitting 24 = .ok (.aload_n 0, 1) := by decide +kernel
theorem dX1_fitting_25 : decode cX1_fitting 25 = .ok (.aload_n 0, 1) := by decide +kernel
theorem dX1_fitting_26 : decode cX1_fitting 26 = .ok (.getfield 26, 3) := by decide +kernel
theorem dX1_fitting_29 : decode cX1_fitting 29 = .ok (.iload 4, 2) := by decide +kernel
theorem dX1_fitting_31 : decode cX1_fitting 31 = .ok (.iaload, 1) := by decide +kernel
theorem dX1_fitting_32 : decode cX1_fitting 32 = .ok (.invokevirtual 77, 3) := by decide +kernel
theorem dX1_fitting_35 : decode cX1_fitting 35 = .ok (.iload_n 2, 1) := by decide +kernel
theorem dX1_fitting_36 : decode cX1_fitting 36 = .ok (.if_icmp .lt 30, 3) := by decide +kernel
theorem dX1_fitting_39 : decode cX1_fitting 39 = .ok (.aload_n 0, 1) := by decide +kernel
theorem dX1_fitting_40 : decode cX1_fitting 40 = .ok (.aload_n 0, 1) := by decide +kernel
theorem dX1_fitting_41 : decode cX1_fitting 41 = .ok (.getfield 26, 3) := by decide +kernel
theorem dX1_fitting_44 : decode cX1_fitting 44 = .ok (.iload 4, 2) := by decide +kernel
theorem dX1_fitting_46 : decode cX1_fitting 46 = .ok (.iaload, 1) := by decide +kernel
theorem dX1_fitting_47 : decode cX1_fitting 47 = .ok (.invokevirtual 81, 3) := by decide +kernel
theorem dX1_fitting_50 : decode cX1_fitting 50 = .ok (.iload_n 3, 1) := by decide +kernel
theorem dX1_fitting_51 : decode cX1_fitting 51 = .ok (.if_icmp .le 15, 3) := by decide +kernel
theorem dX1_fitting_54 : decode cX1_fitting 54 = .ok (.aload_n 0, 1) := by decide +kernel
theorem dX1_fitting_55 : decode cX1_fitting 55 = .ok (.aload_n 0, 1) := by decide +kernel
theorem dX1_fitting_56 : decode cX1_fitting 56 = .ok (.getfield 26, 3) := by decide +kernel
theorem dX1_fitting_59 : decode cX1_fitting 59 = .ok (.iload 4, 2) := by decide +kernel
theorem dX1_fitting_61 : decode cX1_fitting 61 = .ok (.iaload, 1) := by decide +kernel
theorem dX1_fitting_62 : decode cX1_fitting 62 = .ok (.invokevirtual 81, 3) := by decide +kernel
theorem dX1_fitting_65 : decode cX1_fitting 65 = .ok (.istore_n 3, 1) := by decide +kernel
theorem dX1_fitting_66 : decode cX1_fitting 66 = .ok (.iinc 4 1, 3) := by decide +kernel
theorem dX1_fitting_69 : decode cX1_fitting 69 = .ok (.goto (-54), 3) := by decide +kernel
theorem dX1_fitting_72 : decode cX1_fitting 72 = .ok (.iload_n 1, 1) := by decide +kernel
theorem dX1_fitting_73 : decode cX1_fitting 73 = .ok (.iload_n 3, 1) := by decide +kernel
theorem dX1_fitting_74 : decode cX1_fitting 74 = .ok (.iadd, 1) := by decide +kernel
theorem dX1_fitting_75 : decode cX1_fitting 75 = .ok (.istore_n 1, 1) := by decide +kernel
theorem dX1_fitting_76 : decode cX1_fitting 76 = .ok (.iinc 2 1, 3) := by decide +kernel
theorem dX1_fitting_79 : decode cX1_fitting 79 = .ok (.goto (-75), 3) := by decide +kernel
theorem dX1_fitting_82 : decode cX1_fitting 82 = .ok (.iload_n 1, 1) := by decide +kernel
theorem dX1_fitting_83 : decode cX1_fitting 83 = .ok (.ireturn, 1) := by decide +kernel
end
section
set_option maxRecDepth 100000
theorem dX2_init_0 : decode cX2_init 0 = .ok (.aload_n 0, 1) := by decide +kernel
theorem dX2_init_1 : decode cX2_init 1 = .ok (.invokespecial 1, 3) := by decide +kernel
theorem dX2_init_4 : decode cX2_init 4 = .ok (.aload_n 0, 1) := by decide +kernel
theorem dX2_init_5 : decode cX2_init 5 = .ok (.sipush 256, 3) := by decide +kernel
theorem dX2_init_8 : decode cX2_init 8 = .ok (.newarray .int, 2) := by decide +kernel
theorem dX2_init_10 : decode cX2_init 10 = .ok (.putfield 7, 3) := by decide +kernel
theorem dX2_init_13 : decode cX2_init 13 = .ok (.aload_n 0, 1) := by decide +kernel
theorem dX2_init_14 : decode cX2_init 14 = .ok (.bipush 20, 2) := by decide +kernel
theorem dX2_init_16 : decode cX2_init 16 = .ok (.newarray .int, 2) := by decide +kernel
theorem dX2_init_18 : decode cX2_init 18 = .ok (.putfield 13, 3) := by decide +kernel
theorem dX2_init_21 : decode cX2_init 21 = .ok (.aload_n 0, 1) := by decide +kernel
theorem dX2_init_22 : decode cX2_init 22 = .ok (.bipush 20, 2) := by decide +kernel
theorem dX2_init_24 : decode cX2_init 24 = .ok (.newarray .int, 2) := by decide +kernel
theorem dX2_init_26 : decode cX2_init 26 = .ok (.putfield 16, 3) := by decide +kernel
theorem dX2_init_29 : decode cX2_init 29 = .ok (.aload_n 0, 1) := by decide +kernel
theorem dX2_init_30 : decode cX2_init 30 = .ok (.bipush 20, 2) := by decide +kernel
theorem dX2_init_32 : decode cX2_init 32 = .ok (.newarray .int, 2) := by decide +kernel
theorem dX2_init_34 : decode cX2_init 34 = .ok (.putfield 19, 3) := by decide +kernel
theorem dX2_init_37 : decode cX2_init 37 = .ok (.aload_n 0, 1) := by decide +kernel
theorem dX2_init_38 : decode cX2_init 38 = .ok (.bipush 20, 2) := by decide +kernel
theorem dX2_init_40 : decode cX2_init 40 = .ok (.newarray .int, 2) := by decide +kernel
theorem dX2_init_42 : decode cX2_init 42 = .ok (.putfield 22, 3) := by decide +kernel
theorem dX2_init_45 : decode cX2_init 45 = .ok (.aload_n 0, 1) := by decide +kernel
theorem dX2_init_46 : decode cX2_init 46 = .ok (.bipush 20, 2) := by decide +kernel
theorem dX2_init_48 : decode cX2_init 48 = .ok (.newarray .boolean, 2) := by decide +kernel
theorem dX2_init_50 : decode cX2_init 50 = .ok (.putfield 25, 3) := by decide +kernel
theorem dX2_init_53 : decode cX2_init 53 = .ok (.aload_n 0, 1) := by decide +kernel
theorem dX2_init_54 : decode cX2_init 54 = .ok (.iload_n 1, 1) := by decide +kernel
theorem dX2_init_55 : decode cX2_init 55 = .ok (.iconst 4, 1) := by decide +kernel
theorem dX2_init_56 : decode cX2_init 56 = .ok (.if_icmp .ge 7, 3) := by decide +kernel
theorem dX2_init_59 : decode cX2_init 59 = .ok (.iconst 4, 1) := by decide +kernel
theorem dX2_init_60 : decode cX2_init 60 = .ok (.goto 15, 3) := by decide +kernel
theorem dX2_init_63 : decode cX2_init 63 = .ok (.iload_n 1, 1) := by decide +kernel
theorem dX2_init_64 : decode cX2_init 64 = .ok (.bipush 16, 2) := by decide +kernel
theorem dX2_init_66 : decode cX2_init 66 = .ok (.if_icmp .le 8, 3) := by decide +kernel
theorem dX2_init_69 : decode cX2_init 69 = .ok (.bipush 16, 2) := by decide +kernel
theorem dX2_init_71 : decode cX2_init 71 = .ok (.goto 4, 3) := by decide +kernel
theorem dX2_init_74 : decode cX2_init 74 = .ok (.iload_n 1, 1) := by decide +kernel
theorem dX2_init_75 : decode cX2_init 75 = .ok (.putfield 29, 3) := by decide +kernel
theorem dX2_init_78 : decode cX2_init 78 = .ok (.aload_n 0, 1) := by decide +kernel
theorem dX2_init_79 : decode cX2_init 79 = .ok (.iload_n 2, 1) := by decide +kernel
theorem dX2_init_80 : decode cX2_init 80 = .ok (.iconst 4, 1) := by decide +kernel
theorem dX2_init_81 : decode cX2_init 81 = .ok (.if_icmp .ge 7, 3) := by decide +kernel
theorem dX2_init_84 : decode cX2_init 84 = .ok (.iconst 4, 1) := by decide +kernel
theorem dX2_init_85 : decode cX2_init 85 = .ok (.goto 15, 3) := by decide +kernel
theorem dX2_init_88 : decode cX2_init 88 = .ok (.iload_n 2, 1) := by decide +kernel
theorem dX2_init_89 : decode cX2_init 89 = .ok (.bipush 16, 2) := by decide +kernel
theorem dX2_init_91 : decode cX2_init 91 = .ok (.if_icmp .le 8, 3) := by decide +kernel
theorem dX2_init_94 : decode cX2_init 94 = .ok (.bipush 16, 2) := by decide +kernel
theorem dX2_init_96 : decode cX2_init 96 = .ok (.goto 4, 3) := by decide +kernel
theorem dX2_init_99 : decode cX2_init 99 = .ok (.iload_n 2, 1) := by decide +kernel
theorem dX2_init_100 : decode cX2_init 100 = .ok (.putfield 33, 3) := by decide +kernel
theorem dX2_init_103 : decode cX2_init 103 = .ok (.iconst 0, 1) := by decide +kernel
theorem dX2_init_104 : decode cX2_init 104 = .ok (.istore_n 3, 1) := by decide +kernel
theorem dX2_init_105 : decode cX2_init 105 = .ok (.iload_n 3, 1) := by decide +kernel
theorem dX2_init_106 : decode cX2_init 106 = .ok (.sipush 256, 3) := by decide +kernel
theorem dX2_init_109 : decode cX2_init 109 = .ok (.if_icmp .ge 16, 3) := by decide +kernel
theorem dX2_init_112 : decode cX2_init 112 = .ok (.aload_n 0, 1) := by decide +kernel
theorem dX2_init_113 : decode cX2_init 113 = .ok (.getfield 7, 3) := by decide +kernel
theorem dX2_init_116 : decode cX2_init 116 = .ok (.iload_n 3, 1) := by decide +kernel
theorem dX2_init_117 : decode cX2_init 117 = .ok (.iconst (-1), 1) := by decide +kernel
theorem dX2_init_118 : decode cX2_init 118 = .ok (.iastore, 1) := by decide +kernel
theorem dX2_init_119 : decode cX2_init 119 = .ok (.iinc 3 1, 3) := by decide +kernel
theorem dX2_init_122 : decode cX2_init 122 = .ok (.goto (-17), 3) := by decide +kernel
theorem dX2_init_125 : decode cX2_init 125 = .ok (.return_, 1) := by decide +kernel
theorem dX2_place_0 : decode cX2_place 0 = .ok (.aload_n 0, 1) := by decide +kernel
theorem dX2_place_1 : decode cX2_place 1 = .ok (.iload_n 1, 1) := by decide +kernel
theorem dX2_place_2 : decode cX2_place 2 = .ok (.iload_n 2, 1) := by decide +kernel
theorem dX2_place_3 : decode cX2_place 3 = .ok (.invokevirtual 44, 3) := by decide +kernel
theorem dX2_place_6 : decode cX2_place 6 = .ok (.ifCond .ne 5, 3) := by decide +kernel
theorem dX2_place_9 : decode cX2_place 9 = .ok (.iconst (-1), 1) := by decide +kernel
theorem dX2_place_10 : decode cX2_place 10 = .ok (.ireturn, 1) := by decide +kernel
theorem dX2_place_11 : decode cX2_place 11 = .ok (.aload_n 0, 1) := by decide +kernel
theorem dX2_place_12 : decode cX2_place 12 = .ok (.invokevirtual 48, 3) := by decide +kernel
theorem dX2_place_15 : decode cX2_place 15 = .ok (.bipush 20, 2) := by decide +kernel
theorem dX2_place_17 : decode cX2_place 17 = .ok (.if_icmp .ne 6, 3) := by decide +kernel
theorem dX2_place_20 : decode cX2_place 20 = .ok (.bipush (-2), 2) := by decide +kernel
theorem dX2_place_22 : decode cX2_place 22 = .ok (.ireturn, 1) := by decide +kernel
theorem dX2_place_23 : decode cX2_place 23 = .ok (.aload_n 0, 1) := by decide +kernel
theorem dX2_place_24 : decode cX2_place 24 = .ok (.iload_n 1, 1) := by decide +kernel
theorem dX2_place_25 : decode cX2_place 25 = .ok (.iload_n 2, 1) := by decide +kernel
theorem dX2_place_26 : decode cX2_place 26 = .ok (.invokevirtual 52, 3) := by decide +kernel
theorem dX2_place_29 : decode cX2_place 29 = .ok (.istore 4, 2) := by decide +kernel
theorem dX2_place_31 : decode cX2_place 31 = .ok (.iload_n 3, 1) := by decide +kernel
theorem dX2_place_32 : decode cX2_place 32 = .ok (.ifCond .eq 12, 3) := by decide +kernel
theorem dX2_place_35 : decode cX2_place 35 = .ok (.aload_n 0, 1) := by decide +kernel
theorem dX2_place_36 : decode cX2_place 36 = .ok (.iload_n 2, 1) := by decide +kernel
theorem dX2_place_37 : decode cX2_place 37 = .ok (.iload_n 1, 1) := by decide +kernel
theorem dX2_place_38 : decode cX2_place 38 = .ok (.invokevirtual 52, 3) := by decide +kernel
theorem dX2_place_41 : decode cX2_place 41 = .ok (.goto 5, 3) := by decide +kernel
theorem dX2_place_44 : decode cX2_place 44 = .ok (.bipush (-3), 2) := by decide +kernel
theorem dX2_place_46 : decode cX2_place 46 = .ok (.istore 5, 2) := by decide +kernel
theorem dX2_place_48 : decode cX2_place 48 = .ok (.iload 4, 2) := by decide +kernel
theorem dX2_place_50 : decode cX2_place 50 = .ok (.bipush (-3), 2) := by decide +kernel
theorem dX2_place_52 : decode cX2_place 52 = .ok (.if_icmp .ne 13, 3) := by decide +kernel
theorem dX2_place_55 : decode cX2_place 55 = .ok (.iload 5, 2) := by decide +kernel
theorem dX2_place_57 : decode cX2_place 57 = .ok (.bipush (-3), 2) := by decide +kernel
theorem dX2_place_59 : decode cX2_place 59 = .ok (.if_icmp .ne 6, 3) := by decide +kernel
theorem dX2_place_62 : decode cX2_place 62 = .ok (.bipush (-3), 2) := by decide +kernel
theorem dX2_place_64 : decode cX2_place 64 = .ok (.ireturn, 1) := by decide +kernel
theorem dX2_place_65 : decode cX2_place 65 = .ok (.iload 5, 2) := by decide +kernel
theorem dX2_place_67 : decode cX2_place 67 = .ok (.bipush (-3), 2) := by decide +kernel
theorem dX2_place_69 : decode cX2_place 69 = .ok (.if_icmp .eq 26, 3) := by decide +kernel
theorem dX2_place_72 : decode cX2_place 72 = .ok (.iload 4, 2) := by decide +kernel
theorem dX2_place_74 : decode cX2_place 74 = .ok (.bipush (-3), 2) := by decide +kernel
theorem dX2_place_76 : decode cX2_place 76 = .ok (.if_icmp .eq 10, 3) := by decide +kernel
theorem dX2_place_79 : decode cX2_place 79 = .ok (.iload 5, 2) := by decide +kernel
theorem dX2_place_81 : decode cX2_place 81 = .ok (.iload 4, 2) := by decide +kernel
theorem dX2_place_83 : decode cX2_place 83 = .ok (.if_icmp .ge 12, 3) := by decide +kernel
theorem dX2_place_86 : decode cX2_place 86 = .ok (.aload_n 0, 1) := by decide +kernel
theorem dX2_place_87 : decode cX2_place 87 = .ok (.iload 5, 2) := by decide +kernel
theorem dX2_place_89 : decode cX2_place 89 = .ok (.iload_n 2, 1) := by decide +kernel
theorem dX2_place_90 : decode cX2_place 90 = .ok (.iload_n 1, 1) := by decide +kernel
theorem dX2_place_91 : decode cX2_place 91 = .ok (.invokevirtual 56, 3) := by decide +kernel
theorem dX2_place_94 : decode cX2_place 94 = .ok (.ireturn, 1) := by decide +kernel
theorem dX2_place_95 : decode cX2_place 95 = .ok (.aload_n 0, 1) := by decide +kernel
theorem dX2_place_96 : decode cX2_place 96 = .ok (.iload 4, 2) := by decide +kernel
theorem dX2_place_98 : decode cX2_place 98 = .ok (.iload_n 1, 1) := by decide +kernel
theorem dX2_place_99 : decode cX2_place 99 = .ok (.iload_n 2, 1) := by decide +kernel
theorem dX2_place_100 : decode cX2_place 100 = .ok (.invokevirtual 56, 3) := by decide +kernel
theorem dX2_place_103 : decode cX2_place 103 = .ok (.ireturn, 1) := by decide +kernel
theorem dX2_isSize_0 : decode cX2_isSize 0 = .ok (.iload_n 1, 1) := by decide +kernel
theorem dX2_isSize_1 : decode cX2_isSize 1 = .ok (.iconst 1, 1) := by decide +kernel
theorem dX2_isSize_2 : decode cX2_isSize 2 = .ok (.if_icmp .lt 24, 3) := by decide +kernel
theorem dX2_isSize_5 : decode cX2_isSize 5 = .ok (.iload_n 1, 1) := by decide +kernel
theorem dX2_isSize_6 : decode cX2_isSize 6 = .ok (.bipush 16, 2) := by decide +kernel
theorem dX2_isSize_8 : decode cX2_isSize 8 = .ok (.if_icmp .gt 18, 3) := by decide +kernel
theorem dX2_isSize_11 : decode cX2_isSize 11 = .ok (.iload_n 2, 1) := by decide +kernel
theorem dX2_isSize_12 : decode cX2_isSize 12 = .ok (.iconst 1, 1) := by decide +kernel
theorem dX2_isSize_13 : decode cX2_isSize 13 = .ok (.if_icmp .lt 13, 3) := by decide +kernel
theorem dX2_isSize_16 : decode cX2_isSize 16 = .ok (.iload_n 2, 1) := by decide +kernel
theorem dX2_isSize_17 : decode cX2_isSize 17 = .ok (.bipush 16, 2) := by decide +kernel
theorem dX2_isSize_19 : decode cX2_isSize 19 = .ok (.if_icmp .gt 7, 3) := by decide +kernel
theorem dX2_isSize_22 : decode cX2_isSize 22 = .ok (.iconst 1, 1) := by decide +kernel
theorem dX2_isSize_23 : decode cX2_isSize 23 = .ok (.goto 4, 3) := by decide +kernel
theorem dX2_isSize_26 : decode cX2_isSize 26 = .ok (.iconst 0, 1) := by decide +kernel
theorem dX2_isSize_27 : decode cX2_isSize 27 = .ok (.ireturn, 1) := by decide +kernel
theorem dX2_count_0 : decode cX2_count 0 = .ok (.iconst 0, 1) := by decide +kernel
theorem dX2_count_1 : decode cX2_count 1 = .ok (.istore_n 1, 1) := by decide +kernel
theorem dX2_count_2 : decode cX2_count 2 = .ok (.iconst 0, 1) := by decide +kernel
theorem dX2_count_3 : decode cX2_count 3 = .ok (.istore_n 2, 1) := by decide +kernel
theorem dX2_count_4 : decode cX2_count 4 = .ok (.iload_n 2, 1) := by decide +kernel
theorem dX2_count_5 : decode cX2_count 5 = .ok (.bipush 20, 2) := by decide +kernel
theorem dX2_count_7 : decode cX2_count 7 = .ok (.if_icmp .ge 21, 3) := by decide +kernel
theorem dX2_count_10 : decode cX2_count 10 = .ok (.aload_n 0, 1) := by decide +kernel
theorem dX2_count_11 : decode cX2_count 11 = .ok (.getfield 25, 3) := by decide +kernel
theorem dX2_count_14 : decode cX2_count 14 = .ok (.iload_n 2, 1) := by decide +kernel
theorem dX2_count_15 : decode cX2_count 15 = .ok (.baload, 1) := by decide +kernel
theorem dX2_count_16 : decode cX2_count 16 = .ok (.ifCond .eq 6, 3) := by decide +kernel
theorem dX2_count_19 : decode cX2_count 19 = .ok (.iinc 1 1, 3) := by decide +kernel
theorem dX2_count_22 : decode cX2_count 22 = .ok (.iinc 2 1, 3) := by decide +kernel
theorem dX2_count_25 : decode cX2_count 25 = .ok (.goto (-21), 3) := by decide +kernel
theorem dX2_count_28 : decode cX2_count 28 = .ok (.iload_n 1, 1) := by decide +kernel
theorem dX2_count_29 : decode cX2_count 29 = .ok (.ireturn, 1) := by decide +kernel
theorem dX2_best_0 : decode cX2_best 0 = .ok (.iconst 0, 1) := by decide +kernel
theorem dX2_best_1 : decode cX2_best 1 = .ok (.istore_n 3, 1) := by decide +kernel
theorem dX2_best_2 : decode cX2_best 2 = .ok (.iload_n 3, 1) := by decide +kernel
theorem dX2_best_3 : decode cX2_best 3 = .ok (.aload_n 0, 1) := by decide +kernel
theorem dX2_best_4 : decode cX2_best 4 = .ok (.getfield 33, 3) := by decide +kernel
theorem dX2_best_7 : decode cX2_best 7 = .ok (.if_icmp .ge 48, 3) := by decide +kernel
theorem dX2_best_10 : decode cX2_best 10 = .ok (.iconst 0, 1) := by decide +kernel
theorem dX2_best_11 : decode cX2_best 11 = .ok (.istore 4, 2) := by decide +kernel
theorem dX2_best_13 : decode cX2_best 13 = .ok (.iload 4, 2) := by decide +kernel
theorem dX2_best_15 : decode cX2_best 15 = .ok (.aload_n 0, 1) := by decide +kernel
theorem dX2_best_16 : decode cX2_best 16 = .ok (.getfield 29, 3) := by decide +kernel
theorem dX2_best_19 : decode cX2_best 19 = .ok (.if_icmp .ge 30, 3) := by decide +kernel
theorem dX2_best_22 : decode cX2_best 22 = .ok (.aload_n 0, 1) := by decide +kernel
theorem dX2_best_23 : decode cX2_best 23 = .ok (.iload 4, 2) := by decide +kernel
theorem dX2_best_25 : decode cX2_best 25 = .ok (.iload_n 3, 1) := by decide +kernel
theorem dX2_best_26 : decode cX2_best 26 = .ok (.iload_n 1, 1) := by decide +kernel
theorem dX2_best_27 : decode cX2_best 27 = .ok (.iload_n 2, 1) := by decide +kernel
theorem dX2_best_28 : decode cX2_best 28 = .ok (.invokevirtual 36, 3) := by decide +kernel
theorem dX2_best_31 : decode cX2_best 31 = .ok (.ifCond .eq 12, 3) := by decide +kernel
theorem dX2_best_34 : decode cX2_best 34 = .ok (.sipush 256, 3) := by decide +kernel
theorem dX2_best_37 : decode cX2_best 37 = .ok (.iload_n 3, 1) := by decide +kernel
theorem dX2_best_38 : decode cX2_best 38 = .ok (.imul, 1) := by decide +kernel
theorem dX2_best_39 : decode cX2_best 39 = .ok (.iload 4, 2) := by decide +kernel
theorem dX2_best_41 : decode cX2_best 41 = .ok (.iadd, 1) := by decide +kernel
theorem dX2_best_42 : decode cX2_best 42 = .ok (.ireturn, 1) := by decide +kernel
theorem dX2_best_43 : decode cX2_best 43 = .ok (.iinc 4 1, 3) := by decide +kernel
theorem dX2_best_46 : decode cX2_best 46 = .ok (.goto (-33), 3) := by decide +kernel
theorem dX2_best_49 : decode cX2_best 49 = .ok (.iinc 3 1, 3) := by decide +kernel
theorem dX2_best_52 : decode cX2_best 52 = .ok (.goto (-50), 3) := by decide +kernel
theorem dX2_best_55 : decode cX2_best 55 = .ok (.bipush (-3), 2) := by decide +kernel
theorem dX2_best_57 : decode cX2_best 57 = .ok (.ireturn, 1) := by decide +kernel
theorem dX2_good_0 : decode cX2_good 0 = .ok (.iload_n 1, 1) := by decide +kernel
theorem dX2_good_1 : decode cX2_good 1 = .ok (.ifCond .lt 28, 3) := by decide +kernel
theorem dX2_good_4 : decode cX2_good 4 = .ok (.iload_n 2, 1) := by decide +kernel
theorem dX2_good_5 : decode cX2_good 5 = .ok (.ifCond .lt 24, 3) := by decide +kernel
theorem dX2_good_8 : decode cX2_good 8 = .ok (.iload_n 1, 1) := by decide +kernel
theorem dX2_good_9 : decode cX2_good 9 = .ok (.iload_n 3, 1) := by decide +kernel
theorem dX2_good_10 : decode cX2_good 10 = .ok (.iadd, 1) := by decide +kernel
theorem dX2_good_11 : decode cX2_good 11 = .ok (.aload_n 0, 1) := by decide +kernel
theorem dX2_good_12 : decode cX2_good 12 = .ok (.getfield 29, 3) := by decide +kernel
theorem dX2_good_15 : decode cX2_good 15 = .ok (.if_icmp .gt 14, 3) := by decide +kernel
theorem dX2_good_18 : decode cX2_good 18 = .ok (.iload_n 2, 1) := by decide +kernel
theorem dX2_good_19 : decode cX2_good 19 = .ok (.iload 4, 2) := by decide +kernel
theorem dX2_good_21 : decode cX2_good 21 = .ok (.iadd, 1) := by decide +kernel
theorem dX2_good_22 : decode cX2_good 22 = .ok (.aload_n 0, 1) := by decide +kernel
theorem dX2_good_23 : decode cX2_good 23 = .ok (.getfield 33, 3) := by decide +kernel
theorem dX2_good_26 : decode cX2_good 26 = .ok (.if_icmp .le 5, 3) := by decide +kernel
theorem dX2_good_29 : decode cX2_good 29 = .ok (.iconst 0, 1) := by decide +kernel
theorem dX2_good_30 : decode cX2_good 30 = .ok (.ireturn, 1) := by decide +kernel
theorem dX2_good_31 : decode cX2_good 31 = .ok (.iload_n 2, 1) := by decide +kernel
theorem dX2_good_32 : decode cX2_good 32 = .ok (.istore 5, 2) := by decide +kernel
theorem dX2_good_34 : decode cX2_good 34 = .ok (.iload 5, 2) := by decide +kernel
theorem dX2_good_36 : decode cX2_good 36 = .ok (.iload_n 2, 1) := by decide +kernel
theorem dX2_good_37 : decode cX2_good 37 = .ok (.iload 4, 2) := by decide +kernel
theorem dX2_good_39 : decode cX2_good 39 = .ok (.iadd, 1) := by decide +kernel
theorem dX2_good_40 : decode cX2_good 40 = .ok (.if_icmp .ge 45, 3) := by decide +kernel
theorem dX2_good_43 : decode cX2_good 43 = .ok (.iload_n 1, 1) := by decide +kernel
theorem dX2_good_44 : decode cX2_good 44 = .ok (.istore 6, 2) := by decide +kernel
theorem dX2_good_46 : decode cX2_good 46 = .ok (.iload 6, 2) := by decide +kernel
theorem dX2_good_48 : decode cX2_good 48 = .ok (.iload_n 1, 1) := by decide +kernel
theorem dX2_good_49 : decode cX2_good 49 = .ok (.iload_n 3, 1) := by decide +kernel
theorem dX2_good_50 : decode cX2_good 50 = .ok (.iadd, 1) := by decide +kernel
theorem dX2_good_51 : decode cX2_good 51 = .ok (.if_icmp .ge 28, 3) := by decide +kernel
theorem dX2_good_54 : decode cX2_good 54 = .ok (.aload_n 0, 1) := by decide +kernel
theorem dX2_good_55 : decode cX2_good 55 = .ok (.getfield 7, 3) := by decide +kernel
theorem dX2_good_58 : decode cX2_good 58 = .ok (.bipush 16, 2) := by decide +kernel
theorem dX2_good_60 : decode cX2_good 60 = .ok (.iload 5, 2) := by decide +kernel
theorem dX2_good_62 : decode cX2_good 62 = .ok (.imul, 1) := by decide +kernel
theorem dX2_good_63 : decode cX2_good 63 = .ok (.iload 6, 2) := by decide +kernel
theorem dX2_good_65 : decode cX2_good 65 = .ok (.iadd, 1) := by decide +kernel
theorem dX2_good_66 : decode cX2_good 66 = .ok (.iaload, 1) := by decide +kernel
theorem dX2_good_67 : decode cX2_good 67 = .ok (.iconst (-1), 1) := by decide +kernel
theorem dX2_good_68 : decode cX2_good 68 = .ok (.if_icmp .eq 5, 3) := by decide +kernel
theorem dX2_good_71 : decode cX2_good 71 = .ok (.iconst 0, 1) := by decide +kernel
theorem dX2_good_72 : decode cX2_good 72 = .ok (.ireturn, 1) := by decide +kernel
theorem dX2_good_73 : decode cX2_good 73 = .ok (.iinc 6 1, 3) := by decide +kernel
theorem dX2_good_76 : decode cX2_good 76 = .ok (.goto (-30), 3) := by decide +kernel
theorem dX2_good_79 : decode cX2_good 79 = .ok (.iinc 5 1, 3) := by decide +kernel
theorem dX2_good_82 : decode cX2_good 82 = .ok (.goto (-48), 3) := by decide +kernel
theorem dX2_good_85 : decode cX2_good 85 = .ok (.iconst 1, 1) := by decide +kernel
theorem dX2_good_86 : decode cX2_good 86 = .ok (.ireturn, 1) := by decide +kernel
theorem dX2_lay_0 : decode cX2_lay 0 = .ok (.iconst 0, 1) := by decide +kernel
theorem dX2_lay_1 : decode cX2_lay 1 = .ok (.istore 4, 2) := by decide +kernel
theorem dX2_lay_3 : decode cX2_lay 3 = .ok (.bipush 19, 2) := by decide +kernel
theorem dX2_lay_5 : decode cX2_lay 5 = .ok (.istore 5, 2) := by decide +kernel
theorem dX2_lay_7 : decode cX2_lay 7 = .ok (.iload 5, 2) := by decide +kernel
theorem dX2_lay_9 : decode cX2_lay 9 = .ok (.ifCond .lt 23, 3) := by decide +kernel
theorem dX2_lay_12 : decode cX2_lay 12 = .ok (.aload_n 0, 1) := by decide +kernel
theorem dX2_lay_13 : decode cX2_lay 13 = .ok (.getfield 25, 3) := by decide +kernel
theorem dX2_lay_16 : decode cX2_lay 16 = .ok (.iload 5, 2) := by decide +kernel
theorem dX2_lay_18 : decode cX2_lay 18 = .ok (.baload, 1) := by decide +kernel
theorem dX2_lay_19 : decode cX2_lay 19 = .ok (.ifCond .ne 7, 3) := by decide +kernel
theorem dX2_lay_22 : decode cX2_lay 22 = .ok (.iload 5, 2) := by decide +kernel
theorem dX2_lay_24 : decode cX2_lay 24 = .ok (.istore 4, 2) := by decide +kernel
theorem dX2_lay_26 : decode cX2_lay 26 = .ok (.iinc 5 (-1), 3) := by decide +kernel
theorem dX2_lay_29 : decode cX2_lay 29 = .ok (.goto (-22), 3) := by decide +kernel
theorem dX2_lay_32 : decode cX2_lay 32 = .ok (.aload_n 0, 1) := by decide +kernel
theorem dX2_lay_33 : decode cX2_lay 33 = .ok (.getfield 25, 3) := by decide +kernel
theorem dX2_lay_36 : decode cX2_lay 36 = .ok (.iload 4, 2) := by decide +kernel
theorem dX2_lay_38 : decode cX2_lay 38 = .ok (.iconst 1, 1) := by decide +kernel
theorem dX2_lay_39 : decode cX2_lay 39 = .ok (.bastore, 1) := by decide +kernel
theorem dX2_lay_40 : decode cX2_lay 40 = .ok (.aload_n 0, 1) := by decide +kernel
theorem dX2_lay_41 : decode cX2_lay 41 = .ok (.getfield 13, 3) := by decide +kernel
theorem dX2_lay_44 : decode cX2_lay 44 = .ok (.iload 4, 2) := by decide +kernel
theorem dX2_lay_46 : decode cX2_lay 46 = .ok (.iload_n 1, 1) := by decide +kernel
theorem dX2_lay_47 : decode cX2_lay 47 = .ok (.sipush 255, 3) := by decide +kernel
theorem dX2_lay_50 : decode cX2_lay 50 = .ok (.iand, 1) := by decide +kernel
theorem dX2_lay_51 : decode cX2_lay 51 = .ok (.iastore, 1) := by decide +kernel
theorem dX2_lay_52 : decode cX2_lay 52 = .ok (.aload_n 0, 1) := by decide +kernel
theorem dX2_lay_53 : decode cX2_lay 53 = .ok (.getfield 16, 3) := by decide +kernel
theorem dX2_lay_56 : decode cX2_lay 56 = .ok (.iload 4, 2) := by decide +kernel
theorem dX2_lay_58 : decode cX2_lay 58 = .ok (.iload_n 1, 1) := by decide +kernel
theorem dX2_lay_59 : decode cX2_lay 59 = .ok (.bipush 8, 2) := by decide +kernel
theorem dX2_lay_61 : decode cX2_lay 61 = .ok (.ishr, 1) := by decide +kernel
theorem dX2_lay_62 : decode cX2_lay 62 = .ok (.iastore, 1) := by decide +kernel
theorem dX2_lay_63 : decode cX2_lay 63 = .ok (.aload_n 0, 1) := by decide +kernel
theorem dX2_lay_64 : decode cX2_lay 64 = .ok (.getfield 19, 3) := by decide +kernel
theorem dX2_lay_67 : decode cX2_lay 67 = .ok (.iload 4, 2) := by decide +kernel
theorem dX2_lay_69 : decode cX2_lay 69 = .ok (.iload_n 2, 1) := by decide +kernel
theorem dX2_lay_70 : decode cX2_lay 70 = .ok (.iastore, 1) := by decide +kernel
theorem dX2_lay_71 : decode cX2_lay 71 = .ok (.aload_n 0, 1) := by decide +kernel
theorem dX2_lay_72 : decode cX2_lay 72 = .ok (.getfield 22, 3) := by decide +kernel
theorem dX2_lay_75 : decode cX2_lay 75 = .ok (.iload 4, 2) := by decide +kernel
theorem dX2_lay_77 : decode cX2_lay 77 = .ok (.iload_n 3, 1) := by decide +kernel
theorem dX2_lay_78 : decode cX2_lay 78 = .ok (.iastore, 1) := by decide +kernel
theorem dX2_lay_79 : decode cX2_lay 79 = .ok (.aload_n 0, 1) := by decide +kernel
theorem dX2_lay_80 : decode cX2_lay 80 = .ok (.iload 4, 2) := by decide +kernel
theorem dX2_lay_82 : decode cX2_lay 82 = .ok (.iload 4, 2) := by decide +kernel
theorem dX2_lay_84 : decode cX2_lay 84 = .ok (.invokevirtual 40, 3) := by decide +kernel
theorem dX2_lay_87 : decode cX2_lay 87 = .ok (.iload 4, 2) := by decide +kernel
theorem dX2_lay_89 : decode cX2_lay 89 = .ok (.ireturn, 1) := by decide +kernel
theorem dX2_paint_0 : decode cX2_paint 0 = .ok (.aload_n 0, 1) := by decide +kernel
theorem dX2_paint_1 : decode cX2_paint 1 = .ok (.getfield 16, 3) := by decide +kernel
theorem dX2_paint_4 : decode cX2_paint 4 = .ok (.iload_n 1, 1) := by decide +kernel
theorem dX2_paint_5 : decode cX2_paint 5 = .ok (.iaload, 1) := by decide +kernel
theorem dX2_paint_6 : decode cX2_paint 6 = .ok (.istore_n 3, 1) := by decide +kernel
theorem dX2_paint_7 : decode cX2_paint 7 = .ok (.iload_n 3, 1) := by decide +kernel
theorem dX2_paint_8 : decode cX2_paint 8 = .ok (.aload_n 0, 1) := by decide +kernel
theorem dX2_paint_9 : decode cX2_paint 9 = .ok (.getfield 16, 3) := by decide +kernel
theorem dX2_paint_12 : decode cX2_paint 12 = .ok (.iload_n 1, 1) := by decide +kernel
theorem dX2_paint_13 : decode cX2_paint 13 = .ok (.iaload, 1) := by decide +kernel
theorem dX2_paint_14 : decode cX2_paint 14 = .ok (.aload_n 0, 1) := by decide +kernel
theorem dX2_paint_15 : decode cX2_paint 15 = .ok (.getfield 22, 3) := by decide +kernel
theorem dX2_paint_18 : decode cX2_paint 18 = .ok (.iload_n 1, 1) := by decide +kernel
theorem dX2_paint_19 : decode cX2_paint 19 = .ok (.iaload, 1) := by decide +kernel
theorem dX2_paint_20 : decode cX2_paint 20 = .ok (.iadd, 1) := by decide +kernel
theorem dX2_paint_21 : decode cX2_paint 21 = .ok (.if_icmp .ge 54, 3) := by decide +kernel
theorem dX2_paint_24 : decode cX2_paint 24 = .ok (.aload_n 0, 1) := by decide +kernel
theorem dX2_paint_25 : decode cX2_paint 25 = .ok (.getfield 13, 3) := by decide +kernel
theorem dX2_paint_28 : decode cX2_paint 28 = .ok (.iload_n 1, 1) := by decide +kernel
theorem dX2_paint_29 : decode cX2_paint 29 = .ok (.iaload, 1) := by decide +kernel
theorem dX2_paint_30 : decode cX2_paint 30 = .ok (.istore 4, 2) := by decide +kernel
theorem dX2_paint_32 : decode cX2_paint 32 = .ok (.iload 4, 2) := by decide +kernel
theorem dX2_paint_34 : decode cX2_paint 34 = .ok (.aload_n 0, 1) := by decide +kernel
theorem dX2_paint_35 : decode cX2_paint 35 = .ok (.getfield 13, 3) := by decide +kernel
theorem dX2_paint_38 : decode cX2_paint 38 = .ok (.iload_n 1, 1) := by decide +kernel
theorem dX2_paint_39 : decode cX2_paint 39 = .ok (.iaload, 1) := by decide +kernel
theorem dX2_paint_40 : decode cX2_paint 40 = .ok (.aload_n 0, 1) := by decide +kernel
theorem dX2_paint_41 : decode cX2_paint 41 = .ok (.getfield 19, 3) := by decide +kernel
theorem dX2_paint_44 : decode cX2_paint 44 = .ok (.iload_n 1, 1) := by decide +kernel
theorem dX2_paint_45 : decode cX2_paint 45 = .ok (.iaload, 1) := by decide +kernel
theorem dX2_paint_46 : decode cX2_paint 46 = .ok (.iadd, 1) := by decide +kernel
theorem dX2_paint_47 : decode cX2_paint 47 = .ok (.if_icmp .ge 22, 3) := by decide +kernel
theorem dX2_paint_50 : decode cX2_paint 50 = .ok (.aload_n 0, 1) := by decide +kernel
theorem dX2_paint_51 : decode cX2_paint 51 = .ok (.getfield 7, 3) := by decide +kernel
theorem dX2_paint_54 : decode cX2_paint 54 = .ok (.bipush 16, 2) := by decide +kernel
theorem dX2_paint_56 : decode cX2_paint 56 = .ok (.iload_n 3, 1) := by decide +kernel
theorem dX2_paint_57 : decode cX2_paint 57 = .ok (.imul, 1) := by decide +kernel
theorem dX2_paint_58 : decode cX2_paint 58 = .ok (.iload 4, 2) := by decide +kernel
theorem dX2_paint_60 : decode cX2_paint 60 = .ok (.iadd, 1) := by decide +kernel
theorem dX2_paint_61 : decode cX2_paint 61 = .ok (.iload_n 2, 1) := by decide +kernel
theorem dX2_paint_62 : decode cX2_paint 62 = .ok (.iastore, 1) := by decide +kernel
theorem dX2_paint_63 : decode cX2_paint 63 = .ok (.iinc 4 1, 3) := by decide +kernel
theorem dX2_paint_66 : decode cX2_paint 66 = .ok (.goto (-34), 3) := by decide +kernel
theorem dX2_paint_69 : decode cX2_paint 69 = .ok (.iinc 3 1, 3) := by decide +kernel
theorem dX2_paint_72 : decode cX2_paint 72 = .ok (.goto (-65), 3) := by decide +kernel
theorem dX2_paint_75 : decode cX2_paint 75 = .ok (.return_, 1) := by decide +kernel
theorem dX2_remove_0 : decode cX2_remove 0 = .ok (.aload_n 0, 1) := by decide +kernel
theorem dX2_remove_1 : decode cX2_remove 1 = .ok (.iload_n 1, 1) := by decide +kernel
theorem dX2_remove_2 : decode cX2_remove 2 = .ok (.invokevirtual 60, 3) := by decide +kernel
theorem dX2_remove_5 : decode cX2_remove 5 = .ok (.ifCond .ne 5, 3) := by decide +kernel
theorem dX2_remove_8 : decode cX2_remove 8 = .ok (.iconst (-1), 1) := by decide +kernel
theorem dX2_remove_9 : decode cX2_remove 9 = .ok (.ireturn, 1) := by decide +kernel
theorem dX2_remove_10 : decode cX2_remove 10 = .ok (.aload_n 0, 1) := by decide +kernel
theorem dX2_remove_11 : decode cX2_remove 11 = .ok (.iload_n 1, 1) := by decide +kernel
theorem dX2_remove_12 : decode cX2_remove 12 = .ok (.iconst (-1), 1) := by decide +kernel
theorem dX2_remove_13 : decode cX2_remove 13 = .ok (.invokevirtual 40, 3) := by decide +kernel
theorem dX2_remove_16 : decode cX2_remove 16 = .ok (.aload_n 0, 1) := by decide +kernel
theorem dX2_remove_17 : decode cX2_remove 17 = .ok (.getfield 25, 3) := by decide +kernel
theorem dX2_remove_20 : decode cX2_remove 20 = .ok (.iload_n 1, 1) := by decide +kernel
theorem dX2_remove_21 : decode cX2_remove 21 = .ok (.iconst 0, 1) := by decide +kernel
theorem dX2_remove_22 : decode cX2_remove 22 = .ok (.bastore, 1) := by decide +kernel
theorem dX2_remove_23 : decode cX2_remove 23 = .ok (.aload_n 0, 1) := by decide +kernel
theorem dX2_remove_24 : decode cX2_remove 24 = .ok (.invokevirtual 48, 3) := by decide +kernel
theorem dX2_remove_27 : decode cX2_remove 27 = .ok (.ireturn, 1) := by decide +kernel
theorem dX2_isThere_0 : decode cX2_isThere 0 = .ok (.iload_n 1, 1) := by decide +kernel
theorem dX2_isThere_1 : decode cX2_isThere 1 = .ok (.ifCond .lt 22, 3) := by decide +kernel
theorem dX2_isThere_4 : decode cX2_isThere 4 = .ok (.iload_n 1, 1) := by decide +kernel
theorem dX2_isThere_5 : decode cX2_isThere 5 = .ok (.bipush 20, 2) := by decide +kernel
theorem dX2_isThere_7 : decode cX2_isThere 7 = .ok (.if_icmp .ge 16, 3) := by decide +kernel
theorem dX2_isThere_10 : decode cX2_isThere 10 = .ok (.aload_n 0, 1) := by decide +kernel
theorem dX2_isThere_11 : decode cX2_isThere 11 = .ok (.getfield 25, 3) := by decide +kernel
theorem dX2_isThere_14 : decode cX2_isThere 14 = .ok (.iload_n 1, 1) := by decide +kernel
theorem dX2_isThere_15 : decode cX2_isThere 15 = .ok (.baload, 1) := by decide +kernel
theorem dX2_isThere_16 : decode cX2_isThere 16 = .ok (.ifCond .eq 7, 3) := by decide +kernel
theorem dX2_isThere_19 : decode cX2_isThere 19 = .ok (.iconst 1, 1) := by decide +kernel
theorem dX2_isThere_20 : decode cX2_isThere 20 = .ok (.goto 4, 3) := by decide +kernel
theorem dX2_isThere_23 : decode cX2_isThere 23 = .ok (.iconst 0, 1) := by decide +kernel
theorem dX2_isThere_24 : decode cX2_isThere 24 = .ok (.ireturn, 1) := by decide +kernel
theorem dX2_look_0 : decode cX2_look 0 = .ok (.aload_n 0, 1) := by decide +kernel
theorem dX2_look_1 : decode cX2_look 1 = .ok (.iload_n 1, 1) := by decide +kernel
theorem dX2_look_2 : decode cX2_look 2 = .ok (.invokevirtual 60, 3) := by decide +kernel
theorem dX2_look_5 : decode cX2_look 5 = .ok (.ifCond .ne 5, 3) := by decide +kernel
theorem dX2_look_8 : decode cX2_look 8 = .ok (.iconst (-1), 1) := by decide +kernel
theorem dX2_look_9 : decode cX2_look 9 = .ok (.ireturn, 1) := by decide +kernel
theorem dX2_look_10 : decode cX2_look 10 = .ok (.iload_n 2, 1) := by decide +kernel
theorem dX2_look_11 : decode cX2_look 11 = .ok (.ifCond .ne 10, 3) := by decide +kernel
theorem dX2_look_14 : decode cX2_look 14 = .ok (.aload_n 0, 1) := by decide +kernel
theorem dX2_look_15 : decode cX2_look 15 = .ok (.getfield 13, 3) := by decide +kernel
theorem dX2_look_18 : decode cX2_look 18 = .ok (.iload_n 1, 1) := by decide +kernel
theorem dX2_look_19 : decode cX2_look 19 = .ok (.iaload, 1) := by decide +kernel
theorem dX2_look_20 : decode cX2_look 20 = .ok (.ireturn, 1) := by decide +kernel
theorem dX2_look_21 : decode cX2_look 21 = .ok (.iload_n 2, 1) := by decide +kernel
theorem dX2_look_22 : decode cX2_look 22 = .ok (.iconst 1, 1) := by decide +kernel
theorem dX2_look_23 : decode cX2_look 23 = .ok (.if_icmp .ne 10, 3) := by decide +kernel
theorem dX2_look_26 : decode cX2_look 26 = .ok (.aload_n 0, 1) := by decide +kernel
end
section
set_option maxRecDepth 100000
theorem dX2_look_27 : decode cX2_look 27 = .ok (.getfield 16, 3) := by decide +kernel
theorem dX2_look_30 : decode cX2_look 30 = .ok (.iload_n 1, 1) := by decide +kernel
theorem dX2_look_31 : decode cX2_look 31 = .ok (.iaload, 1) := by decide +kernel
theorem dX2_look_32 : decode cX2_look 32 = .ok (.ireturn, 1) := by decide +kernel
theorem dX2_look_33 : decode cX2_look 33 = .ok (.iload_n 2, 1) := by decide +kernel
theorem dX2_look_34 : decode cX2_look 34 = .ok (.iconst 2, 1) := by decide +kernel
theorem dX2_look_35 : decode cX2_look 35 = .ok (.if_icmp .ne 10, 3) := by decide +kernel
theorem dX2_look_38 : decode cX2_look 38 = .ok (.aload_n 0, 1) := by decide +kernel
theorem dX2_look_39 : decode cX2_look 39 = .ok (.getfield 19, 3) := by decide +kernel
theorem dX2_look_42 : decode cX2_look 42 = .ok (.iload_n 1, 1) := by decide +kernel
theorem dX2_look_43 : decode cX2_look 43 = .ok (.iaload, 1) := by decide +kernel
theorem dX2_look_44 : decode cX2_look 44 = .ok (.ireturn, 1) := by decide +kernel
theorem dX2_look_45 : decode cX2_look 45 = .ok (.iload_n 2, 1) := by decide +kernel
theorem dX2_look_46 : decode cX2_look 46 = .ok (.iconst 3, 1) := by decide +kernel
theorem dX2_look_47 : decode cX2_look 47 = .ok (.if_icmp .ne 12, 3) := by decide +kernel
theorem dX2_look_50 : decode cX2_look 50 = .ok (.aload_n 0, 1) := by decide +kernel
theorem dX2_look_51 : decode cX2_look 51 = .ok (.getfield 22, 3) := by decide +kernel
theorem dX2_look_54 : decode cX2_look 54 = .ok (.iload_n 1, 1) := by decide +kernel
theorem dX2_look_55 : decode cX2_look 55 = .ok (.iaload, 1) := by decide +kernel
theorem dX2_look_56 : decode cX2_look 56 = .ok (.goto 4, 3) := by decide +kernel
theorem dX2_look_59 : decode cX2_look 59 = .ok (.iconst (-1), 1) := by decide +kernel
theorem dX2_look_60 : decode cX2_look 60 = .ok (.ireturn, 1) := by decide +kernel
theorem dX2_owner_0 : decode cX2_owner 0 = .ok (.iload_n 1, 1) := by decide +kernel
theorem dX2_owner_1 : decode cX2_owner 1 = .ok (.ifCond .lt 23, 3) := by decide +kernel
theorem dX2_owner_4 : decode cX2_owner 4 = .ok (.iload_n 1, 1) := by decide +kernel
theorem dX2_owner_5 : decode cX2_owner 5 = .ok (.aload_n 0, 1) := by decide +kernel
theorem dX2_owner_6 : decode cX2_owner 6 = .ok (.getfield 29, 3) := by decide +kernel
theorem dX2_owner_9 : decode cX2_owner 9 = .ok (.if_icmp .ge 15, 3) := by decide +kernel
theorem dX2_owner_12 : decode cX2_owner 12 = .ok (.iload_n 2, 1) := by decide +kernel
theorem dX2_owner_13 : decode cX2_owner 13 = .ok (.ifCond .lt 11, 3) := by decide +kernel
theorem dX2_owner_16 : decode cX2_owner 16 = .ok (.iload_n 2, 1) := by decide +kernel
theorem dX2_owner_17 : decode cX2_owner 17 = .ok (.aload_n 0, 1) := by decide +kernel
theorem dX2_owner_18 : decode cX2_owner 18 = .ok (.getfield 33, 3) := by decide +kernel
theorem dX2_owner_21 : decode cX2_owner 21 = .ok (.if_icmp .lt 5, 3) := by decide +kernel
theorem dX2_owner_24 : decode cX2_owner 24 = .ok (.iconst (-1), 1) := by decide +kernel
theorem dX2_owner_25 : decode cX2_owner 25 = .ok (.ireturn, 1) := by decide +kernel
theorem dX2_owner_26 : decode cX2_owner 26 = .ok (.aload_n 0, 1) := by decide +kernel
theorem dX2_owner_27 : decode cX2_owner 27 = .ok (.getfield 7, 3) := by decide +kernel
theorem dX2_owner_30 : decode cX2_owner 30 = .ok (.bipush 16, 2) := by decide +kernel
theorem dX2_owner_32 : decode cX2_owner 32 = .ok (.iload_n 2, 1) := by decide +kernel
theorem dX2_owner_33 : decode cX2_owner 33 = .ok (.imul, 1) := by decide +kernel
theorem dX2_owner_34 : decode cX2_owner 34 = .ok (.iload_n 1, 1) := by decide +kernel
theorem dX2_owner_35 : decode cX2_owner 35 = .ok (.iadd, 1) := by decide +kernel
theorem dX2_owner_36 : decode cX2_owner 36 = .ok (.iaload, 1) := by decide +kernel
theorem dX2_owner_37 : decode cX2_owner 37 = .ok (.istore_n 3, 1) := by decide +kernel
theorem dX2_owner_38 : decode cX2_owner 38 = .ok (.iload_n 3, 1) := by decide +kernel
theorem dX2_owner_39 : decode cX2_owner 39 = .ok (.iconst (-1), 1) := by decide +kernel
theorem dX2_owner_40 : decode cX2_owner 40 = .ok (.if_icmp .ne 8, 3) := by decide +kernel
theorem dX2_owner_43 : decode cX2_owner 43 = .ok (.bipush (-3), 2) := by decide +kernel
theorem dX2_owner_45 : decode cX2_owner 45 = .ok (.goto 4, 3) := by decide +kernel
theorem dX2_owner_48 : decode cX2_owner 48 = .ok (.iload_n 3, 1) := by decide +kernel
theorem dX2_owner_49 : decode cX2_owner 49 = .ok (.ireturn, 1) := by decide +kernel
theorem dX2_freeCells_0 : decode cX2_freeCells 0 = .ok (.iconst 0, 1) := by decide +kernel
theorem dX2_freeCells_1 : decode cX2_freeCells 1 = .ok (.istore_n 1, 1) := by decide +kernel
theorem dX2_freeCells_2 : decode cX2_freeCells 2 = .ok (.iconst 0, 1) := by decide +kernel
theorem dX2_freeCells_3 : decode cX2_freeCells 3 = .ok (.istore_n 2, 1) := by decide +kernel
theorem dX2_freeCells_4 : decode cX2_freeCells 4 = .ok (.iload_n 2, 1) := by decide +kernel
theorem dX2_freeCells_5 : decode cX2_freeCells 5 = .ok (.aload_n 0, 1) := by decide +kernel
theorem dX2_freeCells_6 : decode cX2_freeCells 6 = .ok (.getfield 33, 3) := by decide +kernel
theorem dX2_freeCells_9 : decode cX2_freeCells 9 = .ok (.if_icmp .ge 43, 3) := by decide +kernel
theorem dX2_freeCells_12 : decode cX2_freeCells 12 = .ok (.iconst 0, 1) := by decide +kernel
theorem dX2_freeCells_13 : decode cX2_freeCells 13 = .ok (.istore_n 3, 1) := by decide +kernel
theorem dX2_freeCells_14 : decode cX2_freeCells 14 = .ok (.iload_n 3, 1) := by decide +kernel
theorem dX2_freeCells_15 : decode cX2_freeCells 15 = .ok (.aload_n 0, 1) := by decide +kernel
theorem dX2_freeCells_16 : decode cX2_freeCells 16 = .ok (.getfield 29, 3) := by decide +kernel
theorem dX2_freeCells_19 : decode cX2_freeCells 19 = .ok (.if_icmp .ge 27, 3) := by decide +kernel
theorem dX2_freeCells_22 : decode cX2_freeCells 22 = .ok (.aload_n 0, 1) := by decide +kernel
theorem dX2_freeCells_23 : decode cX2_freeCells 23 = .ok (.getfield 7, 3) := by decide +kernel
theorem dX2_freeCells_26 : decode cX2_freeCells 26 = .ok (.bipush 16, 2) := by decide +kernel
theorem dX2_freeCells_28 : decode cX2_freeCells 28 = .ok (.iload_n 2, 1) := by decide +kernel
theorem dX2_freeCells_29 : decode cX2_freeCells 29 = .ok (.imul, 1) := by decide +kernel
theorem dX2_freeCells_30 : decode cX2_freeCells 30 = .ok (.iload_n 3, 1) := by decide +kernel
theorem dX2_freeCells_31 : decode cX2_freeCells 31 = .ok (.iadd, 1) := by decide +kernel
theorem dX2_freeCells_32 : decode cX2_freeCells 32 = .ok (.iaload, 1) := by decide +kernel
theorem dX2_freeCells_33 : decode cX2_freeCells 33 = .ok (.iconst (-1), 1) := by decide +kernel
theorem dX2_freeCells_34 : decode cX2_freeCells 34 = .ok (.if_icmp .ne 6, 3) := by decide +kernel
theorem dX2_freeCells_37 : decode cX2_freeCells 37 = .ok (.iinc 1 1, 3) := by decide +kernel
theorem dX2_freeCells_40 : decode cX2_freeCells 40 = .ok (.iinc 3 1, 3) := by decide +kernel
theorem dX2_freeCells_43 : decode cX2_freeCells 43 = .ok (.goto (-29), 3) := by decide +kernel
theorem dX2_freeCells_46 : decode cX2_freeCells 46 = .ok (.iinc 2 1, 3) := by decide +kernel
theorem dX2_freeCells_49 : decode cX2_freeCells 49 = .ok (.goto (-45), 3) := by decide +kernel
theorem dX2_freeCells_52 : decode cX2_freeCells 52 = .ok (.iload_n 1, 1) := by decide +kernel
theorem dX2_freeCells_53 : decode cX2_freeCells 53 = .ok (.ireturn, 1) := by decide +kernel
theorem dX2_holes_0 : decode cX2_holes 0 = .ok (.iconst 0, 1) := by decide +kernel
theorem dX2_holes_1 : decode cX2_holes 1 = .ok (.istore_n 1, 1) := by decide +kernel
theorem dX2_holes_2 : decode cX2_holes 2 = .ok (.iconst 0, 1) := by decide +kernel
theorem dX2_holes_3 : decode cX2_holes 3 = .ok (.istore_n 2, 1) := by decide +kernel
theorem dX2_holes_4 : decode cX2_holes 4 = .ok (.iload_n 2, 1) := by decide +kernel
theorem dX2_holes_5 : decode cX2_holes 5 = .ok (.sipush 256, 3) := by decide +kernel
theorem dX2_holes_8 : decode cX2_holes 8 = .ok (.if_icmp .ge 43, 3) := by decide +kernel
theorem dX2_holes_11 : decode cX2_holes 11 = .ok (.iconst 1, 1) := by decide +kernel
theorem dX2_holes_12 : decode cX2_holes 12 = .ok (.istore_n 3, 1) := by decide +kernel
theorem dX2_holes_13 : decode cX2_holes 13 = .ok (.iload_n 3, 1) := by decide +kernel
theorem dX2_holes_14 : decode cX2_holes 14 = .ok (.aload_n 0, 1) := by decide +kernel
theorem dX2_holes_15 : decode cX2_holes 15 = .ok (.getfield 29, 3) := by decide +kernel
theorem dX2_holes_18 : decode cX2_holes 18 = .ok (.if_icmp .gt 27, 3) := by decide +kernel
theorem dX2_holes_21 : decode cX2_holes 21 = .ok (.aload_n 0, 1) := by decide +kernel
theorem dX2_holes_22 : decode cX2_holes 22 = .ok (.iload_n 2, 1) := by decide +kernel
theorem dX2_holes_23 : decode cX2_holes 23 = .ok (.bipush 15, 2) := by decide +kernel
theorem dX2_holes_25 : decode cX2_holes 25 = .ok (.iand, 1) := by decide +kernel
theorem dX2_holes_26 : decode cX2_holes 26 = .ok (.iload_n 2, 1) := by decide +kernel
theorem dX2_holes_27 : decode cX2_holes 27 = .ok (.iconst 4, 1) := by decide +kernel
theorem dX2_holes_28 : decode cX2_holes 28 = .ok (.ishr, 1) := by decide +kernel
theorem dX2_holes_29 : decode cX2_holes 29 = .ok (.iload_n 3, 1) := by decide +kernel
theorem dX2_holes_30 : decode cX2_holes 30 = .ok (.invokevirtual 70, 3) := by decide +kernel
theorem dX2_holes_33 : decode cX2_holes 33 = .ok (.ifCond .le 6, 3) := by decide +kernel
theorem dX2_holes_36 : decode cX2_holes 36 = .ok (.iinc 1 1, 3) := by decide +kernel
theorem dX2_holes_39 : decode cX2_holes 39 = .ok (.iinc 3 1, 3) := by decide +kernel
theorem dX2_holes_42 : decode cX2_holes 42 = .ok (.goto (-29), 3) := by decide +kernel
theorem dX2_holes_45 : decode cX2_holes 45 = .ok (.iinc 2 1, 3) := by decide +kernel
theorem dX2_holes_48 : decode cX2_holes 48 = .ok (.goto (-44), 3) := by decide +kernel
theorem dX2_holes_51 : decode cX2_holes 51 = .ok (.iload_n 1, 1) := by decide +kernel
theorem dX2_holes_52 : decode cX2_holes 52 = .ok (.ireturn, 1) := by decide +kernel
theorem dX2_areaOfHole_0 : decode cX2_areaOfHole 0 = .ok (.iload_n 3, 1) := by decide +kernel
theorem dX2_areaOfHole_1 : decode cX2_areaOfHole 1 = .ok (.aload_n 0, 1) := by decide +kernel
theorem dX2_areaOfHole_2 : decode cX2_areaOfHole 2 = .ok (.getfield 29, 3) := by decide +kernel
theorem dX2_areaOfHole_5 : decode cX2_areaOfHole 5 = .ok (.iload_n 1, 1) := by decide +kernel
theorem dX2_areaOfHole_6 : decode cX2_areaOfHole 6 = .ok (.isub, 1) := by decide +kernel
theorem dX2_areaOfHole_7 : decode cX2_areaOfHole 7 = .ok (.if_icmp .le 5, 3) := by decide +kernel
theorem dX2_areaOfHole_10 : decode cX2_areaOfHole 10 = .ok (.iconst 0, 1) := by decide +kernel
theorem dX2_areaOfHole_11 : decode cX2_areaOfHole 11 = .ok (.ireturn, 1) := by decide +kernel
theorem dX2_areaOfHole_12 : decode cX2_areaOfHole 12 = .ok (.aload_n 0, 1) := by decide +kernel
theorem dX2_areaOfHole_13 : decode cX2_areaOfHole 13 = .ok (.iload_n 1, 1) := by decide +kernel
theorem dX2_areaOfHole_14 : decode cX2_areaOfHole 14 = .ok (.iload_n 2, 1) := by decide +kernel
theorem dX2_areaOfHole_15 : decode cX2_areaOfHole 15 = .ok (.iload_n 3, 1) := by decide +kernel
theorem dX2_areaOfHole_16 : decode cX2_areaOfHole 16 = .ok (.invokevirtual 64, 3) := by decide +kernel
theorem dX2_areaOfHole_19 : decode cX2_areaOfHole 19 = .ok (.istore 4, 2) := by decide +kernel
theorem dX2_areaOfHole_21 : decode cX2_areaOfHole 21 = .ok (.iload 4, 2) := by decide +kernel
theorem dX2_areaOfHole_23 : decode cX2_areaOfHole 23 = .ok (.ifCond .le 22, 3) := by decide +kernel
theorem dX2_areaOfHole_26 : decode cX2_areaOfHole 26 = .ok (.aload_n 0, 1) := by decide +kernel
theorem dX2_areaOfHole_27 : decode cX2_areaOfHole 27 = .ok (.iload_n 1, 1) := by decide +kernel
theorem dX2_areaOfHole_28 : decode cX2_areaOfHole 28 = .ok (.iload_n 2, 1) := by decide +kernel
theorem dX2_areaOfHole_29 : decode cX2_areaOfHole 29 = .ok (.iload_n 3, 1) := by decide +kernel
theorem dX2_areaOfHole_30 : decode cX2_areaOfHole 30 = .ok (.iload 4, 2) := by decide +kernel
theorem dX2_areaOfHole_32 : decode cX2_areaOfHole 32 = .ok (.invokevirtual 67, 3) := by decide +kernel
theorem dX2_areaOfHole_35 : decode cX2_areaOfHole 35 = .ok (.ifCond .eq 10, 3) := by decide +kernel
theorem dX2_areaOfHole_38 : decode cX2_areaOfHole 38 = .ok (.iload_n 3, 1) := by decide +kernel
theorem dX2_areaOfHole_39 : decode cX2_areaOfHole 39 = .ok (.iload 4, 2) := by decide +kernel
theorem dX2_areaOfHole_41 : decode cX2_areaOfHole 41 = .ok (.imul, 1) := by decide +kernel
theorem dX2_areaOfHole_42 : decode cX2_areaOfHole 42 = .ok (.goto 4, 3) := by decide +kernel
theorem dX2_areaOfHole_45 : decode cX2_areaOfHole 45 = .ok (.iconst 0, 1) := by decide +kernel
theorem dX2_areaOfHole_46 : decode cX2_areaOfHole 46 = .ok (.ireturn, 1) := by decide +kernel
theorem dX2_tallest_0 : decode cX2_tallest 0 = .ok (.iconst 1, 1) := by decide +kernel
theorem dX2_tallest_1 : decode cX2_tallest 1 = .ok (.istore 4, 2) := by decide +kernel
theorem dX2_tallest_3 : decode cX2_tallest 3 = .ok (.iload 4, 2) := by decide +kernel
theorem dX2_tallest_5 : decode cX2_tallest 5 = .ok (.aload_n 0, 1) := by decide +kernel
theorem dX2_tallest_6 : decode cX2_tallest 6 = .ok (.getfield 33, 3) := by decide +kernel
theorem dX2_tallest_9 : decode cX2_tallest 9 = .ok (.iload_n 2, 1) := by decide +kernel
theorem dX2_tallest_10 : decode cX2_tallest 10 = .ok (.isub, 1) := by decide +kernel
theorem dX2_tallest_11 : decode cX2_tallest 11 = .ok (.if_icmp .gt 30, 3) := by decide +kernel
theorem dX2_tallest_14 : decode cX2_tallest 14 = .ok (.aload_n 0, 1) := by decide +kernel
theorem dX2_tallest_15 : decode cX2_tallest 15 = .ok (.iload_n 1, 1) := by decide +kernel
theorem dX2_tallest_16 : decode cX2_tallest 16 = .ok (.iload_n 2, 1) := by decide +kernel
theorem dX2_tallest_17 : decode cX2_tallest 17 = .ok (.iload 4, 2) := by decide +kernel
theorem dX2_tallest_19 : decode cX2_tallest 19 = .ok (.iadd, 1) := by decide +kernel
theorem dX2_tallest_20 : decode cX2_tallest 20 = .ok (.iconst 1, 1) := by decide +kernel
theorem dX2_tallest_21 : decode cX2_tallest 21 = .ok (.isub, 1) := by decide +kernel
theorem dX2_tallest_22 : decode cX2_tallest 22 = .ok (.iload_n 3, 1) := by decide +kernel
theorem dX2_tallest_23 : decode cX2_tallest 23 = .ok (.iconst 1, 1) := by decide +kernel
theorem dX2_tallest_24 : decode cX2_tallest 24 = .ok (.invokevirtual 36, 3) := by decide +kernel
theorem dX2_tallest_27 : decode cX2_tallest 27 = .ok (.ifCond .ne 8, 3) := by decide +kernel
theorem dX2_tallest_30 : decode cX2_tallest 30 = .ok (.iload 4, 2) := by decide +kernel
theorem dX2_tallest_32 : decode cX2_tallest 32 = .ok (.iconst 1, 1) := by decide +kernel
theorem dX2_tallest_33 : decode cX2_tallest 33 = .ok (.isub, 1) := by decide +kernel
theorem dX2_tallest_34 : decode cX2_tallest 34 = .ok (.ireturn, 1) := by decide +kernel
theorem dX2_tallest_35 : decode cX2_tallest 35 = .ok (.iinc 4 1, 3) := by decide +kernel
theorem dX2_tallest_38 : decode cX2_tallest 38 = .ok (.goto (-35), 3) := by decide +kernel
theorem dX2_tallest_41 : decode cX2_tallest 41 = .ok (.aload_n 0, 1) := by decide +kernel
theorem dX2_tallest_42 : decode cX2_tallest 42 = .ok (.getfield 33, 3) := by decide +kernel
theorem dX2_tallest_45 : decode cX2_tallest 45 = .ok (.iload_n 2, 1) := by decide +kernel
theorem dX2_tallest_46 : decode cX2_tallest 46 = .ok (.isub, 1) := by decide +kernel
theorem dX2_tallest_47 : decode cX2_tallest 47 = .ok (.ireturn, 1) := by decide +kernel
theorem dX2_closed_0 : decode cX2_closed 0 = .ok (.aload_n 0, 1) := by decide +kernel
theorem dX2_closed_1 : decode cX2_closed 1 = .ok (.iload_n 1, 1) := by decide +kernel
theorem dX2_closed_2 : decode cX2_closed 2 = .ok (.iconst 1, 1) := by decide +kernel
theorem dX2_closed_3 : decode cX2_closed 3 = .ok (.isub, 1) := by decide +kernel
theorem dX2_closed_4 : decode cX2_closed 4 = .ok (.iload_n 2, 1) := by decide +kernel
theorem dX2_closed_5 : decode cX2_closed 5 = .ok (.iconst 1, 1) := by decide +kernel
theorem dX2_closed_6 : decode cX2_closed 6 = .ok (.iload 4, 2) := by decide +kernel
theorem dX2_closed_8 : decode cX2_closed 8 = .ok (.invokevirtual 36, 3) := by decide +kernel
theorem dX2_closed_11 : decode cX2_closed 11 = .ok (.ifCond .ne 34, 3) := by decide +kernel
theorem dX2_closed_14 : decode cX2_closed 14 = .ok (.aload_n 0, 1) := by decide +kernel
theorem dX2_closed_15 : decode cX2_closed 15 = .ok (.iload_n 1, 1) := by decide +kernel
theorem dX2_closed_16 : decode cX2_closed 16 = .ok (.iload_n 3, 1) := by decide +kernel
theorem dX2_closed_17 : decode cX2_closed 17 = .ok (.iadd, 1) := by decide +kernel
theorem dX2_closed_18 : decode cX2_closed 18 = .ok (.iload_n 2, 1) := by decide +kernel
theorem dX2_closed_19 : decode cX2_closed 19 = .ok (.iconst 1, 1) := by decide +kernel
theorem dX2_closed_20 : decode cX2_closed 20 = .ok (.iload 4, 2) := by decide +kernel
theorem dX2_closed_22 : decode cX2_closed 22 = .ok (.invokevirtual 36, 3) := by decide +kernel
theorem dX2_closed_25 : decode cX2_closed 25 = .ok (.ifCond .ne 20, 3) := by decide +kernel
theorem dX2_closed_28 : decode cX2_closed 28 = .ok (.aload_n 0, 1) := by decide +kernel
theorem dX2_closed_29 : decode cX2_closed 29 = .ok (.iload_n 1, 1) := by decide +kernel
theorem dX2_closed_30 : decode cX2_closed 30 = .ok (.iload_n 2, 1) := by decide +kernel
theorem dX2_closed_31 : decode cX2_closed 31 = .ok (.iconst 1, 1) := by decide +kernel
theorem dX2_closed_32 : decode cX2_closed 32 = .ok (.isub, 1) := by decide +kernel
theorem dX2_closed_33 : decode cX2_closed 33 = .ok (.iload_n 3, 1) := by decide +kernel
theorem dX2_closed_34 : decode cX2_closed 34 = .ok (.iconst 1, 1) := by decide +kernel
theorem dX2_closed_35 : decode cX2_closed 35 = .ok (.invokevirtual 36, 3) := by decide +kernel
theorem dX2_closed_38 : decode cX2_closed 38 = .ok (.ifCond .ne 7, 3) := by decide +kernel
theorem dX2_closed_41 : decode cX2_closed 41 = .ok (.iconst 1, 1) := by decide +kernel
theorem dX2_closed_42 : decode cX2_closed 42 = .ok (.goto 4, 3) := by decide +kernel
theorem dX2_closed_45 : decode cX2_closed 45 = .ok (.iconst 0, 1) := by decide +kernel
theorem dX2_closed_46 : decode cX2_closed 46 = .ok (.ireturn, 1) := by decide +kernel
theorem dX2_largestHole_0 : decode cX2_largestHole 0 = .ok (.iconst 0, 1) := by decide +kernel
theorem dX2_largestHole_1 : decode cX2_largestHole 1 = .ok (.istore_n 1, 1) := by decide +kernel
theorem dX2_largestHole_2 : decode cX2_largestHole 2 = .ok (.iconst 0, 1) := by decide +kernel
theorem dX2_largestHole_3 : decode cX2_largestHole 3 = .ok (.istore_n 2, 1) := by decide +kernel
theorem dX2_largestHole_4 : decode cX2_largestHole 4 = .ok (.iload_n 2, 1) := by decide +kernel
theorem dX2_largestHole_5 : decode cX2_largestHole 5 = .ok (.sipush 256, 3) := by decide +kernel
theorem dX2_largestHole_8 : decode cX2_largestHole 8 = .ok (.if_icmp .ge 48, 3) := by decide +kernel
theorem dX2_largestHole_11 : decode cX2_largestHole 11 = .ok (.iconst 1, 1) := by decide +kernel
theorem dX2_largestHole_12 : decode cX2_largestHole 12 = .ok (.istore_n 3, 1) := by decide +kernel
theorem dX2_largestHole_13 : decode cX2_largestHole 13 = .ok (.iload_n 3, 1) := by decide +kernel
theorem dX2_largestHole_14 : decode cX2_largestHole 14 = .ok (.aload_n 0, 1) := by decide +kernel
theorem dX2_largestHole_15 : decode cX2_largestHole 15 = .ok (.getfield 29, 3) := by decide +kernel
theorem dX2_largestHole_18 : decode cX2_largestHole 18 = .ok (.if_icmp .gt 32, 3) := by decide +kernel
theorem dX2_largestHole_21 : decode cX2_largestHole 21 = .ok (.aload_n 0, 1) := by decide +kernel
theorem dX2_largestHole_22 : decode cX2_largestHole 22 = .ok (.iload_n 2, 1) := by decide +kernel
theorem dX2_largestHole_23 : decode cX2_largestHole 23 = .ok (.bipush 15, 2) := by decide +kernel
theorem dX2_largestHole_25 : decode cX2_largestHole 25 = .ok (.iand, 1) := by decide +kernel
theorem dX2_largestHole_26 : decode cX2_largestHole 26 = .ok (.iload_n 2, 1) := by decide +kernel
theorem dX2_largestHole_27 : decode cX2_largestHole 27 = .ok (.iconst 4, 1) := by decide +kernel
theorem dX2_largestHole_28 : decode cX2_largestHole 28 = .ok (.ishr, 1) := by decide +kernel
theorem dX2_largestHole_29 : decode cX2_largestHole 29 = .ok (.iload_n 3, 1) := by decide +kernel
theorem dX2_largestHole_30 : decode cX2_largestHole 30 = .ok (.invokevirtual 70, 3) := by decide +kernel
theorem dX2_largestHole_33 : decode cX2_largestHole 33 = .ok (.istore 4, 2) := by decide +kernel
theorem dX2_largestHole_35 : decode cX2_largestHole 35 = .ok (.iload 4, 2) := by decide +kernel
theorem dX2_largestHole_37 : decode cX2_largestHole 37 = .ok (.iload_n 1, 1) := by decide +kernel
theorem dX2_largestHole_38 : decode cX2_largestHole 38 = .ok (.if_icmp .le 6, 3) := by decide +kernel
theorem dX2_largestHole_41 : decode cX2_largestHole 41 = .ok (.iload 4, 2) := by decide +kernel
theorem dX2_largestHole_43 : decode cX2_largestHole 43 = .ok (.istore_n 1, 1) := by decide +kernel
theorem dX2_largestHole_44 : decode cX2_largestHole 44 = .ok (.iinc 3 1, 3) := by decide +kernel
theorem dX2_largestHole_47 : decode cX2_largestHole 47 = .ok (.goto (-34), 3) := by decide +kernel
theorem dX2_largestHole_50 : decode cX2_largestHole 50 = .ok (.iinc 2 1, 3) := by decide +kernel
theorem dX2_largestHole_53 : decode cX2_largestHole 53 = .ok (.goto (-49), 3) := by decide +kernel
theorem dX2_largestHole_56 : decode cX2_largestHole 56 = .ok (.iload_n 1, 1) := by decide +kernel
theorem dX2_largestHole_57 : decode cX2_largestHole 57 = .ok (.ireturn, 1) := by decide +kernel
theorem dX2_bestPlace_0 : decode cX2_bestPlace 0 = .ok (.aload_n 0, 1) := by decide +kernel
theorem dX2_bestPlace_1 : decode cX2_bestPlace 1 = .ok (.iload_n 1, 1) := by decide +kernel
theorem dX2_bestPlace_2 : decode cX2_bestPlace 2 = .ok (.iload_n 2, 1) := by decide +kernel
theorem dX2_bestPlace_3 : decode cX2_bestPlace 3 = .ok (.invokevirtual 44, 3) := by decide +kernel
theorem dX2_bestPlace_6 : decode cX2_bestPlace 6 = .ok (.ifCond .eq 12, 3) := by decide +kernel
theorem dX2_bestPlace_9 : decode cX2_bestPlace 9 = .ok (.aload_n 0, 1) := by decide +kernel
theorem dX2_bestPlace_10 : decode cX2_bestPlace 10 = .ok (.iload_n 1, 1) := by decide +kernel
theorem dX2_bestPlace_11 : decode cX2_bestPlace 11 = .ok (.iload_n 2, 1) := by decide +kernel
theorem dX2_bestPlace_12 : decode cX2_bestPlace 12 = .ok (.invokevirtual 52, 3) := by decide +kernel
theorem dX2_bestPlace_15 : decode cX2_bestPlace 15 = .ok (.goto 4, 3) := by decide +kernel
theorem dX2_bestPlace_18 : decode cX2_bestPlace 18 = .ok (.iconst (-1), 1) := by decide +kernel
theorem dX2_bestPlace_19 : decode cX2_bestPlace 19 = .ok (.ireturn, 1) := by decide +kernel
theorem dX2_fitting_0 : decode cX2_fitting 0 = .ok (.iconst 0, 1) := by decide +kernel
theorem dX2_fitting_1 : decode cX2_fitting 1 = .ok (.istore_n 1, 1) := by decide +kernel
theorem dX2_fitting_2 : decode cX2_fitting 2 = .ok (.iconst 1, 1) := by decide +kernel
theorem dX2_fitting_3 : decode cX2_fitting 3 = .ok (.istore_n 2, 1) := by decide +kernel
theorem dX2_fitting_4 : decode cX2_fitting 4 = .ok (.iload_n 2, 1) := by decide +kernel
theorem dX2_fitting_5 : decode cX2_fitting 5 = .ok (.aload_n 0, 1) := by decide +kernel
theorem dX2_fitting_6 : decode cX2_fitting 6 = .ok (.getfield 29, 3) := by decide +kernel
theorem dX2_fitting_9 : decode cX2_fitting 9 = .ok (.if_icmp .gt 86, 3) := by decide +kernel
theorem dX2_fitting_12 : decode cX2_fitting 12 = .ok (.iconst 0, 1) := by decide +kernel
theorem dX2_fitting_13 : decode cX2_fitting 13 = .ok (.istore_n 3, 1) := by decide +kernel
theorem dX2_fitting_14 : decode cX2_fitting 14 = .ok (.iconst 0, 1) := by decide +kernel
theorem dX2_fitting_15 : decode cX2_fitting 15 = .ok (.istore 4, 2) := by decide +kernel
theorem dX2_fitting_17 : decode cX2_fitting 17 = .ok (.iload 4, 2) := by decide +kernel
theorem dX2_fitting_19 : decode cX2_fitting 19 = .ok (.sipush 256, 3) := by decide +kernel
theorem dX2_fitting_22 : decode cX2_fitting 22 = .ok (.if_icmp .ge 63, 3) := by decide +kernel
theorem dX2_fitting_25 : decode cX2_fitting 25 = .ok (.iload 4, 2) := by decide +kernel
theorem dX2_fitting_27 : decode cX2_fitting 27 = .ok (.bipush 15, 2) := by decide +kernel
theorem dX2_fitting_29 : decode cX2_fitting 29 = .ok (.iand, 1) := by decide +kernel
theorem dX2_fitting_30 : decode cX2_fitting 30 = .ok (.iload_n 2, 1) := by decide +kernel
theorem dX2_fitting_31 : decode cX2_fitting 31 = .ok (.iadd, 1) := by decide +kernel
theorem dX2_fitting_32 : decode cX2_fitting 32 = .ok (.aload_n 0, 1) := by decide +kernel
theorem dX2_fitting_33 : decode cX2_fitting 33 = .ok (.getfield 29, 3) := by decide +kernel
theorem dX2_fitting_36 : decode cX2_fitting 36 = .ok (.if_icmp .gt 14, 3) := by decide +kernel
theorem dX2_fitting_39 : decode cX2_fitting 39 = .ok (.iload 4, 2) := by decide +kernel
theorem dX2_fitting_41 : decode cX2_fitting 41 = .ok (.iconst 4, 1) := by decide +kernel
theorem dX2_fitting_42 : decode cX2_fitting 42 = .ok (.ishr, 1) := by decide +kernel
theorem dX2_fitting_43 : decode cX2_fitting 43 = .ok (.aload_n 0, 1) := by decide +kernel
theorem dX2_fitting_44 : decode cX2_fitting 44 = .ok (.getfield 33, 3) := by decide +kernel
theorem dX2_fitting_47 : decode cX2_fitting 47 = .ok (.if_icmp .lt 7, 3) := by decide +kernel
theorem dX2_fitting_50 : decode cX2_fitting 50 = .ok (.iconst 0, 1) := by decide +kernel
theorem dX2_fitting_51 : decode cX2_fitting 51 = .ok (.goto 17, 3) := by decide +kernel
theorem dX2_fitting_54 : decode cX2_fitting 54 = .ok (.aload_n 0, 1) := by decide +kernel
theorem dX2_fitting_55 : decode cX2_fitting 55 = .ok (.iload 4, 2) := by decide +kernel
theorem dX2_fitting_57 : decode cX2_fitting 57 = .ok (.bipush 15, 2) := by decide +kernel
theorem dX2_fitting_59 : decode cX2_fitting 59 = .ok (.iand, 1) := by decide +kernel
theorem dX2_fitting_60 : decode cX2_fitting 60 = .ok (.iload 4, 2) := by decide +kernel
theorem dX2_fitting_62 : decode cX2_fitting 62 = .ok (.iconst 4, 1) := by decide +kernel
theorem dX2_fitting_63 : decode cX2_fitting 63 = .ok (.ishr, 1) := by decide +kernel
theorem dX2_fitting_64 : decode cX2_fitting 64 = .ok (.iload_n 2, 1) := by decide +kernel
theorem dX2_fitting_65 : decode cX2_fitting 65 = .ok (.invokevirtual 64, 3) := by decide +kernel
theorem dX2_fitting_68 : decode cX2_fitting 68 = .ok (.istore 5, 2) := by decide +kernel
theorem dX2_fitting_70 : decode cX2_fitting 70 = .ok (.iload 5, 2) := by decide +kernel
theorem dX2_fitting_72 : decode cX2_fitting 72 = .ok (.iload_n 3, 1) := by decide +kernel
theorem dX2_fitting_73 : decode cX2_fitting 73 = .ok (.if_icmp .le 6, 3) := by decide +kernel
theorem dX2_fitting_76 : decode cX2_fitting 76 = .ok (.iload 5, 2) := by decide +kernel
theorem dX2_fitting_78 : decode cX2_fitting 78 = .ok (.istore_n 3, 1) := by decide +kernel
theorem dX2_fitting_79 : decode cX2_fitting 79 = .ok (.iinc 4 1, 3) := by decide +kernel
theorem dX2_fitting_82 : decode cX2_fitting 82 = .ok (.goto (-65), 3) := by decide +kernel
theorem dX2_fitting_85 : decode cX2_fitting 85 = .ok (.iload_n 1, 1) := by decide +kernel
theorem dX2_fitting_86 : decode cX2_fitting 86 = .ok (.iload_n 3, 1) := by decide +kernel
theorem dX2_fitting_87 : decode cX2_fitting 87 = .ok (.iadd, 1) := by decide +kernel
theorem dX2_fitting_88 : decode cX2_fitting 88 = .ok (.istore_n 1, 1) := by decide +kernel
theorem dX2_fitting_89 : decode cX2_fitting 89 = .ok (.iinc 2 1, 3) := by decide +kernel
theorem dX2_fitting_92 : decode cX2_fitting 92 = .ok (.goto (-88), 3) := by decide +kernel
theorem dX2_fitting_95 : decode cX2_fitting 95 = .ok (.iload_n 1, 1) := by decide +kernel
theorem dX2_fitting_96 : decode cX2_fitting 96 = .ok (.ireturn, 1) := by decide +kernel
theorem dX2_clear_0 : decode cX2_clear 0 = .ok (.aload_n 0, 1) := by decide +kernel
theorem dX2_clear_1 : decode cX2_clear 1 = .ok (.invokevirtual 48, 3) := by decide +kernel
theorem dX2_clear_4 : decode cX2_clear 4 = .ok (.istore_n 1, 1) := by decide +kernel
theorem dX2_clear_5 : decode cX2_clear 5 = .ok (.iconst 0, 1) := by decide +kernel
theorem dX2_clear_6 : decode cX2_clear 6 = .ok (.istore_n 2, 1) := by decide +kernel
theorem dX2_clear_7 : decode cX2_clear 7 = .ok (.iload_n 2, 1) := by decide +kernel
theorem dX2_clear_8 : decode cX2_clear 8 = .ok (.bipush 20, 2) := by decide +kernel
theorem dX2_clear_10 : decode cX2_clear 10 = .ok (.if_icmp .ge 16, 3) := by decide +kernel
theorem dX2_clear_13 : decode cX2_clear 13 = .ok (.aload_n 0, 1) := by decide +kernel
theorem dX2_clear_14 : decode cX2_clear 14 = .ok (.getfield 25, 3) := by decide +kernel
theorem dX2_clear_17 : decode cX2_clear 17 = .ok (.iload_n 2, 1) := by decide +kernel
theorem dX2_clear_18 : decode cX2_clear 18 = .ok (.iconst 0, 1) := by decide +kernel
theorem dX2_clear_19 : decode cX2_clear 19 = .ok (.bastore, 1) := by decide +kernel
theorem dX2_clear_20 : decode cX2_clear 20 = .ok (.iinc 2 1, 3) := by decide +kernel
theorem dX2_clear_23 : decode cX2_clear 23 = .ok (.goto (-16), 3) := by decide +kernel
theorem dX2_clear_26 : decode cX2_clear 26 = .ok (.iconst 0, 1) := by decide +kernel
theorem dX2_clear_27 : decode cX2_clear 27 = .ok (.istore_n 2, 1) := by decide +kernel
theorem dX2_clear_28 : decode cX2_clear 28 = .ok (.iload_n 2, 1) := by decide +kernel
theorem dX2_clear_29 : decode cX2_clear 29 = .ok (.sipush 256, 3) := by decide +kernel
theorem dX2_clear_32 : decode cX2_clear 32 = .ok (.if_icmp .ge 16, 3) := by decide +kernel
theorem dX2_clear_35 : decode cX2_clear 35 = .ok (.aload_n 0, 1) := by decide +kernel
theorem dX2_clear_36 : decode cX2_clear 36 = .ok (.getfield 7, 3) := by decide +kernel
theorem dX2_clear_39 : decode cX2_clear 39 = .ok (.iload_n 2, 1) := by decide +kernel
theorem dX2_clear_40 : decode cX2_clear 40 = .ok (.iconst (-1), 1) := by decide +kernel
theorem dX2_clear_41 : decode cX2_clear 41 = .ok (.iastore, 1) := by decide +kernel
theorem dX2_clear_42 : decode cX2_clear 42 = .ok (.iinc 2 1, 3) := by decide +kernel
theorem dX2_clear_45 : decode cX2_clear 45 = .ok (.goto (-17), 3) := by decide +kernel
theorem dX2_clear_48 : decode cX2_clear 48 = .ok (.iload_n 1, 1) := by decide +kernel
theorem dX2_clear_49 : decode cX2_clear 49 = .ok (.ireturn, 1) := by decide +kernel
end
section
set_option maxRecDepth 100000
theorem dX0_cell_0 : decode cX0_cell 0 = .ok (.iload_n 1, 1) := by decide +kernel
theorem dX0_cell_1 : decode cX0_cell 1 = .ok (.aload_n 0, 1) := by decide +kernel
theorem dX0_cell_2 : decode cX0_cell 2 = .ok (.arraylength, 1) := by decide +kernel
theorem dX0_cell_3 : decode cX0_cell 3 = .ok (.if_icmp .ge 9, 3) := by decide +kernel
theorem dX0_cell_6 : decode cX0_cell 6 = .ok (.aload_n 0, 1) := by decide +kernel
theorem dX0_cell_7 : decode cX0_cell 7 = .ok (.iload_n 1, 1) := by decide +kernel
theorem dX0_cell_8 : decode cX0_cell 8 = .ok (.iaload, 1) := by decide +kernel
theorem dX0_cell_9 : decode cX0_cell 9 = .ok (.goto 4, 3) := by decide +kernel
theorem dX0_cell_12 : decode cX0_cell 12 = .ok (.iconst 0, 1) := by decide +kernel
theorem dX0_cell_13 : decode cX0_cell 13 = .ok (.ireturn, 1) := by decide +kernel
theorem dJ0_init_0 : decode cJ0_init 0 = .ok (.return_, 1) := by decide +kernel
end
section
set_option maxRecDepth 100000
theorem dL_law_0 : decode cL_law 0 = .ok (.new 7, 3) := by decide +kernel
theorem dL_law_3 : decode cL_law 3 = .ok (.dup, 1) := by decide +kernel
theorem dL_law_4 : decode cL_law 4 = .ok (.aload_n 0, 1) := by decide +kernel
theorem dL_law_5 : decode cL_law 5 = .ok (.iconst 0, 1) := by decide +kernel
theorem dL_law_6 : decode cL_law 6 = .ok (.invokestatic 9, 3) := by decide +kernel
theorem dL_law_9 : decode cL_law 9 = .ok (.aload_n 0, 1) := by decide +kernel
theorem dL_law_10 : decode cL_law 10 = .ok (.iconst 1, 1) := by decide +kernel
theorem dL_law_11 : decode cL_law 11 = .ok (.invokestatic 9, 3) := by decide +kernel
theorem dL_law_14 : decode cL_law 14 = .ok (.invokespecial 15, 3) := by decide +kernel
theorem dL_law_17 : decode cL_law 17 = .ok (.astore_n 1, 1) := by decide +kernel
theorem dL_law_18 : decode cL_law 18 = .ok (.new 18, 3) := by decide +kernel
theorem dL_law_21 : decode cL_law 21 = .ok (.dup, 1) := by decide +kernel
theorem dL_law_22 : decode cL_law 22 = .ok (.aload_n 0, 1) := by decide +kernel
theorem dL_law_23 : decode cL_law 23 = .ok (.iconst 0, 1) := by decide +kernel
theorem dL_law_24 : decode cL_law 24 = .ok (.invokestatic 9, 3) := by decide +kernel
theorem dL_law_27 : decode cL_law 27 = .ok (.aload_n 0, 1) := by decide +kernel
theorem dL_law_28 : decode cL_law 28 = .ok (.iconst 1, 1) := by decide +kernel
theorem dL_law_29 : decode cL_law 29 = .ok (.invokestatic 9, 3) := by decide +kernel
theorem dL_law_32 : decode cL_law 32 = .ok (.invokespecial 20, 3) := by decide +kernel
theorem dL_law_35 : decode cL_law 35 = .ok (.astore_n 2, 1) := by decide +kernel
theorem dL_law_36 : decode cL_law 36 = .ok (.iconst 2, 1) := by decide +kernel
theorem dL_law_37 : decode cL_law 37 = .ok (.istore_n 3, 1) := by decide +kernel
theorem dL_law_38 : decode cL_law 38 = .ok (.iload_n 3, 1) := by decide +kernel
theorem dL_law_39 : decode cL_law 39 = .ok (.aload_n 0, 1) := by decide +kernel
theorem dL_law_40 : decode cL_law 40 = .ok (.arraylength, 1) := by decide +kernel
theorem dL_law_41 : decode cL_law 41 = .ok (.iconst 4, 1) := by decide +kernel
theorem dL_law_42 : decode cL_law 42 = .ok (.isub, 1) := by decide +kernel
theorem dL_law_43 : decode cL_law 43 = .ok (.if_icmp .gt 317, 3) := by decide +kernel
theorem dL_law_46 : decode cL_law 46 = .ok (.aload_n 0, 1) := by decide +kernel
theorem dL_law_47 : decode cL_law 47 = .ok (.iload_n 3, 1) := by decide +kernel
theorem dL_law_48 : decode cL_law 48 = .ok (.iaload, 1) := by decide +kernel
theorem dL_law_49 : decode cL_law 49 = .ok (.bipush 15, 2) := by decide +kernel
theorem dL_law_51 : decode cL_law 51 = .ok (.iand, 1) := by decide +kernel
theorem dL_law_52 : decode cL_law 52 = .ok (.tableswitch 302 0 9 #[56, 115, 138, 171, 204, 217, 230, 243, 276, 289], 56) := by decide +kernel
theorem dL_law_108 : decode cL_law 108 = .ok (.aload_n 1, 1) := by decide +kernel
theorem dL_law_109 : decode cL_law 109 = .ok (.aload_n 0, 1) := by decide +kernel
theorem dL_law_110 : decode cL_law 110 = .ok (.iload_n 3, 1) := by decide +kernel
theorem dL_law_111 : decode cL_law 111 = .ok (.iconst 1, 1) := by decide +kernel
theorem dL_law_112 : decode cL_law 112 = .ok (.iadd, 1) := by decide +kernel
theorem dL_law_113 : decode cL_law 113 = .ok (.iaload, 1) := by decide +kernel
theorem dL_law_114 : decode cL_law 114 = .ok (.aload_n 0, 1) := by decide +kernel
theorem dL_law_115 : decode cL_law 115 = .ok (.iload_n 3, 1) := by decide +kernel
theorem dL_law_116 : decode cL_law 116 = .ok (.iconst 2, 1) := by decide +kernel
theorem dL_law_117 : decode cL_law 117 = .ok (.iadd, 1) := by decide +kernel
theorem dL_law_118 : decode cL_law 118 = .ok (.iaload, 1) := by decide +kernel
theorem dL_law_119 : decode cL_law 119 = .ok (.aload_n 0, 1) := by decide +kernel
theorem dL_law_120 : decode cL_law 120 = .ok (.iload_n 3, 1) := by decide +kernel
theorem dL_law_121 : decode cL_law 121 = .ok (.iconst 3, 1) := by decide +kernel
theorem dL_law_122 : decode cL_law 122 = .ok (.iadd, 1) := by decide +kernel
theorem dL_law_123 : decode cL_law 123 = .ok (.iaload, 1) := by decide +kernel
theorem dL_law_124 : decode cL_law 124 = .ok (.ifCond .eq 7, 3) := by decide +kernel
theorem dL_law_127 : decode cL_law 127 = .ok (.iconst 1, 1) := by decide +kernel
theorem dL_law_128 : decode cL_law 128 = .ok (.goto 4, 3) := by decide +kernel
theorem dL_law_131 : decode cL_law 131 = .ok (.iconst 0, 1) := by decide +kernel
theorem dL_law_132 : decode cL_law 132 = .ok (.invokevirtual 21, 3) := by decide +kernel
theorem dL_law_135 : decode cL_law 135 = .ok (.aload_n 2, 1) := by decide +kernel
theorem dL_law_136 : decode cL_law 136 = .ok (.aload_n 0, 1) := by decide +kernel
theorem dL_law_137 : decode cL_law 137 = .ok (.iload_n 3, 1) := by decide +kernel
theorem dL_law_138 : decode cL_law 138 = .ok (.iconst 1, 1) := by decide +kernel
theorem dL_law_139 : decode cL_law 139 = .ok (.iadd, 1) := by decide +kernel
theorem dL_law_140 : decode cL_law 140 = .ok (.iaload, 1) := by decide +kernel
theorem dL_law_141 : decode cL_law 141 = .ok (.aload_n 0, 1) := by decide +kernel
theorem dL_law_142 : decode cL_law 142 = .ok (.iload_n 3, 1) := by decide +kernel
theorem dL_law_143 : decode cL_law 143 = .ok (.iconst 2, 1) := by decide +kernel
theorem dL_law_144 : decode cL_law 144 = .ok (.iadd, 1) := by decide +kernel
theorem dL_law_145 : decode cL_law 145 = .ok (.iaload, 1) := by decide +kernel
theorem dL_law_146 : decode cL_law 146 = .ok (.aload_n 0, 1) := by decide +kernel
theorem dL_law_147 : decode cL_law 147 = .ok (.iload_n 3, 1) := by decide +kernel
theorem dL_law_148 : decode cL_law 148 = .ok (.iconst 3, 1) := by decide +kernel
theorem dL_law_149 : decode cL_law 149 = .ok (.iadd, 1) := by decide +kernel
theorem dL_law_150 : decode cL_law 150 = .ok (.iaload, 1) := by decide +kernel
theorem dL_law_151 : decode cL_law 151 = .ok (.ifCond .eq 7, 3) := by decide +kernel
theorem dL_law_154 : decode cL_law 154 = .ok (.iconst 1, 1) := by decide +kernel
theorem dL_law_155 : decode cL_law 155 = .ok (.goto 4, 3) := by decide +kernel
theorem dL_law_158 : decode cL_law 158 = .ok (.iconst 0, 1) := by decide +kernel
theorem dL_law_159 : decode cL_law 159 = .ok (.invokevirtual 25, 3) := by decide +kernel
theorem dL_law_162 : decode cL_law 162 = .ok (.if_icmp .eq 192, 3) := by decide +kernel
theorem dL_law_165 : decode cL_law 165 = .ok (.iconst 0, 1) := by decide +kernel
theorem dL_law_166 : decode cL_law 166 = .ok (.ireturn, 1) := by decide +kernel
theorem dL_law_167 : decode cL_law 167 = .ok (.aload_n 1, 1) := by decide +kernel
theorem dL_law_168 : decode cL_law 168 = .ok (.aload_n 0, 1) := by decide +kernel
theorem dL_law_169 : decode cL_law 169 = .ok (.iload_n 3, 1) := by decide +kernel
theorem dL_law_170 : decode cL_law 170 = .ok (.iconst 1, 1) := by decide +kernel
theorem dL_law_171 : decode cL_law 171 = .ok (.iadd, 1) := by decide +kernel
theorem dL_law_172 : decode cL_law 172 = .ok (.iaload, 1) := by decide +kernel
theorem dL_law_173 : decode cL_law 173 = .ok (.invokevirtual 26, 3) := by decide +kernel
theorem dL_law_176 : decode cL_law 176 = .ok (.aload_n 2, 1) := by decide +kernel
theorem dL_law_177 : decode cL_law 177 = .ok (.aload_n 0, 1) := by decide +kernel
theorem dL_law_178 : decode cL_law 178 = .ok (.iload_n 3, 1) := by decide +kernel
theorem dL_law_179 : decode cL_law 179 = .ok (.iconst 1, 1) := by decide +kernel
theorem dL_law_180 : decode cL_law 180 = .ok (.iadd, 1) := by decide +kernel
theorem dL_law_181 : decode cL_law 181 = .ok (.iaload, 1) := by decide +kernel
theorem dL_law_182 : decode cL_law 182 = .ok (.invokevirtual 30, 3) := by decide +kernel
theorem dL_law_185 : decode cL_law 185 = .ok (.if_icmp .eq 169, 3) := by decide +kernel
theorem dL_law_188 : decode cL_law 188 = .ok (.iconst 0, 1) := by decide +kernel
theorem dL_law_189 : decode cL_law 189 = .ok (.ireturn, 1) := by decide +kernel
theorem dL_law_190 : decode cL_law 190 = .ok (.aload_n 1, 1) := by decide +kernel
theorem dL_law_191 : decode cL_law 191 = .ok (.aload_n 0, 1) := by decide +kernel
theorem dL_law_192 : decode cL_law 192 = .ok (.iload_n 3, 1) := by decide +kernel
theorem dL_law_193 : decode cL_law 193 = .ok (.iconst 1, 1) := by decide +kernel
theorem dL_law_194 : decode cL_law 194 = .ok (.iadd, 1) := by decide +kernel
theorem dL_law_195 : decode cL_law 195 = .ok (.iaload, 1) := by decide +kernel
theorem dL_law_196 : decode cL_law 196 = .ok (.aload_n 0, 1) := by decide +kernel
theorem dL_law_197 : decode cL_law 197 = .ok (.iload_n 3, 1) := by decide +kernel
theorem dL_law_198 : decode cL_law 198 = .ok (.iconst 2, 1) := by decide +kernel
theorem dL_law_199 : decode cL_law 199 = .ok (.iadd, 1) := by decide +kernel
theorem dL_law_200 : decode cL_law 200 = .ok (.iaload, 1) := by decide +kernel
theorem dL_law_201 : decode cL_law 201 = .ok (.invokevirtual 31, 3) := by decide +kernel
theorem dL_law_204 : decode cL_law 204 = .ok (.aload_n 2, 1) := by decide +kernel
theorem dL_law_205 : decode cL_law 205 = .ok (.aload_n 0, 1) := by decide +kernel
theorem dL_law_206 : decode cL_law 206 = .ok (.iload_n 3, 1) := by decide +kernel
theorem dL_law_207 : decode cL_law 207 = .ok (.iconst 1, 1) := by decide +kernel
theorem dL_law_208 : decode cL_law 208 = .ok (.iadd, 1) := by decide +kernel
theorem dL_law_209 : decode cL_law 209 = .ok (.iaload, 1) := by decide +kernel
theorem dL_law_210 : decode cL_law 210 = .ok (.aload_n 0, 1) := by decide +kernel
theorem dL_law_211 : decode cL_law 211 = .ok (.iload_n 3, 1) := by decide +kernel
theorem dL_law_212 : decode cL_law 212 = .ok (.iconst 2, 1) := by decide +kernel
theorem dL_law_213 : decode cL_law 213 = .ok (.iadd, 1) := by decide +kernel
theorem dL_law_214 : decode cL_law 214 = .ok (.iaload, 1) := by decide +kernel
theorem dL_law_215 : decode cL_law 215 = .ok (.invokevirtual 35, 3) := by decide +kernel
theorem dL_law_218 : decode cL_law 218 = .ok (.if_icmp .eq 136, 3) := by decide +kernel
theorem dL_law_221 : decode cL_law 221 = .ok (.iconst 0, 1) := by decide +kernel
theorem dL_law_222 : decode cL_law 222 = .ok (.ireturn, 1) := by decide +kernel
theorem dL_law_223 : decode cL_law 223 = .ok (.aload_n 1, 1) := by decide +kernel
theorem dL_law_224 : decode cL_law 224 = .ok (.aload_n 0, 1) := by decide +kernel
theorem dL_law_225 : decode cL_law 225 = .ok (.iload_n 3, 1) := by decide +kernel
theorem dL_law_226 : decode cL_law 226 = .ok (.iconst 1, 1) := by decide +kernel
theorem dL_law_227 : decode cL_law 227 = .ok (.iadd, 1) := by decide +kernel
theorem dL_law_228 : decode cL_law 228 = .ok (.iaload, 1) := by decide +kernel
theorem dL_law_229 : decode cL_law 229 = .ok (.aload_n 0, 1) := by decide +kernel
theorem dL_law_230 : decode cL_law 230 = .ok (.iload_n 3, 1) := by decide +kernel
theorem dL_law_231 : decode cL_law 231 = .ok (.iconst 2, 1) := by decide +kernel
theorem dL_law_232 : decode cL_law 232 = .ok (.iadd, 1) := by decide +kernel
theorem dL_law_233 : decode cL_law 233 = .ok (.iaload, 1) := by decide +kernel
theorem dL_law_234 : decode cL_law 234 = .ok (.invokevirtual 36, 3) := by decide +kernel
theorem dL_law_237 : decode cL_law 237 = .ok (.aload_n 2, 1) := by decide +kernel
theorem dL_law_238 : decode cL_law 238 = .ok (.aload_n 0, 1) := by decide +kernel
theorem dL_law_239 : decode cL_law 239 = .ok (.iload_n 3, 1) := by decide +kernel
theorem dL_law_240 : decode cL_law 240 = .ok (.iconst 1, 1) := by decide +kernel
theorem dL_law_241 : decode cL_law 241 = .ok (.iadd, 1) := by decide +kernel
theorem dL_law_242 : decode cL_law 242 = .ok (.iaload, 1) := by decide +kernel
theorem dL_law_243 : decode cL_law 243 = .ok (.aload_n 0, 1) := by decide +kernel
theorem dL_law_244 : decode cL_law 244 = .ok (.iload_n 3, 1) := by decide +kernel
theorem dL_law_245 : decode cL_law 245 = .ok (.iconst 2, 1) := by decide +kernel
theorem dL_law_246 : decode cL_law 246 = .ok (.iadd, 1) := by decide +kernel
theorem dL_law_247 : decode cL_law 247 = .ok (.iaload, 1) := by decide +kernel
theorem dL_law_248 : decode cL_law 248 = .ok (.invokevirtual 39, 3) := by decide +kernel
theorem dL_law_251 : decode cL_law 251 = .ok (.if_icmp .eq 103, 3) := by decide +kernel
theorem dL_law_254 : decode cL_law 254 = .ok (.iconst 0, 1) := by decide +kernel
theorem dL_law_255 : decode cL_law 255 = .ok (.ireturn, 1) := by decide +kernel
theorem dL_law_256 : decode cL_law 256 = .ok (.aload_n 1, 1) := by decide +kernel
theorem dL_law_257 : decode cL_law 257 = .ok (.invokevirtual 40, 3) := by decide +kernel
theorem dL_law_260 : decode cL_law 260 = .ok (.aload_n 2, 1) := by decide +kernel
theorem dL_law_261 : decode cL_law 261 = .ok (.invokevirtual 44, 3) := by decide +kernel
theorem dL_law_264 : decode cL_law 264 = .ok (.if_icmp .eq 90, 3) := by decide +kernel
theorem dL_law_267 : decode cL_law 267 = .ok (.iconst 0, 1) := by decide +kernel
theorem dL_law_268 : decode cL_law 268 = .ok (.ireturn, 1) := by decide +kernel
theorem dL_law_269 : decode cL_law 269 = .ok (.aload_n 1, 1) := by decide +kernel
theorem dL_law_270 : decode cL_law 270 = .ok (.invokevirtual 45, 3) := by decide +kernel
theorem dL_law_273 : decode cL_law 273 = .ok (.aload_n 2, 1) := by decide +kernel
theorem dL_law_274 : decode cL_law 274 = .ok (.invokevirtual 48, 3) := by decide +kernel
theorem dL_law_277 : decode cL_law 277 = .ok (.if_icmp .eq 77, 3) := by decide +kernel
theorem dL_law_280 : decode cL_law 280 = .ok (.iconst 0, 1) := by decide +kernel
theorem dL_law_281 : decode cL_law 281 = .ok (.ireturn, 1) := by decide +kernel
theorem dL_law_282 : decode cL_law 282 = .ok (.aload_n 1, 1) := by decide +kernel
theorem dL_law_283 : decode cL_law 283 = .ok (.invokevirtual 49, 3) := by decide +kernel
theorem dL_law_286 : decode cL_law 286 = .ok (.aload_n 2, 1) := by decide +kernel
theorem dL_law_287 : decode cL_law 287 = .ok (.invokevirtual 52, 3) := by decide +kernel
theorem dL_law_290 : decode cL_law 290 = .ok (.if_icmp .eq 64, 3) := by decide +kernel
theorem dL_law_293 : decode cL_law 293 = .ok (.iconst 0, 1) := by decide +kernel
theorem dL_law_294 : decode cL_law 294 = .ok (.ireturn, 1) := by decide +kernel
theorem dL_law_295 : decode cL_law 295 = .ok (.aload_n 1, 1) := by decide +kernel
theorem dL_law_296 : decode cL_law 296 = .ok (.aload_n 0, 1) := by decide +kernel
theorem dL_law_297 : decode cL_law 297 = .ok (.iload_n 3, 1) := by decide +kernel
theorem dL_law_298 : decode cL_law 298 = .ok (.iconst 1, 1) := by decide +kernel
theorem dL_law_299 : decode cL_law 299 = .ok (.iadd, 1) := by decide +kernel
theorem dL_law_300 : decode cL_law 300 = .ok (.iaload, 1) := by decide +kernel
theorem dL_law_301 : decode cL_law 301 = .ok (.aload_n 0, 1) := by decide +kernel
theorem dL_law_302 : decode cL_law 302 = .ok (.iload_n 3, 1) := by decide +kernel
theorem dL_law_303 : decode cL_law 303 = .ok (.iconst 2, 1) := by decide +kernel
theorem dL_law_304 : decode cL_law 304 = .ok (.iadd, 1) := by decide +kernel
theorem dL_law_305 : decode cL_law 305 = .ok (.iaload, 1) := by decide +kernel
theorem dL_law_306 : decode cL_law 306 = .ok (.invokevirtual 53, 3) := by decide +kernel
theorem dL_law_309 : decode cL_law 309 = .ok (.aload_n 2, 1) := by decide +kernel
theorem dL_law_310 : decode cL_law 310 = .ok (.aload_n 0, 1) := by decide +kernel
theorem dL_law_311 : decode cL_law 311 = .ok (.iload_n 3, 1) := by decide +kernel
theorem dL_law_312 : decode cL_law 312 = .ok (.iconst 1, 1) := by decide +kernel
theorem dL_law_313 : decode cL_law 313 = .ok (.iadd, 1) := by decide +kernel
theorem dL_law_314 : decode cL_law 314 = .ok (.iaload, 1) := by decide +kernel
theorem dL_law_315 : decode cL_law 315 = .ok (.aload_n 0, 1) := by decide +kernel
theorem dL_law_316 : decode cL_law 316 = .ok (.iload_n 3, 1) := by decide +kernel
theorem dL_law_317 : decode cL_law 317 = .ok (.iconst 2, 1) := by decide +kernel
theorem dL_law_318 : decode cL_law 318 = .ok (.iadd, 1) := by decide +kernel
theorem dL_law_319 : decode cL_law 319 = .ok (.iaload, 1) := by decide +kernel
theorem dL_law_320 : decode cL_law 320 = .ok (.invokevirtual 56, 3) := by decide +kernel
theorem dL_law_323 : decode cL_law 323 = .ok (.if_icmp .eq 31, 3) := by decide +kernel
theorem dL_law_326 : decode cL_law 326 = .ok (.iconst 0, 1) := by decide +kernel
theorem dL_law_327 : decode cL_law 327 = .ok (.ireturn, 1) := by decide +kernel
theorem dL_law_328 : decode cL_law 328 = .ok (.aload_n 1, 1) := by decide +kernel
theorem dL_law_329 : decode cL_law 329 = .ok (.invokevirtual 57, 3) := by decide +kernel
theorem dL_law_332 : decode cL_law 332 = .ok (.aload_n 2, 1) := by decide +kernel
theorem dL_law_333 : decode cL_law 333 = .ok (.invokevirtual 60, 3) := by decide +kernel
theorem dL_law_336 : decode cL_law 336 = .ok (.if_icmp .eq 18, 3) := by decide +kernel
theorem dL_law_339 : decode cL_law 339 = .ok (.iconst 0, 1) := by decide +kernel
theorem dL_law_340 : decode cL_law 340 = .ok (.ireturn, 1) := by decide +kernel
theorem dL_law_341 : decode cL_law 341 = .ok (.aload_n 1, 1) := by decide +kernel
theorem dL_law_342 : decode cL_law 342 = .ok (.invokevirtual 61, 3) := by decide +kernel
theorem dL_law_345 : decode cL_law 345 = .ok (.aload_n 2, 1) := by decide +kernel
theorem dL_law_346 : decode cL_law 346 = .ok (.invokevirtual 64, 3) := by decide +kernel
theorem dL_law_349 : decode cL_law 349 = .ok (.if_icmp .eq 5, 3) := by decide +kernel
theorem dL_law_352 : decode cL_law 352 = .ok (.iconst 0, 1) := by decide +kernel
theorem dL_law_353 : decode cL_law 353 = .ok (.ireturn, 1) := by decide +kernel
theorem dL_law_354 : decode cL_law 354 = .ok (.iinc 3 4, 3) := by decide +kernel
theorem dL_law_357 : decode cL_law 357 = .ok (.goto (-319), 3) := by decide +kernel
theorem dL_law_360 : decode cL_law 360 = .ok (.iconst 1, 1) := by decide +kernel
theorem dL_law_361 : decode cL_law 361 = .ok (.ireturn, 1) := by decide +kernel
end
section
/-! ints as names of whole numbers: iI z; the kit's rows over them -/
def iI (z : Int) : Int32 := Int32.ofInt z
theorem iI_add (a b : Int) : iI a + iI b = iI (a + b) := (Int32.ofInt_add a b).symm
theorem iI_sub (a b : Int) : iI a - iI b = iI (a - b) := (Int32.ofInt_sub a b).symm
theorem iI_mul (a b : Int) : iI a * iI b = iI (a * b) := (Int32.ofInt_mul a b).symm
/-- a whole number that an int can be -/
def rg (a : Int) : Prop := -2147483648 ≤ a ∧ a < 2147483648
theorem iI_toInt {a : Int} (h : -2147483648 ≤ a ∧ a < 2147483648) : (iI a).toInt = a := Int32.toInt_ofInt_of_le (by omega) (by omega)
theorem iI_of (x : Int32) : x = iI x.toInt := (Int32.ofInt_toInt x).symm
theorem iI_rng (x : Int32) : -2147483648 ≤ x.toInt ∧ x.toInt < 2147483648 := by
  have h1 := x.le_toInt
  have h2 := x.toInt_lt
  omega
theorem iI_le {a b : Int} (ha : -2147483648 ≤ a ∧ a < 2147483648) (hb : -2147483648 ≤ b ∧ b < 2147483648) : iI a ≤ iI b ↔ a ≤ b := by
  rw [Int32.le_iff_toInt_le, iI_toInt ha, iI_toInt hb]
theorem iI_lt {a b : Int} (ha : -2147483648 ≤ a ∧ a < 2147483648) (hb : -2147483648 ≤ b ∧ b < 2147483648) : iI a < iI b ↔ a < b := by
  rw [Int32.lt_iff_toInt_lt, iI_toInt ha, iI_toInt hb]
theorem iI_eq {a b : Int} (ha : -2147483648 ≤ a ∧ a < 2147483648) (hb : -2147483648 ≤ b ∧ b < 2147483648) : iI a = iI b ↔ a = b := by
  rw [← Int32.toInt_inj, iI_toInt ha, iI_toInt hb]
theorem iI_0 : iI 0 = 0 := rfl
theorem iI_rg0 : -2147483648 ≤ (0 : Int) ∧ (0 : Int) < 2147483648 := by omega
theorem iI_clamp {a : Int} (h : -2147483648 ≤ a ∧ a < 2147483648) : (iI a).toNatClampNeg = a.toNat := by
  show (iI a).toInt.toNat = a.toNat
  rw [iI_toInt h]
theorem iI_in {a : Int} {n : Nat} (h : 0 ≤ a ∧ a < n) (hn : n < 2147483648) : vp_in (iI a) n := by
  rw [vp_in_iff, iI_toInt (by omega)]
  exact h
theorem iI_nI (n : Nat) : nI n = iI (n : Int) := by
  unfold nI iI
  exact Int32.ofInt_eq_ofNat.symm
/-- an array's contents -/
def aI (F : Int → Int) : Nat → Int32 := fun j => iI (F (j : Int))
def uI (F : Int → Int) (k v : Int) : Int → Int := fun j => if j = k then v else F j
theorem uI_s (F : Int → Int) (k v : Int) : uI F k v k = v := by simp [uI]
theorem uI_n (F : Int → Int) {k v j : Int} (h : j ≠ k) : uI F k v j = F j := by simp [uI, h]
theorem aI_upd (F : Int → Int) {k : Int} (v : Int) (h : 0 ≤ k) : upd (aI F) k.toNat (iI v) = aI (uI F k v) := by
  funext j
  unfold upd aI uI
  by_cases hj : j = k.toNat
  · rw [if_pos hj, if_pos (by omega)]
  · rw [if_neg hj, if_neg (by omega)]
theorem aI_at (F : Int → Int) {i : Int} (h : 0 ≤ i) : aI F i.toNat = iI (F i) := by
  unfold aI
  rw [Int.toNat_of_nonneg h]
theorem nar_byte {v : Int} (h : -128 ≤ v ∧ v < 128) : (iI v).toInt8.toInt32 = iI v := by
  apply Int32.toInt_inj.mp
  rw [Int8.toInt_toInt32, Int32.toInt_toInt8, iI_toInt (by omega)]
  have h2 := @Int.bmod_eq_of_le_mul_two v 256 (by omega) (by omega)
  exact h2
theorem vnar_byte {v : Int} (h : -128 ≤ v ∧ v < 128) : vp_nar .byte (iI v) = iI v := by
  rw [vp_nar_byte, nar_byte h]
theorem vnar_bool {v : Int} (h : v = 0 ∨ v = 1) : vp_nar .boolean (iI v) = iI v := by
  rcases h with rfl | rfl <;> decide +kernel
section RI
variable {p : Program} {l : Launch} {e : Env} {R : Room} {s : State} {m : MethodId} {args : Array Value} {below : List Frame} {meth : Method} {c : Code} {H : Heap} {locs : List Loc} {cells slots : Nat} {Q : State → Prop}
variable {cc : ByteArray} {pc : Nat} {ls : Array Slot} {rest : List Value}
theorem ri_iconst (hx : p.tables.exec = Jvm.exec) (hb : c.code = cc) {n : Int} (hdg : decode cc pc = .ok (.iconst n, 1))
    (k : W p l e R s m args below meth c H locs cells slots Q (F0 m (pc + 1) ls (.int (iI n) :: rest))) : W p l e R s m args below meth c H locs cells slots Q (F0 m pc ls rest) := lv_iconst (v := iI n) hx hb hdg rfl k
theorem ri_bipush (hx : p.tables.exec = Jvm.exec) (hb : c.code = cc) {n : Int} (hdg : decode cc pc = .ok (.bipush n, 2)) (hv : (Int8.ofInt n).toInt32 = iI n)
    (k : W p l e R s m args below meth c H locs cells slots Q (F0 m (pc + 2) ls (.int (iI n) :: rest))) : W p l e R s m args below meth c H locs cells slots Q (F0 m pc ls rest) := lv_bipush (v := iI n) hx hb hdg hv k
theorem ri_sipush (hx : p.tables.exec = Jvm.exec) (hb : c.code = cc) {n : Int} (hdg : decode cc pc = .ok (.sipush n, 3)) (hv : (Int16.ofInt n).toInt32 = iI n)
    (k : W p l e R s m args below meth c H locs cells slots Q (F0 m (pc + 3) ls (.int (iI n) :: rest))) : W p l e R s m args below meth c H locs cells slots Q (F0 m pc ls rest) := lv_sipush (v := iI n) hx hb hdg hv k
theorem ri_iadd (hx : p.tables.exec = Jvm.exec) (hb : c.code = cc) {a b : Int} (hdg : decode cc pc = .ok (.iadd, 1))
    (k : W p l e R s m args below meth c H locs cells slots Q (F0 m (pc + 1) ls (.int (iI (a + b)) :: rest))) : W p l e R s m args below meth c H locs cells slots Q (F0 m pc ls (.int (iI b) :: .int (iI a) :: rest)) := lv_iadd hx hb hdg (by rw [iI_add]; exact k)
theorem ri_isub (hx : p.tables.exec = Jvm.exec) (hb : c.code = cc) {a b : Int} (hdg : decode cc pc = .ok (.isub, 1))
    (k : W p l e R s m args below meth c H locs cells slots Q (F0 m (pc + 1) ls (.int (iI (a - b)) :: rest))) : W p l e R s m args below meth c H locs cells slots Q (F0 m pc ls (.int (iI b) :: .int (iI a) :: rest)) := lv_isub hx hb hdg (by rw [iI_sub]; exact k)
theorem ri_imul (hx : p.tables.exec = Jvm.exec) (hb : c.code = cc) {a b : Int} (hdg : decode cc pc = .ok (.imul, 1))
    (k : W p l e R s m args below meth c H locs cells slots Q (F0 m (pc + 1) ls (.int (iI (a * b)) :: rest))) : W p l e R s m args below meth c H locs cells slots Q (F0 m pc ls (.int (iI b) :: .int (iI a) :: rest)) := lv_imul hx hb hdg (by rw [iI_mul]; exact k)
theorem ri_i2b (hx : p.tables.exec = Jvm.exec) (hb : c.code = cc) {a : Int} (hdg : decode cc pc = .ok (.i2b, 1)) (h : -128 ≤ a ∧ a < 128)
    (k : W p l e R s m args below meth c H locs cells slots Q (F0 m (pc + 1) ls (.int (iI a) :: rest))) : W p l e R s m args below meth c H locs cells slots Q (F0 m pc ls (.int (iI a) :: rest)) := lv_i2b hx hb hdg (nar_byte h) k
theorem ri_iinc (hx : p.tables.exec = Jvm.exec) (hb : c.code = cc) {i nL k : Nat} {n a : Int} {lv lv' : List (Nat × Value)} (hdg : decode cc pc = .ok (.iinc i n, 3)) (h : lv_has ls nL lv) (hk : lv[k]? = some (i, .int (iI a))) (hn : i < nL) (hl : (i, Value.int (iI (a + n))) :: lv.filter (fun q => !(q.1 == i) && !(q.1 + 1 == i && q.2.category == 2)) = lv')
    (kk : ∀ ls' : Array Slot, lv_has ls' nL lv' → W p l e R s m args below meth c H locs cells slots Q (F0 m (pc + 3) ls' rest)) : W p l e R s m args below meth c H locs cells slots Q (F0 m pc ls rest) :=
  lv_iinc (k := k) hx hb hdg h hk (iI_add a n) hn hl kk
theorem ri_top {x : Int32} {a : Int} (h : x = iI a) (k : W p l e R s m args below meth c H locs cells slots Q (F0 m pc ls (.int (iI a) :: rest))) : W p l e R s m args below meth c H locs cells slots Q (F0 m pc ls (.int x :: rest)) := by
  rw [h]; exact k
theorem ri_cast {a b : Int} (h : a = b) (k : W p l e R s m args below meth c H locs cells slots Q (F0 m pc ls (.int (iI b) :: rest))) : W p l e R s m args below meth c H locs cells slots Q (F0 m pc ls (.int (iI a) :: rest)) := by
  rw [h]; exact k
theorem ri_icmp_eq (hx : p.tables.exec = Jvm.exec) (hb : c.code = cc) {x y : Int} {off : Int} {tgt : Nat} (hdg : decode cc pc = .ok (.if_icmp .eq off, 3)) (ht : (pc : Int) + off = (tgt : Int)) (h1 : -2147483648 ≤ x ∧ x < 2147483648) (h2 : -2147483648 ≤ y ∧ y < 2147483648)
    (kt : x = y → W p l e R s m args below meth c H locs cells slots Q (F0 m tgt ls rest)) (kf : ¬ x = y → W p l e R s m args below meth c H locs cells slots Q (F0 m (pc + 3) ls rest)) : W p l e R s m args below meth c H locs cells slots Q (F0 m pc ls (.int (iI y) :: .int (iI x) :: rest)) :=
  lv_icmp_eq hx hb hdg ht (fun h => kt ((iI_eq h1 h2).mp h)) (fun h => kf (fun q => h ((iI_eq h1 h2).mpr q)))
theorem ri_icmp_ne (hx : p.tables.exec = Jvm.exec) (hb : c.code = cc) {x y : Int} {off : Int} {tgt : Nat} (hdg : decode cc pc = .ok (.if_icmp .ne off, 3)) (ht : (pc : Int) + off = (tgt : Int)) (h1 : -2147483648 ≤ x ∧ x < 2147483648) (h2 : -2147483648 ≤ y ∧ y < 2147483648)
    (kt : ¬ x = y → W p l e R s m args below meth c H locs cells slots Q (F0 m tgt ls rest)) (kf : x = y → W p l e R s m args below meth c H locs cells slots Q (F0 m (pc + 3) ls rest)) : W p l e R s m args below meth c H locs cells slots Q (F0 m pc ls (.int (iI y) :: .int (iI x) :: rest)) :=
  lv_icmp_ne hx hb hdg ht (fun h => kt (fun q => h ((iI_eq h1 h2).mpr q))) (fun h => kf ((iI_eq h1 h2).mp h))
theorem ri_icmp_lt (hx : p.tables.exec = Jvm.exec) (hb : c.code = cc) {x y : Int} {off : Int} {tgt : Nat} (hdg : decode cc pc = .ok (.if_icmp .lt off, 3)) (ht : (pc : Int) + off = (tgt : Int)) (h1 : -2147483648 ≤ x ∧ x < 2147483648) (h2 : -2147483648 ≤ y ∧ y < 2147483648)
    (kt : x < y → W p l e R s m args below meth c H locs cells slots Q (F0 m tgt ls rest)) (kf : y ≤ x → W p l e R s m args below meth c H locs cells slots Q (F0 m (pc + 3) ls rest)) : W p l e R s m args below meth c H locs cells slots Q (F0 m pc ls (.int (iI y) :: .int (iI x) :: rest)) :=
  lv_icmp_lt hx hb hdg ht (fun h => kt ((iI_lt h1 h2).mp h)) (fun h => kf (Int.not_lt.mp (fun q => h ((iI_lt h1 h2).mpr q))))
theorem ri_icmp_ge (hx : p.tables.exec = Jvm.exec) (hb : c.code = cc) {x y : Int} {off : Int} {tgt : Nat} (hdg : decode cc pc = .ok (.if_icmp .ge off, 3)) (ht : (pc : Int) + off = (tgt : Int)) (h1 : -2147483648 ≤ x ∧ x < 2147483648) (h2 : -2147483648 ≤ y ∧ y < 2147483648)
    (kt : y ≤ x → W p l e R s m args below meth c H locs cells slots Q (F0 m tgt ls rest)) (kf : x < y → W p l e R s m args below meth c H locs cells slots Q (F0 m (pc + 3) ls rest)) : W p l e R s m args below meth c H locs cells slots Q (F0 m pc ls (.int (iI y) :: .int (iI x) :: rest)) :=
  lv_icmp_ge hx hb hdg ht (fun h => kt ((iI_le h2 h1).mp h)) (fun h => kf (Int.not_le.mp (fun q => h ((iI_le h2 h1).mpr q))))
theorem ri_icmp_gt (hx : p.tables.exec = Jvm.exec) (hb : c.code = cc) {x y : Int} {off : Int} {tgt : Nat} (hdg : decode cc pc = .ok (.if_icmp .gt off, 3)) (ht : (pc : Int) + off = (tgt : Int)) (h1 : -2147483648 ≤ x ∧ x < 2147483648) (h2 : -2147483648 ≤ y ∧ y < 2147483648)
    (kt : y < x → W p l e R s m args below meth c H locs cells slots Q (F0 m tgt ls rest)) (kf : x ≤ y → W p l e R s m args below meth c H locs cells slots Q (F0 m (pc + 3) ls rest)) : W p l e R s m args below meth c H locs cells slots Q (F0 m pc ls (.int (iI y) :: .int (iI x) :: rest)) :=
  lv_icmp_gt hx hb hdg ht (fun h => kt ((iI_lt h2 h1).mp h)) (fun h => kf (Int.not_lt.mp (fun q => h ((iI_lt h2 h1).mpr q))))
theorem ri_icmp_le (hx : p.tables.exec = Jvm.exec) (hb : c.code = cc) {x y : Int} {off : Int} {tgt : Nat} (hdg : decode cc pc = .ok (.if_icmp .le off, 3)) (ht : (pc : Int) + off = (tgt : Int)) (h1 : -2147483648 ≤ x ∧ x < 2147483648) (h2 : -2147483648 ≤ y ∧ y < 2147483648)
    (kt : x ≤ y → W p l e R s m args below meth c H locs cells slots Q (F0 m tgt ls rest)) (kf : y < x → W p l e R s m args below meth c H locs cells slots Q (F0 m (pc + 3) ls rest)) : W p l e R s m args below meth c H locs cells slots Q (F0 m pc ls (.int (iI y) :: .int (iI x) :: rest)) :=
  lv_icmp_le hx hb hdg ht (fun h => kt ((iI_le h1 h2).mp h)) (fun h => kf (Int.not_le.mp (fun q => h ((iI_le h1 h2).mpr q))))
theorem ri_if_eq (hx : p.tables.exec = Jvm.exec) (hb : c.code = cc) {x : Int} {off : Int} {tgt : Nat} (hdg : decode cc pc = .ok (.ifCond .eq off, 3)) (ht : (pc : Int) + off = (tgt : Int)) (h1 : -2147483648 ≤ x ∧ x < 2147483648)
    (kt : x = 0 → W p l e R s m args below meth c H locs cells slots Q (F0 m tgt ls rest)) (kf : ¬ x = 0 → W p l e R s m args below meth c H locs cells slots Q (F0 m (pc + 3) ls rest)) : W p l e R s m args below meth c H locs cells slots Q (F0 m pc ls (.int (iI x) :: rest)) :=
  lv_if_eq hx hb hdg ht (fun h => kt ((iI_eq h1 iI_rg0).mp h)) (fun h => kf (fun q => h ((iI_eq h1 iI_rg0).mpr q)))
theorem ri_if_ne (hx : p.tables.exec = Jvm.exec) (hb : c.code = cc) {x : Int} {off : Int} {tgt : Nat} (hdg : decode cc pc = .ok (.ifCond .ne off, 3)) (ht : (pc : Int) + off = (tgt : Int)) (h1 : -2147483648 ≤ x ∧ x < 2147483648)
    (kt : ¬ x = 0 → W p l e R s m args below meth c H locs cells slots Q (F0 m tgt ls rest)) (kf : x = 0 → W p l e R s m args below meth c H locs cells slots Q (F0 m (pc + 3) ls rest)) : W p l e R s m args below meth c H locs cells slots Q (F0 m pc ls (.int (iI x) :: rest)) :=
  lv_if_ne hx hb hdg ht (fun h => kt (fun q => h ((iI_eq h1 iI_rg0).mpr q))) (fun h => kf ((iI_eq h1 iI_rg0).mp h))
theorem ri_if_lt (hx : p.tables.exec = Jvm.exec) (hb : c.code = cc) {x : Int} {off : Int} {tgt : Nat} (hdg : decode cc pc = .ok (.ifCond .lt off, 3)) (ht : (pc : Int) + off = (tgt : Int)) (h1 : -2147483648 ≤ x ∧ x < 2147483648)
    (kt : x < 0 → W p l e R s m args below meth c H locs cells slots Q (F0 m tgt ls rest)) (kf : 0 ≤ x → W p l e R s m args below meth c H locs cells slots Q (F0 m (pc + 3) ls rest)) : W p l e R s m args below meth c H locs cells slots Q (F0 m pc ls (.int (iI x) :: rest)) :=
  lv_if_lt hx hb hdg ht (fun h => kt ((iI_lt h1 iI_rg0).mp h)) (fun h => kf (Int.not_lt.mp (fun q => h ((iI_lt h1 iI_rg0).mpr q))))
theorem ri_if_ge (hx : p.tables.exec = Jvm.exec) (hb : c.code = cc) {x : Int} {off : Int} {tgt : Nat} (hdg : decode cc pc = .ok (.ifCond .ge off, 3)) (ht : (pc : Int) + off = (tgt : Int)) (h1 : -2147483648 ≤ x ∧ x < 2147483648)
    (kt : 0 ≤ x → W p l e R s m args below meth c H locs cells slots Q (F0 m tgt ls rest)) (kf : x < 0 → W p l e R s m args below meth c H locs cells slots Q (F0 m (pc + 3) ls rest)) : W p l e R s m args below meth c H locs cells slots Q (F0 m pc ls (.int (iI x) :: rest)) :=
  lv_if_ge hx hb hdg ht (fun h => kt ((iI_le iI_rg0 h1).mp h)) (fun h => kf (Int.not_le.mp (fun q => h ((iI_le iI_rg0 h1).mpr q))))
theorem ri_if_gt (hx : p.tables.exec = Jvm.exec) (hb : c.code = cc) {x : Int} {off : Int} {tgt : Nat} (hdg : decode cc pc = .ok (.ifCond .gt off, 3)) (ht : (pc : Int) + off = (tgt : Int)) (h1 : -2147483648 ≤ x ∧ x < 2147483648)
    (kt : 0 < x → W p l e R s m args below meth c H locs cells slots Q (F0 m tgt ls rest)) (kf : x ≤ 0 → W p l e R s m args below meth c H locs cells slots Q (F0 m (pc + 3) ls rest)) : W p l e R s m args below meth c H locs cells slots Q (F0 m pc ls (.int (iI x) :: rest)) :=
  lv_if_gt hx hb hdg ht (fun h => kt ((iI_lt iI_rg0 h1).mp h)) (fun h => kf (Int.not_lt.mp (fun q => h ((iI_lt iI_rg0 h1).mpr q))))
theorem ri_if_le (hx : p.tables.exec = Jvm.exec) (hb : c.code = cc) {x : Int} {off : Int} {tgt : Nat} (hdg : decode cc pc = .ok (.ifCond .le off, 3)) (ht : (pc : Int) + off = (tgt : Int)) (h1 : -2147483648 ≤ x ∧ x < 2147483648)
    (kt : x ≤ 0 → W p l e R s m args below meth c H locs cells slots Q (F0 m tgt ls rest)) (kf : 0 < x → W p l e R s m args below meth c H locs cells slots Q (F0 m (pc + 3) ls rest)) : W p l e R s m args below meth c H locs cells slots Q (F0 m pc ls (.int (iI x) :: rest)) :=
  lv_if_le hx hb hdg ht (fun h => kt ((iI_le h1 iI_rg0).mp h)) (fun h => kf (Int.not_le.mp (fun q => h ((iI_le h1 iI_rg0).mpr q))))
/-! arrays -/
variable {D : va_G} {cl : List vw_C} {ws : va_W} {tys : List (ClassId × FieldType)} {a : Nat} {A : Nat → Prop} {H0 : Heap}
theorem ri_iald (hx : p.tables.exec = Jvm.exec) (hb : c.code = cc) (hK : va_K D cl tys s) (hP : va_P D cl ws H) (q0 t0 : Nat) {cA : ClassId} {n : Nat} {F : Int → Int} (ha : ws[q0]? = some (a, .inl (cA, n, .inl (aI F)))) (ht : tys[t0]? = some (cA, .int)) {i : Int} (hi : 0 ≤ i ∧ i < n) (hn : n < 2147483648) (hdg : decode cc pc = .ok (.iaload, 1))
    (kk : W p l e R s m args below meth c H locs cells slots Q (F0 m (pc + 1) ls (.int (iI (F i)) :: rest))) : W p l e R s m args below meth c H locs cells slots Q (F0 m pc ls (.int (iI i) :: .ref a :: rest)) :=
  va_iald hx hb hK hP q0 t0 ha ht (iI_in hi hn) hdg (by rw [iI_clamp (by omega), aI_at F hi.1]; exact kk)
theorem ri_bald (hx : p.tables.exec = Jvm.exec) (hb : c.code = cc) (hK : va_K D cl tys s) (hP : va_P D cl ws H) (q0 t0 : Nat) {cA : ClassId} {n : Nat} {F : Int → Int} (ha : ws[q0]? = some (a, .inl (cA, n, .inl (aI F)))) (ht : tys[t0]? = some (cA, .byte)) {i : Int} (hi : 0 ≤ i ∧ i < n) (hn : n < 2147483648) (hdg : decode cc pc = .ok (.baload, 1))
    (kk : W p l e R s m args below meth c H locs cells slots Q (F0 m (pc + 1) ls (.int (iI (F i)) :: rest))) : W p l e R s m args below meth c H locs cells slots Q (F0 m pc ls (.int (iI i) :: .ref a :: rest)) :=
  va_bald hx hb hK hP q0 t0 ha ht (iI_in hi hn) hdg (by rw [iI_clamp (by omega), aI_at F hi.1]; exact kk)
theorem ri_zald (hx : p.tables.exec = Jvm.exec) (hb : c.code = cc) (hK : va_K D cl tys s) (hP : va_P D cl ws H) (q0 t0 : Nat) {cA : ClassId} {n : Nat} {F : Int → Int} (ha : ws[q0]? = some (a, .inl (cA, n, .inl (aI F)))) (ht : tys[t0]? = some (cA, .boolean)) {i : Int} (hi : 0 ≤ i ∧ i < n) (hn : n < 2147483648) (hdg : decode cc pc = .ok (.baload, 1))
    (kk : W p l e R s m args below meth c H locs cells slots Q (F0 m (pc + 1) ls (.int (iI (F i)) :: rest))) : W p l e R s m args below meth c H locs cells slots Q (F0 m pc ls (.int (iI i) :: .ref a :: rest)) :=
  va_zald hx hb hK hP q0 t0 ha ht (iI_in hi hn) hdg (by rw [iI_clamp (by omega), aI_at F hi.1]; exact kk)
theorem ri_iast (hx : p.tables.exec = Jvm.exec) (hb : c.code = cc) (hK : va_K D cl tys s) (hP : va_P D cl ws H) (hD : va_D A ws) (hS : va_S A H0 H locs) (q0 t0 : Nat) {cA : ClassId} {n : Nat} {F : Int → Int} (ha : ws[q0]? = some (a, .inl (cA, n, .inl (aI F)))) (ht : tys[t0]? = some (cA, .int)) {i v : Int} (hi : 0 ≤ i ∧ i < n) (hn : n < 2147483648) (hdg : decode cc pc = .ok (.iastore, 1))
    (kk : ∀ (H1 : Heap) (locs1 : List Loc), va_P D cl (ws.set q0 (a, .inl (cA, n, .inl (aI (uI F i v))))) H1 → va_D A (ws.set q0 (a, .inl (cA, n, .inl (aI (uI F i v))))) → va_S A H0 H1 locs1 → W p l e R s m args below meth c H1 locs1 cells slots Q (F0 m (pc + 1) ls rest)) : W p l e R s m args below meth c H locs cells slots Q (F0 m pc ls (.int (iI v) :: .int (iI i) :: .ref a :: rest)) :=
  va_iast hx hb hK hP hD hS q0 t0 ha ht (iI_in hi hn) hdg (fun H1 locs1 h1 h2 h3 => kk H1 locs1 (by rw [iI_clamp (by omega), aI_upd F v hi.1] at h1; exact h1) (by rw [iI_clamp (by omega), aI_upd F v hi.1] at h2; exact h2) h3)
theorem ri_bast (hx : p.tables.exec = Jvm.exec) (hb : c.code = cc) (hK : va_K D cl tys s) (hP : va_P D cl ws H) (hD : va_D A ws) (hS : va_S A H0 H locs) (q0 t0 : Nat) {cA : ClassId} {n : Nat} {F : Int → Int} (ha : ws[q0]? = some (a, .inl (cA, n, .inl (aI F)))) (ht : tys[t0]? = some (cA, .byte)) {i v : Int} (hi : 0 ≤ i ∧ i < n) (hn : n < 2147483648) (hv : -128 ≤ v ∧ v < 128) (hdg : decode cc pc = .ok (.bastore, 1))
    (kk : ∀ (H1 : Heap) (locs1 : List Loc), va_P D cl (ws.set q0 (a, .inl (cA, n, .inl (aI (uI F i v))))) H1 → va_D A (ws.set q0 (a, .inl (cA, n, .inl (aI (uI F i v))))) → va_S A H0 H1 locs1 → W p l e R s m args below meth c H1 locs1 cells slots Q (F0 m (pc + 1) ls rest)) : W p l e R s m args below meth c H locs cells slots Q (F0 m pc ls (.int (iI v) :: .int (iI i) :: .ref a :: rest)) :=
  va_bast hx hb hK hP hD hS q0 t0 ha ht (iI_in hi hn) hdg (fun H1 locs1 h1 h2 h3 => kk H1 locs1 (by rw [vnar_byte hv, iI_clamp (by omega), aI_upd F v hi.1] at h1; exact h1) (by rw [vnar_byte hv, iI_clamp (by omega), aI_upd F v hi.1] at h2; exact h2) h3)
theorem ri_zast (hx : p.tables.exec = Jvm.exec) (hb : c.code = cc) (hK : va_K D cl tys s) (hP : va_P D cl ws H) (hD : va_D A ws) (hS : va_S A H0 H locs) (q0 t0 : Nat) {cA : ClassId} {n : Nat} {F : Int → Int} (ha : ws[q0]? = some (a, .inl (cA, n, .inl (aI F)))) (ht : tys[t0]? = some (cA, .boolean)) {i v : Int} (hi : 0 ≤ i ∧ i < n) (hn : n < 2147483648) (hv : v = 0 ∨ v = 1) (hdg : decode cc pc = .ok (.bastore, 1))
    (kk : ∀ (H1 : Heap) (locs1 : List Loc), va_P D cl (ws.set q0 (a, .inl (cA, n, .inl (aI (uI F i v))))) H1 → va_D A (ws.set q0 (a, .inl (cA, n, .inl (aI (uI F i v))))) → va_S A H0 H1 locs1 → W p l e R s m args below meth c H1 locs1 cells slots Q (F0 m (pc + 1) ls rest)) : W p l e R s m args below meth c H locs cells slots Q (F0 m pc ls (.int (iI v) :: .int (iI i) :: .ref a :: rest)) :=
  va_zast hx hb hK hP hD hS q0 t0 ha ht (iI_in hi hn) hdg (fun H1 locs1 h1 h2 h3 => kk H1 locs1 (by rw [vnar_bool hv, iI_clamp (by omega), aI_upd F v hi.1] at h1; exact h1) (by rw [vnar_bool hv, iI_clamp (by omega), aI_upd F v hi.1] at h2; exact h2) h3)
/-! loops and joins -/
/-- a loop that writes nothing -/
theorem ri_loop {σ : Type} {nL : Nat} (μ : σ → Nat) (I : σ → Prop) (lv : σ → List (Nat × Value)) (x0 : σ) (h0 : I x0) (hl : lv_has ls nL (lv x0))
    (step : ∀ (x : σ) (ls' : Array Slot), I x → lv_has ls' nL (lv x) → (∀ (y : σ) (ls2 : Array Slot), I y → μ y < μ x → lv_has ls2 nL (lv y) → W p l e R s m args below meth c H locs cells slots Q (F0 m pc ls2 rest)) → W p l e R s m args below meth c H locs cells slots Q (F0 m pc ls' rest)) :
    W p l e R s m args below meth c H locs cells slots Q (F0 m pc ls rest) := by
  have key : ∀ (n : Nat) (x : σ) (ls' : Array Slot), μ x < n → I x → lv_has ls' nL (lv x) → W p l e R s m args below meth c H locs cells slots Q (F0 m pc ls' rest) := by
    intro n
    induction n with
    | zero => intro x ls' h; omega
    | succ n ih =>
      intro x ls' h hI hl'
      exact step x ls' hI hl' (fun y ls2 hy hm hl2 => ih y ls2 (by omega) hy hl2)
  exact key (μ x0 + 1) x0 ls (Nat.lt_succ_self _) h0 hl
/-- a loop that writes its world -/
theorem ri_loopW {σ : Type} {nL : Nat} (μ : σ → Nat) (I : σ → Prop) (lv : σ → List (Nat × Value)) (w : σ → va_W) (x0 : σ) (h0 : I x0) (hl : lv_has ls nL (lv x0)) (hP : va_P D cl (w x0) H) (hD : va_D A (w x0)) (hS : va_S A H0 H locs)
    (step : ∀ (x : σ) (ls' : Array Slot) (H' : Heap) (locs' : List Loc), I x → lv_has ls' nL (lv x) → va_P D cl (w x) H' → va_D A (w x) → va_S A H0 H' locs' → (∀ (y : σ) (ls2 : Array Slot) (H2 : Heap) (locs2 : List Loc), I y → μ y < μ x → lv_has ls2 nL (lv y) → va_P D cl (w y) H2 → va_D A (w y) → va_S A H0 H2 locs2 → W p l e R s m args below meth c H2 locs2 cells slots Q (F0 m pc ls2 rest)) → W p l e R s m args below meth c H' locs' cells slots Q (F0 m pc ls' rest)) :
    W p l e R s m args below meth c H locs cells slots Q (F0 m pc ls rest) := by
  have key : ∀ (n : Nat) (x : σ) (ls' : Array Slot) (H' : Heap) (locs' : List Loc), μ x < n → I x → lv_has ls' nL (lv x) → va_P D cl (w x) H' → va_D A (w x) → va_S A H0 H' locs' → W p l e R s m args below meth c H' locs' cells slots Q (F0 m pc ls' rest) := by
    intro n
    induction n with
    | zero => intro x ls' H' locs' h; omega
    | succ n ih =>
      intro x ls' H' locs' h hI hl' hP' hD' hS'
      exact step x ls' H' locs' hI hl' hP' hD' hS' (fun y ls2 H2 locs2 hy hm hl2 hP2 hD2 hS2 => ih y ls2 H2 locs2 (by omega) hy hl2 hP2 hD2 hS2)
  exact key (μ x0 + 1) x0 ls H locs (Nat.lt_succ_self _) h0 hl hP hD hS
/-- ways that meet again, nothing written -/
theorem ri_join {σ : Type} {nL : Nat} {g : JFrame} (tgt : Nat) (I : σ → Prop) (lv : σ → List (Nat × Value)) (st : σ → List Value)
    (k : ∀ (x : σ) (ls' : Array Slot), I x → lv_has ls' nL (lv x) → W p l e R s m args below meth c H locs cells slots Q (F0 m tgt ls' (st x)))
    (h : (∀ (x : σ) (ls' : Array Slot), I x → lv_has ls' nL (lv x) → W p l e R s m args below meth c H locs cells slots Q (F0 m tgt ls' (st x))) → W p l e R s m args below meth c H locs cells slots Q g) : W p l e R s m args below meth c H locs cells slots Q g := h k
theorem ri_joinW {σ : Type} {nL : Nat} {g : JFrame} (tgt : Nat) (I : σ → Prop) (lv : σ → List (Nat × Value)) (st : σ → List Value) (w : σ → va_W) (D : va_G) (cl : List vw_C) (A : Nat → Prop) (H0 : Heap)
    (k : ∀ (x : σ) (ls' : Array Slot) (H' : Heap) (locs' : List Loc), I x → lv_has ls' nL (lv x) → va_P D cl (w x) H' → va_D A (w x) → va_S A H0 H' locs' → W p l e R s m args below meth c H' locs' cells slots Q (F0 m tgt ls' (st x)))
    (h : (∀ (x : σ) (ls' : Array Slot) (H' : Heap) (locs' : List Loc), I x → lv_has ls' nL (lv x) → va_P D cl (w x) H' → va_D A (w x) → va_S A H0 H' locs' → W p l e R s m args below meth c H' locs' cells slots Q (F0 m tgt ls' (st x))) → W p l e R s m args below meth c H locs cells slots Q g) : W p l e R s m args below meth c H locs cells slots Q g := h k
end RI
end
section
/-! the worlds of the two objects: a row a field; the forms of contracts -/
set_option maxRecDepth 100000
abbrev vwCl : List vw_C := [(RX1, TX1, 14), (RX2, TX2, 8)]
abbrev XW (ad : Nat → Nat) (dB dN : ClassId) (Cw Rw n hc cn : Int) (Lf Bt Wd Hg FB HO CA SS SH : Int → Int) : va_W :=
  [(ad 0, .inr (0, [.int (iI Cw), .int (iI Rw), .int (iI n), .ref (ad 1), .ref (ad 2), .ref (ad 3), .ref (ad 4), .ref (ad 5), .int (iI hc), .ref (ad 6), .int (iI cn), .ref (ad 7), .ref (ad 8), .ref (ad 9)])),
   (ad 1, .inl (dB, 20, .inl (aI Lf))), (ad 2, .inl (dB, 20, .inl (aI Bt))), (ad 3, .inl (dB, 20, .inl (aI Wd))), (ad 4, .inl (dB, 20, .inl (aI Hg))), (ad 5, .inl (dN, 16, .inl (aI FB))), (ad 6, .inl (dN, 256, .inl (aI HO))), (ad 7, .inl (dN, 1024, .inl (aI CA))), (ad 8, .inl (dB, 17, .inl (aI SS))), (ad 9, .inl (dB, 17, .inl (aI SH)))]
abbrev MW (bd : Nat → Nat) (dN dZ : ClassId) (Cw Rw : Int) (Ce Lf Bt Wd Hg Th : Int → Int) : va_W :=
  [(bd 0, .inr (1, [.int (iI Cw), .int (iI Rw), .ref (bd 1), .ref (bd 2), .ref (bd 3), .ref (bd 4), .ref (bd 5), .ref (bd 6)])),
   (bd 1, .inl (dN, 256, .inl (aI Ce))), (bd 2, .inl (dN, 20, .inl (aI Lf))), (bd 3, .inl (dN, 20, .inl (aI Bt))), (bd 4, .inl (dN, 20, .inl (aI Wd))), (bd 5, .inl (dN, 20, .inl (aI Hg))), (bd 6, .inl (dZ, 20, .inl (aI Th)))]
abbrev tX (dB dN : ClassId) : List (ClassId × FieldType) := [(dB, .byte), (dN, .int)]
abbrev tM (dN dZ : ClassId) : List (ClassId × FieldType) := [(dN, .int), (dZ, .boolean)]
section WR
variable {p : Program} {l : Launch} {e : Env} {R : Room} {s : State} {m : MethodId} {args : Array Value} {below : List Frame} {meth : Method} {c : Code} {H : Heap} {locs : List Loc} {cells slots : Nat} {Q : State → Prop}
variable {cc : ByteArray} {pc : Nat} {ls : Array Slot} {rest : List Value}
variable {D : va_G} {tys : List (ClassId × FieldType)} {A : Nat → Prop} {H0 : Heap}
theorem gx_Cw (hx : p.tables.exec = Jvm.exec) (hb : c.code = cc) (hts : ∀ w ∈ lw_all, w.before args s = true) (hown : s.vm.findClass RX1 = some m.cls) {ad : Nat → Nat} {dB dN : ClassId} {Cw Rw n hc cn : Int} {Lf Bt Wd Hg FB HO CA SS SH : Int → Int} (hK : va_K D vwCl tys s) (hP : va_P D vwCl (XW ad dB dN Cw Rw n hc cn Lf Bt Wd Hg FB HO CA SS SH) H) (hdg : decode cc pc = .ok (.getfield 38, 3))
    (kk : W p l e R s m args below meth c H locs cells slots Q (F0 m (pc + 3) ls (.int (iI Cw) :: rest))) : W p l e R s m args below meth c H locs cells slots Q (F0 m pc ls (.ref (ad 0) :: rest)) :=
  va_get (ci := 0) (v := .int (iI Cw)) (C := RX1) (T := TX1) (N := 14) hx hb hts in_X1 hown hK hP 0 rfl rfl 0 (by decide) (hts _ q49) (fun _ h9 => h9) rfl hdg kk
theorem gx_Rw (hx : p.tables.exec = Jvm.exec) (hb : c.code = cc) (hts : ∀ w ∈ lw_all, w.before args s = true) (hown : s.vm.findClass RX1 = some m.cls) {ad : Nat → Nat} {dB dN : ClassId} {Cw Rw n hc cn : Int} {Lf Bt Wd Hg FB HO CA SS SH : Int → Int} (hK : va_K D vwCl tys s) (hP : va_P D vwCl (XW ad dB dN Cw Rw n hc cn Lf Bt Wd Hg FB HO CA SS SH) H) (hdg : decode cc pc = .ok (.getfield 42, 3))
    (kk : W p l e R s m args below meth c H locs cells slots Q (F0 m (pc + 3) ls (.int (iI Rw) :: rest))) : W p l e R s m args below meth c H locs cells slots Q (F0 m pc ls (.ref (ad 0) :: rest)) :=
  va_get (ci := 0) (v := .int (iI Rw)) (C := RX1) (T := TX1) (N := 14) hx hb hts in_X1 hown hK hP 0 rfl rfl 1 (by decide) (hts _ q50) (fun _ h9 => h9) rfl hdg kk
theorem gx_n (hx : p.tables.exec = Jvm.exec) (hb : c.code = cc) (hts : ∀ w ∈ lw_all, w.before args s = true) (hown : s.vm.findClass RX1 = some m.cls) {ad : Nat → Nat} {dB dN : ClassId} {Cw Rw n hc cn : Int} {Lf Bt Wd Hg FB HO CA SS SH : Int → Int} (hK : va_K D vwCl tys s) (hP : va_P D vwCl (XW ad dB dN Cw Rw n hc cn Lf Bt Wd Hg FB HO CA SS SH) H) (hdg : decode cc pc = .ok (.getfield 53, 3))
    (kk : W p l e R s m args below meth c H locs cells slots Q (F0 m (pc + 3) ls (.int (iI n) :: rest))) : W p l e R s m args below meth c H locs cells slots Q (F0 m pc ls (.ref (ad 0) :: rest)) :=
  va_get (ci := 0) (v := .int (iI n)) (C := RX1) (T := TX1) (N := 14) hx hb hts in_X1 hown hK hP 0 rfl rfl 2 (by decide) (hts _ q51) (fun _ h9 => h9) rfl hdg kk
theorem gx_Lf (hx : p.tables.exec = Jvm.exec) (hb : c.code = cc) (hts : ∀ w ∈ lw_all, w.before args s = true) (hown : s.vm.findClass RX1 = some m.cls) {ad : Nat → Nat} {dB dN : ClassId} {Cw Rw n hc cn : Int} {Lf Bt Wd Hg FB HO CA SS SH : Int → Int} (hK : va_K D vwCl tys s) (hP : va_P D vwCl (XW ad dB dN Cw Rw n hc cn Lf Bt Wd Hg FB HO CA SS SH) H) (hdg : decode cc pc = .ok (.getfield 7, 3))
    (kk : W p l e R s m args below meth c H locs cells slots Q (F0 m (pc + 3) ls (.ref (ad 1) :: rest))) : W p l e R s m args below meth c H locs cells slots Q (F0 m pc ls (.ref (ad 0) :: rest)) :=
  va_get (ci := 0) (v := .ref (ad 1)) (C := RX1) (T := TX1) (N := 14) hx hb hts in_X1 hown hK hP 0 rfl rfl 3 (by decide) (hts _ q52) (fun _ h9 => h9) rfl hdg kk
theorem gx_Bt (hx : p.tables.exec = Jvm.exec) (hb : c.code = cc) (hts : ∀ w ∈ lw_all, w.before args s = true) (hown : s.vm.findClass RX1 = some m.cls) {ad : Nat → Nat} {dB dN : ClassId} {Cw Rw n hc cn : Int} {Lf Bt Wd Hg FB HO CA SS SH : Int → Int} (hK : va_K D vwCl tys s) (hP : va_P D vwCl (XW ad dB dN Cw Rw n hc cn Lf Bt Wd Hg FB HO CA SS SH) H) (hdg : decode cc pc = .ok (.getfield 13, 3))
    (kk : W p l e R s m args below meth c H locs cells slots Q (F0 m (pc + 3) ls (.ref (ad 2) :: rest))) : W p l e R s m args below meth c H locs cells slots Q (F0 m pc ls (.ref (ad 0) :: rest)) :=
  va_get (ci := 0) (v := .ref (ad 2)) (C := RX1) (T := TX1) (N := 14) hx hb hts in_X1 hown hK hP 0 rfl rfl 4 (by decide) (hts _ q53) (fun _ h9 => h9) rfl hdg kk
theorem gx_Wd (hx : p.tables.exec = Jvm.exec) (hb : c.code = cc) (hts : ∀ w ∈ lw_all, w.before args s = true) (hown : s.vm.findClass RX1 = some m.cls) {ad : Nat → Nat} {dB dN : ClassId} {Cw Rw n hc cn : Int} {Lf Bt Wd Hg FB HO CA SS SH : Int → Int} (hK : va_K D vwCl tys s) (hP : va_P D vwCl (XW ad dB dN Cw Rw n hc cn Lf Bt Wd Hg FB HO CA SS SH) H) (hdg : decode cc pc = .ok (.getfield 16, 3))
    (kk : W p l e R s m args below meth c H locs cells slots Q (F0 m (pc + 3) ls (.ref (ad 3) :: rest))) : W p l e R s m args below meth c H locs cells slots Q (F0 m pc ls (.ref (ad 0) :: rest)) :=
  va_get (ci := 0) (v := .ref (ad 3)) (C := RX1) (T := TX1) (N := 14) hx hb hts in_X1 hown hK hP 0 rfl rfl 5 (by decide) (hts _ q54) (fun _ h9 => h9) rfl hdg kk
theorem gx_Hg (hx : p.tables.exec = Jvm.exec) (hb : c.code = cc) (hts : ∀ w ∈ lw_all, w.before args s = true) (hown : s.vm.findClass RX1 = some m.cls) {ad : Nat → Nat} {dB dN : ClassId} {Cw Rw n hc cn : Int} {Lf Bt Wd Hg FB HO CA SS SH : Int → Int} (hK : va_K D vwCl tys s) (hP : va_P D vwCl (XW ad dB dN Cw Rw n hc cn Lf Bt Wd Hg FB HO CA SS SH) H) (hdg : decode cc pc = .ok (.getfield 19, 3))
    (kk : W p l e R s m args below meth c H locs cells slots Q (F0 m (pc + 3) ls (.ref (ad 4) :: rest))) : W p l e R s m args below meth c H locs cells slots Q (F0 m pc ls (.ref (ad 0) :: rest)) :=
  va_get (ci := 0) (v := .ref (ad 4)) (C := RX1) (T := TX1) (N := 14) hx hb hts in_X1 hown hK hP 0 rfl rfl 6 (by decide) (hts _ q55) (fun _ h9 => h9) rfl hdg kk
theorem gx_FB (hx : p.tables.exec = Jvm.exec) (hb : c.code = cc) (hts : ∀ w ∈ lw_all, w.before args s = true) (hown : s.vm.findClass RX1 = some m.cls) {ad : Nat → Nat} {dB dN : ClassId} {Cw Rw n hc cn : Int} {Lf Bt Wd Hg FB HO CA SS SH : Int → Int} (hK : va_K D vwCl tys s) (hP : va_P D vwCl (XW ad dB dN Cw Rw n hc cn Lf Bt Wd Hg FB HO CA SS SH) H) (hdg : decode cc pc = .ok (.getfield 22, 3))
    (kk : W p l e R s m args below meth c H locs cells slots Q (F0 m (pc + 3) ls (.ref (ad 5) :: rest))) : W p l e R s m args below meth c H locs cells slots Q (F0 m pc ls (.ref (ad 0) :: rest)) :=
  va_get (ci := 0) (v := .ref (ad 5)) (C := RX1) (T := TX1) (N := 14) hx hb hts in_X1 hown hK hP 0 rfl rfl 7 (by decide) (hts _ q56) (fun _ h9 => h9) rfl hdg kk
theorem gx_hc (hx : p.tables.exec = Jvm.exec) (hb : c.code = cc) (hts : ∀ w ∈ lw_all, w.before args s = true) (hown : s.vm.findClass RX1 = some m.cls) {ad : Nat → Nat} {dB dN : ClassId} {Cw Rw n hc cn : Int} {Lf Bt Wd Hg FB HO CA SS SH : Int → Int} (hK : va_K D vwCl tys s) (hP : va_P D vwCl (XW ad dB dN Cw Rw n hc cn Lf Bt Wd Hg FB HO CA SS SH) H) (hdg : decode cc pc = .ok (.getfield 74, 3))
    (kk : W p l e R s m args below meth c H locs cells slots Q (F0 m (pc + 3) ls (.int (iI hc) :: rest))) : W p l e R s m args below meth c H locs cells slots Q (F0 m pc ls (.ref (ad 0) :: rest)) :=
  va_get (ci := 0) (v := .int (iI hc)) (C := RX1) (T := TX1) (N := 14) hx hb hts in_X1 hown hK hP 0 rfl rfl 8 (by decide) (hts _ q57) (fun _ h9 => h9) rfl hdg kk
theorem gx_HO (hx : p.tables.exec = Jvm.exec) (hb : c.code = cc) (hts : ∀ w ∈ lw_all, w.before args s = true) (hown : s.vm.findClass RX1 = some m.cls) {ad : Nat → Nat} {dB dN : ClassId} {Cw Rw n hc cn : Int} {Lf Bt Wd Hg FB HO CA SS SH : Int → Int} (hK : va_K D vwCl tys s) (hP : va_P D vwCl (XW ad dB dN Cw Rw n hc cn Lf Bt Wd Hg FB HO CA SS SH) H) (hdg : decode cc pc = .ok (.getfield 26, 3))
    (kk : W p l e R s m args below meth c H locs cells slots Q (F0 m (pc + 3) ls (.ref (ad 6) :: rest))) : W p l e R s m args below meth c H locs cells slots Q (F0 m pc ls (.ref (ad 0) :: rest)) :=
  va_get (ci := 0) (v := .ref (ad 6)) (C := RX1) (T := TX1) (N := 14) hx hb hts in_X1 hown hK hP 0 rfl rfl 9 (by decide) (hts _ q58) (fun _ h9 => h9) rfl hdg kk
theorem gx_cn (hx : p.tables.exec = Jvm.exec) (hb : c.code = cc) (hts : ∀ w ∈ lw_all, w.before args s = true) (hown : s.vm.findClass RX1 = some m.cls) {ad : Nat → Nat} {dB dN : ClassId} {Cw Rw n hc cn : Int} {Lf Bt Wd Hg FB HO CA SS SH : Int → Int} (hK : va_K D vwCl tys s) (hP : va_P D vwCl (XW ad dB dN Cw Rw n hc cn Lf Bt Wd Hg FB HO CA SS SH) H) (hdg : decode cc pc = .ok (.getfield 94, 3))
    (kk : W p l e R s m args below meth c H locs cells slots Q (F0 m (pc + 3) ls (.int (iI cn) :: rest))) : W p l e R s m args below meth c H locs cells slots Q (F0 m pc ls (.ref (ad 0) :: rest)) :=
  va_get (ci := 0) (v := .int (iI cn)) (C := RX1) (T := TX1) (N := 14) hx hb hts in_X1 hown hK hP 0 rfl rfl 10 (by decide) (hts _ q59) (fun _ h9 => h9) rfl hdg kk
theorem gx_CA (hx : p.tables.exec = Jvm.exec) (hb : c.code = cc) (hts : ∀ w ∈ lw_all, w.before args s = true) (hown : s.vm.findClass RX1 = some m.cls) {ad : Nat → Nat} {dB dN : ClassId} {Cw Rw n hc cn : Int} {Lf Bt Wd Hg FB HO CA SS SH : Int → Int} (hK : va_K D vwCl tys s) (hP : va_P D vwCl (XW ad dB dN Cw Rw n hc cn Lf Bt Wd Hg FB HO CA SS SH) H) (hdg : decode cc pc = .ok (.getfield 29, 3))
    (kk : W p l e R s m args below meth c H locs cells slots Q (F0 m (pc + 3) ls (.ref (ad 7) :: rest))) : W p l e R s m args below meth c H locs cells slots Q (F0 m pc ls (.ref (ad 0) :: rest)) :=
  va_get (ci := 0) (v := .ref (ad 7)) (C := RX1) (T := TX1) (N := 14) hx hb hts in_X1 hown hK hP 0 rfl rfl 11 (by decide) (hts _ q60) (fun _ h9 => h9) rfl hdg kk
theorem gx_SS (hx : p.tables.exec = Jvm.exec) (hb : c.code = cc) (hts : ∀ w ∈ lw_all, w.before args s = true) (hown : s.vm.findClass RX1 = some m.cls) {ad : Nat → Nat} {dB dN : ClassId} {Cw Rw n hc cn : Int} {Lf Bt Wd Hg FB HO CA SS SH : Int → Int} (hK : va_K D vwCl tys s) (hP : va_P D vwCl (XW ad dB dN Cw Rw n hc cn Lf Bt Wd Hg FB HO CA SS SH) H) (hdg : decode cc pc = .ok (.getfield 32, 3))
    (kk : W p l e R s m args below meth c H locs cells slots Q (F0 m (pc + 3) ls (.ref (ad 8) :: rest))) : W p l e R s m args below meth c H locs cells slots Q (F0 m pc ls (.ref (ad 0) :: rest)) :=
  va_get (ci := 0) (v := .ref (ad 8)) (C := RX1) (T := TX1) (N := 14) hx hb hts in_X1 hown hK hP 0 rfl rfl 12 (by decide) (hts _ q61) (fun _ h9 => h9) rfl hdg kk
theorem gx_SH (hx : p.tables.exec = Jvm.exec) (hb : c.code = cc) (hts : ∀ w ∈ lw_all, w.before args s = true) (hown : s.vm.findClass RX1 = some m.cls) {ad : Nat → Nat} {dB dN : ClassId} {Cw Rw n hc cn : Int} {Lf Bt Wd Hg FB HO CA SS SH : Int → Int} (hK : va_K D vwCl tys s) (hP : va_P D vwCl (XW ad dB dN Cw Rw n hc cn Lf Bt Wd Hg FB HO CA SS SH) H) (hdg : decode cc pc = .ok (.getfield 35, 3))
    (kk : W p l e R s m args below meth c H locs cells slots Q (F0 m (pc + 3) ls (.ref (ad 9) :: rest))) : W p l e R s m args below meth c H locs cells slots Q (F0 m pc ls (.ref (ad 0) :: rest)) :=
  va_get (ci := 0) (v := .ref (ad 9)) (C := RX1) (T := TX1) (N := 14) hx hb hts in_X1 hown hK hP 0 rfl rfl 13 (by decide) (hts _ q62) (fun _ h9 => h9) rfl hdg kk
theorem px_n (hx : p.tables.exec = Jvm.exec) (hb : c.code = cc) (hts : ∀ w ∈ lw_all, w.before args s = true) (hown : s.vm.findClass RX1 = some m.cls) {ad : Nat → Nat} {dB dN : ClassId} {Cw Rw n hc cn : Int} {Lf Bt Wd Hg FB HO CA SS SH : Int → Int} {v : Int} (hK : va_K D vwCl tys s) (hP : va_P D vwCl (XW ad dB dN Cw Rw n hc cn Lf Bt Wd Hg FB HO CA SS SH) H) (hD : va_D A (XW ad dB dN Cw Rw n hc cn Lf Bt Wd Hg FB HO CA SS SH)) (hS : va_S A H0 H locs) (hdg : decode cc pc = .ok (.putfield 53, 3))
    (kk : ∀ (H1 : Heap) (locs1 : List Loc), va_P D vwCl (XW ad dB dN Cw Rw v hc cn Lf Bt Wd Hg FB HO CA SS SH) H1 → va_D A (XW ad dB dN Cw Rw v hc cn Lf Bt Wd Hg FB HO CA SS SH) → va_S A H0 H1 locs1 → W p l e R s m args below meth c H1 locs1 cells slots Q (F0 m (pc + 3) ls rest)) : W p l e R s m args below meth c H locs cells slots Q (F0 m pc ls (.int (iI v) :: .ref (ad 0) :: rest)) :=
  va_put (ci := 0) (v := .int (iI v)) (ty := .int) (C := RX1) (T := TX1) (N := 14) hx hb hts in_X1 tyX1 tyX1_ok nmX1 hown hK hP hD hS 0 rfl rfl 2 (by decide) (hts _ q51) (fun _ h9 => h9) rfl (by decide +kernel) rfl rfl (Nat.le_of_ble_eq_true rfl) hdg kk
theorem px_hc (hx : p.tables.exec = Jvm.exec) (hb : c.code = cc) (hts : ∀ w ∈ lw_all, w.before args s = true) (hown : s.vm.findClass RX1 = some m.cls) {ad : Nat → Nat} {dB dN : ClassId} {Cw Rw n hc cn : Int} {Lf Bt Wd Hg FB HO CA SS SH : Int → Int} {v : Int} (hK : va_K D vwCl tys s) (hP : va_P D vwCl (XW ad dB dN Cw Rw n hc cn Lf Bt Wd Hg FB HO CA SS SH) H) (hD : va_D A (XW ad dB dN Cw Rw n hc cn Lf Bt Wd Hg FB HO CA SS SH)) (hS : va_S A H0 H locs) (hdg : decode cc pc = .ok (.putfield 74, 3))
    (kk : ∀ (H1 : Heap) (locs1 : List Loc), va_P D vwCl (XW ad dB dN Cw Rw n v cn Lf Bt Wd Hg FB HO CA SS SH) H1 → va_D A (XW ad dB dN Cw Rw n v cn Lf Bt Wd Hg FB HO CA SS SH) → va_S A H0 H1 locs1 → W p l e R s m args below meth c H1 locs1 cells slots Q (F0 m (pc + 3) ls rest)) : W p l e R s m args below meth c H locs cells slots Q (F0 m pc ls (.int (iI v) :: .ref (ad 0) :: rest)) :=
  va_put (ci := 0) (v := .int (iI v)) (ty := .int) (C := RX1) (T := TX1) (N := 14) hx hb hts in_X1 tyX1 tyX1_ok nmX1 hown hK hP hD hS 0 rfl rfl 8 (by decide) (hts _ q57) (fun _ h9 => h9) rfl (by decide +kernel) rfl rfl (Nat.le_of_ble_eq_true rfl) hdg kk
theorem px_cn (hx : p.tables.exec = Jvm.exec) (hb : c.code = cc) (hts : ∀ w ∈ lw_all, w.before args s = true) (hown : s.vm.findClass RX1 = some m.cls) {ad : Nat → Nat} {dB dN : ClassId} {Cw Rw n hc cn : Int} {Lf Bt Wd Hg FB HO CA SS SH : Int → Int} {v : Int} (hK : va_K D vwCl tys s) (hP : va_P D vwCl (XW ad dB dN Cw Rw n hc cn Lf Bt Wd Hg FB HO CA SS SH) H) (hD : va_D A (XW ad dB dN Cw Rw n hc cn Lf Bt Wd Hg FB HO CA SS SH)) (hS : va_S A H0 H locs) (hdg : decode cc pc = .ok (.putfield 94, 3))
    (kk : ∀ (H1 : Heap) (locs1 : List Loc), va_P D vwCl (XW ad dB dN Cw Rw n hc v Lf Bt Wd Hg FB HO CA SS SH) H1 → va_D A (XW ad dB dN Cw Rw n hc v Lf Bt Wd Hg FB HO CA SS SH) → va_S A H0 H1 locs1 → W p l e R s m args below meth c H1 locs1 cells slots Q (F0 m (pc + 3) ls rest)) : W p l e R s m args below meth c H locs cells slots Q (F0 m pc ls (.int (iI v) :: .ref (ad 0) :: rest)) :=
  va_put (ci := 0) (v := .int (iI v)) (ty := .int) (C := RX1) (T := TX1) (N := 14) hx hb hts in_X1 tyX1 tyX1_ok nmX1 hown hK hP hD hS 0 rfl rfl 10 (by decide) (hts _ q59) (fun _ h9 => h9) rfl (by decide +kernel) rfl rfl (Nat.le_of_ble_eq_true rfl) hdg kk
theorem gm_Cw (hx : p.tables.exec = Jvm.exec) (hb : c.code = cc) (hts : ∀ w ∈ lw_all, w.before args s = true) (hown : s.vm.findClass RX2 = some m.cls) {bd : Nat → Nat} {dN dZ : ClassId} {Cw Rw : Int} {Ce Lf Bt Wd Hg Th : Int → Int} (hK : va_K D vwCl tys s) (hP : va_P D vwCl (MW bd dN dZ Cw Rw Ce Lf Bt Wd Hg Th) H) (hdg : decode cc pc = .ok (.getfield 29, 3))
    (kk : W p l e R s m args below meth c H locs cells slots Q (F0 m (pc + 3) ls (.int (iI Cw) :: rest))) : W p l e R s m args below meth c H locs cells slots Q (F0 m pc ls (.ref (bd 0) :: rest)) :=
  va_get (ci := 1) (v := .int (iI Cw)) (C := RX2) (T := TX2) (N := 8) hx hb hts in_X2 hown hK hP 0 rfl rfl 0 (by decide) (hts _ q216) (fun _ h9 => h9) rfl hdg kk
theorem gm_Rw (hx : p.tables.exec = Jvm.exec) (hb : c.code = cc) (hts : ∀ w ∈ lw_all, w.before args s = true) (hown : s.vm.findClass RX2 = some m.cls) {bd : Nat → Nat} {dN dZ : ClassId} {Cw Rw : Int} {Ce Lf Bt Wd Hg Th : Int → Int} (hK : va_K D vwCl tys s) (hP : va_P D vwCl (MW bd dN dZ Cw Rw Ce Lf Bt Wd Hg Th) H) (hdg : decode cc pc = .ok (.getfield 33, 3))
    (kk : W p l e R s m args below meth c H locs cells slots Q (F0 m (pc + 3) ls (.int (iI Rw) :: rest))) : W p l e R s m args below meth c H locs cells slots Q (F0 m pc ls (.ref (bd 0) :: rest)) :=
  va_get (ci := 1) (v := .int (iI Rw)) (C := RX2) (T := TX2) (N := 8) hx hb hts in_X2 hown hK hP 0 rfl rfl 1 (by decide) (hts _ q217) (fun _ h9 => h9) rfl hdg kk
theorem gm_Ce (hx : p.tables.exec = Jvm.exec) (hb : c.code = cc) (hts : ∀ w ∈ lw_all, w.before args s = true) (hown : s.vm.findClass RX2 = some m.cls) {bd : Nat → Nat} {dN dZ : ClassId} {Cw Rw : Int} {Ce Lf Bt Wd Hg Th : Int → Int} (hK : va_K D vwCl tys s) (hP : va_P D vwCl (MW bd dN dZ Cw Rw Ce Lf Bt Wd Hg Th) H) (hdg : decode cc pc = .ok (.getfield 7, 3))
    (kk : W p l e R s m args below meth c H locs cells slots Q (F0 m (pc + 3) ls (.ref (bd 1) :: rest))) : W p l e R s m args below meth c H locs cells slots Q (F0 m pc ls (.ref (bd 0) :: rest)) :=
  va_get (ci := 1) (v := .ref (bd 1)) (C := RX2) (T := TX2) (N := 8) hx hb hts in_X2 hown hK hP 0 rfl rfl 2 (by decide) (hts _ q218) (fun _ h9 => h9) rfl hdg kk
theorem gm_Lf (hx : p.tables.exec = Jvm.exec) (hb : c.code = cc) (hts : ∀ w ∈ lw_all, w.before args s = true) (hown : s.vm.findClass RX2 = some m.cls) {bd : Nat → Nat} {dN dZ : ClassId} {Cw Rw : Int} {Ce Lf Bt Wd Hg Th : Int → Int} (hK : va_K D vwCl tys s) (hP : va_P D vwCl (MW bd dN dZ Cw Rw Ce Lf Bt Wd Hg Th) H) (hdg : decode cc pc = .ok (.getfield 13, 3))
    (kk : W p l e R s m args below meth c H locs cells slots Q (F0 m (pc + 3) ls (.ref (bd 2) :: rest))) : W p l e R s m args below meth c H locs cells slots Q (F0 m pc ls (.ref (bd 0) :: rest)) :=
  va_get (ci := 1) (v := .ref (bd 2)) (C := RX2) (T := TX2) (N := 8) hx hb hts in_X2 hown hK hP 0 rfl rfl 3 (by decide) (hts _ q219) (fun _ h9 => h9) rfl hdg kk
theorem gm_Bt (hx : p.tables.exec = Jvm.exec) (hb : c.code = cc) (hts : ∀ w ∈ lw_all, w.before args s = true) (hown : s.vm.findClass RX2 = some m.cls) {bd : Nat → Nat} {dN dZ : ClassId} {Cw Rw : Int} {Ce Lf Bt Wd Hg Th : Int → Int} (hK : va_K D vwCl tys s) (hP : va_P D vwCl (MW bd dN dZ Cw Rw Ce Lf Bt Wd Hg Th) H) (hdg : decode cc pc = .ok (.getfield 16, 3))
    (kk : W p l e R s m args below meth c H locs cells slots Q (F0 m (pc + 3) ls (.ref (bd 3) :: rest))) : W p l e R s m args below meth c H locs cells slots Q (F0 m pc ls (.ref (bd 0) :: rest)) :=
  va_get (ci := 1) (v := .ref (bd 3)) (C := RX2) (T := TX2) (N := 8) hx hb hts in_X2 hown hK hP 0 rfl rfl 4 (by decide) (hts _ q220) (fun _ h9 => h9) rfl hdg kk
theorem gm_Wd (hx : p.tables.exec = Jvm.exec) (hb : c.code = cc) (hts : ∀ w ∈ lw_all, w.before args s = true) (hown : s.vm.findClass RX2 = some m.cls) {bd : Nat → Nat} {dN dZ : ClassId} {Cw Rw : Int} {Ce Lf Bt Wd Hg Th : Int → Int} (hK : va_K D vwCl tys s) (hP : va_P D vwCl (MW bd dN dZ Cw Rw Ce Lf Bt Wd Hg Th) H) (hdg : decode cc pc = .ok (.getfield 19, 3))
    (kk : W p l e R s m args below meth c H locs cells slots Q (F0 m (pc + 3) ls (.ref (bd 4) :: rest))) : W p l e R s m args below meth c H locs cells slots Q (F0 m pc ls (.ref (bd 0) :: rest)) :=
  va_get (ci := 1) (v := .ref (bd 4)) (C := RX2) (T := TX2) (N := 8) hx hb hts in_X2 hown hK hP 0 rfl rfl 5 (by decide) (hts _ q221) (fun _ h9 => h9) rfl hdg kk
theorem gm_Hg (hx : p.tables.exec = Jvm.exec) (hb : c.code = cc) (hts : ∀ w ∈ lw_all, w.before args s = true) (hown : s.vm.findClass RX2 = some m.cls) {bd : Nat → Nat} {dN dZ : ClassId} {Cw Rw : Int} {Ce Lf Bt Wd Hg Th : Int → Int} (hK : va_K D vwCl tys s) (hP : va_P D vwCl (MW bd dN dZ Cw Rw Ce Lf Bt Wd Hg Th) H) (hdg : decode cc pc = .ok (.getfield 22, 3))
    (kk : W p l e R s m args below meth c H locs cells slots Q (F0 m (pc + 3) ls (.ref (bd 5) :: rest))) : W p l e R s m args below meth c H locs cells slots Q (F0 m pc ls (.ref (bd 0) :: rest)) :=
  va_get (ci := 1) (v := .ref (bd 5)) (C := RX2) (T := TX2) (N := 8) hx hb hts in_X2 hown hK hP 0 rfl rfl 6 (by decide) (hts _ q222) (fun _ h9 => h9) rfl hdg kk
theorem gm_Th (hx : p.tables.exec = Jvm.exec) (hb : c.code = cc) (hts : ∀ w ∈ lw_all, w.before args s = true) (hown : s.vm.findClass RX2 = some m.cls) {bd : Nat → Nat} {dN dZ : ClassId} {Cw Rw : Int} {Ce Lf Bt Wd Hg Th : Int → Int} (hK : va_K D vwCl tys s) (hP : va_P D vwCl (MW bd dN dZ Cw Rw Ce Lf Bt Wd Hg Th) H) (hdg : decode cc pc = .ok (.getfield 25, 3))
    (kk : W p l e R s m args below meth c H locs cells slots Q (F0 m (pc + 3) ls (.ref (bd 6) :: rest))) : W p l e R s m args below meth c H locs cells slots Q (F0 m pc ls (.ref (bd 0) :: rest)) :=
  va_get (ci := 1) (v := .ref (bd 6)) (C := RX2) (T := TX2) (N := 8) hx hb hts in_X2 hown hK hP 0 rfl rfl 7 (by decide) (hts _ q223) (fun _ h9 => h9) rfl hdg kk
end WR
/-! contracts -/
/-- an answer that is an int, and what holds of it -/
def pI (P : Int → Prop) : Int32 → Prop := fun r => ∃ z : Int, r = iI z ∧ P z
/-- the start of a method that reads: its world is there -/
abbrev PR (D : va_G) (ws : va_W) (tys : List (ClassId × FieldType)) : State → Prop := fun U => va_P D vwCl ws U.heap ∧ va_K D vwCl tys U
/-- the start of a method that writes -/
abbrev PW (D : va_G) (ws : va_W) (tys : List (ClassId × FieldType)) (sz : Nat) : State → Prop := fun U => U.heap.size = sz ∧ va_P D vwCl ws U.heap ∧ va_K D vwCl tys U ∧ va_D (fun _ => True) ws
/-- the world behind a method that writes -/
abbrev BW {S : Type} (D : va_G) (tys : List (ClassId × FieldType)) (A : Nat → Prop) (w : S → va_W) (u : S) (t : State) : Prop := va_P D vwCl (w u) t.heap ∧ va_K D vwCl tys t ∧ va_D A (w u)
theorem blindR {D : va_G} {ws : va_W} {tys : List (ClassId × FieldType)} {av : List Value} : FrameBlind (va_Pc av (PR D ws tys)) := fun a U g mk q => by
  obtain ⟨q0, qP, qK⟩ := q
  exact ⟨q0, qP, va_K.moved (u := U) (U := U.calling g mk a) (Vm.Alike.refl U.vm) qK⟩
theorem blindW {D : va_G} {ws : va_W} {tys : List (ClassId × FieldType)} {sz : Nat} {av : List Value} : FrameBlind (va_Pc av (PW D ws tys sz)) := fun a U g mk q => by
  obtain ⟨q0, q1, qP, qK, qD⟩ := q
  exact ⟨q0, q1, qP, va_K.moved (u := U) (U := U.calling g mk a) (Vm.Alike.refl U.vm) qK, qD⟩
abbrev rmN (f lo : Nat) : Room := { frames := f, cells := 0, slots := 0, locals := lo }
/-- a method that reads only and answers an int -/
abbrev MetR (l : Launch) (y : MethodName) (cc : ByteArray) (maxL : Nat) (ret : FieldType) (f lo : Nat) (av : List Value) (D : va_G) (ws : va_W) (tys : List (ClassId × FieldType)) (P : Int → Prop) : Prop :=
  Met l y (ws_ y cc maxL (some ret)) (rmN f lo) (va_Pc av (PR D ws tys)) (vp_Si (pI P)) 0 0 (fun _ => False)
/-- a method that writes its world and answers an int -/
abbrev MetI {S : Type} (l : Launch) (y : MethodName) (cc : ByteArray) (maxL : Nat) (f lo : Nat) (av : List Value) (D : va_G) (ws : va_W) (tys : List (ClassId × FieldType)) (sz : Nat) (P : Int → S → Prop) (w : S → va_W) : Prop :=
  Met l y (ws_ y cc maxL (some .int)) (rmN f lo) (va_Pc av (PW D ws tys sz)) (va_Qi (fun r u => ∃ z : Int, r = iI z ∧ P z u) (BW D tys (va_A ws sz) w) (va_A ws sz)) 0 0 (va_A ws sz)
/-- a method that writes its world and answers nothing -/
abbrev MetV {S : Type} (l : Launch) (y : MethodName) (cc : ByteArray) (maxL : Nat) (f lo : Nat) (av : List Value) (D : va_G) (ws : va_W) (tys : List (ClassId × FieldType)) (sz : Nat) (P : S → Prop) (w : S → va_W) : Prop :=
  Met l y (ws_ y cc maxL none) (rmN f lo) (va_Pc av (PW D ws tys sz)) (va_Qv P (BW D tys (va_A ws sz) w) (va_A ws sz)) 0 0 (va_A ws sz)
/-- a method's start, once for all -/
theorem ri_met {l : Launch} {y : MethodName} {cc : ByteArray} {maxL : Nat} {ret : Option FieldType} {rm : Room} {av : List Value} {pre : State → Prop} {Qc : Array Value → State → Outcome → State → Prop} {mc ms : Nat} {free : Addr → Prop} (own : String) (hc : y.cls = own) (hy : plainName y.cls = true) (hn : (lg_sl av).length ≤ maxL)
    (body : ∀ (p : Program) (e : Env) (s : State) (m : MethodId) (below : List Frame) (meth : Method) (c : Code), p.tables.exec = Jvm.exec → c.code = cc → meth.sig.returnType = ret → (∀ w ∈ lw_all, w.before av.toArray s = true) → s.vm.findClass own = some m.cls → meth.locks = false → c.maxLocals = maxL → meth.name = y.name → pre s → ∀ ls : Array Slot, lv_has ls maxL (lv_args 0 av) → W p l e rm s m av.toArray below meth c s.heap [] 0 0 (MQ below Qc av.toArray s mc ms free) (F0 m 0 ls [])) :
    Met l y (ws_ y cc maxL ret) rm (va_Pc av pre) Qc mc ms free := by
  refine Met.ofW (cc := cc) (maxL := maxL) (ret := ret) hy rfl ?_
  intro p e s m args below meth c s₁ B hml hv
  obtain ⟨rfl, hv⟩ := hv
  have hts := atoms_spec (ws := ws_ y cc maxL ret) B.pre
  have hl := lv_entry av (n := maxL) hn
  rw [lg_entry_eq]
  exact body p e s m below meth c B.exec B.bytes B.returns (fun w h => hts w (List.mem_cons_of_mem _ h)) (by rw [← hc]; exact findClass_of_methodNamed B.named) B.notSynchronized hml (name_of_methodNamed B.named B.method).1 hv _ hl
section RC
variable {p : Program} {l : Launch} {e : Env} {R : Room} {s : State} {m : MethodId} {args : Array Value} {below : List Frame} {meth : Method} {c : Code} {H : Heap} {locs : List Loc} {cells slots : Nat} {Q : State → Prop}
variable {cc : ByteArray} {pc : Nat} {ls : Array Slot} {rest : List Value}
variable {D : va_G} {tys : List (ClassId × FieldType)} {ws : va_W} {A : Nat → Prop} {H0 : Heap} {y : MethodName} {bytes : ByteArray} {maxL nL n index f lo : Nat} {own C : String} {b : Addr} {As : List Value} {st0 : List Value} {ret : FieldType}
/-- the answer of a method that reads -/
theorem ri_ret {P : Int → Prop} {a : Int} (hx : p.tables.exec = Jvm.exec) (hb : c.code = cc) (hr : meth.sig.returnType = some .int) (hlocks : meth.locks = false) (hp : P a) (hdg : decode cc pc = .ok (.ireturn, 1)) :
    W p l e R s m args below meth c s.heap [] 0 0 (MQ below (vp_Si (pI P)) args s 0 0 (fun _ => False)) (F0 m pc ls [.int (iI a)]) :=
  W.iret hx hb hr (fun t ht _ => ⟨_, rfl, ⟨a, rfl, hp⟩, ht⟩) (fun q h => by cases h) hdg hlocks
/-- .. that answers true or false -/
theorem ri_zret {P : Int → Prop} {a : Int} (hx : p.tables.exec = Jvm.exec) (hb : c.code = cc) (hr : meth.sig.returnType = some .boolean) (hlocks : meth.locks = false) (ha : a = 0 ∨ a = 1) (hp : P a) (hdg : decode cc pc = .ok (.ireturn, 1)) :
    W p l e R s m args below meth c s.heap [] 0 0 (MQ below (vp_Si (pI P)) args s 0 0 (fun _ => False)) (F0 m pc ls [.int (iI a)]) :=
  W.zret hx hb hr (by rcases ha with rfl | rfl <;> rfl) (fun t ht _ => ⟨_, rfl, ⟨a, rfl, hp⟩, ht⟩) (fun q h => by cases h) hdg hlocks
/-- the end of a method that writes -/
theorem ri_vretW {S : Type} {P : S → Prop} {w : S → va_W} (u : S) (hx : p.tables.exec = Jvm.exec) (hb : c.code = cc) (hr : meth.sig.returnType = none) (hlocks : meth.locks = false) (hp : P u) (hK : va_K D vwCl tys s) (hP : va_P D vwCl (w u) H) (hD : va_D A (w u)) (hS : va_S A s.heap H locs) (hdg : decode cc pc = .ok (.return_, 1)) :
    W p l e R s m args below meth c H locs 0 0 (MQ below (va_Qv P (BW D tys A w) A) args s 0 0 A) (F0 m pc ls []) :=
  W.vret hx hb hr (fun t ht hW => ⟨⟨u, rfl, hp, by rw [ht]; exact hP, va_K.moved hW.alike hK, hD⟩, hS.F ht⟩) hS.2.2 hdg hlocks
theorem ri_iretW {S : Type} {P : Int → S → Prop} {w : S → va_W} {a : Int} (u : S) (hx : p.tables.exec = Jvm.exec) (hb : c.code = cc) (hr : meth.sig.returnType = some .int) (hlocks : meth.locks = false) (hp : P a u) (hK : va_K D vwCl tys s) (hP : va_P D vwCl (w u) H) (hD : va_D A (w u)) (hS : va_S A s.heap H locs) (hdg : decode cc pc = .ok (.ireturn, 1)) :
    W p l e R s m args below meth c H locs 0 0 (MQ below (va_Qi (fun r u => ∃ z : Int, r = iI z ∧ P z u) (BW D tys A w) A) args s 0 0 A) (F0 m pc ls [.int (iI a)]) :=
  W.iret hx hb hr (fun t ht hW => ⟨⟨_, u, rfl, ⟨a, rfl, hp⟩, by rw [ht]; exact hP, va_K.moved hW.alike hK, hD⟩, hS.F ht⟩) hS.2.2 hdg hlocks
/-- a call of a method that reads: wr is the caller's world, ws the callee's part of it -/
theorem ri_callR {P : Int → Prop} {ci q0 : Nat} {T : u_T} {N : Nat} {fs : List Value} (hM : MetR l y bytes maxL ret f lo (.ref b :: As) D ws tys P) (hx : p.tables.exec = Jvm.exec) (hb : c.code = cc) (hml : c.maxLocals = nL) (hown : s.vm.findClass own = some m.cls) (hts : ∀ w ∈ lw_all, w.before args s = true)
    (cw : CallW R s args own C index y bytes maxL (some ret) (ws_ y bytes maxL (some ret)) (rmN f lo) 0 0 n) (hK : va_K D vwCl tys s) (hP : va_P D vwCl ws H) (hc : vwCl[ci]? = some (C, T, N)) (he : ws[q0]? = some (b, .inr (ci, fs)))
    (hn : As.length = n) (hsize : ls.size = nL) (hstack : st0 = As.reverse ++ .ref b :: rest) (hW : (rest.map fun v => v.category).sum ≤ 8) (hdg : decode cc pc = .ok (.invokevirtual index, 3)) (hf : cells ≤ R.cells ∧ slots ≤ R.slots)
    (kk : ∀ z : Int, P z → W p l e R s m args below meth c H locs cells slots Q (F0 m (pc + 3) ls (.int (iI z) :: rest))) : W p l e R s m args below meth c H locs cells slots Q (F0 m pc ls st0) := by
  refine vp_callSi (va_runV (As := As) (rest := rest) ⟨hx, hb, hml, hown, hts⟩ hM cw ⟨blindR, va_recv hK hP hc he, fun U hU hW => ⟨rfl, by rw [hU]; exact hP, va_K.moved hW.alike hK⟩⟩ rfl hn hsize hstack (lv_room hW) hdg hf).run ?_
  rintro r ⟨z, rfl, hz⟩
  exact kk z hz
/-- a call of a method that writes the caller's whole world -/
theorem ri_callV {S : Type} {P : S → Prop} {w : S → va_W} {ci q0 : Nat} {T : u_T} {N : Nat} {fs : List Value} (hM : MetV l y bytes maxL f lo (.ref b :: As) D ws tys H.size P w) (hx : p.tables.exec = Jvm.exec) (hb : c.code = cc) (hml : c.maxLocals = nL) (hown : s.vm.findClass own = some m.cls) (hts : ∀ w ∈ lw_all, w.before args s = true)
    (cw : CallW R s args own C index y bytes maxL none (ws_ y bytes maxL none) (rmN f lo) 0 0 n) (hK : va_K D vwCl tys s) (hP : va_P D vwCl ws H) (hD : va_D A ws) (hS : va_S A H0 H locs) (hA : ∀ q, H0.size ≤ q → A q) (hc : vwCl[ci]? = some (C, T, N)) (he : ws[q0]? = some (b, .inr (ci, fs)))
    (hn : As.length = n) (hsize : ls.size = nL) (hstack : st0 = As.reverse ++ .ref b :: rest) (hW : (rest.map fun v => v.category).sum ≤ 8) (hdg : decode cc pc = .ok (.invokevirtual index, 3)) (hf : cells ≤ R.cells ∧ slots ≤ R.slots)
    (kk : ∀ (u : S) (H1 : Heap) (locs1 : List Loc), P u → va_P D vwCl (w u) H1 → va_D A (w u) → va_S A H0 H1 locs1 → W p l e R s m args below meth c H1 locs1 cells slots Q (F0 m (pc + 3) ls rest)) : W p l e R s m args below meth c H locs cells slots Q (F0 m pc ls st0) := by
  have hFc : ∀ q, va_A ws H.size q → A q := fun q h => by
    rcases h with ⟨k, e, h⟩ | h
    · exact hD.2 k (q, e) h
    · exact hA q (Nat.le_trans hS.1 h)
  refine va_callv (va_runV (As := As) (rest := rest) ⟨hx, hb, hml, hown, hts⟩ hM cw ⟨blindW, va_recv hK hP hc he, fun U hU hW => ⟨rfl, by rw [hU], by rw [hU]; exact hP, va_K.moved hW.alike hK, hD.weaken (fun _ _ _ _ => trivial)⟩⟩ rfl hn hsize hstack (lv_room hW) hdg hf) hS (fun q _ h => hFc q h) hFc ?_
  intro u t H1 locs1 ht hvm hw hB hz hk hS1
  obtain ⟨hP1, hK1, hD1⟩ := hB
  rw [ht] at hP1
  exact kk u H1 locs1 hw hP1 (hD1.weaken (fun _ _ _ h => hFc _ h)) hS1
theorem ri_callI {S : Type} {P : Int → S → Prop} {w : S → va_W} {ci q0 : Nat} {T : u_T} {N : Nat} {fs : List Value} (hM : MetI l y bytes maxL f lo (.ref b :: As) D ws tys H.size P w) (hx : p.tables.exec = Jvm.exec) (hb : c.code = cc) (hml : c.maxLocals = nL) (hown : s.vm.findClass own = some m.cls) (hts : ∀ w ∈ lw_all, w.before args s = true)
    (cw : CallW R s args own C index y bytes maxL (some .int) (ws_ y bytes maxL (some .int)) (rmN f lo) 0 0 n) (hK : va_K D vwCl tys s) (hP : va_P D vwCl ws H) (hD : va_D A ws) (hS : va_S A H0 H locs) (hA : ∀ q, H0.size ≤ q → A q) (hc : vwCl[ci]? = some (C, T, N)) (he : ws[q0]? = some (b, .inr (ci, fs)))
    (hn : As.length = n) (hsize : ls.size = nL) (hstack : st0 = As.reverse ++ .ref b :: rest) (hW : (rest.map fun v => v.category).sum ≤ 8) (hdg : decode cc pc = .ok (.invokevirtual index, 3)) (hf : cells ≤ R.cells ∧ slots ≤ R.slots)
    (kk : ∀ (z : Int) (u : S) (H1 : Heap) (locs1 : List Loc), P z u → va_P D vwCl (w u) H1 → va_D A (w u) → va_S A H0 H1 locs1 → W p l e R s m args below meth c H1 locs1 cells slots Q (F0 m (pc + 3) ls (.int (iI z) :: rest))) : W p l e R s m args below meth c H locs cells slots Q (F0 m pc ls st0) := by
  have hFc : ∀ q, va_A ws H.size q → A q := fun q h => by
    rcases h with ⟨k, e, h⟩ | h
    · exact hD.2 k (q, e) h
    · exact hA q (Nat.le_trans hS.1 h)
  refine va_calli (va_runV (As := As) (rest := rest) ⟨hx, hb, hml, hown, hts⟩ hM cw ⟨blindW, va_recv hK hP hc he, fun U hU hW => ⟨rfl, by rw [hU], by rw [hU]; exact hP, va_K.moved hW.alike hK, hD.weaken (fun _ _ _ _ => trivial)⟩⟩ rfl hn hsize hstack (lv_room hW) hdg hf) hS (fun q _ h => hFc q h) hFc ?_
  intro r u t H1 locs1 ht hvm hw hB hz hk hS1
  obtain ⟨z, rfl, hw⟩ := hw
  obtain ⟨hP1, hK1, hD1⟩ := hB
  rw [ht] at hP1
  exact kk z u H1 locs1 hw hP1 (hD1.weaken (fun _ _ _ h => hFc _ h)) hS1
end RC
end
section
/-! bits of ints that are not negative -/
theorem bz_nat {a : Int} (h : 0 ≤ a) : ∃ n : Nat, a = (n : Int) := Int.eq_ofNat_of_zero_le h
theorem bz_sl : ∀ n, n < 32 → ((nI n &&& 31).toBitVec.smod 32).toNat = n := by decide +kernel
theorem bz_slI {w : Int} (h : 0 ≤ w ∧ w < 32) : ((iI w &&& 31).toBitVec.smod 32).toNat = w.toNat := by
  obtain ⟨n, rfl⟩ := bz_nat h.1
  rw [← iI_nI, bz_sl n (by omega)]
  rfl
theorem bz_and (a b : Nat) : nI a &&& nI b = nI (a &&& b) := by
  apply Int32.toBitVec_inj.1
  show BitVec.ofNat 32 a &&& BitVec.ofNat 32 b = BitVec.ofNat 32 (a &&& b)
  apply BitVec.eq_of_getLsbD_eq
  intro i hi
  simp [hi]
theorem bz_or (a b : Nat) : nI a ||| nI b = nI (a ||| b) := by
  apply Int32.toBitVec_inj.1
  show BitVec.ofNat 32 a ||| BitVec.ofNat 32 b = BitVec.ofNat 32 (a ||| b)
  apply BitVec.eq_of_getLsbD_eq
  intro i hi
  simp [hi]
theorem bz_xor (a b : Nat) : nI a ^^^ nI b = nI (a ^^^ b) := by
  apply Int32.toBitVec_inj.1
  show BitVec.ofNat 32 a ^^^ BitVec.ofNat 32 b = BitVec.ofNat 32 (a ^^^ b)
  apply BitVec.eq_of_getLsbD_eq
  intro i hi
  simp [hi]
theorem iI_xor {a b : Int} (ha : 0 ≤ a) (hb : 0 ≤ b) : iI a ^^^ iI b = iI ((a.toNat ^^^ b.toNat : Nat) : Int) := by
  obtain ⟨n, rfl⟩ := bz_nat ha
  obtain ⟨m, rfl⟩ := bz_nat hb
  rw [← iI_nI, ← iI_nI, bz_xor, iI_nI]
  rfl
theorem iI_and {a b : Int} (ha : 0 ≤ a) (hb : 0 ≤ b) : iI a &&& iI b = iI ((a.toNat &&& b.toNat : Nat) : Int) := by
  obtain ⟨n, rfl⟩ := bz_nat ha
  obtain ⟨m, rfl⟩ := bz_nat hb
  rw [← iI_nI, ← iI_nI, bz_and, iI_nI]
  rfl
/-- a shift to the right by a known number of places -/
theorem sh_r {h : Int} (k : Nat) (s : Int32) (hs : (s.toBitVec.smod 32).toNat = k) (h0 : 0 ≤ h ∧ h < 2147483648) : iI h >>> s = iI (h / 2 ^ k) := by
  obtain ⟨n, rfl⟩ := bz_nat h0.1
  rw [← iI_nI, pk_shrN (by omega) s k hs, iI_nI]
  push_cast
  rfl
theorem sh_rv {h w : Int} (hw : 0 ≤ w ∧ w < 32) (h0 : 0 ≤ h ∧ h < 2147483648) : iI h >>> (iI w &&& 31) = iI (h / 2 ^ w.toNat) := sh_r _ _ (bz_slI hw) h0
theorem sh_l {a : Int} (k : Nat) (s : Int32) (hs : (s.toBitVec.smod 32).toNat = k) (h0 : 0 ≤ a) (h1 : a * 2 ^ k < 2147483648) : iI a <<< s = iI (a * 2 ^ k) := by
  obtain ⟨n, rfl⟩ := bz_nat h0
  have h2 : n * 2 ^ k < 2 ^ 32 := by
    have h3 : ((n * 2 ^ k : Nat) : Int) < 2147483648 := by push_cast; exact h1
    omega
  rw [← iI_nI, pk_shlN s k hs h2, iI_nI]
  push_cast
  rfl
theorem sh_lv {a w : Int} (hw : 0 ≤ w ∧ w < 32) (h0 : 0 ≤ a) (h1 : a * 2 ^ w.toNat < 2147483648) : iI a <<< (iI w &&& 31) = iI (a * 2 ^ w.toNat) := sh_l _ _ (bz_slI hw) h0 h1
theorem sh_and {h : Int} (k : Nat) (m : Int32) (hm : m.toBitVec.toNat = 2 ^ k - 1) (h0 : 0 ≤ h ∧ h < 2147483648) : iI h &&& m = iI (h % 2 ^ k) := by
  obtain ⟨n, rfl⟩ := bz_nat h0.1
  rw [← iI_nI, pk_andN (by omega) k hm, iI_nI]
  push_cast
  rfl
/-- the low bits of any int -/
theorem sh_andx (x : Int32) (k : Nat) (m : Int32) (hm : m.toBitVec.toNat = 2 ^ k - 1) : ∃ z : Int, 0 ≤ z ∧ z < 2 ^ k ∧ x &&& m = iI z := by
  obtain ⟨j, h1, h2⟩ := pk_andE x k hm
  exact ⟨j, by omega, by exact_mod_cast h1, by rw [h2, iI_nI]⟩
theorem iI_or {a b : Int} (k : Nat) (a' : Int) (ha : 0 ≤ a') (e : a = 2 ^ k * a') (hb : 0 ≤ b ∧ b < 2 ^ k) : iI a ||| iI b = iI (a + b) := by
  obtain ⟨n, rfl⟩ := bz_nat ha
  obtain ⟨m, rfl⟩ := bz_nat hb.1
  have hm : m < 2 ^ k := by exact_mod_cast hb.2
  have ea : a = ((2 ^ k * n : Nat) : Int) := by rw [e]; push_cast; rfl
  rw [ea, ← iI_nI, ← iI_nI, bz_or, ← Nat.two_pow_add_eq_or_of_lt hm, iI_nI]
  push_cast
  rfl
/-- bit x of m -/
def tb (m x : Int) : Prop := m.toNat.testBit x.toNat = true
theorem tb_div {m x : Int} (hm : 0 ≤ m) : (m / 2 ^ x.toNat % 2 = 1 ↔ tb m x) ∧ (m / 2 ^ x.toNat % 2 = 0 ↔ ¬ tb m x) := by
  obtain ⟨n, rfl⟩ := bz_nat hm
  unfold tb
  have e : ((n : Int) / 2 ^ x.toNat % 2) = ((n / 2 ^ x.toNat % 2 : Nat) : Int) := by push_cast; rfl
  rw [e, Int.toNat_natCast, Nat.testBit_eq_decide_div_mod_eq, decide_eq_true_iff]
  constructor <;> omega
/-- the bits from lo to lo + w - 1 -/
def strip (w lo : Int) : Int := (2 ^ w.toNat - 1) * 2 ^ lo.toNat
theorem pow_le_of {a b : Nat} (h : a ≤ b) : (2 : Int) ^ a ≤ 2 ^ b := by
  have h1 := Nat.pow_le_pow_right (n := 2) (by omega) h
  exact_mod_cast h1
theorem pow_pos_i (a : Nat) : (1 : Int) ≤ 2 ^ a := by
  have h1 := pow_le_of (Nat.zero_le a)
  simpa using h1
theorem strip_nat (w lo : Int) : strip w lo = (((2 ^ w.toNat - 1) * 2 ^ lo.toNat : Nat) : Int) := by
  have h1 : 1 ≤ 2 ^ w.toNat := Nat.one_le_two_pow
  unfold strip
  push_cast [h1]
  rfl
theorem strip_le {w lo : Int} (h0 : 0 ≤ w) (h1 : 0 ≤ lo) (h2 : w + lo ≤ 16) : 0 ≤ strip w lo ∧ strip w lo < 65536 := by
  have e := strip_nat w lo
  refine ⟨by omega, ?_⟩
  have h3 : (2 ^ w.toNat - 1) * 2 ^ lo.toNat < 2 ^ w.toNat * 2 ^ lo.toNat := by
    have a1 : 1 ≤ 2 ^ w.toNat := Nat.one_le_two_pow
    have a2 : 1 ≤ 2 ^ lo.toNat := Nat.one_le_two_pow
    exact Nat.mul_lt_mul_of_pos_right (by omega) (by omega)
  rw [← Nat.pow_add] at h3
  have h4 : 2 ^ (w.toNat + lo.toNat) ≤ 2 ^ 16 := Nat.pow_le_pow_right (by omega) (by omega)
  have h5 : (2 : Nat) ^ 16 = 65536 := by decide
  omega
theorem strip_tb (w lo x : Int) (h0 : 0 ≤ lo) (h1 : 0 ≤ w) (hx : 0 ≤ x) : tb (strip w lo) x ↔ lo ≤ x ∧ x < lo + w := by
  unfold tb
  rw [strip_nat, Int.toNat_natCast, Nat.testBit_mul_two_pow, Nat.testBit_two_pow_sub_one]
  simp only [Bool.and_eq_true, decide_eq_true_eq]
  omega
theorem tb_xor {a b x : Int} : tb ((a.toNat ^^^ b.toNat : Nat) : Int) x ↔ ¬ (tb a x ↔ tb b x) := by
  unfold tb
  rw [Int.toNat_natCast, Nat.testBit_xor]
  cases a.toNat.testBit x.toNat <;> cases b.toNat.testBit x.toNat <;> simp
theorem xor_lt {a b : Int} (ha : 0 ≤ a ∧ a < 65536) (hb : 0 ≤ b ∧ b < 65536) : ((a.toNat ^^^ b.toNat : Nat) : Int) < 65536 := by
  have h1 := Nat.xor_lt_two_pow (x := a.toNat) (y := b.toNat) (n := 16) (by omega) (by omega)
  have h5 : (2 : Nat) ^ 16 = 65536 := by decide
  omega
/-- all bits of a strip are set -/
theorem and_strip {m w lo : Int} (h0 : 0 ≤ lo) (h1 : 0 ≤ w) : ((m.toNat &&& (strip w lo).toNat : Nat) : Int) = strip w lo ↔ ∀ x, lo ≤ x → x < lo + w → tb m x := by
  have hs0 : 0 ≤ strip w lo := by rw [strip_nat]; omega
  constructor
  · intro h x hx1 hx2
    have h3 : m.toNat &&& (strip w lo).toNat = (strip w lo).toNat := by omega
    have h4 : tb (strip w lo) x := (strip_tb w lo x h0 h1 (by omega)).mpr ⟨hx1, hx2⟩
    unfold tb at h4 ⊢
    rw [← h3, Nat.testBit_and] at h4
    simp only [Bool.and_eq_true] at h4
    exact h4.1
  · intro h
    have h3 : m.toNat &&& (strip w lo).toNat = (strip w lo).toNat := by
      apply Nat.eq_of_testBit_eq
      intro i
      rw [Nat.testBit_and]
      by_cases hs : (strip w lo).toNat.testBit i = true
      · have h4 : tb (strip w lo) (i : Int) := by unfold tb; rw [Int.toNat_natCast]; exact hs
        have h5 := (strip_tb w lo i h0 h1 (by omega)).mp h4
        have h6 := h i h5.1 h5.2
        unfold tb at h6
        rw [Int.toNat_natCast] at h6
        rw [h6, hs]; rfl
      · simp only [Bool.not_eq_true] at hs
        rw [hs, Bool.and_false]
    omega
/-! a rectangle as one number -/
def pk (x y w h : Int) : Int := x * 32768 + y * 1024 + w * 32 + h
def lx (q : Int) : Int := q / 32768
def by_ (q : Int) : Int := q / 1024 % 32
def wd (q : Int) : Int := q / 32 % 32
def hg (q : Int) : Int := q % 32
theorem pk_acc {x y w h : Int} (hx : 0 ≤ x) (hy : 0 ≤ y ∧ y < 32) (hw : 0 ≤ w ∧ w < 32) (hh : 0 ≤ h ∧ h < 32) : lx (pk x y w h) = x ∧ by_ (pk x y w h) = y ∧ wd (pk x y w h) = w ∧ hg (pk x y w h) = h := by
  unfold lx by_ wd hg pk
  omega
theorem pk_of {q : Int} : pk (lx q) (by_ q) (wd q) (hg q) = q := by
  unfold lx by_ wd hg pk
  omega
theorem acc_rng {q : Int} (h : 0 ≤ q ∧ q < 1048576) : (0 ≤ lx q ∧ lx q < 32) ∧ (0 ≤ by_ q ∧ by_ q < 32) ∧ (0 ≤ wd q ∧ wd q < 32) ∧ (0 ≤ hg q ∧ hg q < 32) := by
  unfold lx by_ wd hg
  omega
theorem pk_rng {x y w h : Int} (hx : 0 ≤ x ∧ x < 32) (hy : 0 ≤ y ∧ y < 32) (hw : 0 ≤ w ∧ w < 32) (hh : 0 ≤ h ∧ h < 32) : 0 ≤ pk x y w h ∧ pk x y w h < 1048576 := by
  unfold pk
  omega
end
section
/-! AtlasPacker: the leaves -/
set_option maxHeartbeats 4000000 in
set_option maxRecDepth 100000 in
/-- pack -/
theorem mx1_pack (l : Launch) {D : va_G} {ad : Nat → Nat} {dB dN : ClassId} {Cw Rw n hc cn : Int} {Lf Bt Wd Hg FB HO CA SS SH : Int → Int} (x y w h : Int) (hh : (0 ≤ x ∧ x < 32) ∧ (0 ≤ y ∧ y < 32) ∧ (0 ≤ w ∧ w < 32) ∧ (0 ≤ h ∧ h < 32)) : MetR l yX1_pack cX1_pack 5 .int 0 0 [.ref (ad 0), .int (iI x), .int (iI y), .int (iI w), .int (iI h)] D (XW ad dB dN Cw Rw n hc cn Lf Bt Wd Hg FB HO CA SS SH) (tX dB dN) (fun z => z = pk x y w h) := by
  refine ri_met RX1 rfl (by decide) (Nat.le_of_ble_eq_true rfl) ?_
  intro p e s m below meth c hx hb hr hts hown hlocks hml hnm hv ls hl
  obtain ⟨hP, hK⟩ := hv
  have hl : lv_has ls 5 [(0, .ref (ad 0)), (1, .int (iI x)), (2, .int (iI y)), (3, .int (iI w)), (4, .int (iI h))] := hl
  refine lv_iload_n hx hb dX1_pack_0 rfl (lv_at hl 1 rfl) ?_
  refine ri_bipush hx hb dX1_pack_1 (by decide +kernel) ?_
  refine lv_ishl hx hb dX1_pack_3 ?_
  refine ri_top (a := x * 2 ^ 15) (sh_l 15 _ (by decide +kernel) (by omega) (by omega)) ?_
  refine lv_iload_n hx hb dX1_pack_4 rfl (lv_at hl 2 rfl) ?_
  refine ri_bipush hx hb dX1_pack_5 (by decide +kernel) ?_
  refine lv_ishl hx hb dX1_pack_7 ?_
  refine ri_top (a := y * 2 ^ 10) (sh_l 10 _ (by decide +kernel) (by omega) (by omega)) ?_
  refine lv_ior hx hb dX1_pack_8 ?_
  refine ri_top (a := x * 2 ^ 15 + y * 2 ^ 10) (iI_or 15 x (by omega) (by omega) (by omega)) ?_
  refine lv_iload_n hx hb dX1_pack_9 rfl (lv_at hl 3 rfl) ?_
  refine ri_iconst hx hb dX1_pack_10 ?_
  refine lv_ishl hx hb dX1_pack_11 ?_
  refine ri_top (a := w * 2 ^ 5) (sh_l 5 _ (by decide +kernel) (by omega) (by omega)) ?_
  refine lv_ior hx hb dX1_pack_12 ?_
  refine ri_top (a := x * 2 ^ 15 + y * 2 ^ 10 + w * 2 ^ 5) (iI_or 10 (x * 32 + y) (by omega) (by omega) (by omega)) ?_
  refine lv_iload hx hb dX1_pack_13 (lv_at hl 4 rfl) ?_
  refine lv_ior hx hb dX1_pack_15 ?_
  refine ri_top (a := x * 2 ^ 15 + y * 2 ^ 10 + w * 2 ^ 5 + h) (iI_or 5 (x * 1024 + y * 32 + w) (by omega) (by omega) (by omega)) ?_
  exact ri_ret hx hb hr hlocks (by unfold pk; omega) dX1_pack_16
set_option maxHeartbeats 4000000 in
set_option maxRecDepth 100000 in
theorem mx1_leftOf (l : Launch) {D : va_G} {ad : Nat → Nat} {dB dN : ClassId} {Cw Rw n hc cn : Int} {Lf Bt Wd Hg FB HO CA SS SH : Int → Int} (h : Int) (hh : 0 ≤ h ∧ h < 1048576) : MetR l yX1_leftOf cX1_leftOf 2 .int 0 0 [.ref (ad 0), .int (iI h)] D (XW ad dB dN Cw Rw n hc cn Lf Bt Wd Hg FB HO CA SS SH) (tX dB dN) (fun z => z = lx h) := by
  refine ri_met RX1 rfl (by decide) (Nat.le_of_ble_eq_true rfl) ?_
  intro p e s m below meth c hx hb hr hts hown hlocks hml hnm hv ls hl
  obtain ⟨hP, hK⟩ := hv
  have hl : lv_has ls 2 [(0, .ref (ad 0)), (1, .int (iI h))] := hl
  refine lv_iload_n hx hb dX1_leftOf_0 rfl (lv_at hl 1 rfl) ?_
  refine ri_bipush hx hb dX1_leftOf_1 (by decide +kernel) ?_
  refine lv_ishr hx hb dX1_leftOf_3 ?_
  refine ri_top (a := lx h) (sh_r 15 _ (by decide +kernel) (by omega)) ?_
  exact ri_ret hx hb hr hlocks (rfl) dX1_leftOf_4
set_option maxHeartbeats 4000000 in
set_option maxRecDepth 100000 in
theorem mx1_bottomOf (l : Launch) {D : va_G} {ad : Nat → Nat} {dB dN : ClassId} {Cw Rw n hc cn : Int} {Lf Bt Wd Hg FB HO CA SS SH : Int → Int} (h : Int) (hh : 0 ≤ h ∧ h < 1048576) : MetR l yX1_bottomOf cX1_bottomOf 2 .int 0 0 [.ref (ad 0), .int (iI h)] D (XW ad dB dN Cw Rw n hc cn Lf Bt Wd Hg FB HO CA SS SH) (tX dB dN) (fun z => z = by_ h) := by
  refine ri_met RX1 rfl (by decide) (Nat.le_of_ble_eq_true rfl) ?_
  intro p e s m below meth c hx hb hr hts hown hlocks hml hnm hv ls hl
  obtain ⟨hP, hK⟩ := hv
  have hl : lv_has ls 2 [(0, .ref (ad 0)), (1, .int (iI h))] := hl
  refine lv_iload_n hx hb dX1_bottomOf_0 rfl (lv_at hl 1 rfl) ?_
  refine ri_bipush hx hb dX1_bottomOf_1 (by decide +kernel) ?_
  refine lv_ishr hx hb dX1_bottomOf_3 ?_
  refine ri_top (a := h / 1024) (sh_r 10 _ (by decide +kernel) (by omega)) ?_
  refine ri_bipush hx hb dX1_bottomOf_4 (by decide +kernel) ?_
  refine lv_iand hx hb dX1_bottomOf_6 ?_
  refine ri_top (a := by_ h) (sh_and 5 _ (by decide +kernel) (by omega)) ?_
  exact ri_ret hx hb hr hlocks (rfl) dX1_bottomOf_7
set_option maxHeartbeats 4000000 in
set_option maxRecDepth 100000 in
theorem mx1_wideOf (l : Launch) {D : va_G} {ad : Nat → Nat} {dB dN : ClassId} {Cw Rw n hc cn : Int} {Lf Bt Wd Hg FB HO CA SS SH : Int → Int} (h : Int) (hh : 0 ≤ h ∧ h < 1048576) : MetR l yX1_wideOf cX1_wideOf 2 .int 0 0 [.ref (ad 0), .int (iI h)] D (XW ad dB dN Cw Rw n hc cn Lf Bt Wd Hg FB HO CA SS SH) (tX dB dN) (fun z => z = wd h) := by
  refine ri_met RX1 rfl (by decide) (Nat.le_of_ble_eq_true rfl) ?_
  intro p e s m below meth c hx hb hr hts hown hlocks hml hnm hv ls hl
  obtain ⟨hP, hK⟩ := hv
  have hl : lv_has ls 2 [(0, .ref (ad 0)), (1, .int (iI h))] := hl
  refine lv_iload_n hx hb dX1_wideOf_0 rfl (lv_at hl 1 rfl) ?_
  refine ri_iconst hx hb dX1_wideOf_1 ?_
  refine lv_ishr hx hb dX1_wideOf_2 ?_
  refine ri_top (a := h / 32) (sh_r 5 _ (by decide +kernel) (by omega)) ?_
  refine ri_bipush hx hb dX1_wideOf_3 (by decide +kernel) ?_
  refine lv_iand hx hb dX1_wideOf_5 ?_
  refine ri_top (a := wd h) (sh_and 5 _ (by decide +kernel) (by omega)) ?_
  exact ri_ret hx hb hr hlocks (rfl) dX1_wideOf_6
set_option maxHeartbeats 4000000 in
set_option maxRecDepth 100000 in
theorem mx1_highOf (l : Launch) {D : va_G} {ad : Nat → Nat} {dB dN : ClassId} {Cw Rw n hc cn : Int} {Lf Bt Wd Hg FB HO CA SS SH : Int → Int} (h : Int) (hh : 0 ≤ h ∧ h < 1048576) : MetR l yX1_highOf cX1_highOf 2 .int 0 0 [.ref (ad 0), .int (iI h)] D (XW ad dB dN Cw Rw n hc cn Lf Bt Wd Hg FB HO CA SS SH) (tX dB dN) (fun z => z = hg h) := by
  refine ri_met RX1 rfl (by decide) (Nat.le_of_ble_eq_true rfl) ?_
  intro p e s m below meth c hx hb hr hts hown hlocks hml hnm hv ls hl
  obtain ⟨hP, hK⟩ := hv
  have hl : lv_has ls 2 [(0, .ref (ad 0)), (1, .int (iI h))] := hl
  refine lv_iload_n hx hb dX1_highOf_0 rfl (lv_at hl 1 rfl) ?_
  refine ri_bipush hx hb dX1_highOf_1 (by decide +kernel) ?_
  refine lv_iand hx hb dX1_highOf_3 ?_
  refine ri_top (a := hg h) (sh_and 5 _ (by decide +kernel) (by omega)) ?_
  exact ri_ret hx hb hr hlocks (rfl) dX1_highOf_4
set_option maxHeartbeats 4000000 in
set_option maxRecDepth 100000 in
theorem mx1_isSize (l : Launch) {D : va_G} {ad : Nat → Nat} {dB dN : ClassId} {Cw Rw n hc cn : Int} {Lf Bt Wd Hg FB HO CA SS SH : Int → Int} (w h : Int) (hw : -2147483648 ≤ w ∧ w < 2147483648) (hh : -2147483648 ≤ h ∧ h < 2147483648) : MetR l yX1_isSize cX1_isSize 3 .boolean 0 0 [.ref (ad 0), .int (iI w), .int (iI h)] D (XW ad dB dN Cw Rw n hc cn Lf Bt Wd Hg FB HO CA SS SH) (tX dB dN) (fun z => (z = 1 ∧ 1 ≤ w ∧ w ≤ 16 ∧ 1 ≤ h ∧ h ≤ 16) ∨ (z = 0 ∧ ¬ (1 ≤ w ∧ w ≤ 16 ∧ 1 ≤ h ∧ h ≤ 16))) := by
  refine ri_met RX1 rfl (by decide) (Nat.le_of_ble_eq_true rfl) ?_
  intro p e s m below meth c hx hb hr hts hown hlocks hml hnm hv ls hl
  obtain ⟨hP, hK⟩ := hv
  have hl : lv_has ls 3 [(0, .ref (ad 0)), (1, .int (iI w)), (2, .int (iI h))] := hl
  refine lv_iload_n hx hb dX1_isSize_0 rfl (lv_at hl 1 rfl) ?_
  refine ri_iconst hx hb dX1_isSize_1 ?_
  refine ri_icmp_lt (tgt := 26) hx hb dX1_isSize_2 (by decide) (by omega) (by omega) (fun c2 => ?_) (fun c2 => ?_)
  · refine ri_iconst hx hb dX1_isSize_26 ?_
    exact ri_zret hx hb hr hlocks (by omega) (by omega) dX1_isSize_27
  · refine lv_iload_n hx hb dX1_isSize_5 rfl (lv_at hl 1 rfl) ?_
    refine ri_bipush hx hb dX1_isSize_6 (by decide +kernel) ?_
    refine ri_icmp_gt (tgt := 26) hx hb dX1_isSize_8 (by decide) (by omega) (by omega) (fun c8 => ?_) (fun c8 => ?_)
    · refine ri_iconst hx hb dX1_isSize_26 ?_
      exact ri_zret hx hb hr hlocks (by omega) (by omega) dX1_isSize_27
    · refine lv_iload_n hx hb dX1_isSize_11 rfl (lv_at hl 2 rfl) ?_
      refine ri_iconst hx hb dX1_isSize_12 ?_
      refine ri_icmp_lt (tgt := 26) hx hb dX1_isSize_13 (by decide) (by omega) (by omega) (fun c13 => ?_) (fun c13 => ?_)
      · refine ri_iconst hx hb dX1_isSize_26 ?_
        exact ri_zret hx hb hr hlocks (by omega) (by omega) dX1_isSize_27
      · refine lv_iload_n hx hb dX1_isSize_16 rfl (lv_at hl 2 rfl) ?_
        refine ri_bipush hx hb dX1_isSize_17 (by decide +kernel) ?_
        refine ri_icmp_gt (tgt := 26) hx hb dX1_isSize_19 (by decide) (by omega) (by omega) (fun c19 => ?_) (fun c19 => ?_)
        · refine ri_iconst hx hb dX1_isSize_26 ?_
          exact ri_zret hx hb hr hlocks (by omega) (by omega) dX1_isSize_27
        · refine ri_iconst hx hb dX1_isSize_22 ?_
          refine lv_goto (tgt := 27) hx hb dX1_isSize_23 (by decide) ?_
          exact ri_zret hx hb hr hlocks (by omega) (by omega) dX1_isSize_27
set_option maxHeartbeats 4000000 in
set_option maxRecDepth 100000 in
theorem mx1_isUsed (l : Launch) {D : va_G} {ad : Nat → Nat} {dB dN : ClassId} {Cw Rw n hc cn : Int} {Lf Bt Wd Hg FB HO CA SS SH : Int → Int} (i : Int) (hi : -2147483648 ≤ i ∧ i < 2147483648) (hw : ∀ k, 0 ≤ k → k < 20 → 0 ≤ Wd k ∧ Wd k < 128) : MetR l yX1_isUsed cX1_isUsed 2 .boolean 0 0 [.ref (ad 0), .int (iI i)] D (XW ad dB dN Cw Rw n hc cn Lf Bt Wd Hg FB HO CA SS SH) (tX dB dN) (fun z => (z = 1 ∧ 0 ≤ i ∧ i < 20 ∧ Wd i ≠ 0) ∨ (z = 0 ∧ ¬ (0 ≤ i ∧ i < 20 ∧ Wd i ≠ 0))) := by
  refine ri_met RX1 rfl (by decide) (Nat.le_of_ble_eq_true rfl) ?_
  intro p e s m below meth c hx hb hr hts hown hlocks hml hnm hv ls hl
  obtain ⟨hP, hK⟩ := hv
  have hl : lv_has ls 2 [(0, .ref (ad 0)), (1, .int (iI i))] := hl
  refine lv_iload_n hx hb dX1_isUsed_0 rfl (lv_at hl 1 rfl) ?_
  refine ri_if_lt (tgt := 23) hx hb dX1_isUsed_1 (by decide) (by omega) (fun c1 => ?_) (fun c1 => ?_)
  · refine ri_iconst hx hb dX1_isUsed_23 ?_
    exact ri_zret hx hb hr hlocks (by omega) (by omega) dX1_isUsed_24
  · refine lv_iload_n hx hb dX1_isUsed_4 rfl (lv_at hl 1 rfl) ?_
    refine ri_bipush hx hb dX1_isUsed_5 (by decide +kernel) ?_
    refine ri_icmp_ge (tgt := 23) hx hb dX1_isUsed_7 (by decide) (by omega) (by omega) (fun c7 => ?_) (fun c7 => ?_)
    · refine ri_iconst hx hb dX1_isUsed_23 ?_
      exact ri_zret hx hb hr hlocks (by omega) (by omega) dX1_isUsed_24
    · have hwi := hw i (by omega) (by omega)
      refine lv_aload_n hx hb dX1_isUsed_10 rfl (lv_at hl 0 rfl) ?_
      refine gx_Wd hx hb hts hown hK hP dX1_isUsed_11 ?_
      refine lv_iload_n hx hb dX1_isUsed_14 rfl (lv_at hl 1 rfl) ?_
      refine ri_bald hx hb hK hP 3 0 rfl rfl (by omega) (by decide) dX1_isUsed_15 ?_
      refine ri_if_eq (tgt := 23) hx hb dX1_isUsed_16 (by decide) (by omega) (fun c16 => ?_) (fun c16 => ?_)
      · refine ri_iconst hx hb dX1_isUsed_23 ?_
        exact ri_zret hx hb hr hlocks (by omega) (by omega) dX1_isUsed_24
      · refine ri_iconst hx hb dX1_isUsed_19 ?_
        refine lv_goto (tgt := 24) hx hb dX1_isUsed_20 (by decide) ?_
        exact ri_zret hx hb hr hlocks (by omega) (by omega) dX1_isUsed_24
set_option maxHeartbeats 4000000 in
set_option maxRecDepth 100000 in
theorem mx1_inside (l : Launch) {D : va_G} {ad : Nat → Nat} {dB dN : ClassId} {Cw Rw n hc cn : Int} {Lf Bt Wd Hg FB HO CA SS SH : Int → Int} (a b : Int) (ha : 0 ≤ a ∧ a < 1048576) (hb' : 0 ≤ b ∧ b < 1048576) : MetR l yX1_inside cX1_inside 3 .boolean 1 21 [.ref (ad 0), .int (iI a), .int (iI b)] D (XW ad dB dN Cw Rw n hc cn Lf Bt Wd Hg FB HO CA SS SH) (tX dB dN) (fun z => (z = 1 ∧ (lx b ≤ lx a ∧ by_ b ≤ by_ a ∧ lx a + wd a ≤ lx b + wd b ∧ by_ a + hg a ≤ by_ b + hg b)) ∨ (z = 0 ∧ ¬ (lx b ≤ lx a ∧ by_ b ≤ by_ a ∧ lx a + wd a ≤ lx b + wd b ∧ by_ a + hg a ≤ by_ b + hg b))) := by
  refine ri_met RX1 rfl (by decide) (Nat.le_of_ble_eq_true rfl) ?_
  intro p e s m below meth c hx hb hr hts hown hlocks hml hnm hv ls hl
  obtain ⟨hP, hK⟩ := hv
  have hl : lv_has ls 3 [(0, .ref (ad 0)), (1, .int (iI a)), (2, .int (iI b))] := hl
  obtain ⟨a1, a2, a3, a4⟩ := acc_rng ha
  obtain ⟨b1, b2, b3, b4⟩ := acc_rng hb'
  refine lv_aload_n hx hb dX1_inside_0 rfl (lv_at hl 0 rfl) ?_
  refine lv_iload_n hx hb dX1_inside_1 rfl (lv_at hl 1 rfl) ?_
  refine ri_callR (rest := []) (ci := 0) (q0 := 0) (mx1_leftOf l a (by omega)) hx hb hml hown hts (cwV 1 hts (lw_V q118 q120 qs6 q31 q121) rfl rfl rfl (by decide +kernel) ⟨Nat.le_of_ble_eq_true rfl, Nat.le_of_ble_eq_true rfl⟩) hK hP rfl rfl rfl hl.1 rfl (Nat.le_of_ble_eq_true rfl) dX1_inside_2 ⟨Nat.zero_le _, Nat.zero_le _⟩ (fun z1 hz1 => ?_)
  subst hz1
  refine lv_aload_n hx hb dX1_inside_5 rfl (lv_at hl 0 rfl) ?_
  refine lv_iload_n hx hb dX1_inside_6 rfl (lv_at hl 2 rfl) ?_
  refine ri_callR (rest := [.int (iI (lx a))]) (ci := 0) (q0 := 0) (mx1_leftOf l b (by omega)) hx hb hml hown hts (cwV 1 hts (lw_V q118 q120 qs6 q31 q121) rfl rfl rfl (by decide +kernel) ⟨Nat.le_of_ble_eq_true rfl, Nat.le_of_ble_eq_true rfl⟩) hK hP rfl rfl rfl hl.1 rfl (Nat.le_of_ble_eq_true rfl) dX1_inside_7 ⟨Nat.zero_le _, Nat.zero_le _⟩ (fun z2 hz2 => ?_)
  subst hz2
  refine ri_icmp_lt (tgt := 26) hx hb dX1_inside_10 (by decide) (by omega) (by omega) (fun c10 => ?_) (fun c10 => ?_)
  · refine ri_iconst hx hb dX1_inside_26 ?_
    exact ri_zret hx hb hr hlocks (by omega) (by omega) dX1_inside_27
  · refine lv_aload_n hx hb dX1_inside_13 rfl (lv_at hl 0 rfl) ?_
    refine lv_iload_n hx hb dX1_inside_14 rfl (lv_at hl 1 rfl) ?_
    refine ri_callR (rest := []) (ci := 0) (q0 := 0) (mx1_bottomOf l a (by omega)) hx hb hml hown hts (cwV 1 hts (lw_V q114 q116 qs5 q31 q117) rfl rfl rfl (by decide +kernel) ⟨Nat.le_of_ble_eq_true rfl, Nat.le_of_ble_eq_true rfl⟩) hK hP rfl rfl rfl hl.1 rfl (Nat.le_of_ble_eq_true rfl) dX1_inside_15 ⟨Nat.zero_le _, Nat.zero_le _⟩ (fun z3 hz3 => ?_)
    subst hz3
    refine lv_aload_n hx hb dX1_inside_18 rfl (lv_at hl 0 rfl) ?_
    refine lv_iload_n hx hb dX1_inside_19 rfl (lv_at hl 2 rfl) ?_
    refine ri_callR (rest := [.int (iI (by_ a))]) (ci := 0) (q0 := 0) (mx1_bottomOf l b (by omega)) hx hb hml hown hts (cwV 1 hts (lw_V q114 q116 qs5 q31 q117) rfl rfl rfl (by decide +kernel) ⟨Nat.le_of_ble_eq_true rfl, Nat.le_of_ble_eq_true rfl⟩) hK hP rfl rfl rfl hl.1 rfl (Nat.le_of_ble_eq_true rfl) dX1_inside_20 ⟨Nat.zero_le _, Nat.zero_le _⟩ (fun z4 hz4 => ?_)
    subst hz4
    refine ri_icmp_ge (tgt := 28) hx hb dX1_inside_23 (by decide) (by omega) (by omega) (fun c23 => ?_) (fun c23 => ?_)
    · refine lv_aload_n hx hb dX1_inside_28 rfl (lv_at hl 0 rfl) ?_
      refine lv_iload_n hx hb dX1_inside_29 rfl (lv_at hl 1 rfl) ?_
      refine ri_callR (rest := []) (ci := 0) (q0 := 0) (mx1_leftOf l a (by omega)) hx hb hml hown hts (cwV 1 hts (lw_V q118 q120 qs6 q31 q121) rfl rfl rfl (by decide +kernel) ⟨Nat.le_of_ble_eq_true rfl, Nat.le_of_ble_eq_true rfl⟩) hK hP rfl rfl rfl hl.1 rfl (Nat.le_of_ble_eq_true rfl) dX1_inside_30 ⟨Nat.zero_le _, Nat.zero_le _⟩ (fun z5 hz5 => ?_)
      subst hz5
      refine lv_aload_n hx hb dX1_inside_33 rfl (lv_at hl 0 rfl) ?_
      refine lv_iload_n hx hb dX1_inside_34 rfl (lv_at hl 1 rfl) ?_
      refine ri_callR (rest := [.int (iI (lx a))]) (ci := 0) (q0 := 0) (mx1_wideOf l a (by omega)) hx hb hml hown hts (cwV 1 hts (lw_V q106 q108 qs3 q31 q109) rfl rfl rfl (by decide +kernel) ⟨Nat.le_of_ble_eq_true rfl, Nat.le_of_ble_eq_true rfl⟩) hK hP rfl rfl rfl hl.1 rfl (Nat.le_of_ble_eq_true rfl) dX1_inside_35 ⟨Nat.zero_le _, Nat.zero_le _⟩ (fun z6 hz6 => ?_)
      subst hz6
      refine ri_iadd hx hb dX1_inside_38 ?_
      refine lv_aload_n hx hb dX1_inside_39 rfl (lv_at hl 0 rfl) ?_
      refine lv_iload_n hx hb dX1_inside_40 rfl (lv_at hl 2 rfl) ?_
      refine ri_callR (rest := [.int (iI ((lx a) + (wd a)))]) (ci := 0) (q0 := 0) (mx1_leftOf l b (by omega)) hx hb hml hown hts (cwV 1 hts (lw_V q118 q120 qs6 q31 q121) rfl rfl rfl (by decide +kernel) ⟨Nat.le_of_ble_eq_true rfl, Nat.le_of_ble_eq_true rfl⟩) hK hP rfl rfl rfl hl.1 rfl (Nat.le_of_ble_eq_true rfl) dX1_inside_41 ⟨Nat.zero_le _, Nat.zero_le _⟩ (fun z7 hz7 => ?_)
      subst hz7
      refine lv_aload_n hx hb dX1_inside_44 rfl (lv_at hl 0 rfl) ?_
      refine lv_iload_n hx hb dX1_inside_45 rfl (lv_at hl 2 rfl) ?_
      refine ri_callR (rest := [.int (iI (lx b)), .int (iI ((lx a) + (wd a)))]) (ci := 0) (q0 := 0) (mx1_wideOf l b (by omega)) hx hb hml hown hts (cwV 1 hts (lw_V q106 q108 qs3 q31 q109) rfl rfl rfl (by decide +kernel) ⟨Nat.le_of_ble_eq_true rfl, Nat.le_of_ble_eq_true rfl⟩) hK hP rfl rfl rfl hl.1 rfl (Nat.le_of_ble_eq_true rfl) dX1_inside_46 ⟨Nat.zero_le _, Nat.zero_le _⟩ (fun z8 hz8 => ?_)
      subst hz8
      refine ri_iadd hx hb dX1_inside_49 ?_
      refine ri_icmp_le (tgt := 55) hx hb dX1_inside_50 (by decide) (by omega) (by omega) (fun c50 => ?_) (fun c50 => ?_)
      · refine lv_aload_n hx hb dX1_inside_55 rfl (lv_at hl 0 rfl) ?_
        refine lv_iload_n hx hb dX1_inside_56 rfl (lv_at hl 1 rfl) ?_
        refine ri_callR (rest := []) (ci := 0) (q0 := 0) (mx1_bottomOf l a (by omega)) hx hb hml hown hts (cwV 1 hts (lw_V q114 q116 qs5 q31 q117) rfl rfl rfl (by decide +kernel) ⟨Nat.le_of_ble_eq_true rfl, Nat.le_of_ble_eq_true rfl⟩) hK hP rfl rfl rfl hl.1 rfl (Nat.le_of_ble_eq_true rfl) dX1_inside_57 ⟨Nat.zero_le _, Nat.zero_le _⟩ (fun z9 hz9 => ?_)
        subst hz9
        refine lv_aload_n hx hb dX1_inside_60 rfl (lv_at hl 0 rfl) ?_
        refine lv_iload_n hx hb dX1_inside_61 rfl (lv_at hl 1 rfl) ?_
        refine ri_callR (rest := [.int (iI (by_ a))]) (ci := 0) (q0 := 0) (mx1_highOf l a (by omega)) hx hb hml hown hts (cwV 1 hts (lw_V q110 q112 qs4 q31 q113) rfl rfl rfl (by decide +kernel) ⟨Nat.le_of_ble_eq_true rfl, Nat.le_of_ble_eq_true rfl⟩) hK hP rfl rfl rfl hl.1 rfl (Nat.le_of_ble_eq_true rfl) dX1_inside_62 ⟨Nat.zero_le _, Nat.zero_le _⟩ (fun z10 hz10 => ?_)
        subst hz10
        refine ri_iadd hx hb dX1_inside_65 ?_
        refine lv_aload_n hx hb dX1_inside_66 rfl (lv_at hl 0 rfl) ?_
        refine lv_iload_n hx hb dX1_inside_67 rfl (lv_at hl 2 rfl) ?_
        refine ri_callR (rest := [.int (iI ((by_ a) + (hg a)))]) (ci := 0) (q0 := 0) (mx1_bottomOf l b (by omega)) hx hb hml hown hts (cwV 1 hts (lw_V q114 q116 qs5 q31 q117) rfl rfl rfl (by decide +kernel) ⟨Nat.le_of_ble_eq_true rfl, Nat.le_of_ble_eq_true rfl⟩) hK hP rfl rfl rfl hl.1 rfl (Nat.le_of_ble_eq_true rfl) dX1_inside_68 ⟨Nat.zero_le _, Nat.zero_le _⟩ (fun z11 hz11 => ?_)
        subst hz11
        refine lv_aload_n hx hb dX1_inside_71 rfl (lv_at hl 0 rfl) ?_
        refine lv_iload_n hx hb dX1_inside_72 rfl (lv_at hl 2 rfl) ?_
        refine ri_callR (rest := [.int (iI (by_ b)), .int (iI ((by_ a) + (hg a)))]) (ci := 0) (q0 := 0) (mx1_highOf l b (by omega)) hx hb hml hown hts (cwV 1 hts (lw_V q110 q112 qs4 q31 q113) rfl rfl rfl (by decide +kernel) ⟨Nat.le_of_ble_eq_true rfl, Nat.le_of_ble_eq_true rfl⟩) hK hP rfl rfl rfl hl.1 rfl (Nat.le_of_ble_eq_true rfl) dX1_inside_73 ⟨Nat.zero_le _, Nat.zero_le _⟩ (fun z12 hz12 => ?_)
        subst hz12
        refine ri_iadd hx hb dX1_inside_76 ?_
        refine ri_icmp_gt (tgt := 84) hx hb dX1_inside_77 (by decide) (by omega) (by omega) (fun c77 => ?_) (fun c77 => ?_)
        · refine ri_iconst hx hb dX1_inside_84 ?_
          exact ri_zret hx hb hr hlocks (by omega) (by omega) dX1_inside_85
        · refine ri_iconst hx hb dX1_inside_80 ?_
          refine lv_goto (tgt := 85) hx hb dX1_inside_81 (by decide) ?_
          exact ri_zret hx hb hr hlocks (by omega) (by omega) dX1_inside_85
      · refine ri_iconst hx hb dX1_inside_53 ?_
        exact ri_zret hx hb hr hlocks (by omega) (by omega) dX1_inside_54
    · refine ri_iconst hx hb dX1_inside_26 ?_
      exact ri_zret hx hb hr hlocks (by omega) (by omega) dX1_inside_27
set_option maxHeartbeats 4000000 in
set_option maxRecDepth 100000 in
theorem mx1_meets (l : Launch) {D : va_G} {ad : Nat → Nat} {dB dN : ClassId} {Cw Rw n hc cn : Int} {Lf Bt Wd Hg FB HO CA SS SH : Int → Int} (a b : Int) (ha : 0 ≤ a ∧ a < 1048576) (hb' : 0 ≤ b ∧ b < 1048576) : MetR l yX1_meets cX1_meets 3 .boolean 1 21 [.ref (ad 0), .int (iI a), .int (iI b)] D (XW ad dB dN Cw Rw n hc cn Lf Bt Wd Hg FB HO CA SS SH) (tX dB dN) (fun z => (z = 1 ∧ (lx a < lx b + wd b ∧ lx b < lx a + wd a ∧ by_ a < by_ b + hg b ∧ by_ b < by_ a + hg a)) ∨ (z = 0 ∧ ¬ (lx a < lx b + wd b ∧ lx b < lx a + wd a ∧ by_ a < by_ b + hg b ∧ by_ b < by_ a + hg a))) := by
  refine ri_met RX1 rfl (by decide) (Nat.le_of_ble_eq_true rfl) ?_
  intro p e s m below meth c hx hb hr hts hown hlocks hml hnm hv ls hl
  obtain ⟨hP, hK⟩ := hv
  have hl : lv_has ls 3 [(0, .ref (ad 0)), (1, .int (iI a)), (2, .int (iI b))] := hl
  obtain ⟨a1, a2, a3, a4⟩ := acc_rng ha
  obtain ⟨b1, b2, b3, b4⟩ := acc_rng hb'
  refine lv_aload_n hx hb dX1_meets_0 rfl (lv_at hl 0 rfl) ?_
  refine lv_iload_n hx hb dX1_meets_1 rfl (lv_at hl 1 rfl) ?_
  refine ri_callR (rest := []) (ci := 0) (q0 := 0) (mx1_leftOf l a (by omega)) hx hb hml hown hts (cwV 1 hts (lw_V q118 q120 qs6 q31 q121) rfl rfl rfl (by decide +kernel) ⟨Nat.le_of_ble_eq_true rfl, Nat.le_of_ble_eq_true rfl⟩) hK hP rfl rfl rfl hl.1 rfl (Nat.le_of_ble_eq_true rfl) dX1_meets_2 ⟨Nat.zero_le _, Nat.zero_le _⟩ (fun z13 hz13 => ?_)
  subst hz13
  refine lv_aload_n hx hb dX1_meets_5 rfl (lv_at hl 0 rfl) ?_
  refine lv_iload_n hx hb dX1_meets_6 rfl (lv_at hl 2 rfl) ?_
  refine ri_callR (rest := [.int (iI (lx a))]) (ci := 0) (q0 := 0) (mx1_leftOf l b (by omega)) hx hb hml hown hts (cwV 1 hts (lw_V q118 q120 qs6 q31 q121) rfl rfl rfl (by decide +kernel) ⟨Nat.le_of_ble_eq_true rfl, Nat.le_of_ble_eq_true rfl⟩) hK hP rfl rfl rfl hl.1 rfl (Nat.le_of_ble_eq_true rfl) dX1_meets_7 ⟨Nat.zero_le _, Nat.zero_le _⟩ (fun z14 hz14 => ?_)
  subst hz14
  refine lv_aload_n hx hb dX1_meets_10 rfl (lv_at hl 0 rfl) ?_
  refine lv_iload_n hx hb dX1_meets_11 rfl (lv_at hl 2 rfl) ?_
  refine ri_callR (rest := [.int (iI (lx b)), .int (iI (lx a))]) (ci := 0) (q0 := 0) (mx1_wideOf l b (by omega)) hx hb hml hown hts (cwV 1 hts (lw_V q106 q108 qs3 q31 q109) rfl rfl rfl (by decide +kernel) ⟨Nat.le_of_ble_eq_true rfl, Nat.le_of_ble_eq_true rfl⟩) hK hP rfl rfl rfl hl.1 rfl (Nat.le_of_ble_eq_true rfl) dX1_meets_12 ⟨Nat.zero_le _, Nat.zero_le _⟩ (fun z15 hz15 => ?_)
  subst hz15
  refine ri_iadd hx hb dX1_meets_15 ?_
  refine ri_icmp_ge (tgt := 38) hx hb dX1_meets_16 (by decide) (by omega) (by omega) (fun c16 => ?_) (fun c16 => ?_)
  · refine ri_iconst hx hb dX1_meets_38 ?_
    exact ri_zret hx hb hr hlocks (by omega) (by omega) dX1_meets_39
  · refine lv_aload_n hx hb dX1_meets_19 rfl (lv_at hl 0 rfl) ?_
    refine lv_iload_n hx hb dX1_meets_20 rfl (lv_at hl 2 rfl) ?_
    refine ri_callR (rest := []) (ci := 0) (q0 := 0) (mx1_leftOf l b (by omega)) hx hb hml hown hts (cwV 1 hts (lw_V q118 q120 qs6 q31 q121) rfl rfl rfl (by decide +kernel) ⟨Nat.le_of_ble_eq_true rfl, Nat.le_of_ble_eq_true rfl⟩) hK hP rfl rfl rfl hl.1 rfl (Nat.le_of_ble_eq_true rfl) dX1_meets_21 ⟨Nat.zero_le _, Nat.zero_le _⟩ (fun z16 hz16 => ?_)
    subst hz16
    refine lv_aload_n hx hb dX1_meets_24 rfl (lv_at hl 0 rfl) ?_
    refine lv_iload_n hx hb dX1_meets_25 rfl (lv_at hl 1 rfl) ?_
    refine ri_callR (rest := [.int (iI (lx b))]) (ci := 0) (q0 := 0) (mx1_leftOf l a (by omega)) hx hb hml hown hts (cwV 1 hts (lw_V q118 q120 qs6 q31 q121) rfl rfl rfl (by decide +kernel) ⟨Nat.le_of_ble_eq_true rfl, Nat.le_of_ble_eq_true rfl⟩) hK hP rfl rfl rfl hl.1 rfl (Nat.le_of_ble_eq_true rfl) dX1_meets_26 ⟨Nat.zero_le _, Nat.zero_le _⟩ (fun z17 hz17 => ?_)
    subst hz17
    refine lv_aload_n hx hb dX1_meets_29 rfl (lv_at hl 0 rfl) ?_
    refine lv_iload_n hx hb dX1_meets_30 rfl (lv_at hl 1 rfl) ?_
    refine ri_callR (rest := [.int (iI (lx a)), .int (iI (lx b))]) (ci := 0) (q0 := 0) (mx1_wideOf l a (by omega)) hx hb hml hown hts (cwV 1 hts (lw_V q106 q108 qs3 q31 q109) rfl rfl rfl (by decide +kernel) ⟨Nat.le_of_ble_eq_true rfl, Nat.le_of_ble_eq_true rfl⟩) hK hP rfl rfl rfl hl.1 rfl (Nat.le_of_ble_eq_true rfl) dX1_meets_31 ⟨Nat.zero_le _, Nat.zero_le _⟩ (fun z18 hz18 => ?_)
    subst hz18
    refine ri_iadd hx hb dX1_meets_34 ?_
    refine ri_icmp_lt (tgt := 40) hx hb dX1_meets_35 (by decide) (by omega) (by omega) (fun c35 => ?_) (fun c35 => ?_)
    · refine lv_aload_n hx hb dX1_meets_40 rfl (lv_at hl 0 rfl) ?_
      refine lv_iload_n hx hb dX1_meets_41 rfl (lv_at hl 1 rfl) ?_
      refine ri_callR (rest := []) (ci := 0) (q0 := 0) (mx1_bottomOf l a (by omega)) hx hb hml hown hts (cwV 1 hts (lw_V q114 q116 qs5 q31 q117) rfl rfl rfl (by decide +kernel) ⟨Nat.le_of_ble_eq_true rfl, Nat.le_of_ble_eq_true rfl⟩) hK hP rfl rfl rfl hl.1 rfl (Nat.le_of_ble_eq_true rfl) dX1_meets_42 ⟨Nat.zero_le _, Nat.zero_le _⟩ (fun z19 hz19 => ?_)
      subst hz19
      refine lv_aload_n hx hb dX1_meets_45 rfl (lv_at hl 0 rfl) ?_
      refine lv_iload_n hx hb dX1_meets_46 rfl (lv_at hl 2 rfl) ?_
      refine ri_callR (rest := [.int (iI (by_ a))]) (ci := 0) (q0 := 0) (mx1_bottomOf l b (by omega)) hx hb hml hown hts (cwV 1 hts (lw_V q114 q116 qs5 q31 q117) rfl rfl rfl (by decide +kernel) ⟨Nat.le_of_ble_eq_true rfl, Nat.le_of_ble_eq_true rfl⟩) hK hP rfl rfl rfl hl.1 rfl (Nat.le_of_ble_eq_true rfl) dX1_meets_47 ⟨Nat.zero_le _, Nat.zero_le _⟩ (fun z20 hz20 => ?_)
      subst hz20
      refine lv_aload_n hx hb dX1_meets_50 rfl (lv_at hl 0 rfl) ?_
      refine lv_iload_n hx hb dX1_meets_51 rfl (lv_at hl 2 rfl) ?_
      refine ri_callR (rest := [.int (iI (by_ b)), .int (iI (by_ a))]) (ci := 0) (q0 := 0) (mx1_highOf l b (by omega)) hx hb hml hown hts (cwV 1 hts (lw_V q110 q112 qs4 q31 q113) rfl rfl rfl (by decide +kernel) ⟨Nat.le_of_ble_eq_true rfl, Nat.le_of_ble_eq_true rfl⟩) hK hP rfl rfl rfl hl.1 rfl (Nat.le_of_ble_eq_true rfl) dX1_meets_52 ⟨Nat.zero_le _, Nat.zero_le _⟩ (fun z21 hz21 => ?_)
      subst hz21
      refine ri_iadd hx hb dX1_meets_55 ?_
      refine ri_icmp_ge (tgt := 82) hx hb dX1_meets_56 (by decide) (by omega) (by omega) (fun c56 => ?_) (fun c56 => ?_)
      · refine ri_iconst hx hb dX1_meets_82 ?_
        exact ri_zret hx hb hr hlocks (by omega) (by omega) dX1_meets_83
      · refine lv_aload_n hx hb dX1_meets_59 rfl (lv_at hl 0 rfl) ?_
        refine lv_iload_n hx hb dX1_meets_60 rfl (lv_at hl 2 rfl) ?_
        refine ri_callR (rest := []) (ci := 0) (q0 := 0) (mx1_bottomOf l b (by omega)) hx hb hml hown hts (cwV 1 hts (lw_V q114 q116 qs5 q31 q117) rfl rfl rfl (by decide +kernel) ⟨Nat.le_of_ble_eq_true rfl, Nat.le_of_ble_eq_true rfl⟩) hK hP rfl rfl rfl hl.1 rfl (Nat.le_of_ble_eq_true rfl) dX1_meets_61 ⟨Nat.zero_le _, Nat.zero_le _⟩ (fun z22 hz22 => ?_)
        subst hz22
        refine lv_aload_n hx hb dX1_meets_64 rfl (lv_at hl 0 rfl) ?_
        refine lv_iload_n hx hb dX1_meets_65 rfl (lv_at hl 1 rfl) ?_
        refine ri_callR (rest := [.int (iI (by_ b))]) (ci := 0) (q0 := 0) (mx1_bottomOf l a (by omega)) hx hb hml hown hts (cwV 1 hts (lw_V q114 q116 qs5 q31 q117) rfl rfl rfl (by decide +kernel) ⟨Nat.le_of_ble_eq_true rfl, Nat.le_of_ble_eq_true rfl⟩) hK hP rfl rfl rfl hl.1 rfl (Nat.le_of_ble_eq_true rfl) dX1_meets_66 ⟨Nat.zero_le _, Nat.zero_le _⟩ (fun z23 hz23 => ?_)
        subst hz23
        refine lv_aload_n hx hb dX1_meets_69 rfl (lv_at hl 0 rfl) ?_
        refine lv_iload_n hx hb dX1_meets_70 rfl (lv_at hl 1 rfl) ?_
        refine ri_callR (rest := [.int (iI (by_ a)), .int (iI (by_ b))]) (ci := 0) (q0 := 0) (mx1_highOf l a (by omega)) hx hb hml hown hts (cwV 1 hts (lw_V q110 q112 qs4 q31 q113) rfl rfl rfl (by decide +kernel) ⟨Nat.le_of_ble_eq_true rfl, Nat.le_of_ble_eq_true rfl⟩) hK hP rfl rfl rfl hl.1 rfl (Nat.le_of_ble_eq_true rfl) dX1_meets_71 ⟨Nat.zero_le _, Nat.zero_le _⟩ (fun z24 hz24 => ?_)
        subst hz24
        refine ri_iadd hx hb dX1_meets_74 ?_
        refine ri_icmp_ge (tgt := 82) hx hb dX1_meets_75 (by decide) (by omega) (by omega) (fun c75 => ?_) (fun c75 => ?_)
        · refine ri_iconst hx hb dX1_meets_82 ?_
          exact ri_zret hx hb hr hlocks (by omega) (by omega) dX1_meets_83
        · refine ri_iconst hx hb dX1_meets_78 ?_
          refine lv_goto (tgt := 83) hx hb dX1_meets_79 (by decide) ?_
          exact ri_zret hx hb hr hlocks (by omega) (by omega) dX1_meets_83
    · refine ri_iconst hx hb dX1_meets_38 ?_
      exact ri_zret hx hb hr hlocks (by omega) (by omega) dX1_meets_39
end
section
/-! what AtlasPacker's reading methods answer, in whole numbers -/
def fitsQ (q w h : Int) : Prop := w ≤ wd q ∧ h ≤ hg q
def atQ (q : Int) : Int := 256 * by_ q + lx q
def areaQ (q : Int) : Int := wd q * hg q
def insQ (a b : Int) : Prop := lx b ≤ lx a ∧ by_ b ≤ by_ a ∧ lx a + wd a ≤ lx b + wd b ∧ by_ a + hg a ≤ by_ b + hg b
def meetQ (a b : Int) : Prop := lx a < lx b + wd b ∧ lx b < lx a + wd a ∧ by_ a < by_ b + hg b ∧ by_ b < by_ a + hg a
/-- the first k codes are codes -/
def okQ (HO : Int → Int) (k : Int) : Prop := ∀ j, 0 ≤ j → j < k → 0 ≤ HO j ∧ HO j < 1048576
def LowS (HO : Int → Int) (k w h z : Int) : Prop :=
  (z = -3 ∧ ∀ j, 0 ≤ j → j < k → ¬ fitsQ (HO j) w h) ∨ (∃ j, 0 ≤ j ∧ j < k ∧ fitsQ (HO j) w h ∧ z = atQ (HO j) ∧ ∀ i, 0 ≤ i → i < k → fitsQ (HO i) w h → atQ (HO j) ≤ atQ (HO i))
theorem LowS_0 (HO : Int → Int) (w h : Int) : LowS HO 0 w h (-3) := Or.inl ⟨rfl, fun j h1 h2 => absurd h2 (by omega)⟩
theorem LowS_skip {HO : Int → Int} {k w h z : Int} (H : LowS HO k w h z) (hf : ¬ fitsQ (HO k) w h) : LowS HO (k + 1) w h z := by
  rcases H with ⟨h1, h2⟩ | ⟨j, h1, h2, h3, h4, h5⟩
  · refine Or.inl ⟨h1, fun j a b => ?_⟩
    by_cases e : j = k
    · subst e; exact hf
    · exact h2 j a (by omega)
  · refine Or.inr ⟨j, h1, by omega, h3, h4, fun i a b c => ?_⟩
    by_cases e : i = k
    · subst e; exact absurd c hf
    · exact h5 i a (by omega) c
theorem LowS_take {HO : Int → Int} {k w h z : Int} (h0 : 0 ≤ k) (H : LowS HO k w h z) (hf : fitsQ (HO k) w h) (hz : z < 0 ∨ atQ (HO k) < z) (hat : 0 ≤ z → ∀ j, 0 ≤ j → j < k → 0 ≤ atQ (HO j)) (hneg : z < 0 → z = -3) (hat2 : ∀ j, 0 ≤ j → j < k → 0 ≤ atQ (HO j)) : LowS HO (k + 1) w h (atQ (HO k)) := by
  refine Or.inr ⟨k, h0, by omega, hf, rfl, fun i a b c => ?_⟩
  by_cases e : i = k
  · subst e; omega
  · rcases H with ⟨h1, h2⟩ | ⟨j, h1, h2, h3, h4, h5⟩
    · exact absurd c (h2 i a (by omega))
    · have h6 := h5 i a (by omega) c
      have h7 := hat2 j h1 h2
      omega
theorem LowS_keep {HO : Int → Int} {k w h z : Int} (H : LowS HO k w h z) (hz : 0 ≤ z) (hle : z ≤ atQ (HO k)) : LowS HO (k + 1) w h z := by
  rcases H with ⟨h1, h2⟩ | ⟨j, h1, h2, h3, h4, h5⟩
  · omega
  · refine Or.inr ⟨j, h1, by omega, h3, h4, fun i a b c => ?_⟩
    by_cases e : i = k
    · subst e; omega
    · exact h5 i a (by omega) c
theorem atQ_rng {q : Int} (h : 0 ≤ q ∧ q < 1048576) : 0 ≤ atQ q ∧ atQ q < 8192 := by
  obtain ⟨h1, h2, -, -⟩ := acc_rng h
  unfold atQ
  omega
theorem LowS_rng {HO : Int → Int} {k w h z : Int} (H : LowS HO k w h z) (ho : okQ HO k) : -3 ≤ z ∧ z < 8192 ∧ (z < 0 → z = -3) := by
  rcases H with ⟨h1, h2⟩ | ⟨j, h1, h2, h3, h4, h5⟩
  · omega
  · have := atQ_rng (ho j h1 h2)
    omega
theorem areaQ_rng {q : Int} (h : 0 ≤ q ∧ q < 1048576) : 0 ≤ areaQ q ∧ areaQ q ≤ 961 := by
  obtain ⟨-, -, h3, h4⟩ := acc_rng h
  unfold areaQ
  have h5 : wd q * hg q ≤ 31 * 31 := Int.mul_le_mul (by omega) (by omega) (by omega) (by omega)
  have h6 : 0 ≤ wd q * hg q := Int.mul_nonneg (by omega) (by omega)
  omega
def MaxA (HO : Int → Int) (k b : Int) : Prop := 0 ≤ b ∧ b ≤ 961 ∧ (∀ j, 0 ≤ j → j < k → areaQ (HO j) ≤ b) ∧ (b = 0 ∨ ∃ j, 0 ≤ j ∧ j < k ∧ b = areaQ (HO j))
theorem MaxA_0 (HO : Int → Int) : MaxA HO 0 0 := ⟨by omega, by omega, fun j h1 h2 => absurd h2 (by omega), Or.inl rfl⟩
theorem MaxA_keep {HO : Int → Int} {k b : Int} (H : MaxA HO k b) (h : areaQ (HO k) ≤ b) : MaxA HO (k + 1) b := by
  obtain ⟨h0, h1, h2, h3⟩ := H
  refine ⟨h0, h1, fun j a c => ?_, ?_⟩
  · by_cases e : j = k
    · subst e; exact h
    · exact h2 j a (by omega)
  · rcases h3 with h3 | ⟨j, a, c, d⟩
    · exact Or.inl h3
    · exact Or.inr ⟨j, a, by omega, d⟩
theorem MaxA_take {HO : Int → Int} {k b : Int} (h0 : 0 ≤ k) (H : MaxA HO k b) (hq : 0 ≤ HO k ∧ HO k < 1048576) (h : b < areaQ (HO k)) : MaxA HO (k + 1) (areaQ (HO k)) := by
  obtain ⟨-, -, h2, h3⟩ := H
  have := areaQ_rng hq
  refine ⟨by omega, by omega, fun j a c => ?_, Or.inr ⟨k, h0, by omega, rfl⟩⟩
  by_cases e : j = k
  · subst e; omega
  · have := h2 j a (by omega); omega
def sumI (f : Int → Int) : Nat → Int
  | 0 => 0
  | k + 1 => sumI f k + f k
theorem sumI_step (f : Int → Int) {k : Int} (h : 0 ≤ k) : sumI f (k + 1).toNat = sumI f k.toNat + f k := by
  have e : (k + 1).toNat = k.toNat + 1 := by omega
  rw [e, sumI, Int.toNat_of_nonneg h]
theorem sumI_congr {f g : Int → Int} {n : Nat} (h : ∀ k : Int, 0 ≤ k → k < n → f k = g k) : sumI f n = sumI g n := by
  induction n with
  | zero => rfl
  | succ n ih =>
    rw [sumI, sumI, ih (fun k a b => h k a (by omega)), h n (by omega) (by omega)]
def mxH (HO : Int → Int) (w : Int) : Nat → Int
  | 0 => 0
  | k + 1 => if w ≤ wd (HO k) ∧ mxH HO w k < hg (HO k) then hg (HO k) else mxH HO w k
theorem mxH_rng (HO : Int → Int) (w : Int) (k : Nat) : 0 ≤ mxH HO w k ∧ mxH HO w k < 32 := by
  induction k with
  | zero => exact ⟨by simp [mxH], by simp [mxH]⟩
  | succ k ih =>
    rw [mxH]
    split
    · unfold hg; omega
    · exact ih
theorem mxH_take {HO : Int → Int} {w k : Int} (h0 : 0 ≤ k) (h1 : w ≤ wd (HO k)) (h2 : mxH HO w k.toNat < hg (HO k)) : mxH HO w (k + 1).toNat = hg (HO k) := by
  have e : (k + 1).toNat = k.toNat + 1 := by omega
  rw [e, mxH, Int.toNat_of_nonneg h0, if_pos ⟨h1, h2⟩]
theorem mxH_keep {HO : Int → Int} {w k : Int} (h0 : 0 ≤ k) (h1 : ¬ (w ≤ wd (HO k) ∧ mxH HO w k.toNat < hg (HO k))) : mxH HO w (k + 1).toNat = mxH HO w k.toNat := by
  have e : (k + 1).toNat = k.toNat + 1 := by omega
  rw [e, mxH, Int.toNat_of_nonneg h0, if_neg h1]
/-- values that a byte holds and that are not negative, for the twenty numbers -/
def byt (F : Int → Int) : Prop := ∀ k, 0 ≤ k → k < 20 → 0 ≤ F k ∧ F k < 128
def hitR (Lf Bt Wd Hg : Int → Int) (x y j : Int) : Prop := Wd j ≠ 0 ∧ Lf j ≤ x ∧ Bt j ≤ y ∧ x < Lf j + Wd j ∧ y < Bt j + Hg j
def arId (Wd Hg : Int → Int) (k : Int) : Int := if Wd k = 0 then 0 else Wd k * Hg k
def covQ (CA : Int → Int) (k j : Int) : Prop := j ≠ k ∧ insQ (CA k) (CA j) ∧ (CA j ≠ CA k ∨ j < k)
def sizeP (w h : Int) : Prop := 1 ≤ w ∧ w ≤ 16 ∧ 1 ≤ h ∧ h ≤ 16
theorem all_step {P : Int → Prop} {k : Int} (h : ∀ j, 0 ≤ j → j < k → P j) (hk : P k) : ∀ j, 0 ≤ j → j < k + 1 → P j := by
  intro j a b
  by_cases e : j = k
  · subst e; exact hk
  · exact h j a (by omega)
theorem all_stepY {P : Int → Prop} {y k : Int} (h : ∀ j, y ≤ j → j < k → P j) (hk : P k) : ∀ j, y ≤ j → j < k + 1 → P j := by
  intro j a b
  by_cases e : j = k
  · subst e; exact hk
  · exact h j a (by omega)
end
section
/-! AtlasPacker: the methods that read -/
set_option maxHeartbeats 4000000 in
set_option maxRecDepth 100000 in
theorem mx1_lowest (l : Launch) {D : va_G} {ad : Nat → Nat} {dB dN : ClassId} {Cw Rw n hc cn : Int} {Lf Bt Wd Hg FB HO CA SS SH : Int → Int} (w h : Int) (hw : -2147483648 ≤ w ∧ w < 2147483648) (hh : -2147483648 ≤ h ∧ h < 2147483648) (hhc : 0 ≤ hc ∧ hc ≤ 256) (ho : okQ HO hc) : MetR l yX1_lowest cX1_lowest 7 .int 1 21 [.ref (ad 0), .int (iI w), .int (iI h)] D (XW ad dB dN Cw Rw n hc cn Lf Bt Wd Hg FB HO CA SS SH) (tX dB dN) (fun z => LowS HO hc w h z) := by
  refine ri_met RX1 rfl (by decide) (Nat.le_of_ble_eq_true rfl) ?_
  intro p e s m below meth c hx hb hr hts hown hlocks hml hnm hv ls hl
  obtain ⟨hP, hK⟩ := hv
  have hl : lv_has ls 7 [(0, .ref (ad 0)), (1, .int (iI w)), (2, .int (iI h))] := hl
  refine ri_bipush hx hb dX1_lowest_0 (by decide +kernel) ?_
  refine lv_istore_n (lv' := [(3, .int (iI (-3))), (0, .ref (ad 0)), (1, .int (iI w)), (2, .int (iI h))]) hx hb dX1_lowest_2 rfl hl (by decide) rfl (fun ls hl => ?_)
  refine ri_iconst hx hb dX1_lowest_3 ?_
  refine lv_istore (lv' := [(4, .int (iI 0)), (3, .int (iI (-3))), (0, .ref (ad 0)), (1, .int (iI w)), (2, .int (iI h))]) hx hb dX1_lowest_4 hl (by decide) rfl (fun ls hl => ?_)
  refine ri_loop (σ := Int × Int) (nL := 7) (fun ((k, b) : Int × Int) => (hc - k).toNat) (fun ((k, b) : Int × Int) => 0 ≤ k ∧ k ≤ hc ∧ LowS HO k w h b) (fun ((k, b) : Int × Int) => [(0, .ref (ad 0)), (1, .int (iI w)), (2, .int (iI h)), (3, .int (iI b)), (4, .int (iI k))]) (0, -3) ?_ (lv_sub hl [2, 3, 4, 1, 0] rfl) ?_
  · show 0 ≤ (0 : Int) ∧ (0 : Int) ≤ hc ∧ LowS HO (0 : Int) w h (-3 : Int)
    exact ⟨by omega, by omega, LowS_0 _ _ _⟩
  · rintro ⟨k, b⟩ ls hI hl ih6
    replace hI : 0 ≤ k ∧ k ≤ hc ∧ LowS HO k w h b := hI
    obtain ⟨hk0, hk1, hLow⟩ := hI
    replace hl : lv_has ls 7 [(0, .ref (ad 0)), (1, .int (iI w)), (2, .int (iI h)), (3, .int (iI b)), (4, .int (iI k))] := hl
    refine lv_iload hx hb dX1_lowest_6 (lv_at hl 4 rfl) ?_
    refine lv_aload_n hx hb dX1_lowest_8 rfl (lv_at hl 0 rfl) ?_
    refine gx_hc hx hb hts hown hK hP dX1_lowest_9 ?_
    refine ri_icmp_ge (tgt := 85) hx hb dX1_lowest_12 (by decide) (by omega) (by omega) (fun c12 => ?_) (fun c12 => ?_)
    · refine lv_iload_n hx hb dX1_lowest_85 rfl (lv_at hl 3 rfl) ?_
      have e : k = hc := by omega
      subst e
      exact ri_ret hx hb hr hlocks (hLow) dX1_lowest_86
    · have hq := ho k (by omega) (by omega)
      obtain ⟨a1, a2, a3, a4⟩ := acc_rng hq
      have hr3 := LowS_rng hLow (fun j a b => ho j a (by omega))
      refine lv_aload_n hx hb dX1_lowest_15 rfl (lv_at hl 0 rfl) ?_
      refine gx_HO hx hb hts hown hK hP dX1_lowest_16 ?_
      refine lv_iload hx hb dX1_lowest_19 (lv_at hl 4 rfl) ?_
      refine ri_iald hx hb hK hP 6 1 rfl rfl (by omega) (by decide) dX1_lowest_21 ?_
      refine lv_istore (lv' := [(5, .int (iI (HO k))), (0, .ref (ad 0)), (1, .int (iI w)), (2, .int (iI h)), (3, .int (iI b)), (4, .int (iI k))]) hx hb dX1_lowest_22 hl (by decide) rfl (fun ls hl => ?_)
      refine lv_aload_n hx hb dX1_lowest_24 rfl (lv_at hl 1 rfl) ?_
      refine lv_iload hx hb dX1_lowest_25 (lv_at hl 0 rfl) ?_
      refine ri_callR (rest := []) (ci := 0) (q0 := 0) (mx1_wideOf l (HO k) (by omega)) hx hb hml hown hts (cwV 1 hts (lw_V q106 q108 qs3 q31 q109) rfl rfl rfl (by decide +kernel) ⟨Nat.le_of_ble_eq_true rfl, Nat.le_of_ble_eq_true rfl⟩) hK hP rfl rfl rfl hl.1 rfl (Nat.le_of_ble_eq_true rfl) dX1_lowest_27 ⟨Nat.zero_le _, Nat.zero_le _⟩ (fun z1 hz1 => ?_)
      subst hz1
      refine lv_iload_n hx hb dX1_lowest_30 rfl (lv_at hl 2 rfl) ?_
      refine ri_icmp_lt (tgt := 79) hx hb dX1_lowest_31 (by decide) (by omega) (by omega) (fun c31 => ?_) (fun c31 => ?_)
      · refine ri_iinc (k := 5) (lv' := [(4, .int (iI (k + 1))), (5, .int (iI (HO k))), (0, .ref (ad 0)), (1, .int (iI w)), (2, .int (iI h)), (3, .int (iI b))]) hx hb dX1_lowest_79 hl rfl (by decide) rfl (fun ls hl => ?_)
        refine lv_goto (tgt := 6) hx hb dX1_lowest_82 (by decide) ?_
        exact ih6 (k + 1, b) ls (show 0 ≤ k + 1 ∧ k + 1 ≤ hc ∧ LowS HO (k + 1) w h b from ⟨by omega, by omega, LowS_skip hLow (fun q => by have := q.1; omega)⟩) (show (hc - (k + 1)).toNat < (hc - k).toNat by omega) (lv_sub hl [2, 3, 4, 5, 0] rfl)
      · refine lv_aload_n hx hb dX1_lowest_34 rfl (lv_at hl 1 rfl) ?_
        refine lv_iload hx hb dX1_lowest_35 (lv_at hl 0 rfl) ?_
        refine ri_callR (rest := []) (ci := 0) (q0 := 0) (mx1_highOf l (HO k) (by omega)) hx hb hml hown hts (cwV 1 hts (lw_V q110 q112 qs4 q31 q113) rfl rfl rfl (by decide +kernel) ⟨Nat.le_of_ble_eq_true rfl, Nat.le_of_ble_eq_true rfl⟩) hK hP rfl rfl rfl hl.1 rfl (Nat.le_of_ble_eq_true rfl) dX1_lowest_37 ⟨Nat.zero_le _, Nat.zero_le _⟩ (fun z2 hz2 => ?_)
        subst hz2
        refine lv_iload_n hx hb dX1_lowest_40 rfl (lv_at hl 3 rfl) ?_
        refine ri_icmp_ge (tgt := 47) hx hb dX1_lowest_41 (by decide) (by omega) (by omega) (fun c41 => ?_) (fun c41 => ?_)
        · refine ri_sipush hx hb dX1_lowest_47 (by decide +kernel) ?_
          refine lv_aload_n hx hb dX1_lowest_50 rfl (lv_at hl 1 rfl) ?_
          refine lv_iload hx hb dX1_lowest_51 (lv_at hl 0 rfl) ?_
          refine ri_callR (rest := [.int (iI 256)]) (ci := 0) (q0 := 0) (mx1_bottomOf l (HO k) (by omega)) hx hb hml hown hts (cwV 1 hts (lw_V q114 q116 qs5 q31 q117) rfl rfl rfl (by decide +kernel) ⟨Nat.le_of_ble_eq_true rfl, Nat.le_of_ble_eq_true rfl⟩) hK hP rfl rfl rfl hl.1 rfl (Nat.le_of_ble_eq_true rfl) dX1_lowest_53 ⟨Nat.zero_le _, Nat.zero_le _⟩ (fun z3 hz3 => ?_)
          subst hz3
          refine ri_imul hx hb dX1_lowest_56 ?_
          refine lv_aload_n hx hb dX1_lowest_57 rfl (lv_at hl 1 rfl) ?_
          refine lv_iload hx hb dX1_lowest_58 (lv_at hl 0 rfl) ?_
          refine ri_callR (rest := [.int (iI (256 * (by_ (HO k))))]) (ci := 0) (q0 := 0) (mx1_leftOf l (HO k) (by omega)) hx hb hml hown hts (cwV 1 hts (lw_V q118 q120 qs6 q31 q121) rfl rfl rfl (by decide +kernel) ⟨Nat.le_of_ble_eq_true rfl, Nat.le_of_ble_eq_true rfl⟩) hK hP rfl rfl rfl hl.1 rfl (Nat.le_of_ble_eq_true rfl) dX1_lowest_60 ⟨Nat.zero_le _, Nat.zero_le _⟩ (fun z4 hz4 => ?_)
          subst hz4
          refine ri_iadd hx hb dX1_lowest_63 ?_
          have hat := atQ_rng hq
          refine ri_cast (b := atQ (HO k)) (rfl) ?_
          refine lv_istore (lv' := [(6, .int (iI (atQ (HO k)))), (5, .int (iI (HO k))), (0, .ref (ad 0)), (1, .int (iI w)), (2, .int (iI h)), (3, .int (iI b)), (4, .int (iI k))]) hx hb dX1_lowest_64 hl (by decide) rfl (fun ls hl => ?_)
          refine lv_iload_n hx hb dX1_lowest_66 rfl (lv_at hl 5 rfl) ?_
          refine ri_if_lt (tgt := 76) hx hb dX1_lowest_67 (by decide) (by omega) (fun c67 => ?_) (fun c67 => ?_)
          · refine lv_iload hx hb dX1_lowest_76 (lv_at hl 0 rfl) ?_
            refine lv_istore_n (lv' := [(3, .int (iI (atQ (HO k)))), (6, .int (iI (atQ (HO k)))), (5, .int (iI (HO k))), (0, .ref (ad 0)), (1, .int (iI w)), (2, .int (iI h)), (4, .int (iI k))]) hx hb dX1_lowest_78 rfl hl (by decide) rfl (fun ls hl => ?_)
            refine ri_iinc (k := 6) (lv' := [(4, .int (iI (k + 1))), (3, .int (iI (atQ (HO k)))), (6, .int (iI (atQ (HO k)))), (5, .int (iI (HO k))), (0, .ref (ad 0)), (1, .int (iI w)), (2, .int (iI h))]) hx hb dX1_lowest_79 hl rfl (by decide) rfl (fun ls hl => ?_)
            refine lv_goto (tgt := 6) hx hb dX1_lowest_82 (by decide) ?_
            exact ih6 (k + 1, atQ (HO k)) ls (show 0 ≤ k + 1 ∧ k + 1 ≤ hc ∧ LowS HO (k + 1) w h (atQ (HO k)) from ⟨by omega, by omega, LowS_take hk0 hLow ⟨by omega, by omega⟩ (by omega) (fun _ j a b => (atQ_rng (ho j a (by omega))).1) hr3.2.2 (fun j a b => (atQ_rng (ho j a (by omega))).1)⟩) (show (hc - (k + 1)).toNat < (hc - k).toNat by omega) (lv_sub hl [4, 5, 6, 1, 0] rfl)
          · refine lv_iload hx hb dX1_lowest_70 (lv_at hl 0 rfl) ?_
            refine lv_iload_n hx hb dX1_lowest_72 rfl (lv_at hl 5 rfl) ?_
            refine ri_icmp_ge (tgt := 79) hx hb dX1_lowest_73 (by decide) (by omega) (by omega) (fun c73 => ?_) (fun c73 => ?_)
            · refine ri_iinc (k := 6) (lv' := [(4, .int (iI (k + 1))), (6, .int (iI (atQ (HO k)))), (5, .int (iI (HO k))), (0, .ref (ad 0)), (1, .int (iI w)), (2, .int (iI h)), (3, .int (iI b))]) hx hb dX1_lowest_79 hl rfl (by decide) rfl (fun ls hl => ?_)
              refine lv_goto (tgt := 6) hx hb dX1_lowest_82 (by decide) ?_
              exact ih6 (k + 1, b) ls (show 0 ≤ k + 1 ∧ k + 1 ≤ hc ∧ LowS HO (k + 1) w h b from ⟨by omega, by omega, LowS_keep hLow (by omega) (by omega)⟩) (show (hc - (k + 1)).toNat < (hc - k).toNat by omega) (lv_sub hl [3, 4, 5, 6, 0] rfl)
            · refine lv_iload hx hb dX1_lowest_76 (lv_at hl 0 rfl) ?_
              refine lv_istore_n (lv' := [(3, .int (iI (atQ (HO k)))), (6, .int (iI (atQ (HO k)))), (5, .int (iI (HO k))), (0, .ref (ad 0)), (1, .int (iI w)), (2, .int (iI h)), (4, .int (iI k))]) hx hb dX1_lowest_78 rfl hl (by decide) rfl (fun ls hl => ?_)
              refine ri_iinc (k := 6) (lv' := [(4, .int (iI (k + 1))), (3, .int (iI (atQ (HO k)))), (6, .int (iI (atQ (HO k)))), (5, .int (iI (HO k))), (0, .ref (ad 0)), (1, .int (iI w)), (2, .int (iI h))]) hx hb dX1_lowest_79 hl rfl (by decide) rfl (fun ls hl => ?_)
              refine lv_goto (tgt := 6) hx hb dX1_lowest_82 (by decide) ?_
              exact ih6 (k + 1, atQ (HO k)) ls (show 0 ≤ k + 1 ∧ k + 1 ≤ hc ∧ LowS HO (k + 1) w h (atQ (HO k)) from ⟨by omega, by omega, LowS_take hk0 hLow ⟨by omega, by omega⟩ (by omega) (fun _ j a b => (atQ_rng (ho j a (by omega))).1) hr3.2.2 (fun j a b => (atQ_rng (ho j a (by omega))).1)⟩) (show (hc - (k + 1)).toNat < (hc - k).toNat by omega) (lv_sub hl [4, 5, 6, 1, 0] rfl)
        · refine lv_goto (tgt := 79) hx hb dX1_lowest_44 (by decide) ?_
          refine ri_iinc (k := 5) (lv' := [(4, .int (iI (k + 1))), (5, .int (iI (HO k))), (0, .ref (ad 0)), (1, .int (iI w)), (2, .int (iI h)), (3, .int (iI b))]) hx hb dX1_lowest_79 hl rfl (by decide) rfl (fun ls hl => ?_)
          refine lv_goto (tgt := 6) hx hb dX1_lowest_82 (by decide) ?_
          exact ih6 (k + 1, b) ls (show 0 ≤ k + 1 ∧ k + 1 ≤ hc ∧ LowS HO (k + 1) w h b from ⟨by omega, by omega, LowS_skip hLow (fun q => by have := q.2; omega)⟩) (show (hc - (k + 1)).toNat < (hc - k).toNat by omega) (lv_sub hl [2, 3, 4, 5, 0] rfl)
set_option maxHeartbeats 4000000 in
set_option maxRecDepth 100000 in
theorem mx1_look (l : Launch) {D : va_G} {ad : Nat → Nat} {dB dN : ClassId} {Cw Rw n hc cn : Int} {Lf Bt Wd Hg FB HO CA SS SH : Int → Int} (i v : Int) (hi : -2147483648 ≤ i ∧ i < 2147483648) (hv : -2147483648 ≤ v ∧ v < 2147483648) (hw : byt Wd) : MetR l yX1_look cX1_look 3 .int 1 21 [.ref (ad 0), .int (iI i), .int (iI v)] D (XW ad dB dN Cw Rw n hc cn Lf Bt Wd Hg FB HO CA SS SH) (tX dB dN) (fun z => (z = -1 ∧ ¬ (0 ≤ i ∧ i < 20 ∧ Wd i ≠ 0)) ∨ ((0 ≤ i ∧ i < 20 ∧ Wd i ≠ 0) ∧ ((v = 0 ∧ z = Lf i) ∨ (v = 1 ∧ z = Bt i) ∨ (v = 2 ∧ z = Wd i) ∨ (v = 3 ∧ z = Hg i) ∨ (v ≠ 0 ∧ v ≠ 1 ∧ v ≠ 2 ∧ v ≠ 3 ∧ z = -1)))) := by
  refine ri_met RX1 rfl (by decide) (Nat.le_of_ble_eq_true rfl) ?_
  intro p e s m below meth c hx hb hr hts hown hlocks hml hnm hv ls hl
  obtain ⟨hP, hK⟩ := hv
  have hl : lv_has ls 3 [(0, .ref (ad 0)), (1, .int (iI i)), (2, .int (iI v))] := hl
  refine lv_aload_n hx hb dX1_look_0 rfl (lv_at hl 0 rfl) ?_
  refine lv_iload_n hx hb dX1_look_1 rfl (lv_at hl 1 rfl) ?_
  refine ri_callR (rest := []) (ci := 0) (q0 := 0) (mx1_isUsed l i hi hw) hx hb hml hown hts (cwV 1 hts (lw_V q158 q160 qs15 q31 q161) rfl rfl rfl (by decide +kernel) ⟨Nat.le_of_ble_eq_true rfl, Nat.le_of_ble_eq_true rfl⟩) hK hP rfl rfl rfl hl.1 rfl (Nat.le_of_ble_eq_true rfl) dX1_look_2 ⟨Nat.zero_le _, Nat.zero_le _⟩ (fun u hu => ?_)
  refine ri_if_ne (tgt := 10) hx hb dX1_look_5 (by decide) (by omega) (fun c5 => ?_) (fun c5 => ?_)
  · refine lv_iload_n hx hb dX1_look_10 rfl (lv_at hl 2 rfl) ?_
    refine ri_if_ne (tgt := 21) hx hb dX1_look_11 (by decide) (by omega) (fun c11 => ?_) (fun c11 => ?_)
    · refine lv_iload_n hx hb dX1_look_21 rfl (lv_at hl 2 rfl) ?_
      refine ri_iconst hx hb dX1_look_22 ?_
      refine ri_icmp_ne (tgt := 33) hx hb dX1_look_23 (by decide) (by omega) (by omega) (fun c23 => ?_) (fun c23 => ?_)
      · refine lv_iload_n hx hb dX1_look_33 rfl (lv_at hl 2 rfl) ?_
        refine ri_iconst hx hb dX1_look_34 ?_
        refine ri_icmp_ne (tgt := 45) hx hb dX1_look_35 (by decide) (by omega) (by omega) (fun c35 => ?_) (fun c35 => ?_)
        · refine lv_iload_n hx hb dX1_look_45 rfl (lv_at hl 2 rfl) ?_
          refine ri_iconst hx hb dX1_look_46 ?_
          refine ri_icmp_ne (tgt := 59) hx hb dX1_look_47 (by decide) (by omega) (by omega) (fun c47 => ?_) (fun c47 => ?_)
          · refine ri_iconst hx hb dX1_look_59 ?_
            exact ri_ret hx hb hr hlocks (by omega) dX1_look_60
          · refine lv_aload_n hx hb dX1_look_50 rfl (lv_at hl 0 rfl) ?_
            refine gx_Hg hx hb hts hown hK hP dX1_look_51 ?_
            refine lv_iload_n hx hb dX1_look_54 rfl (lv_at hl 1 rfl) ?_
            refine ri_bald hx hb hK hP 4 0 rfl rfl (by omega) (by decide) dX1_look_55 ?_
            refine lv_goto (tgt := 60) hx hb dX1_look_56 (by decide) ?_
            exact ri_ret hx hb hr hlocks (by omega) dX1_look_60
        · refine lv_aload_n hx hb dX1_look_38 rfl (lv_at hl 0 rfl) ?_
          refine gx_Wd hx hb hts hown hK hP dX1_look_39 ?_
          refine lv_iload_n hx hb dX1_look_42 rfl (lv_at hl 1 rfl) ?_
          refine ri_bald hx hb hK hP 3 0 rfl rfl (by omega) (by decide) dX1_look_43 ?_
          exact ri_ret hx hb hr hlocks (by omega) dX1_look_44
      · refine lv_aload_n hx hb dX1_look_26 rfl (lv_at hl 0 rfl) ?_
        refine gx_Bt hx hb hts hown hK hP dX1_look_27 ?_
        refine lv_iload_n hx hb dX1_look_30 rfl (lv_at hl 1 rfl) ?_
        refine ri_bald hx hb hK hP 2 0 rfl rfl (by omega) (by decide) dX1_look_31 ?_
        exact ri_ret hx hb hr hlocks (by omega) dX1_look_32
    · refine lv_aload_n hx hb dX1_look_14 rfl (lv_at hl 0 rfl) ?_
      refine gx_Lf hx hb hts hown hK hP dX1_look_15 ?_
      refine lv_iload_n hx hb dX1_look_18 rfl (lv_at hl 1 rfl) ?_
      refine ri_bald hx hb hK hP 1 0 rfl rfl (by omega) (by decide) dX1_look_19 ?_
      exact ri_ret hx hb hr hlocks (by omega) dX1_look_20
  · refine ri_iconst hx hb dX1_look_8 ?_
    exact ri_ret hx hb hr hlocks (by omega) dX1_look_9
set_option maxHeartbeats 4000000 in
set_option maxRecDepth 100000 in
theorem mx1_owner (l : Launch) {D : va_G} {ad : Nat → Nat} {dB dN : ClassId} {Cw Rw n hc cn : Int} {Lf Bt Wd Hg FB HO CA SS SH : Int → Int} (x y : Int) (hx' : -2147483648 ≤ x ∧ x < 2147483648) (hy : -2147483648 ≤ y ∧ y < 2147483648) (h1 : byt Lf) (h2 : byt Bt) (h3 : byt Wd) (h4 : byt Hg) (hC : 4 ≤ Cw ∧ Cw ≤ 16) (hR : 4 ≤ Rw ∧ Rw ≤ 16) : MetR l yX1_owner cX1_owner 4 .int 0 0 [.ref (ad 0), .int (iI x), .int (iI y)] D (XW ad dB dN Cw Rw n hc cn Lf Bt Wd Hg FB HO CA SS SH) (tX dB dN) (fun z => (z = -1 ∧ ¬ (0 ≤ x ∧ x < Cw ∧ 0 ≤ y ∧ y < Rw)) ∨ ((0 ≤ x ∧ x < Cw ∧ 0 ≤ y ∧ y < Rw) ∧ ((∃ j, 0 ≤ j ∧ j < 20 ∧ hitR Lf Bt Wd Hg x y j ∧ z = j) ∨ (z = -3 ∧ ∀ j, 0 ≤ j → j < 20 → ¬ hitR Lf Bt Wd Hg x y j)))) := by
  refine ri_met RX1 rfl (by decide) (Nat.le_of_ble_eq_true rfl) ?_
  intro p e s m below meth c hx hb hr hts hown hlocks hml hnm hv ls hl
  obtain ⟨hP, hK⟩ := hv
  have hl : lv_has ls 4 [(0, .ref (ad 0)), (1, .int (iI x)), (2, .int (iI y))] := hl
  refine lv_iload_n hx hb dX1_owner_0 rfl (lv_at hl 1 rfl) ?_
  refine ri_if_lt (tgt := 24) hx hb dX1_owner_1 (by decide) (by omega) (fun c1 => ?_) (fun c1 => ?_)
  · refine ri_iconst hx hb dX1_owner_24 ?_
    exact ri_ret hx hb hr hlocks (Or.inl ⟨rfl, by omega⟩) dX1_owner_25
  · refine lv_iload_n hx hb dX1_owner_4 rfl (lv_at hl 1 rfl) ?_
    refine lv_aload_n hx hb dX1_owner_5 rfl (lv_at hl 0 rfl) ?_
    refine gx_Cw hx hb hts hown hK hP dX1_owner_6 ?_
    refine ri_icmp_ge (tgt := 24) hx hb dX1_owner_9 (by decide) (by omega) (by omega) (fun c9 => ?_) (fun c9 => ?_)
    · refine ri_iconst hx hb dX1_owner_24 ?_
      exact ri_ret hx hb hr hlocks (Or.inl ⟨rfl, by omega⟩) dX1_owner_25
    · refine lv_iload_n hx hb dX1_owner_12 rfl (lv_at hl 2 rfl) ?_
      refine ri_if_lt (tgt := 24) hx hb dX1_owner_13 (by decide) (by omega) (fun c13 => ?_) (fun c13 => ?_)
      · refine ri_iconst hx hb dX1_owner_24 ?_
        exact ri_ret hx hb hr hlocks (Or.inl ⟨rfl, by omega⟩) dX1_owner_25
      · refine lv_iload_n hx hb dX1_owner_16 rfl (lv_at hl 2 rfl) ?_
        refine lv_aload_n hx hb dX1_owner_17 rfl (lv_at hl 0 rfl) ?_
        refine gx_Rw hx hb hts hown hK hP dX1_owner_18 ?_
        refine ri_icmp_lt (tgt := 26) hx hb dX1_owner_21 (by decide) (by omega) (by omega) (fun c21 => ?_) (fun c21 => ?_)
        · refine ri_iconst hx hb dX1_owner_26 ?_
          refine lv_istore_n (lv' := [(3, .int (iI 0)), (0, .ref (ad 0)), (1, .int (iI x)), (2, .int (iI y))]) hx hb dX1_owner_27 rfl hl (by decide) rfl (fun ls hl => ?_)
          refine ri_loop (σ := Int) (nL := 4) (fun (k : Int) => (20 - k).toNat) (fun (k : Int) => 0 ≤ k ∧ k ≤ 20 ∧ ∀ j, 0 ≤ j → j < k → ¬ hitR Lf Bt Wd Hg x y j) (fun (k : Int) => [(0, .ref (ad 0)), (1, .int (iI x)), (2, .int (iI y)), (3, .int (iI k))]) (0) ?_ (lv_sub hl [1, 2, 3, 0] rfl) ?_
          · show 0 ≤ (0 : Int) ∧ (0 : Int) ≤ 20 ∧ ∀ j, 0 ≤ j → j < (0 : Int) → ¬ hitR Lf Bt Wd Hg x y j
            exact ⟨by omega, by omega, fun j a b => absurd b (by omega)⟩
          · rintro k ls hI hl ih28
            replace hI : 0 ≤ k ∧ k ≤ 20 ∧ ∀ j, 0 ≤ j → j < k → ¬ hitR Lf Bt Wd Hg x y j := hI
            obtain ⟨hk0, hk1, hno⟩ := hI
            replace hl : lv_has ls 4 [(0, .ref (ad 0)), (1, .int (iI x)), (2, .int (iI y)), (3, .int (iI k))] := hl
            refine lv_iload_n hx hb dX1_owner_28 rfl (lv_at hl 3 rfl) ?_
            refine ri_bipush hx hb dX1_owner_29 (by decide +kernel) ?_
            refine ri_icmp_ge (tgt := 108) hx hb dX1_owner_31 (by decide) (by omega) (by omega) (fun c31 => ?_) (fun c31 => ?_)
            · refine ri_bipush hx hb dX1_owner_108 (by decide +kernel) ?_
              have e : k = 20 := by omega
              subst e
              exact ri_ret hx hb hr hlocks (Or.inr ⟨by omega, Or.inr ⟨rfl, hno⟩⟩) dX1_owner_110
            · have b1 := h1 k (by omega) (by omega)
              have b2 := h2 k (by omega) (by omega)
              have b3 := h3 k (by omega) (by omega)
              have b4 := h4 k (by omega) (by omega)
              refine lv_aload_n hx hb dX1_owner_34 rfl (lv_at hl 0 rfl) ?_
              refine gx_Wd hx hb hts hown hK hP dX1_owner_35 ?_
              refine lv_iload_n hx hb dX1_owner_38 rfl (lv_at hl 3 rfl) ?_
              refine ri_bald hx hb hK hP 3 0 rfl rfl (by omega) (by decide) dX1_owner_39 ?_
              refine ri_if_eq (tgt := 102) hx hb dX1_owner_40 (by decide) (by omega) (fun c40 => ?_) (fun c40 => ?_)
              · refine ri_iinc (k := 3) (lv' := [(3, .int (iI (k + 1))), (0, .ref (ad 0)), (1, .int (iI x)), (2, .int (iI y))]) hx hb dX1_owner_102 hl rfl (by decide) rfl (fun ls hl => ?_)
                refine lv_goto (tgt := 28) hx hb dX1_owner_105 (by decide) ?_
                exact ih28 (k + 1) ls (show 0 ≤ k + 1 ∧ k + 1 ≤ 20 ∧ ∀ j, 0 ≤ j → j < k + 1 → ¬ hitR Lf Bt Wd Hg x y j from ⟨by omega, by omega, all_step hno (fun q => by obtain ⟨q1, q2, q3, q4, q5⟩ := q; omega)⟩) (show (20 - (k + 1)).toNat < (20 - k).toNat by omega) (lv_sub hl [1, 2, 3, 0] rfl)
              · refine lv_iload_n hx hb dX1_owner_43 rfl (lv_at hl 1 rfl) ?_
                refine lv_aload_n hx hb dX1_owner_44 rfl (lv_at hl 0 rfl) ?_
                refine gx_Lf hx hb hts hown hK hP dX1_owner_45 ?_
                refine lv_iload_n hx hb dX1_owner_48 rfl (lv_at hl 3 rfl) ?_
                refine ri_bald hx hb hK hP 1 0 rfl rfl (by omega) (by decide) dX1_owner_49 ?_
                refine ri_icmp_lt (tgt := 102) hx hb dX1_owner_50 (by decide) (by omega) (by omega) (fun c50 => ?_) (fun c50 => ?_)
                · refine ri_iinc (k := 3) (lv' := [(3, .int (iI (k + 1))), (0, .ref (ad 0)), (1, .int (iI x)), (2, .int (iI y))]) hx hb dX1_owner_102 hl rfl (by decide) rfl (fun ls hl => ?_)
                  refine lv_goto (tgt := 28) hx hb dX1_owner_105 (by decide) ?_
                  exact ih28 (k + 1) ls (show 0 ≤ k + 1 ∧ k + 1 ≤ 20 ∧ ∀ j, 0 ≤ j → j < k + 1 → ¬ hitR Lf Bt Wd Hg x y j from ⟨by omega, by omega, all_step hno (fun q => by obtain ⟨q1, q2, q3, q4, q5⟩ := q; omega)⟩) (show (20 - (k + 1)).toNat < (20 - k).toNat by omega) (lv_sub hl [1, 2, 3, 0] rfl)
                · refine lv_iload_n hx hb dX1_owner_53 rfl (lv_at hl 2 rfl) ?_
                  refine lv_aload_n hx hb dX1_owner_54 rfl (lv_at hl 0 rfl) ?_
                  refine gx_Bt hx hb hts hown hK hP dX1_owner_55 ?_
                  refine lv_iload_n hx hb dX1_owner_58 rfl (lv_at hl 3 rfl) ?_
                  refine ri_bald hx hb hK hP 2 0 rfl rfl (by omega) (by decide) dX1_owner_59 ?_
                  refine ri_icmp_ge (tgt := 66) hx hb dX1_owner_60 (by decide) (by omega) (by omega) (fun c60 => ?_) (fun c60 => ?_)
                  · refine lv_iload_n hx hb dX1_owner_66 rfl (lv_at hl 1 rfl) ?_
                    refine lv_aload_n hx hb dX1_owner_67 rfl (lv_at hl 0 rfl) ?_
                    refine gx_Lf hx hb hts hown hK hP dX1_owner_68 ?_
                    refine lv_iload_n hx hb dX1_owner_71 rfl (lv_at hl 3 rfl) ?_
                    refine ri_bald hx hb hK hP 1 0 rfl rfl (by omega) (by decide) dX1_owner_72 ?_
                    refine lv_aload_n hx hb dX1_owner_73 rfl (lv_at hl 0 rfl) ?_
                    refine gx_Wd hx hb hts hown hK hP dX1_owner_74 ?_
                    refine lv_iload_n hx hb dX1_owner_77 rfl (lv_at hl 3 rfl) ?_
                    refine ri_bald hx hb hK hP 3 0 rfl rfl (by omega) (by decide) dX1_owner_78 ?_
                    refine ri_iadd hx hb dX1_owner_79 ?_
                    refine ri_icmp_ge (tgt := 102) hx hb dX1_owner_80 (by decide) (by omega) (by omega) (fun c80 => ?_) (fun c80 => ?_)
                    · refine ri_iinc (k := 3) (lv' := [(3, .int (iI (k + 1))), (0, .ref (ad 0)), (1, .int (iI x)), (2, .int (iI y))]) hx hb dX1_owner_102 hl rfl (by decide) rfl (fun ls hl => ?_)
                      refine lv_goto (tgt := 28) hx hb dX1_owner_105 (by decide) ?_
                      exact ih28 (k + 1) ls (show 0 ≤ k + 1 ∧ k + 1 ≤ 20 ∧ ∀ j, 0 ≤ j → j < k + 1 → ¬ hitR Lf Bt Wd Hg x y j from ⟨by omega, by omega, all_step hno (fun q => by obtain ⟨q1, q2, q3, q4, q5⟩ := q; omega)⟩) (show (20 - (k + 1)).toNat < (20 - k).toNat by omega) (lv_sub hl [1, 2, 3, 0] rfl)
                    · refine lv_iload_n hx hb dX1_owner_83 rfl (lv_at hl 2 rfl) ?_
                      refine lv_aload_n hx hb dX1_owner_84 rfl (lv_at hl 0 rfl) ?_
                      refine gx_Bt hx hb hts hown hK hP dX1_owner_85 ?_
                      refine lv_iload_n hx hb dX1_owner_88 rfl (lv_at hl 3 rfl) ?_
                      refine ri_bald hx hb hK hP 2 0 rfl rfl (by omega) (by decide) dX1_owner_89 ?_
                      refine lv_aload_n hx hb dX1_owner_90 rfl (lv_at hl 0 rfl) ?_
                      refine gx_Hg hx hb hts hown hK hP dX1_owner_91 ?_
                      refine lv_iload_n hx hb dX1_owner_94 rfl (lv_at hl 3 rfl) ?_
                      refine ri_bald hx hb hK hP 4 0 rfl rfl (by omega) (by decide) dX1_owner_95 ?_
                      refine ri_iadd hx hb dX1_owner_96 ?_
                      refine ri_icmp_ge (tgt := 102) hx hb dX1_owner_97 (by decide) (by omega) (by omega) (fun c97 => ?_) (fun c97 => ?_)
                      · refine ri_iinc (k := 3) (lv' := [(3, .int (iI (k + 1))), (0, .ref (ad 0)), (1, .int (iI x)), (2, .int (iI y))]) hx hb dX1_owner_102 hl rfl (by decide) rfl (fun ls hl => ?_)
                        refine lv_goto (tgt := 28) hx hb dX1_owner_105 (by decide) ?_
                        exact ih28 (k + 1) ls (show 0 ≤ k + 1 ∧ k + 1 ≤ 20 ∧ ∀ j, 0 ≤ j → j < k + 1 → ¬ hitR Lf Bt Wd Hg x y j from ⟨by omega, by omega, all_step hno (fun q => by obtain ⟨q1, q2, q3, q4, q5⟩ := q; omega)⟩) (show (20 - (k + 1)).toNat < (20 - k).toNat by omega) (lv_sub hl [1, 2, 3, 0] rfl)
                      · refine lv_iload_n hx hb dX1_owner_100 rfl (lv_at hl 3 rfl) ?_
                        exact ri_ret hx hb hr hlocks (Or.inr ⟨by omega, Or.inl ⟨k, by omega, by omega, ⟨by omega, by omega, by omega, by omega, by omega⟩, rfl⟩⟩) dX1_owner_101
                  · refine lv_goto (tgt := 102) hx hb dX1_owner_63 (by decide) ?_
                    refine ri_iinc (k := 3) (lv' := [(3, .int (iI (k + 1))), (0, .ref (ad 0)), (1, .int (iI x)), (2, .int (iI y))]) hx hb dX1_owner_102 hl rfl (by decide) rfl (fun ls hl => ?_)
                    refine lv_goto (tgt := 28) hx hb dX1_owner_105 (by decide) ?_
                    exact ih28 (k + 1) ls (show 0 ≤ k + 1 ∧ k + 1 ≤ 20 ∧ ∀ j, 0 ≤ j → j < k + 1 → ¬ hitR Lf Bt Wd Hg x y j from ⟨by omega, by omega, all_step hno (fun q => by obtain ⟨q1, q2, q3, q4, q5⟩ := q; omega)⟩) (show (20 - (k + 1)).toNat < (20 - k).toNat by omega) (lv_sub hl [1, 2, 3, 0] rfl)
        · refine ri_iconst hx hb dX1_owner_24 ?_
          exact ri_ret hx hb hr hlocks (Or.inl ⟨rfl, by omega⟩) dX1_owner_25
set_option maxHeartbeats 4000000 in
set_option maxRecDepth 100000 in
theorem mx1_freeCells (l : Launch) {D : va_G} {ad : Nat → Nat} {dB dN : ClassId} {Cw Rw n hc cn : Int} {Lf Bt Wd Hg FB HO CA SS SH : Int → Int} (h3 : byt Wd) : MetR l yX1_freeCells cX1_freeCells 3 .int 0 0 [.ref (ad 0)] D (XW ad dB dN Cw Rw n hc cn Lf Bt Wd Hg FB HO CA SS SH) (tX dB dN) (fun z => z = Cw * Rw - sumI (arId Wd Hg) 20) := by
  refine ri_met RX1 rfl (by decide) (Nat.le_of_ble_eq_true rfl) ?_
  intro p e s m below meth c hx hb hr hts hown hlocks hml hnm hv ls hl
  obtain ⟨hP, hK⟩ := hv
  have hl : lv_has ls 3 [(0, .ref (ad 0))] := hl
  refine lv_aload_n hx hb dX1_freeCells_0 rfl (lv_at hl 0 rfl) ?_
  refine gx_Cw hx hb hts hown hK hP dX1_freeCells_1 ?_
  refine lv_aload_n hx hb dX1_freeCells_4 rfl (lv_at hl 0 rfl) ?_
  refine gx_Rw hx hb hts hown hK hP dX1_freeCells_5 ?_
  refine ri_imul hx hb dX1_freeCells_8 ?_
  refine lv_istore_n (lv' := [(1, .int (iI (Cw * Rw))), (0, .ref (ad 0))]) hx hb dX1_freeCells_9 rfl hl (by decide) rfl (fun ls hl => ?_)
  refine ri_iconst hx hb dX1_freeCells_10 ?_
  refine lv_istore_n (lv' := [(2, .int (iI 0)), (1, .int (iI (Cw * Rw))), (0, .ref (ad 0))]) hx hb dX1_freeCells_11 rfl hl (by decide) rfl (fun ls hl => ?_)
  refine ri_loop (σ := Int × Int) (nL := 3) (fun ((k, q) : Int × Int) => (20 - k).toNat) (fun ((k, q) : Int × Int) => 0 ≤ k ∧ k ≤ 20 ∧ q = Cw * Rw - sumI (arId Wd Hg) k.toNat) (fun ((k, q) : Int × Int) => [(0, .ref (ad 0)), (1, .int (iI q)), (2, .int (iI k))]) (0, Cw * Rw) ?_ (lv_sub hl [2, 1, 0] rfl) ?_
  · show 0 ≤ (0 : Int) ∧ (0 : Int) ≤ 20 ∧ Cw * Rw = Cw * Rw - sumI (arId Wd Hg) (0 : Int).toNat
    exact ⟨by omega, by omega, by simp [sumI]⟩
  · rintro ⟨k, q⟩ ls hI hl ih12
    replace hI : 0 ≤ k ∧ k ≤ 20 ∧ q = Cw * Rw - sumI (arId Wd Hg) k.toNat := hI
    obtain ⟨hk0, hk1, hq⟩ := hI
    replace hl : lv_has ls 3 [(0, .ref (ad 0)), (1, .int (iI q)), (2, .int (iI k))] := hl
    refine lv_iload_n hx hb dX1_freeCells_12 rfl (lv_at hl 2 rfl) ?_
    refine ri_bipush hx hb dX1_freeCells_13 (by decide +kernel) ?_
    refine ri_icmp_ge (tgt := 49) hx hb dX1_freeCells_15 (by decide) (by omega) (by omega) (fun c15 => ?_) (fun c15 => ?_)
    · refine lv_iload_n hx hb dX1_freeCells_49 rfl (lv_at hl 1 rfl) ?_
      have e : k = 20 := by omega
      subst e
      exact ri_ret hx hb hr hlocks (hq) dX1_freeCells_50
    · have b3 := h3 k (by omega) (by omega)
      have hs := sumI_step (arId Wd Hg) hk0
      refine lv_aload_n hx hb dX1_freeCells_18 rfl (lv_at hl 0 rfl) ?_
      refine gx_Wd hx hb hts hown hK hP dX1_freeCells_19 ?_
      refine lv_iload_n hx hb dX1_freeCells_22 rfl (lv_at hl 2 rfl) ?_
      refine ri_bald hx hb hK hP 3 0 rfl rfl (by omega) (by decide) dX1_freeCells_23 ?_
      refine ri_if_eq (tgt := 43) hx hb dX1_freeCells_24 (by decide) (by omega) (fun c24 => ?_) (fun c24 => ?_)
      · refine ri_iinc (k := 2) (lv' := [(2, .int (iI (k + 1))), (0, .ref (ad 0)), (1, .int (iI q))]) hx hb dX1_freeCells_43 hl rfl (by decide) rfl (fun ls hl => ?_)
        refine lv_goto (tgt := 12) hx hb dX1_freeCells_46 (by decide) ?_
        exact ih12 (k + 1, q) ls (show 0 ≤ k + 1 ∧ k + 1 ≤ 20 ∧ q = Cw * Rw - sumI (arId Wd Hg) (k + 1).toNat from ⟨by omega, by omega, by rw [hs, hq]; simp [arId, c24]⟩) (show (20 - (k + 1)).toNat < (20 - k).toNat by omega) (lv_sub hl [1, 2, 0] rfl)
      · refine lv_iload_n hx hb dX1_freeCells_27 rfl (lv_at hl 1 rfl) ?_
        refine lv_aload_n hx hb dX1_freeCells_28 rfl (lv_at hl 0 rfl) ?_
        refine gx_Wd hx hb hts hown hK hP dX1_freeCells_29 ?_
        refine lv_iload_n hx hb dX1_freeCells_32 rfl (lv_at hl 2 rfl) ?_
        refine ri_bald hx hb hK hP 3 0 rfl rfl (by omega) (by decide) dX1_freeCells_33 ?_
        refine lv_aload_n hx hb dX1_freeCells_34 rfl (lv_at hl 0 rfl) ?_
        refine gx_Hg hx hb hts hown hK hP dX1_freeCells_35 ?_
        refine lv_iload_n hx hb dX1_freeCells_38 rfl (lv_at hl 2 rfl) ?_
        refine ri_bald hx hb hK hP 4 0 rfl rfl (by omega) (by decide) dX1_freeCells_39 ?_
        refine ri_imul hx hb dX1_freeCells_40 ?_
        refine ri_isub hx hb dX1_freeCells_41 ?_
        refine lv_istore_n (lv' := [(1, .int (iI (q - ((Wd k) * (Hg k))))), (0, .ref (ad 0)), (2, .int (iI k))]) hx hb dX1_freeCells_42 rfl hl (by decide) rfl (fun ls hl => ?_)
        refine ri_iinc (k := 2) (lv' := [(2, .int (iI (k + 1))), (1, .int (iI (q - ((Wd k) * (Hg k))))), (0, .ref (ad 0))]) hx hb dX1_freeCells_43 hl rfl (by decide) rfl (fun ls hl => ?_)
        refine lv_goto (tgt := 12) hx hb dX1_freeCells_46 (by decide) ?_
        exact ih12 (k + 1, q - Wd k * Hg k) ls (show 0 ≤ k + 1 ∧ k + 1 ≤ 20 ∧ q - Wd k * Hg k = Cw * Rw - sumI (arId Wd Hg) (k + 1).toNat from ⟨by omega, by omega, by rw [hs, hq]; simp only [arId, c24, if_false]; omega⟩) (show (20 - (k + 1)).toNat < (20 - k).toNat by omega) (lv_sub hl [2, 1, 0] rfl)
set_option maxHeartbeats 4000000 in
set_option maxRecDepth 100000 in
theorem mx1_holes (l : Launch) {D : va_G} {ad : Nat → Nat} {dB dN : ClassId} {Cw Rw n hc cn : Int} {Lf Bt Wd Hg FB HO CA SS SH : Int → Int} : MetR l yX1_holes cX1_holes 1 .int 0 0 [.ref (ad 0)] D (XW ad dB dN Cw Rw n hc cn Lf Bt Wd Hg FB HO CA SS SH) (tX dB dN) (fun z => z = hc) := by
  refine ri_met RX1 rfl (by decide) (Nat.le_of_ble_eq_true rfl) ?_
  intro p e s m below meth c hx hb hr hts hown hlocks hml hnm hv ls hl
  obtain ⟨hP, hK⟩ := hv
  have hl : lv_has ls 1 [(0, .ref (ad 0))] := hl
  refine lv_aload_n hx hb dX1_holes_0 rfl (lv_at hl 0 rfl) ?_
  refine gx_hc hx hb hts hown hK hP dX1_holes_1 ?_
  exact ri_ret hx hb hr hlocks (rfl) dX1_holes_4
set_option maxHeartbeats 4000000 in
set_option maxRecDepth 100000 in
theorem mx1_largestHole (l : Launch) {D : va_G} {ad : Nat → Nat} {dB dN : ClassId} {Cw Rw n hc cn : Int} {Lf Bt Wd Hg FB HO CA SS SH : Int → Int} (hhc : 0 ≤ hc ∧ hc ≤ 256) (ho : okQ HO hc) : MetR l yX1_largestHole cX1_largestHole 4 .int 1 21 [.ref (ad 0)] D (XW ad dB dN Cw Rw n hc cn Lf Bt Wd Hg FB HO CA SS SH) (tX dB dN) (fun z => MaxA HO hc z) := by
  refine ri_met RX1 rfl (by decide) (Nat.le_of_ble_eq_true rfl) ?_
  intro p e s m below meth c hx hb hr hts hown hlocks hml hnm hv ls hl
  obtain ⟨hP, hK⟩ := hv
  have hl : lv_has ls 4 [(0, .ref (ad 0))] := hl
  refine ri_iconst hx hb dX1_largestHole_0 ?_
  refine lv_istore_n (lv' := [(1, .int (iI 0)), (0, .ref (ad 0))]) hx hb dX1_largestHole_1 rfl hl (by decide) rfl (fun ls hl => ?_)
  refine ri_iconst hx hb dX1_largestHole_2 ?_
  refine lv_istore_n (lv' := [(2, .int (iI 0)), (1, .int (iI 0)), (0, .ref (ad 0))]) hx hb dX1_largestHole_3 rfl hl (by decide) rfl (fun ls hl => ?_)
  refine ri_loop (σ := Int × Int) (nL := 4) (fun ((k, b) : Int × Int) => (hc - k).toNat) (fun ((k, b) : Int × Int) => 0 ≤ k ∧ k ≤ hc ∧ MaxA HO k b) (fun ((k, b) : Int × Int) => [(0, .ref (ad 0)), (1, .int (iI b)), (2, .int (iI k))]) (0, 0) ?_ (lv_sub hl [2, 1, 0] rfl) ?_
  · show 0 ≤ (0 : Int) ∧ (0 : Int) ≤ hc ∧ MaxA HO (0 : Int) (0 : Int)
    exact ⟨by omega, by omega, MaxA_0 _⟩
  · rintro ⟨k, b⟩ ls hI hl ih4
    replace hI : 0 ≤ k ∧ k ≤ hc ∧ MaxA HO k b := hI
    obtain ⟨hk0, hk1, hM⟩ := hI
    replace hl : lv_has ls 4 [(0, .ref (ad 0)), (1, .int (iI b)), (2, .int (iI k))] := hl
    refine lv_iload_n hx hb dX1_largestHole_4 rfl (lv_at hl 2 rfl) ?_
    refine lv_aload_n hx hb dX1_largestHole_5 rfl (lv_at hl 0 rfl) ?_
    refine gx_hc hx hb hts hown hK hP dX1_largestHole_6 ?_
    refine ri_icmp_ge (tgt := 47) hx hb dX1_largestHole_9 (by decide) (by omega) (by omega) (fun c9 => ?_) (fun c9 => ?_)
    · refine lv_iload_n hx hb dX1_largestHole_47 rfl (lv_at hl 1 rfl) ?_
      have e : k = hc := by omega
      subst e
      exact ri_ret hx hb hr hlocks (hM) dX1_largestHole_48
    · have hq := ho k (by omega) (by omega)
      have hbr : 0 ≤ b ∧ b ≤ 961 := ⟨hM.1, hM.2.1⟩
      have har := areaQ_rng hq
      refine lv_aload_n hx hb dX1_largestHole_12 rfl (lv_at hl 0 rfl) ?_
      refine lv_aload_n hx hb dX1_largestHole_13 rfl (lv_at hl 0 rfl) ?_
      refine gx_HO hx hb hts hown hK hP dX1_largestHole_14 ?_
      refine lv_iload_n hx hb dX1_largestHole_17 rfl (lv_at hl 2 rfl) ?_
      refine ri_iald hx hb hK hP 6 1 rfl rfl (by omega) (by decide) dX1_largestHole_18 ?_
      refine ri_callR (rest := []) (ci := 0) (q0 := 0) (mx1_wideOf l (HO k) (by omega)) hx hb hml hown hts (cwV 1 hts (lw_V q106 q108 qs3 q31 q109) rfl rfl rfl (by decide +kernel) ⟨Nat.le_of_ble_eq_true rfl, Nat.le_of_ble_eq_true rfl⟩) hK hP rfl rfl rfl hl.1 rfl (Nat.le_of_ble_eq_true rfl) dX1_largestHole_19 ⟨Nat.zero_le _, Nat.zero_le _⟩ (fun z5 hz5 => ?_)
      subst hz5
      refine lv_aload_n hx hb dX1_largestHole_22 rfl (lv_at hl 0 rfl) ?_
      refine lv_aload_n hx hb dX1_largestHole_23 rfl (lv_at hl 0 rfl) ?_
      refine gx_HO hx hb hts hown hK hP dX1_largestHole_24 ?_
      refine lv_iload_n hx hb dX1_largestHole_27 rfl (lv_at hl 2 rfl) ?_
      refine ri_iald hx hb hK hP 6 1 rfl rfl (by omega) (by decide) dX1_largestHole_28 ?_
      refine ri_callR (rest := [.int (iI (wd (HO k)))]) (ci := 0) (q0 := 0) (mx1_highOf l (HO k) (by omega)) hx hb hml hown hts (cwV 1 hts (lw_V q110 q112 qs4 q31 q113) rfl rfl rfl (by decide +kernel) ⟨Nat.le_of_ble_eq_true rfl, Nat.le_of_ble_eq_true rfl⟩) hK hP rfl rfl rfl hl.1 rfl (Nat.le_of_ble_eq_true rfl) dX1_largestHole_29 ⟨Nat.zero_le _, Nat.zero_le _⟩ (fun z6 hz6 => ?_)
      subst hz6
      refine ri_imul hx hb dX1_largestHole_32 ?_
      refine ri_cast (b := areaQ (HO k)) (rfl) ?_
      refine lv_istore_n (lv' := [(3, .int (iI (areaQ (HO k)))), (0, .ref (ad 0)), (1, .int (iI b)), (2, .int (iI k))]) hx hb dX1_largestHole_33 rfl hl (by decide) rfl (fun ls hl => ?_)
      refine lv_iload_n hx hb dX1_largestHole_34 rfl (lv_at hl 0 rfl) ?_
      refine lv_iload_n hx hb dX1_largestHole_35 rfl (lv_at hl 2 rfl) ?_
      refine ri_icmp_le (tgt := 41) hx hb dX1_largestHole_36 (by decide) (by omega) (by omega) (fun c36 => ?_) (fun c36 => ?_)
      · refine ri_iinc (k := 3) (lv' := [(2, .int (iI (k + 1))), (3, .int (iI (areaQ (HO k)))), (0, .ref (ad 0)), (1, .int (iI b))]) hx hb dX1_largestHole_41 hl rfl (by decide) rfl (fun ls hl => ?_)
        refine lv_goto (tgt := 4) hx hb dX1_largestHole_44 (by decide) ?_
        exact ih4 (k + 1, b) ls (show 0 ≤ k + 1 ∧ k + 1 ≤ hc ∧ MaxA HO (k + 1) b from ⟨by omega, by omega, MaxA_keep hM (by omega)⟩) (show (hc - (k + 1)).toNat < (hc - k).toNat by omega) (lv_sub hl [2, 3, 0] rfl)
      · refine lv_iload_n hx hb dX1_largestHole_39 rfl (lv_at hl 0 rfl) ?_
        refine lv_istore_n (lv' := [(1, .int (iI (areaQ (HO k)))), (3, .int (iI (areaQ (HO k)))), (0, .ref (ad 0)), (2, .int (iI k))]) hx hb dX1_largestHole_40 rfl hl (by decide) rfl (fun ls hl => ?_)
        refine ri_iinc (k := 3) (lv' := [(2, .int (iI (k + 1))), (1, .int (iI (areaQ (HO k)))), (3, .int (iI (areaQ (HO k)))), (0, .ref (ad 0))]) hx hb dX1_largestHole_41 hl rfl (by decide) rfl (fun ls hl => ?_)
        refine lv_goto (tgt := 4) hx hb dX1_largestHole_44 (by decide) ?_
        exact ih4 (k + 1, areaQ (HO k)) ls (show 0 ≤ k + 1 ∧ k + 1 ≤ hc ∧ MaxA HO (k + 1) (areaQ (HO k)) from ⟨by omega, by omega, MaxA_take hk0 hM hq (by omega)⟩) (show (hc - (k + 1)).toNat < (hc - k).toNat by omega) (lv_sub hl [3, 1, 0] rfl)
set_option maxHeartbeats 4000000 in
set_option maxRecDepth 100000 in
theorem mx1_bestPlace (l : Launch) {D : va_G} {ad : Nat → Nat} {dB dN : ClassId} {Cw Rw n hc cn : Int} {Lf Bt Wd Hg FB HO CA SS SH : Int → Int} (w h : Int) (hw : -2147483648 ≤ w ∧ w < 2147483648) (hh : -2147483648 ≤ h ∧ h < 2147483648) (hhc : 0 ≤ hc ∧ hc ≤ 256) (ho : okQ HO hc) : MetR l yX1_bestPlace cX1_bestPlace 3 .int 2 47 [.ref (ad 0), .int (iI w), .int (iI h)] D (XW ad dB dN Cw Rw n hc cn Lf Bt Wd Hg FB HO CA SS SH) (tX dB dN) (fun z => (z = -1 ∧ ¬ sizeP w h) ∨ (sizeP w h ∧ LowS HO hc w h z)) := by
  refine ri_met RX1 rfl (by decide) (Nat.le_of_ble_eq_true rfl) ?_
  intro p e s m below meth c hx hb hr hts hown hlocks hml hnm hv ls hl
  obtain ⟨hP, hK⟩ := hv
  have hl : lv_has ls 3 [(0, .ref (ad 0)), (1, .int (iI w)), (2, .int (iI h))] := hl
  refine lv_aload_n hx hb dX1_bestPlace_0 rfl (lv_at hl 0 rfl) ?_
  refine lv_iload_n hx hb dX1_bestPlace_1 rfl (lv_at hl 1 rfl) ?_
  refine lv_iload_n hx hb dX1_bestPlace_2 rfl (lv_at hl 2 rfl) ?_
  refine ri_callR (rest := []) (ci := 0) (q0 := 0) (mx1_isSize l w h hw hh) hx hb hml hown hts (cwV 2 hts (lw_V q98 q100 qs1 q31 q101) rfl rfl rfl (by decide +kernel) ⟨Nat.le_of_ble_eq_true rfl, Nat.le_of_ble_eq_true rfl⟩) hK hP rfl rfl rfl hl.1 rfl (Nat.le_of_ble_eq_true rfl) dX1_bestPlace_3 ⟨Nat.zero_le _, Nat.zero_le _⟩ (fun u hu => ?_)
  refine ri_if_eq (tgt := 18) hx hb dX1_bestPlace_6 (by decide) (by omega) (fun c6 => ?_) (fun c6 => ?_)
  · refine ri_iconst hx hb dX1_bestPlace_18 ?_
    exact ri_ret hx hb hr hlocks (Or.inl ⟨rfl, by unfold sizeP; omega⟩) dX1_bestPlace_19
  · refine lv_aload_n hx hb dX1_bestPlace_9 rfl (lv_at hl 0 rfl) ?_
    refine lv_iload_n hx hb dX1_bestPlace_10 rfl (lv_at hl 1 rfl) ?_
    refine lv_iload_n hx hb dX1_bestPlace_11 rfl (lv_at hl 2 rfl) ?_
    refine ri_callR (rest := []) (ci := 0) (q0 := 0) (mx1_lowest l w h hw hh hhc ho) hx hb hml hown hts (cwV 2 hts (lw_V q102 q104 qs2 q31 q105) rfl rfl rfl (by decide +kernel) ⟨Nat.le_of_ble_eq_true rfl, Nat.le_of_ble_eq_true rfl⟩) hK hP rfl rfl rfl hl.1 rfl (Nat.le_of_ble_eq_true rfl) dX1_bestPlace_12 ⟨Nat.zero_le _, Nat.zero_le _⟩ (fun v hv => ?_)
    refine lv_goto (tgt := 19) hx hb dX1_bestPlace_15 (by decide) ?_
    exact ri_ret hx hb hr hlocks (Or.inr ⟨by unfold sizeP; omega, hv⟩) dX1_bestPlace_19
set_option maxHeartbeats 4000000 in
set_option maxRecDepth 100000 in
theorem mx1_fitting (l : Launch) {D : va_G} {ad : Nat → Nat} {dB dN : ClassId} {Cw Rw n hc cn : Int} {Lf Bt Wd Hg FB HO CA SS SH : Int → Int} (hhc : 0 ≤ hc ∧ hc ≤ 256) (ho : okQ HO hc) : MetR l yX1_fitting cX1_fitting 5 .int 1 21 [.ref (ad 0)] D (XW ad dB dN Cw Rw n hc cn Lf Bt Wd Hg FB HO CA SS SH) (tX dB dN) (fun z => z = sumI (fun v => mxH HO (v + 1) hc.toNat) 16) := by
  refine ri_met RX1 rfl (by decide) (Nat.le_of_ble_eq_true rfl) ?_
  intro p e s m below meth c hx hb hr hts hown hlocks hml hnm hv ls hl
  obtain ⟨hP, hK⟩ := hv
  have hl : lv_has ls 5 [(0, .ref (ad 0))] := hl
  refine ri_iconst hx hb dX1_fitting_0 ?_
  refine lv_istore_n (lv' := [(1, .int (iI 0)), (0, .ref (ad 0))]) hx hb dX1_fitting_1 rfl hl (by decide) rfl (fun ls hl => ?_)
  refine ri_iconst hx hb dX1_fitting_2 ?_
  refine lv_istore_n (lv' := [(2, .int (iI 1)), (1, .int (iI 0)), (0, .ref (ad 0))]) hx hb dX1_fitting_3 rfl hl (by decide) rfl (fun ls hl => ?_)
  refine ri_loop (σ := Int × Int) (nL := 5) (fun ((w, q) : Int × Int) => (17 - w).toNat) (fun ((w, q) : Int × Int) => 1 ≤ w ∧ w ≤ 17 ∧ q = sumI (fun v => mxH HO (v + 1) hc.toNat) (w - 1).toNat) (fun ((w, q) : Int × Int) => [(0, .ref (ad 0)), (1, .int (iI q)), (2, .int (iI w))]) (1, 0) ?_ (lv_sub hl [2, 1, 0] rfl) ?_
  · show 1 ≤ (1 : Int) ∧ (1 : Int) ≤ 17 ∧ (0 : Int) = sumI (fun v => mxH HO (v + 1) hc.toNat) ((1 : Int) - 1).toNat
    exact ⟨by omega, by omega, by simp [sumI]⟩
  · rintro ⟨w, q⟩ ls hI hl ih4
    replace hI : 1 ≤ w ∧ w ≤ 17 ∧ q = sumI (fun v => mxH HO (v + 1) hc.toNat) (w - 1).toNat := hI
    obtain ⟨hw0, hw1, hq⟩ := hI
    replace hl : lv_has ls 5 [(0, .ref (ad 0)), (1, .int (iI q)), (2, .int (iI w))] := hl
    refine lv_iload_n hx hb dX1_fitting_4 rfl (lv_at hl 2 rfl) ?_
    refine ri_bipush hx hb dX1_fitting_5 (by decide +kernel) ?_
    refine ri_icmp_gt (tgt := 82) hx hb dX1_fitting_7 (by decide) (by omega) (by omega) (fun c7 => ?_) (fun c7 => ?_)
    · refine lv_iload_n hx hb dX1_fitting_82 rfl (lv_at hl 1 rfl) ?_
      have e : w = 17 := by omega
      subst e
      exact ri_ret hx hb hr hlocks (hq) dX1_fitting_83
    · refine ri_iconst hx hb dX1_fitting_10 ?_
      refine lv_istore_n (lv' := [(3, .int (iI 0)), (0, .ref (ad 0)), (1, .int (iI q)), (2, .int (iI w))]) hx hb dX1_fitting_11 rfl hl (by decide) rfl (fun ls hl => ?_)
      refine ri_iconst hx hb dX1_fitting_12 ?_
      refine lv_istore (lv' := [(4, .int (iI 0)), (3, .int (iI 0)), (0, .ref (ad 0)), (1, .int (iI q)), (2, .int (iI w))]) hx hb dX1_fitting_13 hl (by decide) rfl (fun ls hl => ?_)
      refine ri_loop (σ := Int × Int) (nL := 5) (fun ((k, t) : Int × Int) => (hc - k).toNat) (fun ((k, t) : Int × Int) => 0 ≤ k ∧ k ≤ hc ∧ t = mxH HO w k.toNat) (fun ((k, t) : Int × Int) => [(0, .ref (ad 0)), (1, .int (iI q)), (2, .int (iI w)), (3, .int (iI t)), (4, .int (iI k))]) (0, 0) ?_ (lv_sub hl [2, 3, 4, 1, 0] rfl) ?_
      · show 0 ≤ (0 : Int) ∧ (0 : Int) ≤ hc ∧ (0 : Int) = mxH HO w (0 : Int).toNat
        exact ⟨by omega, by omega, by simp [mxH]⟩
      · rintro ⟨k, t⟩ ls hI hl ih15
        replace hI : 0 ≤ k ∧ k ≤ hc ∧ t = mxH HO w k.toNat := hI
        obtain ⟨hk0, hk1, ht⟩ := hI
        replace hl : lv_has ls 5 [(0, .ref (ad 0)), (1, .int (iI q)), (2, .int (iI w)), (3, .int (iI t)), (4, .int (iI k))] := hl
        refine lv_iload hx hb dX1_fitting_15 (lv_at hl 4 rfl) ?_
        refine lv_aload_n hx hb dX1_fitting_17 rfl (lv_at hl 0 rfl) ?_
        refine gx_hc hx hb hts hown hK hP dX1_fitting_18 ?_
        refine ri_icmp_ge (tgt := 72) hx hb dX1_fitting_21 (by decide) (by omega) (by omega) (fun c21 => ?_) (fun c21 => ?_)
        · have e : k = hc := by omega
          rw [e] at ht
          have hs := sumI_step (fun v => mxH HO (v + 1) hc.toNat) (k := w - 1) (by omega)
          rw [show w - 1 + 1 = w by omega] at hs
          refine lv_iload_n hx hb dX1_fitting_72 rfl (lv_at hl 1 rfl) ?_
          refine lv_iload_n hx hb dX1_fitting_73 rfl (lv_at hl 3 rfl) ?_
          refine ri_iadd hx hb dX1_fitting_74 ?_
          refine lv_istore_n (lv' := [(1, .int (iI (q + t))), (0, .ref (ad 0)), (2, .int (iI w)), (3, .int (iI t)), (4, .int (iI k))]) hx hb dX1_fitting_75 rfl hl (by decide) rfl (fun ls hl => ?_)
          refine ri_iinc (k := 2) (lv' := [(2, .int (iI (w + 1))), (1, .int (iI (q + t))), (0, .ref (ad 0)), (3, .int (iI t)), (4, .int (iI k))]) hx hb dX1_fitting_76 hl rfl (by decide) rfl (fun ls hl => ?_)
          refine lv_goto (tgt := 4) hx hb dX1_fitting_79 (by decide) ?_
          exact ih4 (w + 1, q + t) ls (show 1 ≤ w + 1 ∧ w + 1 ≤ 17 ∧ q + t = sumI (fun v => mxH HO (v + 1) hc.toNat) (w + 1 - 1).toNat from ⟨by omega, by omega, by rw [show w + 1 - 1 = w by omega, hs, hq, ht]⟩) (show (17 - (w + 1)).toNat < (17 - w).toNat by omega) (lv_sub hl [2, 1, 0] rfl)
        · have hmr := mxH_rng HO w k.toNat
          have hcode := ho k (by omega) (by omega)
          obtain ⟨a1, a2, a3, a4⟩ := acc_rng hcode
          refine lv_aload_n hx hb dX1_fitting_24 rfl (lv_at hl 0 rfl) ?_
          refine lv_aload_n hx hb dX1_fitting_25 rfl (lv_at hl 0 rfl) ?_
          refine gx_HO hx hb hts hown hK hP dX1_fitting_26 ?_
          refine lv_iload hx hb dX1_fitting_29 (lv_at hl 4 rfl) ?_
          refine ri_iald hx hb hK hP 6 1 rfl rfl (by omega) (by decide) dX1_fitting_31 ?_
          refine ri_callR (rest := []) (ci := 0) (q0 := 0) (mx1_wideOf l (HO k) (by omega)) hx hb hml hown hts (cwV 1 hts (lw_V q106 q108 qs3 q31 q109) rfl rfl rfl (by decide +kernel) ⟨Nat.le_of_ble_eq_true rfl, Nat.le_of_ble_eq_true rfl⟩) hK hP rfl rfl rfl hl.1 rfl (Nat.le_of_ble_eq_true rfl) dX1_fitting_32 ⟨Nat.zero_le _, Nat.zero_le _⟩ (fun z7 hz7 => ?_)
          subst hz7
          refine lv_iload_n hx hb dX1_fitting_35 rfl (lv_at hl 2 rfl) ?_
          refine ri_icmp_lt (tgt := 66) hx hb dX1_fitting_36 (by decide) (by omega) (by omega) (fun c36 => ?_) (fun c36 => ?_)
          · refine ri_iinc (k := 4) (lv' := [(4, .int (iI (k + 1))), (0, .ref (ad 0)), (1, .int (iI q)), (2, .int (iI w)), (3, .int (iI t))]) hx hb dX1_fitting_66 hl rfl (by decide) rfl (fun ls hl => ?_)
            refine lv_goto (tgt := 15) hx hb dX1_fitting_69 (by decide) ?_
            exact ih15 (k + 1, t) ls (show 0 ≤ k + 1 ∧ k + 1 ≤ hc ∧ t = mxH HO w (k + 1).toNat from ⟨by omega, by omega, by rw [mxH_keep hk0 (fun q => by omega)]; exact ht⟩) (show (hc - (k + 1)).toNat < (hc - k).toNat by omega) (lv_sub hl [1, 2, 3, 4, 0] rfl)
          · refine lv_aload_n hx hb dX1_fitting_39 rfl (lv_at hl 0 rfl) ?_
            refine lv_aload_n hx hb dX1_fitting_40 rfl (lv_at hl 0 rfl) ?_
            refine gx_HO hx hb hts hown hK hP dX1_fitting_41 ?_
            refine lv_iload hx hb dX1_fitting_44 (lv_at hl 4 rfl) ?_
            refine ri_iald hx hb hK hP 6 1 rfl rfl (by omega) (by decide) dX1_fitting_46 ?_
            refine ri_callR (rest := []) (ci := 0) (q0 := 0) (mx1_highOf l (HO k) (by omega)) hx hb hml hown hts (cwV 1 hts (lw_V q110 q112 qs4 q31 q113) rfl rfl rfl (by decide +kernel) ⟨Nat.le_of_ble_eq_true rfl, Nat.le_of_ble_eq_true rfl⟩) hK hP rfl rfl rfl hl.1 rfl (Nat.le_of_ble_eq_true rfl) dX1_fitting_47 ⟨Nat.zero_le _, Nat.zero_le _⟩ (fun z8 hz8 => ?_)
            subst hz8
            refine lv_iload_n hx hb dX1_fitting_50 rfl (lv_at hl 3 rfl) ?_
            refine ri_icmp_le (tgt := 66) hx hb dX1_fitting_51 (by decide) (by omega) (by omega) (fun c51 => ?_) (fun c51 => ?_)
            · refine ri_iinc (k := 4) (lv' := [(4, .int (iI (k + 1))), (0, .ref (ad 0)), (1, .int (iI q)), (2, .int (iI w)), (3, .int (iI t))]) hx hb dX1_fitting_66 hl rfl (by decide) rfl (fun ls hl => ?_)
              refine lv_goto (tgt := 15) hx hb dX1_fitting_69 (by decide) ?_
              exact ih15 (k + 1, t) ls (show 0 ≤ k + 1 ∧ k + 1 ≤ hc ∧ t = mxH HO w (k + 1).toNat from ⟨by omega, by omega, by rw [mxH_keep hk0 (fun q => by omega)]; exact ht⟩) (show (hc - (k + 1)).toNat < (hc - k).toNat by omega) (lv_sub hl [1, 2, 3, 4, 0] rfl)
            · refine lv_aload_n hx hb dX1_fitting_54 rfl (lv_at hl 0 rfl) ?_
              refine lv_aload_n hx hb dX1_fitting_55 rfl (lv_at hl 0 rfl) ?_
              refine gx_HO hx hb hts hown hK hP dX1_fitting_56 ?_
              refine lv_iload hx hb dX1_fitting_59 (lv_at hl 4 rfl) ?_
              refine ri_iald hx hb hK hP 6 1 rfl rfl (by omega) (by decide) dX1_fitting_61 ?_
              refine ri_callR (rest := []) (ci := 0) (q0 := 0) (mx1_highOf l (HO k) (by omega)) hx hb hml hown hts (cwV 1 hts (lw_V q110 q112 qs4 q31 q113) rfl rfl rfl (by decide +kernel) ⟨Nat.le_of_ble_eq_true rfl, Nat.le_of_ble_eq_true rfl⟩) hK hP rfl rfl rfl hl.1 rfl (Nat.le_of_ble_eq_true rfl) dX1_fitting_62 ⟨Nat.zero_le _, Nat.zero_le _⟩ (fun z9 hz9 => ?_)
              subst hz9
              refine lv_istore_n (lv' := [(3, .int (iI (hg (HO k)))), (0, .ref (ad 0)), (1, .int (iI q)), (2, .int (iI w)), (4, .int (iI k))]) hx hb dX1_fitting_65 rfl hl (by decide) rfl (fun ls hl => ?_)
              refine ri_iinc (k := 4) (lv' := [(4, .int (iI (k + 1))), (3, .int (iI (hg (HO k)))), (0, .ref (ad 0)), (1, .int (iI q)), (2, .int (iI w))]) hx hb dX1_fitting_66 hl rfl (by decide) rfl (fun ls hl => ?_)
              refine lv_goto (tgt := 15) hx hb dX1_fitting_69 (by decide) ?_
              exact ih15 (k + 1, hg (HO k)) ls (show 0 ≤ k + 1 ∧ k + 1 ≤ hc ∧ hg (HO k) = mxH HO w (k + 1).toNat from ⟨by omega, by omega, by rw [mxH_take hk0 (by omega) (by omega)]⟩) (show (hc - (k + 1)).toNat < (hc - k).toNat by omega) (lv_sub hl [2, 3, 4, 1, 0] rfl)
set_option maxHeartbeats 4000000 in
set_option maxRecDepth 100000 in
theorem mx1_heightAt (l : Launch) {D : va_G} {ad : Nat → Nat} {dB dN : ClassId} {Cw Rw n hc cn : Int} {Lf Bt Wd Hg FB HO CA SS SH : Int → Int} (x y : Int) (hx' : 0 ≤ x ∧ x < 16) (hy : 0 ≤ y ∧ y ≤ Rw) (hR : 4 ≤ Rw ∧ Rw ≤ 16) (hF : ∀ k, 0 ≤ k → k < 16 → 0 ≤ FB k ∧ FB k < 65536) : MetR l yX1_heightAt cX1_heightAt 4 .int 0 0 [.ref (ad 0), .int (iI x), .int (iI y)] D (XW ad dB dN Cw Rw n hc cn Lf Bt Wd Hg FB HO CA SS SH) (tX dB dN) (fun z => ∃ t, y ≤ t ∧ t ≤ Rw ∧ z = t - y ∧ (∀ j, y ≤ j → j < t → tb (FB j) x) ∧ (t = Rw ∨ ¬ tb (FB t) x)) := by
  refine ri_met RX1 rfl (by decide) (Nat.le_of_ble_eq_true rfl) ?_
  intro p e s m below meth c hx hb hr hts hown hlocks hml hnm hv ls hl
  obtain ⟨hP, hK⟩ := hv
  have hl : lv_has ls 4 [(0, .ref (ad 0)), (1, .int (iI x)), (2, .int (iI y))] := hl
  refine lv_iload_n hx hb dX1_heightAt_0 rfl (lv_at hl 2 rfl) ?_
  refine lv_istore_n (lv' := [(3, .int (iI y)), (0, .ref (ad 0)), (1, .int (iI x)), (2, .int (iI y))]) hx hb dX1_heightAt_1 rfl hl (by decide) rfl (fun ls hl => ?_)
  refine ri_loop (σ := Int) (nL := 4) (fun (t : Int) => (Rw - t).toNat) (fun (t : Int) => y ≤ t ∧ t ≤ Rw ∧ ∀ j, y ≤ j → j < t → tb (FB j) x) (fun (t : Int) => [(0, .ref (ad 0)), (1, .int (iI x)), (2, .int (iI y)), (3, .int (iI t))]) (y) ?_ (lv_sub hl [1, 2, 3, 0] rfl) ?_
  · show y ≤ y ∧ y ≤ Rw ∧ ∀ j, y ≤ j → j < y → tb (FB j) x
    exact ⟨by omega, by omega, fun j a b => absurd b (by omega)⟩
  · rintro t ls hI hl ih2
    replace hI : y ≤ t ∧ t ≤ Rw ∧ ∀ j, y ≤ j → j < t → tb (FB j) x := hI
    obtain ⟨ht0, ht1, hall⟩ := hI
    replace hl : lv_has ls 4 [(0, .ref (ad 0)), (1, .int (iI x)), (2, .int (iI y)), (3, .int (iI t))] := hl
    refine lv_iload_n hx hb dX1_heightAt_2 rfl (lv_at hl 3 rfl) ?_
    refine lv_aload_n hx hb dX1_heightAt_3 rfl (lv_at hl 0 rfl) ?_
    refine gx_Rw hx hb hts hown hK hP dX1_heightAt_4 ?_
    refine ri_icmp_ge (tgt := 29) hx hb dX1_heightAt_7 (by decide) (by omega) (by omega) (fun c7 => ?_) (fun c7 => ?_)
    · refine lv_iload_n hx hb dX1_heightAt_29 rfl (lv_at hl 3 rfl) ?_
      refine lv_iload_n hx hb dX1_heightAt_30 rfl (lv_at hl 2 rfl) ?_
      refine ri_isub hx hb dX1_heightAt_31 ?_
      exact ri_ret hx hb hr hlocks (⟨t, ht0, ht1, rfl, hall, Or.inl (by omega)⟩) dX1_heightAt_32
    · have hf := hF t (by omega) (by omega)
      have hd := tb_div (m := FB t) (x := x) hf.1
      have hdv : 0 ≤ FB t / 2 ^ x.toNat ∧ FB t / 2 ^ x.toNat < 65536 := ⟨Int.ediv_nonneg hf.1 (by have := pow_pos_i x.toNat; omega), Int.lt_of_le_of_lt (Int.ediv_le_self _ hf.1) hf.2⟩
      refine lv_aload_n hx hb dX1_heightAt_10 rfl (lv_at hl 0 rfl) ?_
      refine gx_FB hx hb hts hown hK hP dX1_heightAt_11 ?_
      refine lv_iload_n hx hb dX1_heightAt_14 rfl (lv_at hl 3 rfl) ?_
      refine ri_iald hx hb hK hP 5 1 rfl rfl (by omega) (by decide) dX1_heightAt_15 ?_
      refine lv_iload_n hx hb dX1_heightAt_16 rfl (lv_at hl 1 rfl) ?_
      refine lv_ishr hx hb dX1_heightAt_17 ?_
      refine ri_top (a := FB t / 2 ^ x.toNat) (sh_rv (by omega) (by omega)) ?_
      refine ri_iconst hx hb dX1_heightAt_18 ?_
      refine lv_iand hx hb dX1_heightAt_19 ?_
      refine ri_top (a := FB t / 2 ^ x.toNat % 2) (sh_and 1 _ (by decide +kernel) (by omega)) ?_
      refine ri_if_eq (tgt := 29) hx hb dX1_heightAt_20 (by decide) (by omega) (fun c20 => ?_) (fun c20 => ?_)
      · refine lv_iload_n hx hb dX1_heightAt_29 rfl (lv_at hl 3 rfl) ?_
        refine lv_iload_n hx hb dX1_heightAt_30 rfl (lv_at hl 2 rfl) ?_
        refine ri_isub hx hb dX1_heightAt_31 ?_
        exact ri_ret hx hb hr hlocks (⟨t, ht0, ht1, rfl, hall, Or.inr (hd.2.mp c20)⟩) dX1_heightAt_32
      · refine ri_iinc (k := 3) (lv' := [(3, .int (iI (t + 1))), (0, .ref (ad 0)), (1, .int (iI x)), (2, .int (iI y))]) hx hb dX1_heightAt_23 hl rfl (by decide) rfl (fun ls hl => ?_)
        refine lv_goto (tgt := 2) hx hb dX1_heightAt_26 (by decide) ?_
        exact ih2 (t + 1) ls (show y ≤ t + 1 ∧ t + 1 ≤ Rw ∧ ∀ j, y ≤ j → j < t + 1 → tb (FB j) x from ⟨by omega, by omega, all_stepY hall (hd.1.mp (by omega))⟩) (show (Rw - (t + 1)).toNat < (Rw - t).toNat by omega) (lv_sub hl [1, 2, 3, 0] rfl)
set_option maxHeartbeats 4000000 in
set_option maxRecDepth 100000 in
theorem mx1_isCovered (l : Launch) {D : va_G} {ad : Nat → Nat} {dB dN : ClassId} {Cw Rw n hc cn : Int} {Lf Bt Wd Hg FB HO CA SS SH : Int → Int} (k : Int) (hcn : 0 ≤ cn ∧ cn ≤ 1024) (hk : 0 ≤ k ∧ k < cn) (ho : okQ CA cn) : MetR l yX1_isCovered cX1_isCovered 4 .boolean 2 43 [.ref (ad 0), .int (iI k)] D (XW ad dB dN Cw Rw n hc cn Lf Bt Wd Hg FB HO CA SS SH) (tX dB dN) (fun z => (z = 1 ∧ ∃ j, 0 ≤ j ∧ j < cn ∧ covQ CA k j) ∨ (z = 0 ∧ ∀ j, 0 ≤ j → j < cn → ¬ covQ CA k j)) := by
  refine ri_met RX1 rfl (by decide) (Nat.le_of_ble_eq_true rfl) ?_
  intro p e s m below meth c hx hb hr hts hown hlocks hml hnm hv ls hl
  obtain ⟨hP, hK⟩ := hv
  have hl : lv_has ls 4 [(0, .ref (ad 0)), (1, .int (iI k))] := hl
  have hqk := ho k (by omega) (by omega)
  refine lv_aload_n hx hb dX1_isCovered_0 rfl (lv_at hl 0 rfl) ?_
  refine gx_CA hx hb hts hown hK hP dX1_isCovered_1 ?_
  refine lv_iload_n hx hb dX1_isCovered_4 rfl (lv_at hl 1 rfl) ?_
  refine ri_iald hx hb hK hP 7 1 rfl rfl (by omega) (by decide) dX1_isCovered_5 ?_
  refine lv_istore_n (lv' := [(2, .int (iI (CA k))), (0, .ref (ad 0)), (1, .int (iI k))]) hx hb dX1_isCovered_6 rfl hl (by decide) rfl (fun ls hl => ?_)
  refine ri_iconst hx hb dX1_isCovered_7 ?_
  refine lv_istore_n (lv' := [(3, .int (iI 0)), (2, .int (iI (CA k))), (0, .ref (ad 0)), (1, .int (iI k))]) hx hb dX1_isCovered_8 rfl hl (by decide) rfl (fun ls hl => ?_)
  refine ri_loop (σ := Int) (nL := 4) (fun (j : Int) => (cn - j).toNat) (fun (j : Int) => 0 ≤ j ∧ j ≤ cn ∧ ∀ i, 0 ≤ i → i < j → ¬ covQ CA k i) (fun (j : Int) => [(0, .ref (ad 0)), (1, .int (iI k)), (2, .int (iI (CA k))), (3, .int (iI j))]) (0) ?_ (lv_sub hl [2, 3, 1, 0] rfl) ?_
  · show 0 ≤ (0 : Int) ∧ (0 : Int) ≤ cn ∧ ∀ i, 0 ≤ i → i < (0 : Int) → ¬ covQ CA k i
    exact ⟨by omega, by omega, fun j a b => absurd b (by omega)⟩
  · rintro j ls hI hl ih9
    replace hI : 0 ≤ j ∧ j ≤ cn ∧ ∀ i, 0 ≤ i → i < j → ¬ covQ CA k i := hI
    obtain ⟨hj0, hj1, hno⟩ := hI
    replace hl : lv_has ls 4 [(0, .ref (ad 0)), (1, .int (iI k)), (2, .int (iI (CA k))), (3, .int (iI j))] := hl
    refine lv_iload_n hx hb dX1_isCovered_9 rfl (lv_at hl 3 rfl) ?_
    refine lv_aload_n hx hb dX1_isCovered_10 rfl (lv_at hl 0 rfl) ?_
    refine gx_cn hx hb hts hown hK hP dX1_isCovered_11 ?_
    refine ri_icmp_ge (tgt := 62) hx hb dX1_isCovered_14 (by decide) (by omega) (by omega) (fun c14 => ?_) (fun c14 => ?_)
    · refine ri_iconst hx hb dX1_isCovered_62 ?_
      have e : j = cn := by omega
      subst e
      exact ri_zret hx hb hr hlocks (by omega) (Or.inr ⟨rfl, hno⟩) dX1_isCovered_63
    · have hqj := ho j (by omega) (by omega)
      refine lv_iload_n hx hb dX1_isCovered_17 rfl (lv_at hl 3 rfl) ?_
      refine lv_iload_n hx hb dX1_isCovered_18 rfl (lv_at hl 1 rfl) ?_
      refine ri_icmp_eq (tgt := 56) hx hb dX1_isCovered_19 (by decide) (by omega) (by omega) (fun c19 => ?_) (fun c19 => ?_)
      · refine ri_iinc (k := 3) (lv' := [(3, .int (iI (j + 1))), (0, .ref (ad 0)), (1, .int (iI k)), (2, .int (iI (CA k)))]) hx hb dX1_isCovered_56 hl rfl (by decide) rfl (fun ls hl => ?_)
        refine lv_goto (tgt := 9) hx hb dX1_isCovered_59 (by decide) ?_
        exact ih9 (j + 1) ls (show 0 ≤ j + 1 ∧ j + 1 ≤ cn ∧ ∀ i, 0 ≤ i → i < j + 1 → ¬ covQ CA k i from ⟨by omega, by omega, all_step hno (fun q => q.1 (by omega))⟩) (show (cn - (j + 1)).toNat < (cn - j).toNat by omega) (lv_sub hl [1, 2, 3, 0] rfl)
      · refine lv_aload_n hx hb dX1_isCovered_22 rfl (lv_at hl 0 rfl) ?_
        refine lv_iload_n hx hb dX1_isCovered_23 rfl (lv_at hl 2 rfl) ?_
        refine lv_aload_n hx hb dX1_isCovered_24 rfl (lv_at hl 0 rfl) ?_
        refine gx_CA hx hb hts hown hK hP dX1_isCovered_25 ?_
        refine lv_iload_n hx hb dX1_isCovered_28 rfl (lv_at hl 3 rfl) ?_
        refine ri_iald hx hb hK hP 7 1 rfl rfl (by omega) (by decide) dX1_isCovered_29 ?_
        refine ri_callR (rest := []) (ci := 0) (q0 := 0) (mx1_inside l (CA k) (CA j) hqk hqj) hx hb hml hown hts (cwV 2 hts (lw_V q150 q152 qs14 q31 q153) rfl rfl rfl (by decide +kernel) ⟨Nat.le_of_ble_eq_true rfl, Nat.le_of_ble_eq_true rfl⟩) hK hP rfl rfl rfl hl.1 rfl (Nat.le_of_ble_eq_true rfl) dX1_isCovered_30 ⟨Nat.zero_le _, Nat.zero_le _⟩ (fun u hu => ?_)
        refine ri_if_ne (tgt := 39) hx hb dX1_isCovered_33 (by decide) (by omega) (fun c33 => ?_) (fun c33 => ?_)
        · refine lv_aload_n hx hb dX1_isCovered_39 rfl (lv_at hl 0 rfl) ?_
          refine gx_CA hx hb hts hown hK hP dX1_isCovered_40 ?_
          refine lv_iload_n hx hb dX1_isCovered_43 rfl (lv_at hl 3 rfl) ?_
          refine ri_iald hx hb hK hP 7 1 rfl rfl (by omega) (by decide) dX1_isCovered_44 ?_
          refine lv_iload_n hx hb dX1_isCovered_45 rfl (lv_at hl 2 rfl) ?_
          refine ri_icmp_ne (tgt := 54) hx hb dX1_isCovered_46 (by decide) (by omega) (by omega) (fun c46 => ?_) (fun c46 => ?_)
          · refine ri_iconst hx hb dX1_isCovered_54 ?_
            exact ri_zret hx hb hr hlocks (by omega) (Or.inl ⟨rfl, j, by omega, by omega, by omega, by unfold insQ; omega, Or.inl c46⟩) dX1_isCovered_55
          · refine lv_iload_n hx hb dX1_isCovered_49 rfl (lv_at hl 3 rfl) ?_
            refine lv_iload_n hx hb dX1_isCovered_50 rfl (lv_at hl 1 rfl) ?_
            refine ri_icmp_ge (tgt := 56) hx hb dX1_isCovered_51 (by decide) (by omega) (by omega) (fun c51 => ?_) (fun c51 => ?_)
            · refine ri_iinc (k := 3) (lv' := [(3, .int (iI (j + 1))), (0, .ref (ad 0)), (1, .int (iI k)), (2, .int (iI (CA k)))]) hx hb dX1_isCovered_56 hl rfl (by decide) rfl (fun ls hl => ?_)
              refine lv_goto (tgt := 9) hx hb dX1_isCovered_59 (by decide) ?_
              exact ih9 (j + 1) ls (show 0 ≤ j + 1 ∧ j + 1 ≤ cn ∧ ∀ i, 0 ≤ i → i < j + 1 → ¬ covQ CA k i from ⟨by omega, by omega, all_step hno (fun q => by have := q.2.2; omega)⟩) (show (cn - (j + 1)).toNat < (cn - j).toNat by omega) (lv_sub hl [1, 2, 3, 0] rfl)
            · refine ri_iconst hx hb dX1_isCovered_54 ?_
              exact ri_zret hx hb hr hlocks (by omega) (Or.inl ⟨rfl, j, by omega, by omega, by omega, by unfold insQ; omega, Or.inr c51⟩) dX1_isCovered_55
        · refine lv_goto (tgt := 56) hx hb dX1_isCovered_36 (by decide) ?_
          refine ri_iinc (k := 3) (lv' := [(3, .int (iI (j + 1))), (0, .ref (ad 0)), (1, .int (iI k)), (2, .int (iI (CA k)))]) hx hb dX1_isCovered_56 hl rfl (by decide) rfl (fun ls hl => ?_)
          refine lv_goto (tgt := 9) hx hb dX1_isCovered_59 (by decide) ?_
          exact ih9 (j + 1) ls (show 0 ≤ j + 1 ∧ j + 1 ≤ cn ∧ ∀ i, 0 ≤ i → i < j + 1 → ¬ covQ CA k i from ⟨by omega, by omega, all_step hno (fun q => by have := q.2.1; unfold insQ at this; omega)⟩) (show (cn - (j + 1)).toNat < (cn - j).toNat by omega) (lv_sub hl [1, 2, 3, 0] rfl)
end
section
/-! lists in arrays; what AtlasPacker's writing methods do -/
/-- the array A begins with the list l -/
def Lst (A : Int → Int) (l : List Int) : Prop := ∀ (i : Nat) (v : Int), l[i]? = some v → A (i : Int) = v
theorem Lst_nil (A : Int → Int) : Lst A [] := fun i v h => by simp at h
theorem Lst_push {A : Int → Int} {l : List Int} (v : Int) (h : Lst A l) : Lst (uI A (l.length : Int) v) (l ++ [v]) := by
  intro i w hw
  by_cases e : i = l.length
  · subst e
    rw [List.getElem?_append_right (Nat.le_refl _), Nat.sub_self] at hw
    simp at hw
    rw [uI_s, hw]
  · have hi : i < (l ++ [v]).length := (List.getElem?_eq_some_iff.mp hw).1
    rw [List.length_append, List.length_singleton] at hi
    rw [List.getElem?_append_left (by omega)] at hw
    rw [uI_n _ (by omega)]
    exact h i w hw
theorem Lst_at {A : Int → Int} {l : List Int} (h : Lst A l) {k : Int} (h0 : 0 ≤ k) (h1 : k < l.length) : l[k.toNat]? = some (A k) := by
  have hk : k.toNat < l.length := by omega
  have h2 := h k.toNat _ (List.getElem?_eq_getElem hk)
  rw [Int.toNat_of_nonneg h0] at h2
  rw [h2]
  exact List.getElem?_eq_getElem hk
theorem Lst_mem {A : Int → Int} {l : List Int} (h : Lst A l) {k : Int} (h0 : 0 ≤ k) (h1 : k < l.length) : A k ∈ l := List.mem_of_getElem? (Lst_at h h0 h1)
theorem Lst_of_mem {A : Int → Int} {l : List Int} (h : Lst A l) {q : Int} (hq : q ∈ l) : ∃ k : Int, 0 ≤ k ∧ k < l.length ∧ A k = q := by
  obtain ⟨i, hi⟩ := List.getElem?_of_mem hq
  have h2 : i < l.length := (List.getElem?_eq_some_iff.mp hi).1
  exact ⟨i, by omega, by omega, h i q hi⟩
theorem take_step {l : List Int} {A : Int → Int} (h : Lst A l) {k : Int} (h0 : 0 ≤ k) (h1 : k < l.length) : l.take (k + 1).toNat = l.take k.toNat ++ [A k] := by
  have e : (k + 1).toNat = k.toNat + 1 := by omega
  rw [e, List.take_add_one, Lst_at h h0 h1]
  rfl
/-- a rectangle within 16 columns and 16 rows -/
def boxQ (q : Int) : Prop := (0 ≤ q ∧ q < 1048576) ∧ lx q + wd q ≤ 16 ∧ by_ q + hg q ≤ 16
theorem boxQ_okQ {A : Int → Int} {l : List Int} (h : Lst A l) (hb : ∀ q ∈ l, boxQ q) : okQ A l.length := fun j h0 h1 => (hb _ (Lst_mem h h0 h1)).1
/-! splitting -/
def s1L (h t : Int) : List Int := if 0 < lx t - lx h then [pk (lx h) (by_ h) (lx t - lx h) (hg h)] else []
def s2L (h t : Int) : List Int := if 0 < lx h + wd h - lx t - wd t then [pk (lx h + wd h - (lx h + wd h - lx t - wd t)) (by_ h) (lx h + wd h - lx t - wd t) (hg h)] else []
def s3L (h t : Int) : List Int := if 0 < by_ t - by_ h then [pk (lx h) (by_ h) (wd h) (by_ t - by_ h)] else []
def s4L (h t : Int) : List Int := if 0 < by_ h + hg h - by_ t - hg t then [pk (lx h) (by_ h + hg h - (by_ h + hg h - by_ t - hg t)) (wd h) (by_ h + hg h - by_ t - hg t)] else []
def splitL (h t : Int) : List Int := s1L h t ++ s2L h t ++ s3L h t ++ s4L h t
theorem splitL_len (h t : Int) : (splitL h t).length ≤ 4 := by
  unfold splitL s1L s2L s3L s4L
  simp only [List.length_append]
  split <;> split <;> split <;> split <;> simp
def candOf (t q : Int) : List Int := if lx q < lx t + wd t ∧ lx t < lx q + wd q ∧ by_ q < by_ t + hg t ∧ by_ t < by_ q + hg q then splitL q t else [q]
def candL (l : List Int) (t : Int) : List Int := l.flatMap (candOf t)
theorem candOf_len (t q : Int) : (candOf t q).length ≤ 4 := by
  unfold candOf
  split
  · exact splitL_len q t
  · simp
theorem candL_len (l : List Int) (t : Int) : (candL l t).length ≤ 4 * l.length := by
  induction l with
  | nil => simp [candL]
  | cons q l ih =>
    have h := candOf_len t q
    simp only [candL, List.flatMap_cons, List.length_append, List.length_cons] at ih ⊢
    omega
theorem candL_snoc (l : List Int) (q t : Int) : candL (l ++ [q]) t = candL l t ++ candOf t q := by
  simp [candL, List.flatMap_append]
theorem s_box {h t : Int} (bh : boxQ h) (bt : boxQ t) : ∀ q ∈ splitL h t, boxQ q := by
  obtain ⟨h1, h2, h3⟩ := bh
  obtain ⟨t1, t2, t3⟩ := bt
  obtain ⟨a1, a2, a3, a4⟩ := acc_rng h1
  obtain ⟨b1, b2, b3, b4⟩ := acc_rng t1
  intro q hq
  unfold splitL s1L s2L s3L s4L at hq
  simp only [List.mem_append] at hq
  have key : ∀ x y w z, 0 ≤ x → 0 ≤ y → 0 ≤ w → 0 ≤ z → x + w ≤ 16 → y + z ≤ 16 → boxQ (pk x y w z) := by
    intro x y w z c1 c2 c3 c4 c5 c6
    obtain ⟨e1, e2, e3, e4⟩ := pk_acc (x := x) (y := y) (w := w) (h := z) (by omega) (by omega) (by omega) (by omega)
    exact ⟨pk_rng (by omega) (by omega) (by omega) (by omega), by rw [e1, e3]; exact c5, by rw [e2, e4]; exact c6⟩
  rcases hq with ((hq | hq) | hq) | hq
  · split at hq
    · rw [List.mem_singleton] at hq; subst hq; exact key _ _ _ _ (by omega) (by omega) (by omega) (by omega) (by omega) (by omega)
    · cases hq
  · split at hq
    · rw [List.mem_singleton] at hq; subst hq; exact key _ _ _ _ (by omega) (by omega) (by omega) (by omega) (by omega) (by omega)
    · cases hq
  · split at hq
    · rw [List.mem_singleton] at hq; subst hq; exact key _ _ _ _ (by omega) (by omega) (by omega) (by omega) (by omega) (by omega)
    · cases hq
  · split at hq
    · rw [List.mem_singleton] at hq; subst hq; exact key _ _ _ _ (by omega) (by omega) (by omega) (by omega) (by omega) (by omega)
    · cases hq
theorem candL_box {l : List Int} {t : Int} (hb : ∀ q ∈ l, boxQ q) (bt : boxQ t) : ∀ q ∈ candL l t, boxQ q := by
  intro q hq
  obtain ⟨h, h1, h2⟩ := List.mem_flatMap.mp hq
  unfold candOf at h2
  split at h2
  · exact s_box (hb h h1) bt q h2
  · rw [List.mem_singleton] at h2; subst h2; exact hb _ h1
/-- the candidates below k that no other covers -/
noncomputable def keepP (CA : Int → Int) (cn : Int) : Nat → List Int
  | 0 => []
  | k + 1 => keepP CA cn k ++ @ite _ (∃ j, 0 ≤ j ∧ j < cn ∧ covQ CA k j) (Classical.propDecidable _) [] [CA k]
theorem keepP_no {CA : Int → Int} {cn k : Int} (h0 : 0 ≤ k) (h : ∃ j, 0 ≤ j ∧ j < cn ∧ covQ CA k j) : keepP CA cn (k + 1).toNat = keepP CA cn k.toNat := by
  have e : (k + 1).toNat = k.toNat + 1 := by omega
  rw [e, keepP, Int.toNat_of_nonneg h0, if_pos h, List.append_nil]
theorem keepP_yes {CA : Int → Int} {cn k : Int} (h0 : 0 ≤ k) (h : ∀ j, 0 ≤ j → j < cn → ¬ covQ CA k j) : keepP CA cn (k + 1).toNat = keepP CA cn k.toNat ++ [CA k] := by
  have e : (k + 1).toNat = k.toNat + 1 := by omega
  rw [e, keepP, Int.toNat_of_nonneg h0, if_neg (fun ⟨j, a, b, c⟩ => h j a b c)]
theorem keepP_mono (CA : Int → Int) (cn : Int) {a b : Nat} (h : a ≤ b) : (keepP CA cn a).length ≤ (keepP CA cn b).length := by
  induction b with
  | zero => have : a = 0 := by omega
            subst this; exact Nat.le_refl _
  | succ b ih =>
    by_cases e : a = b + 1
    · subst e; exact Nat.le_refl _
    · have := ih (by omega)
      rw [keepP, List.length_append]
      omega
/-- the numbers of the codes that stay, of a list of candidates: by the list alone -/
def getZ (l : List Int) (k : Int) : Int := l.getD k.toNat 0
noncomputable def keepL (cs : List Int) : List Int := keepP (getZ cs) cs.length cs.length
theorem Lst_getZ (l : List Int) : Lst (getZ l) l := by
  intro i v h
  unfold getZ
  rw [Int.toNat_natCast, List.getD_eq_getElem?_getD, h]
  rfl
theorem Lst_eqOn {A : Int → Int} {l : List Int} (h : Lst A l) {k : Int} (h0 : 0 ≤ k) (h1 : k < l.length) : A k = getZ l k := by
  have a1 := Lst_at h h0 h1
  have a2 := Lst_at (Lst_getZ l) h0 h1
  rw [a1] at a2
  exact Option.some.inj a2
theorem covQ_eqOn {A B : Int → Int} {cn : Int} (h : ∀ k, 0 ≤ k → k < cn → A k = B k) {k j : Int} (hk : 0 ≤ k ∧ k < cn) (hj : 0 ≤ j ∧ j < cn) : covQ A k j ↔ covQ B k j := by
  unfold covQ
  rw [h k hk.1 hk.2, h j hj.1 hj.2]
theorem keepP_eqOn {A B : Int → Int} {cn : Int} (h : ∀ k, 0 ≤ k → k < cn → A k = B k) (n : Nat) (hn : (n : Int) ≤ cn) : keepP A cn n = keepP B cn n := by
  induction n with
  | zero => rfl
  | succ n ih =>
    rw [keepP, keepP, ih (by omega), h n (by omega) (by omega)]
    congr 1
    have e : (∃ j, 0 ≤ j ∧ j < cn ∧ covQ A n j) ↔ (∃ j, 0 ≤ j ∧ j < cn ∧ covQ B n j) :=
      ⟨fun ⟨j, a, b, c⟩ => ⟨j, a, b, (covQ_eqOn h (by omega) ⟨a, b⟩).mp c⟩, fun ⟨j, a, b, c⟩ => ⟨j, a, b, (covQ_eqOn h (by omega) ⟨a, b⟩).mpr c⟩⟩
    by_cases g : ∃ j, 0 ≤ j ∧ j < cn ∧ covQ B n j
    · rw [if_pos g, if_pos (e.mpr g)]
    · rw [if_neg g, if_neg (fun q => g (e.mp q))]
theorem keepP_Lst {A : Int → Int} {l : List Int} (h : Lst A l) : keepP A l.length l.length = keepL l := keepP_eqOn (fun _ a b => Lst_eqOn h a b) _ (Int.le_refl _)
theorem s1_len (h t : Int) : (s1L h t).length ≤ 1 := by unfold s1L; split <;> simp
theorem s2_len (h t : Int) : (s2L h t).length ≤ 1 := by unfold s2L; split <;> simp
theorem s3_len (h t : Int) : (s3L h t).length ≤ 1 := by unfold s3L; split <;> simp
theorem Lst_app0 {A : Int → Int} {l r : List Int} (h : Lst A l) (e : r = []) : Lst A (l ++ r) := by rw [e, List.append_nil]; exact h
theorem Lst_app1 {A : Int → Int} {l r : List Int} {v k : Int} (h : Lst A l) (e : r = [v]) (hk : k = l.length) : Lst (uI A k v) (l ++ r) := by rw [e, hk]; exact Lst_push v h
theorem len_app0 {l r : List Int} {k : Int} (hk : k = l.length) (e : r = []) : ((l ++ r).length : Int) = k := by rw [e, List.append_nil, hk]
theorem len_app1 {l r : List Int} {v k : Int} (hk : k = l.length) (e : r = [v]) : ((l ++ r).length : Int) = k + 1 := by rw [e, hk, List.length_append]; rfl
/-! bits -/
def xorI (a b : Int) : Int := ((a.toNat ^^^ b.toNat : Nat) : Int)
def andI (a b : Int) : Int := ((a.toNat &&& b.toNat : Nat) : Int)
theorem andI_rng {a b : Int} (hb : 0 ≤ b) : 0 ≤ andI a b ∧ andI a b ≤ b := by
  have h := Nat.and_le_right (n := a.toNat) (m := b.toNat)
  unfold andI
  omega
theorem xorI_rng {a b : Int} (ha : 0 ≤ a ∧ a < 65536) (hb : 0 ≤ b ∧ b < 65536) : 0 ≤ xorI a b ∧ xorI a b < 65536 := ⟨by unfold xorI; omega, xor_lt ha hb⟩
def maskOk (FB : Int → Int) : Prop := ∀ k, 0 ≤ k → k < 16 → 0 ≤ FB k ∧ FB k < 65536
noncomputable def lowL (FB : Int → Int) (x y w h : Int) : List Int := @ite _ (0 < y ∧ ∀ i, x ≤ i → i < x + w → tb (FB (y - 1)) i) (Classical.propDecidable _) [] [pk x y w h]
theorem lowL_yes {FB : Int → Int} {x y w h : Int} (c : 0 < y ∧ ∀ i, x ≤ i → i < x + w → tb (FB (y - 1)) i) : lowL FB x y w h = [] := if_pos c
theorem lowL_no {FB : Int → Int} {x y w h : Int} (c : ¬ (0 < y ∧ ∀ i, x ≤ i → i < x + w → tb (FB (y - 1)) i)) : lowL FB x y w h = [pk x y w h] := if_neg c
theorem lowL_len (FB : Int → Int) (x y w h : Int) : (lowL FB x y w h).length ≤ 1 := by
  unfold lowL
  split <;> simp
def flipV (FB : Int → Int) (st lo hi : Int) (j : Int) : Int := if lo ≤ j ∧ j < hi then xorI (FB j) st else FB j
theorem flipV_step {FB F : Int → Int} {st lo y : Int} (hl : lo ≤ y) (h : ∀ j, 0 ≤ j → j < 16 → F j = flipV FB st lo y j) (hy : 0 ≤ y ∧ y < 16) : ∀ j, 0 ≤ j → j < 16 → uI F y (xorI (F y) st) j = flipV FB st lo (y + 1) j := by
  intro j a b
  by_cases e : j = y
  · subst e
    rw [uI_s, h j a b]
    unfold flipV
    rw [if_neg (by omega), if_pos (by omega)]
  · rw [uI_n _ e, h j a b]
    unfold flipV
    by_cases g : lo ≤ j ∧ j < y
    · rw [if_pos g, if_pos (by omega)]
    · rw [if_neg g, if_neg (by omega)]
end
section
/-! AtlasPacker: the methods that write: splitting -/
set_option maxHeartbeats 4000000 in
set_option maxRecDepth 100000 in
theorem mx1_keepCandidate (l : Launch) {D : va_G} {ad : Nat → Nat} {dB dN : ClassId} {Cw Rw n hc cn : Int} {Lf Bt Wd Hg FB HO CA SS SH : Int → Int} (h : Int) (hcn : 0 ≤ cn ∧ cn < 1024) (sz : Nat) : MetV (S := Unit) l yX1_keepCandidate cX1_keepCandidate 2 0 0 [.ref (ad 0), .int (iI h)] D (XW ad dB dN Cw Rw n hc cn Lf Bt Wd Hg FB HO CA SS SH) (tX dB dN) sz (fun _ => True) (fun _ => XW ad dB dN Cw Rw n hc (cn + 1) Lf Bt Wd Hg FB HO (uI CA cn h) SS SH) := by
  refine ri_met RX1 rfl (by decide) (Nat.le_of_ble_eq_true rfl) ?_
  intro p e s m below meth c hx hb hr hts hown hlocks hml hnm hv ls hl
  obtain ⟨hsz, hP, hK, hD0⟩ := hv
  subst hsz
  have hD := hD0.self (sz := s.heap.size)
  generalize hAe : va_A (XW ad dB dN Cw Rw n hc cn Lf Bt Wd Hg FB HO CA SS SH) s.heap.size = A at hD ⊢
  have hA : ∀ q : Nat, s.heap.size ≤ q → A q := fun q h => by rw [← hAe]; exact Or.inr h
  have hS : va_S A s.heap s.heap [] := va_S.rf
  have hl : lv_has ls 2 [(0, .ref (ad 0)), (1, .int (iI h))] := hl
  refine lv_aload_n hx hb dX1_keepCandidate_0 rfl (lv_at hl 0 rfl) ?_
  refine gx_CA hx hb hts hown hK hP dX1_keepCandidate_1 ?_
  refine lv_aload_n hx hb dX1_keepCandidate_4 rfl (lv_at hl 0 rfl) ?_
  refine gx_cn hx hb hts hown hK hP dX1_keepCandidate_5 ?_
  refine lv_iload_n hx hb dX1_keepCandidate_8 rfl (lv_at hl 1 rfl) ?_
  refine ri_iast hx hb hK hP hD hS 7 1 rfl rfl (by omega) (by decide) dX1_keepCandidate_9 (fun H locs hP hD hS => ?_)
  replace hP : va_P D vwCl (XW ad dB dN Cw Rw n hc cn Lf Bt Wd Hg FB HO (uI CA cn h) SS SH) H := hP
  replace hD : va_D A (XW ad dB dN Cw Rw n hc cn Lf Bt Wd Hg FB HO (uI CA cn h) SS SH) := hD
  refine lv_aload_n hx hb dX1_keepCandidate_10 rfl (lv_at hl 0 rfl) ?_
  refine lv_dup hx hb dX1_keepCandidate_11 rfl ?_
  refine gx_cn hx hb hts hown hK hP dX1_keepCandidate_12 ?_
  refine ri_iconst hx hb dX1_keepCandidate_15 ?_
  refine ri_iadd hx hb dX1_keepCandidate_16 ?_
  refine px_cn hx hb hts hown hK hP hD hS dX1_keepCandidate_17 (fun H locs hP hD hS => ?_)
  exact ri_vretW () hx hb hr hlocks (trivial) hK hP hD hS dX1_keepCandidate_20
set_option maxHeartbeats 4000000 in
set_option maxRecDepth 100000 in
theorem mx1_offer (l : Launch) {D : va_G} {ad : Nat → Nat} {dB dN : ClassId} {Cw Rw n hc cn : Int} {Lf Bt Wd Hg FB HO CA SS SH : Int → Int} (x y w h : Int) (hh : (0 ≤ x ∧ x < 32) ∧ (0 ≤ y ∧ y < 32) ∧ (0 ≤ w ∧ w < 32) ∧ (0 ≤ h ∧ h < 32)) (hcn : 0 ≤ cn ∧ cn < 1024) (sz : Nat) : MetV (S := Unit) l yX1_offer cX1_offer 6 1 24 [.ref (ad 0), .int (iI x), .int (iI y), .int (iI w), .int (iI h)] D (XW ad dB dN Cw Rw n hc cn Lf Bt Wd Hg FB HO CA SS SH) (tX dB dN) sz (fun _ => True) (fun _ => XW ad dB dN Cw Rw n hc (cn + 1) Lf Bt Wd Hg FB HO (uI CA cn (pk x y w h)) SS SH) := by
  refine ri_met RX1 rfl (by decide) (Nat.le_of_ble_eq_true rfl) ?_
  intro p e s m below meth c hx hb hr hts hown hlocks hml hnm hv ls hl
  obtain ⟨hsz, hP, hK, hD0⟩ := hv
  subst hsz
  have hD := hD0.self (sz := s.heap.size)
  generalize hAe : va_A (XW ad dB dN Cw Rw n hc cn Lf Bt Wd Hg FB HO CA SS SH) s.heap.size = A at hD ⊢
  have hA : ∀ q : Nat, s.heap.size ≤ q → A q := fun q h => by rw [← hAe]; exact Or.inr h
  have hS : va_S A s.heap s.heap [] := va_S.rf
  have hl : lv_has ls 6 [(0, .ref (ad 0)), (1, .int (iI x)), (2, .int (iI y)), (3, .int (iI w)), (4, .int (iI h))] := hl
  refine lv_aload_n hx hb dX1_offer_0 rfl (lv_at hl 0 rfl) ?_
  refine lv_iload_n hx hb dX1_offer_1 rfl (lv_at hl 1 rfl) ?_
  refine lv_iload_n hx hb dX1_offer_2 rfl (lv_at hl 2 rfl) ?_
  refine lv_iload_n hx hb dX1_offer_3 rfl (lv_at hl 3 rfl) ?_
  refine lv_iload hx hb dX1_offer_4 (lv_at hl 4 rfl) ?_
  refine ri_callR (rest := []) (ci := 0) (q0 := 0) (mx1_pack l x y w h hh) hx hb hml hown hts (cwV 4 hts (lw_V q45 q47 qs0 q31 q48) rfl rfl rfl (by decide +kernel) ⟨Nat.le_of_ble_eq_true rfl, Nat.le_of_ble_eq_true rfl⟩) hK hP rfl rfl rfl hl.1 rfl (Nat.le_of_ble_eq_true rfl) dX1_offer_6 ⟨Nat.zero_le _, Nat.zero_le _⟩ (fun z1 hz1 => ?_)
  subst hz1
  refine lv_istore (lv' := [(5, .int (iI (pk x y w h))), (0, .ref (ad 0)), (1, .int (iI x)), (2, .int (iI y)), (3, .int (iI w)), (4, .int (iI h))]) hx hb dX1_offer_9 hl (by decide) rfl (fun ls hl => ?_)
  refine lv_aload_n hx hb dX1_offer_11 rfl (lv_at hl 1 rfl) ?_
  refine lv_iload hx hb dX1_offer_12 (lv_at hl 0 rfl) ?_
  refine ri_callV (rest := []) (ci := 0) (q0 := 0) (mx1_keepCandidate l (pk x y w h) hcn _) hx hb hml hown hts (cwV 1 hts (lw_V q142 q144 qs12 q31 q145) rfl rfl rfl (by decide +kernel) ⟨Nat.le_of_ble_eq_true rfl, Nat.le_of_ble_eq_true rfl⟩) hK hP hD hS hA rfl rfl rfl hl.1 rfl (Nat.le_of_ble_eq_true rfl) dX1_offer_14 ⟨Nat.zero_le _, Nat.zero_le _⟩ (fun u3 H locs hu2 hP hD hS => ?_)
  replace hP : va_P D vwCl (XW ad dB dN Cw Rw n hc (cn + 1) Lf Bt Wd Hg FB HO (uI CA cn (pk x y w h)) SS SH) H := hP
  replace hD : va_D A (XW ad dB dN Cw Rw n hc (cn + 1) Lf Bt Wd Hg FB HO (uI CA cn (pk x y w h)) SS SH) := hD
  exact ri_vretW () hx hb hr hlocks (trivial) hK hP hD hS dX1_offer_17
set_option maxHeartbeats 4000000 in
set_option maxRecDepth 100000 in
theorem mx1_splitOne (l : Launch) {D : va_G} {ad : Nat → Nat} {dB dN : ClassId} {Cw Rw n hc cn : Int} {Lf Bt Wd Hg FB HO CA SS SH : Int → Int} (h t : Int) (hbh : boxQ h) (hbt : boxQ t) (lc : List Int) (hcn : cn = (lc.length : Int)) (hLc : Lst CA lc) (hlen : lc.length + 4 ≤ 1024) (sz : Nat) : MetV (S := Int → Int) l yX1_splitOne cX1_splitOne 11 2 49 [.ref (ad 0), .int (iI h), .int (iI t)] D (XW ad dB dN Cw Rw n hc cn Lf Bt Wd Hg FB HO CA SS SH) (tX dB dN) sz (fun A' => Lst A' (lc ++ splitL h t)) (fun A' => XW ad dB dN Cw Rw n hc ((lc ++ splitL h t).length : Int) Lf Bt Wd Hg FB HO A' SS SH) := by
  refine ri_met RX1 rfl (by decide) (Nat.le_of_ble_eq_true rfl) ?_
  intro p e s m below meth c hx hb hr hts hown hlocks hml hnm hv ls hl
  obtain ⟨hsz, hP, hK, hD0⟩ := hv
  subst hsz
  have hD := hD0.self (sz := s.heap.size)
  generalize hAe : va_A (XW ad dB dN Cw Rw n hc cn Lf Bt Wd Hg FB HO CA SS SH) s.heap.size = A at hD ⊢
  have hA : ∀ q : Nat, s.heap.size ≤ q → A q := fun q h => by rw [← hAe]; exact Or.inr h
  have hS : va_S A s.heap s.heap [] := va_S.rf
  have hl : lv_has ls 11 [(0, .ref (ad 0)), (1, .int (iI h)), (2, .int (iI t))] := hl
  obtain ⟨h1, h2, h3⟩ := hbh
  obtain ⟨t1, t2, t3⟩ := hbt
  obtain ⟨a1, a2, a3, a4⟩ := acc_rng h1
  obtain ⟨b1, b2, b3, b4⟩ := acc_rng t1
  have n1 := s1_len h t
  have n2 := s2_len h t
  have n3 := s3_len h t
  refine lv_aload_n hx hb dX1_splitOne_0 rfl (lv_at hl 0 rfl) ?_
  refine lv_iload_n hx hb dX1_splitOne_1 rfl (lv_at hl 1 rfl) ?_
  refine ri_callR (rest := []) (ci := 0) (q0 := 0) (mx1_leftOf l h (by omega)) hx hb hml hown hts (cwV 1 hts (lw_V q118 q120 qs6 q31 q121) rfl rfl rfl (by decide +kernel) ⟨Nat.le_of_ble_eq_true rfl, Nat.le_of_ble_eq_true rfl⟩) hK hP rfl rfl rfl hl.1 rfl (Nat.le_of_ble_eq_true rfl) dX1_splitOne_2 ⟨Nat.zero_le _, Nat.zero_le _⟩ (fun z4 hz4 => ?_)
  subst hz4
  refine lv_istore_n (lv' := [(3, .int (iI (lx h))), (0, .ref (ad 0)), (1, .int (iI h)), (2, .int (iI t))]) hx hb dX1_splitOne_5 rfl hl (by decide) rfl (fun ls hl => ?_)
  refine lv_aload_n hx hb dX1_splitOne_6 rfl (lv_at hl 1 rfl) ?_
  refine lv_iload_n hx hb dX1_splitOne_7 rfl (lv_at hl 2 rfl) ?_
  refine ri_callR (rest := []) (ci := 0) (q0 := 0) (mx1_bottomOf l h (by omega)) hx hb hml hown hts (cwV 1 hts (lw_V q114 q116 qs5 q31 q117) rfl rfl rfl (by decide +kernel) ⟨Nat.le_of_ble_eq_true rfl, Nat.le_of_ble_eq_true rfl⟩) hK hP rfl rfl rfl hl.1 rfl (Nat.le_of_ble_eq_true rfl) dX1_splitOne_8 ⟨Nat.zero_le _, Nat.zero_le _⟩ (fun z5 hz5 => ?_)
  subst hz5
  refine lv_istore (lv' := [(4, .int (iI (by_ h))), (3, .int (iI (lx h))), (0, .ref (ad 0)), (1, .int (iI h)), (2, .int (iI t))]) hx hb dX1_splitOne_11 hl (by decide) rfl (fun ls hl => ?_)
  refine lv_aload_n hx hb dX1_splitOne_13 rfl (lv_at hl 2 rfl) ?_
  refine lv_iload_n hx hb dX1_splitOne_14 rfl (lv_at hl 3 rfl) ?_
  refine ri_callR (rest := []) (ci := 0) (q0 := 0) (mx1_wideOf l h (by omega)) hx hb hml hown hts (cwV 1 hts (lw_V q106 q108 qs3 q31 q109) rfl rfl rfl (by decide +kernel) ⟨Nat.le_of_ble_eq_true rfl, Nat.le_of_ble_eq_true rfl⟩) hK hP rfl rfl rfl hl.1 rfl (Nat.le_of_ble_eq_true rfl) dX1_splitOne_15 ⟨Nat.zero_le _, Nat.zero_le _⟩ (fun z6 hz6 => ?_)
  subst hz6
  refine lv_istore (lv' := [(5, .int (iI (wd h))), (4, .int (iI (by_ h))), (3, .int (iI (lx h))), (0, .ref (ad 0)), (1, .int (iI h)), (2, .int (iI t))]) hx hb dX1_splitOne_18 hl (by decide) rfl (fun ls hl => ?_)
  refine lv_aload_n hx hb dX1_splitOne_20 rfl (lv_at hl 3 rfl) ?_
  refine lv_iload_n hx hb dX1_splitOne_21 rfl (lv_at hl 4 rfl) ?_
  refine ri_callR (rest := []) (ci := 0) (q0 := 0) (mx1_highOf l h (by omega)) hx hb hml hown hts (cwV 1 hts (lw_V q110 q112 qs4 q31 q113) rfl rfl rfl (by decide +kernel) ⟨Nat.le_of_ble_eq_true rfl, Nat.le_of_ble_eq_true rfl⟩) hK hP rfl rfl rfl hl.1 rfl (Nat.le_of_ble_eq_true rfl) dX1_splitOne_22 ⟨Nat.zero_le _, Nat.zero_le _⟩ (fun z7 hz7 => ?_)
  subst hz7
  refine lv_istore (lv' := [(6, .int (iI (hg h))), (5, .int (iI (wd h))), (4, .int (iI (by_ h))), (3, .int (iI (lx h))), (0, .ref (ad 0)), (1, .int (iI h)), (2, .int (iI t))]) hx hb dX1_splitOne_25 hl (by decide) rfl (fun ls hl => ?_)
  refine lv_aload_n hx hb dX1_splitOne_27 rfl (lv_at hl 4 rfl) ?_
  refine lv_iload_n hx hb dX1_splitOne_28 rfl (lv_at hl 6 rfl) ?_
  refine ri_callR (rest := []) (ci := 0) (q0 := 0) (mx1_leftOf l t (by omega)) hx hb hml hown hts (cwV 1 hts (lw_V q118 q120 qs6 q31 q121) rfl rfl rfl (by decide +kernel) ⟨Nat.le_of_ble_eq_true rfl, Nat.le_of_ble_eq_true rfl⟩) hK hP rfl rfl rfl hl.1 rfl (Nat.le_of_ble_eq_true rfl) dX1_splitOne_29 ⟨Nat.zero_le _, Nat.zero_le _⟩ (fun z8 hz8 => ?_)
  subst hz8
  refine lv_iload_n hx hb dX1_splitOne_32 rfl (lv_at hl 3 rfl) ?_
  refine ri_isub hx hb dX1_splitOne_33 ?_
  refine lv_istore (lv' := [(7, .int (iI ((lx t) - (lx h)))), (6, .int (iI (hg h))), (5, .int (iI (wd h))), (4, .int (iI (by_ h))), (3, .int (iI (lx h))), (0, .ref (ad 0)), (1, .int (iI h)), (2, .int (iI t))]) hx hb dX1_splitOne_34 hl (by decide) rfl (fun ls hl => ?_)
  refine lv_iload_n hx hb dX1_splitOne_36 rfl (lv_at hl 4 rfl) ?_
  refine lv_iload hx hb dX1_splitOne_37 (lv_at hl 2 rfl) ?_
  refine ri_iadd hx hb dX1_splitOne_39 ?_
  refine lv_aload_n hx hb dX1_splitOne_40 rfl (lv_at hl 5 rfl) ?_
  refine lv_iload_n hx hb dX1_splitOne_41 rfl (lv_at hl 7 rfl) ?_
  refine ri_callR (rest := [.int (iI ((lx h) + (wd h)))]) (ci := 0) (q0 := 0) (mx1_leftOf l t (by omega)) hx hb hml hown hts (cwV 1 hts (lw_V q118 q120 qs6 q31 q121) rfl rfl rfl (by decide +kernel) ⟨Nat.le_of_ble_eq_true rfl, Nat.le_of_ble_eq_true rfl⟩) hK hP rfl rfl rfl hl.1 rfl (Nat.le_of_ble_eq_true rfl) dX1_splitOne_42 ⟨Nat.zero_le _, Nat.zero_le _⟩ (fun z9 hz9 => ?_)
  subst hz9
  refine ri_isub hx hb dX1_splitOne_45 ?_
  refine lv_aload_n hx hb dX1_splitOne_46 rfl (lv_at hl 5 rfl) ?_
  refine lv_iload_n hx hb dX1_splitOne_47 rfl (lv_at hl 7 rfl) ?_
  refine ri_callR (rest := [.int (iI (((lx h) + (wd h)) - (lx t)))]) (ci := 0) (q0 := 0) (mx1_wideOf l t (by omega)) hx hb hml hown hts (cwV 1 hts (lw_V q106 q108 qs3 q31 q109) rfl rfl rfl (by decide +kernel) ⟨Nat.le_of_ble_eq_true rfl, Nat.le_of_ble_eq_true rfl⟩) hK hP rfl rfl rfl hl.1 rfl (Nat.le_of_ble_eq_true rfl) dX1_splitOne_48 ⟨Nat.zero_le _, Nat.zero_le _⟩ (fun z10 hz10 => ?_)
  subst hz10
  refine ri_isub hx hb dX1_splitOne_51 ?_
  refine lv_istore (lv' := [(8, .int (iI ((((lx h) + (wd h)) - (lx t)) - (wd t)))), (7, .int (iI ((lx t) - (lx h)))), (6, .int (iI (hg h))), (5, .int (iI (wd h))), (4, .int (iI (by_ h))), (3, .int (iI (lx h))), (0, .ref (ad 0)), (1, .int (iI h)), (2, .int (iI t))]) hx hb dX1_splitOne_52 hl (by decide) rfl (fun ls hl => ?_)
  refine lv_aload_n hx hb dX1_splitOne_54 rfl (lv_at hl 6 rfl) ?_
  refine lv_iload_n hx hb dX1_splitOne_55 rfl (lv_at hl 8 rfl) ?_
  refine ri_callR (rest := []) (ci := 0) (q0 := 0) (mx1_bottomOf l t (by omega)) hx hb hml hown hts (cwV 1 hts (lw_V q114 q116 qs5 q31 q117) rfl rfl rfl (by decide +kernel) ⟨Nat.le_of_ble_eq_true rfl, Nat.le_of_ble_eq_true rfl⟩) hK hP rfl rfl rfl hl.1 rfl (Nat.le_of_ble_eq_true rfl) dX1_splitOne_56 ⟨Nat.zero_le _, Nat.zero_le _⟩ (fun z11 hz11 => ?_)
  subst hz11
  refine lv_iload hx hb dX1_splitOne_59 (lv_at hl 4 rfl) ?_
  refine ri_isub hx hb dX1_splitOne_61 ?_
  refine lv_istore (lv' := [(9, .int (iI ((by_ t) - (by_ h)))), (8, .int (iI ((((lx h) + (wd h)) - (lx t)) - (wd t)))), (7, .int (iI ((lx t) - (lx h)))), (6, .int (iI (hg h))), (5, .int (iI (wd h))), (4, .int (iI (by_ h))), (3, .int (iI (lx h))), (0, .ref (ad 0)), (1, .int (iI h)), (2, .int (iI t))]) hx hb dX1_splitOne_62 hl (by decide) rfl (fun ls hl => ?_)
  refine lv_iload hx hb dX1_splitOne_64 (lv_at hl 5 rfl) ?_
  refine lv_iload hx hb dX1_splitOne_66 (lv_at hl 3 rfl) ?_
  refine ri_iadd hx hb dX1_splitOne_68 ?_
  refine lv_aload_n hx hb dX1_splitOne_69 rfl (lv_at hl 7 rfl) ?_
  refine lv_iload_n hx hb dX1_splitOne_70 rfl (lv_at hl 9 rfl) ?_
  refine ri_callR (rest := [.int (iI ((by_ h) + (hg h)))]) (ci := 0) (q0 := 0) (mx1_bottomOf l t (by omega)) hx hb hml hown hts (cwV 1 hts (lw_V q114 q116 qs5 q31 q117) rfl rfl rfl (by decide +kernel) ⟨Nat.le_of_ble_eq_true rfl, Nat.le_of_ble_eq_true rfl⟩) hK hP rfl rfl rfl hl.1 rfl (Nat.le_of_ble_eq_true rfl) dX1_splitOne_71 ⟨Nat.zero_le _, Nat.zero_le _⟩ (fun z12 hz12 => ?_)
  subst hz12
  refine ri_isub hx hb dX1_splitOne_74 ?_
  refine lv_aload_n hx hb dX1_splitOne_75 rfl (lv_at hl 7 rfl) ?_
  refine lv_iload_n hx hb dX1_splitOne_76 rfl (lv_at hl 9 rfl) ?_
  refine ri_callR (rest := [.int (iI (((by_ h) + (hg h)) - (by_ t)))]) (ci := 0) (q0 := 0) (mx1_highOf l t (by omega)) hx hb hml hown hts (cwV 1 hts (lw_V q110 q112 qs4 q31 q113) rfl rfl rfl (by decide +kernel) ⟨Nat.le_of_ble_eq_true rfl, Nat.le_of_ble_eq_true rfl⟩) hK hP rfl rfl rfl hl.1 rfl (Nat.le_of_ble_eq_true rfl) dX1_splitOne_77 ⟨Nat.zero_le _, Nat.zero_le _⟩ (fun z13 hz13 => ?_)
  subst hz13
  refine ri_isub hx hb dX1_splitOne_80 ?_
  refine lv_istore (lv' := [(10, .int (iI ((((by_ h) + (hg h)) - (by_ t)) - (hg t)))), (9, .int (iI ((by_ t) - (by_ h)))), (8, .int (iI ((((lx h) + (wd h)) - (lx t)) - (wd t)))), (7, .int (iI ((lx t) - (lx h)))), (6, .int (iI (hg h))), (5, .int (iI (wd h))), (4, .int (iI (by_ h))), (3, .int (iI (lx h))), (0, .ref (ad 0)), (1, .int (iI h)), (2, .int (iI t))]) hx hb dX1_splitOne_81 hl (by decide) rfl (fun ls hl => ?_)
  refine ri_joinW (σ := Int → Int) (nL := 11) 99 (fun (A1 : Int → Int) => Lst A1 (lc ++ s1L h t)) (fun (A1 : Int → Int) => [(0, .ref (ad 0)), (1, .int (iI h)), (2, .int (iI t)), (3, .int (iI (lx h))), (4, .int (iI (by_ h))), (5, .int (iI (wd h))), (6, .int (iI (hg h))), (7, .int (iI ((lx t) - (lx h)))), (8, .int (iI ((((lx h) + (wd h)) - (lx t)) - (wd t)))), (9, .int (iI ((by_ t) - (by_ h)))), (10, .int (iI ((((by_ h) + (hg h)) - (by_ t)) - (hg t))))]) (fun (A1 : Int → Int) => []) (fun (A1 : Int → Int) => (XW ad dB dN Cw Rw n hc ((lc ++ s1L h t).length : Int) Lf Bt Wd Hg FB HO A1 SS SH)) D vwCl A s.heap ?_ ?_
  · rintro A1 ls H locs hI hl hP hD hS
    replace hP : va_P D vwCl (XW ad dB dN Cw Rw n hc ((lc ++ s1L h t).length : Int) Lf Bt Wd Hg FB HO A1 SS SH) H := hP
    replace hD : va_D A (XW ad dB dN Cw Rw n hc ((lc ++ s1L h t).length : Int) Lf Bt Wd Hg FB HO A1 SS SH) := hD
    replace hI : Lst A1 (lc ++ s1L h t) := hI
    replace hl : lv_has ls 11 [(0, .ref (ad 0)), (1, .int (iI h)), (2, .int (iI t)), (3, .int (iI (lx h))), (4, .int (iI (by_ h))), (5, .int (iI (wd h))), (6, .int (iI (hg h))), (7, .int (iI ((lx t) - (lx h)))), (8, .int (iI ((((lx h) + (wd h)) - (lx t)) - (wd t)))), (9, .int (iI ((by_ t) - (by_ h)))), (10, .int (iI ((((by_ h) + (hg h)) - (by_ t)) - (hg t))))] := hl
    have hA1 := hI
    refine ri_joinW (σ := Int → Int) (nL := 11) 121 (fun (A2 : Int → Int) => Lst A2 (lc ++ s1L h t ++ s2L h t)) (fun (A2 : Int → Int) => [(0, .ref (ad 0)), (1, .int (iI h)), (2, .int (iI t)), (3, .int (iI (lx h))), (4, .int (iI (by_ h))), (5, .int (iI (wd h))), (6, .int (iI (hg h))), (7, .int (iI ((lx t) - (lx h)))), (8, .int (iI ((((lx h) + (wd h)) - (lx t)) - (wd t)))), (9, .int (iI ((by_ t) - (by_ h)))), (10, .int (iI ((((by_ h) + (hg h)) - (by_ t)) - (hg t))))]) (fun (A2 : Int → Int) => []) (fun (A2 : Int → Int) => (XW ad dB dN Cw Rw n hc ((lc ++ s1L h t ++ s2L h t).length : Int) Lf Bt Wd Hg FB HO A2 SS SH)) D vwCl A s.heap ?_ ?_
    · rintro A2 ls H locs hI hl hP hD hS
      replace hP : va_P D vwCl (XW ad dB dN Cw Rw n hc ((lc ++ s1L h t ++ s2L h t).length : Int) Lf Bt Wd Hg FB HO A2 SS SH) H := hP
      replace hD : va_D A (XW ad dB dN Cw Rw n hc ((lc ++ s1L h t ++ s2L h t).length : Int) Lf Bt Wd Hg FB HO A2 SS SH) := hD
      replace hI : Lst A2 (lc ++ s1L h t ++ s2L h t) := hI
      replace hl : lv_has ls 11 [(0, .ref (ad 0)), (1, .int (iI h)), (2, .int (iI t)), (3, .int (iI (lx h))), (4, .int (iI (by_ h))), (5, .int (iI (wd h))), (6, .int (iI (hg h))), (7, .int (iI ((lx t) - (lx h)))), (8, .int (iI ((((lx h) + (wd h)) - (lx t)) - (wd t)))), (9, .int (iI ((by_ t) - (by_ h)))), (10, .int (iI ((((by_ h) + (hg h)) - (by_ t)) - (hg t))))] := hl
      have hA2 := hI
      refine ri_joinW (σ := Int → Int) (nL := 11) 137 (fun (A3 : Int → Int) => Lst A3 (lc ++ s1L h t ++ s2L h t ++ s3L h t)) (fun (A3 : Int → Int) => [(0, .ref (ad 0)), (1, .int (iI h)), (2, .int (iI t)), (3, .int (iI (lx h))), (4, .int (iI (by_ h))), (5, .int (iI (wd h))), (6, .int (iI (hg h))), (7, .int (iI ((lx t) - (lx h)))), (8, .int (iI ((((lx h) + (wd h)) - (lx t)) - (wd t)))), (9, .int (iI ((by_ t) - (by_ h)))), (10, .int (iI ((((by_ h) + (hg h)) - (by_ t)) - (hg t))))]) (fun (A3 : Int → Int) => []) (fun (A3 : Int → Int) => (XW ad dB dN Cw Rw n hc ((lc ++ s1L h t ++ s2L h t ++ s3L h t).length : Int) Lf Bt Wd Hg FB HO A3 SS SH)) D vwCl A s.heap ?_ ?_
      · rintro A3 ls H locs hI hl hP hD hS
        replace hP : va_P D vwCl (XW ad dB dN Cw Rw n hc ((lc ++ s1L h t ++ s2L h t ++ s3L h t).length : Int) Lf Bt Wd Hg FB HO A3 SS SH) H := hP
        replace hD : va_D A (XW ad dB dN Cw Rw n hc ((lc ++ s1L h t ++ s2L h t ++ s3L h t).length : Int) Lf Bt Wd Hg FB HO A3 SS SH) := hD
        replace hI : Lst A3 (lc ++ s1L h t ++ s2L h t ++ s3L h t) := hI
        replace hl : lv_has ls 11 [(0, .ref (ad 0)), (1, .int (iI h)), (2, .int (iI t)), (3, .int (iI (lx h))), (4, .int (iI (by_ h))), (5, .int (iI (wd h))), (6, .int (iI (hg h))), (7, .int (iI ((lx t) - (lx h)))), (8, .int (iI ((((lx h) + (wd h)) - (lx t)) - (wd t)))), (9, .int (iI ((by_ t) - (by_ h)))), (10, .int (iI ((((by_ h) + (hg h)) - (by_ t)) - (hg t))))] := hl
        have hA3 := hI
        refine ri_joinW (σ := Int → Int) (nL := 11) 159 (fun (A4 : Int → Int) => Lst A4 (lc ++ s1L h t ++ s2L h t ++ s3L h t ++ s4L h t)) (fun (A4 : Int → Int) => [(0, .ref (ad 0)), (1, .int (iI h)), (2, .int (iI t)), (3, .int (iI (lx h))), (4, .int (iI (by_ h))), (5, .int (iI (wd h))), (6, .int (iI (hg h))), (7, .int (iI ((lx t) - (lx h)))), (8, .int (iI ((((lx h) + (wd h)) - (lx t)) - (wd t)))), (9, .int (iI ((by_ t) - (by_ h)))), (10, .int (iI ((((by_ h) + (hg h)) - (by_ t)) - (hg t))))]) (fun (A4 : Int → Int) => []) (fun (A4 : Int → Int) => (XW ad dB dN Cw Rw n hc ((lc ++ s1L h t ++ s2L h t ++ s3L h t ++ s4L h t).length : Int) Lf Bt Wd Hg FB HO A4 SS SH)) D vwCl A s.heap ?_ ?_
        · rintro A4 ls H locs hI hl hP hD hS
          replace hP : va_P D vwCl (XW ad dB dN Cw Rw n hc ((lc ++ s1L h t ++ s2L h t ++ s3L h t ++ s4L h t).length : Int) Lf Bt Wd Hg FB HO A4 SS SH) H := hP
          replace hD : va_D A (XW ad dB dN Cw Rw n hc ((lc ++ s1L h t ++ s2L h t ++ s3L h t ++ s4L h t).length : Int) Lf Bt Wd Hg FB HO A4 SS SH) := hD
          replace hI : Lst A4 (lc ++ s1L h t ++ s2L h t ++ s3L h t ++ s4L h t) := hI
          replace hl : lv_has ls 11 [(0, .ref (ad 0)), (1, .int (iI h)), (2, .int (iI t)), (3, .int (iI (lx h))), (4, .int (iI (by_ h))), (5, .int (iI (wd h))), (6, .int (iI (hg h))), (7, .int (iI ((lx t) - (lx h)))), (8, .int (iI ((((lx h) + (wd h)) - (lx t)) - (wd t)))), (9, .int (iI ((by_ t) - (by_ h)))), (10, .int (iI ((((by_ h) + (hg h)) - (by_ t)) - (hg t))))] := hl
          have hA4 := hI
          have es : lc ++ splitL h t = lc ++ s1L h t ++ s2L h t ++ s3L h t ++ s4L h t := by simp [splitL]
          rw [← es] at hP hD hA4
          exact ri_vretW A4 hx hb hr hlocks (hA4) hK hP hD hS dX1_splitOne_159
        · intro jn159
          refine lv_iload hx hb dX1_splitOne_137 (lv_at hl 10 rfl) ?_
          refine ri_if_le (tgt := 159) hx hb dX1_splitOne_139 (by decide) (by omega) (fun c139 => ?_) (fun c139 => ?_)
          · have ew : ((lc ++ s1L h t ++ s2L h t ++ s3L h t ++ s4L h t).length : Int) = ((lc ++ s1L h t ++ s2L h t ++ s3L h t).length : Int) := len_app0 rfl (show s4L h t = [] from if_neg (by omega))
            rw [← ew] at hP hD
            exact jn159 (A3) ls _ _ (show Lst A3 (lc ++ s1L h t ++ s2L h t ++ s3L h t ++ s4L h t) from Lst_app0 hA3 (show s4L h t = [] from if_neg (by omega))) (lv_sub hl [0, 1, 2, 3, 4, 5, 6, 7, 8, 9, 10] rfl) hP hD hS
          · have hlk : ((lc ++ s1L h t ++ s2L h t ++ s3L h t).length : Int) < 1024 := by (try simp only [List.length_append]); omega
            refine lv_aload_n hx hb dX1_splitOne_142 rfl (lv_at hl 0 rfl) ?_
            refine lv_iload_n hx hb dX1_splitOne_143 rfl (lv_at hl 3 rfl) ?_
            refine lv_iload hx hb dX1_splitOne_144 (lv_at hl 4 rfl) ?_
            refine lv_iload hx hb dX1_splitOne_146 (lv_at hl 6 rfl) ?_
            refine ri_iadd hx hb dX1_splitOne_148 ?_
            refine lv_iload hx hb dX1_splitOne_149 (lv_at hl 10 rfl) ?_
            refine ri_isub hx hb dX1_splitOne_151 ?_
            refine lv_iload hx hb dX1_splitOne_152 (lv_at hl 5 rfl) ?_
            refine lv_iload hx hb dX1_splitOne_154 (lv_at hl 10 rfl) ?_
            refine ri_callV (rest := []) (ci := 0) (q0 := 0) (mx1_offer l (lx h) (((by_ h) + (hg h)) - ((((by_ h) + (hg h)) - (by_ t)) - (hg t))) (wd h) ((((by_ h) + (hg h)) - (by_ t)) - (hg t)) (by omega) (by omega) _) hx hb hml hown hts (cwV 4 hts (lw_V q138 q140 qs11 q31 q141) rfl rfl rfl (by decide +kernel) ⟨Nat.le_of_ble_eq_true rfl, Nat.le_of_ble_eq_true rfl⟩) hK hP hD hS hA rfl rfl rfl hl.1 rfl (Nat.le_of_ble_eq_true rfl) dX1_splitOne_156 ⟨Nat.zero_le _, Nat.zero_le _⟩ (fun u21 H locs hu20 hP hD hS => ?_)
            replace hP : va_P D vwCl (XW ad dB dN Cw Rw n hc (((lc ++ s1L h t ++ s2L h t ++ s3L h t).length : Int) + 1) Lf Bt Wd Hg FB HO (uI A3 ((lc ++ s1L h t ++ s2L h t ++ s3L h t).length : Int) (pk (lx h) (((by_ h) + (hg h)) - ((((by_ h) + (hg h)) - (by_ t)) - (hg t))) (wd h) ((((by_ h) + (hg h)) - (by_ t)) - (hg t)))) SS SH) H := hP
            replace hD : va_D A (XW ad dB dN Cw Rw n hc (((lc ++ s1L h t ++ s2L h t ++ s3L h t).length : Int) + 1) Lf Bt Wd Hg FB HO (uI A3 ((lc ++ s1L h t ++ s2L h t ++ s3L h t).length : Int) (pk (lx h) (((by_ h) + (hg h)) - ((((by_ h) + (hg h)) - (by_ t)) - (hg t))) (wd h) ((((by_ h) + (hg h)) - (by_ t)) - (hg t)))) SS SH) := hD
            have ew : ((lc ++ s1L h t ++ s2L h t ++ s3L h t ++ s4L h t).length : Int) = ((lc ++ s1L h t ++ s2L h t ++ s3L h t).length : Int) + 1 := len_app1 rfl (show s4L h t = [pk (lx h) (((by_ h) + (hg h)) - ((((by_ h) + (hg h)) - (by_ t)) - (hg t))) (wd h) ((((by_ h) + (hg h)) - (by_ t)) - (hg t))] from if_pos (by omega))
            rw [← ew] at hP hD
            exact jn159 (uI A3 ((lc ++ s1L h t ++ s2L h t ++ s3L h t).length : Int) (pk (lx h) (((by_ h) + (hg h)) - ((((by_ h) + (hg h)) - (by_ t)) - (hg t))) (wd h) ((((by_ h) + (hg h)) - (by_ t)) - (hg t)))) ls _ _ (show Lst (uI A3 ((lc ++ s1L h t ++ s2L h t ++ s3L h t).length : Int) (pk (lx h) (((by_ h) + (hg h)) - ((((by_ h) + (hg h)) - (by_ t)) - (hg t))) (wd h) ((((by_ h) + (hg h)) - (by_ t)) - (hg t)))) (lc ++ s1L h t ++ s2L h t ++ s3L h t ++ s4L h t) from Lst_app1 hA3 (show s4L h t = [pk (lx h) (((by_ h) + (hg h)) - ((((by_ h) + (hg h)) - (by_ t)) - (hg t))) (wd h) ((((by_ h) + (hg h)) - (by_ t)) - (hg t))] from if_pos (by omega)) rfl) (lv_sub hl [0, 1, 2, 3, 4, 5, 6, 7, 8, 9, 10] rfl) hP hD hS
      · intro jn137
        refine lv_iload hx hb dX1_splitOne_121 (lv_at hl 9 rfl) ?_
        refine ri_if_le (tgt := 137) hx hb dX1_splitOne_123 (by decide) (by omega) (fun c123 => ?_) (fun c123 => ?_)
        · have ew : ((lc ++ s1L h t ++ s2L h t ++ s3L h t).length : Int) = ((lc ++ s1L h t ++ s2L h t).length : Int) := len_app0 rfl (show s3L h t = [] from if_neg (by omega))
          rw [← ew] at hP hD
          exact jn137 (A2) ls _ _ (show Lst A2 (lc ++ s1L h t ++ s2L h t ++ s3L h t) from Lst_app0 hA2 (show s3L h t = [] from if_neg (by omega))) (lv_sub hl [0, 1, 2, 3, 4, 5, 6, 7, 8, 9, 10] rfl) hP hD hS
        · have hlk : ((lc ++ s1L h t ++ s2L h t).length : Int) < 1024 := by (try simp only [List.length_append]); omega
          refine lv_aload_n hx hb dX1_splitOne_126 rfl (lv_at hl 0 rfl) ?_
          refine lv_iload_n hx hb dX1_splitOne_127 rfl (lv_at hl 3 rfl) ?_
          refine lv_iload hx hb dX1_splitOne_128 (lv_at hl 4 rfl) ?_
          refine lv_iload hx hb dX1_splitOne_130 (lv_at hl 5 rfl) ?_
          refine lv_iload hx hb dX1_splitOne_132 (lv_at hl 9 rfl) ?_
          refine ri_callV (rest := []) (ci := 0) (q0 := 0) (mx1_offer l (lx h) (by_ h) (wd h) ((by_ t) - (by_ h)) (by omega) (by omega) _) hx hb hml hown hts (cwV 4 hts (lw_V q138 q140 qs11 q31 q141) rfl rfl rfl (by decide +kernel) ⟨Nat.le_of_ble_eq_true rfl, Nat.le_of_ble_eq_true rfl⟩) hK hP hD hS hA rfl rfl rfl hl.1 rfl (Nat.le_of_ble_eq_true rfl) dX1_splitOne_134 ⟨Nat.zero_le _, Nat.zero_le _⟩ (fun u19 H locs hu18 hP hD hS => ?_)
          replace hP : va_P D vwCl (XW ad dB dN Cw Rw n hc (((lc ++ s1L h t ++ s2L h t).length : Int) + 1) Lf Bt Wd Hg FB HO (uI A2 ((lc ++ s1L h t ++ s2L h t).length : Int) (pk (lx h) (by_ h) (wd h) ((by_ t) - (by_ h)))) SS SH) H := hP
          replace hD : va_D A (XW ad dB dN Cw Rw n hc (((lc ++ s1L h t ++ s2L h t).length : Int) + 1) Lf Bt Wd Hg FB HO (uI A2 ((lc ++ s1L h t ++ s2L h t).length : Int) (pk (lx h) (by_ h) (wd h) ((by_ t) - (by_ h)))) SS SH) := hD
          have ew : ((lc ++ s1L h t ++ s2L h t ++ s3L h t).length : Int) = ((lc ++ s1L h t ++ s2L h t).length : Int) + 1 := len_app1 rfl (show s3L h t = [pk (lx h) (by_ h) (wd h) ((by_ t) - (by_ h))] from if_pos (by omega))
          rw [← ew] at hP hD
          exact jn137 (uI A2 ((lc ++ s1L h t ++ s2L h t).length : Int) (pk (lx h) (by_ h) (wd h) ((by_ t) - (by_ h)))) ls _ _ (show Lst (uI A2 ((lc ++ s1L h t ++ s2L h t).length : Int) (pk (lx h) (by_ h) (wd h) ((by_ t) - (by_ h)))) (lc ++ s1L h t ++ s2L h t ++ s3L h t) from Lst_app1 hA2 (show s3L h t = [pk (lx h) (by_ h) (wd h) ((by_ t) - (by_ h))] from if_pos (by omega)) rfl) (lv_sub hl [0, 1, 2, 3, 4, 5, 6, 7, 8, 9, 10] rfl) hP hD hS
    · intro jn121
      refine lv_iload hx hb dX1_splitOne_99 (lv_at hl 8 rfl) ?_
      refine ri_if_le (tgt := 121) hx hb dX1_splitOne_101 (by decide) (by omega) (fun c101 => ?_) (fun c101 => ?_)
      · have ew : ((lc ++ s1L h t ++ s2L h t).length : Int) = ((lc ++ s1L h t).length : Int) := len_app0 rfl (show s2L h t = [] from if_neg (by omega))
        rw [← ew] at hP hD
        exact jn121 (A1) ls _ _ (show Lst A1 (lc ++ s1L h t ++ s2L h t) from Lst_app0 hA1 (show s2L h t = [] from if_neg (by omega))) (lv_sub hl [0, 1, 2, 3, 4, 5, 6, 7, 8, 9, 10] rfl) hP hD hS
      · have hlk : ((lc ++ s1L h t).length : Int) < 1024 := by (try simp only [List.length_append]); omega
        refine lv_aload_n hx hb dX1_splitOne_104 rfl (lv_at hl 0 rfl) ?_
        refine lv_iload_n hx hb dX1_splitOne_105 rfl (lv_at hl 3 rfl) ?_
        refine lv_iload hx hb dX1_splitOne_106 (lv_at hl 5 rfl) ?_
        refine ri_iadd hx hb dX1_splitOne_108 ?_
        refine lv_iload hx hb dX1_splitOne_109 (lv_at hl 8 rfl) ?_
        refine ri_isub hx hb dX1_splitOne_111 ?_
        refine lv_iload hx hb dX1_splitOne_112 (lv_at hl 4 rfl) ?_
        refine lv_iload hx hb dX1_splitOne_114 (lv_at hl 8 rfl) ?_
        refine lv_iload hx hb dX1_splitOne_116 (lv_at hl 6 rfl) ?_
        refine ri_callV (rest := []) (ci := 0) (q0 := 0) (mx1_offer l (((lx h) + (wd h)) - ((((lx h) + (wd h)) - (lx t)) - (wd t))) (by_ h) ((((lx h) + (wd h)) - (lx t)) - (wd t)) (hg h) (by omega) (by omega) _) hx hb hml hown hts (cwV 4 hts (lw_V q138 q140 qs11 q31 q141) rfl rfl rfl (by decide +kernel) ⟨Nat.le_of_ble_eq_true rfl, Nat.le_of_ble_eq_true rfl⟩) hK hP hD hS hA rfl rfl rfl hl.1 rfl (Nat.le_of_ble_eq_true rfl) dX1_splitOne_118 ⟨Nat.zero_le _, Nat.zero_le _⟩ (fun u17 H locs hu16 hP hD hS => ?_)
        replace hP : va_P D vwCl (XW ad dB dN Cw Rw n hc (((lc ++ s1L h t).length : Int) + 1) Lf Bt Wd Hg FB HO (uI A1 ((lc ++ s1L h t).length : Int) (pk (((lx h) + (wd h)) - ((((lx h) + (wd h)) - (lx t)) - (wd t))) (by_ h) ((((lx h) + (wd h)) - (lx t)) - (wd t)) (hg h))) SS SH) H := hP
        replace hD : va_D A (XW ad dB dN Cw Rw n hc (((lc ++ s1L h t).length : Int) + 1) Lf Bt Wd Hg FB HO (uI A1 ((lc ++ s1L h t).length : Int) (pk (((lx h) + (wd h)) - ((((lx h) + (wd h)) - (lx t)) - (wd t))) (by_ h) ((((lx h) + (wd h)) - (lx t)) - (wd t)) (hg h))) SS SH) := hD
        have ew : ((lc ++ s1L h t ++ s2L h t).length : Int) = ((lc ++ s1L h t).length : Int) + 1 := len_app1 rfl (show s2L h t = [pk (((lx h) + (wd h)) - ((((lx h) + (wd h)) - (lx t)) - (wd t))) (by_ h) ((((lx h) + (wd h)) - (lx t)) - (wd t)) (hg h)] from if_pos (by omega))
        rw [← ew] at hP hD
        exact jn121 (uI A1 ((lc ++ s1L h t).length : Int) (pk (((lx h) + (wd h)) - ((((lx h) + (wd h)) - (lx t)) - (wd t))) (by_ h) ((((lx h) + (wd h)) - (lx t)) - (wd t)) (hg h))) ls _ _ (show Lst (uI A1 ((lc ++ s1L h t).length : Int) (pk (((lx h) + (wd h)) - ((((lx h) + (wd h)) - (lx t)) - (wd t))) (by_ h) ((((lx h) + (wd h)) - (lx t)) - (wd t)) (hg h))) (lc ++ s1L h t ++ s2L h t) from Lst_app1 hA1 (show s2L h t = [pk (((lx h) + (wd h)) - ((((lx h) + (wd h)) - (lx t)) - (wd t))) (by_ h) ((((lx h) + (wd h)) - (lx t)) - (wd t)) (hg h)] from if_pos (by omega)) rfl) (lv_sub hl [0, 1, 2, 3, 4, 5, 6, 7, 8, 9, 10] rfl) hP hD hS
  · intro jn99
    refine lv_iload hx hb dX1_splitOne_83 (lv_at hl 3 rfl) ?_
    refine ri_if_le (tgt := 99) hx hb dX1_splitOne_85 (by decide) (by omega) (fun c85 => ?_) (fun c85 => ?_)
    · have ew : ((lc ++ s1L h t).length : Int) = cn := len_app0 hcn (show s1L h t = [] from if_neg (by omega))
      rw [← ew] at hP hD
      exact jn99 (CA) ls _ _ (show Lst CA (lc ++ s1L h t) from Lst_app0 hLc (show s1L h t = [] from if_neg (by omega))) (lv_sub hl [8, 9, 10, 7, 6, 5, 4, 3, 2, 1, 0] rfl) hP hD hS
    · have hlk : (lc.length : Int) < 1024 := by (try simp only [List.length_append]); omega
      refine lv_aload_n hx hb dX1_splitOne_88 rfl (lv_at hl 8 rfl) ?_
      refine lv_iload_n hx hb dX1_splitOne_89 rfl (lv_at hl 7 rfl) ?_
      refine lv_iload hx hb dX1_splitOne_90 (lv_at hl 6 rfl) ?_
      refine lv_iload hx hb dX1_splitOne_92 (lv_at hl 3 rfl) ?_
      refine lv_iload hx hb dX1_splitOne_94 (lv_at hl 4 rfl) ?_
      refine ri_callV (rest := []) (ci := 0) (q0 := 0) (mx1_offer l (lx h) (by_ h) ((lx t) - (lx h)) (hg h) (by omega) (by omega) _) hx hb hml hown hts (cwV 4 hts (lw_V q138 q140 qs11 q31 q141) rfl rfl rfl (by decide +kernel) ⟨Nat.le_of_ble_eq_true rfl, Nat.le_of_ble_eq_true rfl⟩) hK hP hD hS hA rfl rfl rfl hl.1 rfl (Nat.le_of_ble_eq_true rfl) dX1_splitOne_96 ⟨Nat.zero_le _, Nat.zero_le _⟩ (fun u15 H locs hu14 hP hD hS => ?_)
      replace hP : va_P D vwCl (XW ad dB dN Cw Rw n hc (cn + 1) Lf Bt Wd Hg FB HO (uI CA cn (pk (lx h) (by_ h) ((lx t) - (lx h)) (hg h))) SS SH) H := hP
      replace hD : va_D A (XW ad dB dN Cw Rw n hc (cn + 1) Lf Bt Wd Hg FB HO (uI CA cn (pk (lx h) (by_ h) ((lx t) - (lx h)) (hg h))) SS SH) := hD
      have ew : ((lc ++ s1L h t).length : Int) = cn + 1 := len_app1 hcn (show s1L h t = [pk (lx h) (by_ h) ((lx t) - (lx h)) (hg h)] from if_pos (by omega))
      rw [← ew] at hP hD
      exact jn99 (uI CA cn (pk (lx h) (by_ h) ((lx t) - (lx h)) (hg h))) ls _ _ (show Lst (uI CA cn (pk (lx h) (by_ h) ((lx t) - (lx h)) (hg h))) (lc ++ s1L h t) from Lst_app1 hLc (show s1L h t = [pk (lx h) (by_ h) ((lx t) - (lx h)) (hg h)] from if_pos (by omega)) hcn) (lv_sub hl [8, 9, 10, 7, 6, 5, 4, 3, 2, 1, 0] rfl) hP hD hS
set_option maxHeartbeats 4000000 in
set_option maxRecDepth 100000 in
theorem mx1_flip (l : Launch) {D : va_G} {ad : Nat → Nat} {dB dN : ClassId} {Cw Rw n hc cn : Int} {Lf Bt Wd Hg FB HO CA SS SH : Int → Int} (i : Int) (hi : 0 ≤ i ∧ i < 20) (h1 : 0 ≤ Lf i ∧ 0 ≤ Wd i ∧ Wd i + Lf i ≤ 16) (h2 : 0 ≤ Bt i ∧ 0 ≤ Hg i ∧ Bt i + Hg i ≤ 16) (hF : maskOk FB) (sz : Nat) : MetV (S := Int → Int) l yX1_flip cX1_flip 4 0 0 [.ref (ad 0), .int (iI i)] D (XW ad dB dN Cw Rw n hc cn Lf Bt Wd Hg FB HO CA SS SH) (tX dB dN) sz (fun F => ∀ j, 0 ≤ j → j < 16 → F j = flipV FB (strip (Wd i) (Lf i)) (Bt i) (Bt i + Hg i) j) (fun F => XW ad dB dN Cw Rw n hc cn Lf Bt Wd Hg F HO CA SS SH) := by
  refine ri_met RX1 rfl (by decide) (Nat.le_of_ble_eq_true rfl) ?_
  intro p e s m below meth c hx hb hr hts hown hlocks hml hnm hv ls hl
  obtain ⟨hsz, hP, hK, hD0⟩ := hv
  subst hsz
  have hD := hD0.self (sz := s.heap.size)
  generalize hAe : va_A (XW ad dB dN Cw Rw n hc cn Lf Bt Wd Hg FB HO CA SS SH) s.heap.size = A at hD ⊢
  have hA : ∀ q : Nat, s.heap.size ≤ q → A q := fun q h => by rw [← hAe]; exact Or.inr h
  have hS : va_S A s.heap s.heap [] := va_S.rf
  have hl : lv_has ls 4 [(0, .ref (ad 0)), (1, .int (iI i))] := hl
  have hp := pow_le_of (a := (Wd i).toNat) (b := 16) (by omega)
  have hp1 := pow_pos_i (Wd i).toNat
  have hst := strip_le h1.2.1 h1.1 h1.2.2
  generalize hSt : strip (Wd i) (Lf i) = st at hst ⊢
  refine ri_iconst hx hb dX1_flip_0 ?_
  refine lv_aload_n hx hb dX1_flip_1 rfl (lv_at hl 0 rfl) ?_
  refine gx_Wd hx hb hts hown hK hP dX1_flip_2 ?_
  refine lv_iload_n hx hb dX1_flip_5 rfl (lv_at hl 1 rfl) ?_
  refine ri_bald hx hb hK hP 3 0 rfl rfl (by omega) (by decide) dX1_flip_6 ?_
  refine lv_ishl hx hb dX1_flip_7 ?_
  refine ri_top (a := 1 * 2 ^ (Wd i).toNat) (sh_lv (by omega) (by omega) (by omega)) ?_
  refine ri_iconst hx hb dX1_flip_8 ?_
  refine ri_isub hx hb dX1_flip_9 ?_
  refine lv_aload_n hx hb dX1_flip_10 rfl (lv_at hl 0 rfl) ?_
  refine gx_Lf hx hb hts hown hK hP dX1_flip_11 ?_
  refine lv_iload_n hx hb dX1_flip_14 rfl (lv_at hl 1 rfl) ?_
  refine ri_bald hx hb hK hP 1 0 rfl rfl (by omega) (by decide) dX1_flip_15 ?_
  refine lv_ishl hx hb dX1_flip_16 ?_
  refine ri_top (a := st) (by rw [← hSt, show 1 * 2 ^ (Wd i).toNat - 1 = (2 ^ (Wd i).toNat - 1 : Int) by omega]; exact sh_lv (by omega) (by omega) (by show strip (Wd i) (Lf i) < 2147483648; omega)) ?_
  refine lv_istore_n (lv' := [(2, .int (iI st)), (0, .ref (ad 0)), (1, .int (iI i))]) hx hb dX1_flip_17 rfl hl (by decide) rfl (fun ls hl => ?_)
  refine lv_aload_n hx hb dX1_flip_18 rfl (lv_at hl 1 rfl) ?_
  refine gx_Bt hx hb hts hown hK hP dX1_flip_19 ?_
  refine lv_iload_n hx hb dX1_flip_22 rfl (lv_at hl 2 rfl) ?_
  refine ri_bald hx hb hK hP 2 0 rfl rfl (by omega) (by decide) dX1_flip_23 ?_
  refine lv_istore_n (lv' := [(3, .int (iI (Bt i))), (2, .int (iI st)), (0, .ref (ad 0)), (1, .int (iI i))]) hx hb dX1_flip_24 rfl hl (by decide) rfl (fun ls hl => ?_)
  refine ri_loopW (σ := Int × (Int → Int)) (nL := 4) (fun ((y, F) : Int × (Int → Int)) => (Bt i + Hg i - y).toNat) (fun ((y, F) : Int × (Int → Int)) => Bt i ≤ y ∧ y ≤ Bt i + Hg i ∧ ∀ j, 0 ≤ j → j < 16 → F j = flipV FB st (Bt i) y j) (fun ((y, F) : Int × (Int → Int)) => [(0, .ref (ad 0)), (1, .int (iI i)), (2, .int (iI st)), (3, .int (iI y))]) (fun ((y, F) : Int × (Int → Int)) => (XW ad dB dN Cw Rw n hc cn Lf Bt Wd Hg F HO CA SS SH)) (Bt i, FB) ?_ (lv_sub hl [2, 3, 1, 0] rfl) hP hD hS ?_
  · show Bt i ≤ Bt i ∧ Bt i ≤ Bt i + Hg i ∧ ∀ j, 0 ≤ j → j < 16 → FB j = flipV FB st (Bt i) (Bt i) j
    exact ⟨by omega, by omega, fun j a b => (if_neg (by omega)).symm⟩
  · rintro ⟨y, F⟩ ls H locs hI hl hP hD hS ih25
    replace hP : va_P D vwCl (XW ad dB dN Cw Rw n hc cn Lf Bt Wd Hg F HO CA SS SH) H := hP
    replace hD : va_D A (XW ad dB dN Cw Rw n hc cn Lf Bt Wd Hg F HO CA SS SH) := hD
    replace hI : Bt i ≤ y ∧ y ≤ Bt i + Hg i ∧ ∀ j, 0 ≤ j → j < 16 → F j = flipV FB st (Bt i) y j := hI
    obtain ⟨hy0, hy1, hall⟩ := hI
    replace hl : lv_has ls 4 [(0, .ref (ad 0)), (1, .int (iI i)), (2, .int (iI st)), (3, .int (iI y))] := hl
    refine lv_iload_n hx hb dX1_flip_25 rfl (lv_at hl 3 rfl) ?_
    refine lv_aload_n hx hb dX1_flip_26 rfl (lv_at hl 0 rfl) ?_
    refine gx_Bt hx hb hts hown hK hP dX1_flip_27 ?_
    refine lv_iload_n hx hb dX1_flip_30 rfl (lv_at hl 1 rfl) ?_
    refine ri_bald hx hb hK hP 2 0 rfl rfl (by omega) (by decide) dX1_flip_31 ?_
    refine lv_aload_n hx hb dX1_flip_32 rfl (lv_at hl 0 rfl) ?_
    refine gx_Hg hx hb hts hown hK hP dX1_flip_33 ?_
    refine lv_iload_n hx hb dX1_flip_36 rfl (lv_at hl 1 rfl) ?_
    refine ri_bald hx hb hK hP 4 0 rfl rfl (by omega) (by decide) dX1_flip_37 ?_
    refine ri_iadd hx hb dX1_flip_38 ?_
    refine ri_icmp_ge (tgt := 58) hx hb dX1_flip_39 (by decide) (by omega) (by omega) (fun c39 => ?_) (fun c39 => ?_)
    · have e : y = Bt i + Hg i := by omega
      subst e
      exact ri_vretW F hx hb hr hlocks (hall) hK hP hD hS dX1_flip_58
    · have hFy : 0 ≤ F y ∧ F y < 65536 := by rw [hall y (by omega) (by omega)]; unfold flipV; rw [if_neg (by omega)]; exact hF y (by omega) (by omega)
      refine lv_aload_n hx hb dX1_flip_42 rfl (lv_at hl 0 rfl) ?_
      refine gx_FB hx hb hts hown hK hP dX1_flip_43 ?_
      refine lv_iload_n hx hb dX1_flip_46 rfl (lv_at hl 3 rfl) ?_
      refine lv_dup2_11 hx hb dX1_flip_47 rfl rfl ?_
      refine ri_iald hx hb hK hP 5 1 rfl rfl (by omega) (by decide) dX1_flip_48 ?_
      refine lv_iload_n hx hb dX1_flip_49 rfl (lv_at hl 2 rfl) ?_
      refine lv_ixor hx hb dX1_flip_50 ?_
      refine ri_top (a := xorI (F y) st) (iI_xor hFy.1 hst.1) ?_
      refine ri_iast hx hb hK hP hD hS 5 1 rfl rfl (by omega) (by decide) dX1_flip_51 (fun H locs hP hD hS => ?_)
      replace hP : va_P D vwCl (XW ad dB dN Cw Rw n hc cn Lf Bt Wd Hg (uI F y (xorI (F y) st)) HO CA SS SH) H := hP
      replace hD : va_D A (XW ad dB dN Cw Rw n hc cn Lf Bt Wd Hg (uI F y (xorI (F y) st)) HO CA SS SH) := hD
      refine ri_iinc (k := 3) (lv' := [(3, .int (iI (y + 1))), (0, .ref (ad 0)), (1, .int (iI i)), (2, .int (iI st))]) hx hb dX1_flip_52 hl rfl (by decide) rfl (fun ls hl => ?_)
      refine lv_goto (tgt := 25) hx hb dX1_flip_55 (by decide) ?_
      exact ih25 (y + 1, uI F y (xorI (F y) st)) ls _ _ (show Bt i ≤ y + 1 ∧ y + 1 ≤ Bt i + Hg i ∧ ∀ j, 0 ≤ j → j < 16 → (uI F y (xorI (F y) st)) j = flipV FB st (Bt i) (y + 1) j from ⟨by omega, by omega, flipV_step hy0 hall (by omega)⟩) (show (Bt i + Hg i - (y + 1)).toNat < (Bt i + Hg i - y).toNat by omega) (lv_sub hl [1, 2, 3, 0] rfl) hP hD hS
set_option maxHeartbeats 4000000 in
set_option maxRecDepth 100000 in
theorem mx1_keepIfLowest (l : Launch) {D : va_G} {ad : Nat → Nat} {dB dN : ClassId} {Cw Rw n hc cn : Int} {Lf Bt Wd Hg FB HO CA SS SH : Int → Int} (x y w h : Int) (hh : (0 ≤ x ∧ 0 ≤ w ∧ w + x ≤ 16) ∧ (0 ≤ y ∧ y < 16) ∧ (0 ≤ h ∧ h < 32)) (hF : maskOk FB) (lh : List Int) (hhc : hc = (lh.length : Int)) (hLh : Lst HO lh) (hlen : lh.length < 256) (sz : Nat) : MetV (S := Int → Int) l yX1_keepIfLowest cX1_keepIfLowest 6 1 24 [.ref (ad 0), .int (iI x), .int (iI y), .int (iI w), .int (iI h)] D (XW ad dB dN Cw Rw n hc cn Lf Bt Wd Hg FB HO CA SS SH) (tX dB dN) sz (fun B => Lst B (lh ++ lowL FB x y w h)) (fun B => XW ad dB dN Cw Rw n ((lh ++ lowL FB x y w h).length : Int) cn Lf Bt Wd Hg FB B CA SS SH) := by
  refine ri_met RX1 rfl (by decide) (Nat.le_of_ble_eq_true rfl) ?_
  intro p e s m below meth c hx hb hr hts hown hlocks hml hnm hv ls hl
  obtain ⟨hsz, hP, hK, hD0⟩ := hv
  subst hsz
  have hD := hD0.self (sz := s.heap.size)
  generalize hAe : va_A (XW ad dB dN Cw Rw n hc cn Lf Bt Wd Hg FB HO CA SS SH) s.heap.size = A at hD ⊢
  have hA : ∀ q : Nat, s.heap.size ≤ q → A q := fun q h => by rw [← hAe]; exact Or.inr h
  have hS : va_S A s.heap s.heap [] := va_S.rf
  have hl : lv_has ls 6 [(0, .ref (ad 0)), (1, .int (iI x)), (2, .int (iI y)), (3, .int (iI w)), (4, .int (iI h))] := hl
  have hp := pow_le_of (a := w.toNat) (b := 16) (by omega)
  have hp1 := pow_pos_i w.toNat
  have hst := strip_le hh.1.2.1 hh.1.1 hh.1.2.2
  generalize hSt : strip w x = st at hst
  refine ri_iconst hx hb dX1_keepIfLowest_0 ?_
  refine lv_iload_n hx hb dX1_keepIfLowest_1 rfl (lv_at hl 3 rfl) ?_
  refine lv_ishl hx hb dX1_keepIfLowest_2 ?_
  refine ri_top (a := 1 * 2 ^ w.toNat) (sh_lv (by omega) (by omega) (by omega)) ?_
  refine ri_iconst hx hb dX1_keepIfLowest_3 ?_
  refine ri_isub hx hb dX1_keepIfLowest_4 ?_
  refine lv_iload_n hx hb dX1_keepIfLowest_5 rfl (lv_at hl 1 rfl) ?_
  refine lv_ishl hx hb dX1_keepIfLowest_6 ?_
  refine ri_top (a := st) (by rw [← hSt, show 1 * 2 ^ w.toNat - 1 = (2 ^ w.toNat - 1 : Int) by omega]; exact sh_lv (by omega) (by omega) (by show strip w x < 2147483648; omega)) ?_
  refine lv_istore (lv' := [(5, .int (iI st)), (0, .ref (ad 0)), (1, .int (iI x)), (2, .int (iI y)), (3, .int (iI w)), (4, .int (iI h))]) hx hb dX1_keepIfLowest_7 hl (by decide) rfl (fun ls hl => ?_)
  refine lv_iload_n hx hb dX1_keepIfLowest_9 rfl (lv_at hl 3 rfl) ?_
  refine ri_if_le (tgt := 30) hx hb dX1_keepIfLowest_10 (by decide) (by omega) (fun c10 => ?_) (fun c10 => ?_)
  · refine lv_aload_n hx hb dX1_keepIfLowest_30 rfl (lv_at hl 1 rfl) ?_
    refine gx_HO hx hb hts hown hK hP dX1_keepIfLowest_31 ?_
    refine lv_aload_n hx hb dX1_keepIfLowest_34 rfl (lv_at hl 1 rfl) ?_
    refine gx_hc hx hb hts hown hK hP dX1_keepIfLowest_35 ?_
    refine lv_aload_n hx hb dX1_keepIfLowest_38 rfl (lv_at hl 1 rfl) ?_
    refine lv_iload_n hx hb dX1_keepIfLowest_39 rfl (lv_at hl 2 rfl) ?_
    refine lv_iload_n hx hb dX1_keepIfLowest_40 rfl (lv_at hl 3 rfl) ?_
    refine lv_iload_n hx hb dX1_keepIfLowest_41 rfl (lv_at hl 4 rfl) ?_
    refine lv_iload hx hb dX1_keepIfLowest_42 (lv_at hl 5 rfl) ?_
    refine ri_callR (rest := [.int (iI hc), .ref (ad 6)]) (ci := 0) (q0 := 0) (mx1_pack l x y w h (by omega)) hx hb hml hown hts (cwV 4 hts (lw_V q45 q47 qs0 q31 q48) rfl rfl rfl (by decide +kernel) ⟨Nat.le_of_ble_eq_true rfl, Nat.le_of_ble_eq_true rfl⟩) hK hP rfl rfl rfl hl.1 rfl (Nat.le_of_ble_eq_true rfl) dX1_keepIfLowest_44 ⟨Nat.zero_le _, Nat.zero_le _⟩ (fun z22 hz22 => ?_)
    subst hz22
    refine ri_iast hx hb hK hP hD hS 6 1 rfl rfl (by omega) (by decide) dX1_keepIfLowest_47 (fun H locs hP hD hS => ?_)
    replace hP : va_P D vwCl (XW ad dB dN Cw Rw n hc cn Lf Bt Wd Hg FB (uI HO hc (pk x y w h)) CA SS SH) H := hP
    replace hD : va_D A (XW ad dB dN Cw Rw n hc cn Lf Bt Wd Hg FB (uI HO hc (pk x y w h)) CA SS SH) := hD
    refine lv_aload_n hx hb dX1_keepIfLowest_48 rfl (lv_at hl 1 rfl) ?_
    refine lv_dup hx hb dX1_keepIfLowest_49 rfl ?_
    refine gx_hc hx hb hts hown hK hP dX1_keepIfLowest_50 ?_
    refine ri_iconst hx hb dX1_keepIfLowest_53 ?_
    refine ri_iadd hx hb dX1_keepIfLowest_54 ?_
    refine px_hc hx hb hts hown hK hP hD hS dX1_keepIfLowest_55 (fun H locs hP hD hS => ?_)
    have ew : ((lh ++ lowL FB x y w h).length : Int) = hc + 1 := len_app1 hhc (lowL_no (fun q => by omega))
    rw [← ew] at hP hD
    exact ri_vretW (uI HO hc (pk x y w h)) hx hb hr hlocks (Lst_app1 hLh (lowL_no (fun q => by omega)) hhc) hK hP hD hS dX1_keepIfLowest_58
  · have hFy := hF (y - 1) (by omega) (by omega)
    have har := andI_rng (a := FB (y - 1)) hst.1
    refine lv_aload_n hx hb dX1_keepIfLowest_13 rfl (lv_at hl 1 rfl) ?_
    refine gx_FB hx hb hts hown hK hP dX1_keepIfLowest_14 ?_
    refine lv_iload_n hx hb dX1_keepIfLowest_17 rfl (lv_at hl 3 rfl) ?_
    refine ri_iconst hx hb dX1_keepIfLowest_18 ?_
    refine ri_isub hx hb dX1_keepIfLowest_19 ?_
    refine ri_iald hx hb hK hP 5 1 rfl rfl (by omega) (by decide) dX1_keepIfLowest_20 ?_
    refine lv_iload hx hb dX1_keepIfLowest_21 (lv_at hl 0 rfl) ?_
    refine lv_iand hx hb dX1_keepIfLowest_23 ?_
    refine ri_top (a := andI (FB (y - 1)) st) (iI_and hFy.1 hst.1) ?_
    refine lv_iload hx hb dX1_keepIfLowest_24 (lv_at hl 0 rfl) ?_
    refine ri_icmp_ne (tgt := 30) hx hb dX1_keepIfLowest_26 (by decide) (by omega) (by omega) (fun c26 => ?_) (fun c26 => ?_)
    · refine lv_aload_n hx hb dX1_keepIfLowest_30 rfl (lv_at hl 1 rfl) ?_
      refine gx_HO hx hb hts hown hK hP dX1_keepIfLowest_31 ?_
      refine lv_aload_n hx hb dX1_keepIfLowest_34 rfl (lv_at hl 1 rfl) ?_
      refine gx_hc hx hb hts hown hK hP dX1_keepIfLowest_35 ?_
      refine lv_aload_n hx hb dX1_keepIfLowest_38 rfl (lv_at hl 1 rfl) ?_
      refine lv_iload_n hx hb dX1_keepIfLowest_39 rfl (lv_at hl 2 rfl) ?_
      refine lv_iload_n hx hb dX1_keepIfLowest_40 rfl (lv_at hl 3 rfl) ?_
      refine lv_iload_n hx hb dX1_keepIfLowest_41 rfl (lv_at hl 4 rfl) ?_
      refine lv_iload hx hb dX1_keepIfLowest_42 (lv_at hl 5 rfl) ?_
      refine ri_callR (rest := [.int (iI hc), .ref (ad 6)]) (ci := 0) (q0 := 0) (mx1_pack l x y w h (by omega)) hx hb hml hown hts (cwV 4 hts (lw_V q45 q47 qs0 q31 q48) rfl rfl rfl (by decide +kernel) ⟨Nat.le_of_ble_eq_true rfl, Nat.le_of_ble_eq_true rfl⟩) hK hP rfl rfl rfl hl.1 rfl (Nat.le_of_ble_eq_true rfl) dX1_keepIfLowest_44 ⟨Nat.zero_le _, Nat.zero_le _⟩ (fun z23 hz23 => ?_)
      subst hz23
      refine ri_iast hx hb hK hP hD hS 6 1 rfl rfl (by omega) (by decide) dX1_keepIfLowest_47 (fun H locs hP hD hS => ?_)
      replace hP : va_P D vwCl (XW ad dB dN Cw Rw n hc cn Lf Bt Wd Hg FB (uI HO hc (pk x y w h)) CA SS SH) H := hP
      replace hD : va_D A (XW ad dB dN Cw Rw n hc cn Lf Bt Wd Hg FB (uI HO hc (pk x y w h)) CA SS SH) := hD
      refine lv_aload_n hx hb dX1_keepIfLowest_48 rfl (lv_at hl 1 rfl) ?_
      refine lv_dup hx hb dX1_keepIfLowest_49 rfl ?_
      refine gx_hc hx hb hts hown hK hP dX1_keepIfLowest_50 ?_
      refine ri_iconst hx hb dX1_keepIfLowest_53 ?_
      refine ri_iadd hx hb dX1_keepIfLowest_54 ?_
      refine px_hc hx hb hts hown hK hP hD hS dX1_keepIfLowest_55 (fun H locs hP hD hS => ?_)
      have ew : ((lh ++ lowL FB x y w h).length : Int) = hc + 1 := len_app1 hhc (lowL_no (fun q => c26 (by rw [← hSt]; exact (and_strip hh.1.1 hh.1.2.1).mpr q.2)))
      rw [← ew] at hP hD
      exact ri_vretW (uI HO hc (pk x y w h)) hx hb hr hlocks (Lst_app1 hLh (lowL_no (fun q => c26 (by rw [← hSt]; exact (and_strip hh.1.1 hh.1.2.1).mpr q.2))) hhc) hK hP hD hS dX1_keepIfLowest_58
    · have hyes := lowL_yes (h := h) (w := w) (FB := FB) (x := x) (y := y) ⟨by omega, (and_strip hh.1.1 hh.1.2.1).mp (by rw [← hSt] at c26; exact c26)⟩
      have ew : ((lh ++ lowL FB x y w h).length : Int) = hc := len_app0 hhc hyes
      rw [← ew] at hP hD
      exact ri_vretW HO hx hb hr hlocks (Lst_app0 hLh hyes) hK hP hD hS dX1_keepIfLowest_29
set_option maxHeartbeats 4000000 in
set_option maxRecDepth 100000 in
theorem mx1_splitHoles (l : Launch) {D : va_G} {ad : Nat → Nat} {dB dN : ClassId} {Cw Rw n hc cn : Int} {Lf Bt Wd Hg FB HO CA SS SH : Int → Int} (i : Int) (hi : 0 ≤ i ∧ i < 20) (h1 : 0 ≤ Lf i ∧ 0 ≤ Wd i ∧ Lf i + Wd i ≤ 16) (h2 : 0 ≤ Bt i ∧ 0 ≤ Hg i ∧ Bt i + Hg i ≤ 16) (t : Int) (ht : t = (pk (Lf i) (Bt i) (Wd i) (Hg i))) (lh : List Int) (hhc : hc = (lh.length : Int)) (hLh : Lst HO lh) (hlen : lh.length ≤ 256) (hbx : ∀ q ∈ lh, boxQ q) (hfit : (keepL (candL lh t)).length ≤ 256) (sz : Nat) : MetV (S := (Int → Int) × (Int → Int)) l yX1_splitHoles cX1_splitHoles 4 3 79 [.ref (ad 0), .int (iI i)] D (XW ad dB dN Cw Rw n hc cn Lf Bt Wd Hg FB HO CA SS SH) (tX dB dN) sz (fun (B, _) => Lst B (keepL (candL lh t))) (fun (B, A') => XW ad dB dN Cw Rw n ((keepL (candL lh t)).length : Int) ((candL lh t).length : Int) Lf Bt Wd Hg FB B A' SS SH) := by
  refine ri_met RX1 rfl (by decide) (Nat.le_of_ble_eq_true rfl) ?_
  intro p e s m below meth c hx hb hr hts hown hlocks hml hnm hv ls hl
  obtain ⟨hsz, hP, hK, hD0⟩ := hv
  subst hsz
  have hD := hD0.self (sz := s.heap.size)
  generalize hAe : va_A (XW ad dB dN Cw Rw n hc cn Lf Bt Wd Hg FB HO CA SS SH) s.heap.size = A at hD ⊢
  have hA : ∀ q : Nat, s.heap.size ≤ q → A q := fun q h => by rw [← hAe]; exact Or.inr h
  have hS : va_S A s.heap s.heap [] := va_S.rf
  have hl : lv_has ls 4 [(0, .ref (ad 0)), (1, .int (iI i))] := hl
  have hbt : boxQ t := by
    obtain ⟨e1, e2, e3, e4⟩ := pk_acc (x := Lf i) (y := Bt i) (w := Wd i) (h := Hg i) (by omega) (by omega) (by omega) (by omega)
    rw [ht]
    exact ⟨pk_rng (by omega) (by omega) (by omega) (by omega), by rw [e1, e3]; omega, by rw [e2, e4]; omega⟩
  refine lv_aload_n hx hb dX1_splitHoles_0 rfl (lv_at hl 0 rfl) ?_
  refine lv_aload_n hx hb dX1_splitHoles_1 rfl (lv_at hl 0 rfl) ?_
  refine gx_Lf hx hb hts hown hK hP dX1_splitHoles_2 ?_
  refine lv_iload_n hx hb dX1_splitHoles_5 rfl (lv_at hl 1 rfl) ?_
  refine ri_bald hx hb hK hP 1 0 rfl rfl (by omega) (by decide) dX1_splitHoles_6 ?_
  refine lv_aload_n hx hb dX1_splitHoles_7 rfl (lv_at hl 0 rfl) ?_
  refine gx_Bt hx hb hts hown hK hP dX1_splitHoles_8 ?_
  refine lv_iload_n hx hb dX1_splitHoles_11 rfl (lv_at hl 1 rfl) ?_
  refine ri_bald hx hb hK hP 2 0 rfl rfl (by omega) (by decide) dX1_splitHoles_12 ?_
  refine lv_aload_n hx hb dX1_splitHoles_13 rfl (lv_at hl 0 rfl) ?_
  refine gx_Wd hx hb hts hown hK hP dX1_splitHoles_14 ?_
  refine lv_iload_n hx hb dX1_splitHoles_17 rfl (lv_at hl 1 rfl) ?_
  refine ri_bald hx hb hK hP 3 0 rfl rfl (by omega) (by decide) dX1_splitHoles_18 ?_
  refine lv_aload_n hx hb dX1_splitHoles_19 rfl (lv_at hl 0 rfl) ?_
  refine gx_Hg hx hb hts hown hK hP dX1_splitHoles_20 ?_
  refine lv_iload_n hx hb dX1_splitHoles_23 rfl (lv_at hl 1 rfl) ?_
  refine ri_bald hx hb hK hP 4 0 rfl rfl (by omega) (by decide) dX1_splitHoles_24 ?_
  refine ri_callR (rest := []) (ci := 0) (q0 := 0) (mx1_pack l (Lf i) (Bt i) (Wd i) (Hg i) (by omega)) hx hb hml hown hts (cwV 4 hts (lw_V q45 q47 qs0 q31 q48) rfl rfl rfl (by decide +kernel) ⟨Nat.le_of_ble_eq_true rfl, Nat.le_of_ble_eq_true rfl⟩) hK hP rfl rfl rfl hl.1 rfl (Nat.le_of_ble_eq_true rfl) dX1_splitHoles_25 ⟨Nat.zero_le _, Nat.zero_le _⟩ (fun z24 hz24 => ?_)
  subst hz24
  refine ri_cast (b := t) (ht.symm) ?_
  refine lv_istore_n (lv' := [(2, .int (iI t)), (0, .ref (ad 0)), (1, .int (iI i))]) hx hb dX1_splitHoles_28 rfl hl (by decide) rfl (fun ls hl => ?_)
  refine lv_aload_n hx hb dX1_splitHoles_29 rfl (lv_at hl 1 rfl) ?_
  refine ri_iconst hx hb dX1_splitHoles_30 ?_
  refine px_cn hx hb hts hown hK hP hD hS dX1_splitHoles_31 (fun H locs hP hD hS => ?_)
  refine ri_iconst hx hb dX1_splitHoles_34 ?_
  refine lv_istore_n (lv' := [(3, .int (iI 0)), (2, .int (iI t)), (0, .ref (ad 0)), (1, .int (iI i))]) hx hb dX1_splitHoles_35 rfl hl (by decide) rfl (fun ls hl => ?_)
  have ew : ((candL (lh.take (0 : Int).toNat) t).length : Int) = 0 := by simp [candL]
  rw [← ew] at hP hD
  refine ri_loopW (σ := Int × (Int → Int)) (nL := 4) (fun ((k, A1) : Int × (Int → Int)) => ((lh.length : Int) - k).toNat) (fun ((k, A1) : Int × (Int → Int)) => 0 ≤ k ∧ k ≤ (lh.length : Int) ∧ Lst A1 (candL (lh.take k.toNat) t)) (fun ((k, A1) : Int × (Int → Int)) => [(0, .ref (ad 0)), (1, .int (iI i)), (2, .int (iI t)), (3, .int (iI k))]) (fun ((k, A1) : Int × (Int → Int)) => (XW ad dB dN Cw Rw n hc ((candL (lh.take k.toNat) t).length : Int) Lf Bt Wd Hg FB HO A1 SS SH)) (0, CA) ?_ (lv_sub hl [2, 3, 1, 0] rfl) hP hD hS ?_
  · show 0 ≤ (0 : Int) ∧ (0 : Int) ≤ (lh.length : Int) ∧ Lst CA (candL (lh.take (0 : Int).toNat) t)
    exact ⟨by omega, by omega, by simp [candL, Lst_nil]⟩
  · rintro ⟨k, A1⟩ ls H locs hI hl hP hD hS ih36
    replace hP : va_P D vwCl (XW ad dB dN Cw Rw n hc ((candL (lh.take k.toNat) t).length : Int) Lf Bt Wd Hg FB HO A1 SS SH) H := hP
    replace hD : va_D A (XW ad dB dN Cw Rw n hc ((candL (lh.take k.toNat) t).length : Int) Lf Bt Wd Hg FB HO A1 SS SH) := hD
    replace hI : 0 ≤ k ∧ k ≤ (lh.length : Int) ∧ Lst A1 (candL (lh.take k.toNat) t) := hI
    obtain ⟨hk0, hk1, hA1⟩ := hI
    replace hl : lv_has ls 4 [(0, .ref (ad 0)), (1, .int (iI i)), (2, .int (iI t)), (3, .int (iI k))] := hl
    refine lv_iload_n hx hb dX1_splitHoles_36 rfl (lv_at hl 3 rfl) ?_
    refine lv_aload_n hx hb dX1_splitHoles_37 rfl (lv_at hl 0 rfl) ?_
    refine gx_hc hx hb hts hown hK hP dX1_splitHoles_38 ?_
    refine ri_icmp_ge (tgt := 88) hx hb dX1_splitHoles_41 (by decide) (by omega) (by omega) (fun c41 => ?_) (fun c41 => ?_)
    · have e0 : lh.take k.toNat = lh := List.take_of_length_le (by omega)
      rw [e0] at hP hD hA1
      have hcl := candL_len lh t
      have hbc := boxQ_okQ hA1 (candL_box hbx hbt)
      have hkl := keepP_Lst hA1
      generalize hcs : candL lh t = cs at hP hD hA1 hcl hbc hkl hfit ⊢
      refine lv_aload_n hx hb dX1_splitHoles_88 rfl (lv_at hl 0 rfl) ?_
      refine ri_iconst hx hb dX1_splitHoles_89 ?_
      refine px_hc hx hb hts hown hK hP hD hS dX1_splitHoles_90 (fun H locs hP hD hS => ?_)
      refine ri_iconst hx hb dX1_splitHoles_93 ?_
      refine lv_istore_n (lv' := [(3, .int (iI 0)), (0, .ref (ad 0)), (1, .int (iI i)), (2, .int (iI t))]) hx hb dX1_splitHoles_94 rfl hl (by decide) rfl (fun ls hl => ?_)
      have ew : ((keepP A1 cs.length (0 : Int).toNat).length : Int) = 0 := rfl
      rw [← ew] at hP hD
      refine ri_loopW (σ := Int × (Int → Int)) (nL := 4) (fun ((j, B) : Int × (Int → Int)) => ((cs.length : Int) - j).toNat) (fun ((j, B) : Int × (Int → Int)) => 0 ≤ j ∧ j ≤ (cs.length : Int) ∧ Lst B (keepP A1 cs.length j.toNat)) (fun ((j, B) : Int × (Int → Int)) => [(0, .ref (ad 0)), (1, .int (iI i)), (2, .int (iI t)), (3, .int (iI j))]) (fun ((j, B) : Int × (Int → Int)) => (XW ad dB dN Cw Rw n ((keepP A1 cs.length j.toNat).length : Int) (cs.length : Int) Lf Bt Wd Hg FB B A1 SS SH)) (0, HO) ?_ (lv_sub hl [1, 2, 3, 0] rfl) hP hD hS ?_
      · show 0 ≤ (0 : Int) ∧ (0 : Int) ≤ (cs.length : Int) ∧ Lst HO (keepP A1 cs.length (0 : Int).toNat)
        exact ⟨by omega, by omega, Lst_nil _⟩
      · rintro ⟨j, B⟩ ls H locs hI hl hP hD hS ih95
        replace hP : va_P D vwCl (XW ad dB dN Cw Rw n ((keepP A1 cs.length j.toNat).length : Int) (cs.length : Int) Lf Bt Wd Hg FB B A1 SS SH) H := hP
        replace hD : va_D A (XW ad dB dN Cw Rw n ((keepP A1 cs.length j.toNat).length : Int) (cs.length : Int) Lf Bt Wd Hg FB B A1 SS SH) := hD
        replace hI : 0 ≤ j ∧ j ≤ (cs.length : Int) ∧ Lst B (keepP A1 cs.length j.toNat) := hI
        obtain ⟨hj0, hj1, hB⟩ := hI
        replace hl : lv_has ls 4 [(0, .ref (ad 0)), (1, .int (iI i)), (2, .int (iI t)), (3, .int (iI j))] := hl
        refine lv_iload_n hx hb dX1_splitHoles_95 rfl (lv_at hl 3 rfl) ?_
        refine lv_aload_n hx hb dX1_splitHoles_96 rfl (lv_at hl 0 rfl) ?_
        refine gx_cn hx hb hts hown hK hP dX1_splitHoles_97 ?_
        refine ri_icmp_ge (tgt := 145) hx hb dX1_splitHoles_100 (by decide) (by omega) (by omega) (fun c100 => ?_) (fun c100 => ?_)
        · have e2 : j.toNat = cs.length := by omega
          rw [e2, hkl] at hP hD hB
          exact ri_vretW (B, A1) hx hb hr hlocks (hB) hK hP hD hS dX1_splitHoles_145
        · refine lv_aload_n hx hb dX1_splitHoles_103 rfl (lv_at hl 0 rfl) ?_
          refine lv_iload_n hx hb dX1_splitHoles_104 rfl (lv_at hl 3 rfl) ?_
          refine ri_callR (rest := []) (ci := 0) (q0 := 0) (mx1_isCovered l j (by omega) (by omega) hbc) hx hb hml hown hts (cwV 1 hts (lw_V q146 q148 qs13 q31 q149) rfl rfl rfl (by decide +kernel) ⟨Nat.le_of_ble_eq_true rfl, Nat.le_of_ble_eq_true rfl⟩) hK hP rfl rfl rfl hl.1 rfl (Nat.le_of_ble_eq_true rfl) dX1_splitHoles_105 ⟨Nat.zero_le _, Nat.zero_le _⟩ (fun u hu => ?_)
          refine ri_if_eq (tgt := 114) hx hb dX1_splitHoles_108 (by decide) (by omega) (fun c108 => ?_) (fun c108 => ?_)
          · have e3 := keepP_yes (CA := A1) (cn := (cs.length : Int)) (k := j) hj0 (by rcases hu with ⟨q, _⟩ | ⟨_, q⟩; exact absurd (q.symm.trans c108) (by omega); exact q)
            have e4 := keepP_mono A1 (cs.length : Int) (a := (j + 1).toNat) (b := cs.length) (by omega)
            rw [e3, List.length_append, hkl, List.length_singleton] at e4
            refine lv_aload_n hx hb dX1_splitHoles_114 rfl (lv_at hl 0 rfl) ?_
            refine gx_HO hx hb hts hown hK hP dX1_splitHoles_115 ?_
            refine lv_aload_n hx hb dX1_splitHoles_118 rfl (lv_at hl 0 rfl) ?_
            refine gx_hc hx hb hts hown hK hP dX1_splitHoles_119 ?_
            refine lv_aload_n hx hb dX1_splitHoles_122 rfl (lv_at hl 0 rfl) ?_
            refine gx_CA hx hb hts hown hK hP dX1_splitHoles_123 ?_
            refine lv_iload_n hx hb dX1_splitHoles_126 rfl (lv_at hl 3 rfl) ?_
            refine ri_iald hx hb hK hP 7 1 rfl rfl (by omega) (by decide) dX1_splitHoles_127 ?_
            refine ri_iast hx hb hK hP hD hS 6 1 rfl rfl (by omega) (by decide) dX1_splitHoles_128 (fun H locs hP hD hS => ?_)
            replace hP : va_P D vwCl (XW ad dB dN Cw Rw n ((keepP A1 cs.length j.toNat).length : Int) (cs.length : Int) Lf Bt Wd Hg FB (uI B ((keepP A1 cs.length j.toNat).length : Int) (A1 j)) A1 SS SH) H := hP
            replace hD : va_D A (XW ad dB dN Cw Rw n ((keepP A1 cs.length j.toNat).length : Int) (cs.length : Int) Lf Bt Wd Hg FB (uI B ((keepP A1 cs.length j.toNat).length : Int) (A1 j)) A1 SS SH) := hD
            refine lv_aload_n hx hb dX1_splitHoles_129 rfl (lv_at hl 0 rfl) ?_
            refine lv_dup hx hb dX1_splitHoles_130 rfl ?_
            refine gx_hc hx hb hts hown hK hP dX1_splitHoles_131 ?_
            refine ri_iconst hx hb dX1_splitHoles_134 ?_
            refine ri_iadd hx hb dX1_splitHoles_135 ?_
            refine px_hc hx hb hts hown hK hP hD hS dX1_splitHoles_136 (fun H locs hP hD hS => ?_)
            have ew : ((keepP A1 cs.length (j + 1).toNat).length : Int) = ((keepP A1 cs.length j.toNat).length : Int) + 1 := by rw [e3, List.length_append]; rfl
            rw [← ew] at hP hD
            refine ri_iinc (k := 3) (lv' := [(3, .int (iI (j + 1))), (0, .ref (ad 0)), (1, .int (iI i)), (2, .int (iI t))]) hx hb dX1_splitHoles_139 hl rfl (by decide) rfl (fun ls hl => ?_)
            refine lv_goto (tgt := 95) hx hb dX1_splitHoles_142 (by decide) ?_
            exact ih95 (j + 1, uI B ((keepP A1 cs.length j.toNat).length : Int) (A1 j)) ls _ _ (show 0 ≤ j + 1 ∧ j + 1 ≤ (cs.length : Int) ∧ Lst (uI B ((keepP A1 cs.length j.toNat).length : Int) (A1 j)) (keepP A1 cs.length (j + 1).toNat) from ⟨by omega, by omega, by rw [e3]; exact Lst_push _ hB⟩) (show ((cs.length : Int) - (j + 1)).toNat < ((cs.length : Int) - j).toNat by omega) (lv_sub hl [1, 2, 3, 0] rfl) hP hD hS
          · have e3 := keepP_no (CA := A1) (cn := (cs.length : Int)) (k := j) hj0 (by rcases hu with ⟨_, q⟩ | ⟨q, _⟩; exact q; exact absurd q c108)
            have ew : ((keepP A1 cs.length (j + 1).toNat).length : Int) = ((keepP A1 cs.length j.toNat).length : Int) := by rw [e3]
            rw [← ew] at hP hD
            refine lv_goto (tgt := 139) hx hb dX1_splitHoles_111 (by decide) ?_
            refine ri_iinc (k := 3) (lv' := [(3, .int (iI (j + 1))), (0, .ref (ad 0)), (1, .int (iI i)), (2, .int (iI t))]) hx hb dX1_splitHoles_139 hl rfl (by decide) rfl (fun ls hl => ?_)
            refine lv_goto (tgt := 95) hx hb dX1_splitHoles_142 (by decide) ?_
            exact ih95 (j + 1, B) ls _ _ (show 0 ≤ j + 1 ∧ j + 1 ≤ (cs.length : Int) ∧ Lst B (keepP A1 cs.length (j + 1).toNat) from ⟨by omega, by omega, by rw [e3]; exact hB⟩) (show ((cs.length : Int) - (j + 1)).toNat < ((cs.length : Int) - j).toNat by omega) (lv_sub hl [1, 2, 3, 0] rfl) hP hD hS
    · have hq := hbx _ (Lst_mem hLh hk0 (by omega))
      have hcl := candL_len (lh.take k.toNat) t
      rw [List.length_take] at hcl
      have hts2 := take_step hLh hk0 (by omega)
      have hsn := candL_snoc (lh.take k.toNat) (HO k) t
      refine lv_aload_n hx hb dX1_splitHoles_44 rfl (lv_at hl 0 rfl) ?_
      refine lv_aload_n hx hb dX1_splitHoles_45 rfl (lv_at hl 0 rfl) ?_
      refine gx_HO hx hb hts hown hK hP dX1_splitHoles_46 ?_
      refine lv_iload_n hx hb dX1_splitHoles_49 rfl (lv_at hl 3 rfl) ?_
      refine ri_iald hx hb hK hP 6 1 rfl rfl (by omega) (by decide) dX1_splitHoles_50 ?_
      refine lv_iload_n hx hb dX1_splitHoles_51 rfl (lv_at hl 2 rfl) ?_
      refine ri_callR (rest := []) (ci := 0) (q0 := 0) (mx1_meets l (HO k) t hq.1 hbt.1) hx hb hml hown hts (cwV 2 hts (lw_V q130 q132 qs9 q31 q133) rfl rfl rfl (by decide +kernel) ⟨Nat.le_of_ble_eq_true rfl, Nat.le_of_ble_eq_true rfl⟩) hK hP rfl rfl rfl hl.1 rfl (Nat.le_of_ble_eq_true rfl) dX1_splitHoles_52 ⟨Nat.zero_le _, Nat.zero_le _⟩ (fun u hu => ?_)
      refine ri_if_eq (tgt := 72) hx hb dX1_splitHoles_55 (by decide) (by omega) (fun c55 => ?_) (fun c55 => ?_)
      · have e1 : candL (lh.take (k + 1).toNat) t = candL (lh.take k.toNat) t ++ [HO k] := by rw [hts2, hsn]; congr 1; exact if_neg (by omega)
        refine lv_aload_n hx hb dX1_splitHoles_72 rfl (lv_at hl 0 rfl) ?_
        refine lv_aload_n hx hb dX1_splitHoles_73 rfl (lv_at hl 0 rfl) ?_
        refine gx_HO hx hb hts hown hK hP dX1_splitHoles_74 ?_
        refine lv_iload_n hx hb dX1_splitHoles_77 rfl (lv_at hl 3 rfl) ?_
        refine ri_iald hx hb hK hP 6 1 rfl rfl (by omega) (by decide) dX1_splitHoles_78 ?_
        refine ri_callV (rest := []) (ci := 0) (q0 := 0) (mx1_keepCandidate l (HO k) (by omega) _) hx hb hml hown hts (cwV 1 hts (lw_V q142 q144 qs12 q31 q145) rfl rfl rfl (by decide +kernel) ⟨Nat.le_of_ble_eq_true rfl, Nat.le_of_ble_eq_true rfl⟩) hK hP hD hS hA rfl rfl rfl hl.1 rfl (Nat.le_of_ble_eq_true rfl) dX1_splitHoles_79 ⟨Nat.zero_le _, Nat.zero_le _⟩ (fun u26 H locs hu25 hP hD hS => ?_)
        replace hP : va_P D vwCl (XW ad dB dN Cw Rw n hc (((candL (lh.take k.toNat) t).length : Int) + 1) Lf Bt Wd Hg FB HO (uI A1 ((candL (lh.take k.toNat) t).length : Int) (HO k)) SS SH) H := hP
        replace hD : va_D A (XW ad dB dN Cw Rw n hc (((candL (lh.take k.toNat) t).length : Int) + 1) Lf Bt Wd Hg FB HO (uI A1 ((candL (lh.take k.toNat) t).length : Int) (HO k)) SS SH) := hD
        have ew : ((candL (lh.take (k + 1).toNat) t).length : Int) = ((candL (lh.take k.toNat) t).length : Int) + 1 := by rw [e1, List.length_append]; rfl
        rw [← ew] at hP hD
        refine ri_iinc (k := 3) (lv' := [(3, .int (iI (k + 1))), (0, .ref (ad 0)), (1, .int (iI i)), (2, .int (iI t))]) hx hb dX1_splitHoles_82 hl rfl (by decide) rfl (fun ls hl => ?_)
        refine lv_goto (tgt := 36) hx hb dX1_splitHoles_85 (by decide) ?_
        exact ih36 (k + 1, uI A1 ((candL (lh.take k.toNat) t).length : Int) (HO k)) ls _ _ (show 0 ≤ k + 1 ∧ k + 1 ≤ (lh.length : Int) ∧ Lst (uI A1 ((candL (lh.take k.toNat) t).length : Int) (HO k)) (candL (lh.take (k + 1).toNat) t) from ⟨by omega, by omega, by rw [e1]; exact Lst_push _ hA1⟩) (show ((lh.length : Int) - (k + 1)).toNat < ((lh.length : Int) - k).toNat by omega) (lv_sub hl [1, 2, 3, 0] rfl) hP hD hS
      · have e1 : candL (lh.take (k + 1).toNat) t = candL (lh.take k.toNat) t ++ splitL (HO k) t := by rw [hts2, hsn]; congr 1; exact if_pos (by omega)
        refine lv_aload_n hx hb dX1_splitHoles_58 rfl (lv_at hl 0 rfl) ?_
        refine lv_aload_n hx hb dX1_splitHoles_59 rfl (lv_at hl 0 rfl) ?_
        refine gx_HO hx hb hts hown hK hP dX1_splitHoles_60 ?_
        refine lv_iload_n hx hb dX1_splitHoles_63 rfl (lv_at hl 3 rfl) ?_
        refine ri_iald hx hb hK hP 6 1 rfl rfl (by omega) (by decide) dX1_splitHoles_64 ?_
        refine lv_iload_n hx hb dX1_splitHoles_65 rfl (lv_at hl 2 rfl) ?_
        refine ri_callV (rest := []) (ci := 0) (q0 := 0) (mx1_splitOne l (HO k) t hq hbt _ rfl hA1 (by omega) _) hx hb hml hown hts (cwV 2 hts (lw_V q134 q136 qs10 q31 q137) rfl rfl rfl (by decide +kernel) ⟨Nat.le_of_ble_eq_true rfl, Nat.le_of_ble_eq_true rfl⟩) hK hP hD hS hA rfl rfl rfl hl.1 rfl (Nat.le_of_ble_eq_true rfl) dX1_splitHoles_66 ⟨Nat.zero_le _, Nat.zero_le _⟩ (fun u28 H locs hu27 hP hD hS => ?_)
        obtain ⟨A2, rfl⟩ : ∃ z, z = u28 := ⟨_, rfl⟩
        replace hP : va_P D vwCl (XW ad dB dN Cw Rw n hc ((candL (lh.take k.toNat) t ++ splitL (HO k) t).length : Int) Lf Bt Wd Hg FB HO A2 SS SH) H := hP
        replace hD : va_D A (XW ad dB dN Cw Rw n hc ((candL (lh.take k.toNat) t ++ splitL (HO k) t).length : Int) Lf Bt Wd Hg FB HO A2 SS SH) := hD
        have ew : ((candL (lh.take (k + 1).toNat) t).length : Int) = ((candL (lh.take k.toNat) t ++ splitL (HO k) t).length : Int) := by rw [e1]
        rw [← ew] at hP hD
        refine lv_goto (tgt := 82) hx hb dX1_splitHoles_69 (by decide) ?_
        refine ri_iinc (k := 3) (lv' := [(3, .int (iI (k + 1))), (0, .ref (ad 0)), (1, .int (iI i)), (2, .int (iI t))]) hx hb dX1_splitHoles_82 hl rfl (by decide) rfl (fun ls hl => ?_)
        refine lv_goto (tgt := 36) hx hb dX1_splitHoles_85 (by decide) ?_
        exact ih36 (k + 1, A2) ls _ _ (show 0 ≤ k + 1 ∧ k + 1 ≤ (lh.length : Int) ∧ Lst A2 (candL (lh.take (k + 1).toNat) t) from ⟨by omega, by omega, by rw [e1]; exact hu27⟩) (show ((lh.length : Int) - (k + 1)).toNat < ((lh.length : Int) - k).toNat by omega) (lv_sub hl [1, 2, 3, 0] rfl) hP hD hS
end
section
/-! the sweep of a row, as a function -/
noncomputable def popF (FB : Int → Int) (y x h : Int) : List (Int × Int) → Int → List Int → List (Int × Int) × Int × List Int
  | [], st, out => ([], st, out)
  | (s0, h0) :: r, st, out => if h < h0 then popF FB y x h r s0 (out ++ lowL FB s0 y (x - s0) h0) else ((s0, h0) :: r, st, out)
def topLt : List (Int × Int) → Int → Bool
  | [], _ => true
  | (_, h0) :: _, h => decide (h0 < h)
noncomputable def swStep (FB : Int → Int) (y : Int) (ht : Int → Int) (x : Int) (S : List (Int × Int) × List Int) : List (Int × Int) × List Int :=
  (if 0 < ht x ∧ topLt (popF FB y x (ht x) S.1 x S.2).1 (ht x) = true then ((popF FB y x (ht x) S.1 x S.2).2.1, ht x) :: (popF FB y x (ht x) S.1 x S.2).1 else (popF FB y x (ht x) S.1 x S.2).1, (popF FB y x (ht x) S.1 x S.2).2.2)
noncomputable def sw (FB : Int → Int) (y : Int) (ht : Int → Int) : Nat → List (Int × Int) × List Int
  | 0 => ([], [])
  | x + 1 => swStep FB y ht x (sw FB y ht x)
noncomputable def allS (FB : Int → Int) (Cw : Int) (ht : Int → Int → Int) : Nat → List Int
  | 0 => []
  | y + 1 => allS FB Cw ht y ++ (sw FB y (ht y) (Cw + 1).toNat).2
theorem sw_step {FB : Int → Int} {y : Int} {ht : Int → Int} {x : Int} (h0 : 0 ≤ x) : sw FB y ht (x + 1).toNat = swStep FB y ht x (sw FB y ht x.toNat) := by
  have e : (x + 1).toNat = x.toNat + 1 := by omega
  rw [e, sw, Int.toNat_of_nonneg h0]
theorem allS_step {FB : Int → Int} {Cw : Int} {ht : Int → Int → Int} {y : Int} (h0 : 0 ≤ y) : allS FB Cw ht (y + 1).toNat = allS FB Cw ht y.toNat ++ (sw FB y (ht y) (Cw + 1).toNat).2 := by
  have e : (y + 1).toNat = y.toNat + 1 := by omega
  rw [e, allS, Int.toNat_of_nonneg h0]
theorem sw_push {FB : Int → Int} {y : Int} {ht : Int → Int} {x st : Int} {stk stk0 : List (Int × Int)} {out out0 : List Int} (h0 : 0 ≤ x) (es : (stk0, out0) = sw FB y ht x.toNat) (ep : popF FB y x (ht x) stk0 x out0 = (stk, st, out)) (h1 : 0 < ht x) (h2 : topLt stk (ht x) = true) : ((st, ht x) :: stk, out) = sw FB y ht (x + 1).toNat := by
  rw [sw_step h0, ← es, swStep, ep, if_pos ⟨h1, h2⟩]
theorem sw_keep {FB : Int → Int} {y : Int} {ht : Int → Int} {x st : Int} {stk stk0 : List (Int × Int)} {out out0 : List Int} (h0 : 0 ≤ x) (es : (stk0, out0) = sw FB y ht x.toNat) (ep : popF FB y x (ht x) stk0 x out0 = (stk, st, out)) (h1 : ¬ (0 < ht x ∧ topLt stk (ht x) = true)) : (stk, out) = sw FB y ht (x + 1).toNat := by
  rw [sw_step h0, ← es, swStep, ep, if_neg h1]
/-- the stack in its two arrays -/
def Stk (S1 S2 : Int → Int) : List (Int × Int) → Prop
  | [] => True
  | p :: r => S1 (r.length : Int) = p.1 ∧ S2 (r.length : Int) = p.2 ∧ Stk S1 S2 r
theorem Stk_upd {S1 S2 : Int → Int} {k a b : Int} : ∀ {r : List (Int × Int)}, Stk S1 S2 r → (r.length : Int) ≤ k → Stk (uI S1 k a) (uI S2 k b) r
  | [], _, _ => trivial
  | p :: r, h, hk => by
    have e : ((p :: r).length : Int) = (r.length : Int) + 1 := by simp
    obtain ⟨h1, h2, h3⟩ := h
    exact ⟨by rw [uI_n _ (by omega)]; exact h1, by rw [uI_n _ (by omega)]; exact h2, Stk_upd h3 (by omega)⟩
theorem Stk_push {S1 S2 : Int → Int} {r : List (Int × Int)} (a b : Int) (h : Stk S1 S2 r) : Stk (uI S1 (r.length : Int) a) (uI S2 (r.length : Int) b) ((a, b) :: r) := ⟨uI_s _ _ _, uI_s _ _ _, Stk_upd h (Int.le_refl _)⟩
def StOk (x : Int) (stk : List (Int × Int)) : Prop := ∀ p ∈ stk, 0 ≤ p.1 ∧ p.1 < x ∧ 0 < p.2 ∧ p.2 ≤ 16
def HtS (FB : Int → Int) (Rw x y z : Int) : Prop := ∃ t, y ≤ t ∧ t ≤ Rw ∧ z = t - y ∧ (∀ j, y ≤ j → j < t → tb (FB j) x) ∧ (t = Rw ∨ ¬ tb (FB t) x)
theorem HtS_uniq {FB : Int → Int} {Rw x y z z' : Int} (h : HtS FB Rw x y z) (h' : HtS FB Rw x y z') : z = z' := by
  obtain ⟨t, a1, a2, a3, a4, a5⟩ := h
  obtain ⟨t', b1, b2, b3, b4, b5⟩ := h'
  have e : t = t' := by
    by_cases c : t < t'
    · have := b4 t a1 c
      rcases a5 with q | q
      · omega
      · exact absurd this q
    · by_cases c2 : t' < t
      · have := a4 t' b1 c2
        rcases b5 with q | q
        · omega
        · exact absurd this q
      · omega
  omega
theorem HtS_rng {FB : Int → Int} {Rw x y z : Int} (h : HtS FB Rw x y z) : 0 ≤ z ∧ z ≤ Rw - y := by
  obtain ⟨t, a1, a2, a3, -, -⟩ := h
  omega
end
section
/-! AtlasPacker: the sweep -/
set_option maxHeartbeats 4000000 in
set_option maxRecDepth 100000 in
theorem mx1_sweepFrom (l : Launch) {D : va_G} {ad : Nat → Nat} {dB dN : ClassId} {Cw Rw n hc cn : Int} {Lf Bt Wd Hg FB HO CA SS SH : Int → Int} (y : Int) (hC : 4 ≤ Cw ∧ Cw ≤ 16) (hR : 4 ≤ Rw ∧ Rw ≤ 16) (hy : 0 ≤ y ∧ y < Rw) (hF : maskOk FB) (ht : Int → Int) (hht : ∀ x, 0 ≤ x → x < Cw → HtS FB Rw x y (ht x)) (ht0 : ht Cw = 0) (lh : List Int) (hhc : hc = (lh.length : Int)) (hLh : Lst HO lh) (hlen : lh.length + 16 ≤ 256) (sz : Nat) : MetV (S := (Int → Int) × (Int → Int) × (Int → Int)) l yX1_sweepFrom cX1_sweepFrom 6 2 49 [.ref (ad 0), .int (iI y)] D (XW ad dB dN Cw Rw n hc cn Lf Bt Wd Hg FB HO CA SS SH) (tX dB dN) sz (fun (B, _, _) => Lst B (lh ++ (sw FB y ht (Cw + 1).toNat).2) ∧ ((sw FB y ht (Cw + 1).toNat).2.length : Int) ≤ 16) (fun (B, S1, S2) => XW ad dB dN Cw Rw n ((lh ++ (sw FB y ht (Cw + 1).toNat).2).length : Int) cn Lf Bt Wd Hg FB B CA S1 S2) := by
  refine ri_met RX1 rfl (by decide) (Nat.le_of_ble_eq_true rfl) ?_
  intro p e s m below meth c hx hb hr hts hown hlocks hml hnm hv ls hl
  obtain ⟨hsz, hP, hK, hD0⟩ := hv
  subst hsz
  have hD := hD0.self (sz := s.heap.size)
  generalize hAe : va_A (XW ad dB dN Cw Rw n hc cn Lf Bt Wd Hg FB HO CA SS SH) s.heap.size = A at hD ⊢
  have hA : ∀ q : Nat, s.heap.size ≤ q → A q := fun q h => by rw [← hAe]; exact Or.inr h
  have hS : va_S A s.heap s.heap [] := va_S.rf
  have hl : lv_has ls 6 [(0, .ref (ad 0)), (1, .int (iI y))] := hl
  refine ri_iconst hx hb dX1_sweepFrom_0 ?_
  refine lv_istore_n (lv' := [(2, .int (iI 0)), (0, .ref (ad 0)), (1, .int (iI y))]) hx hb dX1_sweepFrom_1 rfl hl (by decide) rfl (fun ls hl => ?_)
  refine ri_iconst hx hb dX1_sweepFrom_2 ?_
  refine lv_istore_n (lv' := [(3, .int (iI 0)), (2, .int (iI 0)), (0, .ref (ad 0)), (1, .int (iI y))]) hx hb dX1_sweepFrom_3 rfl hl (by decide) rfl (fun ls hl => ?_)
  have ew : ((lh ++ ([])).length : Int) = hc := by rw [List.append_nil]; exact hhc.symm
  rw [← ew] at hP hD
  replace hl : lv_has ls 6 [(3, .int (iI 0)), (2, .int (iI ((([] : List (Int × Int)).length : Nat) : Int))), (0, .ref (ad 0)), (1, .int (iI y))] := by rw [show ((([] : List (Int × Int)).length : Nat) : Int) = 0 from rfl]; exact hl
  refine ri_loopW (σ := Int × (List (Int × Int)) × (List Int) × (Int → Int) × (Int → Int) × (Int → Int)) (nL := 6) (fun ((x, stk, out, B, S1, S2) : Int × (List (Int × Int)) × (List Int) × (Int → Int) × (Int → Int) × (Int → Int)) => (Cw + 1 - x).toNat) (fun ((x, stk, out, B, S1, S2) : Int × (List (Int × Int)) × (List Int) × (Int → Int) × (Int → Int) × (Int → Int)) => 0 ≤ x ∧ x ≤ Cw + 1 ∧ (stk, out) = sw FB y ht x.toNat ∧ Lst B (lh ++ out) ∧ Stk S1 S2 stk ∧ StOk x stk ∧ (stk.length : Int) + (out.length : Int) ≤ x ∧ (stk.length : Int) + (out.length : Int) ≤ Cw) (fun ((x, stk, out, B, S1, S2) : Int × (List (Int × Int)) × (List Int) × (Int → Int) × (Int → Int) × (Int → Int)) => [(0, .ref (ad 0)), (1, .int (iI y)), (2, .int (iI (stk.length : Int))), (3, .int (iI x))]) (fun ((x, stk, out, B, S1, S2) : Int × (List (Int × Int)) × (List Int) × (Int → Int) × (Int → Int) × (Int → Int)) => (XW ad dB dN Cw Rw n ((lh ++ out).length : Int) cn Lf Bt Wd Hg FB B CA S1 S2)) (0, ([] : List (Int × Int)), ([] : List Int), HO, SS, SH) ?_ (lv_sub hl [2, 3, 1, 0] rfl) hP hD hS ?_
  · show 0 ≤ (0 : Int) ∧ (0 : Int) ≤ Cw + 1 ∧ (([] : List (Int × Int)), ([] : List Int)) = sw FB y ht (0 : Int).toNat ∧ Lst HO (lh ++ ([] : List Int)) ∧ Stk SS SH ([] : List (Int × Int)) ∧ StOk (0 : Int) ([] : List (Int × Int)) ∧ (([] : List (Int × Int)).length : Int) + (([] : List Int).length : Int) ≤ (0 : Int) ∧ (([] : List (Int × Int)).length : Int) + (([] : List Int).length : Int) ≤ Cw
    exact ⟨by omega, by omega, rfl, by rw [List.append_nil]; exact hLh, trivial, fun p h => (by cases h), by simp, by simp; omega⟩
  · rintro ⟨x, stk, out, B, S1, S2⟩ ls H locs hI hl hP hD hS ih4
    replace hP : va_P D vwCl (XW ad dB dN Cw Rw n ((lh ++ out).length : Int) cn Lf Bt Wd Hg FB B CA S1 S2) H := hP
    replace hD : va_D A (XW ad dB dN Cw Rw n ((lh ++ out).length : Int) cn Lf Bt Wd Hg FB B CA S1 S2) := hD
    replace hI : 0 ≤ x ∧ x ≤ Cw + 1 ∧ (stk, out) = sw FB y ht x.toNat ∧ Lst B (lh ++ out) ∧ Stk S1 S2 stk ∧ StOk x stk ∧ (stk.length : Int) + (out.length : Int) ≤ x ∧ (stk.length : Int) + (out.length : Int) ≤ Cw := hI
    obtain ⟨hx0, hx1, hsw, hB, hSt, hOk, hl1, hl2⟩ := hI
    replace hl : lv_has ls 6 [(0, .ref (ad 0)), (1, .int (iI y)), (2, .int (iI (stk.length : Int))), (3, .int (iI x))] := hl
    refine lv_iload_n hx hb dX1_sweepFrom_4 rfl (lv_at hl 3 rfl) ?_
    refine lv_aload_n hx hb dX1_sweepFrom_5 rfl (lv_at hl 0 rfl) ?_
    refine gx_Cw hx hb hts hown hK hP dX1_sweepFrom_6 ?_
    refine ri_icmp_gt (tgt := 132) hx hb dX1_sweepFrom_9 (by decide) (by omega) (by omega) (fun c9 => ?_) (fun c9 => ?_)
    · have e : x = Cw + 1 := by omega
      subst e
      have e2 : (sw FB y ht (Cw + 1).toNat).2 = out := by rw [← hsw]
      rw [← e2] at hP hD hB hl2
      exact ri_vretW (B, S1, S2) hx hb hr hlocks (⟨hB, by omega⟩) hK hP hD hS dX1_sweepFrom_132
    · have hhx : 0 ≤ ht x ∧ ht x ≤ 16 ∧ (0 < ht x → x < Cw) := by
        by_cases q : x < Cw
        · have := HtS_rng (hht x hx0 q); omega
        · have e : x = Cw := by omega
          rw [e, ht0]; omega
      refine ri_joinW (σ := Int) (nL := 6) 30 (fun (v : Int) => v = ht x) (fun (v : Int) => [(0, .ref (ad 0)), (1, .int (iI y)), (2, .int (iI (stk.length : Int))), (3, .int (iI x))]) (fun (v : Int) => [.int (iI v)]) (fun (v : Int) => (XW ad dB dN Cw Rw n ((lh ++ out).length : Int) cn Lf Bt Wd Hg FB B CA S1 S2)) D vwCl A s.heap ?_ ?_
      · rintro v ls H locs hI hl hP hD hS
        replace hP : va_P D vwCl (XW ad dB dN Cw Rw n ((lh ++ out).length : Int) cn Lf Bt Wd Hg FB B CA S1 S2) H := hP
        replace hD : va_D A (XW ad dB dN Cw Rw n ((lh ++ out).length : Int) cn Lf Bt Wd Hg FB B CA S1 S2) := hD
        replace hI : v = ht x := hI
        replace hl : lv_has ls 6 [(0, .ref (ad 0)), (1, .int (iI y)), (2, .int (iI (stk.length : Int))), (3, .int (iI x))] := hl
        subst hI
        refine lv_istore (lv' := [(4, .int (iI (ht x))), (0, .ref (ad 0)), (1, .int (iI y)), (2, .int (iI (stk.length : Int))), (3, .int (iI x))]) hx hb dX1_sweepFrom_30 hl (by decide) rfl (fun ls hl => ?_)
        refine lv_iload_n hx hb dX1_sweepFrom_32 rfl (lv_at hl 4 rfl) ?_
        refine lv_istore (lv' := [(5, .int (iI x)), (4, .int (iI (ht x))), (0, .ref (ad 0)), (1, .int (iI y)), (2, .int (iI (stk.length : Int))), (3, .int (iI x))]) hx hb dX1_sweepFrom_33 hl (by decide) rfl (fun ls hl => ?_)
        refine ri_joinW (σ := (List (Int × Int)) × Int × (List Int) × (Int → Int)) (nL := 6) 83 (fun ((k, st, o, G) : (List (Int × Int)) × Int × (List Int) × (Int → Int)) => popF FB y x (ht x) stk x out = (k, st, o) ∧ Lst G (lh ++ o) ∧ Stk S1 S2 k ∧ StOk x k ∧ (k.length : Int) + (o.length : Int) ≤ x ∧ (k.length : Int) + (o.length : Int) ≤ Cw ∧ 0 ≤ st ∧ st ≤ x) (fun ((k, st, o, G) : (List (Int × Int)) × Int × (List Int) × (Int → Int)) => [(0, .ref (ad 0)), (1, .int (iI y)), (2, .int (iI (k.length : Int))), (3, .int (iI x)), (4, .int (iI (ht x))), (5, .int (iI st))]) (fun ((k, st, o, G) : (List (Int × Int)) × Int × (List Int) × (Int → Int)) => []) (fun ((k, st, o, G) : (List (Int × Int)) × Int × (List Int) × (Int → Int)) => (XW ad dB dN Cw Rw n ((lh ++ o).length : Int) cn Lf Bt Wd Hg FB G CA S1 S2)) D vwCl A s.heap ?_ ?_
        · rintro ⟨k, st, o, G⟩ ls H locs hI hl hP hD hS
          replace hP : va_P D vwCl (XW ad dB dN Cw Rw n ((lh ++ o).length : Int) cn Lf Bt Wd Hg FB G CA S1 S2) H := hP
          replace hD : va_D A (XW ad dB dN Cw Rw n ((lh ++ o).length : Int) cn Lf Bt Wd Hg FB G CA S1 S2) := hD
          replace hI : popF FB y x (ht x) stk x out = (k, st, o) ∧ Lst G (lh ++ o) ∧ Stk S1 S2 k ∧ StOk x k ∧ (k.length : Int) + (o.length : Int) ≤ x ∧ (k.length : Int) + (o.length : Int) ≤ Cw ∧ 0 ≤ st ∧ st ≤ x := hI
          obtain ⟨hp, hG, hSt2, hOk2, hm1, hm2, hst0, hst1⟩ := hI
          replace hl : lv_has ls 6 [(0, .ref (ad 0)), (1, .int (iI y)), (2, .int (iI (k.length : Int))), (3, .int (iI x)), (4, .int (iI (ht x))), (5, .int (iI st))] := hl
          rcases k with _ | ⟨⟨s0, h0⟩, r⟩
          · replace hl : lv_has ls 6 [(0, .ref (ad 0)), (1, .int (iI y)), (2, .int (iI 0)), (3, .int (iI x)), (4, .int (iI (ht x))), (5, .int (iI st))] := by rw [show 0 = ((([] : List (Int × Int)).length : Nat) : Int) from rfl]; exact hl
            refine lv_iload hx hb dX1_sweepFrom_83 (lv_at hl 4 rfl) ?_
            refine ri_if_le (tgt := 126) hx hb dX1_sweepFrom_85 (by decide) (by omega) (fun c85 => ?_) (fun c85 => ?_)
            · replace hl : lv_has ls 6 [(0, .ref (ad 0)), (1, .int (iI y)), (2, .int (iI ((([] : List (Int × Int)).length : Nat) : Int))), (3, .int (iI x)), (4, .int (iI (ht x))), (5, .int (iI st))] := by rw [show ((([] : List (Int × Int)).length : Nat) : Int) = 0 from rfl]; exact hl
              refine ri_iinc (k := 3) (lv' := [(3, .int (iI (x + 1))), (0, .ref (ad 0)), (1, .int (iI y)), (2, .int (iI ((([] : List (Int × Int)).length : Nat) : Int))), (4, .int (iI (ht x))), (5, .int (iI st))]) hx hb dX1_sweepFrom_126 hl rfl (by decide) rfl (fun ls hl => ?_)
              refine lv_goto (tgt := 4) hx hb dX1_sweepFrom_129 (by decide) ?_
              exact ih4 (x + 1, [], o, G, S1, S2) ls _ _ (show 0 ≤ x + 1 ∧ x + 1 ≤ Cw + 1 ∧ ([], o) = sw FB y ht (x + 1).toNat ∧ Lst G (lh ++ o) ∧ Stk S1 S2 ([]) ∧ StOk (x + 1) ([]) ∧ (([]).length : Int) + (o.length : Int) ≤ x + 1 ∧ (([]).length : Int) + (o.length : Int) ≤ Cw from ⟨by omega, by omega, sw_keep hx0 hsw hp (fun q => by omega), hG, trivial, fun p h => by have := hOk2 p h; omega, by omega, by omega⟩) (show (Cw + 1 - (x + 1)).toNat < (Cw + 1 - x).toNat by omega) (lv_sub hl [1, 2, 3, 0] rfl) hP hD hS
            · refine lv_iload_n hx hb dX1_sweepFrom_88 rfl (lv_at hl 2 rfl) ?_
              refine ri_if_eq (tgt := 105) hx hb dX1_sweepFrom_89 (by decide) (by omega) (fun c89 => ?_) (fun c89 => absurd c89 (by omega))
              refine lv_aload_n hx hb dX1_sweepFrom_105 rfl (lv_at hl 0 rfl) ?_
              refine gx_SS hx hb hts hown hK hP dX1_sweepFrom_106 ?_
              refine lv_iload_n hx hb dX1_sweepFrom_109 rfl (lv_at hl 2 rfl) ?_
              refine lv_iload hx hb dX1_sweepFrom_110 (lv_at hl 5 rfl) ?_
              refine ri_i2b hx hb dX1_sweepFrom_112 (by omega) ?_
              refine ri_bast hx hb hK hP hD hS 8 0 rfl rfl (by omega) (by decide) (by omega) dX1_sweepFrom_113 (fun H locs hP hD hS => ?_)
              replace hP : va_P D vwCl (XW ad dB dN Cw Rw n ((lh ++ o).length : Int) cn Lf Bt Wd Hg FB G CA (uI S1 0 st) S2) H := hP
              replace hD : va_D A (XW ad dB dN Cw Rw n ((lh ++ o).length : Int) cn Lf Bt Wd Hg FB G CA (uI S1 0 st) S2) := hD
              refine lv_aload_n hx hb dX1_sweepFrom_114 rfl (lv_at hl 0 rfl) ?_
              refine gx_SH hx hb hts hown hK hP dX1_sweepFrom_115 ?_
              refine lv_iload_n hx hb dX1_sweepFrom_118 rfl (lv_at hl 2 rfl) ?_
              refine lv_iload hx hb dX1_sweepFrom_119 (lv_at hl 4 rfl) ?_
              refine ri_i2b hx hb dX1_sweepFrom_121 (by omega) ?_
              refine ri_bast hx hb hK hP hD hS 9 0 rfl rfl (by omega) (by decide) (by omega) dX1_sweepFrom_122 (fun H locs hP hD hS => ?_)
              replace hP : va_P D vwCl (XW ad dB dN Cw Rw n ((lh ++ o).length : Int) cn Lf Bt Wd Hg FB G CA (uI S1 0 st) (uI S2 0 (ht x))) H := hP
              replace hD : va_D A (XW ad dB dN Cw Rw n ((lh ++ o).length : Int) cn Lf Bt Wd Hg FB G CA (uI S1 0 st) (uI S2 0 (ht x))) := hD
              refine ri_iinc (k := 2) (lv' := [(2, .int (iI (0 + 1))), (0, .ref (ad 0)), (1, .int (iI y)), (3, .int (iI x)), (4, .int (iI (ht x))), (5, .int (iI st))]) hx hb dX1_sweepFrom_123 hl rfl (by decide) rfl (fun ls hl => ?_)
              replace hl : lv_has ls 6 [(2, .int (iI (((st, ht x) :: ([] : List (Int × Int))).length : Int))), (0, .ref (ad 0)), (1, .int (iI y)), (3, .int (iI x)), (4, .int (iI (ht x))), (5, .int (iI st))] := by rw [show (((st, ht x) :: ([] : List (Int × Int))).length : Int) = 0 + 1 from rfl]; exact hl
              have hm3 : (o.length : Int) ≤ x := by simp at hm1; omega
              have hm4 : (o.length : Int) + 1 ≤ Cw := by have := hhx.2.2 c85; omega
              refine ri_iinc (k := 3) (lv' := [(3, .int (iI (x + 1))), (2, .int (iI (((st, ht x) :: ([] : List (Int × Int))).length : Int))), (0, .ref (ad 0)), (1, .int (iI y)), (4, .int (iI (ht x))), (5, .int (iI st))]) hx hb dX1_sweepFrom_126 hl rfl (by decide) rfl (fun ls hl => ?_)
              refine lv_goto (tgt := 4) hx hb dX1_sweepFrom_129 (by decide) ?_
              exact ih4 (x + 1, (st, ht x) :: [], o, G, uI S1 0 st, uI S2 0 (ht x)) ls _ _ (show 0 ≤ x + 1 ∧ x + 1 ≤ Cw + 1 ∧ ((st, ht x) :: [], o) = sw FB y ht (x + 1).toNat ∧ Lst G (lh ++ o) ∧ Stk (uI S1 0 st) (uI S2 0 (ht x)) ((st, ht x) :: []) ∧ StOk (x + 1) ((st, ht x) :: []) ∧ (((st, ht x) :: []).length : Int) + (o.length : Int) ≤ x + 1 ∧ (((st, ht x) :: []).length : Int) + (o.length : Int) ≤ Cw from ⟨by omega, by omega, sw_push hx0 hsw hp c85 rfl, hG, Stk_push (r := []) st (ht x) trivial, fun p h => (List.mem_cons.mp h).elim (fun e => by subst e; exact ⟨hst0, by show st < x + 1; omega, c85, by show ht x ≤ 16; omega⟩) (fun e => by have := hOk2 p e; omega), by simp; omega, by simp; omega⟩) (show (Cw + 1 - (x + 1)).toNat < (Cw + 1 - x).toNat by omega) (lv_sub hl [2, 3, 1, 0] rfl) hP hD hS
          · have el : ((((s0, h0) :: r).length : Nat) : Int) = (r.length : Int) + 1 := by simp
            rw [el] at hm1 hm2
            obtain ⟨q1, q2, q3⟩ := hSt2
            have q1 : S1 (r.length : Int) = s0 := q1
            have q2 : S2 (r.length : Int) = h0 := q2
            have hs0 := hOk2 (s0, h0) List.mem_cons_self
            have hs0 : 0 ≤ s0 ∧ s0 < x ∧ 0 < h0 ∧ h0 ≤ 16 := hs0
            replace hl : lv_has ls 6 [(0, .ref (ad 0)), (1, .int (iI y)), (2, .int (iI ((r.length : Int) + 1))), (3, .int (iI x)), (4, .int (iI (ht x))), (5, .int (iI st))] := by rw [show (r.length : Int) + 1 = ((((s0, h0) :: r).length : Nat) : Int) from el.symm]; exact hl
            refine lv_iload hx hb dX1_sweepFrom_83 (lv_at hl 4 rfl) ?_
            refine ri_if_le (tgt := 126) hx hb dX1_sweepFrom_85 (by decide) (by omega) (fun c85 => ?_) (fun c85 => ?_)
            · replace hl : lv_has ls 6 [(0, .ref (ad 0)), (1, .int (iI y)), (2, .int (iI ((((s0, h0) :: r).length : Nat) : Int))), (3, .int (iI x)), (4, .int (iI (ht x))), (5, .int (iI st))] := by rw [show ((((s0, h0) :: r).length : Nat) : Int) = (r.length : Int) + 1 from el]; exact hl
              refine ri_iinc (k := 3) (lv' := [(3, .int (iI (x + 1))), (0, .ref (ad 0)), (1, .int (iI y)), (2, .int (iI ((((s0, h0) :: r).length : Nat) : Int))), (4, .int (iI (ht x))), (5, .int (iI st))]) hx hb dX1_sweepFrom_126 hl rfl (by decide) rfl (fun ls hl => ?_)
              refine lv_goto (tgt := 4) hx hb dX1_sweepFrom_129 (by decide) ?_
              exact ih4 (x + 1, (s0, h0) :: r, o, G, S1, S2) ls _ _ (show 0 ≤ x + 1 ∧ x + 1 ≤ Cw + 1 ∧ ((s0, h0) :: r, o) = sw FB y ht (x + 1).toNat ∧ Lst G (lh ++ o) ∧ Stk S1 S2 ((s0, h0) :: r) ∧ StOk (x + 1) ((s0, h0) :: r) ∧ (((s0, h0) :: r).length : Int) + (o.length : Int) ≤ x + 1 ∧ (((s0, h0) :: r).length : Int) + (o.length : Int) ≤ Cw from ⟨by omega, by omega, sw_keep hx0 hsw hp (fun q => by omega), hG, ⟨q1, q2, q3⟩, fun p h => by have := hOk2 p h; omega, by omega, by omega⟩) (show (Cw + 1 - (x + 1)).toNat < (Cw + 1 - x).toNat by omega) (lv_sub hl [1, 2, 3, 0] rfl) hP hD hS
            · refine lv_iload_n hx hb dX1_sweepFrom_88 rfl (lv_at hl 2 rfl) ?_
              refine ri_if_eq (tgt := 105) hx hb dX1_sweepFrom_89 (by decide) (by omega) (fun c89 => absurd c89 (by omega)) (fun c89 => ?_)
              refine lv_aload_n hx hb dX1_sweepFrom_92 rfl (lv_at hl 0 rfl) ?_
              refine gx_SH hx hb hts hown hK hP dX1_sweepFrom_93 ?_
              refine lv_iload_n hx hb dX1_sweepFrom_96 rfl (lv_at hl 2 rfl) ?_
              refine ri_iconst hx hb dX1_sweepFrom_97 ?_
              refine ri_isub hx hb dX1_sweepFrom_98 ?_
              refine ri_cast (b := (r.length : Int)) (by omega) ?_
              refine ri_bald hx hb hK hP 9 0 rfl rfl (by omega) (by decide) dX1_sweepFrom_99 ?_
              refine ri_cast (b := h0) (q2) ?_
              refine lv_iload hx hb dX1_sweepFrom_100 (lv_at hl 4 rfl) ?_
              refine ri_icmp_ge (tgt := 126) hx hb dX1_sweepFrom_102 (by decide) (by omega) (by omega) (fun c102 => ?_) (fun c102 => ?_)
              · replace hl : lv_has ls 6 [(0, .ref (ad 0)), (1, .int (iI y)), (2, .int (iI ((((s0, h0) :: r).length : Nat) : Int))), (3, .int (iI x)), (4, .int (iI (ht x))), (5, .int (iI st))] := by rw [show ((((s0, h0) :: r).length : Nat) : Int) = (r.length : Int) + 1 from el]; exact hl
                refine ri_iinc (k := 3) (lv' := [(3, .int (iI (x + 1))), (0, .ref (ad 0)), (1, .int (iI y)), (2, .int (iI ((((s0, h0) :: r).length : Nat) : Int))), (4, .int (iI (ht x))), (5, .int (iI st))]) hx hb dX1_sweepFrom_126 hl rfl (by decide) rfl (fun ls hl => ?_)
                refine lv_goto (tgt := 4) hx hb dX1_sweepFrom_129 (by decide) ?_
                exact ih4 (x + 1, (s0, h0) :: r, o, G, S1, S2) ls _ _ (show 0 ≤ x + 1 ∧ x + 1 ≤ Cw + 1 ∧ ((s0, h0) :: r, o) = sw FB y ht (x + 1).toNat ∧ Lst G (lh ++ o) ∧ Stk S1 S2 ((s0, h0) :: r) ∧ StOk (x + 1) ((s0, h0) :: r) ∧ (((s0, h0) :: r).length : Int) + (o.length : Int) ≤ x + 1 ∧ (((s0, h0) :: r).length : Int) + (o.length : Int) ≤ Cw from ⟨by omega, by omega, sw_keep hx0 hsw hp (fun q => by have := q.2; simp [topLt] at this; omega), hG, ⟨q1, q2, q3⟩, fun p h => by have := hOk2 p h; omega, by omega, by omega⟩) (show (Cw + 1 - (x + 1)).toNat < (Cw + 1 - x).toNat by omega) (lv_sub hl [1, 2, 3, 0] rfl) hP hD hS
              · have hm4 := hhx.2.2 c85
                refine lv_aload_n hx hb dX1_sweepFrom_105 rfl (lv_at hl 0 rfl) ?_
                refine gx_SS hx hb hts hown hK hP dX1_sweepFrom_106 ?_
                refine lv_iload_n hx hb dX1_sweepFrom_109 rfl (lv_at hl 2 rfl) ?_
                refine lv_iload hx hb dX1_sweepFrom_110 (lv_at hl 5 rfl) ?_
                refine ri_i2b hx hb dX1_sweepFrom_112 (by omega) ?_
                refine ri_bast hx hb hK hP hD hS 8 0 rfl rfl (by omega) (by decide) (by omega) dX1_sweepFrom_113 (fun H locs hP hD hS => ?_)
                replace hP : va_P D vwCl (XW ad dB dN Cw Rw n ((lh ++ o).length : Int) cn Lf Bt Wd Hg FB G CA (uI S1 ((r.length : Int) + 1) st) S2) H := hP
                replace hD : va_D A (XW ad dB dN Cw Rw n ((lh ++ o).length : Int) cn Lf Bt Wd Hg FB G CA (uI S1 ((r.length : Int) + 1) st) S2) := hD
                refine lv_aload_n hx hb dX1_sweepFrom_114 rfl (lv_at hl 0 rfl) ?_
                refine gx_SH hx hb hts hown hK hP dX1_sweepFrom_115 ?_
                refine lv_iload_n hx hb dX1_sweepFrom_118 rfl (lv_at hl 2 rfl) ?_
                refine lv_iload hx hb dX1_sweepFrom_119 (lv_at hl 4 rfl) ?_
                refine ri_i2b hx hb dX1_sweepFrom_121 (by omega) ?_
                refine ri_bast hx hb hK hP hD hS 9 0 rfl rfl (by omega) (by decide) (by omega) dX1_sweepFrom_122 (fun H locs hP hD hS => ?_)
                replace hP : va_P D vwCl (XW ad dB dN Cw Rw n ((lh ++ o).length : Int) cn Lf Bt Wd Hg FB G CA (uI S1 ((r.length : Int) + 1) st) (uI S2 ((r.length : Int) + 1) (ht x))) H := hP
                replace hD : va_D A (XW ad dB dN Cw Rw n ((lh ++ o).length : Int) cn Lf Bt Wd Hg FB G CA (uI S1 ((r.length : Int) + 1) st) (uI S2 ((r.length : Int) + 1) (ht x))) := hD
                refine ri_iinc (k := 2) (lv' := [(2, .int (iI (((r.length : Int) + 1) + 1))), (0, .ref (ad 0)), (1, .int (iI y)), (3, .int (iI x)), (4, .int (iI (ht x))), (5, .int (iI st))]) hx hb dX1_sweepFrom_123 hl rfl (by decide) rfl (fun ls hl => ?_)
                replace hl : lv_has ls 6 [(2, .int (iI (((st, ht x) :: (s0, h0) :: r).length : Int))), (0, .ref (ad 0)), (1, .int (iI y)), (3, .int (iI x)), (4, .int (iI (ht x))), (5, .int (iI st))] := by rw [show (((st, ht x) :: (s0, h0) :: r).length : Int) = ((r.length : Int) + 1) + 1 from by simp]; exact hl
                have hlx : ((((st, ht x) :: (s0, h0) :: r).length : Nat) : Int) = (r.length : Int) + 1 + 1 := by simp
                have hm5 : (r.length : Int) + 1 + (o.length : Int) + 1 ≤ Cw := by omega
                refine ri_iinc (k := 3) (lv' := [(3, .int (iI (x + 1))), (2, .int (iI (((st, ht x) :: (s0, h0) :: r).length : Int))), (0, .ref (ad 0)), (1, .int (iI y)), (4, .int (iI (ht x))), (5, .int (iI st))]) hx hb dX1_sweepFrom_126 hl rfl (by decide) rfl (fun ls hl => ?_)
                refine lv_goto (tgt := 4) hx hb dX1_sweepFrom_129 (by decide) ?_
                exact ih4 (x + 1, (st, ht x) :: (s0, h0) :: r, o, G, uI S1 ((r.length : Int) + 1) st, uI S2 ((r.length : Int) + 1) (ht x)) ls _ _ (show 0 ≤ x + 1 ∧ x + 1 ≤ Cw + 1 ∧ ((st, ht x) :: (s0, h0) :: r, o) = sw FB y ht (x + 1).toNat ∧ Lst G (lh ++ o) ∧ Stk (uI S1 ((r.length : Int) + 1) st) (uI S2 ((r.length : Int) + 1) (ht x)) ((st, ht x) :: (s0, h0) :: r) ∧ StOk (x + 1) ((st, ht x) :: (s0, h0) :: r) ∧ (((st, ht x) :: (s0, h0) :: r).length : Int) + (o.length : Int) ≤ x + 1 ∧ (((st, ht x) :: (s0, h0) :: r).length : Int) + (o.length : Int) ≤ Cw from ⟨by omega, by omega, sw_push hx0 hsw hp c85 (by simp [topLt]; omega), hG, by rw [← el]; exact Stk_push st (ht x) ⟨q1, q2, q3⟩, fun p h => (List.mem_cons.mp h).elim (fun e => by subst e; exact ⟨hst0, by show st < x + 1; omega, c85, by show ht x ≤ 16; omega⟩) (fun e => by have := hOk2 p e; omega), by omega, by omega⟩) (show (Cw + 1 - (x + 1)).toNat < (Cw + 1 - x).toNat by omega) (lv_sub hl [2, 3, 1, 0] rfl) hP hD hS
        · intro jn83
          refine ri_loopW (σ := (List (Int × Int)) × Int × (List Int) × (Int → Int)) (nL := 6) (fun ((k, st, o, G) : (List (Int × Int)) × Int × (List Int) × (Int → Int)) => k.length) (fun ((k, st, o, G) : (List (Int × Int)) × Int × (List Int) × (Int → Int)) => popF FB y x (ht x) stk x out = popF FB y x (ht x) k st o ∧ Lst G (lh ++ o) ∧ Stk S1 S2 k ∧ StOk x k ∧ (k.length : Int) + (o.length : Int) ≤ x ∧ (k.length : Int) + (o.length : Int) ≤ Cw ∧ 0 ≤ st ∧ st ≤ x) (fun ((k, st, o, G) : (List (Int × Int)) × Int × (List Int) × (Int → Int)) => [(0, .ref (ad 0)), (1, .int (iI y)), (2, .int (iI (k.length : Int))), (3, .int (iI x)), (4, .int (iI (ht x))), (5, .int (iI st))]) (fun ((k, st, o, G) : (List (Int × Int)) × Int × (List Int) × (Int → Int)) => (XW ad dB dN Cw Rw n ((lh ++ o).length : Int) cn Lf Bt Wd Hg FB G CA S1 S2)) (stk, x, out, B) ?_ (lv_sub hl [2, 3, 4, 5, 1, 0] rfl) hP hD hS ?_
          · show popF FB y x (ht x) stk x out = popF FB y x (ht x) stk x out ∧ Lst B (lh ++ out) ∧ Stk S1 S2 stk ∧ StOk x stk ∧ (stk.length : Int) + (out.length : Int) ≤ x ∧ (stk.length : Int) + (out.length : Int) ≤ Cw ∧ 0 ≤ x ∧ x ≤ x
            exact ⟨rfl, hB, hSt, hOk, hl1, hl2, hx0, Int.le_refl _⟩
          · rintro ⟨k, st, o, G⟩ ls H locs hI hl hP hD hS ih35
            replace hP : va_P D vwCl (XW ad dB dN Cw Rw n ((lh ++ o).length : Int) cn Lf Bt Wd Hg FB G CA S1 S2) H := hP
            replace hD : va_D A (XW ad dB dN Cw Rw n ((lh ++ o).length : Int) cn Lf Bt Wd Hg FB G CA S1 S2) := hD
            replace hI : popF FB y x (ht x) stk x out = popF FB y x (ht x) k st o ∧ Lst G (lh ++ o) ∧ Stk S1 S2 k ∧ StOk x k ∧ (k.length : Int) + (o.length : Int) ≤ x ∧ (k.length : Int) + (o.length : Int) ≤ Cw ∧ 0 ≤ st ∧ st ≤ x := hI
            obtain ⟨hp, hG, hSt2, hOk2, hm1, hm2, hst0, hst1⟩ := hI
            replace hl : lv_has ls 6 [(0, .ref (ad 0)), (1, .int (iI y)), (2, .int (iI (k.length : Int))), (3, .int (iI x)), (4, .int (iI (ht x))), (5, .int (iI st))] := hl
            rcases k with _ | ⟨⟨s0, h0⟩, r⟩
            · replace hl : lv_has ls 6 [(0, .ref (ad 0)), (1, .int (iI y)), (2, .int (iI 0)), (3, .int (iI x)), (4, .int (iI (ht x))), (5, .int (iI st))] := by rw [show 0 = ((([] : List (Int × Int)).length : Nat) : Int) from rfl]; exact hl
              refine lv_iload_n hx hb dX1_sweepFrom_35 rfl (lv_at hl 2 rfl) ?_
              refine ri_if_le (tgt := 83) hx hb dX1_sweepFrom_36 (by decide) (by omega) (fun c36 => ?_) (fun c36 => absurd c36 (by omega))
              replace hl : lv_has ls 6 [(0, .ref (ad 0)), (1, .int (iI y)), (2, .int (iI ((([] : List (Int × Int)).length : Nat) : Int))), (3, .int (iI x)), (4, .int (iI (ht x))), (5, .int (iI st))] := by rw [show ((([] : List (Int × Int)).length : Nat) : Int) = 0 from rfl]; exact hl
              exact jn83 ([], st, o, G) ls _ _ (show popF FB y x (ht x) stk x out = ([], st, o) ∧ Lst G (lh ++ o) ∧ Stk S1 S2 ([]) ∧ StOk x ([]) ∧ (([]).length : Int) + (o.length : Int) ≤ x ∧ (([]).length : Int) + (o.length : Int) ≤ Cw ∧ 0 ≤ st ∧ st ≤ x from ⟨hp, hG, trivial, hOk2, hm1, hm2, hst0, hst1⟩) (lv_sub hl [0, 1, 2, 3, 4, 5] rfl) hP hD hS
            · have el : ((((s0, h0) :: r).length : Nat) : Int) = (r.length : Int) + 1 := by simp
              rw [el] at hm1 hm2
              have hs0 := hOk2 (s0, h0) List.mem_cons_self
              obtain ⟨q1, q2, q3⟩ := hSt2
              have q1 : S1 (r.length : Int) = s0 := q1
              have q2 : S2 (r.length : Int) = h0 := q2
              have hs0 : 0 ≤ s0 ∧ s0 < x ∧ 0 < h0 ∧ h0 ≤ 16 := hs0
              replace hl : lv_has ls 6 [(0, .ref (ad 0)), (1, .int (iI y)), (2, .int (iI ((r.length : Int) + 1))), (3, .int (iI x)), (4, .int (iI (ht x))), (5, .int (iI st))] := by rw [show (r.length : Int) + 1 = ((((s0, h0) :: r).length : Nat) : Int) from el.symm]; exact hl
              refine lv_iload_n hx hb dX1_sweepFrom_35 rfl (lv_at hl 2 rfl) ?_
              refine ri_if_le (tgt := 83) hx hb dX1_sweepFrom_36 (by decide) (by omega) (fun c36 => absurd c36 (by omega)) (fun c36 => ?_)
              refine lv_aload_n hx hb dX1_sweepFrom_39 rfl (lv_at hl 0 rfl) ?_
              refine gx_SH hx hb hts hown hK hP dX1_sweepFrom_40 ?_
              refine lv_iload_n hx hb dX1_sweepFrom_43 rfl (lv_at hl 2 rfl) ?_
              refine ri_iconst hx hb dX1_sweepFrom_44 ?_
              refine ri_isub hx hb dX1_sweepFrom_45 ?_
              refine ri_cast (b := (r.length : Int)) (by omega) ?_
              refine ri_bald hx hb hK hP 9 0 rfl rfl (by omega) (by decide) dX1_sweepFrom_46 ?_
              refine ri_cast (b := h0) (q2) ?_
              refine lv_iload hx hb dX1_sweepFrom_47 (lv_at hl 4 rfl) ?_
              refine ri_icmp_le (tgt := 83) hx hb dX1_sweepFrom_49 (by decide) (by omega) (by omega) (fun c49 => ?_) (fun c49 => ?_)
              · have hq : popF FB y x (ht x) ((s0, h0) :: r) st o = ((s0, h0) :: r, st, o) := by rw [popF, if_neg (by omega)]
                replace hl : lv_has ls 6 [(0, .ref (ad 0)), (1, .int (iI y)), (2, .int (iI ((((s0, h0) :: r).length : Nat) : Int))), (3, .int (iI x)), (4, .int (iI (ht x))), (5, .int (iI st))] := by rw [show ((((s0, h0) :: r).length : Nat) : Int) = (r.length : Int) + 1 from el]; exact hl
                exact jn83 ((s0, h0) :: r, st, o, G) ls _ _ (show popF FB y x (ht x) stk x out = ((s0, h0) :: r, st, o) ∧ Lst G (lh ++ o) ∧ Stk S1 S2 ((s0, h0) :: r) ∧ StOk x ((s0, h0) :: r) ∧ (((s0, h0) :: r).length : Int) + (o.length : Int) ≤ x ∧ (((s0, h0) :: r).length : Int) + (o.length : Int) ≤ Cw ∧ 0 ≤ st ∧ st ≤ x from ⟨hp.trans hq, hG, ⟨q1, q2, q3⟩, hOk2, by omega, by omega, hst0, hst1⟩) (lv_sub hl [0, 1, 2, 3, 4, 5] rfl) hP hD hS
              · refine ri_iinc (k := 2) (lv' := [(2, .int (iI (((r.length : Int) + 1) + -1))), (0, .ref (ad 0)), (1, .int (iI y)), (3, .int (iI x)), (4, .int (iI (ht x))), (5, .int (iI st))]) hx hb dX1_sweepFrom_52 hl rfl (by decide) rfl (fun ls hl => ?_)
                replace hl : lv_has ls 6 [(2, .int (iI (r.length : Int))), (0, .ref (ad 0)), (1, .int (iI y)), (3, .int (iI x)), (4, .int (iI (ht x))), (5, .int (iI st))] := by rw [show (r.length : Int) = ((r.length : Int) + 1) + -1 from by omega]; exact hl
                refine lv_aload_n hx hb dX1_sweepFrom_55 rfl (lv_at hl 1 rfl) ?_
                refine gx_SS hx hb hts hown hK hP dX1_sweepFrom_56 ?_
                refine lv_iload_n hx hb dX1_sweepFrom_59 rfl (lv_at hl 0 rfl) ?_
                refine ri_bald hx hb hK hP 8 0 rfl rfl (by omega) (by decide) dX1_sweepFrom_60 ?_
                refine ri_cast (b := s0) (q1) ?_
                refine lv_istore (lv' := [(5, .int (iI s0)), (2, .int (iI (r.length : Int))), (0, .ref (ad 0)), (1, .int (iI y)), (3, .int (iI x)), (4, .int (iI (ht x)))]) hx hb dX1_sweepFrom_61 hl (by decide) rfl (fun ls hl => ?_)
                refine lv_aload_n hx hb dX1_sweepFrom_63 rfl (lv_at hl 2 rfl) ?_
                refine lv_iload hx hb dX1_sweepFrom_64 (lv_at hl 0 rfl) ?_
                refine lv_iload_n hx hb dX1_sweepFrom_66 rfl (lv_at hl 3 rfl) ?_
                refine lv_iload_n hx hb dX1_sweepFrom_67 rfl (lv_at hl 4 rfl) ?_
                refine lv_iload hx hb dX1_sweepFrom_68 (lv_at hl 0 rfl) ?_
                refine ri_isub hx hb dX1_sweepFrom_70 ?_
                refine lv_aload_n hx hb dX1_sweepFrom_71 rfl (lv_at hl 2 rfl) ?_
                refine gx_SH hx hb hts hown hK hP dX1_sweepFrom_72 ?_
                refine lv_iload_n hx hb dX1_sweepFrom_75 rfl (lv_at hl 1 rfl) ?_
                refine ri_bald hx hb hK hP 9 0 rfl rfl (by omega) (by decide) dX1_sweepFrom_76 ?_
                refine ri_cast (b := h0) (q2) ?_
                have hlq : ((lh ++ o).length : Int) < 256 := by rw [List.length_append]; omega
                refine ri_callV (rest := []) (ci := 0) (q0 := 0) (mx1_keepIfLowest l s0 y (x - s0) h0 (by omega) hF _ rfl hG (by omega) _) hx hb hml hown hts (cwV 4 hts (lw_V q174 q176 qs19 q31 q177) rfl rfl rfl (by decide +kernel) ⟨Nat.le_of_ble_eq_true rfl, Nat.le_of_ble_eq_true rfl⟩) hK hP hD hS hA rfl rfl rfl hl.1 rfl (Nat.le_of_ble_eq_true rfl) dX1_sweepFrom_77 ⟨Nat.zero_le _, Nat.zero_le _⟩ (fun u2 H locs hu1 hP hD hS => ?_)
                obtain ⟨G2, rfl⟩ : ∃ z, z = u2 := ⟨_, rfl⟩
                replace hP : va_P D vwCl (XW ad dB dN Cw Rw n ((lh ++ o ++ lowL FB s0 y (x - s0) h0).length : Int) cn Lf Bt Wd Hg FB G2 CA S1 S2) H := hP
                replace hD : va_D A (XW ad dB dN Cw Rw n ((lh ++ o ++ lowL FB s0 y (x - s0) h0).length : Int) cn Lf Bt Wd Hg FB G2 CA S1 S2) := hD
                have hlw := lowL_len FB s0 y (x - s0) h0
                have hol : ((o ++ lowL FB s0 y (x - s0) h0).length : Int) ≤ (o.length : Int) + 1 := by rw [List.length_append]; omega
                have ew : ((lh ++ (o ++ lowL FB s0 y (x - s0) h0)).length : Int) = ((lh ++ o ++ lowL FB s0 y (x - s0) h0).length : Int) := by rw [List.append_assoc]
                rw [← ew] at hP hD
                refine lv_goto (tgt := 35) hx hb dX1_sweepFrom_80 (by decide) ?_
                exact ih35 (r, s0, o ++ lowL FB s0 y (x - s0) h0, G2) ls _ _ (show popF FB y x (ht x) stk x out = popF FB y x (ht x) r s0 (o ++ lowL FB s0 y (x - s0) h0) ∧ Lst G2 (lh ++ (o ++ lowL FB s0 y (x - s0) h0)) ∧ Stk S1 S2 r ∧ StOk x r ∧ (r.length : Int) + ((o ++ lowL FB s0 y (x - s0) h0).length : Int) ≤ x ∧ (r.length : Int) + ((o ++ lowL FB s0 y (x - s0) h0).length : Int) ≤ Cw ∧ 0 ≤ s0 ∧ s0 ≤ x from ⟨hp.trans (by rw [popF, if_pos (by omega)]), by rw [← List.append_assoc]; exact hu1, q3, fun p h => hOk2 p (List.mem_cons_of_mem _ h), by omega, by omega, by omega, by omega⟩) (show r.length < ((s0, h0) :: r).length by exact Nat.lt_succ_self _) (lv_sub hl [2, 3, 1, 4, 5, 0] rfl) hP hD hS
      · intro jn30
        refine lv_iload_n hx hb dX1_sweepFrom_12 rfl (lv_at hl 3 rfl) ?_
        refine lv_aload_n hx hb dX1_sweepFrom_13 rfl (lv_at hl 0 rfl) ?_
        refine gx_Cw hx hb hts hown hK hP dX1_sweepFrom_14 ?_
        refine ri_icmp_ge (tgt := 29) hx hb dX1_sweepFrom_17 (by decide) (by omega) (by omega) (fun c17 => ?_) (fun c17 => ?_)
        · refine ri_iconst hx hb dX1_sweepFrom_29 ?_
          exact jn30 (0) ls _ _ (show (0 : Int) = ht x from by rw [show x = Cw by omega, ht0]) (lv_sub hl [0, 1, 2, 3] rfl) hP hD hS
        · refine lv_aload_n hx hb dX1_sweepFrom_20 rfl (lv_at hl 0 rfl) ?_
          refine lv_iload_n hx hb dX1_sweepFrom_21 rfl (lv_at hl 3 rfl) ?_
          refine lv_iload_n hx hb dX1_sweepFrom_22 rfl (lv_at hl 1 rfl) ?_
          refine ri_callR (rest := []) (ci := 0) (q0 := 0) (mx1_heightAt l x y (by omega) (by omega) hR hF) hx hb hml hown hts (cwV 2 hts (lw_V q170 q172 qs18 q31 q173) rfl rfl rfl (by decide +kernel) ⟨Nat.le_of_ble_eq_true rfl, Nat.le_of_ble_eq_true rfl⟩) hK hP rfl rfl rfl hl.1 rfl (Nat.le_of_ble_eq_true rfl) dX1_sweepFrom_23 ⟨Nat.zero_le _, Nat.zero_le _⟩ (fun z9 hz9 => ?_)
          refine lv_goto (tgt := 30) hx hb dX1_sweepFrom_26 (by decide) ?_
          exact jn30 (z9) ls _ _ (show z9 = ht x from HtS_uniq hz9 (hht x hx0 c17)) (lv_sub hl [0, 1, 2, 3] rfl) hP hD hS
end
section
/-! heights; what place and remove do -/
theorem HtS_ex (FB : Int → Int) (Rw x : Int) : ∀ (n : Nat) (y : Int), Rw - y = n → ∃ z, HtS FB Rw x y z
  | 0, y, h => ⟨0, Rw, by omega, by omega, by omega, fun j a b => absurd b (by omega), Or.inl rfl⟩
  | n + 1, y, h => by
    by_cases c : tb (FB y) x
    · obtain ⟨z, t, a1, a2, a3, a4, a5⟩ := HtS_ex FB Rw x n (y + 1) (by omega)
      refine ⟨t - y, t, by omega, by omega, rfl, fun j b1 b2 => ?_, a5⟩
      by_cases e : j = y
      · subst e; exact c
      · exact a4 j (by omega) b2
    · exact ⟨0, y, by omega, by omega, by omega, fun j a b => absurd b (by omega), Or.inr c⟩
noncomputable def htF (FB : Int → Int) (Cw Rw y x : Int) : Int := if x < Cw then Classical.epsilon (HtS FB Rw x y) else 0
theorem htF_ok {FB : Int → Int} {Cw Rw y x : Int} (hy : y ≤ Rw) (hx : x < Cw) : HtS FB Rw x y (htF FB Cw Rw y x) := by
  unfold htF
  rw [if_pos hx]
  exact Classical.epsilon_spec (HtS_ex FB Rw x (Rw - y).toNat y (by omega))
theorem htF_0 (FB : Int → Int) (Cw Rw y : Int) : htF FB Cw Rw y Cw = 0 := by
  unfold htF
  rw [if_neg (by omega)]
noncomputable def holesOf (FB : Int → Int) (Cw Rw : Int) : List Int := allS FB Cw (htF FB Cw Rw) Rw.toNat
theorem flip_mask {FB F : Int → Int} {st lo hi : Int} (hF : maskOk FB) (hs : 0 ≤ st ∧ st < 65536) (h : ∀ j, 0 ≤ j → j < 16 → F j = flipV FB st lo hi j) : maskOk F := by
  intro k a b
  rw [h k a b]
  unfold flipV
  split
  · exact xorI_rng (hF k a b) hs
  · exact hF k a b
/-- a rectangle's place is within 16 by 16 -/
def recOk (Lf Bt Wd Hg : Int → Int) (i : Int) : Prop := (0 ≤ Lf i ∧ 0 ≤ Wd i ∧ Wd i + Lf i ≤ 16) ∧ (0 ≤ Bt i ∧ 0 ≤ Hg i ∧ Bt i + Hg i ≤ 16)
def ChS (HO : Int → Int) (hc w h turn a tr : Int) : Prop :=
  ∃ a1, LowS HO hc w h a1 ∧ ((turn = 0 ∧ a = a1 ∧ tr = 0) ∨ (turn ≠ 0 ∧ ∃ a2, LowS HO hc h w a2 ∧ ((0 ≤ a2 ∧ (a1 < 0 ∨ a2 < a1) ∧ a = a2 ∧ tr = 1) ∨ (¬ (0 ≤ a2 ∧ (a1 < 0 ∨ a2 < a1)) ∧ a = a1 ∧ tr = 0))))
def cornerQ (l : List Int) (t : Int) : Prop := ∃ q ∈ l, lx t = lx q ∧ by_ t = by_ q ∧ wd t ≤ wd q ∧ hg t ≤ hg q ∧ 1 ≤ wd t ∧ 1 ≤ hg t
theorem LowS_pos {HO : Int → Int} {k w h z : Int} (H : LowS HO k w h z) (hz : 0 ≤ z) : ∃ j, 0 ≤ j ∧ j < k ∧ z = atQ (HO j) ∧ w ≤ wd (HO j) ∧ h ≤ hg (HO j) := by
  rcases H with ⟨h1, -⟩ | ⟨j, h1, h2, h3, h4, -⟩
  · omega
  · exact ⟨j, h1, h2, h4, h3.1, h3.2⟩
/-- the chosen place is a hole's corner -/
theorem ChS_pos {HO : Int → Int} {hc w h turn a tr : Int} (H : ChS HO hc w h turn a tr) (ha : 0 ≤ a) : (tr = 0 ∨ tr = 1) ∧ ∃ j, 0 ≤ j ∧ j < hc ∧ a = atQ (HO j) ∧ (if tr = 1 then h else w) ≤ wd (HO j) ∧ (if tr = 1 then w else h) ≤ hg (HO j) := by
  obtain ⟨a1, h1, h2⟩ := H
  rcases h2 with ⟨-, e1, e2⟩ | ⟨-, a2, h3, ⟨-, -, e1, e2⟩ | ⟨-, e1, e2⟩⟩
  · subst e1; subst e2
    exact ⟨Or.inl rfl, by simpa using LowS_pos h1 ha⟩
  · subst e1; subst e2
    exact ⟨Or.inr rfl, by simpa using LowS_pos h3 ha⟩
  · subst e1; subst e2
    exact ⟨Or.inl rfl, by simpa using LowS_pos h1 ha⟩
theorem at_parts {q : Int} (h : 0 ≤ q ∧ q < 1048576) : atQ q % 256 = lx q ∧ atQ q / 256 = by_ q := by
  obtain ⟨h1, h2, -, -⟩ := acc_rng h
  unfold atQ
  omega
def freeId (Wd : Int → Int) (n : Int) : Prop := n < 20 → ∃ k, 0 ≤ k ∧ k < 20 ∧ Wd k = 0
end
section
/-! AtlasPacker: findHoles, clear, remove, place -/
set_option maxHeartbeats 4000000 in
set_option maxRecDepth 100000 in
theorem mx1_findHoles (l : Launch) {D : va_G} {ad : Nat → Nat} {dB dN : ClassId} {Cw Rw n hc cn : Int} {Lf Bt Wd Hg FB HO CA SS SH : Int → Int} (hC : 4 ≤ Cw ∧ Cw ≤ 16) (hR : 4 ≤ Rw ∧ Rw ≤ 16) (hF : maskOk FB) (sz : Nat) : MetV (S := (Int → Int) × (Int → Int) × (Int → Int)) l yX1_findHoles cX1_findHoles 2 3 74 [.ref (ad 0)] D (XW ad dB dN Cw Rw n hc cn Lf Bt Wd Hg FB HO CA SS SH) (tX dB dN) sz (fun (B, _, _) => Lst B (holesOf FB Cw Rw) ∧ (holesOf FB Cw Rw).length ≤ 256) (fun (B, S1, S2) => XW ad dB dN Cw Rw n ((holesOf FB Cw Rw).length : Int) cn Lf Bt Wd Hg FB B CA S1 S2) := by
  refine ri_met RX1 rfl (by decide) (Nat.le_of_ble_eq_true rfl) ?_
  intro p e s m below meth c hx hb hr hts hown hlocks hml hnm hv ls hl
  obtain ⟨hsz, hP, hK, hD0⟩ := hv
  subst hsz
  have hD := hD0.self (sz := s.heap.size)
  generalize hAe : va_A (XW ad dB dN Cw Rw n hc cn Lf Bt Wd Hg FB HO CA SS SH) s.heap.size = A at hD ⊢
  have hA : ∀ q : Nat, s.heap.size ≤ q → A q := fun q h => by rw [← hAe]; exact Or.inr h
  have hS : va_S A s.heap s.heap [] := va_S.rf
  have hl : lv_has ls 2 [(0, .ref (ad 0))] := hl
  refine lv_aload_n hx hb dX1_findHoles_0 rfl (lv_at hl 0 rfl) ?_
  refine ri_iconst hx hb dX1_findHoles_1 ?_
  refine px_hc hx hb hts hown hK hP hD hS dX1_findHoles_2 (fun H locs hP hD hS => ?_)
  refine ri_iconst hx hb dX1_findHoles_5 ?_
  refine lv_istore_n (lv' := [(1, .int (iI 0)), (0, .ref (ad 0))]) hx hb dX1_findHoles_6 rfl hl (by decide) rfl (fun ls hl => ?_)
  have ew : ((allS FB Cw (htF FB Cw Rw) (0 : Int).toNat).length : Int) = 0 := rfl
  rw [← ew] at hP hD
  refine ri_loopW (σ := Int × (Int → Int) × (Int → Int) × (Int → Int)) (nL := 2) (fun ((y, B, S1, S2) : Int × (Int → Int) × (Int → Int) × (Int → Int)) => (Rw - y).toNat) (fun ((y, B, S1, S2) : Int × (Int → Int) × (Int → Int) × (Int → Int)) => 0 ≤ y ∧ y ≤ Rw ∧ Lst B (allS FB Cw (htF FB Cw Rw) y.toNat) ∧ ((allS FB Cw (htF FB Cw Rw) y.toNat).length : Int) ≤ 16 * y) (fun ((y, B, S1, S2) : Int × (Int → Int) × (Int → Int) × (Int → Int)) => [(0, .ref (ad 0)), (1, .int (iI y))]) (fun ((y, B, S1, S2) : Int × (Int → Int) × (Int → Int) × (Int → Int)) => (XW ad dB dN Cw Rw n ((allS FB Cw (htF FB Cw Rw) y.toNat).length : Int) cn Lf Bt Wd Hg FB B CA S1 S2)) (0, HO, SS, SH) ?_ (lv_sub hl [1, 0] rfl) hP hD hS ?_
  · show 0 ≤ (0 : Int) ∧ (0 : Int) ≤ Rw ∧ Lst HO (allS FB Cw (htF FB Cw Rw) (0 : Int).toNat) ∧ ((allS FB Cw (htF FB Cw Rw) (0 : Int).toNat).length : Int) ≤ 16 * (0 : Int)
    exact ⟨by omega, by omega, Lst_nil _, by simp [allS]⟩
  · rintro ⟨y, B, S1, S2⟩ ls H locs hI hl hP hD hS ih7
    replace hP : va_P D vwCl (XW ad dB dN Cw Rw n ((allS FB Cw (htF FB Cw Rw) y.toNat).length : Int) cn Lf Bt Wd Hg FB B CA S1 S2) H := hP
    replace hD : va_D A (XW ad dB dN Cw Rw n ((allS FB Cw (htF FB Cw Rw) y.toNat).length : Int) cn Lf Bt Wd Hg FB B CA S1 S2) := hD
    replace hI : 0 ≤ y ∧ y ≤ Rw ∧ Lst B (allS FB Cw (htF FB Cw Rw) y.toNat) ∧ ((allS FB Cw (htF FB Cw Rw) y.toNat).length : Int) ≤ 16 * y := hI
    obtain ⟨hy0, hy1, hB, hlb⟩ := hI
    replace hl : lv_has ls 2 [(0, .ref (ad 0)), (1, .int (iI y))] := hl
    refine lv_iload_n hx hb dX1_findHoles_7 rfl (lv_at hl 1 rfl) ?_
    refine lv_aload_n hx hb dX1_findHoles_8 rfl (lv_at hl 0 rfl) ?_
    refine gx_Rw hx hb hts hown hK hP dX1_findHoles_9 ?_
    refine ri_icmp_ge (tgt := 26) hx hb dX1_findHoles_12 (by decide) (by omega) (by omega) (fun c12 => ?_) (fun c12 => ?_)
    · have e : y = Rw := by omega
      subst e
      exact ri_vretW (B, S1, S2) hx hb hr hlocks (⟨hB, by unfold holesOf; omega⟩) hK hP hD hS dX1_findHoles_26
    · have hst := allS_step (FB := FB) (Cw := Cw) (ht := htF FB Cw Rw) hy0
      refine lv_aload_n hx hb dX1_findHoles_15 rfl (lv_at hl 0 rfl) ?_
      refine lv_iload_n hx hb dX1_findHoles_16 rfl (lv_at hl 1 rfl) ?_
      refine ri_callV (rest := []) (ci := 0) (q0 := 0) (mx1_sweepFrom l y hC hR (by omega) hF (htF FB Cw Rw y) (fun x _ h => htF_ok (by omega) h) (htF_0 _ _ _ _) _ rfl hB (by omega) _) hx hb hml hown hts (cwV 1 hts (lw_V q166 q168 qs17 q31 q169) rfl rfl rfl (by decide +kernel) ⟨Nat.le_of_ble_eq_true rfl, Nat.le_of_ble_eq_true rfl⟩) hK hP hD hS hA rfl rfl rfl hl.1 rfl (Nat.le_of_ble_eq_true rfl) dX1_findHoles_17 ⟨Nat.zero_le _, Nat.zero_le _⟩ (fun u2 H locs hu1 hP hD hS => ?_)
      obtain ⟨B2, S3, S4⟩ := u2
      replace hP : va_P D vwCl (XW ad dB dN Cw Rw n (((allS FB Cw (htF FB Cw Rw) y.toNat) ++ (sw FB y (htF FB Cw Rw y) (Cw + 1).toNat).2).length : Int) cn Lf Bt Wd Hg FB B2 CA S3 S4) H := hP
      replace hD : va_D A (XW ad dB dN Cw Rw n (((allS FB Cw (htF FB Cw Rw) y.toNat) ++ (sw FB y (htF FB Cw Rw y) (Cw + 1).toNat).2).length : Int) cn Lf Bt Wd Hg FB B2 CA S3 S4) := hD
      have ew : ((allS FB Cw (htF FB Cw Rw) (y + 1).toNat).length : Int) = (((allS FB Cw (htF FB Cw Rw) y.toNat) ++ (sw FB y (htF FB Cw Rw y) (Cw + 1).toNat).2).length : Int) := by rw [hst]
      rw [← ew] at hP hD
      obtain ⟨hu1, hu2⟩ := hu1
      refine ri_iinc (k := 1) (lv' := [(1, .int (iI (y + 1))), (0, .ref (ad 0))]) hx hb dX1_findHoles_20 hl rfl (by decide) rfl (fun ls hl => ?_)
      refine lv_goto (tgt := 7) hx hb dX1_findHoles_23 (by decide) ?_
      exact ih7 (y + 1, B2, S3, S4) ls _ _ (show 0 ≤ y + 1 ∧ y + 1 ≤ Rw ∧ Lst B2 (allS FB Cw (htF FB Cw Rw) (y + 1).toNat) ∧ ((allS FB Cw (htF FB Cw Rw) (y + 1).toNat).length : Int) ≤ 16 * (y + 1) from ⟨by omega, by omega, by rw [hst]; exact hu1, by rw [hst, List.length_append]; omega⟩) (show (Rw - (y + 1)).toNat < (Rw - y).toNat by omega) (lv_sub hl [1, 0] rfl) hP hD hS
set_option maxHeartbeats 4000000 in
set_option maxRecDepth 100000 in
theorem mx1_clear (l : Launch) {D : va_G} {ad : Nat → Nat} {dB dN : ClassId} {Cw Rw n hc cn : Int} {Lf Bt Wd Hg FB HO CA SS SH : Int → Int} (hC : 4 ≤ Cw ∧ Cw ≤ 16) (hR : 4 ≤ Rw ∧ Rw ≤ 16) (sz : Nat) : MetI (S := (Int → Int) × (Int → Int) × (Int → Int)) l yX1_clear cX1_clear 3 1 24 [.ref (ad 0)] D (XW ad dB dN Cw Rw n hc cn Lf Bt Wd Hg FB HO CA SS SH) (tX dB dN) sz (fun z (W', F', B') => z = n ∧ (∀ j, 0 ≤ j → j < 20 → W' j = 0) ∧ (∀ j, 0 ≤ j → j < Rw → F' j = strip Cw 0) ∧ (∀ j, Rw ≤ j → F' j = FB j) ∧ B' 0 = pk 0 0 Cw Rw) (fun (W', F', B') => XW ad dB dN Cw Rw 0 1 cn Lf Bt W' Hg F' B' CA SS SH) := by
  refine ri_met RX1 rfl (by decide) (Nat.le_of_ble_eq_true rfl) ?_
  intro p e s m below meth c hx hb hr hts hown hlocks hml hnm hv ls hl
  obtain ⟨hsz, hP, hK, hD0⟩ := hv
  subst hsz
  have hD := hD0.self (sz := s.heap.size)
  generalize hAe : va_A (XW ad dB dN Cw Rw n hc cn Lf Bt Wd Hg FB HO CA SS SH) s.heap.size = A at hD ⊢
  have hA : ∀ q : Nat, s.heap.size ≤ q → A q := fun q h => by rw [← hAe]; exact Or.inr h
  have hS : va_S A s.heap s.heap [] := va_S.rf
  have hl : lv_has ls 3 [(0, .ref (ad 0))] := hl
  refine lv_aload_n hx hb dX1_clear_0 rfl (lv_at hl 0 rfl) ?_
  refine gx_n hx hb hts hown hK hP dX1_clear_1 ?_
  refine lv_istore_n (lv' := [(1, .int (iI n)), (0, .ref (ad 0))]) hx hb dX1_clear_4 rfl hl (by decide) rfl (fun ls hl => ?_)
  refine ri_iconst hx hb dX1_clear_5 ?_
  refine lv_istore_n (lv' := [(2, .int (iI 0)), (1, .int (iI n)), (0, .ref (ad 0))]) hx hb dX1_clear_6 rfl hl (by decide) rfl (fun ls hl => ?_)
  refine ri_loopW (σ := Int × (Int → Int)) (nL := 3) (fun ((k, V) : Int × (Int → Int)) => (20 - k).toNat) (fun ((k, V) : Int × (Int → Int)) => 0 ≤ k ∧ k ≤ 20 ∧ ∀ j, 0 ≤ j → j < k → V j = 0) (fun ((k, V) : Int × (Int → Int)) => [(0, .ref (ad 0)), (1, .int (iI n)), (2, .int (iI k))]) (fun ((k, V) : Int × (Int → Int)) => (XW ad dB dN Cw Rw n hc cn Lf Bt V Hg FB HO CA SS SH)) (0, Wd) ?_ (lv_sub hl [2, 1, 0] rfl) hP hD hS ?_
  · show 0 ≤ (0 : Int) ∧ (0 : Int) ≤ 20 ∧ ∀ j, 0 ≤ j → j < (0 : Int) → Wd j = 0
    exact ⟨by omega, by omega, fun j a b => absurd b (by omega)⟩
  · rintro ⟨k, V⟩ ls H locs hI hl hP hD hS ih7
    replace hP : va_P D vwCl (XW ad dB dN Cw Rw n hc cn Lf Bt V Hg FB HO CA SS SH) H := hP
    replace hD : va_D A (XW ad dB dN Cw Rw n hc cn Lf Bt V Hg FB HO CA SS SH) := hD
    replace hI : 0 ≤ k ∧ k ≤ 20 ∧ ∀ j, 0 ≤ j → j < k → V j = 0 := hI
    obtain ⟨hk0, hk1, hall⟩ := hI
    replace hl : lv_has ls 3 [(0, .ref (ad 0)), (1, .int (iI n)), (2, .int (iI k))] := hl
    refine lv_iload_n hx hb dX1_clear_7 rfl (lv_at hl 2 rfl) ?_
    refine ri_bipush hx hb dX1_clear_8 (by decide +kernel) ?_
    refine ri_icmp_ge (tgt := 26) hx hb dX1_clear_10 (by decide) (by omega) (by omega) (fun c10 => ?_) (fun c10 => ?_)
    · have e : k = 20 := by omega
      subst e
      have hp := pow_le_of (a := Cw.toNat) (b := 16) (by omega)
      have hp1 := pow_pos_i Cw.toNat
      have hst : strip Cw 0 = 1 * 2 ^ Cw.toNat - 1 := by unfold strip; simp
      refine lv_aload_n hx hb dX1_clear_26 rfl (lv_at hl 0 rfl) ?_
      refine ri_iconst hx hb dX1_clear_27 ?_
      refine px_n hx hb hts hown hK hP hD hS dX1_clear_28 (fun H locs hP hD hS => ?_)
      refine ri_iconst hx hb dX1_clear_31 ?_
      refine lv_istore_n (lv' := [(2, .int (iI 0)), (0, .ref (ad 0)), (1, .int (iI n))]) hx hb dX1_clear_32 rfl hl (by decide) rfl (fun ls hl => ?_)
      refine ri_loopW (σ := Int × (Int → Int)) (nL := 3) (fun ((y, F) : Int × (Int → Int)) => (Rw - y).toNat) (fun ((y, F) : Int × (Int → Int)) => 0 ≤ y ∧ y ≤ Rw ∧ (∀ j, 0 ≤ j → j < y → F j = strip Cw 0) ∧ ∀ j, y ≤ j → F j = FB j) (fun ((y, F) : Int × (Int → Int)) => [(0, .ref (ad 0)), (1, .int (iI n)), (2, .int (iI y))]) (fun ((y, F) : Int × (Int → Int)) => (XW ad dB dN Cw Rw 0 hc cn Lf Bt V Hg F HO CA SS SH)) (0, FB) ?_ (lv_sub hl [1, 2, 0] rfl) hP hD hS ?_
      · show 0 ≤ (0 : Int) ∧ (0 : Int) ≤ Rw ∧ (∀ j, 0 ≤ j → j < (0 : Int) → FB j = strip Cw 0) ∧ ∀ j, (0 : Int) ≤ j → FB j = FB j
        exact ⟨by omega, by omega, fun j a b => absurd b (by omega), fun j _ => rfl⟩
      · rintro ⟨y, F⟩ ls H locs hI hl hP hD hS ih33
        replace hP : va_P D vwCl (XW ad dB dN Cw Rw 0 hc cn Lf Bt V Hg F HO CA SS SH) H := hP
        replace hD : va_D A (XW ad dB dN Cw Rw 0 hc cn Lf Bt V Hg F HO CA SS SH) := hD
        replace hI : 0 ≤ y ∧ y ≤ Rw ∧ (∀ j, 0 ≤ j → j < y → F j = strip Cw 0) ∧ ∀ j, y ≤ j → F j = FB j := hI
        obtain ⟨hy0, hy1, hF1, hF2⟩ := hI
        replace hl : lv_has ls 3 [(0, .ref (ad 0)), (1, .int (iI n)), (2, .int (iI y))] := hl
        refine lv_iload_n hx hb dX1_clear_33 rfl (lv_at hl 2 rfl) ?_
        refine lv_aload_n hx hb dX1_clear_34 rfl (lv_at hl 0 rfl) ?_
        refine gx_Rw hx hb hts hown hK hP dX1_clear_35 ?_
        refine ri_icmp_ge (tgt := 61) hx hb dX1_clear_38 (by decide) (by omega) (by omega) (fun c38 => ?_) (fun c38 => ?_)
        · have e : y = Rw := by omega
          subst e
          refine lv_aload_n hx hb dX1_clear_61 rfl (lv_at hl 0 rfl) ?_
          refine gx_HO hx hb hts hown hK hP dX1_clear_62 ?_
          refine ri_iconst hx hb dX1_clear_65 ?_
          refine lv_aload_n hx hb dX1_clear_66 rfl (lv_at hl 0 rfl) ?_
          refine ri_iconst hx hb dX1_clear_67 ?_
          refine ri_iconst hx hb dX1_clear_68 ?_
          refine lv_aload_n hx hb dX1_clear_69 rfl (lv_at hl 0 rfl) ?_
          refine gx_Cw hx hb hts hown hK hP dX1_clear_70 ?_
          refine lv_aload_n hx hb dX1_clear_73 rfl (lv_at hl 0 rfl) ?_
          refine gx_Rw hx hb hts hown hK hP dX1_clear_74 ?_
          refine ri_callR (rest := [.int (iI 0), .ref (ad 6)]) (ci := 0) (q0 := 0) (mx1_pack l 0 0 Cw y (by omega)) hx hb hml hown hts (cwV 4 hts (lw_V q45 q47 qs0 q31 q48) rfl rfl rfl (by decide +kernel) ⟨Nat.le_of_ble_eq_true rfl, Nat.le_of_ble_eq_true rfl⟩) hK hP rfl rfl rfl hl.1 rfl (Nat.le_of_ble_eq_true rfl) dX1_clear_77 ⟨Nat.zero_le _, Nat.zero_le _⟩ (fun z3 hz3 => ?_)
          subst hz3
          refine ri_iast hx hb hK hP hD hS 6 1 rfl rfl (by omega) (by decide) dX1_clear_80 (fun H locs hP hD hS => ?_)
          replace hP : va_P D vwCl (XW ad dB dN Cw y 0 hc cn Lf Bt V Hg F (uI HO 0 (pk 0 0 Cw y)) CA SS SH) H := hP
          replace hD : va_D A (XW ad dB dN Cw y 0 hc cn Lf Bt V Hg F (uI HO 0 (pk 0 0 Cw y)) CA SS SH) := hD
          refine lv_aload_n hx hb dX1_clear_81 rfl (lv_at hl 0 rfl) ?_
          refine ri_iconst hx hb dX1_clear_82 ?_
          refine px_hc hx hb hts hown hK hP hD hS dX1_clear_83 (fun H locs hP hD hS => ?_)
          refine lv_iload_n hx hb dX1_clear_86 rfl (lv_at hl 1 rfl) ?_
          exact ri_iretW (V, F, uI HO 0 (pk 0 0 Cw y)) hx hb hr hlocks (⟨rfl, hall, hF1, hF2, uI_s _ _ _⟩) hK hP hD hS dX1_clear_87
        · refine lv_aload_n hx hb dX1_clear_41 rfl (lv_at hl 0 rfl) ?_
          refine gx_FB hx hb hts hown hK hP dX1_clear_42 ?_
          refine lv_iload_n hx hb dX1_clear_45 rfl (lv_at hl 2 rfl) ?_
          refine ri_iconst hx hb dX1_clear_46 ?_
          refine lv_aload_n hx hb dX1_clear_47 rfl (lv_at hl 0 rfl) ?_
          refine gx_Cw hx hb hts hown hK hP dX1_clear_48 ?_
          refine lv_ishl hx hb dX1_clear_51 ?_
          refine ri_top (a := 1 * 2 ^ Cw.toNat) (sh_lv (by omega) (by omega) (by omega)) ?_
          refine ri_iconst hx hb dX1_clear_52 ?_
          refine ri_isub hx hb dX1_clear_53 ?_
          refine ri_cast (b := strip Cw 0) (hst.symm) ?_
          refine ri_iast hx hb hK hP hD hS 5 1 rfl rfl (by omega) (by decide) dX1_clear_54 (fun H locs hP hD hS => ?_)
          replace hP : va_P D vwCl (XW ad dB dN Cw Rw 0 hc cn Lf Bt V Hg (uI F y (strip Cw 0)) HO CA SS SH) H := hP
          replace hD : va_D A (XW ad dB dN Cw Rw 0 hc cn Lf Bt V Hg (uI F y (strip Cw 0)) HO CA SS SH) := hD
          refine ri_iinc (k := 2) (lv' := [(2, .int (iI (y + 1))), (0, .ref (ad 0)), (1, .int (iI n))]) hx hb dX1_clear_55 hl rfl (by decide) rfl (fun ls hl => ?_)
          refine lv_goto (tgt := 33) hx hb dX1_clear_58 (by decide) ?_
          exact ih33 (y + 1, uI F y (strip Cw 0)) ls _ _ (show 0 ≤ y + 1 ∧ y + 1 ≤ Rw ∧ (∀ j, 0 ≤ j → j < y + 1 → (uI F y (strip Cw 0)) j = strip Cw 0) ∧ ∀ j, y + 1 ≤ j → (uI F y (strip Cw 0)) j = FB j from ⟨by omega, by omega, all_step (fun j a b => by rw [uI_n _ (by omega)]; exact hF1 j a b) (uI_s _ _ _), fun j a => by rw [uI_n _ (by omega)]; exact hF2 j (by omega)⟩) (show (Rw - (y + 1)).toNat < (Rw - y).toNat by omega) (lv_sub hl [1, 2, 0] rfl) hP hD hS
    · refine lv_aload_n hx hb dX1_clear_13 rfl (lv_at hl 0 rfl) ?_
      refine gx_Wd hx hb hts hown hK hP dX1_clear_14 ?_
      refine lv_iload_n hx hb dX1_clear_17 rfl (lv_at hl 2 rfl) ?_
      refine ri_iconst hx hb dX1_clear_18 ?_
      refine ri_bast hx hb hK hP hD hS 3 0 rfl rfl (by omega) (by decide) (by omega) dX1_clear_19 (fun H locs hP hD hS => ?_)
      replace hP : va_P D vwCl (XW ad dB dN Cw Rw n hc cn Lf Bt (uI V k 0) Hg FB HO CA SS SH) H := hP
      replace hD : va_D A (XW ad dB dN Cw Rw n hc cn Lf Bt (uI V k 0) Hg FB HO CA SS SH) := hD
      refine ri_iinc (k := 2) (lv' := [(2, .int (iI (k + 1))), (0, .ref (ad 0)), (1, .int (iI n))]) hx hb dX1_clear_20 hl rfl (by decide) rfl (fun ls hl => ?_)
      refine lv_goto (tgt := 7) hx hb dX1_clear_23 (by decide) ?_
      exact ih7 (k + 1, uI V k 0) ls _ _ (show 0 ≤ k + 1 ∧ k + 1 ≤ 20 ∧ ∀ j, 0 ≤ j → j < k + 1 → (uI V k 0) j = 0 from ⟨by omega, by omega, all_step (fun j a b => by rw [uI_n _ (by omega)]; exact hall j a b) (uI_s _ _ _)⟩) (show (20 - (k + 1)).toNat < (20 - k).toNat by omega) (lv_sub hl [1, 2, 0] rfl) hP hD hS
set_option maxHeartbeats 4000000 in
set_option maxRecDepth 100000 in
theorem mx1_remove (l : Launch) {D : va_G} {ad : Nat → Nat} {dB dN : ClassId} {Cw Rw n hc cn : Int} {Lf Bt Wd Hg FB HO CA SS SH : Int → Int} (i : Int) (hC : 4 ≤ Cw ∧ Cw ≤ 16) (hR : 4 ≤ Rw ∧ Rw ≤ 16) (hi : -2147483648 ≤ i ∧ i < 2147483648) (hF : maskOk FB) (hw : byt Wd) (hrec : ∀ j, 0 ≤ j → j < 20 → Wd j ≠ 0 → recOk Lf Bt Wd Hg j) (sz : Nat) : MetI (S := Int × Int × (Int → Int) × (Int → Int) × (Int → Int) × (Int → Int) × (Int → Int)) l yX1_remove cX1_remove 2 4 95 [.ref (ad 0), .int (iI i)] D (XW ad dB dN Cw Rw n hc cn Lf Bt Wd Hg FB HO CA SS SH) (tX dB dN) sz (fun z (n', hc', W', F', B', _, _) => (z = -1 ∧ ¬ (0 ≤ i ∧ i < 20 ∧ Wd i ≠ 0) ∧ n' = n ∧ hc' = hc ∧ W' = Wd ∧ F' = FB ∧ B' = HO) ∨ ((0 ≤ i ∧ i < 20 ∧ Wd i ≠ 0) ∧ z = n - 1 ∧ n' = n - 1 ∧ W' = uI Wd i 0 ∧ (∀ j, 0 ≤ j → j < 16 → F' j = flipV FB (strip (Wd i) (Lf i)) (Bt i) (Bt i + Hg i) j) ∧ hc' = ((holesOf F' Cw Rw).length : Int) ∧ Lst B' (holesOf F' Cw Rw) ∧ (holesOf F' Cw Rw).length ≤ 256)) (fun (n', hc', W', F', B', S1, S2) => XW ad dB dN Cw Rw n' hc' cn Lf Bt W' Hg F' B' CA S1 S2) := by
  refine ri_met RX1 rfl (by decide) (Nat.le_of_ble_eq_true rfl) ?_
  intro p e s m below meth c hx hb hr hts hown hlocks hml hnm hv ls hl
  obtain ⟨hsz, hP, hK, hD0⟩ := hv
  subst hsz
  have hD := hD0.self (sz := s.heap.size)
  generalize hAe : va_A (XW ad dB dN Cw Rw n hc cn Lf Bt Wd Hg FB HO CA SS SH) s.heap.size = A at hD ⊢
  have hA : ∀ q : Nat, s.heap.size ≤ q → A q := fun q h => by rw [← hAe]; exact Or.inr h
  have hS : va_S A s.heap s.heap [] := va_S.rf
  have hl : lv_has ls 2 [(0, .ref (ad 0)), (1, .int (iI i))] := hl
  refine lv_aload_n hx hb dX1_remove_0 rfl (lv_at hl 0 rfl) ?_
  refine lv_iload_n hx hb dX1_remove_1 rfl (lv_at hl 1 rfl) ?_
  refine ri_callR (rest := []) (ci := 0) (q0 := 0) (mx1_isUsed l i hi hw) hx hb hml hown hts (cwV 1 hts (lw_V q158 q160 qs15 q31 q161) rfl rfl rfl (by decide +kernel) ⟨Nat.le_of_ble_eq_true rfl, Nat.le_of_ble_eq_true rfl⟩) hK hP rfl rfl rfl hl.1 rfl (Nat.le_of_ble_eq_true rfl) dX1_remove_2 ⟨Nat.zero_le _, Nat.zero_le _⟩ (fun u hu => ?_)
  refine ri_if_ne (tgt := 10) hx hb dX1_remove_5 (by decide) (by omega) (fun c5 => ?_) (fun c5 => ?_)
  · have hus : (0 ≤ i ∧ i < 20 ∧ Wd i ≠ 0) := by omega
    obtain ⟨r1, r2⟩ := hrec i hus.1 hus.2.1 hus.2.2
    refine lv_aload_n hx hb dX1_remove_10 rfl (lv_at hl 0 rfl) ?_
    refine lv_iload_n hx hb dX1_remove_11 rfl (lv_at hl 1 rfl) ?_
    refine ri_callV (rest := []) (ci := 0) (q0 := 0) (mx1_flip l i ⟨hus.1, hus.2.1⟩ r1 r2 hF _) hx hb hml hown hts (cwV 1 hts (lw_V q122 q124 qs7 q31 q125) rfl rfl rfl (by decide +kernel) ⟨Nat.le_of_ble_eq_true rfl, Nat.le_of_ble_eq_true rfl⟩) hK hP hD hS hA rfl rfl rfl hl.1 rfl (Nat.le_of_ble_eq_true rfl) dX1_remove_12 ⟨Nat.zero_le _, Nat.zero_le _⟩ (fun u5 H locs hu4 hP hD hS => ?_)
    obtain ⟨F, rfl⟩ : ∃ z, z = u5 := ⟨_, rfl⟩
    replace hP : va_P D vwCl (XW ad dB dN Cw Rw n hc cn Lf Bt Wd Hg F HO CA SS SH) H := hP
    replace hD : va_D A (XW ad dB dN Cw Rw n hc cn Lf Bt Wd Hg F HO CA SS SH) := hD
    have hF' := flip_mask hF (strip_le r1.2.1 r1.1 r1.2.2) hu4
    refine lv_aload_n hx hb dX1_remove_15 rfl (lv_at hl 0 rfl) ?_
    refine gx_Wd hx hb hts hown hK hP dX1_remove_16 ?_
    refine lv_iload_n hx hb dX1_remove_19 rfl (lv_at hl 1 rfl) ?_
    refine ri_iconst hx hb dX1_remove_20 ?_
    refine ri_bast hx hb hK hP hD hS 3 0 rfl rfl (by omega) (by decide) (by omega) dX1_remove_21 (fun H locs hP hD hS => ?_)
    replace hP : va_P D vwCl (XW ad dB dN Cw Rw n hc cn Lf Bt (uI Wd i 0) Hg F HO CA SS SH) H := hP
    replace hD : va_D A (XW ad dB dN Cw Rw n hc cn Lf Bt (uI Wd i 0) Hg F HO CA SS SH) := hD
    refine lv_aload_n hx hb dX1_remove_22 rfl (lv_at hl 0 rfl) ?_
    refine lv_dup hx hb dX1_remove_23 rfl ?_
    refine gx_n hx hb hts hown hK hP dX1_remove_24 ?_
    refine ri_iconst hx hb dX1_remove_27 ?_
    refine ri_isub hx hb dX1_remove_28 ?_
    refine px_n hx hb hts hown hK hP hD hS dX1_remove_29 (fun H locs hP hD hS => ?_)
    refine lv_aload_n hx hb dX1_remove_32 rfl (lv_at hl 0 rfl) ?_
    refine ri_callV (rest := []) (ci := 0) (q0 := 0) (mx1_findHoles l hC hR hF' _) hx hb hml hown hts (cwV 0 hts (lw_V q162 q164 qs16 q31 q165) rfl rfl rfl (by decide +kernel) ⟨Nat.le_of_ble_eq_true rfl, Nat.le_of_ble_eq_true rfl⟩) hK hP hD hS hA rfl rfl rfl hl.1 rfl (Nat.le_of_ble_eq_true rfl) dX1_remove_33 ⟨Nat.zero_le _, Nat.zero_le _⟩ (fun u7 H locs hu6 hP hD hS => ?_)
    obtain ⟨B2, S1, S2⟩ := u7
    replace hP : va_P D vwCl (XW ad dB dN Cw Rw (n - 1) ((holesOf F Cw Rw).length : Int) cn Lf Bt (uI Wd i 0) Hg F B2 CA S1 S2) H := hP
    replace hD : va_D A (XW ad dB dN Cw Rw (n - 1) ((holesOf F Cw Rw).length : Int) cn Lf Bt (uI Wd i 0) Hg F B2 CA S1 S2) := hD
    obtain ⟨hv1, hv2⟩ := hu6
    refine lv_aload_n hx hb dX1_remove_36 rfl (lv_at hl 0 rfl) ?_
    refine gx_n hx hb hts hown hK hP dX1_remove_37 ?_
    exact ri_iretW (n - 1, ((holesOf F Cw Rw).length : Int), uI Wd i 0, F, B2, S1, S2) hx hb hr hlocks (Or.inr ⟨hus, rfl, rfl, rfl, hu4, rfl, hv1, hv2⟩) hK hP hD hS dX1_remove_40
  · refine ri_iconst hx hb dX1_remove_8 ?_
    exact ri_iretW (n, hc, Wd, FB, HO, SS, SH) hx hb hr hlocks (Or.inl ⟨rfl, by omega, rfl, rfl, rfl, rfl, rfl⟩) hK hP hD hS dX1_remove_9
set_option maxHeartbeats 4000000 in
set_option maxRecDepth 100000 in
theorem mx1_place (l : Launch) {D : va_G} {ad : Nat → Nat} {dB dN : ClassId} {Cw Rw n hc cn : Int} {Lf Bt Wd Hg FB HO CA SS SH : Int → Int} (w h t : Int) (hC : 4 ≤ Cw ∧ Cw ≤ 16) (hR : 4 ≤ Rw ∧ Rw ≤ 16) (hw : -2147483648 ≤ w ∧ w < 2147483648) (hh : -2147483648 ≤ h ∧ h < 2147483648) (htn : t = 0 ∨ t = 1) (hn : 0 ≤ n ∧ n ≤ 20) (hfree : freeId Wd n) (hF : maskOk FB) (hwb : byt Wd) (lh : List Int) (hhc : hc = (lh.length : Int)) (hLh : Lst HO lh) (hlen : lh.length ≤ 256) (hbx : ∀ q ∈ lh, boxQ q) (hfit : ∀ q, cornerQ lh q → (keepL (candL lh q)).length ≤ 256) (sz : Nat) : MetI (S := Int × Int × Int × (Int → Int) × (Int → Int) × (Int → Int) × (Int → Int) × (Int → Int) × (Int → Int) × (Int → Int)) l yX1_place cX1_place 7 4 102 [.ref (ad 0), .int (iI w), .int (iI h), .int (iI t)] D (XW ad dB dN Cw Rw n hc cn Lf Bt Wd Hg FB HO CA SS SH) (tX dB dN) sz (fun z (n', hc', _, L', B', W', H', F', G', _) => (n' = n ∧ hc' = hc ∧ L' = Lf ∧ B' = Bt ∧ W' = Wd ∧ H' = Hg ∧ F' = FB ∧ G' = HO ∧ ((z = -1 ∧ ¬ sizeP w h) ∨ (sizeP w h ∧ 20 ≤ n ∧ z = -2) ∨ (sizeP w h ∧ n < 20 ∧ z = -3 ∧ ∃ a tr, ChS HO hc w h t a tr ∧ a < 0))) ∨ (sizeP w h ∧ n < 20 ∧ ∃ a tr, ChS HO hc w h t a tr ∧ 0 ≤ a ∧ 0 ≤ z ∧ z < 20 ∧ Wd z = 0 ∧ (∀ j, 0 ≤ j → j < z → Wd j ≠ 0) ∧ n' = n + 1 ∧ L' = uI Lf z (a % 256) ∧ B' = uI Bt z (a / 256) ∧ W' = uI Wd z (if tr = 1 then h else w) ∧ H' = uI Hg z (if tr = 1 then w else h) ∧ (∀ j, 0 ≤ j → j < 16 → F' j = flipV FB (strip (if tr = 1 then h else w) (a % 256)) (a / 256) (a / 256 + (if tr = 1 then w else h)) j) ∧ hc' = ((keepL (candL lh (pk (a % 256) (a / 256) (if tr = 1 then h else w) (if tr = 1 then w else h)))).length : Int) ∧ Lst G' (keepL (candL lh (pk (a % 256) (a / 256) (if tr = 1 then h else w) (if tr = 1 then w else h)))))) (fun (n', hc', cn', L', B', W', H', F', G', A') => XW ad dB dN Cw Rw n' hc' cn' L' B' W' H' F' G' A' SS SH) := by
  refine ri_met RX1 rfl (by decide) (Nat.le_of_ble_eq_true rfl) ?_
  intro p e s m below meth c hx hb hr hts hown hlocks hml hnm hv ls hl
  obtain ⟨hsz, hP, hK, hD0⟩ := hv
  subst hsz
  have hD := hD0.self (sz := s.heap.size)
  generalize hAe : va_A (XW ad dB dN Cw Rw n hc cn Lf Bt Wd Hg FB HO CA SS SH) s.heap.size = A at hD ⊢
  have hA : ∀ q : Nat, s.heap.size ≤ q → A q := fun q h => by rw [← hAe]; exact Or.inr h
  have hS : va_S A s.heap s.heap [] := va_S.rf
  have hl : lv_has ls 7 [(0, .ref (ad 0)), (1, .int (iI w)), (2, .int (iI h)), (3, .int (iI t))] := hl
  have hok : okQ HO hc := by rw [hhc]; exact boxQ_okQ hLh hbx
  refine lv_aload_n hx hb dX1_place_0 rfl (lv_at hl 0 rfl) ?_
  refine lv_iload_n hx hb dX1_place_1 rfl (lv_at hl 1 rfl) ?_
  refine lv_iload_n hx hb dX1_place_2 rfl (lv_at hl 2 rfl) ?_
  refine ri_callR (rest := []) (ci := 0) (q0 := 0) (mx1_isSize l w h hw hh) hx hb hml hown hts (cwV 2 hts (lw_V q98 q100 qs1 q31 q101) rfl rfl rfl (by decide +kernel) ⟨Nat.le_of_ble_eq_true rfl, Nat.le_of_ble_eq_true rfl⟩) hK hP rfl rfl rfl hl.1 rfl (Nat.le_of_ble_eq_true rfl) dX1_place_3 ⟨Nat.zero_le _, Nat.zero_le _⟩ (fun u hu => ?_)
  refine ri_if_ne (tgt := 11) hx hb dX1_place_6 (by decide) (by omega) (fun c6 => ?_) (fun c6 => ?_)
  · have hsz : sizeP w h := by unfold sizeP; omega
    have hsz' := hsz
    unfold sizeP at hsz'
    refine lv_aload_n hx hb dX1_place_11 rfl (lv_at hl 0 rfl) ?_
    refine gx_n hx hb hts hown hK hP dX1_place_12 ?_
    refine ri_bipush hx hb dX1_place_15 (by decide +kernel) ?_
    refine ri_icmp_lt (tgt := 23) hx hb dX1_place_17 (by decide) (by omega) (by omega) (fun c17 => ?_) (fun c17 => ?_)
    · refine lv_aload_n hx hb dX1_place_23 rfl (lv_at hl 0 rfl) ?_
      refine lv_iload_n hx hb dX1_place_24 rfl (lv_at hl 1 rfl) ?_
      refine lv_iload_n hx hb dX1_place_25 rfl (lv_at hl 2 rfl) ?_
      refine ri_callR (rest := []) (ci := 0) (q0 := 0) (mx1_lowest l w h hw hh (by omega) hok) hx hb hml hown hts (cwV 2 hts (lw_V q102 q104 qs2 q31 q105) rfl rfl rfl (by decide +kernel) ⟨Nat.le_of_ble_eq_true rfl, Nat.le_of_ble_eq_true rfl⟩) hK hP rfl rfl rfl hl.1 rfl (Nat.le_of_ble_eq_true rfl) dX1_place_26 ⟨Nat.zero_le _, Nat.zero_le _⟩ (fun a1 ha1 => ?_)
      have hr1 := LowS_rng ha1 hok
      refine lv_istore (lv' := [(4, .int (iI a1)), (0, .ref (ad 0)), (1, .int (iI w)), (2, .int (iI h)), (3, .int (iI t))]) hx hb dX1_place_29 hl (by decide) rfl (fun ls hl => ?_)
      refine ri_iconst hx hb dX1_place_31 ?_
      refine lv_istore (lv' := [(5, .int (iI 0)), (4, .int (iI a1)), (0, .ref (ad 0)), (1, .int (iI w)), (2, .int (iI h)), (3, .int (iI t))]) hx hb dX1_place_32 hl (by decide) rfl (fun ls hl => ?_)
      refine ri_joinW (σ := Int × Int) (nL := 7) 79 (fun ((a, tr) : Int × Int) => ChS HO hc w h t a tr ∧ (tr = 0 ∨ tr = 1) ∧ -3 ≤ a ∧ a < 8192) (fun ((a, tr) : Int × Int) => [(0, .ref (ad 0)), (1, .int (iI w)), (2, .int (iI h)), (3, .int (iI t)), (4, .int (iI a)), (5, .int (iI tr))]) (fun ((a, tr) : Int × Int) => []) (fun ((a, tr) : Int × Int) => (XW ad dB dN Cw Rw n hc cn Lf Bt Wd Hg FB HO CA SS SH)) D vwCl A s.heap ?_ ?_
      · rintro ⟨a, tr⟩ ls H locs hI hl hP hD hS
        replace hP : va_P D vwCl (XW ad dB dN Cw Rw n hc cn Lf Bt Wd Hg FB HO CA SS SH) H := hP
        replace hD : va_D A (XW ad dB dN Cw Rw n hc cn Lf Bt Wd Hg FB HO CA SS SH) := hD
        replace hI : ChS HO hc w h t a tr ∧ (tr = 0 ∨ tr = 1) ∧ -3 ≤ a ∧ a < 8192 := hI
        obtain ⟨hch, htr, har0, har1⟩ := hI
        replace hl : lv_has ls 7 [(0, .ref (ad 0)), (1, .int (iI w)), (2, .int (iI h)), (3, .int (iI t)), (4, .int (iI a)), (5, .int (iI tr))] := hl
        refine lv_iload hx hb dX1_place_79 (lv_at hl 4 rfl) ?_
        refine ri_if_ge (tgt := 87) hx hb dX1_place_81 (by decide) (by omega) (fun c81 => ?_) (fun c81 => ?_)
        · refine ri_iconst hx hb dX1_place_87 ?_
          refine lv_istore (lv' := [(6, .int (iI 0)), (0, .ref (ad 0)), (1, .int (iI w)), (2, .int (iI h)), (3, .int (iI t)), (4, .int (iI a)), (5, .int (iI tr))]) hx hb dX1_place_88 hl (by decide) rfl (fun ls hl => ?_)
          refine ri_joinW (σ := Int) (nL := 7) 113 (fun (i : Int) => 0 ≤ i ∧ i < 20 ∧ Wd i = 0 ∧ ∀ j, 0 ≤ j → j < i → Wd j ≠ 0) (fun (i : Int) => [(0, .ref (ad 0)), (1, .int (iI w)), (2, .int (iI h)), (3, .int (iI t)), (4, .int (iI a)), (5, .int (iI tr)), (6, .int (iI i))]) (fun (i : Int) => []) (fun (i : Int) => (XW ad dB dN Cw Rw n hc cn Lf Bt Wd Hg FB HO CA SS SH)) D vwCl A s.heap ?_ ?_
          · rintro i ls H locs hI hl hP hD hS
            replace hP : va_P D vwCl (XW ad dB dN Cw Rw n hc cn Lf Bt Wd Hg FB HO CA SS SH) H := hP
            replace hD : va_D A (XW ad dB dN Cw Rw n hc cn Lf Bt Wd Hg FB HO CA SS SH) := hD
            replace hI : 0 ≤ i ∧ i < 20 ∧ Wd i = 0 ∧ ∀ j, 0 ≤ j → j < i → Wd j ≠ 0 := hI
            obtain ⟨hi0, hi1, hwi, hno⟩ := hI
            replace hl : lv_has ls 7 [(0, .ref (ad 0)), (1, .int (iI w)), (2, .int (iI h)), (3, .int (iI t)), (4, .int (iI a)), (5, .int (iI tr)), (6, .int (iI i))] := hl
            obtain ⟨-, j, j0, j1, ja, jw, jh⟩ := ChS_pos hch c81
            rw [hhc] at j1
            have hqm := Lst_mem hLh j0 j1
            have hbq := hbx _ hqm
            obtain ⟨p1, p2⟩ := at_parts hbq.1
            obtain ⟨g1, g2, g3, g4⟩ := acc_rng hbq.1
            obtain ⟨-, hb1, hb2⟩ := hbq
            rw [← ja] at p1 p2
            rcases htr with rfl | rfl
            · have jw : w ≤ wd (HO j) := jw
              have jh : h ≤ hg (HO j) := jh
              refine lv_aload_n hx hb dX1_place_113 rfl (lv_at hl 0 rfl) ?_
              refine gx_Lf hx hb hts hown hK hP dX1_place_114 ?_
              refine lv_iload hx hb dX1_place_117 (lv_at hl 6 rfl) ?_
              refine lv_iload hx hb dX1_place_119 (lv_at hl 4 rfl) ?_
              refine ri_sipush hx hb dX1_place_121 (by decide +kernel) ?_
              refine lv_iand hx hb dX1_place_124 ?_
              refine ri_top (a := a % 256) (sh_and 8 _ (by decide +kernel) (by omega)) ?_
              refine ri_i2b hx hb dX1_place_125 (by omega) ?_
              refine ri_bast hx hb hK hP hD hS 1 0 rfl rfl (by omega) (by decide) (by omega) dX1_place_126 (fun H locs hP hD hS => ?_)
              replace hP : va_P D vwCl (XW ad dB dN Cw Rw n hc cn (uI Lf i (a % 256)) Bt Wd Hg FB HO CA SS SH) H := hP
              replace hD : va_D A (XW ad dB dN Cw Rw n hc cn (uI Lf i (a % 256)) Bt Wd Hg FB HO CA SS SH) := hD
              refine lv_aload_n hx hb dX1_place_127 rfl (lv_at hl 0 rfl) ?_
              refine gx_Bt hx hb hts hown hK hP dX1_place_128 ?_
              refine lv_iload hx hb dX1_place_131 (lv_at hl 6 rfl) ?_
              refine lv_iload hx hb dX1_place_133 (lv_at hl 4 rfl) ?_
              refine ri_bipush hx hb dX1_place_135 (by decide +kernel) ?_
              refine lv_ishr hx hb dX1_place_137 ?_
              refine ri_top (a := a / 256) (sh_r 8 _ (by decide +kernel) (by omega)) ?_
              refine ri_i2b hx hb dX1_place_138 (by omega) ?_
              refine ri_bast hx hb hK hP hD hS 2 0 rfl rfl (by omega) (by decide) (by omega) dX1_place_139 (fun H locs hP hD hS => ?_)
              replace hP : va_P D vwCl (XW ad dB dN Cw Rw n hc cn (uI Lf i (a % 256)) (uI Bt i (a / 256)) Wd Hg FB HO CA SS SH) H := hP
              replace hD : va_D A (XW ad dB dN Cw Rw n hc cn (uI Lf i (a % 256)) (uI Bt i (a / 256)) Wd Hg FB HO CA SS SH) := hD
              refine lv_aload_n hx hb dX1_place_140 rfl (lv_at hl 0 rfl) ?_
              refine gx_Wd hx hb hts hown hK hP dX1_place_141 ?_
              refine lv_iload hx hb dX1_place_144 (lv_at hl 6 rfl) ?_
              refine lv_iload hx hb dX1_place_146 (lv_at hl 5 rfl) ?_
              refine ri_if_eq (tgt := 155) hx hb dX1_place_148 (by decide) (by omega) (fun c148 => ?_) (fun c148 => absurd c148 (by omega))
              refine lv_iload_n hx hb dX1_place_155 rfl (lv_at hl 1 rfl) ?_
              refine ri_i2b hx hb dX1_place_156 (by omega) ?_
              refine ri_bast hx hb hK hP hD hS 3 0 rfl rfl (by omega) (by decide) (by omega) dX1_place_157 (fun H locs hP hD hS => ?_)
              replace hP : va_P D vwCl (XW ad dB dN Cw Rw n hc cn (uI Lf i (a % 256)) (uI Bt i (a / 256)) (uI Wd i w) Hg FB HO CA SS SH) H := hP
              replace hD : va_D A (XW ad dB dN Cw Rw n hc cn (uI Lf i (a % 256)) (uI Bt i (a / 256)) (uI Wd i w) Hg FB HO CA SS SH) := hD
              refine lv_aload_n hx hb dX1_place_158 rfl (lv_at hl 0 rfl) ?_
              refine gx_Hg hx hb hts hown hK hP dX1_place_159 ?_
              refine lv_iload hx hb dX1_place_162 (lv_at hl 6 rfl) ?_
              refine lv_iload hx hb dX1_place_164 (lv_at hl 5 rfl) ?_
              refine ri_if_eq (tgt := 173) hx hb dX1_place_166 (by decide) (by omega) (fun c166 => ?_) (fun c166 => absurd c166 (by omega))
              refine lv_iload_n hx hb dX1_place_173 rfl (lv_at hl 2 rfl) ?_
              refine ri_i2b hx hb dX1_place_174 (by omega) ?_
              refine ri_bast hx hb hK hP hD hS 4 0 rfl rfl (by omega) (by decide) (by omega) dX1_place_175 (fun H locs hP hD hS => ?_)
              replace hP : va_P D vwCl (XW ad dB dN Cw Rw n hc cn (uI Lf i (a % 256)) (uI Bt i (a / 256)) (uI Wd i w) (uI Hg i h) FB HO CA SS SH) H := hP
              replace hD : va_D A (XW ad dB dN Cw Rw n hc cn (uI Lf i (a % 256)) (uI Bt i (a / 256)) (uI Wd i w) (uI Hg i h) FB HO CA SS SH) := hD
              refine lv_aload_n hx hb dX1_place_176 rfl (lv_at hl 0 rfl) ?_
              refine lv_dup hx hb dX1_place_177 rfl ?_
              refine gx_n hx hb hts hown hK hP dX1_place_178 ?_
              refine ri_iconst hx hb dX1_place_181 ?_
              refine ri_iadd hx hb dX1_place_182 ?_
              refine px_n hx hb hts hown hK hP hD hS dX1_place_183 (fun H locs hP hD hS => ?_)
              refine lv_aload_n hx hb dX1_place_186 rfl (lv_at hl 0 rfl) ?_
              refine lv_iload hx hb dX1_place_187 (lv_at hl 6 rfl) ?_
              have e1 : uI Lf i (a % 256) i = a % 256 := uI_s _ _ _
              have e2 : uI Bt i (a / 256) i = a / 256 := uI_s _ _ _
              have e3 : uI Wd i w i = w := uI_s _ _ _
              have e4 : uI Hg i h i = h := uI_s _ _ _
              refine ri_callV (rest := []) (ci := 0) (q0 := 0) (mx1_flip l i ⟨hi0, hi1⟩ (by rw [e1, e3]; omega) (by rw [e2, e4]; omega) hF _) hx hb hml hown hts (cwV 1 hts (lw_V q122 q124 qs7 q31 q125) rfl rfl rfl (by decide +kernel) ⟨Nat.le_of_ble_eq_true rfl, Nat.le_of_ble_eq_true rfl⟩) hK hP hD hS hA rfl rfl rfl hl.1 rfl (Nat.le_of_ble_eq_true rfl) dX1_place_189 ⟨Nat.zero_le _, Nat.zero_le _⟩ (fun u9 H locs hu8 hP hD hS => ?_)
              obtain ⟨F, rfl⟩ : ∃ z, z = u9 := ⟨_, rfl⟩
              replace hP : va_P D vwCl (XW ad dB dN Cw Rw (n + 1) hc cn (uI Lf i (a % 256)) (uI Bt i (a / 256)) (uI Wd i w) (uI Hg i h) F HO CA SS SH) H := hP
              replace hD : va_D A (XW ad dB dN Cw Rw (n + 1) hc cn (uI Lf i (a % 256)) (uI Bt i (a / 256)) (uI Wd i w) (uI Hg i h) F HO CA SS SH) := hD
              rw [e1, e2, e3, e4] at hu8
              obtain ⟨k1, k2, k3, k4⟩ := pk_acc (x := a % 256) (y := a / 256) (w := w) (h := h) (by omega) (by omega) (by omega) (by omega)
              have hfq := hfit (pk (a % 256) (a / 256) w h) ⟨HO j, hqm, by rw [k1, p1], by rw [k2, p2], by rw [k3]; exact jw, by rw [k4]; exact jh, by rw [k3]; omega, by rw [k4]; omega⟩
              refine lv_aload_n hx hb dX1_place_192 rfl (lv_at hl 0 rfl) ?_
              refine lv_iload hx hb dX1_place_193 (lv_at hl 6 rfl) ?_
              refine ri_callV (rest := []) (ci := 0) (q0 := 0) (mx1_splitHoles l i ⟨hi0, hi1⟩ (by rw [e1, e3]; omega) (by rw [e2, e4]; omega) (pk (a % 256) (a / 256) w h) (by rw [e1, e2, e3, e4]) lh hhc hLh hlen hbx hfq _) hx hb hml hown hts (cwV 1 hts (lw_V q126 q128 qs8 q31 q129) rfl rfl rfl (by decide +kernel) ⟨Nat.le_of_ble_eq_true rfl, Nat.le_of_ble_eq_true rfl⟩) hK hP hD hS hA rfl rfl rfl hl.1 rfl (Nat.le_of_ble_eq_true rfl) dX1_place_195 ⟨Nat.zero_le _, Nat.zero_le _⟩ (fun u11 H locs hu10 hP hD hS => ?_)
              obtain ⟨G, A'⟩ := u11
              replace hP : va_P D vwCl (XW ad dB dN Cw Rw (n + 1) ((keepL (candL lh (pk (a % 256) (a / 256) w h))).length : Int) ((candL lh (pk (a % 256) (a / 256) w h)).length : Int) (uI Lf i (a % 256)) (uI Bt i (a / 256)) (uI Wd i w) (uI Hg i h) F G A' SS SH) H := hP
              replace hD : va_D A (XW ad dB dN Cw Rw (n + 1) ((keepL (candL lh (pk (a % 256) (a / 256) w h))).length : Int) ((candL lh (pk (a % 256) (a / 256) w h)).length : Int) (uI Lf i (a % 256)) (uI Bt i (a / 256)) (uI Wd i w) (uI Hg i h) F G A' SS SH) := hD
              refine lv_iload hx hb dX1_place_198 (lv_at hl 6 rfl) ?_
              exact ri_iretW (n + 1, ((keepL (candL lh (pk (a % 256) (a / 256) w h))).length : Int), ((candL lh (pk (a % 256) (a / 256) w h)).length : Int), uI Lf i (a % 256), uI Bt i (a / 256), uI Wd i w, uI Hg i h, F, G, A') hx hb hr hlocks (Or.inr ⟨hsz, by omega, a, 0, hch, c81, hi0, hi1, hwi, hno, rfl, rfl, rfl, rfl, rfl, hu8, rfl, hu10⟩) hK hP hD hS dX1_place_200
            · have jw : h ≤ wd (HO j) := jw
              have jh : w ≤ hg (HO j) := jh
              refine lv_aload_n hx hb dX1_place_113 rfl (lv_at hl 0 rfl) ?_
              refine gx_Lf hx hb hts hown hK hP dX1_place_114 ?_
              refine lv_iload hx hb dX1_place_117 (lv_at hl 6 rfl) ?_
              refine lv_iload hx hb dX1_place_119 (lv_at hl 4 rfl) ?_
              refine ri_sipush hx hb dX1_place_121 (by decide +kernel) ?_
              refine lv_iand hx hb dX1_place_124 ?_
              refine ri_top (a := a % 256) (sh_and 8 _ (by decide +kernel) (by omega)) ?_
              refine ri_i2b hx hb dX1_place_125 (by omega) ?_
              refine ri_bast hx hb hK hP hD hS 1 0 rfl rfl (by omega) (by decide) (by omega) dX1_place_126 (fun H locs hP hD hS => ?_)
              replace hP : va_P D vwCl (XW ad dB dN Cw Rw n hc cn (uI Lf i (a % 256)) Bt Wd Hg FB HO CA SS SH) H := hP
              replace hD : va_D A (XW ad dB dN Cw Rw n hc cn (uI Lf i (a % 256)) Bt Wd Hg FB HO CA SS SH) := hD
              refine lv_aload_n hx hb dX1_place_127 rfl (lv_at hl 0 rfl) ?_
              refine gx_Bt hx hb hts hown hK hP dX1_place_128 ?_
              refine lv_iload hx hb dX1_place_131 (lv_at hl 6 rfl) ?_
              refine lv_iload hx hb dX1_place_133 (lv_at hl 4 rfl) ?_
              refine ri_bipush hx hb dX1_place_135 (by decide +kernel) ?_
              refine lv_ishr hx hb dX1_place_137 ?_
              refine ri_top (a := a / 256) (sh_r 8 _ (by decide +kernel) (by omega)) ?_
              refine ri_i2b hx hb dX1_place_138 (by omega) ?_
              refine ri_bast hx hb hK hP hD hS 2 0 rfl rfl (by omega) (by decide) (by omega) dX1_place_139 (fun H locs hP hD hS => ?_)
              replace hP : va_P D vwCl (XW ad dB dN Cw Rw n hc cn (uI Lf i (a % 256)) (uI Bt i (a / 256)) Wd Hg FB HO CA SS SH) H := hP
              replace hD : va_D A (XW ad dB dN Cw Rw n hc cn (uI Lf i (a % 256)) (uI Bt i (a / 256)) Wd Hg FB HO CA SS SH) := hD
              refine lv_aload_n hx hb dX1_place_140 rfl (lv_at hl 0 rfl) ?_
              refine gx_Wd hx hb hts hown hK hP dX1_place_141 ?_
              refine lv_iload hx hb dX1_place_144 (lv_at hl 6 rfl) ?_
              refine lv_iload hx hb dX1_place_146 (lv_at hl 5 rfl) ?_
              refine ri_if_eq (tgt := 155) hx hb dX1_place_148 (by decide) (by omega) (fun c148 => absurd c148 (by omega)) (fun c148 => ?_)
              refine lv_iload_n hx hb dX1_place_151 rfl (lv_at hl 2 rfl) ?_
              refine lv_goto (tgt := 156) hx hb dX1_place_152 (by decide) ?_
              refine ri_i2b hx hb dX1_place_156 (by omega) ?_
              refine ri_bast hx hb hK hP hD hS 3 0 rfl rfl (by omega) (by decide) (by omega) dX1_place_157 (fun H locs hP hD hS => ?_)
              replace hP : va_P D vwCl (XW ad dB dN Cw Rw n hc cn (uI Lf i (a % 256)) (uI Bt i (a / 256)) (uI Wd i h) Hg FB HO CA SS SH) H := hP
              replace hD : va_D A (XW ad dB dN Cw Rw n hc cn (uI Lf i (a % 256)) (uI Bt i (a / 256)) (uI Wd i h) Hg FB HO CA SS SH) := hD
              refine lv_aload_n hx hb dX1_place_158 rfl (lv_at hl 0 rfl) ?_
              refine gx_Hg hx hb hts hown hK hP dX1_place_159 ?_
              refine lv_iload hx hb dX1_place_162 (lv_at hl 6 rfl) ?_
              refine lv_iload hx hb dX1_place_164 (lv_at hl 5 rfl) ?_
              refine ri_if_eq (tgt := 173) hx hb dX1_place_166 (by decide) (by omega) (fun c166 => absurd c166 (by omega)) (fun c166 => ?_)
              refine lv_iload_n hx hb dX1_place_169 rfl (lv_at hl 1 rfl) ?_
              refine lv_goto (tgt := 174) hx hb dX1_place_170 (by decide) ?_
              refine ri_i2b hx hb dX1_place_174 (by omega) ?_
              refine ri_bast hx hb hK hP hD hS 4 0 rfl rfl (by omega) (by decide) (by omega) dX1_place_175 (fun H locs hP hD hS => ?_)
              replace hP : va_P D vwCl (XW ad dB dN Cw Rw n hc cn (uI Lf i (a % 256)) (uI Bt i (a / 256)) (uI Wd i h) (uI Hg i w) FB HO CA SS SH) H := hP
              replace hD : va_D A (XW ad dB dN Cw Rw n hc cn (uI Lf i (a % 256)) (uI Bt i (a / 256)) (uI Wd i h) (uI Hg i w) FB HO CA SS SH) := hD
              refine lv_aload_n hx hb dX1_place_176 rfl (lv_at hl 0 rfl) ?_
              refine lv_dup hx hb dX1_place_177 rfl ?_
              refine gx_n hx hb hts hown hK hP dX1_place_178 ?_
              refine ri_iconst hx hb dX1_place_181 ?_
              refine ri_iadd hx hb dX1_place_182 ?_
              refine px_n hx hb hts hown hK hP hD hS dX1_place_183 (fun H locs hP hD hS => ?_)
              refine lv_aload_n hx hb dX1_place_186 rfl (lv_at hl 0 rfl) ?_
              refine lv_iload hx hb dX1_place_187 (lv_at hl 6 rfl) ?_
              have e1 : uI Lf i (a % 256) i = a % 256 := uI_s _ _ _
              have e2 : uI Bt i (a / 256) i = a / 256 := uI_s _ _ _
              have e3 : uI Wd i h i = h := uI_s _ _ _
              have e4 : uI Hg i w i = w := uI_s _ _ _
              refine ri_callV (rest := []) (ci := 0) (q0 := 0) (mx1_flip l i ⟨hi0, hi1⟩ (by rw [e1, e3]; omega) (by rw [e2, e4]; omega) hF _) hx hb hml hown hts (cwV 1 hts (lw_V q122 q124 qs7 q31 q125) rfl rfl rfl (by decide +kernel) ⟨Nat.le_of_ble_eq_true rfl, Nat.le_of_ble_eq_true rfl⟩) hK hP hD hS hA rfl rfl rfl hl.1 rfl (Nat.le_of_ble_eq_true rfl) dX1_place_189 ⟨Nat.zero_le _, Nat.zero_le _⟩ (fun u13 H locs hu12 hP hD hS => ?_)
              obtain ⟨F, rfl⟩ : ∃ z, z = u13 := ⟨_, rfl⟩
              replace hP : va_P D vwCl (XW ad dB dN Cw Rw (n + 1) hc cn (uI Lf i (a % 256)) (uI Bt i (a / 256)) (uI Wd i h) (uI Hg i w) F HO CA SS SH) H := hP
              replace hD : va_D A (XW ad dB dN Cw Rw (n + 1) hc cn (uI Lf i (a % 256)) (uI Bt i (a / 256)) (uI Wd i h) (uI Hg i w) F HO CA SS SH) := hD
              rw [e1, e2, e3, e4] at hu12
              obtain ⟨k1, k2, k3, k4⟩ := pk_acc (x := a % 256) (y := a / 256) (w := h) (h := w) (by omega) (by omega) (by omega) (by omega)
              have hfq := hfit (pk (a % 256) (a / 256) h w) ⟨HO j, hqm, by rw [k1, p1], by rw [k2, p2], by rw [k3]; exact jw, by rw [k4]; exact jh, by rw [k3]; omega, by rw [k4]; omega⟩
              refine lv_aload_n hx hb dX1_place_192 rfl (lv_at hl 0 rfl) ?_
              refine lv_iload hx hb dX1_place_193 (lv_at hl 6 rfl) ?_
              refine ri_callV (rest := []) (ci := 0) (q0 := 0) (mx1_splitHoles l i ⟨hi0, hi1⟩ (by rw [e1, e3]; omega) (by rw [e2, e4]; omega) (pk (a % 256) (a / 256) h w) (by rw [e1, e2, e3, e4]) lh hhc hLh hlen hbx hfq _) hx hb hml hown hts (cwV 1 hts (lw_V q126 q128 qs8 q31 q129) rfl rfl rfl (by decide +kernel) ⟨Nat.le_of_ble_eq_true rfl, Nat.le_of_ble_eq_true rfl⟩) hK hP hD hS hA rfl rfl rfl hl.1 rfl (Nat.le_of_ble_eq_true rfl) dX1_place_195 ⟨Nat.zero_le _, Nat.zero_le _⟩ (fun u15 H locs hu14 hP hD hS => ?_)
              obtain ⟨G, A'⟩ := u15
              replace hP : va_P D vwCl (XW ad dB dN Cw Rw (n + 1) ((keepL (candL lh (pk (a % 256) (a / 256) h w))).length : Int) ((candL lh (pk (a % 256) (a / 256) h w)).length : Int) (uI Lf i (a % 256)) (uI Bt i (a / 256)) (uI Wd i h) (uI Hg i w) F G A' SS SH) H := hP
              replace hD : va_D A (XW ad dB dN Cw Rw (n + 1) ((keepL (candL lh (pk (a % 256) (a / 256) h w))).length : Int) ((candL lh (pk (a % 256) (a / 256) h w)).length : Int) (uI Lf i (a % 256)) (uI Bt i (a / 256)) (uI Wd i h) (uI Hg i w) F G A' SS SH) := hD
              refine lv_iload hx hb dX1_place_198 (lv_at hl 6 rfl) ?_
              exact ri_iretW (n + 1, ((keepL (candL lh (pk (a % 256) (a / 256) h w))).length : Int), ((candL lh (pk (a % 256) (a / 256) h w)).length : Int), uI Lf i (a % 256), uI Bt i (a / 256), uI Wd i h, uI Hg i w, F, G, A') hx hb hr hlocks (Or.inr ⟨hsz, by omega, a, 1, hch, c81, hi0, hi1, hwi, hno, rfl, rfl, rfl, rfl, rfl, hu12, rfl, hu14⟩) hK hP hD hS dX1_place_200
          · intro jn113
            refine ri_loopW (σ := Int) (nL := 7) (fun (k : Int) => (20 - k).toNat) (fun (k : Int) => 0 ≤ k ∧ k ≤ 19 ∧ ∀ j, 0 ≤ j → j < k → Wd j ≠ 0) (fun (k : Int) => [(0, .ref (ad 0)), (1, .int (iI w)), (2, .int (iI h)), (3, .int (iI t)), (4, .int (iI a)), (5, .int (iI tr)), (6, .int (iI k))]) (fun (k : Int) => (XW ad dB dN Cw Rw n hc cn Lf Bt Wd Hg FB HO CA SS SH)) (0) ?_ (lv_sub hl [1, 2, 3, 4, 5, 6, 0] rfl) hP hD hS ?_
            · show 0 ≤ (0 : Int) ∧ (0 : Int) ≤ 19 ∧ ∀ j, 0 ≤ j → j < (0 : Int) → Wd j ≠ 0
              exact ⟨by omega, by omega, fun j a b => absurd b (by omega)⟩
            · rintro k ls H locs hI hl hP hD hS ih90
              replace hP : va_P D vwCl (XW ad dB dN Cw Rw n hc cn Lf Bt Wd Hg FB HO CA SS SH) H := hP
              replace hD : va_D A (XW ad dB dN Cw Rw n hc cn Lf Bt Wd Hg FB HO CA SS SH) := hD
              replace hI : 0 ≤ k ∧ k ≤ 19 ∧ ∀ j, 0 ≤ j → j < k → Wd j ≠ 0 := hI
              obtain ⟨hk0, hk1, hno⟩ := hI
              replace hl : lv_has ls 7 [(0, .ref (ad 0)), (1, .int (iI w)), (2, .int (iI h)), (3, .int (iI t)), (4, .int (iI a)), (5, .int (iI tr)), (6, .int (iI k))] := hl
              refine lv_iload hx hb dX1_place_90 (lv_at hl 6 rfl) ?_
              refine ri_bipush hx hb dX1_place_92 (by decide +kernel) ?_
              refine ri_icmp_ge (tgt := 113) hx hb dX1_place_94 (by decide) (by omega) (by omega) (fun c94 => ?_) (fun c94 => ?_)
              · have hk9 : Wd k = 0 := by
                  obtain ⟨q, q0, q1, q2⟩ := hfree (by omega)
                  by_cases e : q < k
                  · exact absurd q2 (hno q q0 e)
                  · have : q = k := by omega
                    rw [← this]; exact q2
                exact jn113 (k) ls _ _ (show 0 ≤ k ∧ k < 20 ∧ Wd k = 0 ∧ ∀ j, 0 ≤ j → j < k → Wd j ≠ 0 from ⟨by omega, by omega, hk9, hno⟩) (lv_sub hl [0, 1, 2, 3, 4, 5, 6] rfl) hP hD hS
              · have hwk := hwb k (by omega) (by omega)
                refine lv_aload_n hx hb dX1_place_97 rfl (lv_at hl 0 rfl) ?_
                refine gx_Wd hx hb hts hown hK hP dX1_place_98 ?_
                refine lv_iload hx hb dX1_place_101 (lv_at hl 6 rfl) ?_
                refine ri_bald hx hb hK hP 3 0 rfl rfl (by omega) (by decide) dX1_place_103 ?_
                refine ri_if_eq (tgt := 113) hx hb dX1_place_104 (by decide) (by omega) (fun c104 => ?_) (fun c104 => ?_)
                · exact jn113 (k) ls _ _ (show 0 ≤ k ∧ k < 20 ∧ Wd k = 0 ∧ ∀ j, 0 ≤ j → j < k → Wd j ≠ 0 from ⟨by omega, by omega, c104, hno⟩) (lv_sub hl [0, 1, 2, 3, 4, 5, 6] rfl) hP hD hS
                · refine ri_iinc (k := 6) (lv' := [(6, .int (iI (k + 1))), (0, .ref (ad 0)), (1, .int (iI w)), (2, .int (iI h)), (3, .int (iI t)), (4, .int (iI a)), (5, .int (iI tr))]) hx hb dX1_place_107 hl rfl (by decide) rfl (fun ls hl => ?_)
                  refine lv_goto (tgt := 90) hx hb dX1_place_110 (by decide) ?_
                  exact ih90 (k + 1) ls _ _ (show 0 ≤ k + 1 ∧ k + 1 ≤ 19 ∧ ∀ j, 0 ≤ j → j < k + 1 → Wd j ≠ 0 from ⟨by omega, by omega, all_step hno c104⟩) (show (20 - (k + 1)).toNat < (20 - k).toNat by omega) (lv_sub hl [1, 2, 3, 4, 5, 6, 0] rfl) hP hD hS
        · refine ri_bipush hx hb dX1_place_84 (by decide +kernel) ?_
          exact ri_iretW (n, hc, cn, Lf, Bt, Wd, Hg, FB, HO, CA) hx hb hr hlocks (Or.inl ⟨rfl, rfl, rfl, rfl, rfl, rfl, rfl, rfl, Or.inr (Or.inr ⟨hsz, by omega, rfl, a, tr, hch, c81⟩)⟩) hK hP hD hS dX1_place_86
      · intro jn79
        refine lv_iload_n hx hb dX1_place_34 rfl (lv_at hl 5 rfl) ?_
        refine ri_if_eq (tgt := 79) hx hb dX1_place_35 (by decide) (by omega) (fun c35 => ?_) (fun c35 => ?_)
        · exact jn79 (a1, 0) ls _ _ (show ChS HO hc w h t a1 (0 : Int) ∧ ((0 : Int) = 0 ∨ (0 : Int) = 1) ∧ -3 ≤ a1 ∧ a1 < 8192 from ⟨⟨a1, ha1, Or.inl ⟨c35, rfl, rfl⟩⟩, Or.inl rfl, by omega, by omega⟩) (lv_sub hl [2, 3, 4, 5, 1, 0] rfl) hP hD hS
        · refine lv_aload_n hx hb dX1_place_38 rfl (lv_at hl 2 rfl) ?_
          refine lv_iload_n hx hb dX1_place_39 rfl (lv_at hl 4 rfl) ?_
          refine lv_iload_n hx hb dX1_place_40 rfl (lv_at hl 3 rfl) ?_
          refine ri_callR (rest := []) (ci := 0) (q0 := 0) (mx1_lowest l h w hh hw (by omega) hok) hx hb hml hown hts (cwV 2 hts (lw_V q102 q104 qs2 q31 q105) rfl rfl rfl (by decide +kernel) ⟨Nat.le_of_ble_eq_true rfl, Nat.le_of_ble_eq_true rfl⟩) hK hP rfl rfl rfl hl.1 rfl (Nat.le_of_ble_eq_true rfl) dX1_place_41 ⟨Nat.zero_le _, Nat.zero_le _⟩ (fun a2 ha2 => ?_)
          have hr2 := LowS_rng ha2 hok
          refine lv_istore (lv' := [(6, .int (iI a2)), (5, .int (iI 0)), (4, .int (iI a1)), (0, .ref (ad 0)), (1, .int (iI w)), (2, .int (iI h)), (3, .int (iI t))]) hx hb dX1_place_44 hl (by decide) rfl (fun ls hl => ?_)
          refine lv_iload hx hb dX1_place_46 (lv_at hl 0 rfl) ?_
          refine ri_if_lt (tgt := 67) hx hb dX1_place_48 (by decide) (by omega) (fun c48 => ?_) (fun c48 => ?_)
          · refine ri_iconst hx hb dX1_place_67 ?_
            refine lv_istore (lv' := [(5, .int (iI 0)), (6, .int (iI a2)), (4, .int (iI a1)), (0, .ref (ad 0)), (1, .int (iI w)), (2, .int (iI h)), (3, .int (iI t))]) hx hb dX1_place_68 hl (by decide) rfl (fun ls hl => ?_)
            refine lv_iload hx hb dX1_place_70 (lv_at hl 0 rfl) ?_
            refine ri_if_eq (tgt := 79) hx hb dX1_place_72 (by decide) (by omega) (fun c72 => ?_) (fun c72 => absurd c72 (by omega))
            exact jn79 (a1, 0) ls _ _ (show ChS HO hc w h t a1 (0 : Int) ∧ ((0 : Int) = 0 ∨ (0 : Int) = 1) ∧ -3 ≤ a1 ∧ a1 < 8192 from ⟨⟨a1, ha1, Or.inr ⟨c35, a2, ha2, Or.inr ⟨by omega, rfl, rfl⟩⟩⟩, Or.inl rfl, by omega, by omega⟩) (lv_sub hl [3, 4, 5, 6, 2, 0] rfl) hP hD hS
          · refine lv_iload hx hb dX1_place_51 (lv_at hl 2 rfl) ?_
            refine ri_if_lt (tgt := 63) hx hb dX1_place_53 (by decide) (by omega) (fun c53 => ?_) (fun c53 => ?_)
            · refine ri_iconst hx hb dX1_place_63 ?_
              refine lv_goto (tgt := 68) hx hb dX1_place_64 (by decide) ?_
              refine lv_istore (lv' := [(5, .int (iI 1)), (6, .int (iI a2)), (4, .int (iI a1)), (0, .ref (ad 0)), (1, .int (iI w)), (2, .int (iI h)), (3, .int (iI t))]) hx hb dX1_place_68 hl (by decide) rfl (fun ls hl => ?_)
              refine lv_iload hx hb dX1_place_70 (lv_at hl 0 rfl) ?_
              refine ri_if_eq (tgt := 79) hx hb dX1_place_72 (by decide) (by omega) (fun c72 => absurd c72 (by omega)) (fun c72 => ?_)
              refine lv_iload hx hb dX1_place_75 (lv_at hl 1 rfl) ?_
              refine lv_istore (lv' := [(4, .int (iI a2)), (5, .int (iI 1)), (6, .int (iI a2)), (0, .ref (ad 0)), (1, .int (iI w)), (2, .int (iI h)), (3, .int (iI t))]) hx hb dX1_place_77 hl (by decide) rfl (fun ls hl => ?_)
              exact jn79 (a2, 1) ls _ _ (show ChS HO hc w h t a2 (1 : Int) ∧ ((1 : Int) = 0 ∨ (1 : Int) = 1) ∧ -3 ≤ a2 ∧ a2 < 8192 from ⟨⟨a1, ha1, Or.inr ⟨c35, a2, ha2, Or.inl ⟨by omega, by omega, rfl, rfl⟩⟩⟩, Or.inr rfl, by omega, by omega⟩) (lv_sub hl [3, 4, 5, 6, 0, 1] rfl) hP hD hS
            · refine lv_iload hx hb dX1_place_56 (lv_at hl 0 rfl) ?_
              refine lv_iload hx hb dX1_place_58 (lv_at hl 2 rfl) ?_
              refine ri_icmp_ge (tgt := 67) hx hb dX1_place_60 (by decide) (by omega) (by omega) (fun c60 => ?_) (fun c60 => ?_)
              · refine ri_iconst hx hb dX1_place_67 ?_
                refine lv_istore (lv' := [(5, .int (iI 0)), (6, .int (iI a2)), (4, .int (iI a1)), (0, .ref (ad 0)), (1, .int (iI w)), (2, .int (iI h)), (3, .int (iI t))]) hx hb dX1_place_68 hl (by decide) rfl (fun ls hl => ?_)
                refine lv_iload hx hb dX1_place_70 (lv_at hl 0 rfl) ?_
                refine ri_if_eq (tgt := 79) hx hb dX1_place_72 (by decide) (by omega) (fun c72 => ?_) (fun c72 => absurd c72 (by omega))
                exact jn79 (a1, 0) ls _ _ (show ChS HO hc w h t a1 (0 : Int) ∧ ((0 : Int) = 0 ∨ (0 : Int) = 1) ∧ -3 ≤ a1 ∧ a1 < 8192 from ⟨⟨a1, ha1, Or.inr ⟨c35, a2, ha2, Or.inr ⟨by omega, rfl, rfl⟩⟩⟩, Or.inl rfl, by omega, by omega⟩) (lv_sub hl [3, 4, 5, 6, 2, 0] rfl) hP hD hS
              · refine ri_iconst hx hb dX1_place_63 ?_
                refine lv_goto (tgt := 68) hx hb dX1_place_64 (by decide) ?_
                refine lv_istore (lv' := [(5, .int (iI 1)), (6, .int (iI a2)), (4, .int (iI a1)), (0, .ref (ad 0)), (1, .int (iI w)), (2, .int (iI h)), (3, .int (iI t))]) hx hb dX1_place_68 hl (by decide) rfl (fun ls hl => ?_)
                refine lv_iload hx hb dX1_place_70 (lv_at hl 0 rfl) ?_
                refine ri_if_eq (tgt := 79) hx hb dX1_place_72 (by decide) (by omega) (fun c72 => absurd c72 (by omega)) (fun c72 => ?_)
                refine lv_iload hx hb dX1_place_75 (lv_at hl 1 rfl) ?_
                refine lv_istore (lv' := [(4, .int (iI a2)), (5, .int (iI 1)), (6, .int (iI a2)), (0, .ref (ad 0)), (1, .int (iI w)), (2, .int (iI h)), (3, .int (iI t))]) hx hb dX1_place_77 hl (by decide) rfl (fun ls hl => ?_)
                exact jn79 (a2, 1) ls _ _ (show ChS HO hc w h t a2 (1 : Int) ∧ ((1 : Int) = 0 ∨ (1 : Int) = 1) ∧ -3 ≤ a2 ∧ a2 < 8192 from ⟨⟨a1, ha1, Or.inr ⟨c35, a2, ha2, Or.inl ⟨by omega, by omega, rfl, rfl⟩⟩⟩, Or.inr rfl, by omega, by omega⟩) (lv_sub hl [3, 4, 5, 6, 0, 1] rfl) hP hD hS
    · refine ri_bipush hx hb dX1_place_20 (by decide +kernel) ?_
      exact ri_iretW (n, hc, cn, Lf, Bt, Wd, Hg, FB, HO, CA) hx hb hr hlocks (Or.inl ⟨rfl, rfl, rfl, rfl, rfl, rfl, rfl, rfl, Or.inr (Or.inl ⟨hsz, by omega, rfl⟩)⟩) hK hP hD hS dX1_place_22
  · refine ri_iconst hx hb dX1_place_9 ?_
    exact ri_iretW (n, hc, cn, Lf, Bt, Wd, Hg, FB, HO, CA) hx hb hr hlocks (Or.inl ⟨rfl, rfl, rfl, rfl, rfl, rfl, rfl, rfl, Or.inl ⟨rfl, by unfold sizeP; omega⟩⟩) hK hP hD hS dX1_place_10
end
section
/-! AtlasPacker: its constructor -/
def clampW (c : Int) : Int := if c < 4 then 4 else if 16 < c then 16 else c
theorem clampW_rng (c : Int) : 4 ≤ clampW c ∧ clampW c ≤ 16 := by unfold clampW; split <;> (try split) <;> omega
abbrev x0W (h0 : Nat) : va_W := [(h0, .inr (0, [.int (iI 0), .int (iI 0), .int (iI 0), .null, .null, .null, .null, .null, .int (iI 0), .null, .int (iI 0), .null, .null, .null]))]
abbrev XN (c r : Int) : (Nat → Nat) × ClassId × ClassId × (Int → Int) × (Int → Int) × (Int → Int) → va_W := fun (ad, dB, dN, W', F', B') => XW ad dB dN (clampW c) (clampW r) 0 1 0 (fun _ => 0) (fun _ => 0) W' (fun _ => 0) F' B' (fun _ => 0) (fun _ => 0) (fun _ => 0)
abbrev XNk (D : va_G) : (Nat → Nat) × ClassId × ClassId × (Int → Int) × (Int → Int) × (Int → Int) → State → Prop := fun (_, dB, dN, _, _, _) t => va_K D vwCl (tX dB dN) t
abbrev XNp (h0 : Nat) (c r : Int) : (Nat → Nat) × ClassId × ClassId × (Int → Int) × (Int → Int) × (Int → Int) → Prop := fun (ad, _, _, W', F', B') => ad 0 = h0 ∧ (∀ j, 0 ≤ j → j < 20 → W' j = 0) ∧ (∀ j, 0 ≤ j → j < clampW r → F' j = strip (clampW c) 0) ∧ (∀ j, clampW r ≤ j → F' j = 0) ∧ B' 0 = pk 0 0 (clampW c) (clampW r)
set_option maxHeartbeats 4000000 in
set_option maxRecDepth 100000 in
theorem mx1_init (l : Launch) {D : va_G} {h0 : Nat} (cc rr : Int) (hcc : -2147483648 ≤ cc ∧ cc < 2147483648) (hrr : -2147483648 ≤ rr ∧ rr < 2147483648) (sz : Nat) : Met l yX1_init (ws_ yX1_init cX1_init 3 none) ({ frames := 2, cells := 9, slots := 1410, locals := 46 } : Room) (va_Pc [.ref h0, .int (iI cc), .int (iI rr)] (PW D (x0W h0) [] sz)) (va_Qv (XNp h0 cc rr) (fun u t => va_P D vwCl (XN cc rr u) t.heap ∧ XNk D u t ∧ va_D (va_A (x0W h0) sz) (XN cc rr u)) (va_A (x0W h0) sz)) 9 1410 (va_A (x0W h0) sz) := by
  refine ri_met RX1 rfl (by decide) (Nat.le_of_ble_eq_true rfl) ?_
  intro p e s m below meth c hx hb hr hts hown hlocks hml hnm hv ls hl
  obtain ⟨hsz, hP, hK, hD0⟩ := hv
  subst hsz
  have hD := hD0.self (sz := s.heap.size)
  generalize hAe : va_A (x0W h0) s.heap.size = A at hD ⊢
  have hA : ∀ q : Nat, s.heap.size ≤ q → A q := fun q h => by rw [← hAe]; exact Or.inr h
  have hS : va_S A s.heap s.heap [] := va_S.rf
  replace hP : va_P D vwCl [(h0, .inr (0, [.int (iI 0), .int (iI 0), .int (iI 0), .null, .null, .null, .null, .null, .int (iI 0), .null, .int (iI 0), .null, .null, .null]))] s.heap := hP
  replace hD : va_D A [(h0, .inr (0, [.int (iI 0), .int (iI 0), .int (iI 0), .null, .null, .null, .null, .null, .int (iI 0), .null, .int (iI 0), .null, .null, .null]))] := hD
  replace hl : lv_has ls 3 [(0, .ref h0), (1, .int (iI cc)), (2, .int (iI rr))] := hl
  have hin2 : meth.name = "<init>" := hnm
  refine lv_aload_n hx hb dX1_init_0 rfl (lv_at hl 0 rfl) ?_
  refine W.objInit hx hb hown (hts _ q38) (hts _ q39) (hts _ q40) rfl (by rw [hml]; exact hl.1) rfl dX1_init_1 (Nat.le_of_ble_eq_true rfl) (Nat.le_of_ble_eq_true rfl) ?_
  refine W.eq (g2 := F0 m 4 ls []) rfl ?_
  refine lv_aload_n hx hb dX1_init_4 rfl (lv_at hl 0 rfl) ?_
  refine ri_bipush hx hb dX1_init_5 (by decide +kernel) ?_
  refine va_newa (atype := .byte) (ty := .byte) (a0 := (20, .inl (aI (fun _ => 0)))) hx hb (hts _ q92) rfl hK hP hD hS hA (fun _ => rfl) (by decide +kernel) (by decide +kernel) (by decide +kernel) (Nat.le_of_ble_eq_true rfl) (Nat.le_of_ble_eq_true rfl) dX1_init_7 (fun q1 dB H hK hP hD hS => ?_)
  replace hP : va_P D vwCl [(h0, .inr (0, [.int (iI 0), .int (iI 0), .int (iI 0), .null, .null, .null, .null, .null, .int (iI 0), .null, .int (iI 0), .null, .null, .null])), (q1, .inl (dB, 20, .inl (aI (fun _ => 0))))] H := hP
  replace hD : va_D A [(h0, .inr (0, [.int (iI 0), .int (iI 0), .int (iI 0), .null, .null, .null, .null, .null, .int (iI 0), .null, .int (iI 0), .null, .null, .null])), (q1, .inl (dB, 20, .inl (aI (fun _ => 0))))] := hD
  refine va_putF (D := D) (ci := 0) (v := .ref q1) (ty := .array .byte) (C := RX1) (T := TX1) (N := 14) hx hb hts in_X1 tyX1 tyX1_ok nmX1 hown hK hP hD hS 0 rfl rfl 3 (by decide) (hts _ q52) (fun _ h9 => h9) rfl hin2 rfl (by decide +kernel) rfl rfl (Nat.le_of_ble_eq_true rfl) dX1_init_9 (fun H locs hP hD hS => ?_)
  replace hP : va_P D vwCl [(h0, .inr (0, [.int (iI 0), .int (iI 0), .int (iI 0), .ref q1, .null, .null, .null, .null, .int (iI 0), .null, .int (iI 0), .null, .null, .null])), (q1, .inl (dB, 20, .inl (aI (fun _ => 0))))] H := hP
  replace hD : va_D A [(h0, .inr (0, [.int (iI 0), .int (iI 0), .int (iI 0), .ref q1, .null, .null, .null, .null, .int (iI 0), .null, .int (iI 0), .null, .null, .null])), (q1, .inl (dB, 20, .inl (aI (fun _ => 0))))] := hD
  refine lv_aload_n hx hb dX1_init_12 rfl (lv_at hl 0 rfl) ?_
  refine ri_bipush hx hb dX1_init_13 (by decide +kernel) ?_
  refine va_newa (atype := .byte) (ty := .byte) (a0 := (20, .inl (aI (fun _ => 0)))) hx hb (hts _ q92) rfl hK hP hD hS hA (fun _ => rfl) (by decide +kernel) (by decide +kernel) (by decide +kernel) (Nat.le_of_ble_eq_true rfl) (Nat.le_of_ble_eq_true rfl) dX1_init_15 (fun q2 cq H hK hP hD hS => ?_)
  have ec : dB = cq := Option.some.inj ((va_nm_byte (hK.2 0 _ rfl).2).symm.trans (va_nm_byte (hK.2 1 _ rfl).2))
  subst ec
  replace hK : va_K D vwCl [(dB, .byte)] s := hK.sub [0] rfl
  replace hP : va_P D vwCl [(h0, .inr (0, [.int (iI 0), .int (iI 0), .int (iI 0), .ref q1, .null, .null, .null, .null, .int (iI 0), .null, .int (iI 0), .null, .null, .null])), (q1, .inl (dB, 20, .inl (aI (fun _ => 0)))), (q2, .inl (dB, 20, .inl (aI (fun _ => 0))))] H := hP
  replace hD : va_D A [(h0, .inr (0, [.int (iI 0), .int (iI 0), .int (iI 0), .ref q1, .null, .null, .null, .null, .int (iI 0), .null, .int (iI 0), .null, .null, .null])), (q1, .inl (dB, 20, .inl (aI (fun _ => 0)))), (q2, .inl (dB, 20, .inl (aI (fun _ => 0))))] := hD
  refine va_putF (D := D) (ci := 0) (v := .ref q2) (ty := .array .byte) (C := RX1) (T := TX1) (N := 14) hx hb hts in_X1 tyX1 tyX1_ok nmX1 hown hK hP hD hS 0 rfl rfl 4 (by decide) (hts _ q53) (fun _ h9 => h9) rfl hin2 rfl (by decide +kernel) rfl rfl (Nat.le_of_ble_eq_true rfl) dX1_init_17 (fun H locs hP hD hS => ?_)
  replace hP : va_P D vwCl [(h0, .inr (0, [.int (iI 0), .int (iI 0), .int (iI 0), .ref q1, .ref q2, .null, .null, .null, .int (iI 0), .null, .int (iI 0), .null, .null, .null])), (q1, .inl (dB, 20, .inl (aI (fun _ => 0)))), (q2, .inl (dB, 20, .inl (aI (fun _ => 0))))] H := hP
  replace hD : va_D A [(h0, .inr (0, [.int (iI 0), .int (iI 0), .int (iI 0), .ref q1, .ref q2, .null, .null, .null, .int (iI 0), .null, .int (iI 0), .null, .null, .null])), (q1, .inl (dB, 20, .inl (aI (fun _ => 0)))), (q2, .inl (dB, 20, .inl (aI (fun _ => 0))))] := hD
  refine lv_aload_n hx hb dX1_init_20 rfl (lv_at hl 0 rfl) ?_
  refine ri_bipush hx hb dX1_init_21 (by decide +kernel) ?_
  refine va_newa (atype := .byte) (ty := .byte) (a0 := (20, .inl (aI (fun _ => 0)))) hx hb (hts _ q92) rfl hK hP hD hS hA (fun _ => rfl) (by decide +kernel) (by decide +kernel) (by decide +kernel) (Nat.le_of_ble_eq_true rfl) (Nat.le_of_ble_eq_true rfl) dX1_init_23 (fun q3 cq H hK hP hD hS => ?_)
  have ec : dB = cq := Option.some.inj ((va_nm_byte (hK.2 0 _ rfl).2).symm.trans (va_nm_byte (hK.2 1 _ rfl).2))
  subst ec
  replace hK : va_K D vwCl [(dB, .byte)] s := hK.sub [0] rfl
  replace hP : va_P D vwCl [(h0, .inr (0, [.int (iI 0), .int (iI 0), .int (iI 0), .ref q1, .ref q2, .null, .null, .null, .int (iI 0), .null, .int (iI 0), .null, .null, .null])), (q1, .inl (dB, 20, .inl (aI (fun _ => 0)))), (q2, .inl (dB, 20, .inl (aI (fun _ => 0)))), (q3, .inl (dB, 20, .inl (aI (fun _ => 0))))] H := hP
  replace hD : va_D A [(h0, .inr (0, [.int (iI 0), .int (iI 0), .int (iI 0), .ref q1, .ref q2, .null, .null, .null, .int (iI 0), .null, .int (iI 0), .null, .null, .null])), (q1, .inl (dB, 20, .inl (aI (fun _ => 0)))), (q2, .inl (dB, 20, .inl (aI (fun _ => 0)))), (q3, .inl (dB, 20, .inl (aI (fun _ => 0))))] := hD
  refine va_putF (D := D) (ci := 0) (v := .ref q3) (ty := .array .byte) (C := RX1) (T := TX1) (N := 14) hx hb hts in_X1 tyX1 tyX1_ok nmX1 hown hK hP hD hS 0 rfl rfl 5 (by decide) (hts _ q54) (fun _ h9 => h9) rfl hin2 rfl (by decide +kernel) rfl rfl (Nat.le_of_ble_eq_true rfl) dX1_init_25 (fun H locs hP hD hS => ?_)
  replace hP : va_P D vwCl [(h0, .inr (0, [.int (iI 0), .int (iI 0), .int (iI 0), .ref q1, .ref q2, .ref q3, .null, .null, .int (iI 0), .null, .int (iI 0), .null, .null, .null])), (q1, .inl (dB, 20, .inl (aI (fun _ => 0)))), (q2, .inl (dB, 20, .inl (aI (fun _ => 0)))), (q3, .inl (dB, 20, .inl (aI (fun _ => 0))))] H := hP
  replace hD : va_D A [(h0, .inr (0, [.int (iI 0), .int (iI 0), .int (iI 0), .ref q1, .ref q2, .ref q3, .null, .null, .int (iI 0), .null, .int (iI 0), .null, .null, .null])), (q1, .inl (dB, 20, .inl (aI (fun _ => 0)))), (q2, .inl (dB, 20, .inl (aI (fun _ => 0)))), (q3, .inl (dB, 20, .inl (aI (fun _ => 0))))] := hD
  refine lv_aload_n hx hb dX1_init_28 rfl (lv_at hl 0 rfl) ?_
  refine ri_bipush hx hb dX1_init_29 (by decide +kernel) ?_
  refine va_newa (atype := .byte) (ty := .byte) (a0 := (20, .inl (aI (fun _ => 0)))) hx hb (hts _ q92) rfl hK hP hD hS hA (fun _ => rfl) (by decide +kernel) (by decide +kernel) (by decide +kernel) (Nat.le_of_ble_eq_true rfl) (Nat.le_of_ble_eq_true rfl) dX1_init_31 (fun q4 cq H hK hP hD hS => ?_)
  have ec : dB = cq := Option.some.inj ((va_nm_byte (hK.2 0 _ rfl).2).symm.trans (va_nm_byte (hK.2 1 _ rfl).2))
  subst ec
  replace hK : va_K D vwCl [(dB, .byte)] s := hK.sub [0] rfl
  replace hP : va_P D vwCl [(h0, .inr (0, [.int (iI 0), .int (iI 0), .int (iI 0), .ref q1, .ref q2, .ref q3, .null, .null, .int (iI 0), .null, .int (iI 0), .null, .null, .null])), (q1, .inl (dB, 20, .inl (aI (fun _ => 0)))), (q2, .inl (dB, 20, .inl (aI (fun _ => 0)))), (q3, .inl (dB, 20, .inl (aI (fun _ => 0)))), (q4, .inl (dB, 20, .inl (aI (fun _ => 0))))] H := hP
  replace hD : va_D A [(h0, .inr (0, [.int (iI 0), .int (iI 0), .int (iI 0), .ref q1, .ref q2, .ref q3, .null, .null, .int (iI 0), .null, .int (iI 0), .null, .null, .null])), (q1, .inl (dB, 20, .inl (aI (fun _ => 0)))), (q2, .inl (dB, 20, .inl (aI (fun _ => 0)))), (q3, .inl (dB, 20, .inl (aI (fun _ => 0)))), (q4, .inl (dB, 20, .inl (aI (fun _ => 0))))] := hD
  refine va_putF (D := D) (ci := 0) (v := .ref q4) (ty := .array .byte) (C := RX1) (T := TX1) (N := 14) hx hb hts in_X1 tyX1 tyX1_ok nmX1 hown hK hP hD hS 0 rfl rfl 6 (by decide) (hts _ q55) (fun _ h9 => h9) rfl hin2 rfl (by decide +kernel) rfl rfl (Nat.le_of_ble_eq_true rfl) dX1_init_33 (fun H locs hP hD hS => ?_)
  replace hP : va_P D vwCl [(h0, .inr (0, [.int (iI 0), .int (iI 0), .int (iI 0), .ref q1, .ref q2, .ref q3, .ref q4, .null, .int (iI 0), .null, .int (iI 0), .null, .null, .null])), (q1, .inl (dB, 20, .inl (aI (fun _ => 0)))), (q2, .inl (dB, 20, .inl (aI (fun _ => 0)))), (q3, .inl (dB, 20, .inl (aI (fun _ => 0)))), (q4, .inl (dB, 20, .inl (aI (fun _ => 0))))] H := hP
  replace hD : va_D A [(h0, .inr (0, [.int (iI 0), .int (iI 0), .int (iI 0), .ref q1, .ref q2, .ref q3, .ref q4, .null, .int (iI 0), .null, .int (iI 0), .null, .null, .null])), (q1, .inl (dB, 20, .inl (aI (fun _ => 0)))), (q2, .inl (dB, 20, .inl (aI (fun _ => 0)))), (q3, .inl (dB, 20, .inl (aI (fun _ => 0)))), (q4, .inl (dB, 20, .inl (aI (fun _ => 0))))] := hD
  refine lv_aload_n hx hb dX1_init_36 rfl (lv_at hl 0 rfl) ?_
  refine ri_bipush hx hb dX1_init_37 (by decide +kernel) ?_
  refine va_newa (atype := .int) (ty := .int) (a0 := (16, .inl (aI (fun _ => 0)))) hx hb (hts _ q93) rfl hK hP hD hS hA (fun _ => rfl) (by decide +kernel) (by decide +kernel) (by decide +kernel) (Nat.le_of_ble_eq_true rfl) (Nat.le_of_ble_eq_true rfl) dX1_init_39 (fun q5 dN H hK hP hD hS => ?_)
  replace hP : va_P D vwCl [(h0, .inr (0, [.int (iI 0), .int (iI 0), .int (iI 0), .ref q1, .ref q2, .ref q3, .ref q4, .null, .int (iI 0), .null, .int (iI 0), .null, .null, .null])), (q1, .inl (dB, 20, .inl (aI (fun _ => 0)))), (q2, .inl (dB, 20, .inl (aI (fun _ => 0)))), (q3, .inl (dB, 20, .inl (aI (fun _ => 0)))), (q4, .inl (dB, 20, .inl (aI (fun _ => 0)))), (q5, .inl (dN, 16, .inl (aI (fun _ => 0))))] H := hP
  replace hD : va_D A [(h0, .inr (0, [.int (iI 0), .int (iI 0), .int (iI 0), .ref q1, .ref q2, .ref q3, .ref q4, .null, .int (iI 0), .null, .int (iI 0), .null, .null, .null])), (q1, .inl (dB, 20, .inl (aI (fun _ => 0)))), (q2, .inl (dB, 20, .inl (aI (fun _ => 0)))), (q3, .inl (dB, 20, .inl (aI (fun _ => 0)))), (q4, .inl (dB, 20, .inl (aI (fun _ => 0)))), (q5, .inl (dN, 16, .inl (aI (fun _ => 0))))] := hD
  refine va_putF (D := D) (ci := 0) (v := .ref q5) (ty := .array .int) (C := RX1) (T := TX1) (N := 14) hx hb hts in_X1 tyX1 tyX1_ok nmX1 hown hK hP hD hS 0 rfl rfl 7 (by decide) (hts _ q56) (fun _ h9 => h9) rfl hin2 rfl (by decide +kernel) rfl rfl (Nat.le_of_ble_eq_true rfl) dX1_init_41 (fun H locs hP hD hS => ?_)
  replace hP : va_P D vwCl [(h0, .inr (0, [.int (iI 0), .int (iI 0), .int (iI 0), .ref q1, .ref q2, .ref q3, .ref q4, .ref q5, .int (iI 0), .null, .int (iI 0), .null, .null, .null])), (q1, .inl (dB, 20, .inl (aI (fun _ => 0)))), (q2, .inl (dB, 20, .inl (aI (fun _ => 0)))), (q3, .inl (dB, 20, .inl (aI (fun _ => 0)))), (q4, .inl (dB, 20, .inl (aI (fun _ => 0)))), (q5, .inl (dN, 16, .inl (aI (fun _ => 0))))] H := hP
  replace hD : va_D A [(h0, .inr (0, [.int (iI 0), .int (iI 0), .int (iI 0), .ref q1, .ref q2, .ref q3, .ref q4, .ref q5, .int (iI 0), .null, .int (iI 0), .null, .null, .null])), (q1, .inl (dB, 20, .inl (aI (fun _ => 0)))), (q2, .inl (dB, 20, .inl (aI (fun _ => 0)))), (q3, .inl (dB, 20, .inl (aI (fun _ => 0)))), (q4, .inl (dB, 20, .inl (aI (fun _ => 0)))), (q5, .inl (dN, 16, .inl (aI (fun _ => 0))))] := hD
  refine lv_aload_n hx hb dX1_init_44 rfl (lv_at hl 0 rfl) ?_
  refine ri_sipush hx hb dX1_init_45 (by decide +kernel) ?_
  refine va_newa (atype := .int) (ty := .int) (a0 := (256, .inl (aI (fun _ => 0)))) hx hb (hts _ q93) rfl hK hP hD hS hA (fun _ => rfl) (by decide +kernel) (by decide +kernel) (by decide +kernel) (Nat.le_of_ble_eq_true rfl) (Nat.le_of_ble_eq_true rfl) dX1_init_48 (fun q6 cq H hK hP hD hS => ?_)
  have ec : dN = cq := Option.some.inj ((va_nm_int (hK.2 1 _ rfl).2).symm.trans (va_nm_int (hK.2 2 _ rfl).2))
  subst ec
  replace hK : va_K D vwCl [(dB, .byte), (dN, .int)] s := hK.sub [0, 1] rfl
  replace hP : va_P D vwCl [(h0, .inr (0, [.int (iI 0), .int (iI 0), .int (iI 0), .ref q1, .ref q2, .ref q3, .ref q4, .ref q5, .int (iI 0), .null, .int (iI 0), .null, .null, .null])), (q1, .inl (dB, 20, .inl (aI (fun _ => 0)))), (q2, .inl (dB, 20, .inl (aI (fun _ => 0)))), (q3, .inl (dB, 20, .inl (aI (fun _ => 0)))), (q4, .inl (dB, 20, .inl (aI (fun _ => 0)))), (q5, .inl (dN, 16, .inl (aI (fun _ => 0)))), (q6, .inl (dN, 256, .inl (aI (fun _ => 0))))] H := hP
  replace hD : va_D A [(h0, .inr (0, [.int (iI 0), .int (iI 0), .int (iI 0), .ref q1, .ref q2, .ref q3, .ref q4, .ref q5, .int (iI 0), .null, .int (iI 0), .null, .null, .null])), (q1, .inl (dB, 20, .inl (aI (fun _ => 0)))), (q2, .inl (dB, 20, .inl (aI (fun _ => 0)))), (q3, .inl (dB, 20, .inl (aI (fun _ => 0)))), (q4, .inl (dB, 20, .inl (aI (fun _ => 0)))), (q5, .inl (dN, 16, .inl (aI (fun _ => 0)))), (q6, .inl (dN, 256, .inl (aI (fun _ => 0))))] := hD
  refine va_putF (D := D) (ci := 0) (v := .ref q6) (ty := .array .int) (C := RX1) (T := TX1) (N := 14) hx hb hts in_X1 tyX1 tyX1_ok nmX1 hown hK hP hD hS 0 rfl rfl 9 (by decide) (hts _ q58) (fun _ h9 => h9) rfl hin2 rfl (by decide +kernel) rfl rfl (Nat.le_of_ble_eq_true rfl) dX1_init_50 (fun H locs hP hD hS => ?_)
  replace hP : va_P D vwCl [(h0, .inr (0, [.int (iI 0), .int (iI 0), .int (iI 0), .ref q1, .ref q2, .ref q3, .ref q4, .ref q5, .int (iI 0), .ref q6, .int (iI 0), .null, .null, .null])), (q1, .inl (dB, 20, .inl (aI (fun _ => 0)))), (q2, .inl (dB, 20, .inl (aI (fun _ => 0)))), (q3, .inl (dB, 20, .inl (aI (fun _ => 0)))), (q4, .inl (dB, 20, .inl (aI (fun _ => 0)))), (q5, .inl (dN, 16, .inl (aI (fun _ => 0)))), (q6, .inl (dN, 256, .inl (aI (fun _ => 0))))] H := hP
  replace hD : va_D A [(h0, .inr (0, [.int (iI 0), .int (iI 0), .int (iI 0), .ref q1, .ref q2, .ref q3, .ref q4, .ref q5, .int (iI 0), .ref q6, .int (iI 0), .null, .null, .null])), (q1, .inl (dB, 20, .inl (aI (fun _ => 0)))), (q2, .inl (dB, 20, .inl (aI (fun _ => 0)))), (q3, .inl (dB, 20, .inl (aI (fun _ => 0)))), (q4, .inl (dB, 20, .inl (aI (fun _ => 0)))), (q5, .inl (dN, 16, .inl (aI (fun _ => 0)))), (q6, .inl (dN, 256, .inl (aI (fun _ => 0))))] := hD
  refine lv_aload_n hx hb dX1_init_53 rfl (lv_at hl 0 rfl) ?_
  refine ri_sipush hx hb dX1_init_54 (by decide +kernel) ?_
  refine va_newa (atype := .int) (ty := .int) (a0 := (1024, .inl (aI (fun _ => 0)))) hx hb (hts _ q93) rfl hK hP hD hS hA (fun _ => rfl) (by decide +kernel) (by decide +kernel) (by decide +kernel) (Nat.le_of_ble_eq_true rfl) (Nat.le_of_ble_eq_true rfl) dX1_init_57 (fun q7 cq H hK hP hD hS => ?_)
  have ec : dN = cq := Option.some.inj ((va_nm_int (hK.2 1 _ rfl).2).symm.trans (va_nm_int (hK.2 2 _ rfl).2))
  subst ec
  replace hK : va_K D vwCl [(dB, .byte), (dN, .int)] s := hK.sub [0, 1] rfl
  replace hP : va_P D vwCl [(h0, .inr (0, [.int (iI 0), .int (iI 0), .int (iI 0), .ref q1, .ref q2, .ref q3, .ref q4, .ref q5, .int (iI 0), .ref q6, .int (iI 0), .null, .null, .null])), (q1, .inl (dB, 20, .inl (aI (fun _ => 0)))), (q2, .inl (dB, 20, .inl (aI (fun _ => 0)))), (q3, .inl (dB, 20, .inl (aI (fun _ => 0)))), (q4, .inl (dB, 20, .inl (aI (fun _ => 0)))), (q5, .inl (dN, 16, .inl (aI (fun _ => 0)))), (q6, .inl (dN, 256, .inl (aI (fun _ => 0)))), (q7, .inl (dN, 1024, .inl (aI (fun _ => 0))))] H := hP
  replace hD : va_D A [(h0, .inr (0, [.int (iI 0), .int (iI 0), .int (iI 0), .ref q1, .ref q2, .ref q3, .ref q4, .ref q5, .int (iI 0), .ref q6, .int (iI 0), .null, .null, .null])), (q1, .inl (dB, 20, .inl (aI (fun _ => 0)))), (q2, .inl (dB, 20, .inl (aI (fun _ => 0)))), (q3, .inl (dB, 20, .inl (aI (fun _ => 0)))), (q4, .inl (dB, 20, .inl (aI (fun _ => 0)))), (q5, .inl (dN, 16, .inl (aI (fun _ => 0)))), (q6, .inl (dN, 256, .inl (aI (fun _ => 0)))), (q7, .inl (dN, 1024, .inl (aI (fun _ => 0))))] := hD
  refine va_putF (D := D) (ci := 0) (v := .ref q7) (ty := .array .int) (C := RX1) (T := TX1) (N := 14) hx hb hts in_X1 tyX1 tyX1_ok nmX1 hown hK hP hD hS 0 rfl rfl 11 (by decide) (hts _ q60) (fun _ h9 => h9) rfl hin2 rfl (by decide +kernel) rfl rfl (Nat.le_of_ble_eq_true rfl) dX1_init_59 (fun H locs hP hD hS => ?_)
  replace hP : va_P D vwCl [(h0, .inr (0, [.int (iI 0), .int (iI 0), .int (iI 0), .ref q1, .ref q2, .ref q3, .ref q4, .ref q5, .int (iI 0), .ref q6, .int (iI 0), .ref q7, .null, .null])), (q1, .inl (dB, 20, .inl (aI (fun _ => 0)))), (q2, .inl (dB, 20, .inl (aI (fun _ => 0)))), (q3, .inl (dB, 20, .inl (aI (fun _ => 0)))), (q4, .inl (dB, 20, .inl (aI (fun _ => 0)))), (q5, .inl (dN, 16, .inl (aI (fun _ => 0)))), (q6, .inl (dN, 256, .inl (aI (fun _ => 0)))), (q7, .inl (dN, 1024, .inl (aI (fun _ => 0))))] H := hP
  replace hD : va_D A [(h0, .inr (0, [.int (iI 0), .int (iI 0), .int (iI 0), .ref q1, .ref q2, .ref q3, .ref q4, .ref q5, .int (iI 0), .ref q6, .int (iI 0), .ref q7, .null, .null])), (q1, .inl (dB, 20, .inl (aI (fun _ => 0)))), (q2, .inl (dB, 20, .inl (aI (fun _ => 0)))), (q3, .inl (dB, 20, .inl (aI (fun _ => 0)))), (q4, .inl (dB, 20, .inl (aI (fun _ => 0)))), (q5, .inl (dN, 16, .inl (aI (fun _ => 0)))), (q6, .inl (dN, 256, .inl (aI (fun _ => 0)))), (q7, .inl (dN, 1024, .inl (aI (fun _ => 0))))] := hD
  refine lv_aload_n hx hb dX1_init_62 rfl (lv_at hl 0 rfl) ?_
  refine ri_bipush hx hb dX1_init_63 (by decide +kernel) ?_
  refine va_newa (atype := .byte) (ty := .byte) (a0 := (17, .inl (aI (fun _ => 0)))) hx hb (hts _ q92) rfl hK hP hD hS hA (fun _ => rfl) (by decide +kernel) (by decide +kernel) (by decide +kernel) (Nat.le_of_ble_eq_true rfl) (Nat.le_of_ble_eq_true rfl) dX1_init_65 (fun q8 cq H hK hP hD hS => ?_)
  have ec : dB = cq := Option.some.inj ((va_nm_byte (hK.2 0 _ rfl).2).symm.trans (va_nm_byte (hK.2 2 _ rfl).2))
  subst ec
  replace hK : va_K D vwCl [(dB, .byte), (dN, .int)] s := hK.sub [0, 1] rfl
  replace hP : va_P D vwCl [(h0, .inr (0, [.int (iI 0), .int (iI 0), .int (iI 0), .ref q1, .ref q2, .ref q3, .ref q4, .ref q5, .int (iI 0), .ref q6, .int (iI 0), .ref q7, .null, .null])), (q1, .inl (dB, 20, .inl (aI (fun _ => 0)))), (q2, .inl (dB, 20, .inl (aI (fun _ => 0)))), (q3, .inl (dB, 20, .inl (aI (fun _ => 0)))), (q4, .inl (dB, 20, .inl (aI (fun _ => 0)))), (q5, .inl (dN, 16, .inl (aI (fun _ => 0)))), (q6, .inl (dN, 256, .inl (aI (fun _ => 0)))), (q7, .inl (dN, 1024, .inl (aI (fun _ => 0)))), (q8, .inl (dB, 17, .inl (aI (fun _ => 0))))] H := hP
  replace hD : va_D A [(h0, .inr (0, [.int (iI 0), .int (iI 0), .int (iI 0), .ref q1, .ref q2, .ref q3, .ref q4, .ref q5, .int (iI 0), .ref q6, .int (iI 0), .ref q7, .null, .null])), (q1, .inl (dB, 20, .inl (aI (fun _ => 0)))), (q2, .inl (dB, 20, .inl (aI (fun _ => 0)))), (q3, .inl (dB, 20, .inl (aI (fun _ => 0)))), (q4, .inl (dB, 20, .inl (aI (fun _ => 0)))), (q5, .inl (dN, 16, .inl (aI (fun _ => 0)))), (q6, .inl (dN, 256, .inl (aI (fun _ => 0)))), (q7, .inl (dN, 1024, .inl (aI (fun _ => 0)))), (q8, .inl (dB, 17, .inl (aI (fun _ => 0))))] := hD
  refine va_putF (D := D) (ci := 0) (v := .ref q8) (ty := .array .byte) (C := RX1) (T := TX1) (N := 14) hx hb hts in_X1 tyX1 tyX1_ok nmX1 hown hK hP hD hS 0 rfl rfl 12 (by decide) (hts _ q61) (fun _ h9 => h9) rfl hin2 rfl (by decide +kernel) rfl rfl (Nat.le_of_ble_eq_true rfl) dX1_init_67 (fun H locs hP hD hS => ?_)
  replace hP : va_P D vwCl [(h0, .inr (0, [.int (iI 0), .int (iI 0), .int (iI 0), .ref q1, .ref q2, .ref q3, .ref q4, .ref q5, .int (iI 0), .ref q6, .int (iI 0), .ref q7, .ref q8, .null])), (q1, .inl (dB, 20, .inl (aI (fun _ => 0)))), (q2, .inl (dB, 20, .inl (aI (fun _ => 0)))), (q3, .inl (dB, 20, .inl (aI (fun _ => 0)))), (q4, .inl (dB, 20, .inl (aI (fun _ => 0)))), (q5, .inl (dN, 16, .inl (aI (fun _ => 0)))), (q6, .inl (dN, 256, .inl (aI (fun _ => 0)))), (q7, .inl (dN, 1024, .inl (aI (fun _ => 0)))), (q8, .inl (dB, 17, .inl (aI (fun _ => 0))))] H := hP
  replace hD : va_D A [(h0, .inr (0, [.int (iI 0), .int (iI 0), .int (iI 0), .ref q1, .ref q2, .ref q3, .ref q4, .ref q5, .int (iI 0), .ref q6, .int (iI 0), .ref q7, .ref q8, .null])), (q1, .inl (dB, 20, .inl (aI (fun _ => 0)))), (q2, .inl (dB, 20, .inl (aI (fun _ => 0)))), (q3, .inl (dB, 20, .inl (aI (fun _ => 0)))), (q4, .inl (dB, 20, .inl (aI (fun _ => 0)))), (q5, .inl (dN, 16, .inl (aI (fun _ => 0)))), (q6, .inl (dN, 256, .inl (aI (fun _ => 0)))), (q7, .inl (dN, 1024, .inl (aI (fun _ => 0)))), (q8, .inl (dB, 17, .inl (aI (fun _ => 0))))] := hD
  refine lv_aload_n hx hb dX1_init_70 rfl (lv_at hl 0 rfl) ?_
  refine ri_bipush hx hb dX1_init_71 (by decide +kernel) ?_
  refine va_newa (atype := .byte) (ty := .byte) (a0 := (17, .inl (aI (fun _ => 0)))) hx hb (hts _ q92) rfl hK hP hD hS hA (fun _ => rfl) (by decide +kernel) (by decide +kernel) (by decide +kernel) (Nat.le_of_ble_eq_true rfl) (Nat.le_of_ble_eq_true rfl) dX1_init_73 (fun q9 cq H hK hP hD hS => ?_)
  have ec : dB = cq := Option.some.inj ((va_nm_byte (hK.2 0 _ rfl).2).symm.trans (va_nm_byte (hK.2 2 _ rfl).2))
  subst ec
  replace hK : va_K D vwCl [(dB, .byte), (dN, .int)] s := hK.sub [0, 1] rfl
  replace hP : va_P D vwCl [(h0, .inr (0, [.int (iI 0), .int (iI 0), .int (iI 0), .ref q1, .ref q2, .ref q3, .ref q4, .ref q5, .int (iI 0), .ref q6, .int (iI 0), .ref q7, .ref q8, .null])), (q1, .inl (dB, 20, .inl (aI (fun _ => 0)))), (q2, .inl (dB, 20, .inl (aI (fun _ => 0)))), (q3, .inl (dB, 20, .inl (aI (fun _ => 0)))), (q4, .inl (dB, 20, .inl (aI (fun _ => 0)))), (q5, .inl (dN, 16, .inl (aI (fun _ => 0)))), (q6, .inl (dN, 256, .inl (aI (fun _ => 0)))), (q7, .inl (dN, 1024, .inl (aI (fun _ => 0)))), (q8, .inl (dB, 17, .inl (aI (fun _ => 0)))), (q9, .inl (dB, 17, .inl (aI (fun _ => 0))))] H := hP
  replace hD : va_D A [(h0, .inr (0, [.int (iI 0), .int (iI 0), .int (iI 0), .ref q1, .ref q2, .ref q3, .ref q4, .ref q5, .int (iI 0), .ref q6, .int (iI 0), .ref q7, .ref q8, .null])), (q1, .inl (dB, 20, .inl (aI (fun _ => 0)))), (q2, .inl (dB, 20, .inl (aI (fun _ => 0)))), (q3, .inl (dB, 20, .inl (aI (fun _ => 0)))), (q4, .inl (dB, 20, .inl (aI (fun _ => 0)))), (q5, .inl (dN, 16, .inl (aI (fun _ => 0)))), (q6, .inl (dN, 256, .inl (aI (fun _ => 0)))), (q7, .inl (dN, 1024, .inl (aI (fun _ => 0)))), (q8, .inl (dB, 17, .inl (aI (fun _ => 0)))), (q9, .inl (dB, 17, .inl (aI (fun _ => 0))))] := hD
  refine va_putF (D := D) (ci := 0) (v := .ref q9) (ty := .array .byte) (C := RX1) (T := TX1) (N := 14) hx hb hts in_X1 tyX1 tyX1_ok nmX1 hown hK hP hD hS 0 rfl rfl 13 (by decide) (hts _ q62) (fun _ h9 => h9) rfl hin2 rfl (by decide +kernel) rfl rfl (Nat.le_of_ble_eq_true rfl) dX1_init_75 (fun H locs hP hD hS => ?_)
  replace hP : va_P D vwCl [(h0, .inr (0, [.int (iI 0), .int (iI 0), .int (iI 0), .ref q1, .ref q2, .ref q3, .ref q4, .ref q5, .int (iI 0), .ref q6, .int (iI 0), .ref q7, .ref q8, .ref q9])), (q1, .inl (dB, 20, .inl (aI (fun _ => 0)))), (q2, .inl (dB, 20, .inl (aI (fun _ => 0)))), (q3, .inl (dB, 20, .inl (aI (fun _ => 0)))), (q4, .inl (dB, 20, .inl (aI (fun _ => 0)))), (q5, .inl (dN, 16, .inl (aI (fun _ => 0)))), (q6, .inl (dN, 256, .inl (aI (fun _ => 0)))), (q7, .inl (dN, 1024, .inl (aI (fun _ => 0)))), (q8, .inl (dB, 17, .inl (aI (fun _ => 0)))), (q9, .inl (dB, 17, .inl (aI (fun _ => 0))))] H := hP
  replace hD : va_D A [(h0, .inr (0, [.int (iI 0), .int (iI 0), .int (iI 0), .ref q1, .ref q2, .ref q3, .ref q4, .ref q5, .int (iI 0), .ref q6, .int (iI 0), .ref q7, .ref q8, .ref q9])), (q1, .inl (dB, 20, .inl (aI (fun _ => 0)))), (q2, .inl (dB, 20, .inl (aI (fun _ => 0)))), (q3, .inl (dB, 20, .inl (aI (fun _ => 0)))), (q4, .inl (dB, 20, .inl (aI (fun _ => 0)))), (q5, .inl (dN, 16, .inl (aI (fun _ => 0)))), (q6, .inl (dN, 256, .inl (aI (fun _ => 0)))), (q7, .inl (dN, 1024, .inl (aI (fun _ => 0)))), (q8, .inl (dB, 17, .inl (aI (fun _ => 0)))), (q9, .inl (dB, 17, .inl (aI (fun _ => 0))))] := hD
  refine W.widen (k := 9) (n := 1410) (by decide) (by decide) ?_
  refine ri_joinW (σ := Int) (nL := 3) 100 (fun v => v = clampW cc) (fun _ => [(0, .ref h0), (1, .int (iI cc)), (2, .int (iI rr))]) (fun v => [.int (iI v), .ref h0]) (fun _ => [(h0, .inr (0, [.int (iI 0), .int (iI 0), .int (iI 0), .ref q1, .ref q2, .ref q3, .ref q4, .ref q5, .int (iI 0), .ref q6, .int (iI 0), .ref q7, .ref q8, .ref q9])), (q1, .inl (dB, 20, .inl (aI (fun _ => 0)))), (q2, .inl (dB, 20, .inl (aI (fun _ => 0)))), (q3, .inl (dB, 20, .inl (aI (fun _ => 0)))), (q4, .inl (dB, 20, .inl (aI (fun _ => 0)))), (q5, .inl (dN, 16, .inl (aI (fun _ => 0)))), (q6, .inl (dN, 256, .inl (aI (fun _ => 0)))), (q7, .inl (dN, 1024, .inl (aI (fun _ => 0)))), (q8, .inl (dB, 17, .inl (aI (fun _ => 0)))), (q9, .inl (dB, 17, .inl (aI (fun _ => 0))))]) D vwCl A s.heap ?_ ?_
  rotate_left
  · intro jn
    refine lv_aload_n hx hb dX1_init_78 rfl (lv_at hl 0 rfl) ?_
    refine lv_iload_n hx hb dX1_init_79 rfl (lv_at hl 1 rfl) ?_
    refine ri_iconst hx hb dX1_init_80 ?_
    refine ri_icmp_ge (tgt := 88) hx hb dX1_init_81 (by decide) (by omega) (by omega) (fun c1 => ?_) (fun c1 => ?_)
    · refine lv_iload_n hx hb dX1_init_88 rfl (lv_at hl 1 rfl) ?_
      refine ri_bipush hx hb dX1_init_89 (by decide +kernel) ?_
      refine ri_icmp_le (tgt := 99) hx hb dX1_init_91 (by decide) (by omega) (by omega) (fun c2 => ?_) (fun c2 => ?_)
      · refine lv_iload_n hx hb dX1_init_99 rfl (lv_at hl 1 rfl) ?_
        exact jn cc ls _ _ (by unfold clampW; rw [if_neg (by omega), if_neg (by omega)]) hl hP hD hS
      · refine ri_bipush hx hb dX1_init_94 (by decide +kernel) ?_
        refine lv_goto (tgt := 100) hx hb dX1_init_96 (by decide) ?_
        exact jn 16 ls _ _ (by unfold clampW; rw [if_neg (by omega), if_pos (by omega)]) hl hP hD hS
    · refine ri_iconst hx hb dX1_init_84 ?_
      refine lv_goto (tgt := 100) hx hb dX1_init_85 (by decide) ?_
      exact jn 4 ls _ _ (by unfold clampW; rw [if_pos (by omega)]) hl hP hD hS
  rintro v ls H locs hv hl hP hD hS
  replace hv : v = clampW cc := hv
  subst hv
  replace hP : va_P D vwCl [(h0, .inr (0, [.int (iI 0), .int (iI 0), .int (iI 0), .ref q1, .ref q2, .ref q3, .ref q4, .ref q5, .int (iI 0), .ref q6, .int (iI 0), .ref q7, .ref q8, .ref q9])), (q1, .inl (dB, 20, .inl (aI (fun _ => 0)))), (q2, .inl (dB, 20, .inl (aI (fun _ => 0)))), (q3, .inl (dB, 20, .inl (aI (fun _ => 0)))), (q4, .inl (dB, 20, .inl (aI (fun _ => 0)))), (q5, .inl (dN, 16, .inl (aI (fun _ => 0)))), (q6, .inl (dN, 256, .inl (aI (fun _ => 0)))), (q7, .inl (dN, 1024, .inl (aI (fun _ => 0)))), (q8, .inl (dB, 17, .inl (aI (fun _ => 0)))), (q9, .inl (dB, 17, .inl (aI (fun _ => 0))))] H := hP
  replace hD : va_D A [(h0, .inr (0, [.int (iI 0), .int (iI 0), .int (iI 0), .ref q1, .ref q2, .ref q3, .ref q4, .ref q5, .int (iI 0), .ref q6, .int (iI 0), .ref q7, .ref q8, .ref q9])), (q1, .inl (dB, 20, .inl (aI (fun _ => 0)))), (q2, .inl (dB, 20, .inl (aI (fun _ => 0)))), (q3, .inl (dB, 20, .inl (aI (fun _ => 0)))), (q4, .inl (dB, 20, .inl (aI (fun _ => 0)))), (q5, .inl (dN, 16, .inl (aI (fun _ => 0)))), (q6, .inl (dN, 256, .inl (aI (fun _ => 0)))), (q7, .inl (dN, 1024, .inl (aI (fun _ => 0)))), (q8, .inl (dB, 17, .inl (aI (fun _ => 0)))), (q9, .inl (dB, 17, .inl (aI (fun _ => 0))))] := hD
  replace hl : lv_has ls 3 [(0, .ref h0), (1, .int (iI cc)), (2, .int (iI rr))] := hl
  refine va_put (D := D) (ci := 0) (v := .int (iI (clampW cc))) (ty := .int) (C := RX1) (T := TX1) (N := 14) hx hb hts in_X1 tyX1 tyX1_ok nmX1 hown hK hP hD hS 0 rfl rfl 0 (by decide) (hts _ q49) (fun _ h9 => h9) rfl (by decide +kernel) rfl rfl (Nat.le_of_ble_eq_true rfl) dX1_init_100 (fun H locs hP hD hS => ?_)
  replace hP : va_P D vwCl [(h0, .inr (0, [.int (iI (clampW cc)), .int (iI 0), .int (iI 0), .ref q1, .ref q2, .ref q3, .ref q4, .ref q5, .int (iI 0), .ref q6, .int (iI 0), .ref q7, .ref q8, .ref q9])), (q1, .inl (dB, 20, .inl (aI (fun _ => 0)))), (q2, .inl (dB, 20, .inl (aI (fun _ => 0)))), (q3, .inl (dB, 20, .inl (aI (fun _ => 0)))), (q4, .inl (dB, 20, .inl (aI (fun _ => 0)))), (q5, .inl (dN, 16, .inl (aI (fun _ => 0)))), (q6, .inl (dN, 256, .inl (aI (fun _ => 0)))), (q7, .inl (dN, 1024, .inl (aI (fun _ => 0)))), (q8, .inl (dB, 17, .inl (aI (fun _ => 0)))), (q9, .inl (dB, 17, .inl (aI (fun _ => 0))))] H := hP
  replace hD : va_D A [(h0, .inr (0, [.int (iI (clampW cc)), .int (iI 0), .int (iI 0), .ref q1, .ref q2, .ref q3, .ref q4, .ref q5, .int (iI 0), .ref q6, .int (iI 0), .ref q7, .ref q8, .ref q9])), (q1, .inl (dB, 20, .inl (aI (fun _ => 0)))), (q2, .inl (dB, 20, .inl (aI (fun _ => 0)))), (q3, .inl (dB, 20, .inl (aI (fun _ => 0)))), (q4, .inl (dB, 20, .inl (aI (fun _ => 0)))), (q5, .inl (dN, 16, .inl (aI (fun _ => 0)))), (q6, .inl (dN, 256, .inl (aI (fun _ => 0)))), (q7, .inl (dN, 1024, .inl (aI (fun _ => 0)))), (q8, .inl (dB, 17, .inl (aI (fun _ => 0)))), (q9, .inl (dB, 17, .inl (aI (fun _ => 0))))] := hD
  refine ri_joinW (σ := Int) (nL := 3) 125 (fun v => v = clampW rr) (fun _ => [(0, .ref h0), (1, .int (iI cc)), (2, .int (iI rr))]) (fun v => [.int (iI v), .ref h0]) (fun _ => [(h0, .inr (0, [.int (iI (clampW cc)), .int (iI 0), .int (iI 0), .ref q1, .ref q2, .ref q3, .ref q4, .ref q5, .int (iI 0), .ref q6, .int (iI 0), .ref q7, .ref q8, .ref q9])), (q1, .inl (dB, 20, .inl (aI (fun _ => 0)))), (q2, .inl (dB, 20, .inl (aI (fun _ => 0)))), (q3, .inl (dB, 20, .inl (aI (fun _ => 0)))), (q4, .inl (dB, 20, .inl (aI (fun _ => 0)))), (q5, .inl (dN, 16, .inl (aI (fun _ => 0)))), (q6, .inl (dN, 256, .inl (aI (fun _ => 0)))), (q7, .inl (dN, 1024, .inl (aI (fun _ => 0)))), (q8, .inl (dB, 17, .inl (aI (fun _ => 0)))), (q9, .inl (dB, 17, .inl (aI (fun _ => 0))))]) D vwCl A s.heap ?_ ?_
  rotate_left
  · intro jn
    refine lv_aload_n hx hb dX1_init_103 rfl (lv_at hl 0 rfl) ?_
    refine lv_iload_n hx hb dX1_init_104 rfl (lv_at hl 2 rfl) ?_
    refine ri_iconst hx hb dX1_init_105 ?_
    refine ri_icmp_ge (tgt := 113) hx hb dX1_init_106 (by decide) (by omega) (by omega) (fun c1 => ?_) (fun c1 => ?_)
    · refine lv_iload_n hx hb dX1_init_113 rfl (lv_at hl 2 rfl) ?_
      refine ri_bipush hx hb dX1_init_114 (by decide +kernel) ?_
      refine ri_icmp_le (tgt := 124) hx hb dX1_init_116 (by decide) (by omega) (by omega) (fun c2 => ?_) (fun c2 => ?_)
      · refine lv_iload_n hx hb dX1_init_124 rfl (lv_at hl 2 rfl) ?_
        exact jn rr ls _ _ (by unfold clampW; rw [if_neg (by omega), if_neg (by omega)]) hl hP hD hS
      · refine ri_bipush hx hb dX1_init_119 (by decide +kernel) ?_
        refine lv_goto (tgt := 125) hx hb dX1_init_121 (by decide) ?_
        exact jn 16 ls _ _ (by unfold clampW; rw [if_neg (by omega), if_pos (by omega)]) hl hP hD hS
    · refine ri_iconst hx hb dX1_init_109 ?_
      refine lv_goto (tgt := 125) hx hb dX1_init_110 (by decide) ?_
      exact jn 4 ls _ _ (by unfold clampW; rw [if_pos (by omega)]) hl hP hD hS
  rintro v ls H locs hv hl hP hD hS
  replace hv : v = clampW rr := hv
  subst hv
  replace hP : va_P D vwCl [(h0, .inr (0, [.int (iI (clampW cc)), .int (iI 0), .int (iI 0), .ref q1, .ref q2, .ref q3, .ref q4, .ref q5, .int (iI 0), .ref q6, .int (iI 0), .ref q7, .ref q8, .ref q9])), (q1, .inl (dB, 20, .inl (aI (fun _ => 0)))), (q2, .inl (dB, 20, .inl (aI (fun _ => 0)))), (q3, .inl (dB, 20, .inl (aI (fun _ => 0)))), (q4, .inl (dB, 20, .inl (aI (fun _ => 0)))), (q5, .inl (dN, 16, .inl (aI (fun _ => 0)))), (q6, .inl (dN, 256, .inl (aI (fun _ => 0)))), (q7, .inl (dN, 1024, .inl (aI (fun _ => 0)))), (q8, .inl (dB, 17, .inl (aI (fun _ => 0)))), (q9, .inl (dB, 17, .inl (aI (fun _ => 0))))] H := hP
  replace hD : va_D A [(h0, .inr (0, [.int (iI (clampW cc)), .int (iI 0), .int (iI 0), .ref q1, .ref q2, .ref q3, .ref q4, .ref q5, .int (iI 0), .ref q6, .int (iI 0), .ref q7, .ref q8, .ref q9])), (q1, .inl (dB, 20, .inl (aI (fun _ => 0)))), (q2, .inl (dB, 20, .inl (aI (fun _ => 0)))), (q3, .inl (dB, 20, .inl (aI (fun _ => 0)))), (q4, .inl (dB, 20, .inl (aI (fun _ => 0)))), (q5, .inl (dN, 16, .inl (aI (fun _ => 0)))), (q6, .inl (dN, 256, .inl (aI (fun _ => 0)))), (q7, .inl (dN, 1024, .inl (aI (fun _ => 0)))), (q8, .inl (dB, 17, .inl (aI (fun _ => 0)))), (q9, .inl (dB, 17, .inl (aI (fun _ => 0))))] := hD
  replace hl : lv_has ls 3 [(0, .ref h0), (1, .int (iI cc)), (2, .int (iI rr))] := hl
  refine va_put (D := D) (ci := 0) (v := .int (iI (clampW rr))) (ty := .int) (C := RX1) (T := TX1) (N := 14) hx hb hts in_X1 tyX1 tyX1_ok nmX1 hown hK hP hD hS 0 rfl rfl 1 (by decide) (hts _ q50) (fun _ h9 => h9) rfl (by decide +kernel) rfl rfl (Nat.le_of_ble_eq_true rfl) dX1_init_125 (fun H locs hP hD hS => ?_)
  replace hP : va_P D vwCl [(h0, .inr (0, [.int (iI (clampW cc)), .int (iI (clampW rr)), .int (iI 0), .ref q1, .ref q2, .ref q3, .ref q4, .ref q5, .int (iI 0), .ref q6, .int (iI 0), .ref q7, .ref q8, .ref q9])), (q1, .inl (dB, 20, .inl (aI (fun _ => 0)))), (q2, .inl (dB, 20, .inl (aI (fun _ => 0)))), (q3, .inl (dB, 20, .inl (aI (fun _ => 0)))), (q4, .inl (dB, 20, .inl (aI (fun _ => 0)))), (q5, .inl (dN, 16, .inl (aI (fun _ => 0)))), (q6, .inl (dN, 256, .inl (aI (fun _ => 0)))), (q7, .inl (dN, 1024, .inl (aI (fun _ => 0)))), (q8, .inl (dB, 17, .inl (aI (fun _ => 0)))), (q9, .inl (dB, 17, .inl (aI (fun _ => 0))))] H := hP
  replace hD : va_D A [(h0, .inr (0, [.int (iI (clampW cc)), .int (iI (clampW rr)), .int (iI 0), .ref q1, .ref q2, .ref q3, .ref q4, .ref q5, .int (iI 0), .ref q6, .int (iI 0), .ref q7, .ref q8, .ref q9])), (q1, .inl (dB, 20, .inl (aI (fun _ => 0)))), (q2, .inl (dB, 20, .inl (aI (fun _ => 0)))), (q3, .inl (dB, 20, .inl (aI (fun _ => 0)))), (q4, .inl (dB, 20, .inl (aI (fun _ => 0)))), (q5, .inl (dN, 16, .inl (aI (fun _ => 0)))), (q6, .inl (dN, 256, .inl (aI (fun _ => 0)))), (q7, .inl (dN, 1024, .inl (aI (fun _ => 0)))), (q8, .inl (dB, 17, .inl (aI (fun _ => 0)))), (q9, .inl (dB, 17, .inl (aI (fun _ => 0))))] := hD
  obtain ⟨ad, ead⟩ : ∃ ad : Nat → Nat, ad = fun k => [h0, q1, q2, q3, q4, q5, q6, q7, q8, q9].getD k 0 := ⟨_, rfl⟩
  replace hP : va_P D vwCl (XW ad dB dN (clampW cc) (clampW rr) 0 0 0 (fun _ => 0) (fun _ => 0) (fun _ => 0) (fun _ => 0) (fun _ => 0) (fun _ => 0) (fun _ => 0) (fun _ => 0) (fun _ => 0)) H := by rw [ead]; exact hP
  replace hD : va_D A (XW ad dB dN (clampW cc) (clampW rr) 0 0 0 (fun _ => 0) (fun _ => 0) (fun _ => 0) (fun _ => 0) (fun _ => 0) (fun _ => 0) (fun _ => 0) (fun _ => 0) (fun _ => 0)) := by rw [ead]; exact hD
  have e0 : h0 = ad 0 := by rw [ead]; rfl
  replace hl : lv_has ls 3 [(0, .ref (ad 0)), (1, .int (iI cc)), (2, .int (iI rr))] := by rw [← e0]; exact hl
  refine lv_aload_n hx hb dX1_init_128 rfl (lv_at hl 0 rfl) ?_
  refine ri_callI (rest := []) (ci := 0) (q0 := 0) (mx1_clear l (clampW_rng cc) (clampW_rng rr) _) hx hb hml hown hts (cwV 0 hts (lw_V q41 q42 q43 q31 q44) rfl rfl rfl (by decide +kernel) ⟨Nat.le_of_ble_eq_true rfl, Nat.le_of_ble_eq_true rfl⟩) hK hP hD hS hA rfl rfl rfl hl.1 rfl (Nat.le_of_ble_eq_true rfl) dX1_init_129 ⟨Nat.le_refl _, Nat.le_refl _⟩ (fun z u H locs hu hP hD hS => ?_)
  obtain ⟨W', F', B'⟩ := u
  refine lv_pop hx hb dX1_init_132 rfl ?_
  obtain ⟨hu0, hu1, hu2, hu3, hu4⟩ := hu
  exact W.vret hx hb hr (fun t ht hW => ⟨⟨(ad, dB, dN, W', F', B'), rfl, ⟨e0.symm, hu1, hu2, hu3, hu4⟩, by rw [ht]; exact hP, va_K.moved hW.alike hK, hD⟩, hS.F ht⟩) hS.2.2 dX1_init_133 hlocks
end
section
/-! what AtlasPackerModel's methods answer -/
/-- all these cells are on the sheet and free -/
def gd (Ce : Int → Int) (Cw Rw x y w h : Int) : Prop := 0 ≤ x ∧ 0 ≤ y ∧ x + w ≤ Cw ∧ y + h ≤ Rw ∧ ∀ j, y ≤ j → j < y + h → ∀ i, x ≤ i → i < x + w → Ce (16 * j + i) = -1
def cellOk (Ce : Int → Int) : Prop := ∀ k, 0 ≤ k → k < 256 → -1 ≤ Ce k ∧ Ce k < 20
def thOk (Th : Int → Int) : Prop := ∀ k, 0 ≤ k → k < 20 → Th k = 0 ∨ Th k = 1
def BestS (Ce : Int → Int) (Cw Rw w h z : Int) : Prop :=
  (∃ x y, 0 ≤ x ∧ x < Cw ∧ 0 ≤ y ∧ y < Rw ∧ gd Ce Cw Rw x y w h ∧ z = 256 * y + x ∧ (∀ y' x', 0 ≤ y' → y' < y → 0 ≤ x' → x' < Cw → ¬ gd Ce Cw Rw x' y' w h) ∧ ∀ x', 0 ≤ x' → x' < x → ¬ gd Ce Cw Rw x' y w h) ∨
  (z = -3 ∧ ∀ y' x', 0 ≤ y' → y' < Rw → 0 ≤ x' → x' < Cw → ¬ gd Ce Cw Rw x' y' w h)
theorem BestS_rng {Ce : Int → Int} {Cw Rw w h z : Int} (hC : 4 ≤ Cw ∧ Cw ≤ 16) (hR : 4 ≤ Rw ∧ Rw ≤ 16) (H : BestS Ce Cw Rw w h z) : -3 ≤ z ∧ z < 4096 ∧ (z < 0 → z = -3) := by
  rcases H with ⟨x, y, h1, h2, h3, h4, h5, h6, -, -⟩ | ⟨h1, -⟩ <;> omega
theorem BestS_pos {Ce : Int → Int} {Cw Rw w h z : Int} (hC : 4 ≤ Cw ∧ Cw ≤ 16) (H : BestS Ce Cw Rw w h z) (hz : 0 ≤ z) : gd Ce Cw Rw (z % 256) (z / 256) w h := by
  rcases H with ⟨x, y, h1, h2, h3, h4, h5, h6, -, -⟩ | ⟨h1, -⟩
  · have e1 : z % 256 = x := by omega
    have e2 : z / 256 = y := by omega
    rw [e1, e2]; exact h5
  · omega
def cntT (Th : Int → Int) (k : Int) : Int := if Th k = 0 then 0 else 1
theorem cntT_full {Th : Int → Int} (n : Nat) (h : ∀ k : Int, 0 ≤ k → k < n → Th k ≠ 0) : sumI (cntT Th) n = n := by
  induction n with
  | zero => rfl
  | succ n ih =>
    rw [sumI, ih (fun k a b => h k a (by omega)), cntT, if_neg (h n (by omega) (by omega))]
    omega
theorem cntT_rng (Th : Int → Int) (n : Nat) : 0 ≤ sumI (cntT Th) n ∧ sumI (cntT Th) n ≤ n := by
  induction n with
  | zero => exact ⟨by simp [sumI], by simp [sumI]⟩
  | succ n ih =>
    rw [sumI]
    have h : 0 ≤ cntT Th n ∧ cntT Th n ≤ 1 := by unfold cntT; split <;> omega
    omega
theorem cntT_free {Th : Int → Int} (n : Nat) (h : sumI (cntT Th) n ≠ n) : ∃ k, 0 ≤ k ∧ k < (n : Int) ∧ Th k = 0 := by
  apply Classical.byContradiction
  intro q
  exact h (cntT_full n (fun k a b e => q ⟨k, a, b, e⟩))
def rowG (Ce : Int → Int) (Cw Rw x w j : Int) : Prop := gd Ce Cw Rw x j w 1
def TalS (Ce : Int → Int) (Cw Rw x y w z : Int) : Prop :=
  (Rw ≤ y ∧ z = Rw - y) ∨ (y < Rw ∧ 0 ≤ z ∧ z ≤ Rw - y ∧ (∀ j, y ≤ j → j < y + z → rowG Ce Cw Rw x w j) ∧ (z = Rw - y ∨ ¬ rowG Ce Cw Rw x w (y + z)))
theorem TalS_uniq {Ce : Int → Int} {Cw Rw x y w z z' : Int} (h : TalS Ce Cw Rw x y w z) (h' : TalS Ce Cw Rw x y w z') : z = z' := by
  rcases h with ⟨a1, a2⟩ | ⟨a1, a2, a3, a4, a5⟩ <;> rcases h' with ⟨b1, b2⟩ | ⟨b1, b2, b3, b4, b5⟩
  · omega
  · omega
  · omega
  · by_cases c : z < z'
    · have := b4 (y + z) (by omega) (by omega)
      rcases a5 with q | q
      · omega
      · exact absurd this q
    · by_cases c2 : z' < z
      · have := a4 (y + z') (by omega) (by omega)
        rcases b5 with q | q
        · omega
        · exact absurd this q
      · omega
/-- a hole of the reference: x, y, w with its height h -/
def MaxG (Ce : Int → Int) (Cw Rw x y w h : Int) : Prop :=
  x + w ≤ Cw ∧ TalS Ce Cw Rw x y w h ∧ 0 < h ∧ ¬ gd Ce Cw Rw (x - 1) y 1 h ∧ ¬ gd Ce Cw Rw (x + w) y 1 h ∧ ¬ gd Ce Cw Rw x (y - 1) w 1
def ArS (Ce : Int → Int) (Cw Rw x y w z : Int) : Prop := (∃ h, h ≤ 16 ∧ MaxG Ce Cw Rw x y w h ∧ z = w * h) ∨ (z = 0 ∧ ∀ h, ¬ MaxG Ce Cw Rw x y w h)
theorem ArS_rng {Ce : Int → Int} {Cw Rw x y w z : Int} (hw : 1 ≤ w ∧ w ≤ 16) (h : ArS Ce Cw Rw x y w z) : 0 ≤ z ∧ z ≤ 256 := by
  rcases h with ⟨h, h1, h2, h3⟩ | ⟨h1, -⟩
  · have h4 := h2.2.2.1
    have a1 : 0 ≤ w * h := Int.mul_nonneg (by omega) (by omega)
    have a2 : w * h ≤ 16 * 16 := Int.mul_le_mul (by omega) (by omega) (by omega) (by omega)
    omega
  · omega
theorem ArS_pos {Ce : Int → Int} {Cw Rw x y w z : Int} (hw : 1 ≤ w) (h : ArS Ce Cw Rw x y w z) : 0 < z ↔ ∃ h, MaxG Ce Cw Rw x y w h := by
  constructor
  · intro hz
    rcases h with ⟨h, h1, h2, h3⟩ | ⟨h1, -⟩
    · exact ⟨h, h2⟩
    · omega
  · rintro ⟨h', h2'⟩
    rcases h with ⟨h, h1, h2, h3⟩ | ⟨-, h2⟩
    · have h4 := h2.2.2.1
      have := Int.mul_pos (a := w) (b := h) (by omega) h4
      omega
    · exact absurd h2' (h2 h')
noncomputable def cntH (Ce : Int → Int) (Cw Rw xy w : Int) : Int := @ite _ (∃ h, MaxG Ce Cw Rw (xy % 16) (xy / 16) w h) (Classical.propDecidable _) 1 0
theorem cntH_yes {Ce : Int → Int} {Cw Rw xy w : Int} (h : ∃ h, MaxG Ce Cw Rw (xy % 16) (xy / 16) w h) : cntH Ce Cw Rw xy w = 1 := if_pos h
theorem cntH_no {Ce : Int → Int} {Cw Rw xy w : Int} (h : ¬ ∃ h, MaxG Ce Cw Rw (xy % 16) (xy / 16) w h) : cntH Ce Cw Rw xy w = 0 := if_neg h
noncomputable def cntR (Ce : Int → Int) (Cw Rw xy : Int) (n : Nat) : Int := sumI (fun v => cntH Ce Cw Rw xy (v + 1)) n
/-- the greatest of the reference's areas below xy, and at xy below w -/
def LarS (Ce : Int → Int) (Cw Rw xy w z : Int) : Prop :=
  0 ≤ z ∧ z ≤ 256 ∧ (∀ q v h, 0 ≤ q → 1 ≤ v → v ≤ Cw → (q < xy ∨ (q = xy ∧ v < w)) → MaxG Ce Cw Rw (q % 16) (q / 16) v h → v * h ≤ z) ∧
  (z = 0 ∨ ∃ q v h, 0 ≤ q ∧ q < 256 ∧ 1 ≤ v ∧ v ≤ Cw ∧ MaxG Ce Cw Rw (q % 16) (q / 16) v h ∧ z = v * h)
theorem LarS_keep {Ce : Int → Int} {Cw Rw xy w z a : Int} (H : LarS Ce Cw Rw xy w z) (ha : ArS Ce Cw Rw (xy % 16) (xy / 16) w a) (hle : a ≤ z) : LarS Ce Cw Rw xy (w + 1) z := by
  obtain ⟨h0, h1, h2, h3⟩ := H
  refine ⟨h0, h1, fun q v h b1 b2 b3 b4 b5 => ?_, h3⟩
  by_cases e : q = xy ∧ v = w
  · obtain ⟨e1, e2⟩ := e
    subst e1; subst e2
    rcases ha with ⟨h', c1, c2, c3⟩ | ⟨-, c2⟩
    · have := TalS_uniq c2.2.1 b5.2.1
      subst this; omega
    · exact absurd b5 (c2 h)
  · exact h2 q v h b1 b2 b3 (by omega) b5
theorem LarS_take {Ce : Int → Int} {Cw Rw xy w z a : Int} (H : LarS Ce Cw Rw xy w z) (hxy : 0 ≤ xy ∧ xy < 256) (hw : 1 ≤ w ∧ w ≤ 16) (hwC : w ≤ Cw) (ha : ArS Ce Cw Rw (xy % 16) (xy / 16) w a) (hlt : z < a) : LarS Ce Cw Rw xy (w + 1) a := by
  obtain ⟨h0, h1, h2, h3⟩ := H
  have har := ArS_rng hw ha
  refine ⟨by omega, by omega, fun q v h b1 b2 b3 b4 b5 => ?_, ?_⟩
  · by_cases e : q = xy ∧ v = w
    · obtain ⟨e1, e2⟩ := e
      subst e1; subst e2
      rcases ha with ⟨h', c1, c2, c3⟩ | ⟨-, c2⟩
      · have := TalS_uniq c2.2.1 b5.2.1
        subst this; omega
      · exact absurd b5 (c2 h)
    · have := h2 q v h b1 b2 b3 (by omega) b5
      omega
  · rcases ha with ⟨h', c1, c2, c3⟩ | ⟨c1, -⟩
    · exact Or.inr ⟨xy, w, h', hxy.1, hxy.2, hw.1, hwC, c2, c3⟩
    · omega
theorem LarS_next {Ce : Int → Int} {Cw Rw xy z : Int} (H : LarS Ce Cw Rw xy (Cw + 1) z) : LarS Ce Cw Rw (xy + 1) 1 z := by
  obtain ⟨h0, h1, h2, h3⟩ := H
  exact ⟨h0, h1, fun q v h b1 b2 b3 b4 b5 => h2 q v h b1 b2 b3 (by omega) b5, h3⟩
/-- the height that fitting takes at a place -/
def HtG (Ce : Int → Int) (Cw Rw w xy t : Int) : Prop := (¬ (xy % 16 + w ≤ Cw ∧ xy / 16 < Rw) ∧ t = 0) ∨ ((xy % 16 + w ≤ Cw ∧ xy / 16 < Rw) ∧ TalS Ce Cw Rw (xy % 16) (xy / 16) w t)
def MosS (Ce : Int → Int) (Cw Rw w xy z : Int) : Prop :=
  0 ≤ z ∧ z ≤ 16 ∧ (∀ q t, 0 ≤ q → q < xy → HtG Ce Cw Rw w q t → t ≤ z) ∧ (z = 0 ∨ ∃ q, 0 ≤ q ∧ q < xy ∧ HtG Ce Cw Rw w q z)
theorem HtG_uniq {Ce : Int → Int} {Cw Rw w xy t t' : Int} (h : HtG Ce Cw Rw w xy t) (h' : HtG Ce Cw Rw w xy t') : t = t' := by
  rcases h with ⟨a1, a2⟩ | ⟨a1, a2⟩ <;> rcases h' with ⟨b1, b2⟩ | ⟨b1, b2⟩
  · omega
  · exact absurd b1 a1
  · exact absurd a1 b1
  · exact TalS_uniq a2 b2
theorem HtG_rng {Ce : Int → Int} {Cw Rw w xy t : Int} (hR : Rw ≤ 16) (h0 : 0 ≤ xy) (h : HtG Ce Cw Rw w xy t) : 0 ≤ t ∧ t ≤ 16 := by
  rcases h with ⟨a1, a2⟩ | ⟨⟨a1, a3⟩, a2⟩
  · omega
  · rcases a2 with ⟨b1, b2⟩ | ⟨b1, b2, b3, -, -⟩ <;> omega
theorem MosS_0 (Ce : Int → Int) (Cw Rw w : Int) : MosS Ce Cw Rw w 0 0 := ⟨by omega, by omega, fun q t a b => absurd b (by omega), Or.inl rfl⟩
theorem MosS_keep {Ce : Int → Int} {Cw Rw w xy z t : Int} (H : MosS Ce Cw Rw w xy z) (ht : HtG Ce Cw Rw w xy t) (hle : t ≤ z) : MosS Ce Cw Rw w (xy + 1) z := by
  obtain ⟨h0, h1, h2, h3⟩ := H
  refine ⟨h0, h1, fun q t' a b c => ?_, ?_⟩
  · by_cases e : q = xy
    · subst e
      have := HtG_uniq ht c
      omega
    · exact h2 q t' a (by omega) c
  · rcases h3 with h3 | ⟨q, a, b, c⟩
    · exact Or.inl h3
    · exact Or.inr ⟨q, a, by omega, c⟩
theorem MosS_take {Ce : Int → Int} {Cw Rw w xy z t : Int} (hR : Rw ≤ 16) (hxy : 0 ≤ xy) (H : MosS Ce Cw Rw w xy z) (ht : HtG Ce Cw Rw w xy t) (hlt : z < t) : MosS Ce Cw Rw w (xy + 1) t := by
  obtain ⟨h0, h1, h2, h3⟩ := H
  have := HtG_rng hR hxy ht
  refine ⟨by omega, by omega, fun q t' a b c => ?_, Or.inr ⟨xy, hxy, by omega, ht⟩⟩
  by_cases e : q = xy
  · subst e
    have := HtG_uniq ht c
    omega
  · have := h2 q t' a (by omega) c
    omega
/-- the sum over the widths below w of the greatest heights -/
def FitS (Ce : Int → Int) (Cw Rw w z : Int) : Prop := ∃ M : Int → Int, z = sumI M (w - 1).toNat ∧ ∀ v, 1 ≤ v → v < w → MosS Ce Cw Rw v 256 (M (v - 1))
theorem FitS_0 (Ce : Int → Int) (Cw Rw : Int) : FitS Ce Cw Rw 1 0 := ⟨fun _ => 0, by simp [sumI], fun v a b => absurd b (by omega)⟩
theorem FitS_step {Ce : Int → Int} {Cw Rw w z t : Int} (hw : 1 ≤ w) (H : FitS Ce Cw Rw w z) (h : MosS Ce Cw Rw w 256 t) : FitS Ce Cw Rw (w + 1) (z + t) := by
  obtain ⟨M, h1, h2⟩ := H
  refine ⟨uI M (w - 1) t, ?_, fun v a b => ?_⟩
  · have e := sumI_step (uI M (w - 1) t) (k := w - 1) (by omega)
    rw [show w + 1 - 1 = w - 1 + 1 by omega, e, uI_s, sumI_congr (g := M) (fun k a b => uI_n _ (by omega)), h1]
  · by_cases e : v = w
    · subst e; rw [uI_s]; exact h
    · rw [uI_n _ (by omega)]; exact h2 v a (by omega)
/-! painting -/
def paintV (Ce : Int → Int) (lf bt wdt hgt v k : Int) : Int := if (bt ≤ k / 16 ∧ k / 16 < bt + hgt) ∧ (lf ≤ k % 16 ∧ k % 16 < lf + wdt) then v else Ce k
def paintU (Ce : Int → Int) (lf bt wdt v j i k : Int) : Int := if (bt ≤ k / 16 ∧ lf ≤ k % 16 ∧ k % 16 < lf + wdt) ∧ (k / 16 < j ∨ (k / 16 = j ∧ k % 16 < i)) then v else Ce k
theorem paintU_0 (Ce : Int → Int) (lf bt wdt v k : Int) : paintU Ce lf bt wdt v bt lf k = Ce k := if_neg (by omega)
theorem paintU_next {Ce : Int → Int} {lf bt wdt v j k : Int} : paintU Ce lf bt wdt v j (lf + wdt) k = paintU Ce lf bt wdt v (j + 1) lf k := by
  unfold paintU
  by_cases c : (bt ≤ k / 16 ∧ lf ≤ k % 16 ∧ k % 16 < lf + wdt) ∧ (k / 16 < j ∨ (k / 16 = j ∧ k % 16 < lf + wdt))
  · rw [if_pos c, if_pos (by omega)]
  · rw [if_neg c, if_neg (by omega)]
theorem paintU_step {Ce F : Int → Int} {lf bt wdt v j i : Int} (hb : bt ≤ j) (hj : 0 ≤ j ∧ j < 16) (hi : 0 ≤ i ∧ i < 16) (hl : lf ≤ i ∧ i < lf + wdt) (h : ∀ k, 0 ≤ k → k < 256 → F k = paintU Ce lf bt wdt v j i k) : ∀ k, 0 ≤ k → k < 256 → uI F (16 * j + i) v k = paintU Ce lf bt wdt v j (i + 1) k := by
  intro k a b
  by_cases e : k = 16 * j + i
  · subst e
    rw [uI_s]
    unfold paintU
    rw [if_pos (by omega)]
  · rw [uI_n _ e, h k a b]
    unfold paintU
    by_cases c : (bt ≤ k / 16 ∧ lf ≤ k % 16 ∧ k % 16 < lf + wdt) ∧ (k / 16 < j ∨ (k / 16 = j ∧ k % 16 < i))
    · rw [if_pos c, if_pos (by omega)]
    · rw [if_neg c, if_neg (by omega)]
theorem paintU_end {Ce : Int → Int} {lf bt wdt hgt v k : Int} : paintU Ce lf bt wdt v (bt + hgt) lf k = paintV Ce lf bt wdt hgt v k := by
  unfold paintU paintV
  by_cases c : (bt ≤ k / 16 ∧ k / 16 < bt + hgt) ∧ (lf ≤ k % 16 ∧ k % 16 < lf + wdt)
  · rw [if_pos c, if_pos (by omega)]
  · rw [if_neg c, if_neg (by omega)]
def ChM (Ce : Int → Int) (Cw Rw w h turn a tr : Int) : Prop :=
  ∃ a1, BestS Ce Cw Rw w h a1 ∧ ((turn = 0 ∧ a = a1 ∧ tr = 0) ∨ (turn ≠ 0 ∧ ∃ a2, BestS Ce Cw Rw h w a2 ∧ ((0 ≤ a2 ∧ (a1 < 0 ∨ a2 < a1) ∧ a = a2 ∧ tr = 1) ∨ (¬ (0 ≤ a2 ∧ (a1 < 0 ∨ a2 < a1)) ∧ a = a1 ∧ tr = 0))))
def freeC (Ce : Int → Int) (Cw y : Int) : Int := sumI (fun x => if Ce (16 * y + x) = -1 then 1 else 0) Cw.toNat
end
section
/-! AtlasPackerModel: the methods that read -/
set_option maxHeartbeats 4000000 in
set_option maxRecDepth 100000 in
theorem mx2_isSize (l : Launch) {D : va_G} {bd : Nat → Nat} {dN dZ : ClassId} {Cw Rw : Int} {Ce Lf Bt Wd Hg Th : Int → Int} (w h : Int) (hw' : -2147483648 ≤ w ∧ w < 2147483648) (hh' : -2147483648 ≤ h ∧ h < 2147483648) : MetR l yX2_isSize cX2_isSize 3 .boolean 0 0 [.ref (bd 0), .int (iI w), .int (iI h)] D (MW bd dN dZ Cw Rw Ce Lf Bt Wd Hg Th) (tM dN dZ) (fun z => (z = 1 ∧ 1 ≤ w ∧ w ≤ 16 ∧ 1 ≤ h ∧ h ≤ 16) ∨ (z = 0 ∧ ¬ (1 ≤ w ∧ w ≤ 16 ∧ 1 ≤ h ∧ h ≤ 16))) := by
  refine ri_met RX2 rfl (by decide) (Nat.le_of_ble_eq_true rfl) ?_
  intro p e s m below meth c hx hb hr hts hown hlocks hml hnm hv ls hl
  obtain ⟨hP, hK⟩ := hv
  have hl : lv_has ls 3 [(0, .ref (bd 0)), (1, .int (iI w)), (2, .int (iI h))] := hl
  refine lv_iload_n hx hb dX2_isSize_0 rfl (lv_at hl 1 rfl) ?_
  refine ri_iconst hx hb dX2_isSize_1 ?_
  refine ri_icmp_lt (tgt := 26) hx hb dX2_isSize_2 (by decide) (by omega) (by omega) (fun c2 => ?_) (fun c2 => ?_)
  · refine ri_iconst hx hb dX2_isSize_26 ?_
    exact ri_zret hx hb hr hlocks (by omega) (by omega) dX2_isSize_27
  · refine lv_iload_n hx hb dX2_isSize_5 rfl (lv_at hl 1 rfl) ?_
    refine ri_bipush hx hb dX2_isSize_6 (by decide +kernel) ?_
    refine ri_icmp_gt (tgt := 26) hx hb dX2_isSize_8 (by decide) (by omega) (by omega) (fun c8 => ?_) (fun c8 => ?_)
    · refine ri_iconst hx hb dX2_isSize_26 ?_
      exact ri_zret hx hb hr hlocks (by omega) (by omega) dX2_isSize_27
    · refine lv_iload_n hx hb dX2_isSize_11 rfl (lv_at hl 2 rfl) ?_
      refine ri_iconst hx hb dX2_isSize_12 ?_
      refine ri_icmp_lt (tgt := 26) hx hb dX2_isSize_13 (by decide) (by omega) (by omega) (fun c13 => ?_) (fun c13 => ?_)
      · refine ri_iconst hx hb dX2_isSize_26 ?_
        exact ri_zret hx hb hr hlocks (by omega) (by omega) dX2_isSize_27
      · refine lv_iload_n hx hb dX2_isSize_16 rfl (lv_at hl 2 rfl) ?_
        refine ri_bipush hx hb dX2_isSize_17 (by decide +kernel) ?_
        refine ri_icmp_gt (tgt := 26) hx hb dX2_isSize_19 (by decide) (by omega) (by omega) (fun c19 => ?_) (fun c19 => ?_)
        · refine ri_iconst hx hb dX2_isSize_26 ?_
          exact ri_zret hx hb hr hlocks (by omega) (by omega) dX2_isSize_27
        · refine ri_iconst hx hb dX2_isSize_22 ?_
          refine lv_goto (tgt := 27) hx hb dX2_isSize_23 (by decide) ?_
          exact ri_zret hx hb hr hlocks (by omega) (by omega) dX2_isSize_27
set_option maxHeartbeats 4000000 in
set_option maxRecDepth 100000 in
theorem mx2_isThere (l : Launch) {D : va_G} {bd : Nat → Nat} {dN dZ : ClassId} {Cw Rw : Int} {Ce Lf Bt Wd Hg Th : Int → Int} (i : Int) (hi' : -2147483648 ≤ i ∧ i < 2147483648) (ht : thOk Th) : MetR l yX2_isThere cX2_isThere 2 .boolean 0 0 [.ref (bd 0), .int (iI i)] D (MW bd dN dZ Cw Rw Ce Lf Bt Wd Hg Th) (tM dN dZ) (fun z => (z = 1 ∧ 0 ≤ i ∧ i < 20 ∧ Th i ≠ 0) ∨ (z = 0 ∧ ¬ (0 ≤ i ∧ i < 20 ∧ Th i ≠ 0))) := by
  refine ri_met RX2 rfl (by decide) (Nat.le_of_ble_eq_true rfl) ?_
  intro p e s m below meth c hx hb hr hts hown hlocks hml hnm hv ls hl
  obtain ⟨hP, hK⟩ := hv
  have hl : lv_has ls 2 [(0, .ref (bd 0)), (1, .int (iI i))] := hl
  refine lv_iload_n hx hb dX2_isThere_0 rfl (lv_at hl 1 rfl) ?_
  refine ri_if_lt (tgt := 23) hx hb dX2_isThere_1 (by decide) (by omega) (fun c1 => ?_) (fun c1 => ?_)
  · refine ri_iconst hx hb dX2_isThere_23 ?_
    exact ri_zret hx hb hr hlocks (by omega) (by omega) dX2_isThere_24
  · refine lv_iload_n hx hb dX2_isThere_4 rfl (lv_at hl 1 rfl) ?_
    refine ri_bipush hx hb dX2_isThere_5 (by decide +kernel) ?_
    refine ri_icmp_ge (tgt := 23) hx hb dX2_isThere_7 (by decide) (by omega) (by omega) (fun c7 => ?_) (fun c7 => ?_)
    · refine ri_iconst hx hb dX2_isThere_23 ?_
      exact ri_zret hx hb hr hlocks (by omega) (by omega) dX2_isThere_24
    · have hti := ht i (by omega) (by omega)
      refine lv_aload_n hx hb dX2_isThere_10 rfl (lv_at hl 0 rfl) ?_
      refine gm_Th hx hb hts hown hK hP dX2_isThere_11 ?_
      refine lv_iload_n hx hb dX2_isThere_14 rfl (lv_at hl 1 rfl) ?_
      refine ri_zald hx hb hK hP 6 1 rfl rfl (by omega) (by decide) dX2_isThere_15 ?_
      refine ri_if_eq (tgt := 23) hx hb dX2_isThere_16 (by decide) (by omega) (fun c16 => ?_) (fun c16 => ?_)
      · refine ri_iconst hx hb dX2_isThere_23 ?_
        exact ri_zret hx hb hr hlocks (by omega) (by omega) dX2_isThere_24
      · refine ri_iconst hx hb dX2_isThere_19 ?_
        refine lv_goto (tgt := 24) hx hb dX2_isThere_20 (by decide) ?_
        exact ri_zret hx hb hr hlocks (by omega) (by omega) dX2_isThere_24
set_option maxHeartbeats 4000000 in
set_option maxRecDepth 100000 in
theorem mx2_good (l : Launch) {D : va_G} {bd : Nat → Nat} {dN dZ : ClassId} {Cw Rw : Int} {Ce Lf Bt Wd Hg Th : Int → Int} (x y w h : Int) (hr4 : (-1 ≤ x ∧ x ≤ 32) ∧ (-1 ≤ y ∧ y ≤ 32) ∧ (0 ≤ w ∧ w ≤ 16) ∧ (0 ≤ h ∧ h ≤ 16)) (hC : 4 ≤ Cw ∧ Cw ≤ 16) (hR : 4 ≤ Rw ∧ Rw ≤ 16) (hCe : cellOk Ce) : MetR l yX2_good cX2_good 7 .boolean 0 0 [.ref (bd 0), .int (iI x), .int (iI y), .int (iI w), .int (iI h)] D (MW bd dN dZ Cw Rw Ce Lf Bt Wd Hg Th) (tM dN dZ) (fun z => (z = 1 ∧ gd Ce Cw Rw x y w h) ∨ (z = 0 ∧ ¬ gd Ce Cw Rw x y w h)) := by
  refine ri_met RX2 rfl (by decide) (Nat.le_of_ble_eq_true rfl) ?_
  intro p e s m below meth c hx hb hr hts hown hlocks hml hnm hv ls hl
  obtain ⟨hP, hK⟩ := hv
  have hl : lv_has ls 7 [(0, .ref (bd 0)), (1, .int (iI x)), (2, .int (iI y)), (3, .int (iI w)), (4, .int (iI h))] := hl
  refine lv_iload_n hx hb dX2_good_0 rfl (lv_at hl 1 rfl) ?_
  refine ri_if_lt (tgt := 29) hx hb dX2_good_1 (by decide) (by omega) (fun c1 => ?_) (fun c1 => ?_)
  · refine ri_iconst hx hb dX2_good_29 ?_
    exact ri_zret hx hb hr hlocks (by omega) (Or.inr ⟨rfl, fun q => by obtain ⟨q1, q2, q3, q4, -⟩ := q; omega⟩) dX2_good_30
  · refine lv_iload_n hx hb dX2_good_4 rfl (lv_at hl 2 rfl) ?_
    refine ri_if_lt (tgt := 29) hx hb dX2_good_5 (by decide) (by omega) (fun c5 => ?_) (fun c5 => ?_)
    · refine ri_iconst hx hb dX2_good_29 ?_
      exact ri_zret hx hb hr hlocks (by omega) (Or.inr ⟨rfl, fun q => by obtain ⟨q1, q2, q3, q4, -⟩ := q; omega⟩) dX2_good_30
    · refine lv_iload_n hx hb dX2_good_8 rfl (lv_at hl 1 rfl) ?_
      refine lv_iload_n hx hb dX2_good_9 rfl (lv_at hl 3 rfl) ?_
      refine ri_iadd hx hb dX2_good_10 ?_
      refine lv_aload_n hx hb dX2_good_11 rfl (lv_at hl 0 rfl) ?_
      refine gm_Cw hx hb hts hown hK hP dX2_good_12 ?_
      refine ri_icmp_gt (tgt := 29) hx hb dX2_good_15 (by decide) (by omega) (by omega) (fun c15 => ?_) (fun c15 => ?_)
      · refine ri_iconst hx hb dX2_good_29 ?_
        exact ri_zret hx hb hr hlocks (by omega) (Or.inr ⟨rfl, fun q => by obtain ⟨q1, q2, q3, q4, -⟩ := q; omega⟩) dX2_good_30
      · refine lv_iload_n hx hb dX2_good_18 rfl (lv_at hl 2 rfl) ?_
        refine lv_iload hx hb dX2_good_19 (lv_at hl 4 rfl) ?_
        refine ri_iadd hx hb dX2_good_21 ?_
        refine lv_aload_n hx hb dX2_good_22 rfl (lv_at hl 0 rfl) ?_
        refine gm_Rw hx hb hts hown hK hP dX2_good_23 ?_
        refine ri_icmp_le (tgt := 31) hx hb dX2_good_26 (by decide) (by omega) (by omega) (fun c26 => ?_) (fun c26 => ?_)
        · refine lv_iload_n hx hb dX2_good_31 rfl (lv_at hl 2 rfl) ?_
          refine lv_istore (lv' := [(5, .int (iI y)), (0, .ref (bd 0)), (1, .int (iI x)), (2, .int (iI y)), (3, .int (iI w)), (4, .int (iI h))]) hx hb dX2_good_32 hl (by decide) rfl (fun ls hl => ?_)
          refine ri_loop (σ := Int) (nL := 7) (fun (j : Int) => (y + h - j).toNat) (fun (j : Int) => y ≤ j ∧ j ≤ y + h ∧ ∀ q, y ≤ q → q < j → ∀ i, x ≤ i → i < x + w → Ce (16 * q + i) = -1) (fun (j : Int) => [(0, .ref (bd 0)), (1, .int (iI x)), (2, .int (iI y)), (3, .int (iI w)), (4, .int (iI h)), (5, .int (iI j))]) (y) ?_ (lv_sub hl [1, 2, 3, 4, 5, 0] rfl) ?_
          · show y ≤ y ∧ y ≤ y + h ∧ ∀ q, y ≤ q → q < y → ∀ i, x ≤ i → i < x + w → Ce (16 * q + i) = -1
            exact ⟨by omega, by omega, fun q a b => absurd b (by omega)⟩
          · rintro j ls hI hl ih34
            replace hI : y ≤ j ∧ j ≤ y + h ∧ ∀ q, y ≤ q → q < j → ∀ i, x ≤ i → i < x + w → Ce (16 * q + i) = -1 := hI
            obtain ⟨hj0, hj1, hall⟩ := hI
            replace hl : lv_has ls 7 [(0, .ref (bd 0)), (1, .int (iI x)), (2, .int (iI y)), (3, .int (iI w)), (4, .int (iI h)), (5, .int (iI j))] := hl
            refine lv_iload hx hb dX2_good_34 (lv_at hl 5 rfl) ?_
            refine lv_iload_n hx hb dX2_good_36 rfl (lv_at hl 2 rfl) ?_
            refine lv_iload hx hb dX2_good_37 (lv_at hl 4 rfl) ?_
            refine ri_iadd hx hb dX2_good_39 ?_
            refine ri_icmp_ge (tgt := 85) hx hb dX2_good_40 (by decide) (by omega) (by omega) (fun c40 => ?_) (fun c40 => ?_)
            · refine ri_iconst hx hb dX2_good_85 ?_
              exact ri_zret hx hb hr hlocks (by omega) (Or.inl ⟨rfl, by omega, by omega, by omega, by omega, fun q a b => hall q a (by omega)⟩) dX2_good_86
            · refine lv_iload_n hx hb dX2_good_43 rfl (lv_at hl 1 rfl) ?_
              refine lv_istore (lv' := [(6, .int (iI x)), (0, .ref (bd 0)), (1, .int (iI x)), (2, .int (iI y)), (3, .int (iI w)), (4, .int (iI h)), (5, .int (iI j))]) hx hb dX2_good_44 hl (by decide) rfl (fun ls hl => ?_)
              refine ri_loop (σ := Int) (nL := 7) (fun (i : Int) => (x + w - i).toNat) (fun (i : Int) => x ≤ i ∧ i ≤ x + w ∧ ∀ q, x ≤ q → q < i → Ce (16 * j + q) = -1) (fun (i : Int) => [(0, .ref (bd 0)), (1, .int (iI x)), (2, .int (iI y)), (3, .int (iI w)), (4, .int (iI h)), (5, .int (iI j)), (6, .int (iI i))]) (x) ?_ (lv_sub hl [1, 2, 3, 4, 5, 6, 0] rfl) ?_
              · show x ≤ x ∧ x ≤ x + w ∧ ∀ q, x ≤ q → q < x → Ce (16 * j + q) = -1
                exact ⟨by omega, by omega, fun q a b => absurd b (by omega)⟩
              · rintro i ls hI hl ih46
                replace hI : x ≤ i ∧ i ≤ x + w ∧ ∀ q, x ≤ q → q < i → Ce (16 * j + q) = -1 := hI
                obtain ⟨hi0, hi1, hrow⟩ := hI
                replace hl : lv_has ls 7 [(0, .ref (bd 0)), (1, .int (iI x)), (2, .int (iI y)), (3, .int (iI w)), (4, .int (iI h)), (5, .int (iI j)), (6, .int (iI i))] := hl
                refine lv_iload hx hb dX2_good_46 (lv_at hl 6 rfl) ?_
                refine lv_iload_n hx hb dX2_good_48 rfl (lv_at hl 1 rfl) ?_
                refine lv_iload_n hx hb dX2_good_49 rfl (lv_at hl 3 rfl) ?_
                refine ri_iadd hx hb dX2_good_50 ?_
                refine ri_icmp_ge (tgt := 79) hx hb dX2_good_51 (by decide) (by omega) (by omega) (fun c51 => ?_) (fun c51 => ?_)
                · refine ri_iinc (k := 5) (lv' := [(5, .int (iI (j + 1))), (0, .ref (bd 0)), (1, .int (iI x)), (2, .int (iI y)), (3, .int (iI w)), (4, .int (iI h)), (6, .int (iI i))]) hx hb dX2_good_79 hl rfl (by decide) rfl (fun ls hl => ?_)
                  refine lv_goto (tgt := 34) hx hb dX2_good_82 (by decide) ?_
                  exact ih34 (j + 1) ls (show y ≤ j + 1 ∧ j + 1 ≤ y + h ∧ ∀ q, y ≤ q → q < j + 1 → ∀ i, x ≤ i → i < x + w → Ce (16 * q + i) = -1 from ⟨by omega, by omega, all_stepY hall (fun i a b => hrow i a (by omega))⟩) (show (y + h - (j + 1)).toNat < (y + h - j).toNat by omega) (lv_sub hl [1, 2, 3, 4, 5, 0] rfl)
                · have hce := hCe (16 * j + i) (by omega) (by omega)
                  refine lv_aload_n hx hb dX2_good_54 rfl (lv_at hl 0 rfl) ?_
                  refine gm_Ce hx hb hts hown hK hP dX2_good_55 ?_
                  refine ri_bipush hx hb dX2_good_58 (by decide +kernel) ?_
                  refine lv_iload hx hb dX2_good_60 (lv_at hl 5 rfl) ?_
                  refine ri_imul hx hb dX2_good_62 ?_
                  refine lv_iload hx hb dX2_good_63 (lv_at hl 6 rfl) ?_
                  refine ri_iadd hx hb dX2_good_65 ?_
                  refine ri_iald hx hb hK hP 1 0 rfl rfl (by omega) (by decide) dX2_good_66 ?_
                  refine ri_iconst hx hb dX2_good_67 ?_
                  refine ri_icmp_eq (tgt := 73) hx hb dX2_good_68 (by decide) (by omega) (by omega) (fun c68 => ?_) (fun c68 => ?_)
                  · refine ri_iinc (k := 6) (lv' := [(6, .int (iI (i + 1))), (0, .ref (bd 0)), (1, .int (iI x)), (2, .int (iI y)), (3, .int (iI w)), (4, .int (iI h)), (5, .int (iI j))]) hx hb dX2_good_73 hl rfl (by decide) rfl (fun ls hl => ?_)
                    refine lv_goto (tgt := 46) hx hb dX2_good_76 (by decide) ?_
                    exact ih46 (i + 1) ls (show x ≤ i + 1 ∧ i + 1 ≤ x + w ∧ ∀ q, x ≤ q → q < i + 1 → Ce (16 * j + q) = -1 from ⟨by omega, by omega, all_stepY hrow c68⟩) (show (x + w - (i + 1)).toNat < (x + w - i).toNat by omega) (lv_sub hl [1, 2, 3, 4, 5, 6, 0] rfl)
                  · refine ri_iconst hx hb dX2_good_71 ?_
                    exact ri_zret hx hb hr hlocks (by omega) (Or.inr ⟨rfl, fun q => c68 (q.2.2.2.2 j (by omega) (by omega) i (by omega) (by omega))⟩) dX2_good_72
        · refine ri_iconst hx hb dX2_good_29 ?_
          exact ri_zret hx hb hr hlocks (by omega) (Or.inr ⟨rfl, fun q => by obtain ⟨q1, q2, q3, q4, -⟩ := q; omega⟩) dX2_good_30
set_option maxHeartbeats 4000000 in
set_option maxRecDepth 100000 in
theorem mx2_best (l : Launch) {D : va_G} {bd : Nat → Nat} {dN dZ : ClassId} {Cw Rw : Int} {Ce Lf Bt Wd Hg Th : Int → Int} (w h : Int) (hs : sizeP w h) (hC : 4 ≤ Cw ∧ Cw ≤ 16) (hR : 4 ≤ Rw ∧ Rw ≤ 16) (hCe : cellOk Ce) : MetR l yX2_best cX2_best 5 .int 1 26 [.ref (bd 0), .int (iI w), .int (iI h)] D (MW bd dN dZ Cw Rw Ce Lf Bt Wd Hg Th) (tM dN dZ) (fun z => BestS Ce Cw Rw w h z) := by
  refine ri_met RX2 rfl (by decide) (Nat.le_of_ble_eq_true rfl) ?_
  intro p e s m below meth c hx hb hr hts hown hlocks hml hnm hv ls hl
  obtain ⟨hP, hK⟩ := hv
  have hl : lv_has ls 5 [(0, .ref (bd 0)), (1, .int (iI w)), (2, .int (iI h))] := hl
  unfold sizeP at hs
  refine ri_iconst hx hb dX2_best_0 ?_
  refine lv_istore_n (lv' := [(3, .int (iI 0)), (0, .ref (bd 0)), (1, .int (iI w)), (2, .int (iI h))]) hx hb dX2_best_1 rfl hl (by decide) rfl (fun ls hl => ?_)
  refine ri_loop (σ := Int) (nL := 5) (fun (y : Int) => (Rw - y).toNat) (fun (y : Int) => 0 ≤ y ∧ y ≤ Rw ∧ ∀ y', 0 ≤ y' → y' < y → ∀ x', 0 ≤ x' → x' < Cw → ¬ gd Ce Cw Rw x' y' w h) (fun (y : Int) => [(0, .ref (bd 0)), (1, .int (iI w)), (2, .int (iI h)), (3, .int (iI y))]) (0) ?_ (lv_sub hl [1, 2, 3, 0] rfl) ?_
  · show 0 ≤ (0 : Int) ∧ (0 : Int) ≤ Rw ∧ ∀ y', 0 ≤ y' → y' < (0 : Int) → ∀ x', 0 ≤ x' → x' < Cw → ¬ gd Ce Cw Rw x' y' w h
    exact ⟨by omega, by omega, fun q a b => absurd b (by omega)⟩
  · rintro y ls hI hl ih2
    replace hI : 0 ≤ y ∧ y ≤ Rw ∧ ∀ y', 0 ≤ y' → y' < y → ∀ x', 0 ≤ x' → x' < Cw → ¬ gd Ce Cw Rw x' y' w h := hI
    obtain ⟨hy0, hy1, hall⟩ := hI
    replace hl : lv_has ls 5 [(0, .ref (bd 0)), (1, .int (iI w)), (2, .int (iI h)), (3, .int (iI y))] := hl
    refine lv_iload_n hx hb dX2_best_2 rfl (lv_at hl 3 rfl) ?_
    refine lv_aload_n hx hb dX2_best_3 rfl (lv_at hl 0 rfl) ?_
    refine gm_Rw hx hb hts hown hK hP dX2_best_4 ?_
    refine ri_icmp_ge (tgt := 55) hx hb dX2_best_7 (by decide) (by omega) (by omega) (fun c7 => ?_) (fun c7 => ?_)
    · refine ri_bipush hx hb dX2_best_55 (by decide +kernel) ?_
      exact ri_ret hx hb hr hlocks (Or.inr ⟨rfl, fun y' x' a b c d => hall y' a (by omega) x' c d⟩) dX2_best_57
    · refine ri_iconst hx hb dX2_best_10 ?_
      refine lv_istore (lv' := [(4, .int (iI 0)), (0, .ref (bd 0)), (1, .int (iI w)), (2, .int (iI h)), (3, .int (iI y))]) hx hb dX2_best_11 hl (by decide) rfl (fun ls hl => ?_)
      refine ri_loop (σ := Int) (nL := 5) (fun (x : Int) => (Cw - x).toNat) (fun (x : Int) => 0 ≤ x ∧ x ≤ Cw ∧ ∀ x', 0 ≤ x' → x' < x → ¬ gd Ce Cw Rw x' y w h) (fun (x : Int) => [(0, .ref (bd 0)), (1, .int (iI w)), (2, .int (iI h)), (3, .int (iI y)), (4, .int (iI x))]) (0) ?_ (lv_sub hl [1, 2, 3, 4, 0] rfl) ?_
      · show 0 ≤ (0 : Int) ∧ (0 : Int) ≤ Cw ∧ ∀ x', 0 ≤ x' → x' < (0 : Int) → ¬ gd Ce Cw Rw x' y w h
        exact ⟨by omega, by omega, fun q a b => absurd b (by omega)⟩
      · rintro x ls hI hl ih13
        replace hI : 0 ≤ x ∧ x ≤ Cw ∧ ∀ x', 0 ≤ x' → x' < x → ¬ gd Ce Cw Rw x' y w h := hI
        obtain ⟨hx0, hx1, hrow⟩ := hI
        replace hl : lv_has ls 5 [(0, .ref (bd 0)), (1, .int (iI w)), (2, .int (iI h)), (3, .int (iI y)), (4, .int (iI x))] := hl
        refine lv_iload hx hb dX2_best_13 (lv_at hl 4 rfl) ?_
        refine lv_aload_n hx hb dX2_best_15 rfl (lv_at hl 0 rfl) ?_
        refine gm_Cw hx hb hts hown hK hP dX2_best_16 ?_
        refine ri_icmp_ge (tgt := 49) hx hb dX2_best_19 (by decide) (by omega) (by omega) (fun c19 => ?_) (fun c19 => ?_)
        · refine ri_iinc (k := 3) (lv' := [(3, .int (iI (y + 1))), (0, .ref (bd 0)), (1, .int (iI w)), (2, .int (iI h)), (4, .int (iI x))]) hx hb dX2_best_49 hl rfl (by decide) rfl (fun ls hl => ?_)
          refine lv_goto (tgt := 2) hx hb dX2_best_52 (by decide) ?_
          exact ih2 (y + 1) ls (show 0 ≤ y + 1 ∧ y + 1 ≤ Rw ∧ ∀ y', 0 ≤ y' → y' < y + 1 → ∀ x', 0 ≤ x' → x' < Cw → ¬ gd Ce Cw Rw x' y' w h from ⟨by omega, by omega, all_step hall (fun x' a b => hrow x' a (by omega))⟩) (show (Rw - (y + 1)).toNat < (Rw - y).toNat by omega) (lv_sub hl [1, 2, 3, 0] rfl)
        · refine lv_aload_n hx hb dX2_best_22 rfl (lv_at hl 0 rfl) ?_
          refine lv_iload hx hb dX2_best_23 (lv_at hl 4 rfl) ?_
          refine lv_iload_n hx hb dX2_best_25 rfl (lv_at hl 3 rfl) ?_
          refine lv_iload_n hx hb dX2_best_26 rfl (lv_at hl 1 rfl) ?_
          refine lv_iload_n hx hb dX2_best_27 rfl (lv_at hl 2 rfl) ?_
          refine ri_callR (rest := []) (ci := 1) (q0 := 0) (mx2_good l x y w h (by omega) hC hR hCe) hx hb hml hown hts (cwV 4 hts (lw_V q258 q260 qs23 q32 q261) rfl rfl rfl (by decide +kernel) ⟨Nat.le_of_ble_eq_true rfl, Nat.le_of_ble_eq_true rfl⟩) hK hP rfl rfl rfl hl.1 rfl (Nat.le_of_ble_eq_true rfl) dX2_best_28 ⟨Nat.zero_le _, Nat.zero_le _⟩ (fun u hu => ?_)
          have hu01 : u = 0 ∨ u = 1 := by rcases hu with ⟨q, _⟩ | ⟨q, _⟩; exact Or.inr q; exact Or.inl q
          refine ri_if_eq (tgt := 43) hx hb dX2_best_31 (by decide) (by omega) (fun c31 => ?_) (fun c31 => ?_)
          · refine ri_iinc (k := 4) (lv' := [(4, .int (iI (x + 1))), (0, .ref (bd 0)), (1, .int (iI w)), (2, .int (iI h)), (3, .int (iI y))]) hx hb dX2_best_43 hl rfl (by decide) rfl (fun ls hl => ?_)
            refine lv_goto (tgt := 13) hx hb dX2_best_46 (by decide) ?_
            exact ih13 (x + 1) ls (show 0 ≤ x + 1 ∧ x + 1 ≤ Cw ∧ ∀ x', 0 ≤ x' → x' < x + 1 → ¬ gd Ce Cw Rw x' y w h from ⟨by omega, by omega, all_step hrow (by rcases hu with ⟨q, _⟩ | ⟨_, q⟩; omega; exact q)⟩) (show (Cw - (x + 1)).toNat < (Cw - x).toNat by omega) (lv_sub hl [1, 2, 3, 4, 0] rfl)
          · refine ri_sipush hx hb dX2_best_34 (by decide +kernel) ?_
            refine lv_iload_n hx hb dX2_best_37 rfl (lv_at hl 3 rfl) ?_
            refine ri_imul hx hb dX2_best_38 ?_
            refine lv_iload hx hb dX2_best_39 (lv_at hl 4 rfl) ?_
            refine ri_iadd hx hb dX2_best_41 ?_
            exact ri_ret hx hb hr hlocks (Or.inl ⟨x, y, hx0, by omega, hy0, by omega, (by rcases hu with ⟨_, q⟩ | ⟨q, _⟩; exact q; exact absurd q c31), rfl, fun y' x' a b c d => hall y' a b x' c d, hrow⟩) dX2_best_42
set_option maxHeartbeats 4000000 in
set_option maxRecDepth 100000 in
theorem mx2_count (l : Launch) {D : va_G} {bd : Nat → Nat} {dN dZ : ClassId} {Cw Rw : Int} {Ce Lf Bt Wd Hg Th : Int → Int} (ht : thOk Th) : MetR l yX2_count cX2_count 3 .int 0 0 [.ref (bd 0)] D (MW bd dN dZ Cw Rw Ce Lf Bt Wd Hg Th) (tM dN dZ) (fun z => z = sumI (cntT Th) 20) := by
  refine ri_met RX2 rfl (by decide) (Nat.le_of_ble_eq_true rfl) ?_
  intro p e s m below meth c hx hb hr hts hown hlocks hml hnm hv ls hl
  obtain ⟨hP, hK⟩ := hv
  have hl : lv_has ls 3 [(0, .ref (bd 0))] := hl
  refine ri_iconst hx hb dX2_count_0 ?_
  refine lv_istore_n (lv' := [(1, .int (iI 0)), (0, .ref (bd 0))]) hx hb dX2_count_1 rfl hl (by decide) rfl (fun ls hl => ?_)
  refine ri_iconst hx hb dX2_count_2 ?_
  refine lv_istore_n (lv' := [(2, .int (iI 0)), (1, .int (iI 0)), (0, .ref (bd 0))]) hx hb dX2_count_3 rfl hl (by decide) rfl (fun ls hl => ?_)
  refine ri_loop (σ := Int × Int) (nL := 3) (fun ((k, q) : Int × Int) => (20 - k).toNat) (fun ((k, q) : Int × Int) => 0 ≤ k ∧ k ≤ 20 ∧ q = sumI (cntT Th) k.toNat) (fun ((k, q) : Int × Int) => [(0, .ref (bd 0)), (1, .int (iI q)), (2, .int (iI k))]) (0, 0) ?_ (lv_sub hl [2, 1, 0] rfl) ?_
  · show 0 ≤ (0 : Int) ∧ (0 : Int) ≤ 20 ∧ (0 : Int) = sumI (cntT Th) (0 : Int).toNat
    exact ⟨by omega, by omega, by simp [sumI]⟩
  · rintro ⟨k, q⟩ ls hI hl ih4
    replace hI : 0 ≤ k ∧ k ≤ 20 ∧ q = sumI (cntT Th) k.toNat := hI
    obtain ⟨hk0, hk1, hq⟩ := hI
    replace hl : lv_has ls 3 [(0, .ref (bd 0)), (1, .int (iI q)), (2, .int (iI k))] := hl
    refine lv_iload_n hx hb dX2_count_4 rfl (lv_at hl 2 rfl) ?_
    refine ri_bipush hx hb dX2_count_5 (by decide +kernel) ?_
    refine ri_icmp_ge (tgt := 28) hx hb dX2_count_7 (by decide) (by omega) (by omega) (fun c7 => ?_) (fun c7 => ?_)
    · refine lv_iload_n hx hb dX2_count_28 rfl (lv_at hl 1 rfl) ?_
      have e : k = 20 := by omega
      subst e
      exact ri_ret hx hb hr hlocks (hq) dX2_count_29
    · have htk := ht k (by omega) (by omega)
      have hs := sumI_step (cntT Th) hk0
      refine lv_aload_n hx hb dX2_count_10 rfl (lv_at hl 0 rfl) ?_
      refine gm_Th hx hb hts hown hK hP dX2_count_11 ?_
      refine lv_iload_n hx hb dX2_count_14 rfl (lv_at hl 2 rfl) ?_
      refine ri_zald hx hb hK hP 6 1 rfl rfl (by omega) (by decide) dX2_count_15 ?_
      refine ri_if_eq (tgt := 22) hx hb dX2_count_16 (by decide) (by omega) (fun c16 => ?_) (fun c16 => ?_)
      · refine ri_iinc (k := 2) (lv' := [(2, .int (iI (k + 1))), (0, .ref (bd 0)), (1, .int (iI q))]) hx hb dX2_count_22 hl rfl (by decide) rfl (fun ls hl => ?_)
        refine lv_goto (tgt := 4) hx hb dX2_count_25 (by decide) ?_
        exact ih4 (k + 1, q) ls (show 0 ≤ k + 1 ∧ k + 1 ≤ 20 ∧ q = sumI (cntT Th) (k + 1).toNat from ⟨by omega, by omega, by rw [hs, hq, cntT, if_pos c16]; omega⟩) (show (20 - (k + 1)).toNat < (20 - k).toNat by omega) (lv_sub hl [1, 2, 0] rfl)
      · refine ri_iinc (k := 1) (lv' := [(1, .int (iI (q + 1))), (0, .ref (bd 0)), (2, .int (iI k))]) hx hb dX2_count_19 hl rfl (by decide) rfl (fun ls hl => ?_)
        refine ri_iinc (k := 2) (lv' := [(2, .int (iI (k + 1))), (1, .int (iI (q + 1))), (0, .ref (bd 0))]) hx hb dX2_count_22 hl rfl (by decide) rfl (fun ls hl => ?_)
        refine lv_goto (tgt := 4) hx hb dX2_count_25 (by decide) ?_
        exact ih4 (k + 1, q + 1) ls (show 0 ≤ k + 1 ∧ k + 1 ≤ 20 ∧ q + 1 = sumI (cntT Th) (k + 1).toNat from ⟨by omega, by omega, by rw [hs, hq, cntT, if_neg c16]⟩) (show (20 - (k + 1)).toNat < (20 - k).toNat by omega) (lv_sub hl [2, 1, 0] rfl)
set_option maxHeartbeats 4000000 in
set_option maxRecDepth 100000 in
theorem mx2_look (l : Launch) {D : va_G} {bd : Nat → Nat} {dN dZ : ClassId} {Cw Rw : Int} {Ce Lf Bt Wd Hg Th : Int → Int} (i v : Int) (hi' : -2147483648 ≤ i ∧ i < 2147483648) (hv' : -2147483648 ≤ v ∧ v < 2147483648) (ht : thOk Th) : MetR l yX2_look cX2_look 3 .int 1 21 [.ref (bd 0), .int (iI i), .int (iI v)] D (MW bd dN dZ Cw Rw Ce Lf Bt Wd Hg Th) (tM dN dZ) (fun z => (z = -1 ∧ ¬ (0 ≤ i ∧ i < 20 ∧ Th i ≠ 0)) ∨ ((0 ≤ i ∧ i < 20 ∧ Th i ≠ 0) ∧ ((v = 0 ∧ z = Lf i) ∨ (v = 1 ∧ z = Bt i) ∨ (v = 2 ∧ z = Wd i) ∨ (v = 3 ∧ z = Hg i) ∨ (v ≠ 0 ∧ v ≠ 1 ∧ v ≠ 2 ∧ v ≠ 3 ∧ z = -1)))) := by
  refine ri_met RX2 rfl (by decide) (Nat.le_of_ble_eq_true rfl) ?_
  intro p e s m below meth c hx hb hr hts hown hlocks hml hnm hv ls hl
  obtain ⟨hP, hK⟩ := hv
  have hl : lv_has ls 3 [(0, .ref (bd 0)), (1, .int (iI i)), (2, .int (iI v))] := hl
  refine lv_aload_n hx hb dX2_look_0 rfl (lv_at hl 0 rfl) ?_
  refine lv_iload_n hx hb dX2_look_1 rfl (lv_at hl 1 rfl) ?_
  refine ri_callR (rest := []) (ci := 1) (q0 := 0) (mx2_isThere l i hi' ht) hx hb hml hown hts (cwV 1 hts (lw_V q274 q276 qs26 q32 q277) rfl rfl rfl (by decide +kernel) ⟨Nat.le_of_ble_eq_true rfl, Nat.le_of_ble_eq_true rfl⟩) hK hP rfl rfl rfl hl.1 rfl (Nat.le_of_ble_eq_true rfl) dX2_look_2 ⟨Nat.zero_le _, Nat.zero_le _⟩ (fun u hu => ?_)
  refine ri_if_ne (tgt := 10) hx hb dX2_look_5 (by decide) (by omega) (fun c5 => ?_) (fun c5 => ?_)
  · refine lv_iload_n hx hb dX2_look_10 rfl (lv_at hl 2 rfl) ?_
    refine ri_if_ne (tgt := 21) hx hb dX2_look_11 (by decide) (by omega) (fun c11 => ?_) (fun c11 => ?_)
    · refine lv_iload_n hx hb dX2_look_21 rfl (lv_at hl 2 rfl) ?_
      refine ri_iconst hx hb dX2_look_22 ?_
      refine ri_icmp_ne (tgt := 33) hx hb dX2_look_23 (by decide) (by omega) (by omega) (fun c23 => ?_) (fun c23 => ?_)
      · refine lv_iload_n hx hb dX2_look_33 rfl (lv_at hl 2 rfl) ?_
        refine ri_iconst hx hb dX2_look_34 ?_
        refine ri_icmp_ne (tgt := 45) hx hb dX2_look_35 (by decide) (by omega) (by omega) (fun c35 => ?_) (fun c35 => ?_)
        · refine lv_iload_n hx hb dX2_look_45 rfl (lv_at hl 2 rfl) ?_
          refine ri_iconst hx hb dX2_look_46 ?_
          refine ri_icmp_ne (tgt := 59) hx hb dX2_look_47 (by decide) (by omega) (by omega) (fun c47 => ?_) (fun c47 => ?_)
          · refine ri_iconst hx hb dX2_look_59 ?_
            exact ri_ret hx hb hr hlocks (by omega) dX2_look_60
          · refine lv_aload_n hx hb dX2_look_50 rfl (lv_at hl 0 rfl) ?_
            refine gm_Hg hx hb hts hown hK hP dX2_look_51 ?_
            refine lv_iload_n hx hb dX2_look_54 rfl (lv_at hl 1 rfl) ?_
            refine ri_iald hx hb hK hP 5 0 rfl rfl (by omega) (by decide) dX2_look_55 ?_
            refine lv_goto (tgt := 60) hx hb dX2_look_56 (by decide) ?_
            exact ri_ret hx hb hr hlocks (by omega) dX2_look_60
        · refine lv_aload_n hx hb dX2_look_38 rfl (lv_at hl 0 rfl) ?_
          refine gm_Wd hx hb hts hown hK hP dX2_look_39 ?_
          refine lv_iload_n hx hb dX2_look_42 rfl (lv_at hl 1 rfl) ?_
          refine ri_iald hx hb hK hP 4 0 rfl rfl (by omega) (by decide) dX2_look_43 ?_
          exact ri_ret hx hb hr hlocks (by omega) dX2_look_44
      · refine lv_aload_n hx hb dX2_look_26 rfl (lv_at hl 0 rfl) ?_
        refine gm_Bt hx hb hts hown hK hP dX2_look_27 ?_
        refine lv_iload_n hx hb dX2_look_30 rfl (lv_at hl 1 rfl) ?_
        refine ri_iald hx hb hK hP 3 0 rfl rfl (by omega) (by decide) dX2_look_31 ?_
        exact ri_ret hx hb hr hlocks (by omega) dX2_look_32
    · refine lv_aload_n hx hb dX2_look_14 rfl (lv_at hl 0 rfl) ?_
      refine gm_Lf hx hb hts hown hK hP dX2_look_15 ?_
      refine lv_iload_n hx hb dX2_look_18 rfl (lv_at hl 1 rfl) ?_
      refine ri_iald hx hb hK hP 2 0 rfl rfl (by omega) (by decide) dX2_look_19 ?_
      exact ri_ret hx hb hr hlocks (by omega) dX2_look_20
  · refine ri_iconst hx hb dX2_look_8 ?_
    exact ri_ret hx hb hr hlocks (by omega) dX2_look_9
set_option maxHeartbeats 4000000 in
set_option maxRecDepth 100000 in
theorem mx2_owner (l : Launch) {D : va_G} {bd : Nat → Nat} {dN dZ : ClassId} {Cw Rw : Int} {Ce Lf Bt Wd Hg Th : Int → Int} (x y : Int) (hx' : -2147483648 ≤ x ∧ x < 2147483648) (hy' : -2147483648 ≤ y ∧ y < 2147483648) (hC : 4 ≤ Cw ∧ Cw ≤ 16) (hR : 4 ≤ Rw ∧ Rw ≤ 16) (hCe : cellOk Ce) : MetR l yX2_owner cX2_owner 4 .int 0 0 [.ref (bd 0), .int (iI x), .int (iI y)] D (MW bd dN dZ Cw Rw Ce Lf Bt Wd Hg Th) (tM dN dZ) (fun z => (z = -1 ∧ ¬ (0 ≤ x ∧ x < Cw ∧ 0 ≤ y ∧ y < Rw)) ∨ ((0 ≤ x ∧ x < Cw ∧ 0 ≤ y ∧ y < Rw) ∧ ((Ce (16 * y + x) = -1 ∧ z = -3) ∨ (Ce (16 * y + x) ≠ -1 ∧ z = Ce (16 * y + x))))) := by
  refine ri_met RX2 rfl (by decide) (Nat.le_of_ble_eq_true rfl) ?_
  intro p e s m below meth c hx hb hr hts hown hlocks hml hnm hv ls hl
  obtain ⟨hP, hK⟩ := hv
  have hl : lv_has ls 4 [(0, .ref (bd 0)), (1, .int (iI x)), (2, .int (iI y))] := hl
  refine lv_iload_n hx hb dX2_owner_0 rfl (lv_at hl 1 rfl) ?_
  refine ri_if_lt (tgt := 24) hx hb dX2_owner_1 (by decide) (by omega) (fun c1 => ?_) (fun c1 => ?_)
  · refine ri_iconst hx hb dX2_owner_24 ?_
    exact ri_ret hx hb hr hlocks (Or.inl ⟨rfl, by omega⟩) dX2_owner_25
  · refine lv_iload_n hx hb dX2_owner_4 rfl (lv_at hl 1 rfl) ?_
    refine lv_aload_n hx hb dX2_owner_5 rfl (lv_at hl 0 rfl) ?_
    refine gm_Cw hx hb hts hown hK hP dX2_owner_6 ?_
    refine ri_icmp_ge (tgt := 24) hx hb dX2_owner_9 (by decide) (by omega) (by omega) (fun c9 => ?_) (fun c9 => ?_)
    · refine ri_iconst hx hb dX2_owner_24 ?_
      exact ri_ret hx hb hr hlocks (Or.inl ⟨rfl, by omega⟩) dX2_owner_25
    · refine lv_iload_n hx hb dX2_owner_12 rfl (lv_at hl 2 rfl) ?_
      refine ri_if_lt (tgt := 24) hx hb dX2_owner_13 (by decide) (by omega) (fun c13 => ?_) (fun c13 => ?_)
      · refine ri_iconst hx hb dX2_owner_24 ?_
        exact ri_ret hx hb hr hlocks (Or.inl ⟨rfl, by omega⟩) dX2_owner_25
      · refine lv_iload_n hx hb dX2_owner_16 rfl (lv_at hl 2 rfl) ?_
        refine lv_aload_n hx hb dX2_owner_17 rfl (lv_at hl 0 rfl) ?_
        refine gm_Rw hx hb hts hown hK hP dX2_owner_18 ?_
        refine ri_icmp_lt (tgt := 26) hx hb dX2_owner_21 (by decide) (by omega) (by omega) (fun c21 => ?_) (fun c21 => ?_)
        · have hce := hCe (16 * y + x) (by omega) (by omega)
          refine lv_aload_n hx hb dX2_owner_26 rfl (lv_at hl 0 rfl) ?_
          refine gm_Ce hx hb hts hown hK hP dX2_owner_27 ?_
          refine ri_bipush hx hb dX2_owner_30 (by decide +kernel) ?_
          refine lv_iload_n hx hb dX2_owner_32 rfl (lv_at hl 2 rfl) ?_
          refine ri_imul hx hb dX2_owner_33 ?_
          refine lv_iload_n hx hb dX2_owner_34 rfl (lv_at hl 1 rfl) ?_
          refine ri_iadd hx hb dX2_owner_35 ?_
          refine ri_iald hx hb hK hP 1 0 rfl rfl (by omega) (by decide) dX2_owner_36 ?_
          refine lv_istore_n (lv' := [(3, .int (iI (Ce ((16 * y) + x)))), (0, .ref (bd 0)), (1, .int (iI x)), (2, .int (iI y))]) hx hb dX2_owner_37 rfl hl (by decide) rfl (fun ls hl => ?_)
          refine lv_iload_n hx hb dX2_owner_38 rfl (lv_at hl 0 rfl) ?_
          refine ri_iconst hx hb dX2_owner_39 ?_
          refine ri_icmp_ne (tgt := 48) hx hb dX2_owner_40 (by decide) (by omega) (by omega) (fun c40 => ?_) (fun c40 => ?_)
          · refine lv_iload_n hx hb dX2_owner_48 rfl (lv_at hl 0 rfl) ?_
            exact ri_ret hx hb hr hlocks (Or.inr ⟨by omega, Or.inr ⟨c40, rfl⟩⟩) dX2_owner_49
          · refine ri_bipush hx hb dX2_owner_43 (by decide +kernel) ?_
            refine lv_goto (tgt := 49) hx hb dX2_owner_45 (by decide) ?_
            exact ri_ret hx hb hr hlocks (Or.inr ⟨by omega, Or.inl ⟨c40, rfl⟩⟩) dX2_owner_49
        · refine ri_iconst hx hb dX2_owner_24 ?_
          exact ri_ret hx hb hr hlocks (Or.inl ⟨rfl, by omega⟩) dX2_owner_25
set_option maxHeartbeats 4000000 in
set_option maxRecDepth 100000 in
theorem mx2_freeCells (l : Launch) {D : va_G} {bd : Nat → Nat} {dN dZ : ClassId} {Cw Rw : Int} {Ce Lf Bt Wd Hg Th : Int → Int} (hC : 4 ≤ Cw ∧ Cw ≤ 16) (hR : 4 ≤ Rw ∧ Rw ≤ 16) (hCe : cellOk Ce) : MetR l yX2_freeCells cX2_freeCells 4 .int 0 0 [.ref (bd 0)] D (MW bd dN dZ Cw Rw Ce Lf Bt Wd Hg Th) (tM dN dZ) (fun z => z = sumI (freeC Ce Cw) Rw.toNat) := by
  refine ri_met RX2 rfl (by decide) (Nat.le_of_ble_eq_true rfl) ?_
  intro p e s m below meth c hx hb hr hts hown hlocks hml hnm hv ls hl
  obtain ⟨hP, hK⟩ := hv
  have hl : lv_has ls 4 [(0, .ref (bd 0))] := hl
  refine ri_iconst hx hb dX2_freeCells_0 ?_
  refine lv_istore_n (lv' := [(1, .int (iI 0)), (0, .ref (bd 0))]) hx hb dX2_freeCells_1 rfl hl (by decide) rfl (fun ls hl => ?_)
  refine ri_iconst hx hb dX2_freeCells_2 ?_
  refine lv_istore_n (lv' := [(2, .int (iI 0)), (1, .int (iI 0)), (0, .ref (bd 0))]) hx hb dX2_freeCells_3 rfl hl (by decide) rfl (fun ls hl => ?_)
  refine ri_loop (σ := Int × Int) (nL := 4) (fun ((y, q) : Int × Int) => (Rw - y).toNat) (fun ((y, q) : Int × Int) => 0 ≤ y ∧ y ≤ Rw ∧ q = sumI (freeC Ce Cw) y.toNat) (fun ((y, q) : Int × Int) => [(0, .ref (bd 0)), (1, .int (iI q)), (2, .int (iI y))]) (0, 0) ?_ (lv_sub hl [2, 1, 0] rfl) ?_
  · show 0 ≤ (0 : Int) ∧ (0 : Int) ≤ Rw ∧ (0 : Int) = sumI (freeC Ce Cw) (0 : Int).toNat
    exact ⟨by omega, by omega, by simp [sumI]⟩
  · rintro ⟨y, q⟩ ls hI hl ih4
    replace hI : 0 ≤ y ∧ y ≤ Rw ∧ q = sumI (freeC Ce Cw) y.toNat := hI
    obtain ⟨hy0, hy1, hq⟩ := hI
    replace hl : lv_has ls 4 [(0, .ref (bd 0)), (1, .int (iI q)), (2, .int (iI y))] := hl
    refine lv_iload_n hx hb dX2_freeCells_4 rfl (lv_at hl 2 rfl) ?_
    refine lv_aload_n hx hb dX2_freeCells_5 rfl (lv_at hl 0 rfl) ?_
    refine gm_Rw hx hb hts hown hK hP dX2_freeCells_6 ?_
    refine ri_icmp_ge (tgt := 52) hx hb dX2_freeCells_9 (by decide) (by omega) (by omega) (fun c9 => ?_) (fun c9 => ?_)
    · refine lv_iload_n hx hb dX2_freeCells_52 rfl (lv_at hl 1 rfl) ?_
      have e : y = Rw := by omega
      subst e
      exact ri_ret hx hb hr hlocks (hq) dX2_freeCells_53
    · refine ri_iconst hx hb dX2_freeCells_12 ?_
      refine lv_istore_n (lv' := [(3, .int (iI 0)), (0, .ref (bd 0)), (1, .int (iI q)), (2, .int (iI y))]) hx hb dX2_freeCells_13 rfl hl (by decide) rfl (fun ls hl => ?_)
      refine ri_loop (σ := Int × Int) (nL := 4) (fun ((x, v) : Int × Int) => (Cw - x).toNat) (fun ((x, v) : Int × Int) => 0 ≤ x ∧ x ≤ Cw ∧ v = q + sumI (fun x => if Ce (16 * y + x) = -1 then 1 else 0) x.toNat) (fun ((x, v) : Int × Int) => [(0, .ref (bd 0)), (1, .int (iI v)), (2, .int (iI y)), (3, .int (iI x))]) (0, q) ?_ (lv_sub hl [1, 2, 3, 0] rfl) ?_
      · show 0 ≤ (0 : Int) ∧ (0 : Int) ≤ Cw ∧ q = q + sumI (fun x => if Ce (16 * y + x) = -1 then 1 else 0) (0 : Int).toNat
        exact ⟨by omega, by omega, by simp [sumI]⟩
      · rintro ⟨x, v⟩ ls hI hl ih14
        replace hI : 0 ≤ x ∧ x ≤ Cw ∧ v = q + sumI (fun x => if Ce (16 * y + x) = -1 then 1 else 0) x.toNat := hI
        obtain ⟨hx0, hx1, hv⟩ := hI
        replace hl : lv_has ls 4 [(0, .ref (bd 0)), (1, .int (iI v)), (2, .int (iI y)), (3, .int (iI x))] := hl
        refine lv_iload_n hx hb dX2_freeCells_14 rfl (lv_at hl 3 rfl) ?_
        refine lv_aload_n hx hb dX2_freeCells_15 rfl (lv_at hl 0 rfl) ?_
        refine gm_Cw hx hb hts hown hK hP dX2_freeCells_16 ?_
        refine ri_icmp_ge (tgt := 46) hx hb dX2_freeCells_19 (by decide) (by omega) (by omega) (fun c19 => ?_) (fun c19 => ?_)
        · have e : x = Cw := by omega
          rw [e] at hv
          have hs := sumI_step (freeC Ce Cw) hy0
          refine ri_iinc (k := 2) (lv' := [(2, .int (iI (y + 1))), (0, .ref (bd 0)), (1, .int (iI v)), (3, .int (iI x))]) hx hb dX2_freeCells_46 hl rfl (by decide) rfl (fun ls hl => ?_)
          refine lv_goto (tgt := 4) hx hb dX2_freeCells_49 (by decide) ?_
          exact ih4 (y + 1, v) ls (show 0 ≤ y + 1 ∧ y + 1 ≤ Rw ∧ v = sumI (freeC Ce Cw) (y + 1).toNat from ⟨by omega, by omega, by rw [hs, hv, hq]; rfl⟩) (show (Rw - (y + 1)).toNat < (Rw - y).toNat by omega) (lv_sub hl [1, 2, 0] rfl)
        · have hce := hCe (16 * y + x) (by omega) (by omega)
          have hs := sumI_step (fun x => if Ce (16 * y + x) = -1 then 1 else 0) hx0
          refine lv_aload_n hx hb dX2_freeCells_22 rfl (lv_at hl 0 rfl) ?_
          refine gm_Ce hx hb hts hown hK hP dX2_freeCells_23 ?_
          refine ri_bipush hx hb dX2_freeCells_26 (by decide +kernel) ?_
          refine lv_iload_n hx hb dX2_freeCells_28 rfl (lv_at hl 2 rfl) ?_
          refine ri_imul hx hb dX2_freeCells_29 ?_
          refine lv_iload_n hx hb dX2_freeCells_30 rfl (lv_at hl 3 rfl) ?_
          refine ri_iadd hx hb dX2_freeCells_31 ?_
          refine ri_iald hx hb hK hP 1 0 rfl rfl (by omega) (by decide) dX2_freeCells_32 ?_
          refine ri_iconst hx hb dX2_freeCells_33 ?_
          refine ri_icmp_ne (tgt := 40) hx hb dX2_freeCells_34 (by decide) (by omega) (by omega) (fun c34 => ?_) (fun c34 => ?_)
          · refine ri_iinc (k := 3) (lv' := [(3, .int (iI (x + 1))), (0, .ref (bd 0)), (1, .int (iI v)), (2, .int (iI y))]) hx hb dX2_freeCells_40 hl rfl (by decide) rfl (fun ls hl => ?_)
            refine lv_goto (tgt := 14) hx hb dX2_freeCells_43 (by decide) ?_
            exact ih14 (x + 1, v) ls (show 0 ≤ x + 1 ∧ x + 1 ≤ Cw ∧ v = q + sumI (fun x => if Ce (16 * y + x) = -1 then 1 else 0) (x + 1).toNat from ⟨by omega, by omega, by rw [hs, hv, if_neg c34]; omega⟩) (show (Cw - (x + 1)).toNat < (Cw - x).toNat by omega) (lv_sub hl [1, 2, 3, 0] rfl)
          · refine ri_iinc (k := 1) (lv' := [(1, .int (iI (v + 1))), (0, .ref (bd 0)), (2, .int (iI y)), (3, .int (iI x))]) hx hb dX2_freeCells_37 hl rfl (by decide) rfl (fun ls hl => ?_)
            refine ri_iinc (k := 3) (lv' := [(3, .int (iI (x + 1))), (1, .int (iI (v + 1))), (0, .ref (bd 0)), (2, .int (iI y))]) hx hb dX2_freeCells_40 hl rfl (by decide) rfl (fun ls hl => ?_)
            refine lv_goto (tgt := 14) hx hb dX2_freeCells_43 (by decide) ?_
            exact ih14 (x + 1, v + 1) ls (show 0 ≤ x + 1 ∧ x + 1 ≤ Cw ∧ v + 1 = q + sumI (fun x => if Ce (16 * y + x) = -1 then 1 else 0) (x + 1).toNat from ⟨by omega, by omega, by rw [hs, hv, if_pos c34]; omega⟩) (show (Cw - (x + 1)).toNat < (Cw - x).toNat by omega) (lv_sub hl [2, 1, 3, 0] rfl)
set_option maxHeartbeats 4000000 in
set_option maxRecDepth 100000 in
theorem mx2_tallest (l : Launch) {D : va_G} {bd : Nat → Nat} {dN dZ : ClassId} {Cw Rw : Int} {Ce Lf Bt Wd Hg Th : Int → Int} (x y w : Int) (hr3 : (0 ≤ x ∧ x < 16) ∧ (0 ≤ y ∧ y < 16) ∧ (1 ≤ w ∧ w ≤ 16)) (hC : 4 ≤ Cw ∧ Cw ≤ 16) (hR : 4 ≤ Rw ∧ Rw ≤ 16) (hCe : cellOk Ce) : MetR l yX2_tallest cX2_tallest 5 .int 1 26 [.ref (bd 0), .int (iI x), .int (iI y), .int (iI w)] D (MW bd dN dZ Cw Rw Ce Lf Bt Wd Hg Th) (tM dN dZ) (fun z => TalS Ce Cw Rw x y w z) := by
  refine ri_met RX2 rfl (by decide) (Nat.le_of_ble_eq_true rfl) ?_
  intro p e s m below meth c hx hb hr hts hown hlocks hml hnm hv ls hl
  obtain ⟨hP, hK⟩ := hv
  have hl : lv_has ls 5 [(0, .ref (bd 0)), (1, .int (iI x)), (2, .int (iI y)), (3, .int (iI w))] := hl
  refine ri_iconst hx hb dX2_tallest_0 ?_
  refine lv_istore (lv' := [(4, .int (iI 1)), (0, .ref (bd 0)), (1, .int (iI x)), (2, .int (iI y)), (3, .int (iI w))]) hx hb dX2_tallest_1 hl (by decide) rfl (fun ls hl => ?_)
  refine ri_loop (σ := Int) (nL := 5) (fun (t : Int) => (17 - t).toNat) (fun (t : Int) => 1 ≤ t ∧ t ≤ 17 ∧ (Rw ≤ y ∨ t ≤ Rw - y + 1) ∧ ∀ j, y ≤ j → j < y + (t - 1) → rowG Ce Cw Rw x w j) (fun (t : Int) => [(0, .ref (bd 0)), (1, .int (iI x)), (2, .int (iI y)), (3, .int (iI w)), (4, .int (iI t))]) (1) ?_ (lv_sub hl [1, 2, 3, 4, 0] rfl) ?_
  · show 1 ≤ (1 : Int) ∧ (1 : Int) ≤ 17 ∧ (Rw ≤ y ∨ (1 : Int) ≤ Rw - y + 1) ∧ ∀ j, y ≤ j → j < y + ((1 : Int) - 1) → rowG Ce Cw Rw x w j
    exact ⟨by omega, by omega, by omega, fun q a b => absurd b (by omega)⟩
  · rintro t ls hI hl ih3
    replace hI : 1 ≤ t ∧ t ≤ 17 ∧ (Rw ≤ y ∨ t ≤ Rw - y + 1) ∧ ∀ j, y ≤ j → j < y + (t - 1) → rowG Ce Cw Rw x w j := hI
    obtain ⟨ht0, ht1, ht2, hall⟩ := hI
    replace hl : lv_has ls 5 [(0, .ref (bd 0)), (1, .int (iI x)), (2, .int (iI y)), (3, .int (iI w)), (4, .int (iI t))] := hl
    refine lv_iload hx hb dX2_tallest_3 (lv_at hl 4 rfl) ?_
    refine lv_aload_n hx hb dX2_tallest_5 rfl (lv_at hl 0 rfl) ?_
    refine gm_Rw hx hb hts hown hK hP dX2_tallest_6 ?_
    refine lv_iload_n hx hb dX2_tallest_9 rfl (lv_at hl 2 rfl) ?_
    refine ri_isub hx hb dX2_tallest_10 ?_
    refine ri_icmp_gt (tgt := 41) hx hb dX2_tallest_11 (by decide) (by omega) (by omega) (fun c11 => ?_) (fun c11 => ?_)
    · refine lv_aload_n hx hb dX2_tallest_41 rfl (lv_at hl 0 rfl) ?_
      refine gm_Rw hx hb hts hown hK hP dX2_tallest_42 ?_
      refine lv_iload_n hx hb dX2_tallest_45 rfl (lv_at hl 2 rfl) ?_
      refine ri_isub hx hb dX2_tallest_46 ?_
      exact ri_ret hx hb hr hlocks (by
                        by_cases q : Rw ≤ y
                        · exact Or.inl ⟨q, rfl⟩
                        · exact Or.inr ⟨by omega, by omega, by omega, fun j a b => hall j a (by omega), Or.inl rfl⟩) dX2_tallest_47
    · refine lv_aload_n hx hb dX2_tallest_14 rfl (lv_at hl 0 rfl) ?_
      refine lv_iload_n hx hb dX2_tallest_15 rfl (lv_at hl 1 rfl) ?_
      refine lv_iload_n hx hb dX2_tallest_16 rfl (lv_at hl 2 rfl) ?_
      refine lv_iload hx hb dX2_tallest_17 (lv_at hl 4 rfl) ?_
      refine ri_iadd hx hb dX2_tallest_19 ?_
      refine ri_iconst hx hb dX2_tallest_20 ?_
      refine ri_isub hx hb dX2_tallest_21 ?_
      refine ri_cast (b := y + (t - 1)) (by omega) ?_
      refine lv_iload_n hx hb dX2_tallest_22 rfl (lv_at hl 3 rfl) ?_
      refine ri_iconst hx hb dX2_tallest_23 ?_
      refine ri_callR (rest := []) (ci := 1) (q0 := 0) (mx2_good l x (y + (t - 1)) w 1 (by omega) hC hR hCe) hx hb hml hown hts (cwV 4 hts (lw_V q258 q260 qs23 q32 q261) rfl rfl rfl (by decide +kernel) ⟨Nat.le_of_ble_eq_true rfl, Nat.le_of_ble_eq_true rfl⟩) hK hP rfl rfl rfl hl.1 rfl (Nat.le_of_ble_eq_true rfl) dX2_tallest_24 ⟨Nat.zero_le _, Nat.zero_le _⟩ (fun u hu => ?_)
      have hu01 : u = 0 ∨ u = 1 := by rcases hu with ⟨q, _⟩ | ⟨q, _⟩; exact Or.inr q; exact Or.inl q
      refine ri_if_ne (tgt := 35) hx hb dX2_tallest_27 (by decide) (by omega) (fun c27 => ?_) (fun c27 => ?_)
      · refine ri_iinc (k := 4) (lv' := [(4, .int (iI (t + 1))), (0, .ref (bd 0)), (1, .int (iI x)), (2, .int (iI y)), (3, .int (iI w))]) hx hb dX2_tallest_35 hl rfl (by decide) rfl (fun ls hl => ?_)
        refine lv_goto (tgt := 3) hx hb dX2_tallest_38 (by decide) ?_
        exact ih3 (t + 1) ls (show 1 ≤ t + 1 ∧ t + 1 ≤ 17 ∧ (Rw ≤ y ∨ t + 1 ≤ Rw - y + 1) ∧ ∀ j, y ≤ j → j < y + (t + 1 - 1) → rowG Ce Cw Rw x w j from ⟨by omega, by omega, by omega, fun j a b => by
                    by_cases e : j = y + (t - 1)
                    · subst e; rcases hu with ⟨_, q⟩ | ⟨q, _⟩; exact q; exact absurd q c27
                    · exact hall j a (by omega)⟩) (show (17 - (t + 1)).toNat < (17 - t).toNat by omega) (lv_sub hl [1, 2, 3, 4, 0] rfl)
      · refine lv_iload hx hb dX2_tallest_30 (lv_at hl 4 rfl) ?_
        refine ri_iconst hx hb dX2_tallest_32 ?_
        refine ri_isub hx hb dX2_tallest_33 ?_
        exact ri_ret hx hb hr hlocks (Or.inr ⟨by omega, by omega, by omega, fun j a b => hall j a (by omega), Or.inr (by rcases hu with ⟨q, _⟩ | ⟨_, q⟩; exact absurd (q.symm.trans c27) (by omega); exact q)⟩) dX2_tallest_34
set_option maxHeartbeats 4000000 in
set_option maxRecDepth 100000 in
theorem mx2_closed (l : Launch) {D : va_G} {bd : Nat → Nat} {dN dZ : ClassId} {Cw Rw : Int} {Ce Lf Bt Wd Hg Th : Int → Int} (x y w h : Int) (hr3 : (0 ≤ x ∧ x < 16) ∧ (0 ≤ y ∧ y < 16) ∧ (1 ≤ w ∧ w ≤ 16) ∧ (1 ≤ h ∧ h ≤ 16)) (hC : 4 ≤ Cw ∧ Cw ≤ 16) (hR : 4 ≤ Rw ∧ Rw ≤ 16) (hCe : cellOk Ce) : MetR l yX2_closed cX2_closed 5 .boolean 1 26 [.ref (bd 0), .int (iI x), .int (iI y), .int (iI w), .int (iI h)] D (MW bd dN dZ Cw Rw Ce Lf Bt Wd Hg Th) (tM dN dZ) (fun z => (z = 1 ∧ ¬ gd Ce Cw Rw (x - 1) y 1 h ∧ ¬ gd Ce Cw Rw (x + w) y 1 h ∧ ¬ gd Ce Cw Rw x (y - 1) w 1) ∨ (z = 0 ∧ ¬ (¬ gd Ce Cw Rw (x - 1) y 1 h ∧ ¬ gd Ce Cw Rw (x + w) y 1 h ∧ ¬ gd Ce Cw Rw x (y - 1) w 1))) := by
  refine ri_met RX2 rfl (by decide) (Nat.le_of_ble_eq_true rfl) ?_
  intro p e s m below meth c hx hb hr hts hown hlocks hml hnm hv ls hl
  obtain ⟨hP, hK⟩ := hv
  have hl : lv_has ls 5 [(0, .ref (bd 0)), (1, .int (iI x)), (2, .int (iI y)), (3, .int (iI w)), (4, .int (iI h))] := hl
  refine lv_aload_n hx hb dX2_closed_0 rfl (lv_at hl 0 rfl) ?_
  refine lv_iload_n hx hb dX2_closed_1 rfl (lv_at hl 1 rfl) ?_
  refine ri_iconst hx hb dX2_closed_2 ?_
  refine ri_isub hx hb dX2_closed_3 ?_
  refine lv_iload_n hx hb dX2_closed_4 rfl (lv_at hl 2 rfl) ?_
  refine ri_iconst hx hb dX2_closed_5 ?_
  refine lv_iload hx hb dX2_closed_6 (lv_at hl 4 rfl) ?_
  refine ri_callR (rest := []) (ci := 1) (q0 := 0) (mx2_good l (x - 1) y 1 h (by omega) hC hR hCe) hx hb hml hown hts (cwV 4 hts (lw_V q258 q260 qs23 q32 q261) rfl rfl rfl (by decide +kernel) ⟨Nat.le_of_ble_eq_true rfl, Nat.le_of_ble_eq_true rfl⟩) hK hP rfl rfl rfl hl.1 rfl (Nat.le_of_ble_eq_true rfl) dX2_closed_8 ⟨Nat.zero_le _, Nat.zero_le _⟩ (fun u1 hu1 => ?_)
  have h01 : u1 = 0 ∨ u1 = 1 := by rcases hu1 with ⟨q, _⟩ | ⟨q, _⟩; exact Or.inr q; exact Or.inl q
  refine ri_if_ne (tgt := 45) hx hb dX2_closed_11 (by decide) (by omega) (fun d0 => ?_) (fun d0 => ?_)
  · have hg0 : gd Ce Cw Rw (x - 1) y 1 h := by rcases hu1 with ⟨_, q⟩ | ⟨q, _⟩; exact q; exact absurd q d0
    refine ri_iconst hx hb dX2_closed_45 ?_
    exact ri_zret hx hb hr hlocks (by omega) (Or.inr ⟨rfl, fun q => q.1 hg0⟩) dX2_closed_46
  · have hn0 : ¬ gd Ce Cw Rw (x - 1) y 1 h := by rcases hu1 with ⟨q, _⟩ | ⟨_, q⟩; exact absurd (q.symm.trans d0) (by omega); exact q
    refine lv_aload_n hx hb dX2_closed_14 rfl (lv_at hl 0 rfl) ?_
    refine lv_iload_n hx hb dX2_closed_15 rfl (lv_at hl 1 rfl) ?_
    refine lv_iload_n hx hb dX2_closed_16 rfl (lv_at hl 3 rfl) ?_
    refine ri_iadd hx hb dX2_closed_17 ?_
    refine lv_iload_n hx hb dX2_closed_18 rfl (lv_at hl 2 rfl) ?_
    refine ri_iconst hx hb dX2_closed_19 ?_
    refine lv_iload hx hb dX2_closed_20 (lv_at hl 4 rfl) ?_
    refine ri_callR (rest := []) (ci := 1) (q0 := 0) (mx2_good l (x + w) y 1 h (by omega) hC hR hCe) hx hb hml hown hts (cwV 4 hts (lw_V q258 q260 qs23 q32 q261) rfl rfl rfl (by decide +kernel) ⟨Nat.le_of_ble_eq_true rfl, Nat.le_of_ble_eq_true rfl⟩) hK hP rfl rfl rfl hl.1 rfl (Nat.le_of_ble_eq_true rfl) dX2_closed_22 ⟨Nat.zero_le _, Nat.zero_le _⟩ (fun u2 hu2 => ?_)
    have h01 : u2 = 0 ∨ u2 = 1 := by rcases hu2 with ⟨q, _⟩ | ⟨q, _⟩; exact Or.inr q; exact Or.inl q
    refine ri_if_ne (tgt := 45) hx hb dX2_closed_25 (by decide) (by omega) (fun d1 => ?_) (fun d1 => ?_)
    · have hg1 : gd Ce Cw Rw (x + w) y 1 h := by rcases hu2 with ⟨_, q⟩ | ⟨q, _⟩; exact q; exact absurd q d1
      refine ri_iconst hx hb dX2_closed_45 ?_
      exact ri_zret hx hb hr hlocks (by omega) (Or.inr ⟨rfl, fun q => q.2.1 hg1⟩) dX2_closed_46
    · have hn1 : ¬ gd Ce Cw Rw (x + w) y 1 h := by rcases hu2 with ⟨q, _⟩ | ⟨_, q⟩; exact absurd (q.symm.trans d1) (by omega); exact q
      refine lv_aload_n hx hb dX2_closed_28 rfl (lv_at hl 0 rfl) ?_
      refine lv_iload_n hx hb dX2_closed_29 rfl (lv_at hl 1 rfl) ?_
      refine lv_iload_n hx hb dX2_closed_30 rfl (lv_at hl 2 rfl) ?_
      refine ri_iconst hx hb dX2_closed_31 ?_
      refine ri_isub hx hb dX2_closed_32 ?_
      refine lv_iload_n hx hb dX2_closed_33 rfl (lv_at hl 3 rfl) ?_
      refine ri_iconst hx hb dX2_closed_34 ?_
      refine ri_callR (rest := []) (ci := 1) (q0 := 0) (mx2_good l x (y - 1) w 1 (by omega) hC hR hCe) hx hb hml hown hts (cwV 4 hts (lw_V q258 q260 qs23 q32 q261) rfl rfl rfl (by decide +kernel) ⟨Nat.le_of_ble_eq_true rfl, Nat.le_of_ble_eq_true rfl⟩) hK hP rfl rfl rfl hl.1 rfl (Nat.le_of_ble_eq_true rfl) dX2_closed_35 ⟨Nat.zero_le _, Nat.zero_le _⟩ (fun u3 hu3 => ?_)
      have h01 : u3 = 0 ∨ u3 = 1 := by rcases hu3 with ⟨q, _⟩ | ⟨q, _⟩; exact Or.inr q; exact Or.inl q
      refine ri_if_ne (tgt := 45) hx hb dX2_closed_38 (by decide) (by omega) (fun d2 => ?_) (fun d2 => ?_)
      · have hg2 : gd Ce Cw Rw x (y - 1) w 1 := by rcases hu3 with ⟨_, q⟩ | ⟨q, _⟩; exact q; exact absurd q d2
        refine ri_iconst hx hb dX2_closed_45 ?_
        exact ri_zret hx hb hr hlocks (by omega) (Or.inr ⟨rfl, fun q => q.2.2 hg2⟩) dX2_closed_46
      · have hn2 : ¬ gd Ce Cw Rw x (y - 1) w 1 := by rcases hu3 with ⟨q, _⟩ | ⟨_, q⟩; exact absurd (q.symm.trans d2) (by omega); exact q
        refine ri_iconst hx hb dX2_closed_41 ?_
        refine lv_goto (tgt := 46) hx hb dX2_closed_42 (by decide) ?_
        exact ri_zret hx hb hr hlocks (by omega) (Or.inl ⟨rfl, hn0, hn1, hn2⟩) dX2_closed_46
set_option maxHeartbeats 4000000 in
set_option maxRecDepth 100000 in
theorem mx2_areaOfHole (l : Launch) {D : va_G} {bd : Nat → Nat} {dN dZ : ClassId} {Cw Rw : Int} {Ce Lf Bt Wd Hg Th : Int → Int} (x y w : Int) (hr3 : (0 ≤ x ∧ x < 16) ∧ (0 ≤ y ∧ y < 16) ∧ (1 ≤ w ∧ w ≤ 16)) (hC : 4 ≤ Cw ∧ Cw ≤ 16) (hR : 4 ≤ Rw ∧ Rw ≤ 16) (hCe : cellOk Ce) : MetR l yX2_areaOfHole cX2_areaOfHole 5 .int 2 50 [.ref (bd 0), .int (iI x), .int (iI y), .int (iI w)] D (MW bd dN dZ Cw Rw Ce Lf Bt Wd Hg Th) (tM dN dZ) (fun z => ArS Ce Cw Rw x y w z) := by
  refine ri_met RX2 rfl (by decide) (Nat.le_of_ble_eq_true rfl) ?_
  intro p e s m below meth c hx hb hr hts hown hlocks hml hnm hv ls hl
  obtain ⟨hP, hK⟩ := hv
  have hl : lv_has ls 5 [(0, .ref (bd 0)), (1, .int (iI x)), (2, .int (iI y)), (3, .int (iI w))] := hl
  refine lv_iload_n hx hb dX2_areaOfHole_0 rfl (lv_at hl 3 rfl) ?_
  refine lv_aload_n hx hb dX2_areaOfHole_1 rfl (lv_at hl 0 rfl) ?_
  refine gm_Cw hx hb hts hown hK hP dX2_areaOfHole_2 ?_
  refine lv_iload_n hx hb dX2_areaOfHole_5 rfl (lv_at hl 1 rfl) ?_
  refine ri_isub hx hb dX2_areaOfHole_6 ?_
  refine ri_icmp_le (tgt := 12) hx hb dX2_areaOfHole_7 (by decide) (by omega) (by omega) (fun c7 => ?_) (fun c7 => ?_)
  · refine lv_aload_n hx hb dX2_areaOfHole_12 rfl (lv_at hl 0 rfl) ?_
    refine lv_iload_n hx hb dX2_areaOfHole_13 rfl (lv_at hl 1 rfl) ?_
    refine lv_iload_n hx hb dX2_areaOfHole_14 rfl (lv_at hl 2 rfl) ?_
    refine lv_iload_n hx hb dX2_areaOfHole_15 rfl (lv_at hl 3 rfl) ?_
    refine ri_callR (rest := []) (ci := 1) (q0 := 0) (mx2_tallest l x y w (by omega) hC hR hCe) hx hb hml hown hts (cwV 3 hts (lw_V q298 q300 qs28 q32 q301) rfl rfl rfl (by decide +kernel) ⟨Nat.le_of_ble_eq_true rfl, Nat.le_of_ble_eq_true rfl⟩) hK hP rfl rfl rfl hl.1 rfl (Nat.le_of_ble_eq_true rfl) dX2_areaOfHole_16 ⟨Nat.zero_le _, Nat.zero_le _⟩ (fun t ht => ?_)
    have htr : t ≤ 16 ∧ -16 ≤ t := by rcases ht with ⟨a, b⟩ | ⟨a, b, c, -, -⟩ <;> omega
    refine lv_istore (lv' := [(4, .int (iI t)), (0, .ref (bd 0)), (1, .int (iI x)), (2, .int (iI y)), (3, .int (iI w))]) hx hb dX2_areaOfHole_19 hl (by decide) rfl (fun ls hl => ?_)
    refine lv_iload hx hb dX2_areaOfHole_21 (lv_at hl 0 rfl) ?_
    refine ri_if_le (tgt := 45) hx hb dX2_areaOfHole_23 (by decide) (by omega) (fun c23 => ?_) (fun c23 => ?_)
    · refine ri_iconst hx hb dX2_areaOfHole_45 ?_
      exact ri_ret hx hb hr hlocks (Or.inr ⟨rfl, fun h q => by have e := TalS_uniq ht q.2.1; have := q.2.2.1; omega⟩) dX2_areaOfHole_46
    · refine lv_aload_n hx hb dX2_areaOfHole_26 rfl (lv_at hl 1 rfl) ?_
      refine lv_iload_n hx hb dX2_areaOfHole_27 rfl (lv_at hl 2 rfl) ?_
      refine lv_iload_n hx hb dX2_areaOfHole_28 rfl (lv_at hl 3 rfl) ?_
      refine lv_iload_n hx hb dX2_areaOfHole_29 rfl (lv_at hl 4 rfl) ?_
      refine lv_iload hx hb dX2_areaOfHole_30 (lv_at hl 0 rfl) ?_
      refine ri_callR (rest := []) (ci := 1) (q0 := 0) (mx2_closed l x y w t (by omega) hC hR hCe) hx hb hml hown hts (cwV 4 hts (lw_V q302 q304 qs29 q32 q305) rfl rfl rfl (by decide +kernel) ⟨Nat.le_of_ble_eq_true rfl, Nat.le_of_ble_eq_true rfl⟩) hK hP rfl rfl rfl hl.1 rfl (Nat.le_of_ble_eq_true rfl) dX2_areaOfHole_32 ⟨Nat.zero_le _, Nat.zero_le _⟩ (fun u hu => ?_)
      have h01 : u = 0 ∨ u = 1 := by rcases hu with ⟨q, _⟩ | ⟨q, _⟩; exact Or.inr q; exact Or.inl q
      refine ri_if_eq (tgt := 45) hx hb dX2_areaOfHole_35 (by decide) (by omega) (fun c35 => ?_) (fun c35 => ?_)
      · refine ri_iconst hx hb dX2_areaOfHole_45 ?_
        exact ri_ret hx hb hr hlocks (Or.inr ⟨rfl, fun h q => by
                        have e := TalS_uniq ht q.2.1
                        subst e
                        rcases hu with ⟨a, _⟩ | ⟨_, a⟩
                        · omega
                        · exact a q.2.2.2⟩) dX2_areaOfHole_46
      · refine lv_iload_n hx hb dX2_areaOfHole_38 rfl (lv_at hl 4 rfl) ?_
        refine lv_iload hx hb dX2_areaOfHole_39 (lv_at hl 0 rfl) ?_
        refine ri_imul hx hb dX2_areaOfHole_41 ?_
        refine lv_goto (tgt := 46) hx hb dX2_areaOfHole_42 (by decide) ?_
        exact ri_ret hx hb hr hlocks (Or.inl ⟨t, by omega, ⟨by omega, ht, by omega, by rcases hu with ⟨_, a⟩ | ⟨a, _⟩; exact a; exact absurd a c35⟩, rfl⟩) dX2_areaOfHole_46
  · refine ri_iconst hx hb dX2_areaOfHole_10 ?_
    exact ri_ret hx hb hr hlocks (Or.inr ⟨rfl, fun h q => by have := q.1; omega⟩) dX2_areaOfHole_11
set_option maxHeartbeats 4000000 in
set_option maxRecDepth 100000 in
theorem mx2_holes (l : Launch) {D : va_G} {bd : Nat → Nat} {dN dZ : ClassId} {Cw Rw : Int} {Ce Lf Bt Wd Hg Th : Int → Int} (hC : 4 ≤ Cw ∧ Cw ≤ 16) (hR : 4 ≤ Rw ∧ Rw ≤ 16) (hCe : cellOk Ce) : MetR l yX2_holes cX2_holes 4 .int 3 74 [.ref (bd 0)] D (MW bd dN dZ Cw Rw Ce Lf Bt Wd Hg Th) (tM dN dZ) (fun z => z = sumI (fun q => cntR Ce Cw Rw q Cw.toNat) 256) := by
  refine ri_met RX2 rfl (by decide) (Nat.le_of_ble_eq_true rfl) ?_
  intro p e s m below meth c hx hb hr hts hown hlocks hml hnm hv ls hl
  obtain ⟨hP, hK⟩ := hv
  have hl : lv_has ls 4 [(0, .ref (bd 0))] := hl
  refine ri_iconst hx hb dX2_holes_0 ?_
  refine lv_istore_n (lv' := [(1, .int (iI 0)), (0, .ref (bd 0))]) hx hb dX2_holes_1 rfl hl (by decide) rfl (fun ls hl => ?_)
  refine ri_iconst hx hb dX2_holes_2 ?_
  refine lv_istore_n (lv' := [(2, .int (iI 0)), (1, .int (iI 0)), (0, .ref (bd 0))]) hx hb dX2_holes_3 rfl hl (by decide) rfl (fun ls hl => ?_)
  refine ri_loop (σ := Int × Int) (nL := 4) (fun ((xy, q) : Int × Int) => (256 - xy).toNat) (fun ((xy, q) : Int × Int) => 0 ≤ xy ∧ xy ≤ 256 ∧ q = sumI (fun q => cntR Ce Cw Rw q Cw.toNat) xy.toNat) (fun ((xy, q) : Int × Int) => [(0, .ref (bd 0)), (1, .int (iI q)), (2, .int (iI xy))]) (0, 0) ?_ (lv_sub hl [2, 1, 0] rfl) ?_
  · show 0 ≤ (0 : Int) ∧ (0 : Int) ≤ 256 ∧ (0 : Int) = sumI (fun q => cntR Ce Cw Rw q Cw.toNat) (0 : Int).toNat
    exact ⟨by omega, by omega, by simp [sumI]⟩
  · rintro ⟨xy, q⟩ ls hI hl ih4
    replace hI : 0 ≤ xy ∧ xy ≤ 256 ∧ q = sumI (fun q => cntR Ce Cw Rw q Cw.toNat) xy.toNat := hI
    obtain ⟨hy0, hy1, hq⟩ := hI
    replace hl : lv_has ls 4 [(0, .ref (bd 0)), (1, .int (iI q)), (2, .int (iI xy))] := hl
    refine lv_iload_n hx hb dX2_holes_4 rfl (lv_at hl 2 rfl) ?_
    refine ri_sipush hx hb dX2_holes_5 (by decide +kernel) ?_
    refine ri_icmp_ge (tgt := 51) hx hb dX2_holes_8 (by decide) (by omega) (by omega) (fun c8 => ?_) (fun c8 => ?_)
    · refine lv_iload_n hx hb dX2_holes_51 rfl (lv_at hl 1 rfl) ?_
      have e : xy = 256 := by omega
      subst e
      exact ri_ret hx hb hr hlocks (hq) dX2_holes_52
    · refine ri_iconst hx hb dX2_holes_11 ?_
      refine lv_istore_n (lv' := [(3, .int (iI 1)), (0, .ref (bd 0)), (1, .int (iI q)), (2, .int (iI xy))]) hx hb dX2_holes_12 rfl hl (by decide) rfl (fun ls hl => ?_)
      refine ri_loop (σ := Int × Int) (nL := 4) (fun ((w, v) : Int × Int) => (Cw + 1 - w).toNat) (fun ((w, v) : Int × Int) => 1 ≤ w ∧ w ≤ Cw + 1 ∧ v = q + cntR Ce Cw Rw xy (w - 1).toNat) (fun ((w, v) : Int × Int) => [(0, .ref (bd 0)), (1, .int (iI v)), (2, .int (iI xy)), (3, .int (iI w))]) (1, q) ?_ (lv_sub hl [1, 2, 3, 0] rfl) ?_
      · show 1 ≤ (1 : Int) ∧ (1 : Int) ≤ Cw + 1 ∧ q = q + cntR Ce Cw Rw xy ((1 : Int) - 1).toNat
        exact ⟨by omega, by omega, by simp [cntR, sumI]⟩
      · rintro ⟨w, v⟩ ls hI hl ih13
        replace hI : 1 ≤ w ∧ w ≤ Cw + 1 ∧ v = q + cntR Ce Cw Rw xy (w - 1).toNat := hI
        obtain ⟨hw0, hw1, hv⟩ := hI
        replace hl : lv_has ls 4 [(0, .ref (bd 0)), (1, .int (iI v)), (2, .int (iI xy)), (3, .int (iI w))] := hl
        refine lv_iload_n hx hb dX2_holes_13 rfl (lv_at hl 3 rfl) ?_
        refine lv_aload_n hx hb dX2_holes_14 rfl (lv_at hl 0 rfl) ?_
        refine gm_Cw hx hb hts hown hK hP dX2_holes_15 ?_
        refine ri_icmp_gt (tgt := 45) hx hb dX2_holes_18 (by decide) (by omega) (by omega) (fun c18 => ?_) (fun c18 => ?_)
        · have e : w - 1 = Cw := by omega
          rw [e] at hv
          have hs := sumI_step (fun q => cntR Ce Cw Rw q Cw.toNat) hy0
          refine ri_iinc (k := 2) (lv' := [(2, .int (iI (xy + 1))), (0, .ref (bd 0)), (1, .int (iI v)), (3, .int (iI w))]) hx hb dX2_holes_45 hl rfl (by decide) rfl (fun ls hl => ?_)
          refine lv_goto (tgt := 4) hx hb dX2_holes_48 (by decide) ?_
          exact ih4 (xy + 1, v) ls (show 0 ≤ xy + 1 ∧ xy + 1 ≤ 256 ∧ v = sumI (fun q => cntR Ce Cw Rw q Cw.toNat) (xy + 1).toNat from ⟨by omega, by omega, by rw [hs, hv, hq]⟩) (show (256 - (xy + 1)).toNat < (256 - xy).toNat by omega) (lv_sub hl [1, 2, 0] rfl)
        · refine lv_aload_n hx hb dX2_holes_21 rfl (lv_at hl 0 rfl) ?_
          refine lv_iload_n hx hb dX2_holes_22 rfl (lv_at hl 2 rfl) ?_
          refine ri_bipush hx hb dX2_holes_23 (by decide +kernel) ?_
          refine lv_iand hx hb dX2_holes_25 ?_
          refine ri_top (a := xy % 16) (sh_and 4 _ (by decide +kernel) (by omega)) ?_
          refine lv_iload_n hx hb dX2_holes_26 rfl (lv_at hl 2 rfl) ?_
          refine ri_iconst hx hb dX2_holes_27 ?_
          refine lv_ishr hx hb dX2_holes_28 ?_
          refine ri_top (a := xy / 16) (sh_r 4 _ (by decide +kernel) (by omega)) ?_
          refine lv_iload_n hx hb dX2_holes_29 rfl (lv_at hl 3 rfl) ?_
          refine ri_callR (rest := []) (ci := 1) (q0 := 0) (mx2_areaOfHole l (xy % 16) (xy / 16) w (by omega) hC hR hCe) hx hb hml hown hts (cwV 3 hts (lw_V q294 q296 qs27 q32 q297) rfl rfl rfl (by decide +kernel) ⟨Nat.le_of_ble_eq_true rfl, Nat.le_of_ble_eq_true rfl⟩) hK hP rfl rfl rfl hl.1 rfl (Nat.le_of_ble_eq_true rfl) dX2_holes_30 ⟨Nat.zero_le _, Nat.zero_le _⟩ (fun u hu => ?_)
          have hur := ArS_rng (by omega) hu
          have hup := ArS_pos hw0 hu
          have hs := sumI_step (fun v => cntH Ce Cw Rw xy (v + 1)) (k := w - 1) (by omega)
          rw [show w - 1 + 1 = w by omega] at hs
          refine ri_if_le (tgt := 39) hx hb dX2_holes_33 (by decide) (by omega) (fun c33 => ?_) (fun c33 => ?_)
          · refine ri_iinc (k := 3) (lv' := [(3, .int (iI (w + 1))), (0, .ref (bd 0)), (1, .int (iI v)), (2, .int (iI xy))]) hx hb dX2_holes_39 hl rfl (by decide) rfl (fun ls hl => ?_)
            refine lv_goto (tgt := 13) hx hb dX2_holes_42 (by decide) ?_
            exact ih13 (w + 1, v) ls (show 1 ≤ w + 1 ∧ w + 1 ≤ Cw + 1 ∧ v = q + cntR Ce Cw Rw xy (w + 1 - 1).toNat from ⟨by omega, by omega, by rw [show w + 1 - 1 = w by omega, cntR, hs, cntH_no (fun q => by have := hup.mpr q; omega), hv, cntR]; omega⟩) (show (Cw + 1 - (w + 1)).toNat < (Cw + 1 - w).toNat by omega) (lv_sub hl [1, 2, 3, 0] rfl)
          · refine ri_iinc (k := 1) (lv' := [(1, .int (iI (v + 1))), (0, .ref (bd 0)), (2, .int (iI xy)), (3, .int (iI w))]) hx hb dX2_holes_36 hl rfl (by decide) rfl (fun ls hl => ?_)
            refine ri_iinc (k := 3) (lv' := [(3, .int (iI (w + 1))), (1, .int (iI (v + 1))), (0, .ref (bd 0)), (2, .int (iI xy))]) hx hb dX2_holes_39 hl rfl (by decide) rfl (fun ls hl => ?_)
            refine lv_goto (tgt := 13) hx hb dX2_holes_42 (by decide) ?_
            exact ih13 (w + 1, v + 1) ls (show 1 ≤ w + 1 ∧ w + 1 ≤ Cw + 1 ∧ v + 1 = q + cntR Ce Cw Rw xy (w + 1 - 1).toNat from ⟨by omega, by omega, by rw [show w + 1 - 1 = w by omega, cntR, hs, cntH_yes (hup.mp (by omega)), hv, cntR]; omega⟩) (show (Cw + 1 - (w + 1)).toNat < (Cw + 1 - w).toNat by omega) (lv_sub hl [2, 1, 3, 0] rfl)
set_option maxHeartbeats 4000000 in
set_option maxRecDepth 100000 in
theorem mx2_largestHole (l : Launch) {D : va_G} {bd : Nat → Nat} {dN dZ : ClassId} {Cw Rw : Int} {Ce Lf Bt Wd Hg Th : Int → Int} (hC : 4 ≤ Cw ∧ Cw ≤ 16) (hR : 4 ≤ Rw ∧ Rw ≤ 16) (hCe : cellOk Ce) : MetR l yX2_largestHole cX2_largestHole 5 .int 3 74 [.ref (bd 0)] D (MW bd dN dZ Cw Rw Ce Lf Bt Wd Hg Th) (tM dN dZ) (fun z => LarS Ce Cw Rw 256 1 z) := by
  refine ri_met RX2 rfl (by decide) (Nat.le_of_ble_eq_true rfl) ?_
  intro p e s m below meth c hx hb hr hts hown hlocks hml hnm hv ls hl
  obtain ⟨hP, hK⟩ := hv
  have hl : lv_has ls 5 [(0, .ref (bd 0))] := hl
  refine ri_iconst hx hb dX2_largestHole_0 ?_
  refine lv_istore_n (lv' := [(1, .int (iI 0)), (0, .ref (bd 0))]) hx hb dX2_largestHole_1 rfl hl (by decide) rfl (fun ls hl => ?_)
  refine ri_iconst hx hb dX2_largestHole_2 ?_
  refine lv_istore_n (lv' := [(2, .int (iI 0)), (1, .int (iI 0)), (0, .ref (bd 0))]) hx hb dX2_largestHole_3 rfl hl (by decide) rfl (fun ls hl => ?_)
  refine ri_loop (σ := Int × Int) (nL := 5) (fun ((xy, q) : Int × Int) => (256 - xy).toNat) (fun ((xy, q) : Int × Int) => 0 ≤ xy ∧ xy ≤ 256 ∧ LarS Ce Cw Rw xy 1 q) (fun ((xy, q) : Int × Int) => [(0, .ref (bd 0)), (1, .int (iI q)), (2, .int (iI xy))]) (0, 0) ?_ (lv_sub hl [2, 1, 0] rfl) ?_
  · show 0 ≤ (0 : Int) ∧ (0 : Int) ≤ 256 ∧ LarS Ce Cw Rw (0 : Int) 1 (0 : Int)
    exact ⟨by omega, by omega, by omega, by omega, fun q v h a b c d => by omega, Or.inl rfl⟩
  · rintro ⟨xy, q⟩ ls hI hl ih4
    replace hI : 0 ≤ xy ∧ xy ≤ 256 ∧ LarS Ce Cw Rw xy 1 q := hI
    obtain ⟨hy0, hy1, hq⟩ := hI
    replace hl : lv_has ls 5 [(0, .ref (bd 0)), (1, .int (iI q)), (2, .int (iI xy))] := hl
    refine lv_iload_n hx hb dX2_largestHole_4 rfl (lv_at hl 2 rfl) ?_
    refine ri_sipush hx hb dX2_largestHole_5 (by decide +kernel) ?_
    refine ri_icmp_ge (tgt := 56) hx hb dX2_largestHole_8 (by decide) (by omega) (by omega) (fun c8 => ?_) (fun c8 => ?_)
    · refine lv_iload_n hx hb dX2_largestHole_56 rfl (lv_at hl 1 rfl) ?_
      have e : xy = 256 := by omega
      subst e
      exact ri_ret hx hb hr hlocks (hq) dX2_largestHole_57
    · refine ri_iconst hx hb dX2_largestHole_11 ?_
      refine lv_istore_n (lv' := [(3, .int (iI 1)), (0, .ref (bd 0)), (1, .int (iI q)), (2, .int (iI xy))]) hx hb dX2_largestHole_12 rfl hl (by decide) rfl (fun ls hl => ?_)
      refine ri_loop (σ := Int × Int) (nL := 5) (fun ((w, v) : Int × Int) => (Cw + 1 - w).toNat) (fun ((w, v) : Int × Int) => 1 ≤ w ∧ w ≤ Cw + 1 ∧ LarS Ce Cw Rw xy w v) (fun ((w, v) : Int × Int) => [(0, .ref (bd 0)), (1, .int (iI v)), (2, .int (iI xy)), (3, .int (iI w))]) (1, q) ?_ (lv_sub hl [1, 2, 3, 0] rfl) ?_
      · show 1 ≤ (1 : Int) ∧ (1 : Int) ≤ Cw + 1 ∧ LarS Ce Cw Rw xy (1 : Int) q
        exact ⟨by omega, by omega, hq⟩
      · rintro ⟨w, v⟩ ls hI hl ih13
        replace hI : 1 ≤ w ∧ w ≤ Cw + 1 ∧ LarS Ce Cw Rw xy w v := hI
        obtain ⟨hw0, hw1, hv⟩ := hI
        replace hl : lv_has ls 5 [(0, .ref (bd 0)), (1, .int (iI v)), (2, .int (iI xy)), (3, .int (iI w))] := hl
        refine lv_iload_n hx hb dX2_largestHole_13 rfl (lv_at hl 3 rfl) ?_
        refine lv_aload_n hx hb dX2_largestHole_14 rfl (lv_at hl 0 rfl) ?_
        refine gm_Cw hx hb hts hown hK hP dX2_largestHole_15 ?_
        refine ri_icmp_gt (tgt := 50) hx hb dX2_largestHole_18 (by decide) (by omega) (by omega) (fun c18 => ?_) (fun c18 => ?_)
        · have e : w = Cw + 1 := by omega
          rw [e] at hv
          refine ri_iinc (k := 2) (lv' := [(2, .int (iI (xy + 1))), (0, .ref (bd 0)), (1, .int (iI v)), (3, .int (iI w))]) hx hb dX2_largestHole_50 hl rfl (by decide) rfl (fun ls hl => ?_)
          refine lv_goto (tgt := 4) hx hb dX2_largestHole_53 (by decide) ?_
          exact ih4 (xy + 1, v) ls (show 0 ≤ xy + 1 ∧ xy + 1 ≤ 256 ∧ LarS Ce Cw Rw (xy + 1) 1 v from ⟨by omega, by omega, LarS_next hv⟩) (show (256 - (xy + 1)).toNat < (256 - xy).toNat by omega) (lv_sub hl [1, 2, 0] rfl)
        · refine lv_aload_n hx hb dX2_largestHole_21 rfl (lv_at hl 0 rfl) ?_
          refine lv_iload_n hx hb dX2_largestHole_22 rfl (lv_at hl 2 rfl) ?_
          refine ri_bipush hx hb dX2_largestHole_23 (by decide +kernel) ?_
          refine lv_iand hx hb dX2_largestHole_25 ?_
          refine ri_top (a := xy % 16) (sh_and 4 _ (by decide +kernel) (by omega)) ?_
          refine lv_iload_n hx hb dX2_largestHole_26 rfl (lv_at hl 2 rfl) ?_
          refine ri_iconst hx hb dX2_largestHole_27 ?_
          refine lv_ishr hx hb dX2_largestHole_28 ?_
          refine ri_top (a := xy / 16) (sh_r 4 _ (by decide +kernel) (by omega)) ?_
          refine lv_iload_n hx hb dX2_largestHole_29 rfl (lv_at hl 3 rfl) ?_
          refine ri_callR (rest := []) (ci := 1) (q0 := 0) (mx2_areaOfHole l (xy % 16) (xy / 16) w (by omega) hC hR hCe) hx hb hml hown hts (cwV 3 hts (lw_V q294 q296 qs27 q32 q297) rfl rfl rfl (by decide +kernel) ⟨Nat.le_of_ble_eq_true rfl, Nat.le_of_ble_eq_true rfl⟩) hK hP rfl rfl rfl hl.1 rfl (Nat.le_of_ble_eq_true rfl) dX2_largestHole_30 ⟨Nat.zero_le _, Nat.zero_le _⟩ (fun u hu => ?_)
          have hur := ArS_rng (by omega) hu
          have hvr : 0 ≤ v ∧ v ≤ 256 := ⟨hv.1, hv.2.1⟩
          refine lv_istore (lv' := [(4, .int (iI u)), (0, .ref (bd 0)), (1, .int (iI v)), (2, .int (iI xy)), (3, .int (iI w))]) hx hb dX2_largestHole_33 hl (by decide) rfl (fun ls hl => ?_)
          refine lv_iload hx hb dX2_largestHole_35 (lv_at hl 0 rfl) ?_
          refine lv_iload_n hx hb dX2_largestHole_37 rfl (lv_at hl 2 rfl) ?_
          refine ri_icmp_le (tgt := 44) hx hb dX2_largestHole_38 (by decide) (by omega) (by omega) (fun c38 => ?_) (fun c38 => ?_)
          · refine ri_iinc (k := 4) (lv' := [(3, .int (iI (w + 1))), (4, .int (iI u)), (0, .ref (bd 0)), (1, .int (iI v)), (2, .int (iI xy))]) hx hb dX2_largestHole_44 hl rfl (by decide) rfl (fun ls hl => ?_)
            refine lv_goto (tgt := 13) hx hb dX2_largestHole_47 (by decide) ?_
            exact ih13 (w + 1, v) ls (show 1 ≤ w + 1 ∧ w + 1 ≤ Cw + 1 ∧ LarS Ce Cw Rw xy (w + 1) v from ⟨by omega, by omega, LarS_keep hv hu (by omega)⟩) (show (Cw + 1 - (w + 1)).toNat < (Cw + 1 - w).toNat by omega) (lv_sub hl [2, 3, 4, 0] rfl)
          · refine lv_iload hx hb dX2_largestHole_41 (lv_at hl 0 rfl) ?_
            refine lv_istore_n (lv' := [(1, .int (iI u)), (4, .int (iI u)), (0, .ref (bd 0)), (2, .int (iI xy)), (3, .int (iI w))]) hx hb dX2_largestHole_43 rfl hl (by decide) rfl (fun ls hl => ?_)
            refine ri_iinc (k := 4) (lv' := [(3, .int (iI (w + 1))), (1, .int (iI u)), (4, .int (iI u)), (0, .ref (bd 0)), (2, .int (iI xy))]) hx hb dX2_largestHole_44 hl rfl (by decide) rfl (fun ls hl => ?_)
            refine lv_goto (tgt := 13) hx hb dX2_largestHole_47 (by decide) ?_
            exact ih13 (w + 1, u) ls (show 1 ≤ w + 1 ∧ w + 1 ≤ Cw + 1 ∧ LarS Ce Cw Rw xy (w + 1) u from ⟨by omega, by omega, LarS_take hv (by omega) (by omega) (by omega) hu (by omega)⟩) (show (Cw + 1 - (w + 1)).toNat < (Cw + 1 - w).toNat by omega) (lv_sub hl [3, 1, 4, 0] rfl)
set_option maxHeartbeats 4000000 in
set_option maxRecDepth 100000 in
theorem mx2_bestPlace (l : Launch) {D : va_G} {bd : Nat → Nat} {dN dZ : ClassId} {Cw Rw : Int} {Ce Lf Bt Wd Hg Th : Int → Int} (w h : Int) (hw' : -2147483648 ≤ w ∧ w < 2147483648) (hh' : -2147483648 ≤ h ∧ h < 2147483648) (hC : 4 ≤ Cw ∧ Cw ≤ 16) (hR : 4 ≤ Rw ∧ Rw ≤ 16) (hCe : cellOk Ce) : MetR l yX2_bestPlace cX2_bestPlace 3 .int 2 50 [.ref (bd 0), .int (iI w), .int (iI h)] D (MW bd dN dZ Cw Rw Ce Lf Bt Wd Hg Th) (tM dN dZ) (fun z => (z = -1 ∧ ¬ sizeP w h) ∨ (sizeP w h ∧ BestS Ce Cw Rw w h z)) := by
  refine ri_met RX2 rfl (by decide) (Nat.le_of_ble_eq_true rfl) ?_
  intro p e s m below meth c hx hb hr hts hown hlocks hml hnm hv ls hl
  obtain ⟨hP, hK⟩ := hv
  have hl : lv_has ls 3 [(0, .ref (bd 0)), (1, .int (iI w)), (2, .int (iI h))] := hl
  refine lv_aload_n hx hb dX2_bestPlace_0 rfl (lv_at hl 0 rfl) ?_
  refine lv_iload_n hx hb dX2_bestPlace_1 rfl (lv_at hl 1 rfl) ?_
  refine lv_iload_n hx hb dX2_bestPlace_2 rfl (lv_at hl 2 rfl) ?_
  refine ri_callR (rest := []) (ci := 1) (q0 := 0) (mx2_isSize l w h hw' hh') hx hb hml hown hts (cwV 2 hts (lw_V q246 q248 qs20 q32 q249) rfl rfl rfl (by decide +kernel) ⟨Nat.le_of_ble_eq_true rfl, Nat.le_of_ble_eq_true rfl⟩) hK hP rfl rfl rfl hl.1 rfl (Nat.le_of_ble_eq_true rfl) dX2_bestPlace_3 ⟨Nat.zero_le _, Nat.zero_le _⟩ (fun u hu => ?_)
  refine ri_if_eq (tgt := 18) hx hb dX2_bestPlace_6 (by decide) (by omega) (fun c6 => ?_) (fun c6 => ?_)
  · refine ri_iconst hx hb dX2_bestPlace_18 ?_
    exact ri_ret hx hb hr hlocks (Or.inl ⟨rfl, by unfold sizeP; omega⟩) dX2_bestPlace_19
  · have hs : sizeP w h := by unfold sizeP; omega
    refine lv_aload_n hx hb dX2_bestPlace_9 rfl (lv_at hl 0 rfl) ?_
    refine lv_iload_n hx hb dX2_bestPlace_10 rfl (lv_at hl 1 rfl) ?_
    refine lv_iload_n hx hb dX2_bestPlace_11 rfl (lv_at hl 2 rfl) ?_
    refine ri_callR (rest := []) (ci := 1) (q0 := 0) (mx2_best l w h hs hC hR hCe) hx hb hml hown hts (cwV 2 hts (lw_V q254 q256 qs22 q32 q257) rfl rfl rfl (by decide +kernel) ⟨Nat.le_of_ble_eq_true rfl, Nat.le_of_ble_eq_true rfl⟩) hK hP rfl rfl rfl hl.1 rfl (Nat.le_of_ble_eq_true rfl) dX2_bestPlace_12 ⟨Nat.zero_le _, Nat.zero_le _⟩ (fun v hv => ?_)
    refine lv_goto (tgt := 19) hx hb dX2_bestPlace_15 (by decide) ?_
    exact ri_ret hx hb hr hlocks (Or.inr ⟨hs, hv⟩) dX2_bestPlace_19
set_option maxHeartbeats 4000000 in
set_option maxRecDepth 100000 in
theorem mx2_fitting (l : Launch) {D : va_G} {bd : Nat → Nat} {dN dZ : ClassId} {Cw Rw : Int} {Ce Lf Bt Wd Hg Th : Int → Int} (hC : 4 ≤ Cw ∧ Cw ≤ 16) (hR : 4 ≤ Rw ∧ Rw ≤ 16) (hCe : cellOk Ce) : MetR l yX2_fitting cX2_fitting 6 .int 2 50 [.ref (bd 0)] D (MW bd dN dZ Cw Rw Ce Lf Bt Wd Hg Th) (tM dN dZ) (fun z => FitS Ce Cw Rw (Cw + 1) z) := by
  refine ri_met RX2 rfl (by decide) (Nat.le_of_ble_eq_true rfl) ?_
  intro p e s m below meth c hx hb hr hts hown hlocks hml hnm hv ls hl
  obtain ⟨hP, hK⟩ := hv
  have hl : lv_has ls 6 [(0, .ref (bd 0))] := hl
  refine ri_iconst hx hb dX2_fitting_0 ?_
  refine lv_istore_n (lv' := [(1, .int (iI 0)), (0, .ref (bd 0))]) hx hb dX2_fitting_1 rfl hl (by decide) rfl (fun ls hl => ?_)
  refine ri_iconst hx hb dX2_fitting_2 ?_
  refine lv_istore_n (lv' := [(2, .int (iI 1)), (1, .int (iI 0)), (0, .ref (bd 0))]) hx hb dX2_fitting_3 rfl hl (by decide) rfl (fun ls hl => ?_)
  refine ri_loop (σ := Int × Int) (nL := 6) (fun ((w, q) : Int × Int) => (Cw + 1 - w).toNat) (fun ((w, q) : Int × Int) => 1 ≤ w ∧ w ≤ Cw + 1 ∧ FitS Ce Cw Rw w q) (fun ((w, q) : Int × Int) => [(0, .ref (bd 0)), (1, .int (iI q)), (2, .int (iI w))]) (1, 0) ?_ (lv_sub hl [2, 1, 0] rfl) ?_
  · show 1 ≤ (1 : Int) ∧ (1 : Int) ≤ Cw + 1 ∧ FitS Ce Cw Rw (1 : Int) (0 : Int)
    exact ⟨by omega, by omega, FitS_0 _ _ _⟩
  · rintro ⟨w, q⟩ ls hI hl ih4
    replace hI : 1 ≤ w ∧ w ≤ Cw + 1 ∧ FitS Ce Cw Rw w q := hI
    obtain ⟨hw0, hw1, hq⟩ := hI
    replace hl : lv_has ls 6 [(0, .ref (bd 0)), (1, .int (iI q)), (2, .int (iI w))] := hl
    refine lv_iload_n hx hb dX2_fitting_4 rfl (lv_at hl 2 rfl) ?_
    refine lv_aload_n hx hb dX2_fitting_5 rfl (lv_at hl 0 rfl) ?_
    refine gm_Cw hx hb hts hown hK hP dX2_fitting_6 ?_
    refine ri_icmp_gt (tgt := 95) hx hb dX2_fitting_9 (by decide) (by omega) (by omega) (fun c9 => ?_) (fun c9 => ?_)
    · refine lv_iload_n hx hb dX2_fitting_95 rfl (lv_at hl 1 rfl) ?_
      have e : w = Cw + 1 := by omega
      subst e
      exact ri_ret hx hb hr hlocks (hq) dX2_fitting_96
    · refine ri_iconst hx hb dX2_fitting_12 ?_
      refine lv_istore_n (lv' := [(3, .int (iI 0)), (0, .ref (bd 0)), (1, .int (iI q)), (2, .int (iI w))]) hx hb dX2_fitting_13 rfl hl (by decide) rfl (fun ls hl => ?_)
      refine ri_iconst hx hb dX2_fitting_14 ?_
      refine lv_istore (lv' := [(4, .int (iI 0)), (3, .int (iI 0)), (0, .ref (bd 0)), (1, .int (iI q)), (2, .int (iI w))]) hx hb dX2_fitting_15 hl (by decide) rfl (fun ls hl => ?_)
      refine ri_loop (σ := Int × Int) (nL := 6) (fun ((xy, t) : Int × Int) => (256 - xy).toNat) (fun ((xy, t) : Int × Int) => 0 ≤ xy ∧ xy ≤ 256 ∧ MosS Ce Cw Rw w xy t) (fun ((xy, t) : Int × Int) => [(0, .ref (bd 0)), (1, .int (iI q)), (2, .int (iI w)), (3, .int (iI t)), (4, .int (iI xy))]) (0, 0) ?_ (lv_sub hl [2, 3, 4, 1, 0] rfl) ?_
      · show 0 ≤ (0 : Int) ∧ (0 : Int) ≤ 256 ∧ MosS Ce Cw Rw w (0 : Int) (0 : Int)
        exact ⟨by omega, by omega, MosS_0 _ _ _ _⟩
      · rintro ⟨xy, t⟩ ls hI hl ih17
        replace hI : 0 ≤ xy ∧ xy ≤ 256 ∧ MosS Ce Cw Rw w xy t := hI
        obtain ⟨hy0, hy1, hM⟩ := hI
        replace hl : lv_has ls 6 [(0, .ref (bd 0)), (1, .int (iI q)), (2, .int (iI w)), (3, .int (iI t)), (4, .int (iI xy))] := hl
        refine lv_iload hx hb dX2_fitting_17 (lv_at hl 4 rfl) ?_
        refine ri_sipush hx hb dX2_fitting_19 (by decide +kernel) ?_
        refine ri_icmp_ge (tgt := 85) hx hb dX2_fitting_22 (by decide) (by omega) (by omega) (fun c22 => ?_) (fun c22 => ?_)
        · have e : xy = 256 := by omega
          rw [e] at hM
          refine lv_iload_n hx hb dX2_fitting_85 rfl (lv_at hl 1 rfl) ?_
          refine lv_iload_n hx hb dX2_fitting_86 rfl (lv_at hl 3 rfl) ?_
          refine ri_iadd hx hb dX2_fitting_87 ?_
          refine lv_istore_n (lv' := [(1, .int (iI (q + t))), (0, .ref (bd 0)), (2, .int (iI w)), (3, .int (iI t)), (4, .int (iI xy))]) hx hb dX2_fitting_88 rfl hl (by decide) rfl (fun ls hl => ?_)
          refine ri_iinc (k := 2) (lv' := [(2, .int (iI (w + 1))), (1, .int (iI (q + t))), (0, .ref (bd 0)), (3, .int (iI t)), (4, .int (iI xy))]) hx hb dX2_fitting_89 hl rfl (by decide) rfl (fun ls hl => ?_)
          refine lv_goto (tgt := 4) hx hb dX2_fitting_92 (by decide) ?_
          exact ih4 (w + 1, q + t) ls (show 1 ≤ w + 1 ∧ w + 1 ≤ Cw + 1 ∧ FitS Ce Cw Rw (w + 1) (q + t) from ⟨by omega, by omega, FitS_step hw0 hq hM⟩) (show (Cw + 1 - (w + 1)).toNat < (Cw + 1 - w).toNat by omega) (lv_sub hl [2, 1, 0] rfl)
        · have htr : 0 ≤ t ∧ t ≤ 16 := ⟨hM.1, hM.2.1⟩
          refine ri_join (σ := Int) (nL := 6) 68 (fun (v : Int) => HtG Ce Cw Rw w xy v) (fun (v : Int) => [(0, .ref (bd 0)), (1, .int (iI q)), (2, .int (iI w)), (3, .int (iI t)), (4, .int (iI xy))]) (fun (v : Int) => [.int (iI v)]) ?_ ?_
          · rintro v ls hI hl
            replace hI : HtG Ce Cw Rw w xy v := hI
            replace hl : lv_has ls 6 [(0, .ref (bd 0)), (1, .int (iI q)), (2, .int (iI w)), (3, .int (iI t)), (4, .int (iI xy))] := hl
            have hvr := HtG_rng (by omega) hy0 hI
            refine lv_istore (lv' := [(5, .int (iI v)), (0, .ref (bd 0)), (1, .int (iI q)), (2, .int (iI w)), (3, .int (iI t)), (4, .int (iI xy))]) hx hb dX2_fitting_68 hl (by decide) rfl (fun ls hl => ?_)
            refine lv_iload hx hb dX2_fitting_70 (lv_at hl 0 rfl) ?_
            refine lv_iload_n hx hb dX2_fitting_72 rfl (lv_at hl 4 rfl) ?_
            refine ri_icmp_le (tgt := 79) hx hb dX2_fitting_73 (by decide) (by omega) (by omega) (fun c73 => ?_) (fun c73 => ?_)
            · refine ri_iinc (k := 5) (lv' := [(4, .int (iI (xy + 1))), (5, .int (iI v)), (0, .ref (bd 0)), (1, .int (iI q)), (2, .int (iI w)), (3, .int (iI t))]) hx hb dX2_fitting_79 hl rfl (by decide) rfl (fun ls hl => ?_)
              refine lv_goto (tgt := 17) hx hb dX2_fitting_82 (by decide) ?_
              exact ih17 (xy + 1, t) ls (show 0 ≤ xy + 1 ∧ xy + 1 ≤ 256 ∧ MosS Ce Cw Rw w (xy + 1) t from ⟨by omega, by omega, MosS_keep hM hI (by omega)⟩) (show (256 - (xy + 1)).toNat < (256 - xy).toNat by omega) (lv_sub hl [2, 3, 4, 5, 0] rfl)
            · refine lv_iload hx hb dX2_fitting_76 (lv_at hl 0 rfl) ?_
              refine lv_istore_n (lv' := [(3, .int (iI v)), (5, .int (iI v)), (0, .ref (bd 0)), (1, .int (iI q)), (2, .int (iI w)), (4, .int (iI xy))]) hx hb dX2_fitting_78 rfl hl (by decide) rfl (fun ls hl => ?_)
              refine ri_iinc (k := 5) (lv' := [(4, .int (iI (xy + 1))), (3, .int (iI v)), (5, .int (iI v)), (0, .ref (bd 0)), (1, .int (iI q)), (2, .int (iI w))]) hx hb dX2_fitting_79 hl rfl (by decide) rfl (fun ls hl => ?_)
              refine lv_goto (tgt := 17) hx hb dX2_fitting_82 (by decide) ?_
              exact ih17 (xy + 1, v) ls (show 0 ≤ xy + 1 ∧ xy + 1 ≤ 256 ∧ MosS Ce Cw Rw w (xy + 1) v from ⟨by omega, by omega, MosS_take (by omega) hy0 hM hI (by omega)⟩) (show (256 - (xy + 1)).toNat < (256 - xy).toNat by omega) (lv_sub hl [3, 4, 5, 1, 0] rfl)
          · intro jn68
            refine lv_iload hx hb dX2_fitting_25 (lv_at hl 4 rfl) ?_
            refine ri_bipush hx hb dX2_fitting_27 (by decide +kernel) ?_
            refine lv_iand hx hb dX2_fitting_29 ?_
            refine ri_top (a := xy % 16) (sh_and 4 _ (by decide +kernel) (by omega)) ?_
            refine lv_iload_n hx hb dX2_fitting_30 rfl (lv_at hl 2 rfl) ?_
            refine ri_iadd hx hb dX2_fitting_31 ?_
            refine lv_aload_n hx hb dX2_fitting_32 rfl (lv_at hl 0 rfl) ?_
            refine gm_Cw hx hb hts hown hK hP dX2_fitting_33 ?_
            refine ri_icmp_gt (tgt := 50) hx hb dX2_fitting_36 (by decide) (by omega) (by omega) (fun c36 => ?_) (fun c36 => ?_)
            · refine ri_iconst hx hb dX2_fitting_50 ?_
              refine lv_goto (tgt := 68) hx hb dX2_fitting_51 (by decide) ?_
              exact jn68 (0) ls (show HtG Ce Cw Rw w xy (0 : Int) from Or.inl ⟨by omega, rfl⟩) (lv_sub hl [0, 1, 2, 3, 4] rfl)
            · refine lv_iload hx hb dX2_fitting_39 (lv_at hl 4 rfl) ?_
              refine ri_iconst hx hb dX2_fitting_41 ?_
              refine lv_ishr hx hb dX2_fitting_42 ?_
              refine ri_top (a := xy / 16) (sh_r 4 _ (by decide +kernel) (by omega)) ?_
              refine lv_aload_n hx hb dX2_fitting_43 rfl (lv_at hl 0 rfl) ?_
              refine gm_Rw hx hb hts hown hK hP dX2_fitting_44 ?_
              refine ri_icmp_lt (tgt := 54) hx hb dX2_fitting_47 (by decide) (by omega) (by omega) (fun c47 => ?_) (fun c47 => ?_)
              · refine lv_aload_n hx hb dX2_fitting_54 rfl (lv_at hl 0 rfl) ?_
                refine lv_iload hx hb dX2_fitting_55 (lv_at hl 4 rfl) ?_
                refine ri_bipush hx hb dX2_fitting_57 (by decide +kernel) ?_
                refine lv_iand hx hb dX2_fitting_59 ?_
                refine ri_top (a := xy % 16) (sh_and 4 _ (by decide +kernel) (by omega)) ?_
                refine lv_iload hx hb dX2_fitting_60 (lv_at hl 4 rfl) ?_
                refine ri_iconst hx hb dX2_fitting_62 ?_
                refine lv_ishr hx hb dX2_fitting_63 ?_
                refine ri_top (a := xy / 16) (sh_r 4 _ (by decide +kernel) (by omega)) ?_
                refine lv_iload_n hx hb dX2_fitting_64 rfl (lv_at hl 2 rfl) ?_
                refine ri_callR (rest := []) (ci := 1) (q0 := 0) (mx2_tallest l (xy % 16) (xy / 16) w (by omega) hC hR hCe) hx hb hml hown hts (cwV 3 hts (lw_V q298 q300 qs28 q32 q301) rfl rfl rfl (by decide +kernel) ⟨Nat.le_of_ble_eq_true rfl, Nat.le_of_ble_eq_true rfl⟩) hK hP rfl rfl rfl hl.1 rfl (Nat.le_of_ble_eq_true rfl) dX2_fitting_65 ⟨Nat.zero_le _, Nat.zero_le _⟩ (fun u hu => ?_)
                exact jn68 (u) ls (show HtG Ce Cw Rw w xy u from Or.inr ⟨by omega, hu⟩) (lv_sub hl [0, 1, 2, 3, 4] rfl)
              · refine ri_iconst hx hb dX2_fitting_50 ?_
                refine lv_goto (tgt := 68) hx hb dX2_fitting_51 (by decide) ?_
                exact jn68 (0) ls (show HtG Ce Cw Rw w xy (0 : Int) from Or.inl ⟨by omega, rfl⟩) (lv_sub hl [0, 1, 2, 3, 4] rfl)
end
section
/-! AtlasPackerModel: the methods that write -/
set_option maxHeartbeats 4000000 in
set_option maxRecDepth 100000 in
theorem mx2_paint (l : Launch) {D : va_G} {bd : Nat → Nat} {dN dZ : ClassId} {Cw Rw : Int} {Ce Lf Bt Wd Hg Th : Int → Int} (i v : Int) (hi : 0 ≤ i ∧ i < 20) (hrec : recOk Lf Bt Wd Hg i) (sz : Nat) : MetV (S := Int → Int) l yX2_paint cX2_paint 5 0 0 [.ref (bd 0), .int (iI i), .int (iI v)] D (MW bd dN dZ Cw Rw Ce Lf Bt Wd Hg Th) (tM dN dZ) sz (fun F => ∀ k, 0 ≤ k → k < 256 → F k = paintV Ce (Lf i) (Bt i) (Wd i) (Hg i) v k) (fun F => MW bd dN dZ Cw Rw F Lf Bt Wd Hg Th) := by
  refine ri_met RX2 rfl (by decide) (Nat.le_of_ble_eq_true rfl) ?_
  intro p e s m below meth c hx hb hr hts hown hlocks hml hnm hv ls hl
  obtain ⟨hsz, hP, hK, hD0⟩ := hv
  subst hsz
  have hD := hD0.self (sz := s.heap.size)
  generalize hAe : va_A (MW bd dN dZ Cw Rw Ce Lf Bt Wd Hg Th) s.heap.size = A at hD ⊢
  have hA : ∀ q : Nat, s.heap.size ≤ q → A q := fun q h => by rw [← hAe]; exact Or.inr h
  have hS : va_S A s.heap s.heap [] := va_S.rf
  have hl : lv_has ls 5 [(0, .ref (bd 0)), (1, .int (iI i)), (2, .int (iI v))] := hl
  obtain ⟨r1, r2⟩ := hrec
  refine lv_aload_n hx hb dX2_paint_0 rfl (lv_at hl 0 rfl) ?_
  refine gm_Bt hx hb hts hown hK hP dX2_paint_1 ?_
  refine lv_iload_n hx hb dX2_paint_4 rfl (lv_at hl 1 rfl) ?_
  refine ri_iald hx hb hK hP 3 0 rfl rfl (by omega) (by decide) dX2_paint_5 ?_
  refine lv_istore_n (lv' := [(3, .int (iI (Bt i))), (0, .ref (bd 0)), (1, .int (iI i)), (2, .int (iI v))]) hx hb dX2_paint_6 rfl hl (by decide) rfl (fun ls hl => ?_)
  refine ri_loopW (σ := Int × (Int → Int)) (nL := 5) (fun ((j, F) : Int × (Int → Int)) => (Bt i + Hg i - j).toNat) (fun ((j, F) : Int × (Int → Int)) => Bt i ≤ j ∧ j ≤ Bt i + Hg i ∧ ∀ k, 0 ≤ k → k < 256 → F k = paintU Ce (Lf i) (Bt i) (Wd i) v j (Lf i) k) (fun ((j, F) : Int × (Int → Int)) => [(0, .ref (bd 0)), (1, .int (iI i)), (2, .int (iI v)), (3, .int (iI j))]) (fun ((j, F) : Int × (Int → Int)) => (MW bd dN dZ Cw Rw F Lf Bt Wd Hg Th)) (Bt i, Ce) ?_ (lv_sub hl [1, 2, 3, 0] rfl) hP hD hS ?_
  · show Bt i ≤ Bt i ∧ Bt i ≤ Bt i + Hg i ∧ ∀ k, 0 ≤ k → k < 256 → Ce k = paintU Ce (Lf i) (Bt i) (Wd i) v (Bt i) (Lf i) k
    exact ⟨by omega, by omega, fun k _ _ => (paintU_0 _ _ _ _ _ _).symm⟩
  · rintro ⟨j, F⟩ ls H locs hI hl hP hD hS ih7
    replace hP : va_P D vwCl (MW bd dN dZ Cw Rw F Lf Bt Wd Hg Th) H := hP
    replace hD : va_D A (MW bd dN dZ Cw Rw F Lf Bt Wd Hg Th) := hD
    replace hI : Bt i ≤ j ∧ j ≤ Bt i + Hg i ∧ ∀ k, 0 ≤ k → k < 256 → F k = paintU Ce (Lf i) (Bt i) (Wd i) v j (Lf i) k := hI
    obtain ⟨hj0, hj1, hall⟩ := hI
    replace hl : lv_has ls 5 [(0, .ref (bd 0)), (1, .int (iI i)), (2, .int (iI v)), (3, .int (iI j))] := hl
    refine lv_iload_n hx hb dX2_paint_7 rfl (lv_at hl 3 rfl) ?_
    refine lv_aload_n hx hb dX2_paint_8 rfl (lv_at hl 0 rfl) ?_
    refine gm_Bt hx hb hts hown hK hP dX2_paint_9 ?_
    refine lv_iload_n hx hb dX2_paint_12 rfl (lv_at hl 1 rfl) ?_
    refine ri_iald hx hb hK hP 3 0 rfl rfl (by omega) (by decide) dX2_paint_13 ?_
    refine lv_aload_n hx hb dX2_paint_14 rfl (lv_at hl 0 rfl) ?_
    refine gm_Hg hx hb hts hown hK hP dX2_paint_15 ?_
    refine lv_iload_n hx hb dX2_paint_18 rfl (lv_at hl 1 rfl) ?_
    refine ri_iald hx hb hK hP 5 0 rfl rfl (by omega) (by decide) dX2_paint_19 ?_
    refine ri_iadd hx hb dX2_paint_20 ?_
    refine ri_icmp_ge (tgt := 75) hx hb dX2_paint_21 (by decide) (by omega) (by omega) (fun c21 => ?_) (fun c21 => ?_)
    · have e : j = Bt i + Hg i := by omega
      rw [e] at hall
      exact ri_vretW F hx hb hr hlocks (fun k a b => by rw [hall k a b]; exact paintU_end) hK hP hD hS dX2_paint_75
    · refine lv_aload_n hx hb dX2_paint_24 rfl (lv_at hl 0 rfl) ?_
      refine gm_Lf hx hb hts hown hK hP dX2_paint_25 ?_
      refine lv_iload_n hx hb dX2_paint_28 rfl (lv_at hl 1 rfl) ?_
      refine ri_iald hx hb hK hP 2 0 rfl rfl (by omega) (by decide) dX2_paint_29 ?_
      refine lv_istore (lv' := [(4, .int (iI (Lf i))), (0, .ref (bd 0)), (1, .int (iI i)), (2, .int (iI v)), (3, .int (iI j))]) hx hb dX2_paint_30 hl (by decide) rfl (fun ls hl => ?_)
      refine ri_loopW (σ := Int × (Int → Int)) (nL := 5) (fun ((q, F2) : Int × (Int → Int)) => (Lf i + Wd i - q).toNat) (fun ((q, F2) : Int × (Int → Int)) => Lf i ≤ q ∧ q ≤ Lf i + Wd i ∧ ∀ k, 0 ≤ k → k < 256 → F2 k = paintU Ce (Lf i) (Bt i) (Wd i) v j q k) (fun ((q, F2) : Int × (Int → Int)) => [(0, .ref (bd 0)), (1, .int (iI i)), (2, .int (iI v)), (3, .int (iI j)), (4, .int (iI q))]) (fun ((q, F2) : Int × (Int → Int)) => (MW bd dN dZ Cw Rw F2 Lf Bt Wd Hg Th)) (Lf i, F) ?_ (lv_sub hl [1, 2, 3, 4, 0] rfl) hP hD hS ?_
      · show Lf i ≤ Lf i ∧ Lf i ≤ Lf i + Wd i ∧ ∀ k, 0 ≤ k → k < 256 → F k = paintU Ce (Lf i) (Bt i) (Wd i) v j (Lf i) k
        exact ⟨by omega, by omega, hall⟩
      · rintro ⟨q, F2⟩ ls H locs hI hl hP hD hS ih32
        replace hP : va_P D vwCl (MW bd dN dZ Cw Rw F2 Lf Bt Wd Hg Th) H := hP
        replace hD : va_D A (MW bd dN dZ Cw Rw F2 Lf Bt Wd Hg Th) := hD
        replace hI : Lf i ≤ q ∧ q ≤ Lf i + Wd i ∧ ∀ k, 0 ≤ k → k < 256 → F2 k = paintU Ce (Lf i) (Bt i) (Wd i) v j q k := hI
        obtain ⟨hq0, hq1, hrow⟩ := hI
        replace hl : lv_has ls 5 [(0, .ref (bd 0)), (1, .int (iI i)), (2, .int (iI v)), (3, .int (iI j)), (4, .int (iI q))] := hl
        refine lv_iload hx hb dX2_paint_32 (lv_at hl 4 rfl) ?_
        refine lv_aload_n hx hb dX2_paint_34 rfl (lv_at hl 0 rfl) ?_
        refine gm_Lf hx hb hts hown hK hP dX2_paint_35 ?_
        refine lv_iload_n hx hb dX2_paint_38 rfl (lv_at hl 1 rfl) ?_
        refine ri_iald hx hb hK hP 2 0 rfl rfl (by omega) (by decide) dX2_paint_39 ?_
        refine lv_aload_n hx hb dX2_paint_40 rfl (lv_at hl 0 rfl) ?_
        refine gm_Wd hx hb hts hown hK hP dX2_paint_41 ?_
        refine lv_iload_n hx hb dX2_paint_44 rfl (lv_at hl 1 rfl) ?_
        refine ri_iald hx hb hK hP 4 0 rfl rfl (by omega) (by decide) dX2_paint_45 ?_
        refine ri_iadd hx hb dX2_paint_46 ?_
        refine ri_icmp_ge (tgt := 69) hx hb dX2_paint_47 (by decide) (by omega) (by omega) (fun c47 => ?_) (fun c47 => ?_)
        · have e : q = Lf i + Wd i := by omega
          rw [e] at hrow
          refine ri_iinc (k := 3) (lv' := [(3, .int (iI (j + 1))), (0, .ref (bd 0)), (1, .int (iI i)), (2, .int (iI v)), (4, .int (iI q))]) hx hb dX2_paint_69 hl rfl (by decide) rfl (fun ls hl => ?_)
          refine lv_goto (tgt := 7) hx hb dX2_paint_72 (by decide) ?_
          exact ih7 (j + 1, F2) ls _ _ (show Bt i ≤ j + 1 ∧ j + 1 ≤ Bt i + Hg i ∧ ∀ k, 0 ≤ k → k < 256 → F2 k = paintU Ce (Lf i) (Bt i) (Wd i) v (j + 1) (Lf i) k from ⟨by omega, by omega, fun k a b => by rw [hrow k a b]; exact paintU_next⟩) (show (Bt i + Hg i - (j + 1)).toNat < (Bt i + Hg i - j).toNat by omega) (lv_sub hl [1, 2, 3, 0] rfl) hP hD hS
        · refine lv_aload_n hx hb dX2_paint_50 rfl (lv_at hl 0 rfl) ?_
          refine gm_Ce hx hb hts hown hK hP dX2_paint_51 ?_
          refine ri_bipush hx hb dX2_paint_54 (by decide +kernel) ?_
          refine lv_iload_n hx hb dX2_paint_56 rfl (lv_at hl 3 rfl) ?_
          refine ri_imul hx hb dX2_paint_57 ?_
          refine lv_iload hx hb dX2_paint_58 (lv_at hl 4 rfl) ?_
          refine ri_iadd hx hb dX2_paint_60 ?_
          refine lv_iload_n hx hb dX2_paint_61 rfl (lv_at hl 2 rfl) ?_
          refine ri_iast hx hb hK hP hD hS 1 0 rfl rfl (by omega) (by decide) dX2_paint_62 (fun H locs hP hD hS => ?_)
          replace hP : va_P D vwCl (MW bd dN dZ Cw Rw (uI F2 ((16 * j) + q) v) Lf Bt Wd Hg Th) H := hP
          replace hD : va_D A (MW bd dN dZ Cw Rw (uI F2 ((16 * j) + q) v) Lf Bt Wd Hg Th) := hD
          refine ri_iinc (k := 4) (lv' := [(4, .int (iI (q + 1))), (0, .ref (bd 0)), (1, .int (iI i)), (2, .int (iI v)), (3, .int (iI j))]) hx hb dX2_paint_63 hl rfl (by decide) rfl (fun ls hl => ?_)
          refine lv_goto (tgt := 32) hx hb dX2_paint_66 (by decide) ?_
          exact ih32 (q + 1, uI F2 (16 * j + q) v) ls _ _ (show Lf i ≤ q + 1 ∧ q + 1 ≤ Lf i + Wd i ∧ ∀ k, 0 ≤ k → k < 256 → (uI F2 (16 * j + q) v) k = paintU Ce (Lf i) (Bt i) (Wd i) v j (q + 1) k from ⟨by omega, by omega, paintU_step hj0 (by omega) (by omega) (by omega) hrow⟩) (show (Lf i + Wd i - (q + 1)).toNat < (Lf i + Wd i - q).toNat by omega) (lv_sub hl [1, 2, 3, 4, 0] rfl) hP hD hS
set_option maxHeartbeats 4000000 in
set_option maxRecDepth 100000 in
theorem mx2_lay (l : Launch) {D : va_G} {bd : Nat → Nat} {dN dZ : ClassId} {Cw Rw : Int} {Ce Lf Bt Wd Hg Th : Int → Int} (a w h : Int) (ha : 0 ≤ a ∧ a < 8192) (hw1 : 0 ≤ w ∧ w + a % 256 ≤ 16) (hh1 : 0 ≤ h ∧ a / 256 + h ≤ 16) (ht : thOk Th) (hfree : ∃ k, 0 ≤ k ∧ k < 20 ∧ Th k = 0) (sz : Nat) : MetI (S := (Int → Int) × (Int → Int) × (Int → Int) × (Int → Int) × (Int → Int) × (Int → Int)) l yX2_lay cX2_lay 6 1 24 [.ref (bd 0), .int (iI a), .int (iI w), .int (iI h)] D (MW bd dN dZ Cw Rw Ce Lf Bt Wd Hg Th) (tM dN dZ) sz (fun z (E', L', B', W', H', T') => 0 ≤ z ∧ z < 20 ∧ Th z = 0 ∧ (∀ j, 0 ≤ j → j < z → Th j ≠ 0) ∧ L' = uI Lf z (a % 256) ∧ B' = uI Bt z (a / 256) ∧ W' = uI Wd z w ∧ H' = uI Hg z h ∧ T' = uI Th z 1 ∧ ∀ k, 0 ≤ k → k < 256 → E' k = paintV Ce (a % 256) (a / 256) w h z k) (fun (E', L', B', W', H', T') => MW bd dN dZ Cw Rw E' L' B' W' H' T') := by
  refine ri_met RX2 rfl (by decide) (Nat.le_of_ble_eq_true rfl) ?_
  intro p e s m below meth c hx hb hr hts hown hlocks hml hnm hv ls hl
  obtain ⟨hsz, hP, hK, hD0⟩ := hv
  subst hsz
  have hD := hD0.self (sz := s.heap.size)
  generalize hAe : va_A (MW bd dN dZ Cw Rw Ce Lf Bt Wd Hg Th) s.heap.size = A at hD ⊢
  have hA : ∀ q : Nat, s.heap.size ≤ q → A q := fun q h => by rw [← hAe]; exact Or.inr h
  have hS : va_S A s.heap s.heap [] := va_S.rf
  have hl : lv_has ls 6 [(0, .ref (bd 0)), (1, .int (iI a)), (2, .int (iI w)), (3, .int (iI h))] := hl
  obtain ⟨f0, f1, f2, f3⟩ := hfree
  refine ri_iconst hx hb dX2_lay_0 ?_
  refine lv_istore (lv' := [(4, .int (iI 0)), (0, .ref (bd 0)), (1, .int (iI a)), (2, .int (iI w)), (3, .int (iI h))]) hx hb dX2_lay_1 hl (by decide) rfl (fun ls hl => ?_)
  refine ri_bipush hx hb dX2_lay_3 (by decide +kernel) ?_
  refine lv_istore (lv' := [(5, .int (iI 19)), (4, .int (iI 0)), (0, .ref (bd 0)), (1, .int (iI a)), (2, .int (iI w)), (3, .int (iI h))]) hx hb dX2_lay_5 hl (by decide) rfl (fun ls hl => ?_)
  refine ri_loopW (σ := Int × Int) (nL := 6) (fun ((k, i) : Int × Int) => (k + 1).toNat) (fun ((k, i) : Int × Int) => -1 ≤ k ∧ k ≤ 19 ∧ 0 ≤ i ∧ i < 20 ∧ ((∀ j, k < j → j < 20 → Th j ≠ 0) ∨ (k < i ∧ Th i = 0 ∧ ∀ j, k < j → j < i → Th j ≠ 0))) (fun ((k, i) : Int × Int) => [(0, .ref (bd 0)), (1, .int (iI a)), (2, .int (iI w)), (3, .int (iI h)), (4, .int (iI i)), (5, .int (iI k))]) (fun ((k, i) : Int × Int) => (MW bd dN dZ Cw Rw Ce Lf Bt Wd Hg Th)) (19, 0) ?_ (lv_sub hl [2, 3, 4, 5, 1, 0] rfl) hP hD hS ?_
  · show -1 ≤ (19 : Int) ∧ (19 : Int) ≤ 19 ∧ 0 ≤ (0 : Int) ∧ (0 : Int) < 20 ∧ ((∀ j, (19 : Int) < j → j < 20 → Th j ≠ 0) ∨ ((19 : Int) < (0 : Int) ∧ Th (0 : Int) = 0 ∧ ∀ j, (19 : Int) < j → j < (0 : Int) → Th j ≠ 0))
    exact ⟨by omega, by omega, by omega, by omega, Or.inl (fun j a b => absurd b (by omega))⟩
  · rintro ⟨k, i⟩ ls H locs hI hl hP hD hS ih7
    replace hP : va_P D vwCl (MW bd dN dZ Cw Rw Ce Lf Bt Wd Hg Th) H := hP
    replace hD : va_D A (MW bd dN dZ Cw Rw Ce Lf Bt Wd Hg Th) := hD
    replace hI : -1 ≤ k ∧ k ≤ 19 ∧ 0 ≤ i ∧ i < 20 ∧ ((∀ j, k < j → j < 20 → Th j ≠ 0) ∨ (k < i ∧ Th i = 0 ∧ ∀ j, k < j → j < i → Th j ≠ 0)) := hI
    obtain ⟨hk0, hk1, hi0, hi1, hcase⟩ := hI
    replace hl : lv_has ls 6 [(0, .ref (bd 0)), (1, .int (iI a)), (2, .int (iI w)), (3, .int (iI h)), (4, .int (iI i)), (5, .int (iI k))] := hl
    refine lv_iload hx hb dX2_lay_7 (lv_at hl 5 rfl) ?_
    refine ri_if_lt (tgt := 32) hx hb dX2_lay_9 (by decide) (by omega) (fun c9 => ?_) (fun c9 => ?_)
    · have hk9 : k = -1 := by omega
      subst hk9
      have hz : Th i = 0 ∧ ∀ j, 0 ≤ j → j < i → Th j ≠ 0 := by
        rcases hcase with q | ⟨q1, q2, q3⟩
        · exact absurd f3 (q f0 (by omega) f2)
        · exact ⟨q2, fun j a b => q3 j (by omega) b⟩
      refine lv_aload_n hx hb dX2_lay_32 rfl (lv_at hl 0 rfl) ?_
      refine gm_Th hx hb hts hown hK hP dX2_lay_33 ?_
      refine lv_iload hx hb dX2_lay_36 (lv_at hl 4 rfl) ?_
      refine ri_iconst hx hb dX2_lay_38 ?_
      refine ri_zast hx hb hK hP hD hS 6 1 rfl rfl (by omega) (by decide) (by omega) dX2_lay_39 (fun H locs hP hD hS => ?_)
      replace hP : va_P D vwCl (MW bd dN dZ Cw Rw Ce Lf Bt Wd Hg (uI Th i 1)) H := hP
      replace hD : va_D A (MW bd dN dZ Cw Rw Ce Lf Bt Wd Hg (uI Th i 1)) := hD
      refine lv_aload_n hx hb dX2_lay_40 rfl (lv_at hl 0 rfl) ?_
      refine gm_Lf hx hb hts hown hK hP dX2_lay_41 ?_
      refine lv_iload hx hb dX2_lay_44 (lv_at hl 4 rfl) ?_
      refine lv_iload_n hx hb dX2_lay_46 rfl (lv_at hl 1 rfl) ?_
      refine ri_sipush hx hb dX2_lay_47 (by decide +kernel) ?_
      refine lv_iand hx hb dX2_lay_50 ?_
      refine ri_top (a := a % 256) (sh_and 8 _ (by decide +kernel) (by omega)) ?_
      refine ri_iast hx hb hK hP hD hS 2 0 rfl rfl (by omega) (by decide) dX2_lay_51 (fun H locs hP hD hS => ?_)
      replace hP : va_P D vwCl (MW bd dN dZ Cw Rw Ce (uI Lf i (a % 256)) Bt Wd Hg (uI Th i 1)) H := hP
      replace hD : va_D A (MW bd dN dZ Cw Rw Ce (uI Lf i (a % 256)) Bt Wd Hg (uI Th i 1)) := hD
      refine lv_aload_n hx hb dX2_lay_52 rfl (lv_at hl 0 rfl) ?_
      refine gm_Bt hx hb hts hown hK hP dX2_lay_53 ?_
      refine lv_iload hx hb dX2_lay_56 (lv_at hl 4 rfl) ?_
      refine lv_iload_n hx hb dX2_lay_58 rfl (lv_at hl 1 rfl) ?_
      refine ri_bipush hx hb dX2_lay_59 (by decide +kernel) ?_
      refine lv_ishr hx hb dX2_lay_61 ?_
      refine ri_top (a := a / 256) (sh_r 8 _ (by decide +kernel) (by omega)) ?_
      refine ri_iast hx hb hK hP hD hS 3 0 rfl rfl (by omega) (by decide) dX2_lay_62 (fun H locs hP hD hS => ?_)
      replace hP : va_P D vwCl (MW bd dN dZ Cw Rw Ce (uI Lf i (a % 256)) (uI Bt i (a / 256)) Wd Hg (uI Th i 1)) H := hP
      replace hD : va_D A (MW bd dN dZ Cw Rw Ce (uI Lf i (a % 256)) (uI Bt i (a / 256)) Wd Hg (uI Th i 1)) := hD
      refine lv_aload_n hx hb dX2_lay_63 rfl (lv_at hl 0 rfl) ?_
      refine gm_Wd hx hb hts hown hK hP dX2_lay_64 ?_
      refine lv_iload hx hb dX2_lay_67 (lv_at hl 4 rfl) ?_
      refine lv_iload_n hx hb dX2_lay_69 rfl (lv_at hl 2 rfl) ?_
      refine ri_iast hx hb hK hP hD hS 4 0 rfl rfl (by omega) (by decide) dX2_lay_70 (fun H locs hP hD hS => ?_)
      replace hP : va_P D vwCl (MW bd dN dZ Cw Rw Ce (uI Lf i (a % 256)) (uI Bt i (a / 256)) (uI Wd i w) Hg (uI Th i 1)) H := hP
      replace hD : va_D A (MW bd dN dZ Cw Rw Ce (uI Lf i (a % 256)) (uI Bt i (a / 256)) (uI Wd i w) Hg (uI Th i 1)) := hD
      refine lv_aload_n hx hb dX2_lay_71 rfl (lv_at hl 0 rfl) ?_
      refine gm_Hg hx hb hts hown hK hP dX2_lay_72 ?_
      refine lv_iload hx hb dX2_lay_75 (lv_at hl 4 rfl) ?_
      refine lv_iload_n hx hb dX2_lay_77 rfl (lv_at hl 3 rfl) ?_
      refine ri_iast hx hb hK hP hD hS 5 0 rfl rfl (by omega) (by decide) dX2_lay_78 (fun H locs hP hD hS => ?_)
      replace hP : va_P D vwCl (MW bd dN dZ Cw Rw Ce (uI Lf i (a % 256)) (uI Bt i (a / 256)) (uI Wd i w) (uI Hg i h) (uI Th i 1)) H := hP
      replace hD : va_D A (MW bd dN dZ Cw Rw Ce (uI Lf i (a % 256)) (uI Bt i (a / 256)) (uI Wd i w) (uI Hg i h) (uI Th i 1)) := hD
      refine lv_aload_n hx hb dX2_lay_79 rfl (lv_at hl 0 rfl) ?_
      refine lv_iload hx hb dX2_lay_80 (lv_at hl 4 rfl) ?_
      refine lv_iload hx hb dX2_lay_82 (lv_at hl 4 rfl) ?_
      have e1 : uI Lf i (a % 256) i = a % 256 := uI_s _ _ _
      have e2 : uI Bt i (a / 256) i = a / 256 := uI_s _ _ _
      have e3 : uI Wd i w i = w := uI_s _ _ _
      have e4 : uI Hg i h i = h := uI_s _ _ _
      refine ri_callV (rest := []) (ci := 1) (q0 := 0) (mx2_paint l i i ⟨hi0, hi1⟩ (by unfold recOk; rw [e1, e2, e3, e4]; omega) _) hx hb hml hown hts (cwV 2 hts (lw_V q266 q268 qs25 q32 q269) rfl rfl rfl (by decide +kernel) ⟨Nat.le_of_ble_eq_true rfl, Nat.le_of_ble_eq_true rfl⟩) hK hP hD hS hA rfl rfl rfl hl.1 rfl (Nat.le_of_ble_eq_true rfl) dX2_lay_84 ⟨Nat.zero_le _, Nat.zero_le _⟩ (fun u2 H locs hu1 hP hD hS => ?_)
      obtain ⟨F, rfl⟩ : ∃ z, z = u2 := ⟨_, rfl⟩
      replace hP : va_P D vwCl (MW bd dN dZ Cw Rw F (uI Lf i (a % 256)) (uI Bt i (a / 256)) (uI Wd i w) (uI Hg i h) (uI Th i 1)) H := hP
      replace hD : va_D A (MW bd dN dZ Cw Rw F (uI Lf i (a % 256)) (uI Bt i (a / 256)) (uI Wd i w) (uI Hg i h) (uI Th i 1)) := hD
      rw [e1, e2, e3, e4] at hu1
      refine lv_iload hx hb dX2_lay_87 (lv_at hl 4 rfl) ?_
      exact ri_iretW (F, uI Lf i (a % 256), uI Bt i (a / 256), uI Wd i w, uI Hg i h, uI Th i 1) hx hb hr hlocks (⟨hi0, hi1, hz.1, hz.2, rfl, rfl, rfl, rfl, rfl, hu1⟩) hK hP hD hS dX2_lay_89
    · have htk := ht k (by omega) (by omega)
      refine lv_aload_n hx hb dX2_lay_12 rfl (lv_at hl 0 rfl) ?_
      refine gm_Th hx hb hts hown hK hP dX2_lay_13 ?_
      refine lv_iload hx hb dX2_lay_16 (lv_at hl 5 rfl) ?_
      refine ri_zald hx hb hK hP 6 1 rfl rfl (by omega) (by decide) dX2_lay_18 ?_
      refine ri_if_ne (tgt := 26) hx hb dX2_lay_19 (by decide) (by omega) (fun c19 => ?_) (fun c19 => ?_)
      · refine ri_iinc (k := 5) (lv' := [(5, .int (iI (k + -1))), (0, .ref (bd 0)), (1, .int (iI a)), (2, .int (iI w)), (3, .int (iI h)), (4, .int (iI i))]) hx hb dX2_lay_26 hl rfl (by decide) rfl (fun ls hl => ?_)
        refine lv_goto (tgt := 7) hx hb dX2_lay_29 (by decide) ?_
        exact ih7 (k + -1, i) ls _ _ (show -1 ≤ k + -1 ∧ k + -1 ≤ 19 ∧ 0 ≤ i ∧ i < 20 ∧ ((∀ j, k + -1 < j → j < 20 → Th j ≠ 0) ∨ (k + -1 < i ∧ Th i = 0 ∧ ∀ j, k + -1 < j → j < i → Th j ≠ 0)) from ⟨by omega, by omega, hi0, hi1, by
                rcases hcase with q | ⟨q1, q2, q3⟩
                · refine Or.inl (fun j a b => ?_)
                  by_cases e : j = k
                  · subst e; exact c19
                  · exact q j (by omega) b
                · refine Or.inr ⟨by omega, q2, fun j a b => ?_⟩
                  by_cases e : j = k
                  · subst e; exact c19
                  · exact q3 j (by omega) b⟩) (show ((k + -1) + 1).toNat < (k + 1).toNat by omega) (lv_sub hl [1, 2, 3, 4, 5, 0] rfl) hP hD hS
      · refine lv_iload hx hb dX2_lay_22 (lv_at hl 5 rfl) ?_
        refine lv_istore (lv' := [(4, .int (iI k)), (0, .ref (bd 0)), (1, .int (iI a)), (2, .int (iI w)), (3, .int (iI h)), (5, .int (iI k))]) hx hb dX2_lay_24 hl (by decide) rfl (fun ls hl => ?_)
        refine ri_iinc (k := 5) (lv' := [(5, .int (iI (k + -1))), (4, .int (iI k)), (0, .ref (bd 0)), (1, .int (iI a)), (2, .int (iI w)), (3, .int (iI h))]) hx hb dX2_lay_26 hl rfl (by decide) rfl (fun ls hl => ?_)
        refine lv_goto (tgt := 7) hx hb dX2_lay_29 (by decide) ?_
        exact ih7 (k + -1, k) ls _ _ (show -1 ≤ k + -1 ∧ k + -1 ≤ 19 ∧ 0 ≤ k ∧ k < 20 ∧ ((∀ j, k + -1 < j → j < 20 → Th j ≠ 0) ∨ (k + -1 < k ∧ Th k = 0 ∧ ∀ j, k + -1 < j → j < k → Th j ≠ 0)) from ⟨by omega, by omega, by omega, by omega, Or.inr ⟨by omega, c19, fun j a b => absurd b (by omega)⟩⟩) (show ((k + -1) + 1).toNat < (k + 1).toNat by omega) (lv_sub hl [2, 3, 4, 5, 1, 0] rfl) hP hD hS
set_option maxHeartbeats 4000000 in
set_option maxRecDepth 100000 in
theorem mx2_place (l : Launch) {D : va_G} {bd : Nat → Nat} {dN dZ : ClassId} {Cw Rw : Int} {Ce Lf Bt Wd Hg Th : Int → Int} (w h t : Int) (hC : 4 ≤ Cw ∧ Cw ≤ 16) (hR : 4 ≤ Rw ∧ Rw ≤ 16) (hCe : cellOk Ce) (hw' : -2147483648 ≤ w ∧ w < 2147483648) (hh' : -2147483648 ≤ h ∧ h < 2147483648) (htn : t = 0 ∨ t = 1) (ht : thOk Th) (sz : Nat) : MetI (S := (Int → Int) × (Int → Int) × (Int → Int) × (Int → Int) × (Int → Int) × (Int → Int)) l yX2_place cX2_place 6 2 50 [.ref (bd 0), .int (iI w), .int (iI h), .int (iI t)] D (MW bd dN dZ Cw Rw Ce Lf Bt Wd Hg Th) (tM dN dZ) sz (fun z (E', L', B', W', H', T') => (E' = Ce ∧ L' = Lf ∧ B' = Bt ∧ W' = Wd ∧ H' = Hg ∧ T' = Th ∧ ((z = -1 ∧ ¬ sizeP w h) ∨ (sizeP w h ∧ sumI (cntT Th) 20 = 20 ∧ z = -2) ∨ (sizeP w h ∧ sumI (cntT Th) 20 ≠ 20 ∧ z = -3 ∧ ∃ a tr, ChM Ce Cw Rw w h t a tr ∧ a < 0))) ∨ (sizeP w h ∧ sumI (cntT Th) 20 ≠ 20 ∧ ∃ a tr, ChM Ce Cw Rw w h t a tr ∧ 0 ≤ a ∧ 0 ≤ z ∧ z < 20 ∧ Th z = 0 ∧ (∀ j, 0 ≤ j → j < z → Th j ≠ 0) ∧ L' = uI Lf z (a % 256) ∧ B' = uI Bt z (a / 256) ∧ W' = uI Wd z (if tr = 1 then h else w) ∧ H' = uI Hg z (if tr = 1 then w else h) ∧ T' = uI Th z 1 ∧ ∀ k, 0 ≤ k → k < 256 → E' k = paintV Ce (a % 256) (a / 256) (if tr = 1 then h else w) (if tr = 1 then w else h) z k)) (fun (E', L', B', W', H', T') => MW bd dN dZ Cw Rw E' L' B' W' H' T') := by
  refine ri_met RX2 rfl (by decide) (Nat.le_of_ble_eq_true rfl) ?_
  intro p e s m below meth c hx hb hr hts hown hlocks hml hnm hv ls hl
  obtain ⟨hsz, hP, hK, hD0⟩ := hv
  subst hsz
  have hD := hD0.self (sz := s.heap.size)
  generalize hAe : va_A (MW bd dN dZ Cw Rw Ce Lf Bt Wd Hg Th) s.heap.size = A at hD ⊢
  have hA : ∀ q : Nat, s.heap.size ≤ q → A q := fun q h => by rw [← hAe]; exact Or.inr h
  have hS : va_S A s.heap s.heap [] := va_S.rf
  have hl : lv_has ls 6 [(0, .ref (bd 0)), (1, .int (iI w)), (2, .int (iI h)), (3, .int (iI t))] := hl
  have hcr := cntT_rng Th 20
  refine lv_aload_n hx hb dX2_place_0 rfl (lv_at hl 0 rfl) ?_
  refine lv_iload_n hx hb dX2_place_1 rfl (lv_at hl 1 rfl) ?_
  refine lv_iload_n hx hb dX2_place_2 rfl (lv_at hl 2 rfl) ?_
  refine ri_callR (rest := []) (ci := 1) (q0 := 0) (mx2_isSize l w h hw' hh') hx hb hml hown hts (cwV 2 hts (lw_V q246 q248 qs20 q32 q249) rfl rfl rfl (by decide +kernel) ⟨Nat.le_of_ble_eq_true rfl, Nat.le_of_ble_eq_true rfl⟩) hK hP rfl rfl rfl hl.1 rfl (Nat.le_of_ble_eq_true rfl) dX2_place_3 ⟨Nat.zero_le _, Nat.zero_le _⟩ (fun u hu => ?_)
  refine ri_if_ne (tgt := 11) hx hb dX2_place_6 (by decide) (by omega) (fun c6 => ?_) (fun c6 => ?_)
  · have hsz : sizeP w h := by unfold sizeP; omega
    have hsz2 : sizeP h w := by unfold sizeP; omega
    have hsz' := hsz
    unfold sizeP at hsz'
    refine lv_aload_n hx hb dX2_place_11 rfl (lv_at hl 0 rfl) ?_
    refine ri_callR (rest := []) (ci := 1) (q0 := 0) (mx2_count l ht) hx hb hml hown hts (cwV 0 hts (lw_V q250 q252 qs21 q32 q253) rfl rfl rfl (by decide +kernel) ⟨Nat.le_of_ble_eq_true rfl, Nat.le_of_ble_eq_true rfl⟩) hK hP rfl rfl rfl hl.1 rfl (Nat.le_of_ble_eq_true rfl) dX2_place_12 ⟨Nat.zero_le _, Nat.zero_le _⟩ (fun z3 hz3 => ?_)
    subst hz3
    refine ri_bipush hx hb dX2_place_15 (by decide +kernel) ?_
    refine ri_icmp_ne (tgt := 23) hx hb dX2_place_17 (by decide) (by omega) (by omega) (fun c17 => ?_) (fun c17 => ?_)
    · have hfr : ∃ k, 0 ≤ k ∧ k < 20 ∧ Th k = 0 := cntT_free 20 c17
      refine lv_aload_n hx hb dX2_place_23 rfl (lv_at hl 0 rfl) ?_
      refine lv_iload_n hx hb dX2_place_24 rfl (lv_at hl 1 rfl) ?_
      refine lv_iload_n hx hb dX2_place_25 rfl (lv_at hl 2 rfl) ?_
      refine ri_callR (rest := []) (ci := 1) (q0 := 0) (mx2_best l w h hsz hC hR hCe) hx hb hml hown hts (cwV 2 hts (lw_V q254 q256 qs22 q32 q257) rfl rfl rfl (by decide +kernel) ⟨Nat.le_of_ble_eq_true rfl, Nat.le_of_ble_eq_true rfl⟩) hK hP rfl rfl rfl hl.1 rfl (Nat.le_of_ble_eq_true rfl) dX2_place_26 ⟨Nat.zero_le _, Nat.zero_le _⟩ (fun a1 ha1 => ?_)
      have hr1 := BestS_rng hC hR ha1
      refine lv_istore (lv' := [(4, .int (iI a1)), (0, .ref (bd 0)), (1, .int (iI w)), (2, .int (iI h)), (3, .int (iI t))]) hx hb dX2_place_29 hl (by decide) rfl (fun ls hl => ?_)
      refine ri_joinW (σ := Int) (nL := 6) 46 (fun (a2 : Int) => (t = 0 ∧ a2 = -3) ∨ (t ≠ 0 ∧ BestS Ce Cw Rw h w a2)) (fun (a2 : Int) => [(0, .ref (bd 0)), (1, .int (iI w)), (2, .int (iI h)), (3, .int (iI t)), (4, .int (iI a1))]) (fun (a2 : Int) => [.int (iI a2)]) (fun (a2 : Int) => (MW bd dN dZ Cw Rw Ce Lf Bt Wd Hg Th)) D vwCl A s.heap ?_ ?_
      · rintro a2 ls H locs hI hl hP hD hS
        replace hP : va_P D vwCl (MW bd dN dZ Cw Rw Ce Lf Bt Wd Hg Th) H := hP
        replace hD : va_D A (MW bd dN dZ Cw Rw Ce Lf Bt Wd Hg Th) := hD
        replace hI : (t = 0 ∧ a2 = -3) ∨ (t ≠ 0 ∧ BestS Ce Cw Rw h w a2) := hI
        replace hl : lv_has ls 6 [(0, .ref (bd 0)), (1, .int (iI w)), (2, .int (iI h)), (3, .int (iI t)), (4, .int (iI a1))] := hl
        have hr2 : -3 ≤ a2 ∧ a2 < 4096 ∧ (a2 < 0 → a2 = -3) := by
          rcases hI with ⟨_, q⟩ | ⟨_, q⟩
          · omega
          · exact BestS_rng hC hR q
        have hchN : ¬ (0 ≤ a2 ∧ (a1 < 0 ∨ a2 < a1)) → ChM Ce Cw Rw w h t a1 0 := fun q => ⟨a1, ha1, by
          rcases hI with ⟨q1, _⟩ | ⟨q1, q2⟩
          · exact Or.inl ⟨q1, rfl, rfl⟩
          · exact Or.inr ⟨q1, a2, q2, Or.inr ⟨q, rfl, rfl⟩⟩⟩
        have hchY : 0 ≤ a2 ∧ (a1 < 0 ∨ a2 < a1) → ChM Ce Cw Rw w h t a2 1 := fun q => ⟨a1, ha1, by
          rcases hI with ⟨_, q1⟩ | ⟨q1, q2⟩
          · omega
          · exact Or.inr ⟨q1, a2, q2, Or.inl ⟨q.1, q.2, rfl, rfl⟩⟩⟩
        have hposN : 0 ≤ a1 → gd Ce Cw Rw (a1 % 256) (a1 / 256) w h := fun q => BestS_pos hC ha1 q
        have hposY : 0 ≤ a2 → gd Ce Cw Rw (a2 % 256) (a2 / 256) h w := fun q => by
          rcases hI with ⟨_, q1⟩ | ⟨_, q2⟩
          · omega
          · exact BestS_pos hC q2 q
        clear hI
        refine lv_istore (lv' := [(5, .int (iI a2)), (0, .ref (bd 0)), (1, .int (iI w)), (2, .int (iI h)), (3, .int (iI t)), (4, .int (iI a1))]) hx hb dX2_place_46 hl (by decide) rfl (fun ls hl => ?_)
        refine lv_iload hx hb dX2_place_48 (lv_at hl 5 rfl) ?_
        refine ri_bipush hx hb dX2_place_50 (by decide +kernel) ?_
        refine ri_joinW (σ := Int) (nL := 6) 65 (fun (d : Int) => ¬ (a1 = -3 ∧ a2 = -3)) (fun (d : Int) => [(0, .ref (bd 0)), (1, .int (iI w)), (2, .int (iI h)), (3, .int (iI t)), (4, .int (iI a1)), (5, .int (iI a2))]) (fun (d : Int) => []) (fun (d : Int) => (MW bd dN dZ Cw Rw Ce Lf Bt Wd Hg Th)) D vwCl A s.heap ?_ ?_
        · rintro d ls H locs hI hl hP hD hS
          replace hP : va_P D vwCl (MW bd dN dZ Cw Rw Ce Lf Bt Wd Hg Th) H := hP
          replace hD : va_D A (MW bd dN dZ Cw Rw Ce Lf Bt Wd Hg Th) := hD
          replace hI : ¬ (a1 = -3 ∧ a2 = -3) := hI
          replace hl : lv_has ls 6 [(0, .ref (bd 0)), (1, .int (iI w)), (2, .int (iI h)), (3, .int (iI t)), (4, .int (iI a1)), (5, .int (iI a2))] := hl
          refine lv_iload hx hb dX2_place_65 (lv_at hl 5 rfl) ?_
          refine ri_bipush hx hb dX2_place_67 (by decide +kernel) ?_
          refine ri_icmp_eq (tgt := 95) hx hb dX2_place_69 (by decide) (by omega) (by omega) (fun c69 => ?_) (fun c69 => ?_)
          · obtain ⟨g1, g2, g3, g4, -⟩ := hposN (by omega)
            refine lv_aload_n hx hb dX2_place_95 rfl (lv_at hl 0 rfl) ?_
            refine lv_iload hx hb dX2_place_96 (lv_at hl 4 rfl) ?_
            refine lv_iload_n hx hb dX2_place_98 rfl (lv_at hl 1 rfl) ?_
            refine lv_iload_n hx hb dX2_place_99 rfl (lv_at hl 2 rfl) ?_
            refine ri_callI (rest := []) (ci := 1) (q0 := 0) (mx2_lay l a1 w h (by omega) (by omega) (by omega) ht hfr _) hx hb hml hown hts (cwV 3 hts (lw_V q262 q264 qs24 q32 q265) rfl rfl rfl (by decide +kernel) ⟨Nat.le_of_ble_eq_true rfl, Nat.le_of_ble_eq_true rfl⟩) hK hP hD hS hA rfl rfl rfl hl.1 rfl (Nat.le_of_ble_eq_true rfl) dX2_place_100 ⟨Nat.zero_le _, Nat.zero_le _⟩ (fun z1 u5 H locs hu4 hP hD hS => ?_)
            obtain ⟨E', L', B', W', H', T'⟩ := u5
            replace hP : va_P D vwCl (MW bd dN dZ Cw Rw E' L' B' W' H' T') H := hP
            replace hD : va_D A (MW bd dN dZ Cw Rw E' L' B' W' H' T') := hD
            exact ri_iretW (E', L', B', W', H', T') hx hb hr hlocks (by
                            obtain ⟨b1, b2, b3, b4, b5, b6, b7, b8, b9, b10⟩ := hu4
                            exact Or.inr ⟨hsz, c17, a1, 0, hchN (by omega), by omega, b1, b2, b3, b4, b5, b6, b7, b8, b9, b10⟩) hK hP hD hS dX2_place_103
          · refine lv_iload hx hb dX2_place_72 (lv_at hl 4 rfl) ?_
            refine ri_bipush hx hb dX2_place_74 (by decide +kernel) ?_
            refine ri_icmp_eq (tgt := 86) hx hb dX2_place_76 (by decide) (by omega) (by omega) (fun c76 => ?_) (fun c76 => ?_)
            · obtain ⟨g1, g2, g3, g4, -⟩ := hposY (by omega)
              refine lv_aload_n hx hb dX2_place_86 rfl (lv_at hl 0 rfl) ?_
              refine lv_iload hx hb dX2_place_87 (lv_at hl 5 rfl) ?_
              refine lv_iload_n hx hb dX2_place_89 rfl (lv_at hl 2 rfl) ?_
              refine lv_iload_n hx hb dX2_place_90 rfl (lv_at hl 1 rfl) ?_
              refine ri_callI (rest := []) (ci := 1) (q0 := 0) (mx2_lay l a2 h w (by omega) (by omega) (by omega) ht hfr _) hx hb hml hown hts (cwV 3 hts (lw_V q262 q264 qs24 q32 q265) rfl rfl rfl (by decide +kernel) ⟨Nat.le_of_ble_eq_true rfl, Nat.le_of_ble_eq_true rfl⟩) hK hP hD hS hA rfl rfl rfl hl.1 rfl (Nat.le_of_ble_eq_true rfl) dX2_place_91 ⟨Nat.zero_le _, Nat.zero_le _⟩ (fun z1 u7 H locs hu6 hP hD hS => ?_)
              obtain ⟨E', L', B', W', H', T'⟩ := u7
              replace hP : va_P D vwCl (MW bd dN dZ Cw Rw E' L' B' W' H' T') H := hP
              replace hD : va_D A (MW bd dN dZ Cw Rw E' L' B' W' H' T') := hD
              exact ri_iretW (E', L', B', W', H', T') hx hb hr hlocks (by
                            obtain ⟨b1, b2, b3, b4, b5, b6, b7, b8, b9, b10⟩ := hu6
                            exact Or.inr ⟨hsz, c17, a2, 1, hchY (by omega), by omega, b1, b2, b3, b4, b5, b6, b7, b8, b9, b10⟩) hK hP hD hS dX2_place_94
            · refine lv_iload hx hb dX2_place_79 (lv_at hl 5 rfl) ?_
              refine lv_iload hx hb dX2_place_81 (lv_at hl 4 rfl) ?_
              refine ri_icmp_ge (tgt := 95) hx hb dX2_place_83 (by decide) (by omega) (by omega) (fun c83 => ?_) (fun c83 => ?_)
              · obtain ⟨g1, g2, g3, g4, -⟩ := hposN (by omega)
                refine lv_aload_n hx hb dX2_place_95 rfl (lv_at hl 0 rfl) ?_
                refine lv_iload hx hb dX2_place_96 (lv_at hl 4 rfl) ?_
                refine lv_iload_n hx hb dX2_place_98 rfl (lv_at hl 1 rfl) ?_
                refine lv_iload_n hx hb dX2_place_99 rfl (lv_at hl 2 rfl) ?_
                refine ri_callI (rest := []) (ci := 1) (q0 := 0) (mx2_lay l a1 w h (by omega) (by omega) (by omega) ht hfr _) hx hb hml hown hts (cwV 3 hts (lw_V q262 q264 qs24 q32 q265) rfl rfl rfl (by decide +kernel) ⟨Nat.le_of_ble_eq_true rfl, Nat.le_of_ble_eq_true rfl⟩) hK hP hD hS hA rfl rfl rfl hl.1 rfl (Nat.le_of_ble_eq_true rfl) dX2_place_100 ⟨Nat.zero_le _, Nat.zero_le _⟩ (fun z1 u9 H locs hu8 hP hD hS => ?_)
                obtain ⟨E', L', B', W', H', T'⟩ := u9
                replace hP : va_P D vwCl (MW bd dN dZ Cw Rw E' L' B' W' H' T') H := hP
                replace hD : va_D A (MW bd dN dZ Cw Rw E' L' B' W' H' T') := hD
                exact ri_iretW (E', L', B', W', H', T') hx hb hr hlocks (by
                            obtain ⟨b1, b2, b3, b4, b5, b6, b7, b8, b9, b10⟩ := hu8
                            exact Or.inr ⟨hsz, c17, a1, 0, hchN (by omega), by omega, b1, b2, b3, b4, b5, b6, b7, b8, b9, b10⟩) hK hP hD hS dX2_place_103
              · obtain ⟨g1, g2, g3, g4, -⟩ := hposY (by omega)
                refine lv_aload_n hx hb dX2_place_86 rfl (lv_at hl 0 rfl) ?_
                refine lv_iload hx hb dX2_place_87 (lv_at hl 5 rfl) ?_
                refine lv_iload_n hx hb dX2_place_89 rfl (lv_at hl 2 rfl) ?_
                refine lv_iload_n hx hb dX2_place_90 rfl (lv_at hl 1 rfl) ?_
                refine ri_callI (rest := []) (ci := 1) (q0 := 0) (mx2_lay l a2 h w (by omega) (by omega) (by omega) ht hfr _) hx hb hml hown hts (cwV 3 hts (lw_V q262 q264 qs24 q32 q265) rfl rfl rfl (by decide +kernel) ⟨Nat.le_of_ble_eq_true rfl, Nat.le_of_ble_eq_true rfl⟩) hK hP hD hS hA rfl rfl rfl hl.1 rfl (Nat.le_of_ble_eq_true rfl) dX2_place_91 ⟨Nat.zero_le _, Nat.zero_le _⟩ (fun z1 u11 H locs hu10 hP hD hS => ?_)
                obtain ⟨E', L', B', W', H', T'⟩ := u11
                replace hP : va_P D vwCl (MW bd dN dZ Cw Rw E' L' B' W' H' T') H := hP
                replace hD : va_D A (MW bd dN dZ Cw Rw E' L' B' W' H' T') := hD
                exact ri_iretW (E', L', B', W', H', T') hx hb hr hlocks (by
                            obtain ⟨b1, b2, b3, b4, b5, b6, b7, b8, b9, b10⟩ := hu10
                            exact Or.inr ⟨hsz, c17, a2, 1, hchY (by omega), by omega, b1, b2, b3, b4, b5, b6, b7, b8, b9, b10⟩) hK hP hD hS dX2_place_94
        · intro jn65
          refine ri_icmp_ne (tgt := 65) hx hb dX2_place_52 (by decide) (by omega) (by omega) (fun c52 => ?_) (fun c52 => ?_)
          · exact jn65 (0) ls _ _ (show ¬ (a1 = -3 ∧ a2 = -3) from by omega) (lv_sub hl [1, 2, 3, 4, 5, 0] rfl) hP hD hS
          · refine lv_iload hx hb dX2_place_55 (lv_at hl 0 rfl) ?_
            refine ri_bipush hx hb dX2_place_57 (by decide +kernel) ?_
            refine ri_icmp_ne (tgt := 65) hx hb dX2_place_59 (by decide) (by omega) (by omega) (fun c59 => ?_) (fun c59 => ?_)
            · exact jn65 (0) ls _ _ (show ¬ (a1 = -3 ∧ a2 = -3) from by omega) (lv_sub hl [1, 2, 3, 4, 5, 0] rfl) hP hD hS
            · refine ri_bipush hx hb dX2_place_62 (by decide +kernel) ?_
              exact ri_iretW (Ce, Lf, Bt, Wd, Hg, Th) hx hb hr hlocks (Or.inl ⟨rfl, rfl, rfl, rfl, rfl, rfl, Or.inr (Or.inr ⟨hsz, c17, rfl, a1, 0, hchN (by omega), by omega⟩)⟩) hK hP hD hS dX2_place_64
      · intro jn46
        refine lv_iload_n hx hb dX2_place_31 rfl (lv_at hl 4 rfl) ?_
        refine ri_if_eq (tgt := 44) hx hb dX2_place_32 (by decide) (by omega) (fun c32 => ?_) (fun c32 => ?_)
        · refine ri_bipush hx hb dX2_place_44 (by decide +kernel) ?_
          exact jn46 (-3) ls _ _ (show (t = 0 ∧ (-3 : Int) = -3) ∨ (t ≠ 0 ∧ BestS Ce Cw Rw h w (-3 : Int)) from Or.inl ⟨c32, rfl⟩) (lv_sub hl [1, 2, 3, 4, 0] rfl) hP hD hS
        · refine lv_aload_n hx hb dX2_place_35 rfl (lv_at hl 1 rfl) ?_
          refine lv_iload_n hx hb dX2_place_36 rfl (lv_at hl 3 rfl) ?_
          refine lv_iload_n hx hb dX2_place_37 rfl (lv_at hl 2 rfl) ?_
          refine ri_callR (rest := []) (ci := 1) (q0 := 0) (mx2_best l h w hsz2 hC hR hCe) hx hb hml hown hts (cwV 2 hts (lw_V q254 q256 qs22 q32 q257) rfl rfl rfl (by decide +kernel) ⟨Nat.le_of_ble_eq_true rfl, Nat.le_of_ble_eq_true rfl⟩) hK hP rfl rfl rfl hl.1 rfl (Nat.le_of_ble_eq_true rfl) dX2_place_38 ⟨Nat.zero_le _, Nat.zero_le _⟩ (fun v2 hv2 => ?_)
          refine lv_goto (tgt := 46) hx hb dX2_place_41 (by decide) ?_
          exact jn46 (v2) ls _ _ (show (t = 0 ∧ v2 = -3) ∨ (t ≠ 0 ∧ BestS Ce Cw Rw h w v2) from Or.inr ⟨c32, hv2⟩) (lv_sub hl [1, 2, 3, 4, 0] rfl) hP hD hS
    · refine ri_bipush hx hb dX2_place_20 (by decide +kernel) ?_
      exact ri_iretW (Ce, Lf, Bt, Wd, Hg, Th) hx hb hr hlocks (Or.inl ⟨rfl, rfl, rfl, rfl, rfl, rfl, Or.inr (Or.inl ⟨hsz, c17, rfl⟩)⟩) hK hP hD hS dX2_place_22
  · refine ri_iconst hx hb dX2_place_9 ?_
    exact ri_iretW (Ce, Lf, Bt, Wd, Hg, Th) hx hb hr hlocks (Or.inl ⟨rfl, rfl, rfl, rfl, rfl, rfl, Or.inl ⟨rfl, by unfold sizeP; omega⟩⟩) hK hP hD hS dX2_place_10
set_option maxHeartbeats 4000000 in
set_option maxRecDepth 100000 in
theorem mx2_remove (l : Launch) {D : va_G} {bd : Nat → Nat} {dN dZ : ClassId} {Cw Rw : Int} {Ce Lf Bt Wd Hg Th : Int → Int} (i : Int) (hi' : -2147483648 ≤ i ∧ i < 2147483648) (ht : thOk Th) (hrec : ∀ j, 0 ≤ j → j < 20 → Th j ≠ 0 → recOk Lf Bt Wd Hg j) (sz : Nat) : MetI (S := (Int → Int) × (Int → Int)) l yX2_remove cX2_remove 2 1 24 [.ref (bd 0), .int (iI i)] D (MW bd dN dZ Cw Rw Ce Lf Bt Wd Hg Th) (tM dN dZ) sz (fun z (E', T') => (z = -1 ∧ ¬ (0 ≤ i ∧ i < 20 ∧ Th i ≠ 0) ∧ E' = Ce ∧ T' = Th) ∨ ((0 ≤ i ∧ i < 20 ∧ Th i ≠ 0) ∧ z = sumI (cntT (uI Th i 0)) 20 ∧ T' = uI Th i 0 ∧ ∀ k, 0 ≤ k → k < 256 → E' k = paintV Ce (Lf i) (Bt i) (Wd i) (Hg i) (-1) k)) (fun (E', T') => MW bd dN dZ Cw Rw E' Lf Bt Wd Hg T') := by
  refine ri_met RX2 rfl (by decide) (Nat.le_of_ble_eq_true rfl) ?_
  intro p e s m below meth c hx hb hr hts hown hlocks hml hnm hv ls hl
  obtain ⟨hsz, hP, hK, hD0⟩ := hv
  subst hsz
  have hD := hD0.self (sz := s.heap.size)
  generalize hAe : va_A (MW bd dN dZ Cw Rw Ce Lf Bt Wd Hg Th) s.heap.size = A at hD ⊢
  have hA : ∀ q : Nat, s.heap.size ≤ q → A q := fun q h => by rw [← hAe]; exact Or.inr h
  have hS : va_S A s.heap s.heap [] := va_S.rf
  have hl : lv_has ls 2 [(0, .ref (bd 0)), (1, .int (iI i))] := hl
  refine lv_aload_n hx hb dX2_remove_0 rfl (lv_at hl 0 rfl) ?_
  refine lv_iload_n hx hb dX2_remove_1 rfl (lv_at hl 1 rfl) ?_
  refine ri_callR (rest := []) (ci := 1) (q0 := 0) (mx2_isThere l i hi' ht) hx hb hml hown hts (cwV 1 hts (lw_V q274 q276 qs26 q32 q277) rfl rfl rfl (by decide +kernel) ⟨Nat.le_of_ble_eq_true rfl, Nat.le_of_ble_eq_true rfl⟩) hK hP rfl rfl rfl hl.1 rfl (Nat.le_of_ble_eq_true rfl) dX2_remove_2 ⟨Nat.zero_le _, Nat.zero_le _⟩ (fun u hu => ?_)
  refine ri_if_ne (tgt := 10) hx hb dX2_remove_5 (by decide) (by omega) (fun c5 => ?_) (fun c5 => ?_)
  · have hus : (0 ≤ i ∧ i < 20 ∧ Th i ≠ 0) := by omega
    refine lv_aload_n hx hb dX2_remove_10 rfl (lv_at hl 0 rfl) ?_
    refine lv_iload_n hx hb dX2_remove_11 rfl (lv_at hl 1 rfl) ?_
    refine ri_iconst hx hb dX2_remove_12 ?_
    refine ri_callV (rest := []) (ci := 1) (q0 := 0) (mx2_paint l i (-1) ⟨hus.1, hus.2.1⟩ (hrec i hus.1 hus.2.1 hus.2.2) _) hx hb hml hown hts (cwV 2 hts (lw_V q266 q268 qs25 q32 q269) rfl rfl rfl (by decide +kernel) ⟨Nat.le_of_ble_eq_true rfl, Nat.le_of_ble_eq_true rfl⟩) hK hP hD hS hA rfl rfl rfl hl.1 rfl (Nat.le_of_ble_eq_true rfl) dX2_remove_13 ⟨Nat.zero_le _, Nat.zero_le _⟩ (fun u13 H locs hu12 hP hD hS => ?_)
    obtain ⟨F, rfl⟩ : ∃ z, z = u13 := ⟨_, rfl⟩
    replace hP : va_P D vwCl (MW bd dN dZ Cw Rw F Lf Bt Wd Hg Th) H := hP
    replace hD : va_D A (MW bd dN dZ Cw Rw F Lf Bt Wd Hg Th) := hD
    have ht2 : thOk (uI Th i 0) := fun k a b => by
      by_cases e : k = i
      · subst e; rw [uI_s]; exact Or.inl rfl
      · rw [uI_n _ e]; exact ht k a b
    refine lv_aload_n hx hb dX2_remove_16 rfl (lv_at hl 0 rfl) ?_
    refine gm_Th hx hb hts hown hK hP dX2_remove_17 ?_
    refine lv_iload_n hx hb dX2_remove_20 rfl (lv_at hl 1 rfl) ?_
    refine ri_iconst hx hb dX2_remove_21 ?_
    refine ri_zast hx hb hK hP hD hS 6 1 rfl rfl (by omega) (by decide) (by omega) dX2_remove_22 (fun H locs hP hD hS => ?_)
    replace hP : va_P D vwCl (MW bd dN dZ Cw Rw F Lf Bt Wd Hg (uI Th i 0)) H := hP
    replace hD : va_D A (MW bd dN dZ Cw Rw F Lf Bt Wd Hg (uI Th i 0)) := hD
    refine lv_aload_n hx hb dX2_remove_23 rfl (lv_at hl 0 rfl) ?_
    refine ri_callR (rest := []) (ci := 1) (q0 := 0) (mx2_count l ht2) hx hb hml hown hts (cwV 0 hts (lw_V q250 q252 qs21 q32 q253) rfl rfl rfl (by decide +kernel) ⟨Nat.le_of_ble_eq_true rfl, Nat.le_of_ble_eq_true rfl⟩) hK hP rfl rfl rfl hl.1 rfl (Nat.le_of_ble_eq_true rfl) dX2_remove_24 ⟨Nat.zero_le _, Nat.zero_le _⟩ (fun z14 hz14 => ?_)
    subst hz14
    exact ri_iretW (F, uI Th i 0) hx hb hr hlocks (Or.inr ⟨hus, rfl, rfl, hu12⟩) hK hP hD hS dX2_remove_27
  · refine ri_iconst hx hb dX2_remove_8 ?_
    exact ri_iretW (Ce, Th) hx hb hr hlocks (Or.inl ⟨rfl, by omega, rfl, rfl⟩) hK hP hD hS dX2_remove_9
set_option maxHeartbeats 4000000 in
set_option maxRecDepth 100000 in
theorem mx2_clear (l : Launch) {D : va_G} {bd : Nat → Nat} {dN dZ : ClassId} {Cw Rw : Int} {Ce Lf Bt Wd Hg Th : Int → Int} (ht : thOk Th) (sz : Nat) : MetI (S := (Int → Int) × (Int → Int)) l yX2_clear cX2_clear 3 1 22 [.ref (bd 0)] D (MW bd dN dZ Cw Rw Ce Lf Bt Wd Hg Th) (tM dN dZ) sz (fun z (E', T') => z = sumI (cntT Th) 20 ∧ (∀ j, 0 ≤ j → j < 20 → T' j = 0) ∧ ∀ k, 0 ≤ k → k < 256 → E' k = -1) (fun (E', T') => MW bd dN dZ Cw Rw E' Lf Bt Wd Hg T') := by
  refine ri_met RX2 rfl (by decide) (Nat.le_of_ble_eq_true rfl) ?_
  intro p e s m below meth c hx hb hr hts hown hlocks hml hnm hv ls hl
  obtain ⟨hsz, hP, hK, hD0⟩ := hv
  subst hsz
  have hD := hD0.self (sz := s.heap.size)
  generalize hAe : va_A (MW bd dN dZ Cw Rw Ce Lf Bt Wd Hg Th) s.heap.size = A at hD ⊢
  have hA : ∀ q : Nat, s.heap.size ≤ q → A q := fun q h => by rw [← hAe]; exact Or.inr h
  have hS : va_S A s.heap s.heap [] := va_S.rf
  have hl : lv_has ls 3 [(0, .ref (bd 0))] := hl
  refine lv_aload_n hx hb dX2_clear_0 rfl (lv_at hl 0 rfl) ?_
  refine ri_callR (rest := []) (ci := 1) (q0 := 0) (mx2_count l ht) hx hb hml hown hts (cwV 0 hts (lw_V q250 q252 qs21 q32 q253) rfl rfl rfl (by decide +kernel) ⟨Nat.le_of_ble_eq_true rfl, Nat.le_of_ble_eq_true rfl⟩) hK hP rfl rfl rfl hl.1 rfl (Nat.le_of_ble_eq_true rfl) dX2_clear_1 ⟨Nat.zero_le _, Nat.zero_le _⟩ (fun z15 hz15 => ?_)
  subst hz15
  refine lv_istore_n (lv' := [(1, .int (iI (sumI (cntT Th) 20))), (0, .ref (bd 0))]) hx hb dX2_clear_4 rfl hl (by decide) rfl (fun ls hl => ?_)
  refine ri_iconst hx hb dX2_clear_5 ?_
  refine lv_istore_n (lv' := [(2, .int (iI 0)), (1, .int (iI (sumI (cntT Th) 20))), (0, .ref (bd 0))]) hx hb dX2_clear_6 rfl hl (by decide) rfl (fun ls hl => ?_)
  refine ri_loopW (σ := Int × (Int → Int)) (nL := 3) (fun ((k, V) : Int × (Int → Int)) => (20 - k).toNat) (fun ((k, V) : Int × (Int → Int)) => 0 ≤ k ∧ k ≤ 20 ∧ ∀ j, 0 ≤ j → j < k → V j = 0) (fun ((k, V) : Int × (Int → Int)) => [(0, .ref (bd 0)), (1, .int (iI (sumI (cntT Th) 20))), (2, .int (iI k))]) (fun ((k, V) : Int × (Int → Int)) => (MW bd dN dZ Cw Rw Ce Lf Bt Wd Hg V)) (0, Th) ?_ (lv_sub hl [2, 1, 0] rfl) hP hD hS ?_
  · show 0 ≤ (0 : Int) ∧ (0 : Int) ≤ 20 ∧ ∀ j, 0 ≤ j → j < (0 : Int) → Th j = 0
    exact ⟨by omega, by omega, fun j a b => absurd b (by omega)⟩
  · rintro ⟨k, V⟩ ls H locs hI hl hP hD hS ih7
    replace hP : va_P D vwCl (MW bd dN dZ Cw Rw Ce Lf Bt Wd Hg V) H := hP
    replace hD : va_D A (MW bd dN dZ Cw Rw Ce Lf Bt Wd Hg V) := hD
    replace hI : 0 ≤ k ∧ k ≤ 20 ∧ ∀ j, 0 ≤ j → j < k → V j = 0 := hI
    obtain ⟨hk0, hk1, hall⟩ := hI
    replace hl : lv_has ls 3 [(0, .ref (bd 0)), (1, .int (iI (sumI (cntT Th) 20))), (2, .int (iI k))] := hl
    refine lv_iload_n hx hb dX2_clear_7 rfl (lv_at hl 2 rfl) ?_
    refine ri_bipush hx hb dX2_clear_8 (by decide +kernel) ?_
    refine ri_icmp_ge (tgt := 26) hx hb dX2_clear_10 (by decide) (by omega) (by omega) (fun c10 => ?_) (fun c10 => ?_)
    · have e : k = 20 := by omega
      subst e
      refine ri_iconst hx hb dX2_clear_26 ?_
      refine lv_istore_n (lv' := [(2, .int (iI 0)), (0, .ref (bd 0)), (1, .int (iI (sumI (cntT Th) 20)))]) hx hb dX2_clear_27 rfl hl (by decide) rfl (fun ls hl => ?_)
      refine ri_loopW (σ := Int × (Int → Int)) (nL := 3) (fun ((k, F) : Int × (Int → Int)) => (256 - k).toNat) (fun ((k, F) : Int × (Int → Int)) => 0 ≤ k ∧ k ≤ 256 ∧ ∀ j, 0 ≤ j → j < k → F j = -1) (fun ((k, F) : Int × (Int → Int)) => [(0, .ref (bd 0)), (1, .int (iI (sumI (cntT Th) 20))), (2, .int (iI k))]) (fun ((k, F) : Int × (Int → Int)) => (MW bd dN dZ Cw Rw F Lf Bt Wd Hg V)) (0, Ce) ?_ (lv_sub hl [1, 2, 0] rfl) hP hD hS ?_
      · show 0 ≤ (0 : Int) ∧ (0 : Int) ≤ 256 ∧ ∀ j, 0 ≤ j → j < (0 : Int) → Ce j = -1
        exact ⟨by omega, by omega, fun j a b => absurd b (by omega)⟩
      · rintro ⟨k, F⟩ ls H locs hI hl hP hD hS ih28
        replace hP : va_P D vwCl (MW bd dN dZ Cw Rw F Lf Bt Wd Hg V) H := hP
        replace hD : va_D A (MW bd dN dZ Cw Rw F Lf Bt Wd Hg V) := hD
        replace hI : 0 ≤ k ∧ k ≤ 256 ∧ ∀ j, 0 ≤ j → j < k → F j = -1 := hI
        obtain ⟨hk0', hk1', hF⟩ := hI
        replace hl : lv_has ls 3 [(0, .ref (bd 0)), (1, .int (iI (sumI (cntT Th) 20))), (2, .int (iI k))] := hl
        refine lv_iload_n hx hb dX2_clear_28 rfl (lv_at hl 2 rfl) ?_
        refine ri_sipush hx hb dX2_clear_29 (by decide +kernel) ?_
        refine ri_icmp_ge (tgt := 48) hx hb dX2_clear_32 (by decide) (by omega) (by omega) (fun c32 => ?_) (fun c32 => ?_)
        · have e : k = 256 := by omega
          subst e
          refine lv_iload_n hx hb dX2_clear_48 rfl (lv_at hl 1 rfl) ?_
          exact ri_iretW (F, V) hx hb hr hlocks (⟨rfl, hall, hF⟩) hK hP hD hS dX2_clear_49
        · refine lv_aload_n hx hb dX2_clear_35 rfl (lv_at hl 0 rfl) ?_
          refine gm_Ce hx hb hts hown hK hP dX2_clear_36 ?_
          refine lv_iload_n hx hb dX2_clear_39 rfl (lv_at hl 2 rfl) ?_
          refine ri_iconst hx hb dX2_clear_40 ?_
          refine ri_iast hx hb hK hP hD hS 1 0 rfl rfl (by omega) (by decide) dX2_clear_41 (fun H locs hP hD hS => ?_)
          replace hP : va_P D vwCl (MW bd dN dZ Cw Rw (uI F k (-1)) Lf Bt Wd Hg V) H := hP
          replace hD : va_D A (MW bd dN dZ Cw Rw (uI F k (-1)) Lf Bt Wd Hg V) := hD
          refine ri_iinc (k := 2) (lv' := [(2, .int (iI (k + 1))), (0, .ref (bd 0)), (1, .int (iI (sumI (cntT Th) 20)))]) hx hb dX2_clear_42 hl rfl (by decide) rfl (fun ls hl => ?_)
          refine lv_goto (tgt := 28) hx hb dX2_clear_45 (by decide) ?_
          exact ih28 (k + 1, uI F k (-1)) ls _ _ (show 0 ≤ k + 1 ∧ k + 1 ≤ 256 ∧ ∀ j, 0 ≤ j → j < k + 1 → (uI F k (-1)) j = -1 from ⟨by omega, by omega, all_step (fun j a b => by rw [uI_n _ (by omega)]; exact hF j a b) (uI_s _ _ _)⟩) (show (256 - (k + 1)).toNat < (256 - k).toNat by omega) (lv_sub hl [1, 2, 0] rfl) hP hD hS
    · refine lv_aload_n hx hb dX2_clear_13 rfl (lv_at hl 0 rfl) ?_
      refine gm_Th hx hb hts hown hK hP dX2_clear_14 ?_
      refine lv_iload_n hx hb dX2_clear_17 rfl (lv_at hl 2 rfl) ?_
      refine ri_iconst hx hb dX2_clear_18 ?_
      refine ri_zast hx hb hK hP hD hS 6 1 rfl rfl (by omega) (by decide) (by omega) dX2_clear_19 (fun H locs hP hD hS => ?_)
      replace hP : va_P D vwCl (MW bd dN dZ Cw Rw Ce Lf Bt Wd Hg (uI V k 0)) H := hP
      replace hD : va_D A (MW bd dN dZ Cw Rw Ce Lf Bt Wd Hg (uI V k 0)) := hD
      refine ri_iinc (k := 2) (lv' := [(2, .int (iI (k + 1))), (0, .ref (bd 0)), (1, .int (iI (sumI (cntT Th) 20)))]) hx hb dX2_clear_20 hl rfl (by decide) rfl (fun ls hl => ?_)
      refine lv_goto (tgt := 7) hx hb dX2_clear_23 (by decide) ?_
      exact ih7 (k + 1, uI V k 0) ls _ _ (show 0 ≤ k + 1 ∧ k + 1 ≤ 20 ∧ ∀ j, 0 ≤ j → j < k + 1 → (uI V k 0) j = 0 from ⟨by omega, by omega, all_step (fun j a b => by rw [uI_n _ (by omega)]; exact hall j a b) (uI_s _ _ _)⟩) (show (20 - (k + 1)).toNat < (20 - k).toNat by omega) (lv_sub hl [1, 2, 0] rfl) hP hD hS
end
section
/-! AtlasPackerModel: its constructor -/
abbrev m0W (h0 : Nat) : va_W := [(h0, .inr (1, [.int (iI 0), .int (iI 0), .null, .null, .null, .null, .null, .null]))]
abbrev MN (c r : Int) : (Nat → Nat) × ClassId × ClassId × (Int → Int) → va_W := fun (bd, dN, dZ, E') => MW bd dN dZ (clampW c) (clampW r) E' (fun _ => 0) (fun _ => 0) (fun _ => 0) (fun _ => 0) (fun _ => 0)
abbrev MNk (D : va_G) : (Nat → Nat) × ClassId × ClassId × (Int → Int) → State → Prop := fun (_, dN, dZ, _) t => va_K D vwCl (tM dN dZ) t
abbrev MNp (h0 : Nat) : (Nat → Nat) × ClassId × ClassId × (Int → Int) → Prop := fun (bd, _, _, E') => bd 0 = h0 ∧ ∀ k, 0 ≤ k → k < 256 → E' k = -1
set_option maxHeartbeats 4000000 in
set_option maxRecDepth 100000 in
theorem mx2_init (l : Launch) {D : va_G} {h0 : Nat} (cc rr : Int) (hcc : -2147483648 ≤ cc ∧ cc < 2147483648) (hrr : -2147483648 ≤ rr ∧ rr < 2147483648) (sz : Nat) : Met l yX2_init (ws_ yX2_init cX2_init 4 none) ({ frames := 1, cells := 6, slots := 356, locals := 12 } : Room) (va_Pc [.ref h0, .int (iI cc), .int (iI rr)] (PW D (m0W h0) [] sz)) (va_Qv (MNp h0) (fun u t => va_P D vwCl (MN cc rr u) t.heap ∧ MNk D u t ∧ va_D (va_A (m0W h0) sz) (MN cc rr u)) (va_A (m0W h0) sz)) 6 356 (va_A (m0W h0) sz) := by
  refine ri_met RX2 rfl (by decide) (Nat.le_of_ble_eq_true rfl) ?_
  intro p e s m below meth c hx hb hr hts hown hlocks hml hnm hv ls hl
  obtain ⟨hsz, hP, hK, hD0⟩ := hv
  subst hsz
  have hD := hD0.self (sz := s.heap.size)
  generalize hAe : va_A (m0W h0) s.heap.size = A at hD ⊢
  have hA : ∀ q : Nat, s.heap.size ≤ q → A q := fun q h => by rw [← hAe]; exact Or.inr h
  have hS : va_S A s.heap s.heap [] := va_S.rf
  replace hP : va_P D vwCl [(h0, .inr (1, [.int (iI 0), .int (iI 0), .null, .null, .null, .null, .null, .null]))] s.heap := hP
  replace hD : va_D A [(h0, .inr (1, [.int (iI 0), .int (iI 0), .null, .null, .null, .null, .null, .null]))] := hD
  replace hl : lv_has ls 4 [(0, .ref h0), (1, .int (iI cc)), (2, .int (iI rr))] := hl
  refine lv_aload_n hx hb dX2_init_0 rfl (lv_at hl 0 rfl) ?_
  refine W.objInit hx hb hown (hts _ q215) (hts _ q39) (hts _ q40) rfl (by rw [hml]; exact hl.1) rfl dX2_init_1 (Nat.le_of_ble_eq_true rfl) (Nat.le_of_ble_eq_true rfl) ?_
  refine W.eq (g2 := F0 m 4 ls []) rfl ?_
  refine lv_aload_n hx hb dX2_init_4 rfl (lv_at hl 0 rfl) ?_
  refine ri_sipush hx hb dX2_init_5 (by decide +kernel) ?_
  refine va_newa (atype := .int) (ty := .int) (a0 := (256, .inl (aI (fun _ => 0)))) hx hb (hts _ q93) rfl hK hP hD hS hA (fun _ => rfl) (by decide +kernel) (by decide +kernel) (by decide +kernel) (Nat.le_of_ble_eq_true rfl) (Nat.le_of_ble_eq_true rfl) dX2_init_8 (fun q1 dN H hK hP hD hS => ?_)
  replace hP : va_P D vwCl [(h0, .inr (1, [.int (iI 0), .int (iI 0), .null, .null, .null, .null, .null, .null])), (q1, .inl (dN, 256, .inl (aI (fun _ => 0))))] H := hP
  replace hD : va_D A [(h0, .inr (1, [.int (iI 0), .int (iI 0), .null, .null, .null, .null, .null, .null])), (q1, .inl (dN, 256, .inl (aI (fun _ => 0))))] := hD
  refine va_put (D := D) (ci := 1) (v := .ref q1) (ty := .array .int) (C := RX2) (T := TX2) (N := 8) hx hb hts in_X2 tyX2 tyX2_ok nmX2 hown hK hP hD hS 0 rfl rfl 2 (by decide) (hts _ q218) (fun _ h9 => h9) rfl (by decide +kernel) rfl rfl (Nat.le_of_ble_eq_true rfl) dX2_init_10 (fun H locs hP hD hS => ?_)
  replace hP : va_P D vwCl [(h0, .inr (1, [.int (iI 0), .int (iI 0), .ref q1, .null, .null, .null, .null, .null])), (q1, .inl (dN, 256, .inl (aI (fun _ => 0))))] H := hP
  replace hD : va_D A [(h0, .inr (1, [.int (iI 0), .int (iI 0), .ref q1, .null, .null, .null, .null, .null])), (q1, .inl (dN, 256, .inl (aI (fun _ => 0))))] := hD
  refine lv_aload_n hx hb dX2_init_13 rfl (lv_at hl 0 rfl) ?_
  refine ri_bipush hx hb dX2_init_14 (by decide +kernel) ?_
  refine va_newa (atype := .int) (ty := .int) (a0 := (20, .inl (aI (fun _ => 0)))) hx hb (hts _ q93) rfl hK hP hD hS hA (fun _ => rfl) (by decide +kernel) (by decide +kernel) (by decide +kernel) (Nat.le_of_ble_eq_true rfl) (Nat.le_of_ble_eq_true rfl) dX2_init_16 (fun q2 cq H hK hP hD hS => ?_)
  have ec : dN = cq := Option.some.inj ((va_nm_int (hK.2 0 _ rfl).2).symm.trans (va_nm_int (hK.2 1 _ rfl).2))
  subst ec
  replace hK : va_K D vwCl [(dN, .int)] s := hK.sub [0] rfl
  replace hP : va_P D vwCl [(h0, .inr (1, [.int (iI 0), .int (iI 0), .ref q1, .null, .null, .null, .null, .null])), (q1, .inl (dN, 256, .inl (aI (fun _ => 0)))), (q2, .inl (dN, 20, .inl (aI (fun _ => 0))))] H := hP
  replace hD : va_D A [(h0, .inr (1, [.int (iI 0), .int (iI 0), .ref q1, .null, .null, .null, .null, .null])), (q1, .inl (dN, 256, .inl (aI (fun _ => 0)))), (q2, .inl (dN, 20, .inl (aI (fun _ => 0))))] := hD
  refine va_put (D := D) (ci := 1) (v := .ref q2) (ty := .array .int) (C := RX2) (T := TX2) (N := 8) hx hb hts in_X2 tyX2 tyX2_ok nmX2 hown hK hP hD hS 0 rfl rfl 3 (by decide) (hts _ q219) (fun _ h9 => h9) rfl (by decide +kernel) rfl rfl (Nat.le_of_ble_eq_true rfl) dX2_init_18 (fun H locs hP hD hS => ?_)
  replace hP : va_P D vwCl [(h0, .inr (1, [.int (iI 0), .int (iI 0), .ref q1, .ref q2, .null, .null, .null, .null])), (q1, .inl (dN, 256, .inl (aI (fun _ => 0)))), (q2, .inl (dN, 20, .inl (aI (fun _ => 0))))] H := hP
  replace hD : va_D A [(h0, .inr (1, [.int (iI 0), .int (iI 0), .ref q1, .ref q2, .null, .null, .null, .null])), (q1, .inl (dN, 256, .inl (aI (fun _ => 0)))), (q2, .inl (dN, 20, .inl (aI (fun _ => 0))))] := hD
  refine lv_aload_n hx hb dX2_init_21 rfl (lv_at hl 0 rfl) ?_
  refine ri_bipush hx hb dX2_init_22 (by decide +kernel) ?_
  refine va_newa (atype := .int) (ty := .int) (a0 := (20, .inl (aI (fun _ => 0)))) hx hb (hts _ q93) rfl hK hP hD hS hA (fun _ => rfl) (by decide +kernel) (by decide +kernel) (by decide +kernel) (Nat.le_of_ble_eq_true rfl) (Nat.le_of_ble_eq_true rfl) dX2_init_24 (fun q3 cq H hK hP hD hS => ?_)
  have ec : dN = cq := Option.some.inj ((va_nm_int (hK.2 0 _ rfl).2).symm.trans (va_nm_int (hK.2 1 _ rfl).2))
  subst ec
  replace hK : va_K D vwCl [(dN, .int)] s := hK.sub [0] rfl
  replace hP : va_P D vwCl [(h0, .inr (1, [.int (iI 0), .int (iI 0), .ref q1, .ref q2, .null, .null, .null, .null])), (q1, .inl (dN, 256, .inl (aI (fun _ => 0)))), (q2, .inl (dN, 20, .inl (aI (fun _ => 0)))), (q3, .inl (dN, 20, .inl (aI (fun _ => 0))))] H := hP
  replace hD : va_D A [(h0, .inr (1, [.int (iI 0), .int (iI 0), .ref q1, .ref q2, .null, .null, .null, .null])), (q1, .inl (dN, 256, .inl (aI (fun _ => 0)))), (q2, .inl (dN, 20, .inl (aI (fun _ => 0)))), (q3, .inl (dN, 20, .inl (aI (fun _ => 0))))] := hD
  refine va_put (D := D) (ci := 1) (v := .ref q3) (ty := .array .int) (C := RX2) (T := TX2) (N := 8) hx hb hts in_X2 tyX2 tyX2_ok nmX2 hown hK hP hD hS 0 rfl rfl 4 (by decide) (hts _ q220) (fun _ h9 => h9) rfl (by decide +kernel) rfl rfl (Nat.le_of_ble_eq_true rfl) dX2_init_26 (fun H locs hP hD hS => ?_)
  replace hP : va_P D vwCl [(h0, .inr (1, [.int (iI 0), .int (iI 0), .ref q1, .ref q2, .ref q3, .null, .null, .null])), (q1, .inl (dN, 256, .inl (aI (fun _ => 0)))), (q2, .inl (dN, 20, .inl (aI (fun _ => 0)))), (q3, .inl (dN, 20, .inl (aI (fun _ => 0))))] H := hP
  replace hD : va_D A [(h0, .inr (1, [.int (iI 0), .int (iI 0), .ref q1, .ref q2, .ref q3, .null, .null, .null])), (q1, .inl (dN, 256, .inl (aI (fun _ => 0)))), (q2, .inl (dN, 20, .inl (aI (fun _ => 0)))), (q3, .inl (dN, 20, .inl (aI (fun _ => 0))))] := hD
  refine lv_aload_n hx hb dX2_init_29 rfl (lv_at hl 0 rfl) ?_
  refine ri_bipush hx hb dX2_init_30 (by decide +kernel) ?_
  refine va_newa (atype := .int) (ty := .int) (a0 := (20, .inl (aI (fun _ => 0)))) hx hb (hts _ q93) rfl hK hP hD hS hA (fun _ => rfl) (by decide +kernel) (by decide +kernel) (by decide +kernel) (Nat.le_of_ble_eq_true rfl) (Nat.le_of_ble_eq_true rfl) dX2_init_32 (fun q4 cq H hK hP hD hS => ?_)
  have ec : dN = cq := Option.some.inj ((va_nm_int (hK.2 0 _ rfl).2).symm.trans (va_nm_int (hK.2 1 _ rfl).2))
  subst ec
  replace hK : va_K D vwCl [(dN, .int)] s := hK.sub [0] rfl
  replace hP : va_P D vwCl [(h0, .inr (1, [.int (iI 0), .int (iI 0), .ref q1, .ref q2, .ref q3, .null, .null, .null])), (q1, .inl (dN, 256, .inl (aI (fun _ => 0)))), (q2, .inl (dN, 20, .inl (aI (fun _ => 0)))), (q3, .inl (dN, 20, .inl (aI (fun _ => 0)))), (q4, .inl (dN, 20, .inl (aI (fun _ => 0))))] H := hP
  replace hD : va_D A [(h0, .inr (1, [.int (iI 0), .int (iI 0), .ref q1, .ref q2, .ref q3, .null, .null, .null])), (q1, .inl (dN, 256, .inl (aI (fun _ => 0)))), (q2, .inl (dN, 20, .inl (aI (fun _ => 0)))), (q3, .inl (dN, 20, .inl (aI (fun _ => 0)))), (q4, .inl (dN, 20, .inl (aI (fun _ => 0))))] := hD
  refine va_put (D := D) (ci := 1) (v := .ref q4) (ty := .array .int) (C := RX2) (T := TX2) (N := 8) hx hb hts in_X2 tyX2 tyX2_ok nmX2 hown hK hP hD hS 0 rfl rfl 5 (by decide) (hts _ q221) (fun _ h9 => h9) rfl (by decide +kernel) rfl rfl (Nat.le_of_ble_eq_true rfl) dX2_init_34 (fun H locs hP hD hS => ?_)
  replace hP : va_P D vwCl [(h0, .inr (1, [.int (iI 0), .int (iI 0), .ref q1, .ref q2, .ref q3, .ref q4, .null, .null])), (q1, .inl (dN, 256, .inl (aI (fun _ => 0)))), (q2, .inl (dN, 20, .inl (aI (fun _ => 0)))), (q3, .inl (dN, 20, .inl (aI (fun _ => 0)))), (q4, .inl (dN, 20, .inl (aI (fun _ => 0))))] H := hP
  replace hD : va_D A [(h0, .inr (1, [.int (iI 0), .int (iI 0), .ref q1, .ref q2, .ref q3, .ref q4, .null, .null])), (q1, .inl (dN, 256, .inl (aI (fun _ => 0)))), (q2, .inl (dN, 20, .inl (aI (fun _ => 0)))), (q3, .inl (dN, 20, .inl (aI (fun _ => 0)))), (q4, .inl (dN, 20, .inl (aI (fun _ => 0))))] := hD
  refine lv_aload_n hx hb dX2_init_37 rfl (lv_at hl 0 rfl) ?_
  refine ri_bipush hx hb dX2_init_38 (by decide +kernel) ?_
  refine va_newa (atype := .int) (ty := .int) (a0 := (20, .inl (aI (fun _ => 0)))) hx hb (hts _ q93) rfl hK hP hD hS hA (fun _ => rfl) (by decide +kernel) (by decide +kernel) (by decide +kernel) (Nat.le_of_ble_eq_true rfl) (Nat.le_of_ble_eq_true rfl) dX2_init_40 (fun q5 cq H hK hP hD hS => ?_)
  have ec : dN = cq := Option.some.inj ((va_nm_int (hK.2 0 _ rfl).2).symm.trans (va_nm_int (hK.2 1 _ rfl).2))
  subst ec
  replace hK : va_K D vwCl [(dN, .int)] s := hK.sub [0] rfl
  replace hP : va_P D vwCl [(h0, .inr (1, [.int (iI 0), .int (iI 0), .ref q1, .ref q2, .ref q3, .ref q4, .null, .null])), (q1, .inl (dN, 256, .inl (aI (fun _ => 0)))), (q2, .inl (dN, 20, .inl (aI (fun _ => 0)))), (q3, .inl (dN, 20, .inl (aI (fun _ => 0)))), (q4, .inl (dN, 20, .inl (aI (fun _ => 0)))), (q5, .inl (dN, 20, .inl (aI (fun _ => 0))))] H := hP
  replace hD : va_D A [(h0, .inr (1, [.int (iI 0), .int (iI 0), .ref q1, .ref q2, .ref q3, .ref q4, .null, .null])), (q1, .inl (dN, 256, .inl (aI (fun _ => 0)))), (q2, .inl (dN, 20, .inl (aI (fun _ => 0)))), (q3, .inl (dN, 20, .inl (aI (fun _ => 0)))), (q4, .inl (dN, 20, .inl (aI (fun _ => 0)))), (q5, .inl (dN, 20, .inl (aI (fun _ => 0))))] := hD
  refine va_put (D := D) (ci := 1) (v := .ref q5) (ty := .array .int) (C := RX2) (T := TX2) (N := 8) hx hb hts in_X2 tyX2 tyX2_ok nmX2 hown hK hP hD hS 0 rfl rfl 6 (by decide) (hts _ q222) (fun _ h9 => h9) rfl (by decide +kernel) rfl rfl (Nat.le_of_ble_eq_true rfl) dX2_init_42 (fun H locs hP hD hS => ?_)
  replace hP : va_P D vwCl [(h0, .inr (1, [.int (iI 0), .int (iI 0), .ref q1, .ref q2, .ref q3, .ref q4, .ref q5, .null])), (q1, .inl (dN, 256, .inl (aI (fun _ => 0)))), (q2, .inl (dN, 20, .inl (aI (fun _ => 0)))), (q3, .inl (dN, 20, .inl (aI (fun _ => 0)))), (q4, .inl (dN, 20, .inl (aI (fun _ => 0)))), (q5, .inl (dN, 20, .inl (aI (fun _ => 0))))] H := hP
  replace hD : va_D A [(h0, .inr (1, [.int (iI 0), .int (iI 0), .ref q1, .ref q2, .ref q3, .ref q4, .ref q5, .null])), (q1, .inl (dN, 256, .inl (aI (fun _ => 0)))), (q2, .inl (dN, 20, .inl (aI (fun _ => 0)))), (q3, .inl (dN, 20, .inl (aI (fun _ => 0)))), (q4, .inl (dN, 20, .inl (aI (fun _ => 0)))), (q5, .inl (dN, 20, .inl (aI (fun _ => 0))))] := hD
  refine lv_aload_n hx hb dX2_init_45 rfl (lv_at hl 0 rfl) ?_
  refine ri_bipush hx hb dX2_init_46 (by decide +kernel) ?_
  refine va_newa (atype := .boolean) (ty := .boolean) (a0 := (20, .inl (aI (fun _ => 0)))) hx hb (hts _ q241) rfl hK hP hD hS hA (fun _ => rfl) (by decide +kernel) (by decide +kernel) (by decide +kernel) (Nat.le_of_ble_eq_true rfl) (Nat.le_of_ble_eq_true rfl) dX2_init_48 (fun q6 dZ H hK hP hD hS => ?_)
  replace hP : va_P D vwCl [(h0, .inr (1, [.int (iI 0), .int (iI 0), .ref q1, .ref q2, .ref q3, .ref q4, .ref q5, .null])), (q1, .inl (dN, 256, .inl (aI (fun _ => 0)))), (q2, .inl (dN, 20, .inl (aI (fun _ => 0)))), (q3, .inl (dN, 20, .inl (aI (fun _ => 0)))), (q4, .inl (dN, 20, .inl (aI (fun _ => 0)))), (q5, .inl (dN, 20, .inl (aI (fun _ => 0)))), (q6, .inl (dZ, 20, .inl (aI (fun _ => 0))))] H := hP
  replace hD : va_D A [(h0, .inr (1, [.int (iI 0), .int (iI 0), .ref q1, .ref q2, .ref q3, .ref q4, .ref q5, .null])), (q1, .inl (dN, 256, .inl (aI (fun _ => 0)))), (q2, .inl (dN, 20, .inl (aI (fun _ => 0)))), (q3, .inl (dN, 20, .inl (aI (fun _ => 0)))), (q4, .inl (dN, 20, .inl (aI (fun _ => 0)))), (q5, .inl (dN, 20, .inl (aI (fun _ => 0)))), (q6, .inl (dZ, 20, .inl (aI (fun _ => 0))))] := hD
  refine va_put (D := D) (ci := 1) (v := .ref q6) (ty := .array .boolean) (C := RX2) (T := TX2) (N := 8) hx hb hts in_X2 tyX2 tyX2_ok nmX2 hown hK hP hD hS 0 rfl rfl 7 (by decide) (hts _ q223) (fun _ h9 => h9) rfl (by decide +kernel) rfl rfl (Nat.le_of_ble_eq_true rfl) dX2_init_50 (fun H locs hP hD hS => ?_)
  replace hP : va_P D vwCl [(h0, .inr (1, [.int (iI 0), .int (iI 0), .ref q1, .ref q2, .ref q3, .ref q4, .ref q5, .ref q6])), (q1, .inl (dN, 256, .inl (aI (fun _ => 0)))), (q2, .inl (dN, 20, .inl (aI (fun _ => 0)))), (q3, .inl (dN, 20, .inl (aI (fun _ => 0)))), (q4, .inl (dN, 20, .inl (aI (fun _ => 0)))), (q5, .inl (dN, 20, .inl (aI (fun _ => 0)))), (q6, .inl (dZ, 20, .inl (aI (fun _ => 0))))] H := hP
  replace hD : va_D A [(h0, .inr (1, [.int (iI 0), .int (iI 0), .ref q1, .ref q2, .ref q3, .ref q4, .ref q5, .ref q6])), (q1, .inl (dN, 256, .inl (aI (fun _ => 0)))), (q2, .inl (dN, 20, .inl (aI (fun _ => 0)))), (q3, .inl (dN, 20, .inl (aI (fun _ => 0)))), (q4, .inl (dN, 20, .inl (aI (fun _ => 0)))), (q5, .inl (dN, 20, .inl (aI (fun _ => 0)))), (q6, .inl (dZ, 20, .inl (aI (fun _ => 0))))] := hD
  refine W.widen (k := 6) (n := 356) (by decide) (by decide) ?_
  refine ri_joinW (σ := Int) (nL := 4) 75 (fun v => v = clampW cc) (fun _ => [(0, .ref h0), (1, .int (iI cc)), (2, .int (iI rr))]) (fun v => [.int (iI v), .ref h0]) (fun _ => [(h0, .inr (1, [.int (iI 0), .int (iI 0), .ref q1, .ref q2, .ref q3, .ref q4, .ref q5, .ref q6])), (q1, .inl (dN, 256, .inl (aI (fun _ => 0)))), (q2, .inl (dN, 20, .inl (aI (fun _ => 0)))), (q3, .inl (dN, 20, .inl (aI (fun _ => 0)))), (q4, .inl (dN, 20, .inl (aI (fun _ => 0)))), (q5, .inl (dN, 20, .inl (aI (fun _ => 0)))), (q6, .inl (dZ, 20, .inl (aI (fun _ => 0))))]) D vwCl A s.heap ?_ ?_
  rotate_left
  · intro jn
    refine lv_aload_n hx hb dX2_init_53 rfl (lv_at hl 0 rfl) ?_
    refine lv_iload_n hx hb dX2_init_54 rfl (lv_at hl 1 rfl) ?_
    refine ri_iconst hx hb dX2_init_55 ?_
    refine ri_icmp_ge (tgt := 63) hx hb dX2_init_56 (by decide) (by omega) (by omega) (fun c1 => ?_) (fun c1 => ?_)
    · refine lv_iload_n hx hb dX2_init_63 rfl (lv_at hl 1 rfl) ?_
      refine ri_bipush hx hb dX2_init_64 (by decide +kernel) ?_
      refine ri_icmp_le (tgt := 74) hx hb dX2_init_66 (by decide) (by omega) (by omega) (fun c2 => ?_) (fun c2 => ?_)
      · refine lv_iload_n hx hb dX2_init_74 rfl (lv_at hl 1 rfl) ?_
        exact jn cc ls _ _ (by unfold clampW; rw [if_neg (by omega), if_neg (by omega)]) hl hP hD hS
      · refine ri_bipush hx hb dX2_init_69 (by decide +kernel) ?_
        refine lv_goto (tgt := 75) hx hb dX2_init_71 (by decide) ?_
        exact jn 16 ls _ _ (by unfold clampW; rw [if_neg (by omega), if_pos (by omega)]) hl hP hD hS
    · refine ri_iconst hx hb dX2_init_59 ?_
      refine lv_goto (tgt := 75) hx hb dX2_init_60 (by decide) ?_
      exact jn 4 ls _ _ (by unfold clampW; rw [if_pos (by omega)]) hl hP hD hS
  rintro v ls H locs hv hl hP hD hS
  replace hv : v = clampW cc := hv
  subst hv
  replace hP : va_P D vwCl [(h0, .inr (1, [.int (iI 0), .int (iI 0), .ref q1, .ref q2, .ref q3, .ref q4, .ref q5, .ref q6])), (q1, .inl (dN, 256, .inl (aI (fun _ => 0)))), (q2, .inl (dN, 20, .inl (aI (fun _ => 0)))), (q3, .inl (dN, 20, .inl (aI (fun _ => 0)))), (q4, .inl (dN, 20, .inl (aI (fun _ => 0)))), (q5, .inl (dN, 20, .inl (aI (fun _ => 0)))), (q6, .inl (dZ, 20, .inl (aI (fun _ => 0))))] H := hP
  replace hD : va_D A [(h0, .inr (1, [.int (iI 0), .int (iI 0), .ref q1, .ref q2, .ref q3, .ref q4, .ref q5, .ref q6])), (q1, .inl (dN, 256, .inl (aI (fun _ => 0)))), (q2, .inl (dN, 20, .inl (aI (fun _ => 0)))), (q3, .inl (dN, 20, .inl (aI (fun _ => 0)))), (q4, .inl (dN, 20, .inl (aI (fun _ => 0)))), (q5, .inl (dN, 20, .inl (aI (fun _ => 0)))), (q6, .inl (dZ, 20, .inl (aI (fun _ => 0))))] := hD
  replace hl : lv_has ls 4 [(0, .ref h0), (1, .int (iI cc)), (2, .int (iI rr))] := hl
  refine va_put (D := D) (ci := 1) (v := .int (iI (clampW cc))) (ty := .int) (C := RX2) (T := TX2) (N := 8) hx hb hts in_X2 tyX2 tyX2_ok nmX2 hown hK hP hD hS 0 rfl rfl 0 (by decide) (hts _ q216) (fun _ h9 => h9) rfl (by decide +kernel) rfl rfl (Nat.le_of_ble_eq_true rfl) dX2_init_75 (fun H locs hP hD hS => ?_)
  replace hP : va_P D vwCl [(h0, .inr (1, [.int (iI (clampW cc)), .int (iI 0), .ref q1, .ref q2, .ref q3, .ref q4, .ref q5, .ref q6])), (q1, .inl (dN, 256, .inl (aI (fun _ => 0)))), (q2, .inl (dN, 20, .inl (aI (fun _ => 0)))), (q3, .inl (dN, 20, .inl (aI (fun _ => 0)))), (q4, .inl (dN, 20, .inl (aI (fun _ => 0)))), (q5, .inl (dN, 20, .inl (aI (fun _ => 0)))), (q6, .inl (dZ, 20, .inl (aI (fun _ => 0))))] H := hP
  replace hD : va_D A [(h0, .inr (1, [.int (iI (clampW cc)), .int (iI 0), .ref q1, .ref q2, .ref q3, .ref q4, .ref q5, .ref q6])), (q1, .inl (dN, 256, .inl (aI (fun _ => 0)))), (q2, .inl (dN, 20, .inl (aI (fun _ => 0)))), (q3, .inl (dN, 20, .inl (aI (fun _ => 0)))), (q4, .inl (dN, 20, .inl (aI (fun _ => 0)))), (q5, .inl (dN, 20, .inl (aI (fun _ => 0)))), (q6, .inl (dZ, 20, .inl (aI (fun _ => 0))))] := hD
  refine ri_joinW (σ := Int) (nL := 4) 100 (fun v => v = clampW rr) (fun _ => [(0, .ref h0), (1, .int (iI cc)), (2, .int (iI rr))]) (fun v => [.int (iI v), .ref h0]) (fun _ => [(h0, .inr (1, [.int (iI (clampW cc)), .int (iI 0), .ref q1, .ref q2, .ref q3, .ref q4, .ref q5, .ref q6])), (q1, .inl (dN, 256, .inl (aI (fun _ => 0)))), (q2, .inl (dN, 20, .inl (aI (fun _ => 0)))), (q3, .inl (dN, 20, .inl (aI (fun _ => 0)))), (q4, .inl (dN, 20, .inl (aI (fun _ => 0)))), (q5, .inl (dN, 20, .inl (aI (fun _ => 0)))), (q6, .inl (dZ, 20, .inl (aI (fun _ => 0))))]) D vwCl A s.heap ?_ ?_
  rotate_left
  · intro jn
    refine lv_aload_n hx hb dX2_init_78 rfl (lv_at hl 0 rfl) ?_
    refine lv_iload_n hx hb dX2_init_79 rfl (lv_at hl 2 rfl) ?_
    refine ri_iconst hx hb dX2_init_80 ?_
    refine ri_icmp_ge (tgt := 88) hx hb dX2_init_81 (by decide) (by omega) (by omega) (fun c1 => ?_) (fun c1 => ?_)
    · refine lv_iload_n hx hb dX2_init_88 rfl (lv_at hl 2 rfl) ?_
      refine ri_bipush hx hb dX2_init_89 (by decide +kernel) ?_
      refine ri_icmp_le (tgt := 99) hx hb dX2_init_91 (by decide) (by omega) (by omega) (fun c2 => ?_) (fun c2 => ?_)
      · refine lv_iload_n hx hb dX2_init_99 rfl (lv_at hl 2 rfl) ?_
        exact jn rr ls _ _ (by unfold clampW; rw [if_neg (by omega), if_neg (by omega)]) hl hP hD hS
      · refine ri_bipush hx hb dX2_init_94 (by decide +kernel) ?_
        refine lv_goto (tgt := 100) hx hb dX2_init_96 (by decide) ?_
        exact jn 16 ls _ _ (by unfold clampW; rw [if_neg (by omega), if_pos (by omega)]) hl hP hD hS
    · refine ri_iconst hx hb dX2_init_84 ?_
      refine lv_goto (tgt := 100) hx hb dX2_init_85 (by decide) ?_
      exact jn 4 ls _ _ (by unfold clampW; rw [if_pos (by omega)]) hl hP hD hS
  rintro v ls H locs hv hl hP hD hS
  replace hv : v = clampW rr := hv
  subst hv
  replace hP : va_P D vwCl [(h0, .inr (1, [.int (iI (clampW cc)), .int (iI 0), .ref q1, .ref q2, .ref q3, .ref q4, .ref q5, .ref q6])), (q1, .inl (dN, 256, .inl (aI (fun _ => 0)))), (q2, .inl (dN, 20, .inl (aI (fun _ => 0)))), (q3, .inl (dN, 20, .inl (aI (fun _ => 0)))), (q4, .inl (dN, 20, .inl (aI (fun _ => 0)))), (q5, .inl (dN, 20, .inl (aI (fun _ => 0)))), (q6, .inl (dZ, 20, .inl (aI (fun _ => 0))))] H := hP
  replace hD : va_D A [(h0, .inr (1, [.int (iI (clampW cc)), .int (iI 0), .ref q1, .ref q2, .ref q3, .ref q4, .ref q5, .ref q6])), (q1, .inl (dN, 256, .inl (aI (fun _ => 0)))), (q2, .inl (dN, 20, .inl (aI (fun _ => 0)))), (q3, .inl (dN, 20, .inl (aI (fun _ => 0)))), (q4, .inl (dN, 20, .inl (aI (fun _ => 0)))), (q5, .inl (dN, 20, .inl (aI (fun _ => 0)))), (q6, .inl (dZ, 20, .inl (aI (fun _ => 0))))] := hD
  replace hl : lv_has ls 4 [(0, .ref h0), (1, .int (iI cc)), (2, .int (iI rr))] := hl
  refine va_put (D := D) (ci := 1) (v := .int (iI (clampW rr))) (ty := .int) (C := RX2) (T := TX2) (N := 8) hx hb hts in_X2 tyX2 tyX2_ok nmX2 hown hK hP hD hS 0 rfl rfl 1 (by decide) (hts _ q217) (fun _ h9 => h9) rfl (by decide +kernel) rfl rfl (Nat.le_of_ble_eq_true rfl) dX2_init_100 (fun H locs hP hD hS => ?_)
  replace hP : va_P D vwCl [(h0, .inr (1, [.int (iI (clampW cc)), .int (iI (clampW rr)), .ref q1, .ref q2, .ref q3, .ref q4, .ref q5, .ref q6])), (q1, .inl (dN, 256, .inl (aI (fun _ => 0)))), (q2, .inl (dN, 20, .inl (aI (fun _ => 0)))), (q3, .inl (dN, 20, .inl (aI (fun _ => 0)))), (q4, .inl (dN, 20, .inl (aI (fun _ => 0)))), (q5, .inl (dN, 20, .inl (aI (fun _ => 0)))), (q6, .inl (dZ, 20, .inl (aI (fun _ => 0))))] H := hP
  replace hD : va_D A [(h0, .inr (1, [.int (iI (clampW cc)), .int (iI (clampW rr)), .ref q1, .ref q2, .ref q3, .ref q4, .ref q5, .ref q6])), (q1, .inl (dN, 256, .inl (aI (fun _ => 0)))), (q2, .inl (dN, 20, .inl (aI (fun _ => 0)))), (q3, .inl (dN, 20, .inl (aI (fun _ => 0)))), (q4, .inl (dN, 20, .inl (aI (fun _ => 0)))), (q5, .inl (dN, 20, .inl (aI (fun _ => 0)))), (q6, .inl (dZ, 20, .inl (aI (fun _ => 0))))] := hD
  obtain ⟨bd, ebd⟩ : ∃ bd : Nat → Nat, bd = fun k => [h0, q1, q2, q3, q4, q5, q6].getD k 0 := ⟨_, rfl⟩
  replace hP : va_P D vwCl (MW bd dN dZ (clampW cc) (clampW rr) (fun _ => 0) (fun _ => 0) (fun _ => 0) (fun _ => 0) (fun _ => 0) (fun _ => 0)) H := by rw [ebd]; exact hP
  replace hD : va_D A (MW bd dN dZ (clampW cc) (clampW rr) (fun _ => 0) (fun _ => 0) (fun _ => 0) (fun _ => 0) (fun _ => 0) (fun _ => 0)) := by rw [ebd]; exact hD
  have e0 : h0 = bd 0 := by rw [ebd]; rfl
  replace hl : lv_has ls 4 [(0, .ref (bd 0)), (1, .int (iI cc)), (2, .int (iI rr))] := by rw [← e0]; exact hl
  refine ri_iconst hx hb dX2_init_103 ?_
  refine lv_istore_n (lv' := [(3, .int (iI 0)), (0, .ref (bd 0)), (1, .int (iI cc)), (2, .int (iI rr))]) hx hb dX2_init_104 rfl hl (by decide) rfl (fun ls hl => ?_)
  refine ri_loopW (σ := Int × (Int → Int)) (nL := 4) (fun ((k, F) : Int × (Int → Int)) => (256 - k).toNat) (fun ((k, F) : Int × (Int → Int)) => 0 ≤ k ∧ k ≤ 256 ∧ ∀ j, 0 ≤ j → j < k → F j = -1) (fun ((k, F) : Int × (Int → Int)) => [(0, .ref (bd 0)), (3, .int (iI k))]) (fun ((k, F) : Int × (Int → Int)) => (MW bd dN dZ (clampW cc) (clampW rr) F (fun _ => 0) (fun _ => 0) (fun _ => 0) (fun _ => 0) (fun _ => 0))) (0, fun _ => 0) ?_ (lv_sub hl [1, 0] rfl) hP hD hS ?_
  · show 0 ≤ (0 : Int) ∧ (0 : Int) ≤ 256 ∧ ∀ j, 0 ≤ j → j < (0 : Int) → (fun _ => 0 : Int → Int) j = -1
    exact ⟨by omega, by omega, fun j a b => absurd b (by omega)⟩
  rintro ⟨k, F⟩ ls H locs hI hl hP hD hS ih
  replace hP : va_P D vwCl (MW bd dN dZ (clampW cc) (clampW rr) F (fun _ => 0) (fun _ => 0) (fun _ => 0) (fun _ => 0) (fun _ => 0)) H := hP
  replace hD : va_D A (MW bd dN dZ (clampW cc) (clampW rr) F (fun _ => 0) (fun _ => 0) (fun _ => 0) (fun _ => 0) (fun _ => 0)) := hD
  replace hI : 0 ≤ k ∧ k ≤ 256 ∧ ∀ j, 0 ≤ j → j < k → F j = -1 := hI
  obtain ⟨hk0, hk1, hall⟩ := hI
  replace hl : lv_has ls 4 [(0, .ref (bd 0)), (3, .int (iI k))] := hl
  refine lv_iload_n hx hb dX2_init_105 rfl (lv_at hl 1 rfl) ?_
  refine ri_sipush hx hb dX2_init_106 (by decide +kernel) ?_
  refine ri_icmp_ge (tgt := 125) hx hb dX2_init_109 (by decide) (by omega) (by omega) (fun c1 => ?_) (fun c1 => ?_)
  · have e : k = 256 := by omega
    subst e
    exact W.vret hx hb hr (fun t ht hW => ⟨⟨(bd, dN, dZ, F), rfl, ⟨e0.symm, hall⟩, by rw [ht]; exact hP, va_K.moved hW.alike hK, hD⟩, hS.F ht⟩) hS.2.2 dX2_init_125 hlocks
  refine lv_aload_n hx hb dX2_init_112 rfl (lv_at hl 0 rfl) ?_
  refine gm_Ce hx hb hts hown hK hP dX2_init_113 ?_
  refine lv_iload_n hx hb dX2_init_116 rfl (lv_at hl 1 rfl) ?_
  refine ri_iconst hx hb dX2_init_117 ?_
  refine ri_iast hx hb hK hP hD hS 1 0 rfl rfl (by omega) (by decide) dX2_init_118 (fun H locs hP hD hS => ?_)
  replace hP : va_P D vwCl (MW bd dN dZ (clampW cc) (clampW rr) (uI F k (-1)) (fun _ => 0) (fun _ => 0) (fun _ => 0) (fun _ => 0) (fun _ => 0)) H := hP
  replace hD : va_D A (MW bd dN dZ (clampW cc) (clampW rr) (uI F k (-1)) (fun _ => 0) (fun _ => 0) (fun _ => 0) (fun _ => 0) (fun _ => 0)) := hD
  refine ri_iinc (k := 1) (lv' := [(3, .int (iI (k + 1))), (0, .ref (bd 0))]) hx hb dX2_init_119 hl rfl (by decide) rfl (fun ls hl => ?_)
  refine lv_goto (tgt := 105) hx hb dX2_init_122 (by decide) ?_
  exact ih (k + 1, uI F k (-1)) ls _ _ (show 0 ≤ k + 1 ∧ k + 1 ≤ 256 ∧ ∀ j, 0 ≤ j → j < k + 1 → uI F k (-1) j = -1 from ⟨by omega, by omega, all_step (fun j a b => by rw [uI_n _ (by omega)]; exact hall j a b) (uI_s _ _ _)⟩) (show (256 - (k + 1)).toNat < (256 - k).toNat by omega) (lv_sub hl [1, 0] rfl) hP hD hS
end
section
/-! plain law: rectangles of free cells, and those that can't grow -/
def inR (q x y : Int) : Prop := (lx q ≤ x ∧ x < lx q + wd q) ∧ (by_ q ≤ y ∧ y < by_ q + hg q)
/-- q is a rectangle of free cells -/
def FrQ (G : Int → Int → Prop) (q : Int) : Prop := (0 ≤ q ∧ q < 1048576) ∧ (1 ≤ wd q ∧ 1 ≤ hg q) ∧ ∀ x y, inR q x y → G x y
/-- .. that no other one contains -/
def MxQ (G : Int → Int → Prop) (q : Int) : Prop := FrQ G q ∧ ∀ q', FrQ G q' → insQ q q' → q' = q
def bdG (G : Int → Int → Prop) : Prop := ∀ x y, G x y → (0 ≤ x ∧ x < 16) ∧ (0 ≤ y ∧ y < 16)
theorem ins_refl (q : Int) : insQ q q := ⟨Int.le_refl _, Int.le_refl _, Int.le_refl _, Int.le_refl _⟩
theorem ins_trans {a b c : Int} (h : insQ a b) (h' : insQ b c) : insQ a c := by
  obtain ⟨h1, h2, h3, h4⟩ := h
  obtain ⟨g1, g2, g3, g4⟩ := h'
  exact ⟨by omega, by omega, by omega, by omega⟩
theorem code_eq {a b : Int} (h1 : lx a = lx b) (h2 : by_ a = by_ b) (h3 : wd a = wd b) (h4 : hg a = hg b) : a = b := by
  have ha := pk_of (q := a)
  have hb := pk_of (q := b)
  rw [h1, h2, h3, h4] at ha
  exact ha.symm.trans hb
theorem ins_antisymm {a b : Int} (h : insQ a b) (h' : insQ b a) : a = b := by
  obtain ⟨h1, h2, h3, h4⟩ := h
  obtain ⟨g1, g2, g3, g4⟩ := h'
  exact code_eq (by omega) (by omega) (by omega) (by omega)
theorem ins_grow {a b : Int} (h : insQ a b) (hne : b ≠ a) : wd a + hg a < wd b + hg b := by
  obtain ⟨h1, h2, h3, h4⟩ := h
  refine Classical.byContradiction fun c => hne (code_eq ?_ ?_ ?_ ?_) <;> omega
theorem mx_ext {G : Int → Int → Prop} (n : Nat) : ∀ q, FrQ G q → 64 ≤ wd q + hg q + (n : Int) → ∃ m, MxQ G m ∧ insQ q m := by
  induction n with
  | zero =>
    intro q h hn
    have := acc_rng h.1
    omega
  | succ n ih =>
    intro q h hn
    by_cases c : ∃ q', FrQ G q' ∧ insQ q q' ∧ q' ≠ q
    · obtain ⟨q', h1, h2, h3⟩ := c
      have h4 := ins_grow h2 h3
      obtain ⟨m, h5, h6⟩ := ih q' h1 (by omega)
      exact ⟨m, h5, ins_trans h2 h6⟩
    · exact ⟨q, ⟨h, fun q' a b => Classical.byContradiction fun e => c ⟨q', a, b, e⟩⟩, ins_refl q⟩
/-- every rectangle of free cells lies in one that can't grow -/
theorem mx_ex {G : Int → Int → Prop} {q : Int} (h : FrQ G q) : ∃ m, MxQ G m ∧ insQ q m := mx_ext 64 q h (by have := acc_rng h.1; omega)
theorem fr_box {G : Int → Int → Prop} {q : Int} (hb : bdG G) (h : FrQ G q) : boxQ q := by
  obtain ⟨h1, ⟨h2, h3⟩, h4⟩ := h
  have h5 := hb _ _ (h4 (lx q + wd q - 1) (by_ q + hg q - 1) ⟨⟨by omega, by omega⟩, by omega, by omega⟩)
  exact ⟨h1, by omega, by omega⟩
theorem fr_pk {G : Int → Int → Prop} {x y w h : Int} (hx : 0 ≤ x) (hy : 0 ≤ y) (hw : 1 ≤ w) (hh : 1 ≤ h) (hxw : x + w ≤ 16) (hyh : y + h ≤ 16) (hc : ∀ i j, x ≤ i → i < x + w → y ≤ j → j < y + h → G i j) : FrQ G (pk x y w h) := by
  obtain ⟨e1, e2, e3, e4⟩ := pk_acc (x := x) (y := y) (w := w) (h := h) (by omega) (by omega) (by omega) (by omega)
  refine ⟨pk_rng (by omega) (by omega) (by omega) (by omega), by rw [e3, e4]; exact ⟨hw, hh⟩, fun i j hij => ?_⟩
  unfold inR at hij
  rw [e1, e2, e3, e4] at hij
  exact hc i j hij.1.1 hij.1.2 hij.2.1 hij.2.2
theorem mx_no {G : Int → Int → Prop} {q x y w h : Int} (H : MxQ G q) (hx : 0 ≤ x) (hy : 0 ≤ y) (hxw : x + w ≤ 16) (hyh : y + h ≤ 16) (h1 : x ≤ lx q) (h2 : y ≤ by_ q) (h3 : lx q + wd q ≤ x + w) (h4 : by_ q + hg q ≤ y + h) (hc : ∀ i j, x ≤ i → i < x + w → y ≤ j → j < y + h → G i j) : lx q = x ∧ by_ q = y ∧ wd q = w ∧ hg q = h := by
  obtain ⟨⟨-, ⟨a1, a2⟩, -⟩, hm⟩ := H
  have f := fr_pk hx hy (by omega) (by omega) hxw hyh hc
  obtain ⟨e1, e2, e3, e4⟩ := pk_acc (x := x) (y := y) (w := w) (h := h) (by omega) (by omega) (by omega) (by omega)
  have e := hm _ f ⟨by rw [e1]; exact h1, by rw [e2]; exact h2, by rw [e1, e3]; exact h3, by rw [e2, e4]; exact h4⟩
  rw [e] at e1 e2 e3 e4
  exact ⟨e1, e2, e3, e4⟩
/-- the rectangle can't grow by a column or a row -/
def stuck (G : Int → Int → Prop) (x y w h : Int) : Prop :=
  ¬ (∀ j, y ≤ j → j < y + h → G (x - 1) j) ∧ ¬ (∀ j, y ≤ j → j < y + h → G (x + w) j) ∧ ¬ (∀ i, x ≤ i → i < x + w → G i (y - 1)) ∧ ¬ (∀ i, x ≤ i → i < x + w → G i (y + h))
theorem mx_stuck {G : Int → Int → Prop} (hb : bdG G) {q : Int} (H : MxQ G q) : stuck G (lx q) (by_ q) (wd q) (hg q) := by
  have hf := H.1
  obtain ⟨b1, b2, b3⟩ := fr_box hb hf
  obtain ⟨a1, a2, a3, a4⟩ := acc_rng b1
  obtain ⟨-, ⟨w1, w2⟩, hcell⟩ := hf
  refine ⟨fun c => ?_, fun c => ?_, fun c => ?_, fun c => ?_⟩
  · have g := hb _ _ (c (by_ q) (by omega) (by omega))
    have := mx_no (x := lx q - 1) (y := by_ q) (w := wd q + 1) (h := hg q) H (by omega) (by omega) (by omega) (by omega) (by omega) (by omega) (by omega) (by omega) (fun i j i1 i2 j1 j2 => by
      by_cases e : i = lx q - 1
      · rw [e]; exact c j j1 j2
      · exact hcell i j ⟨⟨by omega, by omega⟩, by omega, by omega⟩)
    omega
  · have g := hb _ _ (c (by_ q) (by omega) (by omega))
    have := mx_no (x := lx q) (y := by_ q) (w := wd q + 1) (h := hg q) H (by omega) (by omega) (by omega) (by omega) (by omega) (by omega) (by omega) (by omega) (fun i j i1 i2 j1 j2 => by
      by_cases e : i = lx q + wd q
      · rw [e]; exact c j j1 j2
      · exact hcell i j ⟨⟨by omega, by omega⟩, by omega, by omega⟩)
    omega
  · have g := hb _ _ (c (lx q) (by omega) (by omega))
    have := mx_no (x := lx q) (y := by_ q - 1) (w := wd q) (h := hg q + 1) H (by omega) (by omega) (by omega) (by omega) (by omega) (by omega) (by omega) (by omega) (fun i j i1 i2 j1 j2 => by
      by_cases e : j = by_ q - 1
      · rw [e]; exact c i i1 i2
      · exact hcell i j ⟨⟨by omega, by omega⟩, by omega, by omega⟩)
    omega
  · have g := hb _ _ (c (lx q) (by omega) (by omega))
    have := mx_no (x := lx q) (y := by_ q) (w := wd q) (h := hg q + 1) H (by omega) (by omega) (by omega) (by omega) (by omega) (by omega) (by omega) (by omega) (fun i j i1 i2 j1 j2 => by
      by_cases e : j = by_ q + hg q
      · rw [e]; exact c i i1 i2
      · exact hcell i j ⟨⟨by omega, by omega⟩, by omega, by omega⟩)
    omega
theorem mx_of_stuck {G : Int → Int → Prop} {q : Int} (hf : FrQ G q) (hs : stuck G (lx q) (by_ q) (wd q) (hg q)) : MxQ G q := by
  refine ⟨hf, fun q' h' hi => ?_⟩
  obtain ⟨-, ⟨w1, w2⟩, -⟩ := hf
  obtain ⟨-, -, hc⟩ := h'
  obtain ⟨i1, i2, i3, i4⟩ := hi
  obtain ⟨s1, s2, s3, s4⟩ := hs
  have c1 : ¬ lx q' < lx q := fun c => s1 fun j a b => hc _ _ ⟨⟨by omega, by omega⟩, by omega, by omega⟩
  have c2 : ¬ lx q + wd q < lx q' + wd q' := fun c => s2 fun j a b => hc _ _ ⟨⟨by omega, by omega⟩, by omega, by omega⟩
  have c3 : ¬ by_ q' < by_ q := fun c => s3 fun i a b => hc _ _ ⟨⟨by omega, by omega⟩, by omega, by omega⟩
  have c4 : ¬ by_ q + hg q < by_ q' + hg q' := fun c => s4 fun i a b => hc _ _ ⟨⟨by omega, by omega⟩, by omega, by omega⟩
  exact code_eq (by omega) (by omega) (by omega) (by omega)
/-! the candidates that stay -/
theorem keepP_mem (CA : Int → Int) (cn : Int) (n : Nat) (q : Int) : q ∈ keepP CA cn n ↔ ∃ i : Int, 0 ≤ i ∧ i < (n : Int) ∧ CA i = q ∧ ¬ ∃ j, 0 ≤ j ∧ j < cn ∧ covQ CA i j := by
  induction n with
  | zero =>
    constructor
    · intro h; cases h
    · rintro ⟨i, h1, h2, -⟩; omega
  | succ n ih =>
    rw [keepP, List.mem_append, ih]
    constructor
    · rintro (⟨i, h1, h2, h3, h4⟩ | h)
      · exact ⟨i, h1, by omega, h3, h4⟩
      · by_cases g : ∃ j, 0 ≤ j ∧ j < cn ∧ covQ CA n j
        · rw [if_pos g] at h; cases h
        · rw [if_neg g, List.mem_singleton] at h
          exact ⟨n, by omega, by omega, h.symm, g⟩
    · rintro ⟨i, h1, h2, h3, h4⟩
      by_cases e : i = n
      · right
        rw [e] at h3 h4
        rw [if_neg h4, List.mem_singleton]
        exact h3.symm
      · exact Or.inl ⟨i, h1, by omega, h3, h4⟩
theorem keepP_nodup (CA : Int → Int) (cn : Int) (n : Nat) (hn : (n : Int) ≤ cn) : (keepP CA cn n).Nodup := by
  induction n with
  | zero => exact List.nodup_nil
  | succ n ih =>
    have ih := ih (by omega)
    rw [keepP]
    by_cases g : ∃ j, 0 ≤ j ∧ j < cn ∧ covQ CA n j
    · rw [if_pos g, List.append_nil]; exact ih
    · rw [if_neg g]
      refine List.nodup_append.mpr ⟨ih, by simp, fun a ha b hb e => ?_⟩
      rw [List.mem_singleton] at hb
      obtain ⟨i, h1, h2, h3, -⟩ := (keepP_mem CA cn n a).mp ha
      have e2 : CA i = CA n := by rw [h3, e, hb]
      exact g ⟨i, h1, by omega, by omega, by rw [e2]; exact ins_refl _, Or.inr (by omega)⟩
theorem keepL_nodup (cs : List Int) : (keepL cs).Nodup := keepP_nodup _ _ _ (Int.le_refl _)
theorem keepL_mem (cs : List Int) (q : Int) : q ∈ keepL cs ↔ q ∈ cs ∧ ∀ q' ∈ cs, insQ q q' → q' = q := by
  unfold keepL
  constructor
  · intro h
    obtain ⟨i, h1, h2, h3, h4⟩ := (keepP_mem _ _ _ q).mp h
    refine ⟨by rw [← h3]; exact Lst_mem (Lst_getZ cs) h1 h2, fun q' hq' hi => ?_⟩
    obtain ⟨j, g1, g2, g3⟩ := Lst_of_mem (Lst_getZ cs) hq'
    refine Classical.byContradiction fun e => h4 ⟨j, g1, g2, ?_, ?_, ?_⟩
    · intro e2; rw [e2, h3] at g3; exact e g3.symm
    · rw [h3, g3]; exact hi
    · left; rw [h3, g3]; exact e
  · rintro ⟨hq, hm⟩
    have key : ∀ n : Nat, n < cs.length → getZ cs n = q → q ∈ keepP (getZ cs) cs.length cs.length := by
      intro n
      induction n using Nat.strongRecOn with
      | ind n ih =>
        intro hn hv
        by_cases g : ∃ j, 0 ≤ j ∧ j < (cs.length : Int) ∧ covQ (getZ cs) n j
        · obtain ⟨j, g1, g2, g3, g4, g5⟩ := g
          rw [hv] at g4 g5
          have e := hm _ (Lst_mem (Lst_getZ cs) g1 g2) g4
          rcases g5 with g5 | g5
          · exact absurd e g5
          · have e2 : getZ cs (j.toNat : Int) = q := by rw [Int.toNat_of_nonneg g1]; exact e
            exact ih j.toNat (by omega) (by omega) e2
        · exact (keepP_mem _ _ _ q).mpr ⟨n, by omega, by omega, hv, g⟩
    obtain ⟨k, h0, h1, h2⟩ := Lst_of_mem (Lst_getZ cs) hq
    exact key k.toNat (by omega) (by rw [Int.toNat_of_nonneg h0]; exact h2)
/-! splitting -/
theorem cand_free {G G' : Int → Int → Prop} (hb : bdG G) {lh : List Int} {t : Int} (hlh : ∀ q, q ∈ lh ↔ MxQ G q) (ht : FrQ G t) (hG : ∀ x y, G' x y ↔ G x y ∧ ¬ inR t x y) : ∀ c ∈ candL lh t, FrQ G' c := by
  intro c hc
  obtain ⟨h, h1, h2⟩ := List.mem_flatMap.mp hc
  have fh := ((hlh h).mp h1).1
  obtain ⟨b1, b2, b3⟩ := fr_box hb fh
  obtain ⟨a1, a2, a3, a4⟩ := acc_rng b1
  obtain ⟨t1, t2, t3⟩ := fr_box hb ht
  obtain ⟨u1, u2, u3, u4⟩ := acc_rng t1
  obtain ⟨-, ⟨w1, w2⟩, hcell⟩ := fh
  obtain ⟨-, ⟨v1, v2⟩, -⟩ := ht
  unfold candOf at h2
  split at h2
  · rename_i hm
    unfold splitL s1L s2L s3L s4L at h2
    simp only [List.mem_append] at h2
    rcases h2 with ((h2 | h2) | h2) | h2
    · split at h2
      · rw [List.mem_singleton] at h2; subst h2
        refine fr_pk (by omega) (by omega) (by omega) (by omega) (by omega) (by omega) (fun i j i1 i2 j1 j2 => (hG i j).mpr ⟨hcell i j ⟨⟨by omega, by omega⟩, by omega, by omega⟩, fun g => ?_⟩)
        obtain ⟨⟨g1, g2⟩, g3, g4⟩ := g
        omega
      · cases h2
    · split at h2
      · rw [List.mem_singleton] at h2; subst h2
        refine fr_pk (by omega) (by omega) (by omega) (by omega) (by omega) (by omega) (fun i j i1 i2 j1 j2 => (hG i j).mpr ⟨hcell i j ⟨⟨by omega, by omega⟩, by omega, by omega⟩, fun g => ?_⟩)
        obtain ⟨⟨g1, g2⟩, g3, g4⟩ := g
        omega
      · cases h2
    · split at h2
      · rw [List.mem_singleton] at h2; subst h2
        refine fr_pk (by omega) (by omega) (by omega) (by omega) (by omega) (by omega) (fun i j i1 i2 j1 j2 => (hG i j).mpr ⟨hcell i j ⟨⟨by omega, by omega⟩, by omega, by omega⟩, fun g => ?_⟩)
        obtain ⟨⟨g1, g2⟩, g3, g4⟩ := g
        omega
      · cases h2
    · split at h2
      · rw [List.mem_singleton] at h2; subst h2
        refine fr_pk (by omega) (by omega) (by omega) (by omega) (by omega) (by omega) (fun i j i1 i2 j1 j2 => (hG i j).mpr ⟨hcell i j ⟨⟨by omega, by omega⟩, by omega, by omega⟩, fun g => ?_⟩)
        obtain ⟨⟨g1, g2⟩, g3, g4⟩ := g
        omega
      · cases h2
  · rename_i hm
    rw [List.mem_singleton] at h2
    subst h2
    refine ⟨b1, ⟨w1, w2⟩, fun x y hxy => (hG x y).mpr ⟨hcell x y hxy, fun g => hm ?_⟩⟩
    obtain ⟨⟨g1, g2⟩, g3, g4⟩ := g
    obtain ⟨⟨k1, k2⟩, k3, k4⟩ := hxy
    omega
theorem cand_in {lh : List Int} {t m c : Int} (hm : m ∈ lh) (hc : c ∈ candOf t m) : c ∈ candL lh t := List.mem_flatMap.mpr ⟨m, hm, hc⟩
theorem cand_cover {G G' : Int → Int → Prop} (hb : bdG G) {lh : List Int} {t : Int} (hlh : ∀ q, q ∈ lh ↔ MxQ G q) (ht : FrQ G t) (hG : ∀ x y, G' x y ↔ G x y ∧ ¬ inR t x y) {r : Int} (hr : FrQ G' r) : ∃ c ∈ candL lh t, insQ r c := by
  obtain ⟨r1, ⟨r2, r3⟩, rc⟩ := hr
  obtain ⟨m, hm, hi⟩ := mx_ex (G := G) (q := r) ⟨r1, ⟨r2, r3⟩, fun x y h => ((hG x y).mp (rc x y h)).1⟩
  have hml := (hlh m).mpr hm
  obtain ⟨b1, b2, b3⟩ := fr_box hb hm.1
  obtain ⟨a1, a2, a3, a4⟩ := acc_rng b1
  obtain ⟨t1, t2, t3⟩ := fr_box hb ht
  obtain ⟨u1, u2, u3, u4⟩ := acc_rng t1
  obtain ⟨-, ⟨v1, v2⟩, -⟩ := ht
  obtain ⟨i1, i2, i3, i4⟩ := hi
  by_cases c : lx m < lx t + wd t ∧ lx t < lx m + wd m ∧ by_ m < by_ t + hg t ∧ by_ t < by_ m + hg m
  · have hno : ¬ (lx r < lx t + wd t ∧ lx t < lx r + wd r ∧ by_ r < by_ t + hg t ∧ by_ t < by_ r + hg r) := by
      rintro ⟨c1, c2, c3, c4⟩
      have hx : ∃ x, (lx r ≤ x ∧ x < lx r + wd r) ∧ (lx t ≤ x ∧ x < lx t + wd t) := by
        by_cases e : lx r ≤ lx t
        · exact ⟨lx t, by omega, by omega⟩
        · exact ⟨lx r, by omega, by omega⟩
      have hy : ∃ y, (by_ r ≤ y ∧ y < by_ r + hg r) ∧ (by_ t ≤ y ∧ y < by_ t + hg t) := by
        by_cases e : by_ r ≤ by_ t
        · exact ⟨by_ t, by omega, by omega⟩
        · exact ⟨by_ r, by omega, by omega⟩
      obtain ⟨x, x1, x2⟩ := hx
      obtain ⟨y, y1, y2⟩ := hy
      exact ((hG x y).mp (rc x y ⟨x1, y1⟩)).2 ⟨x2, y2⟩
    by_cases d1 : lx r + wd r ≤ lx t
    · obtain ⟨e1, e2, e3, e4⟩ := pk_acc (x := lx m) (y := by_ m) (w := lx t - lx m) (h := hg m) (by omega) (by omega) (by omega) (by omega)
      refine ⟨pk (lx m) (by_ m) (lx t - lx m) (hg m), cand_in hml ?_, ⟨by rw [e1]; omega, by rw [e2]; omega, by rw [e1, e3]; omega, by rw [e2, e4]; omega⟩⟩
      rw [candOf, if_pos c]
      simp only [splitL, List.mem_append]
      exact Or.inl (Or.inl (Or.inl (by rw [s1L, if_pos (by omega)]; exact List.mem_singleton.mpr rfl)))
    · by_cases d2 : lx t + wd t ≤ lx r
      · obtain ⟨e1, e2, e3, e4⟩ := pk_acc (x := lx m + wd m - (lx m + wd m - lx t - wd t)) (y := by_ m) (w := lx m + wd m - lx t - wd t) (h := hg m) (by omega) (by omega) (by omega) (by omega)
        refine ⟨pk (lx m + wd m - (lx m + wd m - lx t - wd t)) (by_ m) (lx m + wd m - lx t - wd t) (hg m), cand_in hml ?_, ⟨by rw [e1]; omega, by rw [e2]; omega, by rw [e1, e3]; omega, by rw [e2, e4]; omega⟩⟩
        rw [candOf, if_pos c]
        simp only [splitL, List.mem_append]
        exact Or.inl (Or.inl (Or.inr (by rw [s2L, if_pos (by omega)]; exact List.mem_singleton.mpr rfl)))
      · by_cases d3 : by_ r + hg r ≤ by_ t
        · obtain ⟨e1, e2, e3, e4⟩ := pk_acc (x := lx m) (y := by_ m) (w := wd m) (h := by_ t - by_ m) (by omega) (by omega) (by omega) (by omega)
          refine ⟨pk (lx m) (by_ m) (wd m) (by_ t - by_ m), cand_in hml ?_, ⟨by rw [e1]; omega, by rw [e2]; omega, by rw [e1, e3]; omega, by rw [e2, e4]; omega⟩⟩
          rw [candOf, if_pos c]
          simp only [splitL, List.mem_append]
          exact Or.inl (Or.inr (by rw [s3L, if_pos (by omega)]; exact List.mem_singleton.mpr rfl))
        · obtain ⟨e1, e2, e3, e4⟩ := pk_acc (x := lx m) (y := by_ m + hg m - (by_ m + hg m - by_ t - hg t)) (w := wd m) (h := by_ m + hg m - by_ t - hg t) (by omega) (by omega) (by omega) (by omega)
          refine ⟨pk (lx m) (by_ m + hg m - (by_ m + hg m - by_ t - hg t)) (wd m) (by_ m + hg m - by_ t - hg t), cand_in hml ?_, ⟨by rw [e1]; omega, by rw [e2]; omega, by rw [e1, e3]; omega, by rw [e2, e4]; omega⟩⟩
          rw [candOf, if_pos c]
          simp only [splitL, List.mem_append]
          exact Or.inr (by rw [s4L, if_pos (by omega)]; exact List.mem_singleton.mpr rfl)
  · exact ⟨m, cand_in hml (by rw [candOf, if_neg c]; exact List.mem_singleton.mpr rfl), ⟨i1, i2, i3, i4⟩⟩
/-- the holes behind a split are those of what is left -/
theorem split_mem {G G' : Int → Int → Prop} (hb : bdG G) {lh : List Int} {t : Int} (hlh : ∀ q, q ∈ lh ↔ MxQ G q) (ht : FrQ G t) (hG : ∀ x y, G' x y ↔ G x y ∧ ¬ inR t x y) (q : Int) : q ∈ keepL (candL lh t) ↔ MxQ G' q := by
  rw [keepL_mem]
  constructor
  · rintro ⟨h1, h2⟩
    refine ⟨cand_free hb hlh ht hG q h1, fun q' hq' hi => ?_⟩
    obtain ⟨c, c1, c2⟩ := cand_cover hb hlh ht hG hq'
    have e := h2 c c1 (ins_trans hi c2)
    rw [e] at c2
    exact ins_antisymm c2 hi
  · rintro ⟨h1, h2⟩
    obtain ⟨c, c1, c2⟩ := cand_cover hb hlh ht hG h1
    have e := h2 c (cand_free hb hlh ht hG c c1) c2
    rw [e] at c1
    exact ⟨c1, fun q' hq' hi => h2 q' (cand_free hb hlh ht hG q' hq') hi⟩
/-- a rectangle at a hole's corner -/
theorem corner_fr {G : Int → Int → Prop} (hb : bdG G) {lh : List Int} {t : Int} (hlh : ∀ q, q ∈ lh ↔ MxQ G q) (h : cornerQ lh t) : FrQ G t := by
  obtain ⟨q, h1, h2, h3, h4, h5, h6, h7⟩ := h
  have fq := ((hlh q).mp h1).1
  obtain ⟨b1, b2, b3⟩ := fr_box hb fq
  obtain ⟨a1, a2, a3, a4⟩ := acc_rng b1
  have e := pk_of (q := t)
  have r := pk_rng (x := lx t) (y := by_ t) (w := wd t) (h := hg t) (by omega) (by omega) (by omega) (by omega)
  rw [e] at r
  refine ⟨r, ⟨h6, h7⟩, fun x y hxy => fq.2.2 x y ?_⟩
  obtain ⟨⟨g1, g2⟩, g3, g4⟩ := hxy
  exact ⟨⟨by omega, by omega⟩, by omega, by omega⟩
end
section
/-! plain law: the sweep of a row finds the rectangles that can't grow -/
/-- not yet ended at x: columns from s on, of least height h, that can't grow to the left -/
def opn (ht : Int → Int) (x s h : Int) : Prop := (0 ≤ s ∧ s < x) ∧ 0 < h ∧ (∀ i, s ≤ i → i < x → h ≤ ht i) ∧ (∃ i, s ≤ i ∧ i < x ∧ ht i = h) ∧ (s = 0 ∨ ht (s - 1) < h)
theorem opn_uniq {ht : Int → Int} {x s s' h : Int} (a : opn ht x s h) (b : opn ht x s' h) : s = s' := by
  obtain ⟨⟨a1, a2⟩, a3, a4, -, a5⟩ := a
  obtain ⟨⟨b1, b2⟩, b3, b4, -, b5⟩ := b
  by_cases c : s < s'
  · rcases b5 with e | e
    · omega
    · have := a4 (s' - 1) (by omega) (by omega)
      omega
  · by_cases c2 : s' < s
    · rcases a5 with e | e
      · omega
      · have := b4 (s - 1) (by omega) (by omega)
        omega
    · omega
theorem opn_exN {ht : Int → Int} {x h : Int} (hp : 0 < h) : ∀ n : Nat, (n : Int) < x → (∀ i, (n : Int) ≤ i → i < x → h ≤ ht i) → (∃ i, (n : Int) ≤ i ∧ i < x ∧ ht i = h) → ∃ s, opn ht x s h := by
  intro n
  induction n with
  | zero =>
    intro h1 h2 h3
    obtain ⟨i, g1, g2, g3⟩ := h3
    exact ⟨0, ⟨by omega, by omega⟩, hp, fun i a b => h2 i (by omega) b, ⟨i, by omega, g2, g3⟩, Or.inl rfl⟩
  | succ n ih =>
    intro h1 h2 h3
    by_cases c : ht (n : Int) < h
    · refine ⟨((n + 1 : Nat) : Int), ⟨by omega, h1⟩, hp, h2, h3, Or.inr ?_⟩
      have e : ((n + 1 : Nat) : Int) - 1 = n := by omega
      rw [e]; exact c
    · obtain ⟨i, g1, g2, g3⟩ := h3
      exact ih (by omega) (fun i a b => by
        by_cases e : i = n
        · rw [e]; omega
        · exact h2 i (by omega) b) ⟨i, by omega, g2, g3⟩
theorem opn_ex {ht : Int → Int} {x h s : Int} (hp : 0 < h) (h0 : 0 ≤ s) (h1 : s < x) (h2 : ∀ i, s ≤ i → i < x → h ≤ ht i) (h3 : ∃ i, s ≤ i ∧ i < x ∧ ht i = h) : ∃ s', opn ht x s' h := by
  obtain ⟨i, g1, g2, g3⟩ := h3
  exact opn_exN hp s.toNat (by omega) (fun i a b => h2 i (by omega) b) ⟨i, by omega, g2, g3⟩
theorem opn_mono {ht : Int → Int} {x s g : Int} (h : opn ht x s g) (hg' : g ≤ ht x) : opn ht (x + 1) s g := by
  obtain ⟨⟨a1, a2⟩, a3, a4, ⟨i, a5, a6, a7⟩, a8⟩ := h
  refine ⟨⟨a1, by omega⟩, a3, fun j b1 b2 => ?_, ⟨i, a5, by omega, a7⟩, a8⟩
  by_cases e : j = x
  · rw [e]; exact hg'
  · exact a4 j b1 (by omega)
theorem opn_succ {ht : Int → Int} {x s g : Int} (h : opn ht (x + 1) s g) : (opn ht x s g ∧ g ≤ ht x) ∨ g = ht x := by
  obtain ⟨⟨a1, a2⟩, a3, a4, ⟨i, a5, a6, a7⟩, a8⟩ := h
  have hx := a4 x (by omega) (by omega)
  by_cases e : i = x
  · right; rw [← a7, e]
  · left
    exact ⟨⟨⟨a1, by omega⟩, a3, fun j b1 b2 => a4 j b1 (by omega), ⟨i, a5, by omega, a7⟩, a8⟩, hx⟩
def srt (l : List (Int × Int)) : Prop := List.Pairwise (fun p q => q.2 < p.2) l
theorem lowL_mem {FB : Int → Int} {x y w h q : Int} : q ∈ lowL FB x y w h ↔ q = pk x y w h ∧ ¬ (0 < y ∧ ∀ i, x ≤ i → i < x + w → tb (FB (y - 1)) i) := by
  by_cases c : 0 < y ∧ ∀ i, x ≤ i → i < x + w → tb (FB (y - 1)) i
  · rw [lowL_yes c]
    constructor
    · intro a; cases a
    · rintro ⟨-, a⟩; exact absurd c a
  · rw [lowL_no c, List.mem_singleton]
    exact ⟨fun a => ⟨a, c⟩, fun a => a.1⟩
theorem lowL_nodup (FB : Int → Int) (x y w h : Int) : (lowL FB x y w h).Nodup := by
  by_cases c : 0 < y ∧ ∀ i, x ≤ i → i < x + w → tb (FB (y - 1)) i
  · rw [lowL_yes c]; exact List.nodup_nil
  · rw [lowL_no c]; simp
theorem popF_mem {FB : Int → Int} {y x h : Int} : ∀ (stk : List (Int × Int)) (st : Int) (out : List Int), srt stk → ∀ p, p ∈ (popF FB y x h stk st out).1 ↔ p ∈ stk ∧ p.2 ≤ h
  | [], st, out, _, p => by simp [popF]
  | (s0, h0) :: r, st, out, hs, p => by
    obtain ⟨h1, h2⟩ := List.pairwise_cons.mp hs
    rw [popF]
    by_cases c : h < h0
    · rw [if_pos c, popF_mem r s0 _ h2 p, List.mem_cons]
      constructor
      · rintro ⟨a, b⟩; exact ⟨Or.inr a, b⟩
      · rintro ⟨a | a, b⟩
        · rw [a] at b
          have b : h0 ≤ h := b
          omega
        · exact ⟨a, b⟩
    · rw [if_neg c]
      constructor
      · intro a
        refine ⟨a, ?_⟩
        rcases List.mem_cons.mp a with e | e
        · rw [e]; show h0 ≤ h; omega
        · have : p.2 < h0 := h1 p e
          omega
      · exact fun a => a.1
theorem popF_srt {FB : Int → Int} {y x h : Int} : ∀ (stk : List (Int × Int)) (st : Int) (out : List Int), srt stk → srt (popF FB y x h stk st out).1
  | [], st, out, hs => by rw [popF]; exact hs
  | (s0, h0) :: r, st, out, hs => by
    rw [popF]
    by_cases c : h < h0
    · rw [if_pos c]; exact popF_srt r _ _ (List.pairwise_cons.mp hs).2
    · rw [if_neg c]; exact hs
theorem popF_out {FB : Int → Int} {y x h : Int} : ∀ (stk : List (Int × Int)) (st : Int) (out : List Int), srt stk → ∀ q, q ∈ (popF FB y x h stk st out).2.2 ↔ q ∈ out ∨ ∃ p ∈ stk, h < p.2 ∧ q ∈ lowL FB p.1 y (x - p.1) p.2
  | [], st, out, _, q => by rw [popF]; simp
  | (s0, h0) :: r, st, out, hs, q => by
    obtain ⟨h1, h2⟩ := List.pairwise_cons.mp hs
    rw [popF]
    by_cases c : h < h0
    · rw [if_pos c, popF_out r s0 _ h2 q, List.mem_append]
      constructor
      · rintro ((a | a) | ⟨p, p1, p2, p3⟩)
        · exact Or.inl a
        · exact Or.inr ⟨(s0, h0), List.mem_cons_self, c, a⟩
        · exact Or.inr ⟨p, List.mem_cons_of_mem _ p1, p2, p3⟩
      · rintro (a | ⟨p, p1, p2, p3⟩)
        · exact Or.inl (Or.inl a)
        · rcases List.mem_cons.mp p1 with e | e
          · rw [e] at p3; exact Or.inl (Or.inr p3)
          · exact Or.inr ⟨p, e, p2, p3⟩
    · rw [if_neg c]
      constructor
      · exact fun a => Or.inl a
      · rintro (a | ⟨p, p1, p2, p3⟩)
        · exact a
        · exfalso
          rcases List.mem_cons.mp p1 with e | e
          · rw [e] at p2; exact c p2
          · have : p.2 < h0 := h1 p e
            omega
theorem popF_st {FB : Int → Int} {y x h : Int} : ∀ (stk : List (Int × Int)) (st : Int) (out : List Int), srt stk → ((popF FB y x h stk st out).2.1 = st ∧ ∀ p ∈ stk, p.2 ≤ h) ∨ ∃ p ∈ stk, h < p.2 ∧ (popF FB y x h stk st out).2.1 = p.1 ∧ ∀ p' ∈ stk, h < p'.2 → p.2 ≤ p'.2
  | [], st, out, _ => Or.inl ⟨by rw [popF], fun p hp => by cases hp⟩
  | (s0, h0) :: r, st, out, hs => by
    obtain ⟨h1, h2⟩ := List.pairwise_cons.mp hs
    rw [popF]
    by_cases c : h < h0
    · rw [if_pos c]
      right
      rcases popF_st r s0 (out ++ lowL FB s0 y (x - s0) h0) h2 with ⟨a, b⟩ | ⟨p, p1, p2, p3, p4⟩
      · refine ⟨(s0, h0), List.mem_cons_self, c, a, fun p' q1 q2 => ?_⟩
        rcases List.mem_cons.mp q1 with e | e
        · rw [e]; exact Int.le_refl _
        · have := b p' e
          omega
      · refine ⟨p, List.mem_cons_of_mem _ p1, p2, p3, fun p' q1 q2 => ?_⟩
        rcases List.mem_cons.mp q1 with e | e
        · have : p.2 < h0 := h1 p p1
          rw [e]; show p.2 ≤ h0; omega
        · exact p4 p' e q2
    · rw [if_neg c]
      left
      refine ⟨rfl, fun p q1 => ?_⟩
      rcases List.mem_cons.mp q1 with e | e
      · rw [e]; show h0 ≤ h; omega
      · have : p.2 < h0 := h1 p e
        omega
theorem popF_len {FB : Int → Int} {y x h : Int} : ∀ (stk : List (Int × Int)) (st : Int) (out : List Int), (popF FB y x h stk st out).2.2.length + (popF FB y x h stk st out).1.length ≤ out.length + stk.length
  | [], st, out => by rw [popF]; exact Nat.le_refl _
  | (s0, h0) :: r, st, out => by
    rw [popF]
    by_cases c : h < h0
    · rw [if_pos c]
      have a := popF_len (FB := FB) (y := y) (x := x) (h := h) r s0 (out ++ lowL FB s0 y (x - s0) h0)
      have b := lowL_len FB s0 y (x - s0) h0
      rw [List.length_append] at a
      rw [List.length_cons]
      omega
    · rw [if_neg c]; exact Nat.le_refl _
theorem popF_nodup {FB : Int → Int} {y x h : Int} : ∀ (stk : List (Int × Int)) (st : Int) (out : List Int), srt stk → (∀ p ∈ stk, ∀ q ∈ lowL FB p.1 y (x - p.1) p.2, hg q = p.2) → out.Nodup → (∀ q ∈ out, ∀ p ∈ stk, q ∉ lowL FB p.1 y (x - p.1) p.2) → (popF FB y x h stk st out).2.2.Nodup
  | [], st, out, _, _, hn, _ => by rw [popF]; exact hn
  | (s0, h0) :: r, st, out, hs, hh, hn, hd => by
    obtain ⟨h1, h2⟩ := List.pairwise_cons.mp hs
    rw [popF]
    by_cases c : h < h0
    · rw [if_pos c]
      refine popF_nodup r s0 _ h2 (fun p hp => hh p (List.mem_cons_of_mem _ hp)) ?_ ?_
      · refine List.nodup_append.mpr ⟨hn, lowL_nodup _ _ _ _ _, fun a ha b hb e => ?_⟩
        rw [← e] at hb
        exact hd a ha (s0, h0) List.mem_cons_self hb
      · intro q hq p hp hq2
        rcases List.mem_append.mp hq with a | a
        · exact hd q a p (List.mem_cons_of_mem _ hp) hq2
        · have e1 : hg q = h0 := hh (s0, h0) List.mem_cons_self q a
          have e2 := hh p (List.mem_cons_of_mem _ hp) q hq2
          have e3 : p.2 < h0 := h1 p hp
          omega
    · rw [if_neg c]; exact hn
theorem topLt_yes {h : Int} : ∀ {l : List (Int × Int)}, srt l → topLt l h = true → ∀ p ∈ l, p.2 < h
  | [], _, _, p, hp => by cases hp
  | (s0, h0) :: r, hs, ht, p, hp => by
    have h1 : h0 < h := by simpa [topLt] using ht
    rcases List.mem_cons.mp hp with e | e
    · rw [e]; exact h1
    · have : p.2 < h0 := (List.pairwise_cons.mp hs).1 p e
      omega
theorem topLt_no {h : Int} : ∀ {l : List (Int × Int)}, ¬ topLt l h = true → ∃ p ∈ l, h ≤ p.2
  | [], ht => absurd rfl ht
  | (s0, h0) :: r, ht => by
    have h1 : h ≤ h0 := by simpa [topLt] using ht
    exact ⟨(s0, h0), List.mem_cons_self, h1⟩
def htOk (ht : Int → Int) : Prop := ∀ i, 0 ≤ i → i ≤ 16 → 0 ≤ ht i ∧ ht i ≤ 16
theorem low_acc {FB ht : Int → Int} {y e s h q : Int} (hh : htOk ht) (he : 0 ≤ e ∧ e ≤ 16) (hy : 0 ≤ y ∧ y < 16) (ho : opn ht e s h) (hq : q ∈ lowL FB s y (e - s) h) : lx q = s ∧ by_ q = y ∧ wd q = e - s ∧ hg q = h := by
  obtain ⟨⟨a1, a2⟩, a3, -, ⟨i, a5, a6, a7⟩, -⟩ := ho
  have h1 := hh i (by omega) (by omega)
  rw [(lowL_mem.mp hq).1]
  exact pk_acc (by omega) (by omega) (by omega) (by omega)
/-- the state of the sweep at column x -/
def SwI (FB : Int → Int) (y : Int) (ht : Int → Int) (x : Int) (S : List (Int × Int) × List Int) : Prop :=
  srt S.1 ∧ (∀ p, p ∈ S.1 ↔ opn ht x p.1 p.2) ∧ S.2.Nodup ∧ ∀ q, q ∈ S.2 ↔ ∃ e s h, (0 ≤ e ∧ e < x) ∧ opn ht e s h ∧ ht e < h ∧ q ∈ lowL FB s y (e - s) h
theorem SwI_step {FB : Int → Int} {y : Int} {ht : Int → Int} {x : Int} {S : List (Int × Int) × List Int} (hh : htOk ht) (hy : 0 ≤ y ∧ y < 16) (hx : 0 ≤ x ∧ x ≤ 16) (H : SwI FB y ht x S) : SwI FB y ht (x + 1) (swStep FB y ht x S) := by
  obtain ⟨H1, H2, H3, H4⟩ := H
  have m1 := popF_mem (FB := FB) (y := y) (x := x) (h := ht x) S.1 x S.2 H1
  have m2 := popF_srt (FB := FB) (y := y) (x := x) (h := ht x) S.1 x S.2 H1
  have m3 := popF_out (FB := FB) (y := y) (x := x) (h := ht x) S.1 x S.2 H1
  have m4 := popF_st (FB := FB) (y := y) (x := x) (h := ht x) S.1 x S.2 H1
  have m5 := popF_nodup (FB := FB) (y := y) (x := x) (h := ht x) S.1 x S.2 H1 (fun p hp q hq => (low_acc hh hx hy ((H2 p).mp hp) hq).2.2.2) H3 (fun q hq p hp hq2 => by
    obtain ⟨e, s, h, g1, g2, g3, g4⟩ := (H4 q).mp hq
    have e1 := low_acc hh (by omega) hy g2 g4
    have e2 := low_acc hh hx hy ((H2 p).mp hp) hq2
    omega)
  unfold swStep
  generalize popF FB y x (ht x) S.1 x S.2 = P at m1 m2 m3 m4 m5 ⊢
  have m1' : ∀ p, p ∈ P.1 ↔ opn ht x p.1 p.2 ∧ p.2 ≤ ht x := fun p => by rw [m1, H2]
  have hout : ∀ q, q ∈ P.2.2 ↔ ∃ e s h, (0 ≤ e ∧ e < x + 1) ∧ opn ht e s h ∧ ht e < h ∧ q ∈ lowL FB s y (e - s) h := by
    intro q
    rw [m3, H4]
    constructor
    · rintro (⟨e, s, h, g1, g2⟩ | ⟨p, p1, p2, p3⟩)
      · exact ⟨e, s, h, by omega, g2⟩
      · exact ⟨x, p.1, p.2, by omega, (H2 p).mp p1, p2, p3⟩
    · rintro ⟨e, s, h, g1, g2, g3, g4⟩
      by_cases c : e = x
      · rw [c] at g2 g3 g4
        exact Or.inr ⟨(s, h), (H2 (s, h)).mpr g2, g3, g4⟩
      · exact Or.inl ⟨e, s, h, by omega, g2, g3, g4⟩
  by_cases c : 0 < ht x ∧ topLt P.1 (ht x) = true
  · rw [if_pos c]
    obtain ⟨c1, c2⟩ := c
    have c3 := topLt_yes m2 c2
    have no : ∀ s, ¬ opn ht x s (ht x) := fun s hs => by
      have := c3 (s, ht x) ((m1' (s, ht x)).mpr ⟨hs, Int.le_refl _⟩)
      exact absurd this (Int.lt_irrefl _)
    have hnew : opn ht (x + 1) P.2.1 (ht x) := by
      rcases m4 with ⟨e, hall⟩ | ⟨p, p1, p2, p3, p4⟩
      · rw [e]
        refine ⟨⟨hx.1, by omega⟩, c1, fun i a b => ?_, ⟨x, by omega, by omega, rfl⟩, ?_⟩
        · have : i = x := by omega
          rw [this]; exact Int.le_refl _
        · by_cases e0 : x = 0
          · exact Or.inl e0
          · right
            refine Classical.byContradiction fun c4 => ?_
            obtain ⟨s', hs'⟩ := opn_ex (ht := ht) (x := x) (h := ht (x - 1)) (s := x - 1) (by omega) (by omega) (by omega) (fun i a b => by
              have : i = x - 1 := by omega
              rw [this]; exact Int.le_refl _) ⟨x - 1, by omega, by omega, rfl⟩
            have h1 := (H2 (s', ht (x - 1))).mpr hs'
            have h2 : ht (x - 1) ≤ ht x := hall _ h1
            have h3 : ht (x - 1) < ht x := c3 _ ((m1' (s', ht (x - 1))).mpr ⟨hs', h2⟩)
            omega
      · rw [p3]
        have ho := (H2 p).mp p1
        obtain ⟨⟨a1, a2⟩, a3, a4, a5, a8⟩ := ho
        refine ⟨⟨a1, by omega⟩, c1, fun i a b => ?_, ⟨x, by omega, by omega, rfl⟩, ?_⟩
        · by_cases e : i = x
          · rw [e]; exact Int.le_refl _
          · have := a4 i a (by omega)
            omega
        · rcases a8 with e0 | e0
          · exact Or.inl e0
          · by_cases e1 : p.1 = 0
            · exact Or.inl e1
            · right
              refine Classical.byContradiction fun c4 => ?_
              obtain ⟨s', hs'⟩ := opn_ex (ht := ht) (x := x) (h := ht (p.1 - 1)) (s := p.1 - 1) (by omega) (by omega) (by omega) (fun i a b => by
                by_cases e : i = p.1 - 1
                · rw [e]; exact Int.le_refl _
                · have := a4 i (by omega) b
                  omega) ⟨p.1 - 1, by omega, by omega, rfl⟩
              by_cases e2 : ht (p.1 - 1) = ht x
              · rw [e2] at hs'; exact no _ hs'
              · have h1 : p.2 ≤ ht (p.1 - 1) := p4 (s', ht (p.1 - 1)) ((H2 (s', ht (p.1 - 1))).mpr hs') (show ht x < ht (p.1 - 1) by omega)
                omega
    refine ⟨List.pairwise_cons.mpr ⟨fun p hp => c3 p hp, m2⟩, fun p => ?_, m5, hout⟩
    rw [List.mem_cons, m1']
    constructor
    · rintro (e | ⟨g1, g2⟩)
      · rw [e]; exact hnew
      · exact opn_mono g1 g2
    · intro g
      rcases opn_succ g with g1 | g1
      · exact Or.inr g1
      · left
        rw [g1] at g
        have e := opn_uniq g hnew
        exact Prod.ext e g1
  · rw [if_neg c]
    refine ⟨m2, fun p => ?_, m5, hout⟩
    constructor
    · intro g
      obtain ⟨g1, g2⟩ := (m1' p).mp g
      exact opn_mono g1 g2
    · intro g
      rcases opn_succ g with g1 | g1
      · exact (m1' p).mpr g1
      · have g0 : 0 < p.2 := g.2.1
        obtain ⟨p0, q1, q2⟩ := topLt_no (fun t => c ⟨by omega, t⟩)
        obtain ⟨q3, q4⟩ := (m1' p0).mp q1
        have e1 : p0.2 = p.2 := by omega
        have q5 := opn_mono q3 q4
        rw [e1] at q5
        have e2 := opn_uniq g q5
        have e3 : p = p0 := Prod.ext e2 e1.symm
        rw [e3]; exact q1
theorem sw_inv {FB : Int → Int} {y : Int} {ht : Int → Int} (hh : htOk ht) (hy : 0 ≤ y ∧ y < 16) (n : Nat) (hn : n ≤ 17) : SwI FB y ht (n : Int) (sw FB y ht n) := by
  induction n with
  | zero =>
    refine ⟨List.Pairwise.nil, fun p => ⟨fun h => (by cases h), fun h => ?_⟩, List.nodup_nil, fun q => ⟨fun h => (by cases h), ?_⟩⟩
    · have := h.1
      omega
    · rintro ⟨e, s, h, g1, -⟩
      omega
  | succ n ih =>
    have e : ((n + 1 : Nat) : Int) = (n : Int) + 1 := by omega
    rw [sw, e]
    exact SwI_step hh hy (by omega) (ih (by omega))
theorem swStep_len (FB : Int → Int) (y : Int) (ht : Int → Int) (x : Int) (S : List (Int × Int) × List Int) : (swStep FB y ht x S).2.length + (swStep FB y ht x S).1.length ≤ S.2.length + S.1.length + 1 ∧ (ht x = 0 → (swStep FB y ht x S).2.length + (swStep FB y ht x S).1.length ≤ S.2.length + S.1.length) := by
  have h := popF_len (FB := FB) (y := y) (x := x) (h := ht x) S.1 x S.2
  unfold swStep
  generalize popF FB y x (ht x) S.1 x S.2 = P at h ⊢
  by_cases c : 0 < ht x ∧ topLt P.1 (ht x) = true
  · rw [if_pos c]
    refine ⟨?_, fun e => by omega⟩
    show P.2.2.length + ((P.2.1, ht x) :: P.1).length ≤ _
    rw [List.length_cons]
    omega
  · rw [if_neg c]
    exact ⟨Nat.le_trans h (by omega), fun _ => h⟩
theorem sw_len (FB : Int → Int) (y : Int) (ht : Int → Int) (n : Nat) : (sw FB y ht n).2.length + (sw FB y ht n).1.length ≤ n := by
  induction n with
  | zero => exact Nat.le_refl _
  | succ n ih =>
    have h := (swStep_len FB y ht n (sw FB y ht n)).1
    rw [sw]
    omega
theorem sw_len1 {FB : Int → Int} {y : Int} {ht : Int → Int} {Cw : Int} (hC : 0 ≤ Cw) (h0 : ht Cw = 0) : ((sw FB y ht (Cw + 1).toNat).2.length : Int) ≤ Cw := by
  have h1 := sw_len FB y ht Cw.toNat
  have h2 := (swStep_len FB y ht Cw (sw FB y ht Cw.toNat)).2 h0
  rw [sw_step hC]
  omega
/-! the free cells by their bits -/
def GF (FB : Int → Int) (Cw Rw x y : Int) : Prop := (0 ≤ x ∧ x < Cw) ∧ (0 ≤ y ∧ y < Rw) ∧ tb (FB y) x
theorem GF_bd {FB : Int → Int} {Cw Rw : Int} (hC : Cw ≤ 16) (hR : Rw ≤ 16) : bdG (GF FB Cw Rw) := fun x y h => by
  obtain ⟨h1, h2, -⟩ := h
  omega
theorem ht_ge {FB : Int → Int} {Rw x y z k : Int} (h : HtS FB Rw x y z) (hk : 0 ≤ k) : k ≤ z ↔ y + k ≤ Rw ∧ ∀ j, y ≤ j → j < y + k → tb (FB j) x := by
  obtain ⟨t, a1, a2, a3, a4, a5⟩ := h
  constructor
  · intro c
    exact ⟨by omega, fun j b1 b2 => a4 j b1 (by omega)⟩
  · rintro ⟨c1, c2⟩
    refine Classical.byContradiction fun c => ?_
    rcases a5 with e | e
    · omega
    · exact e (c2 t a1 (by omega))
theorem sw_max {FB : Int → Int} {Cw Rw y : Int} {ht : Int → Int} (hC : 4 ≤ Cw ∧ Cw ≤ 16) (hR : 4 ≤ Rw ∧ Rw ≤ 16) (hy : 0 ≤ y ∧ y < Rw) (hh : htOk ht) (hht : ∀ x, 0 ≤ x → x < Cw → HtS FB Rw x y (ht x)) (h0 : ht Cw = 0) (q : Int) : q ∈ (sw FB y ht (Cw + 1).toNat).2 ↔ MxQ (GF FB Cw Rw) q ∧ by_ q = y := by
  have hbd := GF_bd (FB := FB) hC.2 hR.2
  have hI := sw_inv (FB := FB) hh (y := y) (by omega) (Cw + 1).toNat (by omega)
  rw [Int.toNat_of_nonneg (by omega)] at hI
  rw [hI.2.2.2 q]
  constructor
  · rintro ⟨e, s, h, g1, g2, g3, g4⟩
    have ac := low_acc hh (by omega) (by omega) g2 g4
    obtain ⟨e1, e2, e3, e4⟩ := ac
    obtain ⟨f1, f2⟩ := lowL_mem.mp g4
    obtain ⟨⟨a1, a2⟩, a3, a4, ⟨i0, a5, a6, a7⟩, a8⟩ := g2
    have hi0 := (ht_ge (hht i0 (by omega) (by omega)) (k := h) (by omega)).mp (by omega)
    have hfr : FrQ (GF FB Cw Rw) q := by
      rw [f1]
      refine fr_pk (by omega) (by omega) (by omega) (by omega) (by omega) (by omega) (fun i j i1 i2 j1 j2 => ?_)
      have := (ht_ge (hht i (by omega) (by omega)) (k := h) (by omega)).mp (a4 i i1 (by omega))
      exact ⟨by omega, by omega, this.2 j j1 j2⟩
    refine ⟨mx_of_stuck hfr ?_, e2⟩
    rw [e1, e2, e3, e4]
    refine ⟨fun c => ?_, fun c => ?_, fun c => ?_, fun c => ?_⟩
    · have c1 := c y (by omega) (by omega)
      obtain ⟨c2, c3, -⟩ := c1
      have := (ht_ge (hht (s - 1) (by omega) (by omega)) (k := h) (by omega)).mpr ⟨hi0.1, fun j b1 b2 => (c j b1 b2).2.2⟩
      omega
    · have c1 := c y (by omega) (by omega)
      obtain ⟨c2, c3, -⟩ := c1
      have e5 : s + (e - s) = e := by omega
      rw [e5] at c2
      have := (ht_ge (hht e (by omega) (by omega)) (k := h) (by omega)).mpr ⟨hi0.1, fun j b1 b2 => by
        have := (c j b1 b2).2.2
        rw [e5] at this
        exact this⟩
      omega
    · have c1 := c s (by omega) (by omega)
      obtain ⟨c2, c3, -⟩ := c1
      exact f2 ⟨by omega, fun i b1 b2 => (c i b1 b2).2.2⟩
    · have c1 := c i0 (by omega) (by omega)
      obtain ⟨c2, c3, c4⟩ := c1
      have := (ht_ge (hht i0 (by omega) (by omega)) (k := h + 1) (by omega)).mpr ⟨by omega, fun j b1 b2 => by
        by_cases e : j = y + h
        · rw [e]; exact c4
        · exact hi0.2 j b1 (by omega)⟩
      omega
  · rintro ⟨hm, rfl⟩
    obtain ⟨b1, b2, b3⟩ := fr_box hbd hm.1
    obtain ⟨a1, a2, a3, a4⟩ := acc_rng b1
    obtain ⟨s1, s2, s3, s4⟩ := mx_stuck hbd hm
    obtain ⟨-, ⟨w1, w2⟩, hc⟩ := hm.1
    have hcor := hc (lx q + wd q - 1) (by_ q + hg q - 1) ⟨⟨by omega, by omega⟩, by omega, by omega⟩
    obtain ⟨k1, k2, -⟩ := hcor
    have hge : ∀ i, lx q ≤ i → i < lx q + wd q → hg q ≤ ht i := fun i i1 i2 => (ht_ge (hht i (by omega) (by omega)) (k := hg q) (by omega)).mpr ⟨by omega, fun j j1 j2 => (hc i j ⟨⟨i1, i2⟩, j1, j2⟩).2.2⟩
    refine ⟨lx q + wd q, lx q, hg q, by omega, ⟨⟨by omega, by omega⟩, by omega, hge, ?_, ?_⟩, ?_, lowL_mem.mpr ⟨?_, ?_⟩⟩
    · refine Classical.byContradiction fun c => s4 fun i i1 i2 => ?_
      have h1 := hge i i1 i2
      have h2 : ht i ≠ hg q := fun e => c ⟨i, i1, i2, e⟩
      have h3 := (ht_ge (hht i (by omega) (by omega)) (k := hg q + 1) (by omega)).mp (by omega)
      exact ⟨by omega, by omega, h3.2 _ (by omega) (by omega)⟩
    · by_cases e : lx q = 0
      · exact Or.inl e
      · right
        refine Classical.byContradiction fun c => s1 fun j j1 j2 => ?_
        have h3 := (ht_ge (hht (lx q - 1) (by omega) (by omega)) (k := hg q) (by omega)).mp (by omega)
        exact ⟨by omega, by omega, h3.2 j j1 j2⟩
    · by_cases e : lx q + wd q = Cw
      · rw [e, h0]; omega
      · refine Classical.byContradiction fun c => s2 fun j j1 j2 => ?_
        have h3 := (ht_ge (hht (lx q + wd q) (by omega) (by omega)) (k := hg q) (by omega)).mp (by omega)
        exact ⟨by omega, by omega, h3.2 j j1 j2⟩
    · have e : lx q + wd q - lx q = wd q := by omega
      rw [e]; exact pk_of.symm
    · rintro ⟨c1, c2⟩
      refine s3 fun i i1 i2 => ⟨by omega, by omega, c2 i i1 (by omega)⟩
theorem allS_mem {FB : Int → Int} {Cw : Int} {ht : Int → Int → Int} (n : Nat) (q : Int) : q ∈ allS FB Cw ht n ↔ ∃ y : Int, 0 ≤ y ∧ y < (n : Int) ∧ q ∈ (sw FB y (ht y) (Cw + 1).toNat).2 := by
  induction n with
  | zero =>
    constructor
    · intro h; cases h
    · rintro ⟨y, h1, h2, -⟩; omega
  | succ n ih =>
    rw [allS, List.mem_append, ih]
    constructor
    · rintro (⟨y, h1, h2, h3⟩ | h)
      · exact ⟨y, h1, by omega, h3⟩
      · exact ⟨n, by omega, by omega, h⟩
    · rintro ⟨y, h1, h2, h3⟩
      by_cases e : y = n
      · rw [e] at h3; exact Or.inr h3
      · exact Or.inl ⟨y, h1, by omega, h3⟩
theorem htF_htOk {FB : Int → Int} {Cw Rw y : Int} (hR : Rw ≤ 16) (hy : 0 ≤ y ∧ y ≤ Rw) : htOk (htF FB Cw Rw y) := by
  intro i _ _
  by_cases c : i < Cw
  · have := HtS_rng (htF_ok (FB := FB) hy.2 c)
    omega
  · unfold htF
    rw [if_neg c]
    omega
theorem sw_maxF {FB : Int → Int} {Cw Rw y : Int} (hC : 4 ≤ Cw ∧ Cw ≤ 16) (hR : 4 ≤ Rw ∧ Rw ≤ 16) (hy : 0 ≤ y ∧ y < Rw) (q : Int) : q ∈ (sw FB y (htF FB Cw Rw y) (Cw + 1).toNat).2 ↔ MxQ (GF FB Cw Rw) q ∧ by_ q = y :=
  sw_max hC hR hy (htF_htOk hR.2 (by omega)) (fun x _ h => htF_ok (by omega) h) (htF_0 FB Cw Rw y) q
theorem holesOf_mem {FB : Int → Int} {Cw Rw : Int} (hC : 4 ≤ Cw ∧ Cw ≤ 16) (hR : 4 ≤ Rw ∧ Rw ≤ 16) (q : Int) : q ∈ holesOf FB Cw Rw ↔ MxQ (GF FB Cw Rw) q := by
  unfold holesOf
  rw [allS_mem]
  constructor
  · rintro ⟨y, h1, h2, h3⟩
    exact ((sw_maxF hC hR (by omega) q).mp h3).1
  · intro h
    have hc := h.1.2.2 (lx q) (by_ q) ⟨⟨by omega, by have := h.1.2.1; omega⟩, by omega, by have := h.1.2.1; omega⟩
    have hc2 := hc.2.1
    exact ⟨by_ q, by omega, by omega, (sw_maxF hC hR hc2 q).mpr ⟨h, rfl⟩⟩
theorem allS_nodup {FB : Int → Int} {Cw Rw : Int} (hC : 4 ≤ Cw ∧ Cw ≤ 16) (hR : 4 ≤ Rw ∧ Rw ≤ 16) (n : Nat) (hn : (n : Int) ≤ Rw) : (allS FB Cw (htF FB Cw Rw) n).Nodup := by
  induction n with
  | zero => exact List.nodup_nil
  | succ n ih =>
    rw [allS]
    have hI := sw_inv (FB := FB) (htF_htOk (FB := FB) (Cw := Cw) (y := (n : Int)) hR.2 (by omega)) (y := (n : Int)) (by omega) (Cw + 1).toNat (by omega)
    refine List.nodup_append.mpr ⟨ih (by omega), hI.2.2.1, fun a ha b hb e => ?_⟩
    obtain ⟨y, h1, h2, h3⟩ := (allS_mem n a).mp ha
    have e1 := ((sw_maxF hC hR (by omega) a).mp h3).2
    have e2 := ((sw_maxF hC hR (by omega) b).mp hb).2
    rw [e] at e1
    omega
theorem holesOf_nodup {FB : Int → Int} {Cw Rw : Int} (hC : 4 ≤ Cw ∧ Cw ≤ 16) (hR : 4 ≤ Rw ∧ Rw ≤ 16) : (holesOf FB Cw Rw).Nodup := allS_nodup hC hR _ (by omega)
theorem allS_len {FB : Int → Int} {Cw Rw : Int} (hC : 4 ≤ Cw ∧ Cw ≤ 16) (n : Nat) : (allS FB Cw (htF FB Cw Rw) n).length ≤ 16 * n := by
  induction n with
  | zero => exact Nat.le_refl _
  | succ n ih =>
    rw [allS, List.length_append]
    have h := sw_len1 (FB := FB) (y := (n : Int)) (ht := htF FB Cw Rw n) (Cw := Cw) (by omega) (htF_0 FB Cw Rw n)
    omega
theorem holesOf_len {FB : Int → Int} {Cw Rw : Int} (hC : 4 ≤ Cw ∧ Cw ≤ 16) (hR : 4 ≤ Rw ∧ Rw ≤ 16) : (holesOf FB Cw Rw).length ≤ 256 := by
  have h := allS_len (FB := FB) (Rw := Rw) hC Rw.toNat
  unfold holesOf
  omega
/-- two lists of the same members, each once -/
theorem same_len {a b : List Int} (ha : a.Nodup) (hb : b.Nodup) (h : ∀ q, q ∈ a ↔ q ∈ b) : a.length = b.length := ((List.perm_ext_iff_of_nodup ha hb).mpr h).length_eq
end
section
/-! plain law: what the two classes answer about the same cells -/
def GC (Ce : Int → Int) (Cw Rw x y : Int) : Prop := (0 ≤ x ∧ x < Cw) ∧ (0 ≤ y ∧ y < Rw) ∧ Ce (16 * y + x) = -1
theorem GC_bd {Ce : Int → Int} {Cw Rw : Int} (hC : Cw ≤ 16) (hR : Rw ≤ 16) : bdG (GC Ce Cw Rw) := fun x y h => by
  obtain ⟨h1, h2, -⟩ := h
  omega
theorem gd_iff {Ce : Int → Int} {Cw Rw x y w h : Int} (hw : 1 ≤ w) (hh : 1 ≤ h) : gd Ce Cw Rw x y w h ↔ ∀ i j, x ≤ i → i < x + w → y ≤ j → j < y + h → GC Ce Cw Rw i j := by
  constructor
  · rintro ⟨h1, h2, h3, h4, h5⟩ i j i1 i2 j1 j2
    exact ⟨by omega, by omega, h5 j j1 j2 i i1 i2⟩
  · intro H
    have a := H x y (by omega) (by omega) (by omega) (by omega)
    have b := H (x + w - 1) (y + h - 1) (by omega) (by omega) (by omega) (by omega)
    obtain ⟨a1, a2, -⟩ := a
    obtain ⟨b1, b2, -⟩ := b
    exact ⟨by omega, by omega, by omega, by omega, fun j j1 j2 i i1 i2 => (H i j i1 i2 j1 j2).2.2⟩
/-- the reference's holes are the rectangles that can't grow -/
theorem maxG_mx {Ce : Int → Int} {Cw Rw x y w h : Int} (hC : 4 ≤ Cw ∧ Cw ≤ 16) (hR : 4 ≤ Rw ∧ Rw ≤ 16) (hx : 0 ≤ x) (hy : 0 ≤ y) (hw : 1 ≤ w) : MaxG Ce Cw Rw x y w h ↔ MxQ (GC Ce Cw Rw) (pk x y w h) ∧ x + w ≤ 16 ∧ y + h ≤ 16 ∧ 1 ≤ h := by
  have hbd := GC_bd (Ce := Ce) hC.2 hR.2
  constructor
  · rintro ⟨m1, m2, m3, m4, m5, m6⟩
    rcases m2 with ⟨c1, c2⟩ | ⟨c1, c2, c3, c4, c5⟩
    · omega
    · obtain ⟨e1, e2, e3, e4⟩ := pk_acc (x := x) (y := y) (w := w) (h := h) (by omega) (by omega) (by omega) (by omega)
      refine ⟨mx_of_stuck (fr_pk hx hy hw (by omega) (by omega) (by omega) (fun i j i1 i2 j1 j2 => (gd_iff hw (Int.le_refl 1)).mp (c4 j j1 j2) i j i1 i2 (by omega) (by omega))) ?_, by omega, by omega, by omega⟩
      rw [e1, e2, e3, e4]
      refine ⟨fun c => ?_, fun c => ?_, fun c => ?_, fun c => ?_⟩
      · exact m4 ((gd_iff (Int.le_refl 1) (by omega)).mpr fun i j i1 i2 j1 j2 => by
          have e : i = x - 1 := by omega
          rw [e]; exact c j j1 j2)
      · exact m5 ((gd_iff (Int.le_refl 1) (by omega)).mpr fun i j i1 i2 j1 j2 => by
          have e : i = x + w := by omega
          rw [e]; exact c j j1 j2)
      · exact m6 ((gd_iff hw (Int.le_refl 1)).mpr fun i j i1 i2 j1 j2 => by
          have e : j = y - 1 := by omega
          rw [e]; exact c i i1 i2)
      · rcases c5 with e | e
        · have := (c x (by omega) (by omega)).2.1
          omega
        · exact e ((gd_iff hw (Int.le_refl 1)).mpr fun i j i1 i2 j1 j2 => by
            have e : j = y + h := by omega
            rw [e]; exact c i i1 i2)
  · rintro ⟨hm, r1, r2, r3⟩
    obtain ⟨e1, e2, e3, e4⟩ := pk_acc (x := x) (y := y) (w := w) (h := h) (by omega) (by omega) (by omega) (by omega)
    have hs := mx_stuck hbd hm
    have hc := hm.1.2.2
    unfold inR at hc
    rw [e1, e2, e3, e4] at hs hc
    obtain ⟨s1, s2, s3, s4⟩ := hs
    have hcor := hc (x + w - 1) (y + h - 1) ⟨⟨by omega, by omega⟩, by omega, by omega⟩
    obtain ⟨k1, k2, -⟩ := hcor
    refine ⟨by omega, Or.inr ⟨by omega, by omega, by omega, fun j j1 j2 => (gd_iff hw (Int.le_refl 1)).mpr fun i j' i1 i2 q1 q2 => hc i j' ⟨⟨i1, i2⟩, by omega, by omega⟩, ?_⟩, by omega, ?_, ?_, ?_⟩
    · right
      exact fun c => s4 fun i i1 i2 => (gd_iff hw (Int.le_refl 1)).mp c i (y + h) i1 i2 (by omega) (by omega)
    · exact fun c => s1 fun j j1 j2 => (gd_iff (Int.le_refl 1) r3).mp c (x - 1) j (by omega) (by omega) j1 j2
    · exact fun c => s2 fun j j1 j2 => (gd_iff (Int.le_refl 1) r3).mp c (x + w) j (by omega) (by omega) j1 j2
    · exact fun c => s3 fun i i1 i2 => (gd_iff hw (Int.le_refl 1)).mp c i (y - 1) i1 i2 (by omega) (by omega)
theorem mx_maxG {Ce : Int → Int} {Cw Rw q : Int} (hC : 4 ≤ Cw ∧ Cw ≤ 16) (hR : 4 ≤ Rw ∧ Rw ≤ 16) (h : MxQ (GC Ce Cw Rw) q) : (0 ≤ 16 * by_ q + lx q ∧ 16 * by_ q + lx q < 256) ∧ (1 ≤ wd q ∧ wd q ≤ Cw) ∧ ((16 * by_ q + lx q) % 16 = lx q ∧ (16 * by_ q + lx q) / 16 = by_ q) ∧ MaxG Ce Cw Rw (lx q) (by_ q) (wd q) (hg q) := by
  have hbd := GC_bd (Ce := Ce) hC.2 hR.2
  obtain ⟨b1, b2, b3⟩ := fr_box hbd h.1
  obtain ⟨a1, a2, a3, a4⟩ := acc_rng b1
  have hw := h.1.2.1
  have hcor := h.1.2.2 (lx q + wd q - 1) (by_ q + hg q - 1) ⟨⟨by omega, by omega⟩, by omega, by omega⟩
  obtain ⟨k1, k2, -⟩ := hcor
  refine ⟨by omega, by omega, by omega, (maxG_mx hC hR (by omega) (by omega) (by omega)).mpr ⟨?_, by omega, by omega, by omega⟩⟩
  rw [pk_of]; exact h
/-! holes: counted -/
def catI (K : Int → List Int) : Nat → List Int
  | 0 => []
  | k + 1 => catI K k ++ K k
theorem catI_mem (K : Int → List Int) (n : Nat) (q : Int) : q ∈ catI K n ↔ ∃ k : Int, 0 ≤ k ∧ k < (n : Int) ∧ q ∈ K k := by
  induction n with
  | zero =>
    constructor
    · intro h; cases h
    · rintro ⟨k, h1, h2, -⟩; omega
  | succ n ih =>
    rw [catI, List.mem_append, ih]
    constructor
    · rintro (⟨y, h1, h2, h3⟩ | h)
      · exact ⟨y, h1, by omega, h3⟩
      · exact ⟨n, by omega, by omega, h⟩
    · rintro ⟨y, h1, h2, h3⟩
      by_cases e : y = n
      · rw [e] at h3; exact Or.inr h3
      · exact Or.inl ⟨y, h1, by omega, h3⟩
theorem catI_len (K : Int → List Int) (n : Nat) : ((catI K n).length : Int) = sumI (fun k => ((K k).length : Int)) n := by
  induction n with
  | zero => rfl
  | succ n ih =>
    rw [catI, List.length_append, sumI, ← ih]
    omega
theorem catI_nodup (K : Int → List Int) (n : Nat) (h1 : ∀ k, 0 ≤ k → k < (n : Int) → (K k).Nodup) (h2 : ∀ i j q, 0 ≤ i → i < (n : Int) → 0 ≤ j → j < (n : Int) → q ∈ K i → q ∈ K j → i = j) : (catI K n).Nodup := by
  induction n with
  | zero => exact List.nodup_nil
  | succ n ih =>
    rw [catI]
    refine List.nodup_append.mpr ⟨ih (fun k a b => h1 k a (by omega)) (fun i j q a b c d => h2 i j q a (by omega) c (by omega)), h1 n (by omega) (by omega), fun a ha b hb e => ?_⟩
    obtain ⟨k, k1, k2, k3⟩ := (catI_mem K n a).mp ha
    rw [← e] at hb
    have := h2 k n a k1 (by omega) (by omega) (by omega) k3 hb
    omega
noncomputable def KK (Ce : Int → Int) (Cw Rw xy v : Int) : List Int := @ite _ (∃ h, MaxG Ce Cw Rw (xy % 16) (xy / 16) (v + 1) h) (Classical.propDecidable _) [pk (xy % 16) (xy / 16) (v + 1) (Classical.epsilon fun h => MaxG Ce Cw Rw (xy % 16) (xy / 16) (v + 1) h)] []
theorem KK_mem {Ce : Int → Int} {Cw Rw xy v q : Int} : q ∈ KK Ce Cw Rw xy v ↔ ∃ h, MaxG Ce Cw Rw (xy % 16) (xy / 16) (v + 1) h ∧ q = pk (xy % 16) (xy / 16) (v + 1) h := by
  unfold KK
  by_cases c : ∃ h, MaxG Ce Cw Rw (xy % 16) (xy / 16) (v + 1) h
  · rw [if_pos c, List.mem_singleton]
    have h0 := Classical.epsilon_spec c
    constructor
    · intro e; exact ⟨_, h0, e⟩
    · rintro ⟨h, h1, h2⟩
      have e := TalS_uniq h1.2.1 h0.2.1
      rw [h2, ← e]
  · rw [if_neg c]
    constructor
    · intro h; cases h
    · rintro ⟨h, h1, -⟩; exact absurd ⟨h, h1⟩ c
theorem KK_len (Ce : Int → Int) (Cw Rw xy v : Int) : ((KK Ce Cw Rw xy v).length : Int) = cntH Ce Cw Rw xy (v + 1) := by
  by_cases c : ∃ h, MaxG Ce Cw Rw (xy % 16) (xy / 16) (v + 1) h
  · rw [cntH_yes c, KK, if_pos c]; rfl
  · rw [cntH_no c, KK, if_neg c]; rfl
theorem KK_nodup (Ce : Int → Int) (Cw Rw xy v : Int) : (KK Ce Cw Rw xy v).Nodup := by
  by_cases c : ∃ h, MaxG Ce Cw Rw (xy % 16) (xy / 16) (v + 1) h
  · rw [KK, if_pos c]; simp
  · rw [KK, if_neg c]; exact List.nodup_nil
theorem KK_acc {Ce : Int → Int} {Cw Rw xy v q : Int} (hC : 4 ≤ Cw ∧ Cw ≤ 16) (hR : 4 ≤ Rw ∧ Rw ≤ 16) (h0 : 0 ≤ xy) (hv : 0 ≤ v) (h : q ∈ KK Ce Cw Rw xy v) : (lx q = xy % 16 ∧ by_ q = xy / 16 ∧ wd q = v + 1) ∧ MxQ (GC Ce Cw Rw) q := by
  obtain ⟨z, h1, h2⟩ := KK_mem.mp h
  obtain ⟨g1, g2, g3, g4⟩ := (maxG_mx hC hR (by omega) (by omega) (by omega)).mp h1
  obtain ⟨e1, e2, e3, e4⟩ := pk_acc (x := xy % 16) (y := xy / 16) (w := v + 1) (h := z) (by omega) (by omega) (by omega) (by omega)
  rw [h2]
  exact ⟨⟨e1, e2, e3⟩, g1⟩
noncomputable def mL (Ce : Int → Int) (Cw Rw : Int) : List Int := catI (fun xy => catI (KK Ce Cw Rw xy) Cw.toNat) 256
theorem mL_mem {Ce : Int → Int} {Cw Rw : Int} (hC : 4 ≤ Cw ∧ Cw ≤ 16) (hR : 4 ≤ Rw ∧ Rw ≤ 16) (q : Int) : q ∈ mL Ce Cw Rw ↔ MxQ (GC Ce Cw Rw) q := by
  unfold mL
  rw [catI_mem]
  constructor
  · rintro ⟨xy, h1, h2, h3⟩
    obtain ⟨v, v1, v2, v3⟩ := (catI_mem _ _ q).mp h3
    exact (KK_acc hC hR h1 v1 v3).2
  · intro h
    obtain ⟨g1, g2, ⟨g3, g4⟩, g5⟩ := mx_maxG hC hR h
    refine ⟨16 * by_ q + lx q, by omega, by omega, (catI_mem _ _ q).mpr ⟨wd q - 1, by omega, by omega, KK_mem.mpr ⟨hg q, ?_, ?_⟩⟩⟩
    · rw [g3, g4, show wd q - 1 + 1 = wd q by omega]; exact g5
    · rw [g3, g4, show wd q - 1 + 1 = wd q by omega]; exact pk_of.symm
theorem mL_nodup {Ce : Int → Int} {Cw Rw : Int} (hC : 4 ≤ Cw ∧ Cw ≤ 16) (hR : 4 ≤ Rw ∧ Rw ≤ 16) : (mL Ce Cw Rw).Nodup := by
  refine catI_nodup _ _ (fun xy a b => catI_nodup _ _ (fun v _ _ => KK_nodup _ _ _ _ _) (fun i j q i1 i2 j1 j2 q1 q2 => ?_)) (fun i j q i1 i2 j1 j2 q1 q2 => ?_)
  · have e1 := (KK_acc hC hR a i1 q1).1
    have e2 := (KK_acc hC hR a j1 q2).1
    omega
  · obtain ⟨v, v1, v2, v3⟩ := (catI_mem _ _ q).mp q1
    obtain ⟨u, u1, u2, u3⟩ := (catI_mem _ _ q).mp q2
    have e1 := (KK_acc hC hR i1 v1 v3).1
    have e2 := (KK_acc hC hR j1 u1 u3).1
    omega
theorem mL_len (Ce : Int → Int) (Cw Rw : Int) : ((mL Ce Cw Rw).length : Int) = sumI (fun q => cntR Ce Cw Rw q Cw.toNat) 256 := by
  unfold mL
  rw [catI_len]
  refine sumI_congr fun k _ _ => ?_
  rw [catI_len]
  exact sumI_congr fun v _ _ => KK_len Ce Cw Rw k v
theorem holes_eq {Ce : Int → Int} {Cw Rw : Int} {lh : List Int} (hC : 4 ≤ Cw ∧ Cw ≤ 16) (hR : 4 ≤ Rw ∧ Rw ≤ 16) (hn : lh.Nodup) (hm : ∀ q, q ∈ lh ↔ MxQ (GC Ce Cw Rw) q) : (lh.length : Int) = sumI (fun q => cntR Ce Cw Rw q Cw.toNat) 256 := by
  rw [← mL_len, same_len hn (mL_nodup hC hR) (fun q => by rw [hm, mL_mem hC hR])]
theorem largest_eq {Ce HO : Int → Int} {Cw Rw hc z z' : Int} {lh : List Int} (hC : 4 ≤ Cw ∧ Cw ≤ 16) (hR : 4 ≤ Rw ∧ Rw ≤ 16) (hhc : hc = (lh.length : Int)) (hL : Lst HO lh) (hm : ∀ q, q ∈ lh ↔ MxQ (GC Ce Cw Rw) q) (H : MaxA HO hc z) (H' : LarS Ce Cw Rw 256 1 z') : z = z' := by
  obtain ⟨a1, a2, a3, a4⟩ := H
  obtain ⟨b1, b2, b3, b4⟩ := H'
  apply Int.le_antisymm
  · rcases a4 with e | ⟨j, j1, j2, j3⟩
    · omega
    · have hq := (hm _).mp (Lst_mem hL j1 (by omega))
      obtain ⟨g1, g2, ⟨g3, g4⟩, g5⟩ := mx_maxG hC hR hq
      rw [j3]
      have := b3 _ (wd (HO j)) (hg (HO j)) g1.1 g2.1 g2.2 (Or.inl g1.2) (by rw [g3, g4]; exact g5)
      exact this
  · rcases b4 with e | ⟨q, v, h, q1, q2, v1, v2, g1, g2⟩
    · omega
    · obtain ⟨k1, k2, k3, k4⟩ := (maxG_mx hC hR (by omega) (by omega) v1).mp g1
      obtain ⟨e1, e2, e3, e4⟩ := pk_acc (x := q % 16) (y := q / 16) (w := v) (h := h) (by omega) (by omega) (by omega) (by omega)
      obtain ⟨j, j1, j2, j3⟩ := Lst_of_mem hL ((hm _).mpr k1)
      have h5 := a3 j j1 (by omega)
      rw [j3, areaQ, e3, e4] at h5
      omega
theorem low_best {Ce HO : Int → Int} {Cw Rw hc w h z z' : Int} {lh : List Int} (hC : 4 ≤ Cw ∧ Cw ≤ 16) (hR : 4 ≤ Rw ∧ Rw ≤ 16) (hhc : hc = (lh.length : Int)) (hL : Lst HO lh) (hm : ∀ q, q ∈ lh ↔ MxQ (GC Ce Cw Rw) q) (hs : sizeP w h) (H : LowS HO hc w h z) (H' : BestS Ce Cw Rw w h z') : z = z' := by
  obtain ⟨s1, s2, s3, s4⟩ := hs
  have fit : ∀ j, 0 ≤ j → j < hc → fitsQ (HO j) w h → (0 ≤ lx (HO j) ∧ lx (HO j) < Cw ∧ 0 ≤ by_ (HO j) ∧ by_ (HO j) < Rw) ∧ gd Ce Cw Rw (lx (HO j)) (by_ (HO j)) w h := by
    intro j a b f
    have hq := (hm _).mp (Lst_mem hL a (by omega))
    obtain ⟨f1, f2⟩ := f
    have hcell := hq.1.2.2
    have c0 := hcell (lx (HO j)) (by_ (HO j)) ⟨⟨by omega, by omega⟩, by omega, by omega⟩
    obtain ⟨c1, c2, -⟩ := c0
    exact ⟨⟨by omega, by omega, by omega, by omega⟩, (gd_iff s1 s3).mpr fun i j' i1 i2 j1 j2 => hcell i j' ⟨⟨i1, by omega⟩, j1, by omega⟩⟩
  have good : ∀ x y, gd Ce Cw Rw x y w h → ∃ j, 0 ≤ j ∧ j < hc ∧ fitsQ (HO j) w h ∧ lx (HO j) ≤ x ∧ by_ (HO j) ≤ y := by
    intro x y g
    have hcell := (gd_iff s1 s3).mp g
    obtain ⟨g1, g2, g3, g4, -⟩ := g
    obtain ⟨e1, e2, e3, e4⟩ := pk_acc (x := x) (y := y) (w := w) (h := h) (by omega) (by omega) (by omega) (by omega)
    obtain ⟨m, m1, m2⟩ := mx_ex (fr_pk (G := GC Ce Cw Rw) g1 g2 s1 s3 (by omega) (by omega) hcell)
    obtain ⟨i1, i2, i3, i4⟩ := m2
    rw [e1, e3] at i3
    rw [e2, e4] at i4
    rw [e1] at i1
    rw [e2] at i2
    obtain ⟨j, j1, j2, j3⟩ := Lst_of_mem hL ((hm _).mpr m1)
    refine ⟨j, j1, by omega, ?_, by rw [j3]; exact i1, by rw [j3]; exact i2⟩
    rw [j3]
    exact ⟨by omega, by omega⟩
  rcases H' with ⟨x, y, b1, b2, b3, b4, b5, b6, b7, b8⟩ | ⟨b1, b2⟩
  · obtain ⟨j, j1, j2, j3, j4, j5⟩ := good x y b5
    obtain ⟨⟨k1, k2, k3, k4⟩, k5⟩ := fit j j1 j2 j3
    have e1 : ¬ by_ (HO j) < y := fun d => b7 _ _ k3 d k1 k2 k5
    have e1 : by_ (HO j) = y := by omega
    rw [e1] at k5
    have e2 : ¬ lx (HO j) < x := fun d => b8 _ k1 d k5
    have e2 : lx (HO j) = x := by omega
    rcases H with ⟨a1, a2⟩ | ⟨i, a1, a2, a3, a4, a5⟩
    · exact absurd j3 (a2 j j1 j2)
    · have c := a5 j j1 j2 j3
      obtain ⟨⟨l1, l2, l3, l4⟩, l5⟩ := fit i a1 a2 a3
      have d1 : ¬ by_ (HO i) < y := fun d => b7 _ _ l3 d l1 l2 l5
      unfold atQ at c a4
      rw [e1, e2] at c
      have d2 : by_ (HO i) = y := by omega
      rw [d2] at l5
      have d3 : ¬ lx (HO i) < x := fun d => b8 _ l1 d l5
      omega
  · rcases H with ⟨a1, a2⟩ | ⟨i, a1, a2, a3, a4, a5⟩
    · omega
    · obtain ⟨⟨l1, l2, l3, l4⟩, l5⟩ := fit i a1 a2 a3
      exact absurd l5 (b2 _ _ l3 l4 l1 l2)
/-! fitting -/
theorem mxH_spec (HO : Int → Int) (w : Int) (k : Nat) : (∀ j : Int, 0 ≤ j → j < (k : Int) → w ≤ wd (HO j) → hg (HO j) ≤ mxH HO w k) ∧ (mxH HO w k = 0 ∨ ∃ j : Int, 0 ≤ j ∧ j < (k : Int) ∧ w ≤ wd (HO j) ∧ mxH HO w k = hg (HO j)) := by
  induction k with
  | zero => exact ⟨fun j a b => absurd b (by omega), Or.inl rfl⟩
  | succ k ih =>
    obtain ⟨h1, h2⟩ := ih
    rw [mxH]
    by_cases c : w ≤ wd (HO k) ∧ mxH HO w k < hg (HO k)
    · rw [if_pos c]
      refine ⟨fun j a b d => ?_, Or.inr ⟨k, by omega, by omega, c.1, rfl⟩⟩
      by_cases e : j = k
      · rw [e]; exact Int.le_refl _
      · have := h1 j a (by omega) d
        omega
    · rw [if_neg c]
      refine ⟨fun j a b d => ?_, ?_⟩
      · by_cases e : j = k
        · rw [e] at d ⊢
          omega
        · exact h1 j a (by omega) d
      · rcases h2 with h2 | ⟨j, a, b, d, e⟩
        · exact Or.inl h2
        · exact Or.inr ⟨j, a, by omega, d, e⟩
theorem run_ex (P : Int → Prop) (Rw : Int) : ∀ (n : Nat) (y : Int), Rw - y = n → ∃ t, y ≤ t ∧ t ≤ Rw ∧ (∀ j, y ≤ j → j < t → P j) ∧ (t = Rw ∨ ¬ P t)
  | 0, y, h => ⟨Rw, by omega, by omega, fun j a b => absurd b (by omega), Or.inl rfl⟩
  | n + 1, y, h => by
    by_cases c : P y
    · obtain ⟨t, a1, a2, a4, a5⟩ := run_ex P Rw n (y + 1) (by omega)
      refine ⟨t, by omega, by omega, fun j b1 b2 => ?_, a5⟩
      by_cases e : j = y
      · subst e; exact c
      · exact a4 j (by omega) b2
    · exact ⟨y, by omega, by omega, fun j a b => absurd b (by omega), Or.inr c⟩
theorem TalS_ex (Ce : Int → Int) {Cw Rw x y w : Int} (hy : y < Rw) : ∃ z, TalS Ce Cw Rw x y w z := by
  obtain ⟨t, a1, a2, a4, a5⟩ := run_ex (rowG Ce Cw Rw x w) Rw (Rw - y).toNat y (by omega)
  refine ⟨t - y, Or.inr ⟨hy, by omega, by omega, fun j j1 j2 => a4 j j1 (by omega), ?_⟩⟩
  rw [show y + (t - y) = t by omega]
  rcases a5 with e | e
  · exact Or.inl (by omega)
  · exact Or.inr e
theorem tal_ge {Ce : Int → Int} {Cw Rw x y w z k : Int} (H : TalS Ce Cw Rw x y w z) (hy : y < Rw) (hk : y + k ≤ Rw) (h : ∀ j, y ≤ j → j < y + k → rowG Ce Cw Rw x w j) : k ≤ z := by
  rcases H with ⟨a1, a2⟩ | ⟨a1, a2, a3, a4, a5⟩
  · omega
  · rcases a5 with e | e
    · omega
    · refine Classical.byContradiction fun c => e (h _ (by omega) (by omega))
theorem mx_mos {Ce HO : Int → Int} {Cw Rw hc v z : Int} {lh : List Int} (hC : 4 ≤ Cw ∧ Cw ≤ 16) (hR : 4 ≤ Rw ∧ Rw ≤ 16) (hhc : hc = (lh.length : Int)) (hL : Lst HO lh) (hm : ∀ q, q ∈ lh ↔ MxQ (GC Ce Cw Rw) q) (hv : 1 ≤ v) (H : MosS Ce Cw Rw v 256 z) : mxH HO v hc.toNat = z := by
  obtain ⟨m1, m2⟩ := mxH_spec HO v hc.toNat
  have hr := mxH_rng HO v hc.toNat
  obtain ⟨z0, z1, z2, z3⟩ := H
  apply Int.le_antisymm
  · rcases m2 with e | ⟨j, a, b, d, e⟩
    · omega
    · have hq := (hm _).mp (Lst_mem hL a (by omega))
      obtain ⟨g1, g2, ⟨g3, g4⟩, g5⟩ := mx_maxG hC hR hq
      have hcell := hq.1.2.2
      have hwh := hq.1.2.1
      have c0 := hcell (lx (HO j) + wd (HO j) - 1) (by_ (HO j) + hg (HO j) - 1) ⟨⟨by omega, by omega⟩, by omega, by omega⟩
      obtain ⟨c1, c2, -⟩ := c0
      obtain ⟨t, ht⟩ := TalS_ex Ce (Cw := Cw) (Rw := Rw) (x := lx (HO j)) (y := by_ (HO j)) (w := v) (by omega)
      have h1 : HtG Ce Cw Rw v (16 * by_ (HO j) + lx (HO j)) t := Or.inr ⟨⟨by omega, by omega⟩, by rw [g3, g4]; exact ht⟩
      have h2 := z2 _ t g1.1 g1.2 h1
      have h3 := tal_ge ht (by omega) (k := hg (HO j)) (by omega) (fun j' j1 j2 => (gd_iff hv (Int.le_refl 1)).mpr fun i k i1 i2 k1 k2 => hcell i k ⟨⟨i1, by omega⟩, by omega, by omega⟩)
      omega
  · by_cases hz : z = 0
    · omega
    · rcases z3 with e | ⟨xy, a, b, d⟩
      · omega
      · rcases d with ⟨-, e⟩ | ⟨⟨d1, d2⟩, d3⟩
        · omega
        · rcases d3 with ⟨k1, k2⟩ | ⟨k1, k2, k3, k4, k5⟩
          · omega
          · have f := fr_pk (G := GC Ce Cw Rw) (x := xy % 16) (y := xy / 16) (w := v) (h := z) (by omega) (by omega) hv (by omega) (by omega) (by omega) (fun i j i1 i2 j1 j2 => (gd_iff hv (Int.le_refl 1)).mp (k4 j j1 j2) i j i1 i2 (by omega) (by omega))
            obtain ⟨e1, e2, e3, e4⟩ := pk_acc (x := xy % 16) (y := xy / 16) (w := v) (h := z) (by omega) (by omega) (by omega) (by omega)
            obtain ⟨m, f1, f2⟩ := mx_ex f
            obtain ⟨i1, i2, i3, i4⟩ := f2
            rw [e1, e3] at i3
            rw [e2, e4] at i4
            rw [e1] at i1
            rw [e2] at i2
            obtain ⟨j, j1, j2, j3⟩ := Lst_of_mem hL ((hm _).mpr f1)
            have h5 := m1 j j1 (by omega) (by rw [j3]; omega)
            rw [j3] at h5
            omega
theorem sumI_tail {f : Int → Int} {m : Nat} (n : Nat) (hmn : m ≤ n) (h : ∀ k : Int, (m : Int) ≤ k → k < (n : Int) → f k = 0) : sumI f n = sumI f m := by
  induction n with
  | zero =>
    have : m = 0 := by omega
    rw [this]
  | succ n ih =>
    by_cases e : m = n + 1
    · rw [e]
    · rw [sumI, ih (by omega) (fun k a b => h k a (by omega)), h n (by omega) (by omega)]
      omega
theorem fit_eq {Ce HO : Int → Int} {Cw Rw hc z : Int} {lh : List Int} (hC : 4 ≤ Cw ∧ Cw ≤ 16) (hR : 4 ≤ Rw ∧ Rw ≤ 16) (hhc : hc = (lh.length : Int)) (hL : Lst HO lh) (hm : ∀ q, q ∈ lh ↔ MxQ (GC Ce Cw Rw) q) (H : FitS Ce Cw Rw (Cw + 1) z) : sumI (fun v => mxH HO (v + 1) hc.toNat) 16 = z := by
  obtain ⟨M, h1, h2⟩ := H
  have e0 : (Cw + 1 - 1).toNat = Cw.toNat := by omega
  rw [h1, e0, sumI_tail (m := Cw.toNat) 16 (by omega)]
  · refine sumI_congr fun k a b => ?_
    have := mx_mos hC hR hhc hL hm (v := k + 1) (by omega) (h2 (k + 1) (by omega) (by omega))
    rw [show k + 1 - 1 = k by omega] at this
    exact this
  · intro k a b
    obtain ⟨m1, m2⟩ := mxH_spec HO (k + 1) hc.toNat
    rcases m2 with e | ⟨j, j1, j2, d, e⟩
    · exact e
    · have hq := (hm _).mp (Lst_mem hL j1 (by omega))
      obtain ⟨g1, g2, -, -⟩ := mx_maxG hC hR hq
      omega
end
section
/-! plain law: sums -/
theorem sumI_add (f g : Int → Int) (n : Nat) : sumI (fun k => f k + g k) n = sumI f n + sumI g n := by
  induction n with
  | zero => rfl
  | succ n ih =>
    rw [sumI, sumI, sumI, ih]
    omega
theorem sumI_zero {f : Int → Int} {n : Nat} (h : ∀ k : Int, 0 ≤ k → k < (n : Int) → f k = 0) : sumI f n = 0 := by
  induction n with
  | zero => rfl
  | succ n ih =>
    rw [sumI, ih (fun k a b => h k a (by omega)), h n (by omega) (by omega)]
    rfl
theorem sumI_swap (f : Int → Int → Int) (n m : Nat) : sumI (fun i => sumI (fun j => f i j) m) n = sumI (fun j => sumI (fun i => f i j) n) m := by
  induction n with
  | zero => exact (sumI_zero fun k _ _ => rfl).symm
  | succ n ih =>
    rw [sumI, ih, ← sumI_add]
    rfl
theorem sumI_mul (c : Int) (f : Int → Int) (n : Nat) : sumI (fun k => c * f k) n = c * sumI f n := by
  induction n with
  | zero => exact (Int.mul_zero c).symm
  | succ n ih => rw [sumI, sumI, ih, Int.mul_add]
theorem sumI_const (c : Int) (n : Nat) : sumI (fun _ => c) n = c * n := by
  induction n with
  | zero => exact (Int.mul_zero c).symm
  | succ n ih =>
    rw [sumI, ih, show ((n + 1 : Nat) : Int) = (n : Int) + 1 by omega, Int.mul_add, Int.mul_one]
theorem sumI_one {f g : Int → Int} {z : Int} (hz : 0 ≤ z) (h : ∀ k, k ≠ z → f k = g k) (n : Nat) : sumI f n = sumI g n + (if z < (n : Int) then f z - g z else 0) := by
  induction n with
  | zero => rw [if_neg (by omega)]; rfl
  | succ n ih =>
    rw [sumI, sumI, ih]
    by_cases e : (n : Int) = z
    · rw [if_neg (by omega), if_pos (by omega), e]; omega
    · rw [h n e]
      by_cases c : z < (n : Int)
      · rw [if_pos c, if_pos (by omega)]; omega
      · rw [if_neg c, if_neg (by omega)]; omega
theorem sumI_ind (a w : Int) (ha : 0 ≤ a) (hw : 0 ≤ w) (n : Nat) : sumI (fun x => if a ≤ x ∧ x < a + w then 1 else 0) n = if (n : Int) ≤ a then 0 else if (n : Int) ≤ a + w then (n : Int) - a else w := by
  induction n with
  | zero => rw [if_pos (by omega)]; rfl
  | succ n ih =>
    rw [sumI, ih]
    by_cases c1 : (n : Int) < a
    · rw [if_pos (by omega), if_neg (by omega), if_pos (by omega)]; rfl
    · by_cases c2 : (n : Int) < a + w
      · rw [if_pos (c := a ≤ (n : Int) ∧ (n : Int) < a + w) (by omega), if_neg (c := ((n + 1 : Nat) : Int) ≤ a) (by omega), if_pos (c := ((n + 1 : Nat) : Int) ≤ a + w) (by omega)]
        by_cases c3 : (n : Int) ≤ a
        · rw [if_pos c3]; omega
        · rw [if_neg c3, if_pos (by omega)]; omega
      · rw [if_neg (c := a ≤ (n : Int) ∧ (n : Int) < a + w) (by omega), if_neg (c := ((n + 1 : Nat) : Int) ≤ a) (by omega), if_neg (c := ((n + 1 : Nat) : Int) ≤ a + w) (by omega)]
        by_cases c3 : (n : Int) ≤ a
        · rw [if_pos c3]; omega
        · rw [if_neg c3]
          by_cases c4 : (n : Int) ≤ a + w
          · rw [if_pos c4]; omega
          · rw [if_neg c4]; omega
theorem cnt_set {Th : Int → Int} {z v : Int} (hz : 0 ≤ z ∧ z < 20) : sumI (cntT (uI Th z v)) 20 = sumI (cntT Th) 20 + ((if v = 0 then 0 else 1) - cntT Th z) := by
  rw [sumI_one (f := cntT (uI Th z v)) (g := cntT Th) hz.1 (fun k hk => by unfold cntT; rw [uI_n _ hk]) 20, if_pos (show z < ((20 : Nat) : Int) by omega)]
  unfold cntT
  rw [uI_s]
/-! the rectangles, the cells, the bits, the holes: how the two objects stand to one another -/
def rIn (Cw Rw : Int) (Lf Bt Wd Hg : Int → Int) (j : Int) : Prop := (0 ≤ Lf j ∧ 1 ≤ Wd j ∧ Lf j + Wd j ≤ Cw) ∧ (0 ≤ Bt j ∧ 1 ≤ Hg j ∧ Bt j + Hg j ≤ Rw)
def InvR (Cw Rw n : Int) (Lf Bt Wd Hg Lf' Bt' Wd' Hg' Th : Int → Int) : Prop :=
  (byt Lf ∧ byt Bt ∧ byt Wd ∧ byt Hg) ∧ (∀ j, 0 ≤ j → j < 20 → Wd j ≠ 0 → rIn Cw Rw Lf Bt Wd Hg j) ∧ thOk Th ∧ (∀ j, 0 ≤ j → j < 20 → (Th j ≠ 0 ↔ Wd j ≠ 0)) ∧ (∀ j, 0 ≤ j → j < 20 → Wd j ≠ 0 → Lf' j = Lf j ∧ Bt' j = Bt j ∧ Wd' j = Wd j ∧ Hg' j = Hg j) ∧ n = sumI (cntT Th) 20
def InvC (Ce Lf Bt Wd Hg : Int → Int) : Prop :=
  (∀ x y j, (0 ≤ x ∧ x < 16) → (0 ≤ y ∧ y < 16) → 0 ≤ j → j < 20 → hitR Lf Bt Wd Hg x y j → Ce (16 * y + x) = j) ∧ ∀ x y, (0 ≤ x ∧ x < 16) → (0 ≤ y ∧ y < 16) → (∀ j, 0 ≤ j → j < 20 → ¬ hitR Lf Bt Wd Hg x y j) → Ce (16 * y + x) = -1
def InvF (Cw Rw : Int) (FB Ce : Int → Int) : Prop := maskOk FB ∧ ∀ x y, (0 ≤ x ∧ x < Cw) → (0 ≤ y ∧ y < Rw) → (tb (FB y) x ↔ Ce (16 * y + x) = -1)
def InvH (Cw Rw hc : Int) (HO Ce : Int → Int) (lh : List Int) : Prop := hc = (lh.length : Int) ∧ Lst HO lh ∧ lh.Nodup ∧ lh.length ≤ 256 ∧ ∀ q, q ∈ lh ↔ MxQ (GC Ce Cw Rw) q
def Inv (Cw Rw n hc : Int) (Lf Bt Wd Hg FB HO : Int → Int) (lh : List Int) (Ce Lf' Bt' Wd' Hg' Th : Int → Int) : Prop :=
  (4 ≤ Cw ∧ Cw ≤ 16) ∧ (4 ≤ Rw ∧ Rw ≤ 16) ∧ InvR Cw Rw n Lf Bt Wd Hg Lf' Bt' Wd' Hg' Th ∧ InvC Ce Lf Bt Wd Hg ∧ InvF Cw Rw FB Ce ∧ InvH Cw Rw hc HO Ce lh
theorem InvC_two {Ce Lf Bt Wd Hg : Int → Int} (H : InvC Ce Lf Bt Wd Hg) {x y : Int} (hx : 0 ≤ x ∧ x < 16) (hy : 0 ≤ y ∧ y < 16) : (∃ j, 0 ≤ j ∧ j < 20 ∧ hitR Lf Bt Wd Hg x y j ∧ Ce (16 * y + x) = j) ∨ ((∀ j, 0 ≤ j → j < 20 → ¬ hitR Lf Bt Wd Hg x y j) ∧ Ce (16 * y + x) = -1) := by
  by_cases c : ∃ j, 0 ≤ j ∧ j < 20 ∧ hitR Lf Bt Wd Hg x y j
  · obtain ⟨j, h1, h2, h3⟩ := c
    exact Or.inl ⟨j, h1, h2, h3, H.1 x y j hx hy h1 h2 h3⟩
  · have h : ∀ j, 0 ≤ j → j < 20 → ¬ hitR Lf Bt Wd Hg x y j := fun j a b d => c ⟨j, a, b, d⟩
    exact Or.inr ⟨h, H.2 x y hx hy h⟩
theorem InvC_ok {Ce Lf Bt Wd Hg : Int → Int} (H : InvC Ce Lf Bt Wd Hg) : cellOk Ce := by
  intro k h0 h1
  have e : 16 * (k / 16) + k % 16 = k := by omega
  have h := InvC_two H (x := k % 16) (y := k / 16) (by omega) (by omega)
  rw [e] at h
  rcases h with ⟨j, a, b, -, d⟩ | ⟨-, d⟩
  · omega
  · omega
theorem GF_GC {Cw Rw : Int} {FB Ce : Int → Int} (H : InvF Cw Rw FB Ce) : GF FB Cw Rw = GC Ce Cw Rw := by
  funext x y
  apply propext
  constructor
  · rintro ⟨h1, h2, h3⟩; exact ⟨h1, h2, (H.2 x y h1 h2).mp h3⟩
  · rintro ⟨h1, h2, h3⟩; exact ⟨h1, h2, (H.2 x y h1 h2).mpr h3⟩
/-! free cells -/
def hitI (Lf Bt Wd Hg : Int → Int) (x y j : Int) : Int := if (Lf j ≤ x ∧ x < Lf j + Wd j) ∧ (Bt j ≤ y ∧ y < Bt j + Hg j) then 1 else 0
theorem hitI_area {Cw Rw : Int} {Lf Bt Wd Hg : Int → Int} {j : Int} (hC : 0 ≤ Cw) (hR : 0 ≤ Rw) (h : Wd j ≠ 0 → rIn Cw Rw Lf Bt Wd Hg j) : sumI (fun y => sumI (fun x => hitI Lf Bt Wd Hg x y j) Cw.toNat) Rw.toNat = arId Wd Hg j := by
  unfold arId
  by_cases c : Wd j = 0
  · rw [if_pos c]
    refine sumI_zero fun y _ _ => sumI_zero fun x _ _ => ?_
    unfold hitI
    rw [if_neg (by omega)]
  · rw [if_neg c]
    obtain ⟨⟨h1, h2, h3⟩, h4, h5, h6⟩ := h c
    have e1 : ∀ y : Int, sumI (fun x => hitI Lf Bt Wd Hg x y j) Cw.toNat = Wd j * (if Bt j ≤ y ∧ y < Bt j + Hg j then 1 else 0) := by
      intro y
      by_cases d : Bt j ≤ y ∧ y < Bt j + Hg j
      · rw [if_pos d, Int.mul_one]
        have e2 := sumI_ind (Lf j) (Wd j) h1 (by omega) Cw.toNat
        rw [if_neg (by omega)] at e2
        have e3 : sumI (fun x => hitI Lf Bt Wd Hg x y j) Cw.toNat = sumI (fun x => if Lf j ≤ x ∧ x < Lf j + Wd j then 1 else 0) Cw.toNat := sumI_congr fun x _ _ => by
          unfold hitI
          by_cases g : Lf j ≤ x ∧ x < Lf j + Wd j
          · rw [if_pos ⟨g, d⟩, if_pos g]
          · rw [if_neg (fun q => g q.1), if_neg g]
        rw [e3, e2]
        by_cases g : (Cw.toNat : Int) ≤ Lf j + Wd j
        · rw [if_pos g]; omega
        · rw [if_neg g]
      · rw [if_neg d, Int.mul_zero]
        refine sumI_zero fun x _ _ => ?_
        unfold hitI
        rw [if_neg (fun q => d q.2)]
    rw [sumI_congr (fun y _ _ => e1 y), sumI_mul]
    have e2 := sumI_ind (Bt j) (Hg j) h4 (by omega) Rw.toNat
    rw [if_neg (by omega)] at e2
    rw [e2]
    by_cases g : (Rw.toNat : Int) ≤ Bt j + Hg j
    · rw [if_pos g, show (Rw.toNat : Int) - Bt j = Hg j by omega]
    · rw [if_neg g]
theorem free_eq {Cw Rw : Int} {Ce Lf Bt Wd Hg : Int → Int} (hC : 4 ≤ Cw ∧ Cw ≤ 16) (hR : 4 ≤ Rw ∧ Rw ≤ 16) (hr : ∀ j, 0 ≤ j → j < 20 → Wd j ≠ 0 → rIn Cw Rw Lf Bt Wd Hg j) (hI : InvC Ce Lf Bt Wd Hg) : Cw * Rw - sumI (arId Wd Hg) 20 = sumI (freeC Ce Cw) Rw.toNat := by
  have e1 : sumI (arId Wd Hg) 20 = sumI (fun y => sumI (fun x => sumI (fun j => hitI Lf Bt Wd Hg x y j) 20) Cw.toNat) Rw.toNat := by
    rw [sumI_congr (f := arId Wd Hg) (g := fun j => sumI (fun y => sumI (fun x => hitI Lf Bt Wd Hg x y j) Cw.toNat) Rw.toNat) (fun j a b => (hitI_area (by omega) (by omega) (hr j a (by omega))).symm)]
    rw [sumI_swap (fun j y => sumI (fun x => hitI Lf Bt Wd Hg x y j) Cw.toNat)]
    exact sumI_congr fun y _ _ => sumI_swap (fun j x => hitI Lf Bt Wd Hg x y j) 20 Cw.toNat
  have e2 : sumI (freeC Ce Cw) Rw.toNat + sumI (arId Wd Hg) 20 = Cw * Rw := by
    rw [e1, ← sumI_add]
    have e3 : ∀ y : Int, 0 ≤ y → y < (Rw.toNat : Int) → freeC Ce Cw y + sumI (fun x => sumI (fun j => hitI Lf Bt Wd Hg x y j) 20) Cw.toNat = Cw := by
      intro y y1 y2
      unfold freeC
      rw [← sumI_add]
      have e4 : ∀ x : Int, 0 ≤ x → x < (Cw.toNat : Int) → (if Ce (16 * y + x) = -1 then 1 else 0) + sumI (fun j => hitI Lf Bt Wd Hg x y j) 20 = 1 := by
        intro x x1 x2
        rcases InvC_two hI (x := x) (y := y) (by omega) (by omega) with ⟨j, j1, j2, j3, j4⟩ | ⟨h1, h2⟩
        · rw [j4, if_neg (by omega)]
          have h0 : ∀ k : Int, 0 ≤ k → k < 20 → k ≠ j → hitI Lf Bt Wd Hg x y k = 0 := by
            intro k k1 k2 k3
            unfold hitI
            refine if_neg fun g => k3 ?_
            have := hI.1 x y k (by omega) (by omega) k1 k2 ⟨by omega, by omega, by omega, by omega, by omega⟩
            omega
          have h1 : hitI Lf Bt Wd Hg x y j = 1 := by
            obtain ⟨g1, g2, g3, g4, g5⟩ := j3
            exact if_pos ⟨⟨g2, g4⟩, g3, g5⟩
          have e5 : sumI (fun k => hitI Lf Bt Wd Hg x y k) 20 = sumI (fun k => if k = j then 1 else 0) 20 := sumI_congr fun k k1 k2 => by
            by_cases e : k = j
            · rw [if_pos e, e]; exact h1
            · rw [if_neg e]; exact h0 k k1 (by omega) e
          rw [e5, sumI_one (f := fun k => if k = j then 1 else 0) (g := fun _ => 0) j1 (fun k hk => if_neg hk) 20, if_pos (show j < ((20 : Nat) : Int) by omega), sumI_const]
          simp
        · rw [h2, if_pos rfl]
          rw [sumI_zero fun k k1 k2 => ?_]
          · rfl
          · unfold hitI
            refine if_neg fun g => h1 k k1 (by omega) ⟨by omega, by omega, by omega, by omega, by omega⟩
      rw [sumI_congr e4, sumI_const]
      omega
    rw [sumI_congr e3, sumI_const, Int.toNat_of_nonneg (by omega)]
  omega
end
section
/-! plain law: the invariant is kept -/
theorem row_col {x y : Int} (hx : 0 ≤ x ∧ x < 16) : (16 * y + x) / 16 = y ∧ (16 * y + x) % 16 = x := by omega
theorem paint_at {Ce E : Int → Int} {lf bt w h v : Int} (hE : ∀ k, 0 ≤ k → k < 256 → E k = paintV Ce lf bt w h v k) {x y : Int} (hx : 0 ≤ x ∧ x < 16) (hy : 0 ≤ y ∧ y < 16) : E (16 * y + x) = if (bt ≤ y ∧ y < bt + h) ∧ (lf ≤ x ∧ x < lf + w) then v else Ce (16 * y + x) := by
  obtain ⟨e1, e2⟩ := row_col (y := y) hx
  rw [hE _ (by omega) (by omega)]
  unfold paintV
  rw [e1, e2]
theorem flip_at {FB F : Int → Int} {w lf lo hi : Int} (h1 : 0 ≤ lf) (h2 : 0 ≤ w) (hF : ∀ j, 0 ≤ j → j < 16 → F j = flipV FB (strip w lf) lo hi j) {x y : Int} (hx : 0 ≤ x) (hy : 0 ≤ y ∧ y < 16) : tb (F y) x ↔ if (lo ≤ y ∧ y < hi) ∧ (lf ≤ x ∧ x < lf + w) then ¬ tb (FB y) x else tb (FB y) x := by
  rw [hF y hy.1 hy.2]
  unfold flipV
  by_cases c : lo ≤ y ∧ y < hi
  · rw [if_pos c]
    unfold xorI
    rw [tb_xor, strip_tb w lf x h1 h2 hx]
    by_cases d : lf ≤ x ∧ x < lf + w
    · rw [if_pos ⟨c, d⟩]
      constructor
      · intro a b; exact a ⟨fun _ => d, fun _ => b⟩
      · intro a b; exact a (b.mpr d)
    · rw [if_neg (fun q => d q.2)]
      constructor
      · intro a
        exact Classical.byContradiction fun b => a ⟨fun q => absurd q b, fun q => absurd q d⟩
      · intro a b; exact d (b.mp a)
  · rw [if_neg c, if_neg (fun q => c q.1)]
theorem clear_inv {Cw Rw : Int} {Lf Bt Hg Wd FB HO Ce Lf' Bt' Wd' Hg' Th : Int → Int} (hC : 4 ≤ Cw ∧ Cw ≤ 16) (hR : 4 ≤ Rw ∧ Rw ≤ 16) (b1 : byt Lf) (b2 : byt Bt) (b4 : byt Hg) (hW : ∀ j, 0 ≤ j → j < 20 → Wd j = 0) (hF : ∀ j, 0 ≤ j → j < Rw → FB j = strip Cw 0) (hF2 : ∀ j, Rw ≤ j → j < 16 → 0 ≤ FB j ∧ FB j < 65536) (hH : HO 0 = pk 0 0 Cw Rw) (hE : ∀ k, 0 ≤ k → k < 256 → Ce k = -1) (hT : ∀ j, 0 ≤ j → j < 20 → Th j = 0) :
    Inv Cw Rw 0 1 Lf Bt Wd Hg FB HO [pk 0 0 Cw Rw] Ce Lf' Bt' Wd' Hg' Th := by
  have hbd := GC_bd (Ce := Ce) hC.2 hR.2
  obtain ⟨e1, e2, e3, e4⟩ := pk_acc (x := 0) (y := 0) (w := Cw) (h := Rw) (by omega) (by omega) (by omega) (by omega)
  have hcell : ∀ x y, (0 ≤ x ∧ x < Cw) → (0 ≤ y ∧ y < Rw) → GC Ce Cw Rw x y := fun x y hx hy => ⟨hx, hy, hE _ (by omega) (by omega)⟩
  have hf0 : FrQ (GC Ce Cw Rw) (pk 0 0 Cw Rw) := fr_pk (by omega) (by omega) (by omega) (by omega) (by omega) (by omega) (fun i j i1 i2 j1 j2 => hcell i j (by omega) (by omega))
  have hin : ∀ q, FrQ (GC Ce Cw Rw) q → insQ q (pk 0 0 Cw Rw) := by
    intro q hq
    obtain ⟨q1, q2, q3⟩ := hq
    obtain ⟨a1, a2, a3, a4⟩ := acc_rng q1
    have hcor := q3 (lx q + wd q - 1) (by_ q + hg q - 1) ⟨⟨by omega, by omega⟩, by omega, by omega⟩
    obtain ⟨k1, k2, -⟩ := hcor
    exact ⟨by rw [e1]; omega, by rw [e2]; omega, by rw [e1, e3]; omega, by rw [e2, e4]; omega⟩
  refine ⟨hC, hR, ⟨⟨b1, b2, fun k a b => by rw [hW k a b]; omega, b4⟩, fun j a b d => absurd (hW j a b) d, fun j a b => Or.inl (hT j a b), fun j a b => ?_, fun j a b d => absurd (hW j a b) d, ?_⟩, ⟨fun x y j _ _ a b d => absurd (hW j a b) d.1, fun x y hx hy _ => hE _ (by omega) (by omega)⟩, ⟨?_, fun x y hx hy => ?_⟩, ⟨rfl, ?_, by simp, by simp, fun q => ?_⟩⟩
  · rw [hW j a b, hT j a b]
  · exact (sumI_zero fun k a b => by unfold cntT; rw [if_pos (hT k a (by omega))]).symm
  · intro k a b
    by_cases c : k < Rw
    · rw [hF k a c]
      exact strip_le (by omega) (by omega) (by omega)
    · exact hF2 k (by omega) b
  · rw [hF y hy.1 hy.2, strip_tb Cw 0 x (by omega) (by omega) hx.1]
    exact ⟨fun _ => hE _ (by omega) (by omega), fun _ => by omega⟩
  · have := Lst_push (A := HO) (l := []) (pk 0 0 Cw Rw) (Lst_nil HO)
    intro i v hv
    have h2 := this i v hv
    by_cases e : (i : Int) = 0
    · have e5 : i = 0 := by omega
      rw [e5] at hv ⊢
      simp at hv
      rw [← hv]; exact hH
    · have := (List.getElem?_eq_some_iff.mp hv).1
      simp at this
      omega
  · rw [List.mem_singleton]
    constructor
    · intro e
      rw [e]
      exact ⟨hf0, fun q' h1 h2 => ins_antisymm (hin q' h1) h2⟩
    · intro h
      exact (h.2 _ hf0 (hin q h.1)).symm
/-- what is taken, out of the free cells -/
theorem GC_paint {Cw Rw : Int} {Ce E : Int → Int} {x0 y0 w h z : Int} (hC : Cw ≤ 16) (hR : Rw ≤ 16) (hz : 0 ≤ z) (hr : (0 ≤ x0 ∧ 1 ≤ w ∧ x0 + w ≤ Cw) ∧ (0 ≤ y0 ∧ 1 ≤ h ∧ y0 + h ≤ Rw)) (hE : ∀ k, 0 ≤ k → k < 256 → E k = paintV Ce x0 y0 w h z k) (x y : Int) : GC E Cw Rw x y ↔ GC Ce Cw Rw x y ∧ ¬ inR (pk x0 y0 w h) x y := by
  obtain ⟨e1, e2, e3, e4⟩ := pk_acc (x := x0) (y := y0) (w := w) (h := h) (by omega) (by omega) (by omega) (by omega)
  unfold inR
  rw [e1, e2, e3, e4]
  constructor
  · rintro ⟨h1, h2, h3⟩
    rw [paint_at hE (by omega) (by omega)] at h3
    by_cases c : (y0 ≤ y ∧ y < y0 + h) ∧ (x0 ≤ x ∧ x < x0 + w)
    · rw [if_pos c] at h3; omega
    · rw [if_neg c] at h3
      exact ⟨⟨h1, h2, h3⟩, fun g => c ⟨g.2, g.1⟩⟩
  · rintro ⟨⟨h1, h2, h3⟩, h4⟩
    refine ⟨h1, h2, ?_⟩
    rw [paint_at hE (by omega) (by omega), if_neg (fun g => h4 ⟨g.2, g.1⟩)]
    exact h3
/-- the bits behind a placing -/
theorem place_F {Cw Rw : Int} {FB F Ce E : Int → Int} {x0 y0 w h z : Int} (hC : Cw ≤ 16) (hR : Rw ≤ 16) (hz : 0 ≤ z) (hr : (0 ≤ x0 ∧ 1 ≤ w ∧ x0 + w ≤ Cw) ∧ (0 ≤ y0 ∧ 1 ≤ h ∧ y0 + h ≤ Rw)) (hfr : ∀ i j, x0 ≤ i → i < x0 + w → y0 ≤ j → j < y0 + h → GC Ce Cw Rw i j) (hE : ∀ k, 0 ≤ k → k < 256 → E k = paintV Ce x0 y0 w h z k) (hF : ∀ j, 0 ≤ j → j < 16 → F j = flipV FB (strip w x0) y0 (y0 + h) j) (H : InvF Cw Rw FB Ce) : InvF Cw Rw F E := by
  refine ⟨flip_mask H.1 (strip_le (by omega) (by omega) (by omega)) hF, fun x y hx hy => ?_⟩
  rw [flip_at (by omega) (by omega) hF hx.1 (by omega), paint_at hE (by omega) (by omega)]
  by_cases c : (y0 ≤ y ∧ y < y0 + h) ∧ (x0 ≤ x ∧ x < x0 + w)
  · rw [if_pos c, if_pos c]
    have g := hfr x y c.2.1 c.2.2 c.1.1 c.1.2
    have g2 := (H.2 x y hx hy).mpr g.2.2
    constructor
    · intro a; exact absurd g2 a
    · intro a; omega
  · rw [if_neg c, if_neg c]
    exact H.2 x y hx hy
theorem place_R {Cw Rw n : Int} {Lf Bt Wd Hg Lf' Bt' Wd' Hg' Th : Int → Int} {x0 y0 w h z : Int} (hC : Cw ≤ 16) (hR : Rw ≤ 16) (hz : 0 ≤ z ∧ z < 20) (hr : (0 ≤ x0 ∧ 1 ≤ w ∧ x0 + w ≤ Cw) ∧ (0 ≤ y0 ∧ 1 ≤ h ∧ y0 + h ≤ Rw)) (hw0 : Wd z = 0) (H : InvR Cw Rw n Lf Bt Wd Hg Lf' Bt' Wd' Hg' Th) : InvR Cw Rw (n + 1) (uI Lf z x0) (uI Bt z y0) (uI Wd z w) (uI Hg z h) (uI Lf' z x0) (uI Bt' z y0) (uI Wd' z w) (uI Hg' z h) (uI Th z 1) := by
  obtain ⟨⟨b1, b2, b3, b4⟩, h2, h3, h4, h5, h6⟩ := H
  have bb : ∀ {F : Int → Int} {v : Int}, byt F → 0 ≤ v ∧ v < 128 → byt (uI F z v) := by
    intro F v hF hv k a b
    by_cases e : k = z
    · rw [e, uI_s]; exact hv
    · rw [uI_n _ e]; exact hF k a b
  refine ⟨⟨bb b1 (by omega), bb b2 (by omega), bb b3 (by omega), bb b4 (by omega)⟩, fun j a b d => ?_, fun j a b => ?_, fun j a b => ?_, fun j a b d => ?_, ?_⟩
  · by_cases e : j = z
    · unfold rIn
      rw [e, uI_s, uI_s, uI_s, uI_s]
      exact hr
    · rw [uI_n _ e] at d
      unfold rIn
      rw [uI_n _ e, uI_n _ e, uI_n _ e, uI_n _ e]
      exact h2 j a b d
  · by_cases e : j = z
    · rw [e, uI_s]; exact Or.inr rfl
    · rw [uI_n _ e]; exact h3 j a b
  · by_cases e : j = z
    · rw [e, uI_s, uI_s]; omega
    · rw [uI_n _ e, uI_n _ e]; exact h4 j a b
  · by_cases e : j = z
    · rw [e, uI_s, uI_s, uI_s, uI_s, uI_s, uI_s, uI_s, uI_s]; exact ⟨rfl, rfl, rfl, rfl⟩
    · rw [uI_n _ e] at d
      rw [uI_n _ e, uI_n _ e, uI_n _ e, uI_n _ e, uI_n _ e, uI_n _ e, uI_n _ e, uI_n _ e]
      exact h5 j a b d
  · rw [cnt_set hz, h6]
    have e : Th z = 0 := Classical.byContradiction fun c => ((h4 z hz.1 hz.2).mp c) hw0
    unfold cntT
    rw [if_pos e, if_neg (by omega)]
    omega
theorem hit_n {Lf Bt Wd Hg : Int → Int} {x0 y0 w h z x y j : Int} (e : j ≠ z) : hitR (uI Lf z x0) (uI Bt z y0) (uI Wd z w) (uI Hg z h) x y j ↔ hitR Lf Bt Wd Hg x y j := by
  unfold hitR
  rw [uI_n _ e, uI_n _ e, uI_n _ e, uI_n _ e]
theorem hit_s {Lf Bt Wd Hg : Int → Int} {x0 y0 w h z x y : Int} (hw : 1 ≤ w) : hitR (uI Lf z x0) (uI Bt z y0) (uI Wd z w) (uI Hg z h) x y z ↔ (y0 ≤ y ∧ y < y0 + h) ∧ (x0 ≤ x ∧ x < x0 + w) := by
  unfold hitR
  rw [uI_s, uI_s, uI_s, uI_s]
  omega
theorem place_C {Cw Rw : Int} {Ce E Lf Bt Wd Hg : Int → Int} {x0 y0 w h z : Int} (hz : 0 ≤ z ∧ z < 20) (hw : 1 ≤ w) (hfr : ∀ i j, x0 ≤ i → i < x0 + w → y0 ≤ j → j < y0 + h → GC Ce Cw Rw i j) (hw0 : Wd z = 0) (hE : ∀ k, 0 ≤ k → k < 256 → E k = paintV Ce x0 y0 w h z k) (H : InvC Ce Lf Bt Wd Hg) : InvC E (uI Lf z x0) (uI Bt z y0) (uI Wd z w) (uI Hg z h) := by
  constructor
  · intro x y j hx hy a b d
    rw [paint_at hE hx hy]
    by_cases e : j = z
    · rw [e, hit_s hw] at d
      rw [if_pos d, e]
    · rw [hit_n e] at d
      have h1 := H.1 x y j hx hy a b d
      rw [if_neg fun c => ?_]
      · exact h1
      · have := (hfr x y c.2.1 c.2.2 c.1.1 c.1.2).2.2
        omega
  · intro x y hx hy d
    rw [paint_at hE hx hy, if_neg fun c => d z hz.1 hz.2 ((hit_s hw).mpr c)]
    refine H.2 x y hx hy fun j a b g => ?_
    by_cases e : j = z
    · rw [e] at g; exact g.1 hw0
    · exact d j a b ((hit_n e).mpr g)
/-- the lists of holes behind a placing; it is no longer than the table that holds it -/
theorem place_len {Cw Rw : Int} {FB Ce : Int → Int} {lh : List Int} {t : Int} (hC : 4 ≤ Cw ∧ Cw ≤ 16) (hR : 4 ≤ Rw ∧ Rw ≤ 16) (hF : InvF Cw Rw FB Ce) (hm : ∀ q, q ∈ lh ↔ MxQ (GC Ce Cw Rw) q) (ht : FrQ (GC Ce Cw Rw) t) : (keepL (candL lh t)).length ≤ 256 := by
  have hbd := GC_bd (Ce := Ce) hC.2 hR.2
  obtain ⟨q1, q2, q3⟩ := ht
  obtain ⟨a1, a2, a3, a4⟩ := acc_rng q1
  have hcor := q3 (lx t + wd t - 1) (by_ t + hg t - 1) ⟨⟨by omega, by omega⟩, by omega, by omega⟩
  obtain ⟨k1, k2, -⟩ := hcor
  have hr : (0 ≤ lx t ∧ 1 ≤ wd t ∧ lx t + wd t ≤ Cw) ∧ (0 ≤ by_ t ∧ 1 ≤ hg t ∧ by_ t + hg t ≤ Rw) := by omega
  have hfr : ∀ i j, lx t ≤ i → i < lx t + wd t → by_ t ≤ j → j < by_ t + hg t → GC Ce Cw Rw i j := fun i j i1 i2 j1 j2 => q3 i j ⟨⟨i1, i2⟩, j1, j2⟩
  have hF' : InvF Cw Rw (flipV FB (strip (wd t) (lx t)) (by_ t) (by_ t + hg t)) (paintV Ce (lx t) (by_ t) (wd t) (hg t) 0) := place_F hC.2 hR.2 (Int.le_refl 0) hr hfr (fun k _ _ => rfl) (fun j _ _ => rfl) hF
  have hG := GC_paint (E := paintV Ce (lx t) (by_ t) (wd t) (hg t) 0) hC.2 hR.2 (Int.le_refl 0) hr (fun k _ _ => rfl)
  rw [pk_of] at hG
  have hl := holesOf_len (FB := flipV FB (strip (wd t) (lx t)) (by_ t) (by_ t + hg t)) hC hR
  have e := same_len (keepL_nodup (candL lh t)) (holesOf_nodup (FB := flipV FB (strip (wd t) (lx t)) (by_ t) (by_ t + hg t)) hC hR) (fun q => by
    rw [split_mem hbd hm ⟨q1, q2, q3⟩ hG, holesOf_mem hC hR, GF_GC hF'])
  omega
theorem place_inv {Cw Rw n hc : Int} {Lf Bt Wd Hg FB HO Ce Lf' Bt' Wd' Hg' Th : Int → Int} {lh : List Int} (H : Inv Cw Rw n hc Lf Bt Wd Hg FB HO lh Ce Lf' Bt' Wd' Hg' Th) {x0 y0 w h z : Int} {F E G : Int → Int} (hz : 0 ≤ z ∧ z < 20) (hw0 : Wd z = 0) (hw : 1 ≤ w) (hh : 1 ≤ h) (hg' : gd Ce Cw Rw x0 y0 w h) (hE : ∀ k, 0 ≤ k → k < 256 → E k = paintV Ce x0 y0 w h z k) (hF : ∀ j, 0 ≤ j → j < 16 → F j = flipV FB (strip w x0) y0 (y0 + h) j) (hG : Lst G (keepL (candL lh (pk x0 y0 w h)))) :
    Inv Cw Rw (n + 1) ((keepL (candL lh (pk x0 y0 w h))).length : Int) (uI Lf z x0) (uI Bt z y0) (uI Wd z w) (uI Hg z h) F G (keepL (candL lh (pk x0 y0 w h))) E (uI Lf' z x0) (uI Bt' z y0) (uI Wd' z w) (uI Hg' z h) (uI Th z 1) := by
  obtain ⟨hC, hR, iR, iC, iF, i1, i2, i3, i4, i5⟩ := H
  have hbd := GC_bd (Ce := Ce) hC.2 hR.2
  have hfr := (gd_iff hw hh).mp hg'
  have hr : (0 ≤ x0 ∧ 1 ≤ w ∧ x0 + w ≤ Cw) ∧ (0 ≤ y0 ∧ 1 ≤ h ∧ y0 + h ≤ Rw) := by
    obtain ⟨g1, g2, g3, g4, -⟩ := hg'
    omega
  have ht : FrQ (GC Ce Cw Rw) (pk x0 y0 w h) := fr_pk (by omega) (by omega) hw hh (by omega) (by omega) hfr
  exact ⟨hC, hR, place_R hC.2 hR.2 hz hr hw0 iR, place_C hz hw hfr hw0 hE iC, place_F hC.2 hR.2 hz.1 hr hfr hE hF iF, rfl, hG, keepL_nodup _, place_len hC hR iF i5 ht, split_mem hbd i5 ht (GC_paint hC.2 hR.2 hz.1 hr hE)⟩
theorem remove_inv {Cw Rw n hc : Int} {Lf Bt Wd Hg FB HO Ce Lf' Bt' Wd' Hg' Th : Int → Int} {lh : List Int} (H : Inv Cw Rw n hc Lf Bt Wd Hg FB HO lh Ce Lf' Bt' Wd' Hg' Th) {i : Int} {F E G : Int → Int} (hi : 0 ≤ i ∧ i < 20) (hw : Wd i ≠ 0) (hE : ∀ k, 0 ≤ k → k < 256 → E k = paintV Ce (Lf i) (Bt i) (Wd i) (Hg i) (-1) k) (hF : ∀ j, 0 ≤ j → j < 16 → F j = flipV FB (strip (Wd i) (Lf i)) (Bt i) (Bt i + Hg i) j) (hG : Lst G (holesOf F Cw Rw)) :
    Inv Cw Rw (n - 1) ((holesOf F Cw Rw).length : Int) Lf Bt (uI Wd i 0) Hg F G (holesOf F Cw Rw) E Lf' Bt' Wd' Hg' (uI Th i 0) := by
  obtain ⟨hC, hR, iR, iC, iF, -⟩ := H
  obtain ⟨⟨b1, b2, b3, b4⟩, h2, h3, h4, h5, h6⟩ := iR
  have hri := h2 i hi.1 hi.2 hw
  obtain ⟨⟨r1, r2, r3⟩, r4, r5, r6⟩ := hri
  have hhit : ∀ x y, ((Bt i ≤ y ∧ y < Bt i + Hg i) ∧ (Lf i ≤ x ∧ x < Lf i + Wd i)) → hitR Lf Bt Wd Hg x y i := fun x y c => ⟨hw, c.2.1, c.1.1, c.2.2, c.1.2⟩
  have iF' : InvF Cw Rw F E := by
    refine ⟨flip_mask iF.1 (strip_le (by omega) (by omega) (by omega)) hF, fun x y hx hy => ?_⟩
    rw [flip_at (by omega) (by omega) hF hx.1 (by omega), paint_at hE (by omega) (by omega)]
    by_cases c : (Bt i ≤ y ∧ y < Bt i + Hg i) ∧ (Lf i ≤ x ∧ x < Lf i + Wd i)
    · rw [if_pos c, if_pos c]
      have g := iC.1 x y i (by omega) (by omega) hi.1 hi.2 (hhit x y c)
      refine ⟨fun _ => rfl, fun _ a => ?_⟩
      have := (iF.2 x y hx hy).mp a
      omega
    · rw [if_neg c, if_neg c]
      exact iF.2 x y hx hy
  refine ⟨hC, hR, ⟨⟨b1, b2, fun k a b => ?_, b4⟩, fun j a b d => ?_, fun j a b => ?_, fun j a b => ?_, fun j a b d => ?_, ?_⟩, ⟨fun x y j hx hy a b d => ?_, fun x y hx hy d => ?_⟩, iF', rfl, hG, holesOf_nodup hC hR, holesOf_len hC hR, fun q => by rw [holesOf_mem hC hR, GF_GC iF']⟩
  · by_cases e : k = i
    · rw [e, uI_s]; omega
    · rw [uI_n _ e]; exact b3 k a b
  · by_cases e : j = i
    · rw [e, uI_s] at d; exact absurd rfl d
    · rw [uI_n _ e] at d
      have := h2 j a b d
      unfold rIn
      rw [uI_n _ e]
      exact this
  · by_cases e : j = i
    · rw [e, uI_s]; exact Or.inl rfl
    · rw [uI_n _ e]; exact h3 j a b
  · by_cases e : j = i
    · rw [e, uI_s, uI_s]
    · rw [uI_n _ e, uI_n _ e]; exact h4 j a b
  · by_cases e : j = i
    · rw [e, uI_s] at d; exact absurd rfl d
    · rw [uI_n _ e] at d ⊢; exact h5 j a b d
  · rw [cnt_set hi, h6]
    have e : Th i ≠ 0 := (h4 i hi.1 hi.2).mpr hw
    unfold cntT
    rw [if_neg e, if_pos rfl]
    omega
  · rw [paint_at hE hx hy]
    by_cases e : j = i
    · have := d.1
      rw [e, uI_s] at this; exact absurd rfl this
    · have d' : hitR Lf Bt Wd Hg x y j := by
        unfold hitR at d ⊢
        rw [uI_n _ e] at d; exact d
      have h1 := iC.1 x y j hx hy a b d'
      rw [if_neg fun c => ?_]
      · exact h1
      · have := iC.1 x y i hx hy hi.1 hi.2 (hhit x y c)
        omega
  · rw [paint_at hE hx hy]
    by_cases c : (Bt i ≤ y ∧ y < Bt i + Hg i) ∧ (Lf i ≤ x ∧ x < Lf i + Wd i)
    · rw [if_pos c]
    · rw [if_neg c]
      refine iC.2 x y hx hy fun j a b g => ?_
      by_cases e : j = i
      · obtain ⟨g1, g2, g3, g4, g5⟩ := g
        rw [e] at g2 g3 g4 g5
        exact c ⟨⟨g3, g5⟩, g2, g4⟩
      · refine d j a b ?_
        unfold hitR at g ⊢
        rw [uI_n _ e]; exact g
/-- the place that is chosen -/
theorem choice_eq {Cw Rw hc w h t a a' tr tr' : Int} {HO Ce : Int → Int} {lh : List Int} (hC : 4 ≤ Cw ∧ Cw ≤ 16) (hR : 4 ≤ Rw ∧ Rw ≤ 16) (hH : InvH Cw Rw hc HO Ce lh) (hs : sizeP w h) (H : ChS HO hc w h t a tr) (H' : ChM Ce Cw Rw w h t a' tr') : a = a' ∧ tr = tr' := by
  obtain ⟨i1, i2, i3, i4, i5⟩ := hH
  have hs' : sizeP h w := ⟨hs.2.2.1, hs.2.2.2, hs.1, hs.2.1⟩
  obtain ⟨a1, l1, c1⟩ := H
  obtain ⟨a1', l1', c1'⟩ := H'
  have e1 := low_best hC hR i1 i2 i5 hs l1 l1'
  rcases c1 with ⟨t1, x1, x2⟩ | ⟨t1, a2, l2, c2⟩ <;> rcases c1' with ⟨t1', x1', x2'⟩ | ⟨t1', a2', l2', c2'⟩
  · omega
  · omega
  · omega
  · have e2 := low_best hC hR i1 i2 i5 hs' l2 l2'
    omega
theorem first_eq {z z' : Int} {Wd Th : Int → Int} (hz : 0 ≤ z ∧ z < 20) (hz' : 0 ≤ z' ∧ z' < 20) (h4 : ∀ j, 0 ≤ j → j < 20 → (Th j ≠ 0 ↔ Wd j ≠ 0)) (a1 : Wd z = 0) (a2 : ∀ j, 0 ≤ j → j < z → Wd j ≠ 0) (b1 : Th z' = 0) (b2 : ∀ j, 0 ≤ j → j < z' → Th j ≠ 0) : z = z' := by
  by_cases c : z < z'
  · have := b2 z hz.1 c
    exact absurd a1 ((h4 z hz.1 hz.2).mp this)
  · by_cases c2 : z' < z
    · have := a2 z' hz'.1 c2
      exact absurd b1 ((h4 z' hz'.1 hz'.2).mpr this)
    · omega
end
section
/-! plain law: a call of both objects: the same answer, and the invariant again -/
section OP
variable {Cw Rw n hc : Int} {Lf Bt Wd Hg FB HO Ce Lf' Bt' Wd' Hg' Th : Int → Int} {lh : List Int}
theorem ChM_pos {w h t a tr : Int} (hC : 4 ≤ Cw ∧ Cw ≤ 16) (H : ChM Ce Cw Rw w h t a tr) (ha : 0 ≤ a) : gd Ce Cw Rw (a % 256) (a / 256) (if tr = 1 then h else w) (if tr = 1 then w else h) := by
  obtain ⟨a1, l1, c1⟩ := H
  rcases c1 with ⟨-, e1, e2⟩ | ⟨-, a2, l2, ⟨-, -, e1, e2⟩ | ⟨-, e1, e2⟩⟩
  · rw [e2, e1, if_neg (by omega), if_neg (by omega)]
    exact BestS_pos hC l1 (by omega)
  · rw [e2, e1, if_pos rfl, if_pos rfl]
    exact BestS_pos hC l2 (by omega)
  · rw [e2, e1, if_neg (by omega), if_neg (by omega)]
    exact BestS_pos hC l1 (by omega)
theorem place_op (H : Inv Cw Rw n hc Lf Bt Wd Hg FB HO lh Ce Lf' Bt' Wd' Hg' Th) {w h t z z2 n' hc' : Int} {L1 B1 W1 H1 F1 G1 E2 L2 B2 W2 H2 T2 : Int → Int}
    (h1 : (n' = n ∧ hc' = hc ∧ L1 = Lf ∧ B1 = Bt ∧ W1 = Wd ∧ H1 = Hg ∧ F1 = FB ∧ G1 = HO ∧ ((z = -1 ∧ ¬ sizeP w h) ∨ (sizeP w h ∧ 20 ≤ n ∧ z = -2) ∨ (sizeP w h ∧ n < 20 ∧ z = -3 ∧ ∃ a tr, ChS HO hc w h t a tr ∧ a < 0))) ∨ (sizeP w h ∧ n < 20 ∧ ∃ a tr, ChS HO hc w h t a tr ∧ 0 ≤ a ∧ 0 ≤ z ∧ z < 20 ∧ Wd z = 0 ∧ (∀ j, 0 ≤ j → j < z → Wd j ≠ 0) ∧ n' = n + 1 ∧ L1 = uI Lf z (a % 256) ∧ B1 = uI Bt z (a / 256) ∧ W1 = uI Wd z (if tr = 1 then h else w) ∧ H1 = uI Hg z (if tr = 1 then w else h) ∧ (∀ j, 0 ≤ j → j < 16 → F1 j = flipV FB (strip (if tr = 1 then h else w) (a % 256)) (a / 256) (a / 256 + (if tr = 1 then w else h)) j) ∧ hc' = ((keepL (candL lh (pk (a % 256) (a / 256) (if tr = 1 then h else w) (if tr = 1 then w else h)))).length : Int) ∧ Lst G1 (keepL (candL lh (pk (a % 256) (a / 256) (if tr = 1 then h else w) (if tr = 1 then w else h))))))
    (h2 : (E2 = Ce ∧ L2 = Lf' ∧ B2 = Bt' ∧ W2 = Wd' ∧ H2 = Hg' ∧ T2 = Th ∧ ((z2 = -1 ∧ ¬ sizeP w h) ∨ (sizeP w h ∧ sumI (cntT Th) 20 = 20 ∧ z2 = -2) ∨ (sizeP w h ∧ sumI (cntT Th) 20 ≠ 20 ∧ z2 = -3 ∧ ∃ a tr, ChM Ce Cw Rw w h t a tr ∧ a < 0))) ∨ (sizeP w h ∧ sumI (cntT Th) 20 ≠ 20 ∧ ∃ a tr, ChM Ce Cw Rw w h t a tr ∧ 0 ≤ a ∧ 0 ≤ z2 ∧ z2 < 20 ∧ Th z2 = 0 ∧ (∀ j, 0 ≤ j → j < z2 → Th j ≠ 0) ∧ L2 = uI Lf' z2 (a % 256) ∧ B2 = uI Bt' z2 (a / 256) ∧ W2 = uI Wd' z2 (if tr = 1 then h else w) ∧ H2 = uI Hg' z2 (if tr = 1 then w else h) ∧ T2 = uI Th z2 1 ∧ ∀ k, 0 ≤ k → k < 256 → E2 k = paintV Ce (a % 256) (a / 256) (if tr = 1 then h else w) (if tr = 1 then w else h) z2 k)) :
    z = z2 ∧ ∃ lh', Inv Cw Rw n' hc' L1 B1 W1 H1 F1 G1 lh' E2 L2 B2 W2 H2 T2 := by
  have H0 := H
  obtain ⟨hC, hR, ⟨-, -, -, i4, -, i6⟩, -, -, iH⟩ := H0
  have hcr := cntT_rng Th 20
  rcases h1 with ⟨rfl, rfl, rfl, rfl, rfl, rfl, rfl, rfl, h1⟩ | ⟨s1, n1, a, tr, ch, a0, z0, z1, w0, wf, rfl, rfl, rfl, rfl, rfl, hF, rfl, hG⟩
  · rcases h2 with ⟨rfl, rfl, rfl, rfl, rfl, rfl, h2⟩ | ⟨s2, n2, a', tr', ch', a0', -⟩
    · refine ⟨?_, lh, H⟩
      rcases h1 with ⟨g1, g2⟩ | ⟨g1, g2, g3⟩ | ⟨g1, g2, g3, -⟩ <;> rcases h2 with ⟨k1, k2⟩ | ⟨k1, k2, k3⟩ | ⟨k1, k2, k3, -⟩
      · omega
      · exact absurd k1 g2
      · exact absurd k1 g2
      · exact absurd g1 k2
      · omega
      · omega
      · exact absurd g1 k2
      · omega
      · omega
    · exfalso
      rcases h1 with ⟨g1, g2⟩ | ⟨g1, g2, g3⟩ | ⟨g1, g2, g3, a, tr, ch, ha⟩
      · exact g2 s2
      · omega
      · have := choice_eq hC hR iH s2 ch ch'
        omega
  · rcases h2 with ⟨rfl, rfl, rfl, rfl, rfl, rfl, h2⟩ | ⟨s2, n2, a', tr', ch', a0', z0', z1', w0', wf', rfl, rfl, rfl, rfl, rfl, hE⟩
    · exfalso
      rcases h2 with ⟨k1, k2⟩ | ⟨k1, k2, k3⟩ | ⟨k1, k2, k3, a', tr', ch', ha'⟩
      · exact k2 s1
      · omega
      · have := choice_eq hC hR iH s1 ch ch'
        omega
    · obtain ⟨e1, e2⟩ := choice_eq hC hR iH s1 ch ch'
      subst e1
      subst e2
      have ez := first_eq ⟨z0, z1⟩ ⟨z0', z1'⟩ i4 w0 wf w0' wf'
      subst ez
      have hg' := ChM_pos hC ch' a0
      refine ⟨rfl, _, place_inv H ⟨z0, z1⟩ w0 ?_ ?_ hg' hE hF hG⟩
      · obtain ⟨q1, q2, q3, q4⟩ := s1
        split <;> omega
      · obtain ⟨q1, q2, q3, q4⟩ := s1
        split <;> omega
theorem remove_op (H : Inv Cw Rw n hc Lf Bt Wd Hg FB HO lh Ce Lf' Bt' Wd' Hg' Th) {i z z2 n' hc' : Int} {W1 F1 B1 E2 T2 : Int → Int}
    (h1 : (z = -1 ∧ ¬ (0 ≤ i ∧ i < 20 ∧ Wd i ≠ 0) ∧ n' = n ∧ hc' = hc ∧ W1 = Wd ∧ F1 = FB ∧ B1 = HO) ∨ ((0 ≤ i ∧ i < 20 ∧ Wd i ≠ 0) ∧ z = n - 1 ∧ n' = n - 1 ∧ W1 = uI Wd i 0 ∧ (∀ j, 0 ≤ j → j < 16 → F1 j = flipV FB (strip (Wd i) (Lf i)) (Bt i) (Bt i + Hg i) j) ∧ hc' = ((holesOf F1 Cw Rw).length : Int) ∧ Lst B1 (holesOf F1 Cw Rw) ∧ (holesOf F1 Cw Rw).length ≤ 256))
    (h2 : (z2 = -1 ∧ ¬ (0 ≤ i ∧ i < 20 ∧ Th i ≠ 0) ∧ E2 = Ce ∧ T2 = Th) ∨ ((0 ≤ i ∧ i < 20 ∧ Th i ≠ 0) ∧ z2 = sumI (cntT (uI Th i 0)) 20 ∧ T2 = uI Th i 0 ∧ ∀ k, 0 ≤ k → k < 256 → E2 k = paintV Ce (Lf' i) (Bt' i) (Wd' i) (Hg' i) (-1) k)) :
    z = z2 ∧ ∃ lh', Inv Cw Rw n' hc' Lf Bt W1 Hg F1 B1 lh' E2 Lf' Bt' Wd' Hg' T2 := by
  have H0 := H
  obtain ⟨hC, hR, ⟨-, -, -, i4, i5, i6⟩, -, -, iH⟩ := H0
  rcases h1 with ⟨rfl, u1, rfl, rfl, rfl, rfl, rfl⟩ | ⟨u1, rfl, rfl, rfl, hF, rfl, hG, -⟩
  · rcases h2 with ⟨rfl, u2, rfl, rfl⟩ | ⟨u2, -⟩
    · exact ⟨rfl, lh, H⟩
    · exact absurd ⟨u2.1, u2.2.1, (i4 i u2.1 u2.2.1).mp u2.2.2⟩ u1
  · rcases h2 with ⟨rfl, u2, rfl, rfl⟩ | ⟨u2, rfl, rfl, hE⟩
    · exact absurd ⟨u1.1, u1.2.1, (i4 i u1.1 u1.2.1).mpr u1.2.2⟩ u2
    · obtain ⟨f1, f2, f3, f4⟩ := i5 i u1.1 u1.2.1 u1.2.2
      rw [f1, f2, f3, f4] at hE
      have hN := remove_inv H ⟨u1.1, u1.2.1⟩ u1.2.2 hE hF hG
      exact ⟨hN.2.2.1.2.2.2.2.2, _, hN⟩
theorem clear_op (H : Inv Cw Rw n hc Lf Bt Wd Hg FB HO lh Ce Lf' Bt' Wd' Hg' Th) {z z2 : Int} {W1 F1 B1 E2 T2 : Int → Int}
    (h1 : z = n ∧ (∀ j, 0 ≤ j → j < 20 → W1 j = 0) ∧ (∀ j, 0 ≤ j → j < Rw → F1 j = strip Cw 0) ∧ (∀ j, Rw ≤ j → F1 j = FB j) ∧ B1 0 = pk 0 0 Cw Rw)
    (h2 : z2 = sumI (cntT Th) 20 ∧ (∀ j, 0 ≤ j → j < 20 → T2 j = 0) ∧ ∀ k, 0 ≤ k → k < 256 → E2 k = -1) :
    z = z2 ∧ ∃ lh', Inv Cw Rw 0 1 Lf Bt W1 Hg F1 B1 lh' E2 Lf' Bt' Wd' Hg' T2 := by
  obtain ⟨hC, hR, ⟨⟨b1, b2, b3, b4⟩, -, -, -, -, i6⟩, -, iF, -⟩ := H
  obtain ⟨rfl, w1, f1, f2, g1⟩ := h1
  obtain ⟨rfl, t2, e2⟩ := h2
  exact ⟨i6, _, clear_inv hC hR b1 b2 b4 w1 f1 (fun j a b => by rw [f2 j a]; exact iF.1 j (by omega) b) g1 e2 t2⟩
theorem look_op (H : Inv Cw Rw n hc Lf Bt Wd Hg FB HO lh Ce Lf' Bt' Wd' Hg' Th) {i v z z2 : Int}
    (h1 : (z = -1 ∧ ¬ (0 ≤ i ∧ i < 20 ∧ Wd i ≠ 0)) ∨ ((0 ≤ i ∧ i < 20 ∧ Wd i ≠ 0) ∧ ((v = 0 ∧ z = Lf i) ∨ (v = 1 ∧ z = Bt i) ∨ (v = 2 ∧ z = Wd i) ∨ (v = 3 ∧ z = Hg i) ∨ (v ≠ 0 ∧ v ≠ 1 ∧ v ≠ 2 ∧ v ≠ 3 ∧ z = -1))))
    (h2 : (z2 = -1 ∧ ¬ (0 ≤ i ∧ i < 20 ∧ Th i ≠ 0)) ∨ ((0 ≤ i ∧ i < 20 ∧ Th i ≠ 0) ∧ ((v = 0 ∧ z2 = Lf' i) ∨ (v = 1 ∧ z2 = Bt' i) ∨ (v = 2 ∧ z2 = Wd' i) ∨ (v = 3 ∧ z2 = Hg' i) ∨ (v ≠ 0 ∧ v ≠ 1 ∧ v ≠ 2 ∧ v ≠ 3 ∧ z2 = -1)))) : z = z2 := by
  obtain ⟨hC, hR, ⟨-, -, -, i4, i5, i6⟩, -⟩ := H
  rcases h1 with ⟨g1, u1⟩ | ⟨u1, g1⟩
  · rcases h2 with ⟨g2, u2⟩ | ⟨u2, g2⟩
    · omega
    · exact absurd ⟨u2.1, u2.2.1, (i4 i u2.1 u2.2.1).mp u2.2.2⟩ u1
  · rcases h2 with ⟨g2, u2⟩ | ⟨u2, g2⟩
    · exact absurd ⟨u1.1, u1.2.1, (i4 i u1.1 u1.2.1).mpr u1.2.2⟩ u2
    · obtain ⟨f1, f2, f3, f4⟩ := i5 i u1.1 u1.2.1 u1.2.2
      rw [f1, f2, f3, f4] at g2
      rcases g1 with ⟨a, b⟩ | ⟨a, b⟩ | ⟨a, b⟩ | ⟨a, b⟩ | ⟨a1, a2, a3, a4, b⟩ <;> rcases g2 with ⟨c, d⟩ | ⟨c, d⟩ | ⟨c, d⟩ | ⟨c, d⟩ | ⟨c1, c2, c3, c4, d⟩ <;> omega
theorem owner_op (H : Inv Cw Rw n hc Lf Bt Wd Hg FB HO lh Ce Lf' Bt' Wd' Hg' Th) {x y z z2 : Int}
    (h1 : (z = -1 ∧ ¬ (0 ≤ x ∧ x < Cw ∧ 0 ≤ y ∧ y < Rw)) ∨ ((0 ≤ x ∧ x < Cw ∧ 0 ≤ y ∧ y < Rw) ∧ ((∃ j, 0 ≤ j ∧ j < 20 ∧ hitR Lf Bt Wd Hg x y j ∧ z = j) ∨ (z = -3 ∧ ∀ j, 0 ≤ j → j < 20 → ¬ hitR Lf Bt Wd Hg x y j))))
    (h2 : (z2 = -1 ∧ ¬ (0 ≤ x ∧ x < Cw ∧ 0 ≤ y ∧ y < Rw)) ∨ ((0 ≤ x ∧ x < Cw ∧ 0 ≤ y ∧ y < Rw) ∧ ((Ce (16 * y + x) = -1 ∧ z2 = -3) ∨ (Ce (16 * y + x) ≠ -1 ∧ z2 = Ce (16 * y + x))))) : z = z2 := by
  obtain ⟨hC, hR, -, iC, -⟩ := H
  rcases h1 with ⟨g1, u1⟩ | ⟨u1, g1⟩
  · rcases h2 with ⟨g2, u2⟩ | ⟨u2, g2⟩
    · omega
    · exact absurd u2 u1
  · rcases h2 with ⟨g2, u2⟩ | ⟨-, g2⟩
    · exact absurd u1 u2
    · rcases g1 with ⟨j, j1, j2, j3, j4⟩ | ⟨a, b⟩
      · have e := iC.1 x y j (by omega) (by omega) j1 j2 j3
        rw [e] at g2
        omega
      · have e := iC.2 x y (by omega) (by omega) b
        rw [e] at g2
        omega
theorem best_op (H : Inv Cw Rw n hc Lf Bt Wd Hg FB HO lh Ce Lf' Bt' Wd' Hg' Th) {w h z z2 : Int} (h1 : (z = -1 ∧ ¬ sizeP w h) ∨ (sizeP w h ∧ LowS HO hc w h z)) (h2 : (z2 = -1 ∧ ¬ sizeP w h) ∨ (sizeP w h ∧ BestS Ce Cw Rw w h z2)) : z = z2 := by
  obtain ⟨hC, hR, -, -, -, e1, e2, e3, e4, e5⟩ := H
  rcases h1 with ⟨g1, u1⟩ | ⟨u1, g1⟩
  · rcases h2 with ⟨g2, u2⟩ | ⟨u2, g2⟩
    · omega
    · exact absurd u2 u1
  · rcases h2 with ⟨g2, u2⟩ | ⟨-, g2⟩
    · exact absurd u1 u2
    · exact low_best hC hR e1 e2 e5 u1 g1 g2
theorem free_op (H : Inv Cw Rw n hc Lf Bt Wd Hg FB HO lh Ce Lf' Bt' Wd' Hg' Th) {z z2 : Int} (h1 : z = Cw * Rw - sumI (arId Wd Hg) 20) (h2 : z2 = sumI (freeC Ce Cw) Rw.toNat) : z = z2 := by
  obtain ⟨hC, hR, ⟨-, i2, -⟩, iC, -⟩ := H
  rw [h1, h2]
  exact free_eq hC hR i2 iC
theorem holes_op (H : Inv Cw Rw n hc Lf Bt Wd Hg FB HO lh Ce Lf' Bt' Wd' Hg' Th) {z z2 : Int} (h1 : z = hc) (h2 : z2 = sumI (fun q => cntR Ce Cw Rw q Cw.toNat) 256) : z = z2 := by
  obtain ⟨hC, hR, -, -, -, e1, e2, e3, e4, e5⟩ := H
  rw [h1, h2, e1]
  exact holes_eq hC hR e3 e5
theorem largest_op (H : Inv Cw Rw n hc Lf Bt Wd Hg FB HO lh Ce Lf' Bt' Wd' Hg' Th) {z z2 : Int} (h1 : MaxA HO hc z) (h2 : LarS Ce Cw Rw 256 1 z2) : z = z2 := by
  obtain ⟨hC, hR, -, -, -, e1, e2, e3, e4, e5⟩ := H
  exact largest_eq hC hR e1 e2 e5 h1 h2
theorem fit_op (H : Inv Cw Rw n hc Lf Bt Wd Hg FB HO lh Ce Lf' Bt' Wd' Hg' Th) {z z2 : Int} (h1 : z = sumI (fun v => mxH HO (v + 1) hc.toNat) 16) (h2 : FitS Ce Cw Rw (Cw + 1) z2) : z = z2 := by
  obtain ⟨hC, hR, -, -, -, e1, e2, e3, e4, e5⟩ := H
  rw [h1]
  exact fit_eq hC hR e1 e2 e5 h2
/-! what the contracts ask -/
theorem inv_hc (H : Inv Cw Rw n hc Lf Bt Wd Hg FB HO lh Ce Lf' Bt' Wd' Hg' Th) : 0 ≤ hc ∧ hc ≤ 256 := by
  obtain ⟨hC, hR, -, -, -, e1, e2, e3, e4, e5⟩ := H
  omega
theorem inv_box (H : Inv Cw Rw n hc Lf Bt Wd Hg FB HO lh Ce Lf' Bt' Wd' Hg' Th) : ∀ q ∈ lh, boxQ q := by
  obtain ⟨hC, hR, -, -, -, e1, e2, e3, e4, e5⟩ := H
  exact fun q hq => fr_box (GC_bd (Ce := Ce) hC.2 hR.2) ((e5 q).mp hq).1
theorem inv_ok (H : Inv Cw Rw n hc Lf Bt Wd Hg FB HO lh Ce Lf' Bt' Wd' Hg' Th) : okQ HO hc := by
  have hb := inv_box H
  obtain ⟨hC, hR, -, -, -, e1, e2, e3, e4, e5⟩ := H
  rw [e1]
  exact boxQ_okQ e2 hb
theorem inv_fit (H : Inv Cw Rw n hc Lf Bt Wd Hg FB HO lh Ce Lf' Bt' Wd' Hg' Th) : ∀ q, cornerQ lh q → (keepL (candL lh q)).length ≤ 256 := by
  obtain ⟨hC, hR, -, -, iF, e1, e2, e3, e4, e5⟩ := H
  exact fun q hq => place_len hC hR iF e5 (corner_fr (GC_bd (Ce := Ce) hC.2 hR.2) e5 hq)
theorem inv_n (H : Inv Cw Rw n hc Lf Bt Wd Hg FB HO lh Ce Lf' Bt' Wd' Hg' Th) : 0 ≤ n ∧ n ≤ 20 := by
  obtain ⟨-, -, ⟨-, -, -, -, -, i6⟩, -⟩ := H
  have := cntT_rng Th 20
  omega
theorem inv_free (H : Inv Cw Rw n hc Lf Bt Wd Hg FB HO lh Ce Lf' Bt' Wd' Hg' Th) : freeId Wd n := by
  obtain ⟨-, -, ⟨-, -, -, i4, -, i6⟩, -⟩ := H
  intro hn
  obtain ⟨k, k1, k2, k3⟩ := cntT_free (Th := Th) 20 (by omega)
  exact ⟨k, k1, by omega, Classical.byContradiction fun c => ((i4 k k1 (by omega)).mpr c) k3⟩
theorem inv_rec (H : Inv Cw Rw n hc Lf Bt Wd Hg FB HO lh Ce Lf' Bt' Wd' Hg' Th) : ∀ j, 0 ≤ j → j < 20 → Wd j ≠ 0 → recOk Lf Bt Wd Hg j := by
  obtain ⟨hC, hR, ⟨-, i2, -⟩, -⟩ := H
  intro j a b d
  obtain ⟨⟨r1, r2, r3⟩, r4, r5, r6⟩ := i2 j a b d
  exact ⟨by omega, by omega⟩
theorem inv_rec' (H : Inv Cw Rw n hc Lf Bt Wd Hg FB HO lh Ce Lf' Bt' Wd' Hg' Th) : ∀ j, 0 ≤ j → j < 20 → Th j ≠ 0 → recOk Lf' Bt' Wd' Hg' j := by
  have hr := inv_rec H
  obtain ⟨hC, hR, ⟨-, i2, -, i4, i5, -⟩, -⟩ := H
  intro j a b d
  have d' := (i4 j a b).mp d
  obtain ⟨f1, f2, f3, f4⟩ := i5 j a b d'
  have := hr j a b d'
  unfold recOk
  rw [f1, f2, f3, f4]
  exact this
end OP
end
section
/-! THE CLAIM OUT OF ONE WALK OF THE LAW'S BODY. Your part is whole_start (and what it stands on); all else here is the same for every law, but numbers. -/
def R_law : String := "AtlasPackerLaw"
def lw_P (b : Addr) (xs : List Int32) (args : Array Value) (s : State) : Prop := args = #[.ref b] ∧ s.IntsAt b xs ∧ xs.length ≤ 258 ∧ (Jvm.Cond.and given_1 narrow_1).before args s = true
def lw_Q (_ : Array Value) (s : State) (o : Outcome) (t : State) : Prop := o = .returned (some (.int 1)) ∧ Framed s o t [] 600000 7290000
def lw_Z (below : List Frame) (a : Array Value) (s : State) : State → Prop := fun t => ∃ o, t.status = .running ∧ Ended t below o ∧ lw_Q a s o t
/-- the law's own end, with 1 on the stack, nothing written that was there before, its room as the claim has it -/
theorem lw_ret {p : Program} {l : Launch} {e : Env} {s : State} {m : MethodId} {below : List Frame} {meth : Method} {c : Code} {b : Nat} (hx : p.tables.exec = Jvm.exec) (hb : c.code = code) (hr : meth.sig.returnType = ret) (hlocks : meth.locks = false) {pc : Nat} {H : Heap} {ls : Array Slot} (hdg : decode code pc = .ok (.ireturn, 1)) : W p l e room_1 s m #[Value.ref b] below meth c H [] 600000 7290000 (lw_Z below #[Value.ref b] s) (F0 m pc ls [.int 1]) := by
  intro T hT X
  obtain ⟨fs, hret, hrun, hended, hW, hframe⟩ := X.leave (v := some (.int 1)) (hlocks := hlocks) (fun h => by rw [hr] at h; cases h)
  have hmeth' : T.vm.method? m = some meth := X.method'
  refine ⟨T.setFrames fs, ?_, .returned (some (.int 1)), hrun, hended, rfl, ⟨_, rfl⟩, hW, hframe⟩
  jvm_step X.here [X.here.top, hx, hb, hdg, hmeth', hr, ret, narrow_b1]
  (try refine ⟨rfl, ?_⟩); (try refine ⟨rfl, ?_⟩)
  first | (intro acts; rw [hret _ acts rfl rfl rfl]) | rw [hret _ _ rfl rfl rfl]
  exact Steps.refl _
/-- what holds at the law's entry: the machine, the code, the tables' words (any of lw_tbl by 'hts w (by decide +kernel)'), the script of L ints xs at the cell b, what the Statement gives of the start (any of its parts by flat_of_before) -/
def lw_At (p : Program) (s : State) (m : MethodId) (meth : Method) (c : Code) (b L : Nat) (xs : Nat → Int32) : Prop :=
  p.tables.exec = Jvm.exec ∧ c.code = code ∧ meth.sig.returnType = ret ∧ c.maxLocals = 4 ∧ s.vm.findClass R_law = some m.cls ∧ (∀ w ∈ lw_tbl, w.before #[Value.ref b] s = true) ∧ va_X b L xs s s.heap ∧ b < s.heap.size ∧ meth.locks = false ∧ (Jvm.Cond.and given_1 narrow_1).before #[Value.ref b] s = true

def xz (xs : Nat → Int32) (k : Int) : Int := (xs k.toNat).toInt
theorem xz_rng (xs : Nat → Int32) (k : Int) : -2147483648 ≤ xz xs k ∧ xz xs k < 2147483648 := iI_rng _
theorem xz_at (xs : Nat → Int32) {k : Int} (h : -2147483648 ≤ k ∧ k < 2147483648) : xs (iI k).toNatClampNeg = iI (xz xs k) := by
  rw [iI_clamp h]
  exact iI_of _
/-- what the law's own cell answers -/
def cz (xs : Nat → Int32) (L : Nat) (k : Int) : Int := if k < (L : Int) then xz xs k else 0
theorem cz_rng (xs : Nat → Int32) (L : Nat) (k : Int) : -2147483648 ≤ cz xs L k ∧ cz xs L k < 2147483648 := by
  unfold cz
  split
  · exact xz_rng xs k
  · omega
section LA
variable {p : Program} {l : Launch} {e : Env} {R : Room} {s : State} {m : MethodId} {args : Array Value} {below : List Frame} {meth : Method} {c : Code} {H : Heap} {locs : List Loc} {cells slots : Nat} {Q : State → Prop}
variable {cc : ByteArray} {pc : Nat} {ls : Array Slot} {rest : List Value}
variable {D : va_G} {tys : List (ClassId × FieldType)} {ws : va_W} {A : Nat → Prop} {H0 : Heap} {y : MethodName} {bytes : ByteArray} {maxL nL n index f lo : Nat} {own C : String} {b : Addr} {As : List Value} {st0 : List Value}
theorem la_sld (hx : p.tables.exec = Jvm.exec) (hb : c.code = cc) {b L : Nat} {xs : Nat → Int32} (hX : va_X b L xs s H0) (hbl : b < H0.size) (hbA : ¬ A b) (hS : va_S A H0 H locs) {k : Int} (hL : L ≤ 258) (hk : 0 ≤ k ∧ k < (L : Int)) (hdg : decode cc pc = .ok (.iaload, 1))
    (kk : W p l e R s m args below meth c H locs cells slots Q (F0 m (pc + 1) ls (.int (iI (xz xs k)) :: rest))) : W p l e R s m args below meth c H locs cells slots Q (F0 m pc ls (.int (iI k) :: .ref b :: rest)) :=
  va_sld hx hb hX hbl hbA hS (iI_in hk (by omega)) hdg (by rw [xz_at xs (by omega)]; exact kk)
theorem la_slen (hx : p.tables.exec = Jvm.exec) (hb : c.code = cc) {b L : Nat} {xs : Nat → Int32} (hX : va_X b L xs s H0) (hbl : b < H0.size) (hbA : ¬ A b) (hS : va_S A H0 H locs) (hdg : decode cc pc = .ok (.arraylength, 1))
    (kk : W p l e R s m args below meth c H locs cells slots Q (F0 m (pc + 1) ls (.int (iI (L : Int)) :: rest))) : W p l e R s m args below meth c H locs cells slots Q (F0 m pc ls (.ref b :: rest)) :=
  va_slen hx hb hX hbl hbA hS hdg (ri_top (iI_nI L) kk)
/-- a call of a method that writes the world ws, a part of the caller's world wt; wr is the rest -/
theorem la_callI {S : Type} {P : Int → S → Prop} {w : S → va_W} {wt wr : va_W} {ci q0 : Nat} {T : u_T} {N : Nat} {fs : List Value} (hM : MetI l y bytes maxL f lo (.ref b :: As) D ws tys H.size P w) (hx : p.tables.exec = Jvm.exec) (hb : c.code = cc) (hml : c.maxLocals = nL) (hown : s.vm.findClass own = some m.cls) (hts : ∀ w ∈ lw_all, w.before args s = true)
    (cw : CallW R s args own C index y bytes maxL (some .int) (ws_ y bytes maxL (some .int)) (rmN f lo) 0 0 n) (hK : va_K D vwCl tys s) (hP : va_P D vwCl wt H) (hD : va_D A wt) (hS : va_S A H0 H locs) (hA : ∀ q, H0.size ≤ q → A q) (isC isR : List Nat) (hf1 : isC.filterMap (fun i => wt[i]?) = ws) (hC : isC.map (fun i => wt[i]?) = ws.map some) (hR : isR.map (fun i => wt[i]?) = wr.map some) (hnC : va_nd isC = true) (hnR : va_nd isR = true) (hdis : ∀ i ∈ isR, i ∉ isC) (hc : vwCl[ci]? = some (C, T, N)) (he : ws[q0]? = some (b, .inr (ci, fs)))
    (hn : As.length = n) (hsize : ls.size = nL) (hstack : st0 = As.reverse ++ .ref b :: rest) (hW : (rest.map fun v => v.category).sum ≤ 8) (hdg : decode cc pc = .ok (.invokevirtual index, 3)) (hf : cells ≤ R.cells ∧ slots ≤ R.slots)
    (kk : ∀ (z : Int) (u : S) (H1 : Heap) (locs1 : List Loc), P z u → va_P D vwCl (wr ++ w u) H1 → va_D A (wr ++ w u) → va_S A H0 H1 locs1 → W p l e R s m args below meth c H1 locs1 cells slots Q (F0 m (pc + 3) ls (.int (iI z) :: rest))) : W p l e R s m args below meth c H locs cells slots Q (F0 m pc ls st0) := by
  have hPc := hP.sub isC hf1
  have hDc := hD.sub isC hnC hC
  have hFc := va_free hD hS hA isC hC
  refine va_calli (va_runV (As := As) (rest := rest) ⟨hx, hb, hml, hown, hts⟩ hM cw ⟨blindW, va_recv hK hPc hc he, fun U hU hW => ⟨rfl, by rw [hU], by rw [hU]; exact hPc, va_K.moved hW.alike hK, hDc.weaken (fun _ _ _ _ => trivial)⟩⟩ rfl hn hsize hstack (lv_room hW) hdg hf) hS (fun q _ h => hFc q h) hFc ?_
  intro r u t H1 locs1 ht hvm hw hB hz hk hS1
  obtain ⟨z, rfl, hw⟩ := hw
  obtain ⟨hP1, hK1, hD1⟩ := hB
  rw [ht] at hP1
  obtain ⟨hP2, hD2⟩ := va_join hP hD isC isR hC hR hnR hdis hk hFc hP1 hD1
  exact kk z u H1 locs1 hw hP2 hD2 hS1
end LA
theorem blindX {b L : Nat} {xs : Nat → Int32} {av : List Value} : FrameBlind (va_Pc av (fun U => va_X b L xs U U.heap ∧ b < U.heap.size)) := fun a U g mk q => by
  obtain ⟨q0, qX, qb⟩ := q
  exact ⟨q0, va_X.moved (u := U) (U := U.calling g mk a) (Vm.Alike.refl U.vm) qX, qb⟩
set_option maxHeartbeats 4000000 in
set_option maxRecDepth 100000 in
/-- AtlasPackerLaw.cell -/
theorem mx0_cell (l : Launch) {b L : Nat} {xs : Nat → Int32} (hL : L ≤ 258) (k : Int) (hk : 0 ≤ k ∧ k < 1000) : Met l yX0_cell (ws_ yX0_cell cX0_cell 2 (some .int)) (rmN 0 0) (va_Pc [.ref b, .int (iI k)] (fun U => va_X b L xs U U.heap ∧ b < U.heap.size)) (vp_Si (pI (fun z => z = cz xs L k))) 0 0 (fun _ => False) := by
  refine ri_met RX0 rfl (by decide) (Nat.le_of_ble_eq_true rfl) ?_
  intro p e s m below meth c hx hb hr hts hown hlocks hml hnm hv ls hl
  obtain ⟨hX, hbl⟩ := hv
  have hl : lv_has ls 2 [(0, .ref b), (1, .int (iI k))] := hl
  have hS : va_S (fun _ => False) s.heap s.heap [] := va_S.rf
  refine lv_iload_n hx hb dX0_cell_0 rfl (lv_at hl 1 rfl) ?_
  refine lv_aload_n hx hb dX0_cell_1 rfl (lv_at hl 0 rfl) ?_
  refine la_slen hx hb hX hbl (fun h => h) hS dX0_cell_2 ?_
  refine ri_icmp_ge (tgt := 12) hx hb dX0_cell_3 (by decide) (by omega) (by omega) (fun c1 => ?_) (fun c1 => ?_)
  · refine ri_iconst hx hb dX0_cell_12 ?_
    exact ri_ret hx hb hr hlocks (show (0 : Int) = cz xs L k by unfold cz; rw [if_neg (by omega)]) dX0_cell_13
  · refine lv_aload_n hx hb dX0_cell_6 rfl (lv_at hl 0 rfl) ?_
    refine lv_iload_n hx hb dX0_cell_7 rfl (lv_at hl 1 rfl) ?_
    refine la_sld hx hb hX hbl (fun h => h) hS hL (by omega) dX0_cell_8 ?_
    refine lv_goto (tgt := 13) hx hb dX0_cell_9 (by decide) ?_
    exact ri_ret hx hb hr hlocks (show xz xs k = cz xs L k by unfold cz; rw [if_pos c1]) dX0_cell_13
section LB
variable {p : Program} {l : Launch} {e : Env} {s : State} {m : MethodId} {below : List Frame} {meth : Method} {c : Code} {H : Heap} {locs : List Loc} {cells slots : Nat} {Q : State → Prop}
variable {pc : Nat} {ls : Array Slot} {rest : List Value} {A : Nat → Prop} {b L : Nat} {xs : Nat → Int32}
theorem la_cell (hx : p.tables.exec = Jvm.exec) (hb : c.code = cL_law) (hml : c.maxLocals = 4) (hown : s.vm.findClass R_law = some m.cls) (hts : ∀ w ∈ lw_all, w.before #[Value.ref b] s = true) (hX : va_X b L xs s s.heap) (hbl : b < s.heap.size) (hbA : ¬ A b) (hS : va_S A s.heap H locs) (hL : L ≤ 258) {k : Int} (hk : 0 ≤ k ∧ k < 1000) (hsize : ls.size = 4) (hW : (rest.map fun v => v.category).sum ≤ 8) (hdg : decode cL_law pc = .ok (.invokestatic 9, 3)) (hf : cells ≤ room_1.cells ∧ slots ≤ room_1.slots)
    (kk : W p l e room_1 s m #[Value.ref b] below meth c H locs cells slots Q (F0 m (pc + 3) ls (.int (iI (cz xs L k)) :: rest))) : W p l e room_1 s m #[Value.ref b] below meth c H locs cells slots Q (F0 m pc ls (.int (iI k) :: .ref b :: rest)) := by
  refine vp_callSi (va_runS (As := [.ref b, .int (iI k)]) (rest := rest) ⟨hx, hb, hml, hown, hts⟩ (mx0_cell l hL k hk) (va_cwS 2 hts (lw_S q207 q208 q30 q209) rfl rfl rfl (by decide +kernel) ⟨Nat.le_of_ble_eq_true rfl, Nat.le_of_ble_eq_true rfl⟩) ⟨blindX, fun U hU hW => ⟨rfl, va_X.moved hW.alike (by rw [hU]; exact hX.kept (hS.2.1 b hbl hbA)), by rw [hU]; exact Nat.lt_of_lt_of_le hbl hS.1⟩⟩ rfl rfl hsize rfl (lv_room hW) hdg hf).run ?_
  rintro r ⟨z, rfl, hz⟩
  rw [hz]
  exact kk
end LB
/-- at pc, with i ints of the script read, the two objects stand to one another as Inv says: the law comes to its end -/
def HdAt (p : Program) (l : Launch) (e : Env) (s : State) (m : MethodId) (below : List Frame) (meth : Method) (c : Code) (D : va_G) (b : Nat) (ad bd : Nat → Nat) (dB dN dM dZ : ClassId) (Cw Rw : Int) (pc : Nat) (i : Int) : Prop :=
  ∀ (n hc cn : Int) (Lf Bt Wd Hg FB HO CA SS SH : Int → Int) (lh : List Int) (Ce Lf' Bt' Wd' Hg' Th : Int → Int) (H : Heap) (locs : List Loc) (ls : Array Slot), Inv Cw Rw n hc Lf Bt Wd Hg FB HO lh Ce Lf' Bt' Wd' Hg' Th →
    va_P D vwCl (XW ad dB dN Cw Rw n hc cn Lf Bt Wd Hg FB HO CA SS SH ++ MW bd dM dZ Cw Rw Ce Lf' Bt' Wd' Hg' Th) H → va_D (fun q : Nat => s.heap.size ≤ q) (XW ad dB dN Cw Rw n hc cn Lf Bt Wd Hg FB HO CA SS SH ++ MW bd dM dZ Cw Rw Ce Lf' Bt' Wd' Hg' Th) → va_S (fun q : Nat => s.heap.size ≤ q) s.heap H locs →
    lv_has ls 4 [(0, .ref b), (1, .ref (ad 0)), (2, .ref (bd 0)), (3, .int (iI i))] → W p l e room_1 s m #[Value.ref b] below meth c H locs 600000 7290000 (lw_Z below #[Value.ref b] s) (F0 m pc ls [])
end
section
/-! the law: a case a theorem; its loop -/
set_option maxHeartbeats 4000000 in
set_option maxRecDepth 100000 in
theorem la_look {p : Program} {l : Launch} {e : Env} {s : State} {m : MethodId} {below : List Frame} {meth : Method} {c : Code} {D : va_G} {b L : Nat} {xs : Nat → Int32} {ad bd : Nat → Nat} {dB dN dM dZ : ClassId} {Cw Rw : Int} (hL : L ≤ 258) (C0 : lw_At p s m meth c b L xs) (hK1 : va_K D vwCl (tX dB dN) s) (hK2 : va_K D vwCl (tM dM dZ) s) {i : Int} (hi : 2 ≤ i ∧ i + 4 ≤ (L : Int)) (kn : HdAt p l e s m below meth c D b ad bd dB dN dM dZ Cw Rw 354 i) : HdAt p l e s m below meth c D b ad bd dB dN dM dZ Cw Rw 190 i := by
  intro n hc cn Lf Bt Wd Hg FB HO CA SS SH lh Ce Lf' Bt' Wd' Hg' Th H locs ls hI hP hD hS hl
  obtain ⟨hx, hb, hr, hml, hown, hts0, hX, hbl, hlocks, hgv⟩ := C0
  have hts : ∀ w ∈ lw_all, w.before #[Value.ref b] s = true := fun w h => hts0 w (lw_all_tbl h)
  have hA : ∀ q : Nat, s.heap.size ≤ q → (fun q : Nat => s.heap.size ≤ q) q := fun _ h => h
  have hbA : ¬ (fun q : Nat => s.heap.size ≤ q) b := Nat.not_le.mpr hbl
  have hI0 := hI
  obtain ⟨hC, hR, ⟨⟨b1, b2, b3, b4⟩, -, hth, -⟩, iC, iF, iH⟩ := hI0
  have hce := InvC_ok iC
  have hP1 := hP.sub (ws' := XW ad dB dN Cw Rw n hc cn Lf Bt Wd Hg FB HO CA SS SH) [0, 1, 2, 3, 4, 5, 6, 7, 8, 9] rfl
  have hP2 := hP.sub (ws' := MW bd dM dZ Cw Rw Ce Lf' Bt' Wd' Hg' Th) [10, 11, 12, 13, 14, 15, 16] rfl
  refine lv_aload_n hx hb dL_law_190 rfl (lv_at hl 1 rfl) ?_
  refine lv_aload_n hx hb dL_law_191 rfl (lv_at hl 0 rfl) ?_
  refine lv_iload_n hx hb dL_law_192 rfl (lv_at hl 3 rfl) ?_
  refine ri_iconst hx hb dL_law_193 ?_
  refine ri_iadd hx hb dL_law_194 ?_
  refine la_sld hx hb hX hbl hbA hS hL (by omega) dL_law_195 ?_
  refine lv_aload_n hx hb dL_law_196 rfl (lv_at hl 0 rfl) ?_
  refine lv_iload_n hx hb dL_law_197 rfl (lv_at hl 3 rfl) ?_
  refine ri_iconst hx hb dL_law_198 ?_
  refine ri_iadd hx hb dL_law_199 ?_
  refine la_sld hx hb hX hbl hbA hS hL (by omega) dL_law_200 ?_
  refine ri_callR (rest := []) (ci := 0) (q0 := 0) (mx1_look l (xz xs (i + 1)) (xz xs (i + 2)) (xz_rng xs _) (xz_rng xs _) b3) hx hb hml hown hts (cwV 2 hts (lw_V q178 q179 q180 q31 q181) rfl rfl rfl (by decide +kernel) ⟨Nat.le_of_ble_eq_true rfl, Nat.le_of_ble_eq_true rfl⟩) hK1 hP1 rfl rfl rfl hl.1 rfl (Nat.le_of_ble_eq_true rfl) dL_law_201 ⟨Nat.le_refl _, Nat.le_refl _⟩ (fun z1 hz1 => ?_)
  refine lv_aload_n hx hb dL_law_204 rfl (lv_at hl 2 rfl) ?_
  refine lv_aload_n hx hb dL_law_205 rfl (lv_at hl 0 rfl) ?_
  refine lv_iload_n hx hb dL_law_206 rfl (lv_at hl 3 rfl) ?_
  refine ri_iconst hx hb dL_law_207 ?_
  refine ri_iadd hx hb dL_law_208 ?_
  refine la_sld hx hb hX hbl hbA hS hL (by omega) dL_law_209 ?_
  refine lv_aload_n hx hb dL_law_210 rfl (lv_at hl 0 rfl) ?_
  refine lv_iload_n hx hb dL_law_211 rfl (lv_at hl 3 rfl) ?_
  refine ri_iconst hx hb dL_law_212 ?_
  refine ri_iadd hx hb dL_law_213 ?_
  refine la_sld hx hb hX hbl hbA hS hL (by omega) dL_law_214 ?_
  refine ri_callR (rest := [.int (iI z1)]) (ci := 1) (q0 := 0) (mx2_look l (xz xs (i + 1)) (xz xs (i + 2)) (xz_rng xs _) (xz_rng xs _) hth) hx hb hml hown hts (cwV 2 hts (lw_V q278 q279 q280 q32 q281) rfl rfl rfl (by decide +kernel) ⟨Nat.le_of_ble_eq_true rfl, Nat.le_of_ble_eq_true rfl⟩) hK2 hP2 rfl rfl rfl hl.1 rfl (Nat.le_of_ble_eq_true rfl) dL_law_215 ⟨Nat.le_refl _, Nat.le_refl _⟩ (fun z2 hz2 => ?_)
  refine lv_icmp_eq (tgt := 354) hx hb dL_law_218 (by decide) (fun _ => ?_) (fun h9 => absurd (congrArg iI (look_op hI hz1 hz2)) h9)
  exact kn n hc cn Lf Bt Wd Hg FB HO CA SS SH lh Ce Lf' Bt' Wd' Hg' Th H locs ls hI hP hD hS hl
set_option maxHeartbeats 4000000 in
set_option maxRecDepth 100000 in
theorem la_owner {p : Program} {l : Launch} {e : Env} {s : State} {m : MethodId} {below : List Frame} {meth : Method} {c : Code} {D : va_G} {b L : Nat} {xs : Nat → Int32} {ad bd : Nat → Nat} {dB dN dM dZ : ClassId} {Cw Rw : Int} (hL : L ≤ 258) (C0 : lw_At p s m meth c b L xs) (hK1 : va_K D vwCl (tX dB dN) s) (hK2 : va_K D vwCl (tM dM dZ) s) {i : Int} (hi : 2 ≤ i ∧ i + 4 ≤ (L : Int)) (kn : HdAt p l e s m below meth c D b ad bd dB dN dM dZ Cw Rw 354 i) : HdAt p l e s m below meth c D b ad bd dB dN dM dZ Cw Rw 223 i := by
  intro n hc cn Lf Bt Wd Hg FB HO CA SS SH lh Ce Lf' Bt' Wd' Hg' Th H locs ls hI hP hD hS hl
  obtain ⟨hx, hb, hr, hml, hown, hts0, hX, hbl, hlocks, hgv⟩ := C0
  have hts : ∀ w ∈ lw_all, w.before #[Value.ref b] s = true := fun w h => hts0 w (lw_all_tbl h)
  have hA : ∀ q : Nat, s.heap.size ≤ q → (fun q : Nat => s.heap.size ≤ q) q := fun _ h => h
  have hbA : ¬ (fun q : Nat => s.heap.size ≤ q) b := Nat.not_le.mpr hbl
  have hI0 := hI
  obtain ⟨hC, hR, ⟨⟨b1, b2, b3, b4⟩, -, hth, -⟩, iC, iF, iH⟩ := hI0
  have hce := InvC_ok iC
  have hP1 := hP.sub (ws' := XW ad dB dN Cw Rw n hc cn Lf Bt Wd Hg FB HO CA SS SH) [0, 1, 2, 3, 4, 5, 6, 7, 8, 9] rfl
  have hP2 := hP.sub (ws' := MW bd dM dZ Cw Rw Ce Lf' Bt' Wd' Hg' Th) [10, 11, 12, 13, 14, 15, 16] rfl
  refine lv_aload_n hx hb dL_law_223 rfl (lv_at hl 1 rfl) ?_
  refine lv_aload_n hx hb dL_law_224 rfl (lv_at hl 0 rfl) ?_
  refine lv_iload_n hx hb dL_law_225 rfl (lv_at hl 3 rfl) ?_
  refine ri_iconst hx hb dL_law_226 ?_
  refine ri_iadd hx hb dL_law_227 ?_
  refine la_sld hx hb hX hbl hbA hS hL (by omega) dL_law_228 ?_
  refine lv_aload_n hx hb dL_law_229 rfl (lv_at hl 0 rfl) ?_
  refine lv_iload_n hx hb dL_law_230 rfl (lv_at hl 3 rfl) ?_
  refine ri_iconst hx hb dL_law_231 ?_
  refine ri_iadd hx hb dL_law_232 ?_
  refine la_sld hx hb hX hbl hbA hS hL (by omega) dL_law_233 ?_
  refine ri_callR (rest := []) (ci := 0) (q0 := 0) (mx1_owner l (xz xs (i + 1)) (xz xs (i + 2)) (xz_rng xs _) (xz_rng xs _) b1 b2 b3 b4 hC hR) hx hb hml hown hts (cwV 2 hts (lw_V q182 q183 q184 q31 q185) rfl rfl rfl (by decide +kernel) ⟨Nat.le_of_ble_eq_true rfl, Nat.le_of_ble_eq_true rfl⟩) hK1 hP1 rfl rfl rfl hl.1 rfl (Nat.le_of_ble_eq_true rfl) dL_law_234 ⟨Nat.le_refl _, Nat.le_refl _⟩ (fun z1 hz1 => ?_)
  refine lv_aload_n hx hb dL_law_237 rfl (lv_at hl 2 rfl) ?_
  refine lv_aload_n hx hb dL_law_238 rfl (lv_at hl 0 rfl) ?_
  refine lv_iload_n hx hb dL_law_239 rfl (lv_at hl 3 rfl) ?_
  refine ri_iconst hx hb dL_law_240 ?_
  refine ri_iadd hx hb dL_law_241 ?_
  refine la_sld hx hb hX hbl hbA hS hL (by omega) dL_law_242 ?_
  refine lv_aload_n hx hb dL_law_243 rfl (lv_at hl 0 rfl) ?_
  refine lv_iload_n hx hb dL_law_244 rfl (lv_at hl 3 rfl) ?_
  refine ri_iconst hx hb dL_law_245 ?_
  refine ri_iadd hx hb dL_law_246 ?_
  refine la_sld hx hb hX hbl hbA hS hL (by omega) dL_law_247 ?_
  refine ri_callR (rest := [.int (iI z1)]) (ci := 1) (q0 := 0) (mx2_owner l (xz xs (i + 1)) (xz xs (i + 2)) (xz_rng xs _) (xz_rng xs _) hC hR hce) hx hb hml hown hts (cwV 2 hts (lw_V q282 q283 q284 q32 q285) rfl rfl rfl (by decide +kernel) ⟨Nat.le_of_ble_eq_true rfl, Nat.le_of_ble_eq_true rfl⟩) hK2 hP2 rfl rfl rfl hl.1 rfl (Nat.le_of_ble_eq_true rfl) dL_law_248 ⟨Nat.le_refl _, Nat.le_refl _⟩ (fun z2 hz2 => ?_)
  refine lv_icmp_eq (tgt := 354) hx hb dL_law_251 (by decide) (fun _ => ?_) (fun h9 => absurd (congrArg iI (owner_op hI hz1 hz2)) h9)
  exact kn n hc cn Lf Bt Wd Hg FB HO CA SS SH lh Ce Lf' Bt' Wd' Hg' Th H locs ls hI hP hD hS hl
set_option maxHeartbeats 4000000 in
set_option maxRecDepth 100000 in
theorem la_free {p : Program} {l : Launch} {e : Env} {s : State} {m : MethodId} {below : List Frame} {meth : Method} {c : Code} {D : va_G} {b L : Nat} {xs : Nat → Int32} {ad bd : Nat → Nat} {dB dN dM dZ : ClassId} {Cw Rw : Int} (hL : L ≤ 258) (C0 : lw_At p s m meth c b L xs) (hK1 : va_K D vwCl (tX dB dN) s) (hK2 : va_K D vwCl (tM dM dZ) s) {i : Int} (hi : 2 ≤ i ∧ i + 4 ≤ (L : Int)) (kn : HdAt p l e s m below meth c D b ad bd dB dN dM dZ Cw Rw 354 i) : HdAt p l e s m below meth c D b ad bd dB dN dM dZ Cw Rw 256 i := by
  intro n hc cn Lf Bt Wd Hg FB HO CA SS SH lh Ce Lf' Bt' Wd' Hg' Th H locs ls hI hP hD hS hl
  obtain ⟨hx, hb, hr, hml, hown, hts0, hX, hbl, hlocks, hgv⟩ := C0
  have hts : ∀ w ∈ lw_all, w.before #[Value.ref b] s = true := fun w h => hts0 w (lw_all_tbl h)
  have hA : ∀ q : Nat, s.heap.size ≤ q → (fun q : Nat => s.heap.size ≤ q) q := fun _ h => h
  have hbA : ¬ (fun q : Nat => s.heap.size ≤ q) b := Nat.not_le.mpr hbl
  have hI0 := hI
  obtain ⟨hC, hR, ⟨⟨b1, b2, b3, b4⟩, -, hth, -⟩, iC, iF, iH⟩ := hI0
  have hce := InvC_ok iC
  have hP1 := hP.sub (ws' := XW ad dB dN Cw Rw n hc cn Lf Bt Wd Hg FB HO CA SS SH) [0, 1, 2, 3, 4, 5, 6, 7, 8, 9] rfl
  have hP2 := hP.sub (ws' := MW bd dM dZ Cw Rw Ce Lf' Bt' Wd' Hg' Th) [10, 11, 12, 13, 14, 15, 16] rfl
  refine lv_aload_n hx hb dL_law_256 rfl (lv_at hl 1 rfl) ?_
  refine ri_callR (rest := []) (ci := 0) (q0 := 0) (mx1_freeCells l b3) hx hb hml hown hts (cwV 0 hts (lw_V q186 q187 q188 q31 q189) rfl rfl rfl (by decide +kernel) ⟨Nat.le_of_ble_eq_true rfl, Nat.le_of_ble_eq_true rfl⟩) hK1 hP1 rfl rfl rfl hl.1 rfl (Nat.le_of_ble_eq_true rfl) dL_law_257 ⟨Nat.le_refl _, Nat.le_refl _⟩ (fun z1 hz1 => ?_)
  refine lv_aload_n hx hb dL_law_260 rfl (lv_at hl 2 rfl) ?_
  refine ri_callR (rest := [.int (iI z1)]) (ci := 1) (q0 := 0) (mx2_freeCells l hC hR hce) hx hb hml hown hts (cwV 0 hts (lw_V q286 q287 q288 q32 q289) rfl rfl rfl (by decide +kernel) ⟨Nat.le_of_ble_eq_true rfl, Nat.le_of_ble_eq_true rfl⟩) hK2 hP2 rfl rfl rfl hl.1 rfl (Nat.le_of_ble_eq_true rfl) dL_law_261 ⟨Nat.le_refl _, Nat.le_refl _⟩ (fun z2 hz2 => ?_)
  refine lv_icmp_eq (tgt := 354) hx hb dL_law_264 (by decide) (fun _ => ?_) (fun h9 => absurd (congrArg iI (free_op hI hz1 hz2)) h9)
  exact kn n hc cn Lf Bt Wd Hg FB HO CA SS SH lh Ce Lf' Bt' Wd' Hg' Th H locs ls hI hP hD hS hl
set_option maxHeartbeats 4000000 in
set_option maxRecDepth 100000 in
theorem la_holes {p : Program} {l : Launch} {e : Env} {s : State} {m : MethodId} {below : List Frame} {meth : Method} {c : Code} {D : va_G} {b L : Nat} {xs : Nat → Int32} {ad bd : Nat → Nat} {dB dN dM dZ : ClassId} {Cw Rw : Int} (hL : L ≤ 258) (C0 : lw_At p s m meth c b L xs) (hK1 : va_K D vwCl (tX dB dN) s) (hK2 : va_K D vwCl (tM dM dZ) s) {i : Int} (hi : 2 ≤ i ∧ i + 4 ≤ (L : Int)) (kn : HdAt p l e s m below meth c D b ad bd dB dN dM dZ Cw Rw 354 i) : HdAt p l e s m below meth c D b ad bd dB dN dM dZ Cw Rw 269 i := by
  intro n hc cn Lf Bt Wd Hg FB HO CA SS SH lh Ce Lf' Bt' Wd' Hg' Th H locs ls hI hP hD hS hl
  obtain ⟨hx, hb, hr, hml, hown, hts0, hX, hbl, hlocks, hgv⟩ := C0
  have hts : ∀ w ∈ lw_all, w.before #[Value.ref b] s = true := fun w h => hts0 w (lw_all_tbl h)
  have hA : ∀ q : Nat, s.heap.size ≤ q → (fun q : Nat => s.heap.size ≤ q) q := fun _ h => h
  have hbA : ¬ (fun q : Nat => s.heap.size ≤ q) b := Nat.not_le.mpr hbl
  have hI0 := hI
  obtain ⟨hC, hR, ⟨⟨b1, b2, b3, b4⟩, -, hth, -⟩, iC, iF, iH⟩ := hI0
  have hce := InvC_ok iC
  have hP1 := hP.sub (ws' := XW ad dB dN Cw Rw n hc cn Lf Bt Wd Hg FB HO CA SS SH) [0, 1, 2, 3, 4, 5, 6, 7, 8, 9] rfl
  have hP2 := hP.sub (ws' := MW bd dM dZ Cw Rw Ce Lf' Bt' Wd' Hg' Th) [10, 11, 12, 13, 14, 15, 16] rfl
  refine lv_aload_n hx hb dL_law_269 rfl (lv_at hl 1 rfl) ?_
  refine ri_callR (rest := []) (ci := 0) (q0 := 0) (mx1_holes l) hx hb hml hown hts (cwV 0 hts (lw_V q190 q191 q192 q31 q193) rfl rfl rfl (by decide +kernel) ⟨Nat.le_of_ble_eq_true rfl, Nat.le_of_ble_eq_true rfl⟩) hK1 hP1 rfl rfl rfl hl.1 rfl (Nat.le_of_ble_eq_true rfl) dL_law_270 ⟨Nat.le_refl _, Nat.le_refl _⟩ (fun z1 hz1 => ?_)
  refine lv_aload_n hx hb dL_law_273 rfl (lv_at hl 2 rfl) ?_
  refine ri_callR (rest := [.int (iI z1)]) (ci := 1) (q0 := 0) (mx2_holes l hC hR hce) hx hb hml hown hts (cwV 0 hts (lw_V q290 q291 q292 q32 q293) rfl rfl rfl (by decide +kernel) ⟨Nat.le_of_ble_eq_true rfl, Nat.le_of_ble_eq_true rfl⟩) hK2 hP2 rfl rfl rfl hl.1 rfl (Nat.le_of_ble_eq_true rfl) dL_law_274 ⟨Nat.le_refl _, Nat.le_refl _⟩ (fun z2 hz2 => ?_)
  refine lv_icmp_eq (tgt := 354) hx hb dL_law_277 (by decide) (fun _ => ?_) (fun h9 => absurd (congrArg iI (holes_op hI hz1 hz2)) h9)
  exact kn n hc cn Lf Bt Wd Hg FB HO CA SS SH lh Ce Lf' Bt' Wd' Hg' Th H locs ls hI hP hD hS hl
set_option maxHeartbeats 4000000 in
set_option maxRecDepth 100000 in
theorem la_largest {p : Program} {l : Launch} {e : Env} {s : State} {m : MethodId} {below : List Frame} {meth : Method} {c : Code} {D : va_G} {b L : Nat} {xs : Nat → Int32} {ad bd : Nat → Nat} {dB dN dM dZ : ClassId} {Cw Rw : Int} (hL : L ≤ 258) (C0 : lw_At p s m meth c b L xs) (hK1 : va_K D vwCl (tX dB dN) s) (hK2 : va_K D vwCl (tM dM dZ) s) {i : Int} (hi : 2 ≤ i ∧ i + 4 ≤ (L : Int)) (kn : HdAt p l e s m below meth c D b ad bd dB dN dM dZ Cw Rw 354 i) : HdAt p l e s m below meth c D b ad bd dB dN dM dZ Cw Rw 282 i := by
  intro n hc cn Lf Bt Wd Hg FB HO CA SS SH lh Ce Lf' Bt' Wd' Hg' Th H locs ls hI hP hD hS hl
  obtain ⟨hx, hb, hr, hml, hown, hts0, hX, hbl, hlocks, hgv⟩ := C0
  have hts : ∀ w ∈ lw_all, w.before #[Value.ref b] s = true := fun w h => hts0 w (lw_all_tbl h)
  have hA : ∀ q : Nat, s.heap.size ≤ q → (fun q : Nat => s.heap.size ≤ q) q := fun _ h => h
  have hbA : ¬ (fun q : Nat => s.heap.size ≤ q) b := Nat.not_le.mpr hbl
  have hI0 := hI
  obtain ⟨hC, hR, ⟨⟨b1, b2, b3, b4⟩, -, hth, -⟩, iC, iF, iH⟩ := hI0
  have hce := InvC_ok iC
  have hP1 := hP.sub (ws' := XW ad dB dN Cw Rw n hc cn Lf Bt Wd Hg FB HO CA SS SH) [0, 1, 2, 3, 4, 5, 6, 7, 8, 9] rfl
  have hP2 := hP.sub (ws' := MW bd dM dZ Cw Rw Ce Lf' Bt' Wd' Hg' Th) [10, 11, 12, 13, 14, 15, 16] rfl
  refine lv_aload_n hx hb dL_law_282 rfl (lv_at hl 1 rfl) ?_
  refine ri_callR (rest := []) (ci := 0) (q0 := 0) (mx1_largestHole l (inv_hc hI) (inv_ok hI)) hx hb hml hown hts (cwV 0 hts (lw_V q194 q195 q196 q31 q197) rfl rfl rfl (by decide +kernel) ⟨Nat.le_of_ble_eq_true rfl, Nat.le_of_ble_eq_true rfl⟩) hK1 hP1 rfl rfl rfl hl.1 rfl (Nat.le_of_ble_eq_true rfl) dL_law_283 ⟨Nat.le_refl _, Nat.le_refl _⟩ (fun z1 hz1 => ?_)
  refine lv_aload_n hx hb dL_law_286 rfl (lv_at hl 2 rfl) ?_
  refine ri_callR (rest := [.int (iI z1)]) (ci := 1) (q0 := 0) (mx2_largestHole l hC hR hce) hx hb hml hown hts (cwV 0 hts (lw_V q306 q307 q308 q32 q309) rfl rfl rfl (by decide +kernel) ⟨Nat.le_of_ble_eq_true rfl, Nat.le_of_ble_eq_true rfl⟩) hK2 hP2 rfl rfl rfl hl.1 rfl (Nat.le_of_ble_eq_true rfl) dL_law_287 ⟨Nat.le_refl _, Nat.le_refl _⟩ (fun z2 hz2 => ?_)
  refine lv_icmp_eq (tgt := 354) hx hb dL_law_290 (by decide) (fun _ => ?_) (fun h9 => absurd (congrArg iI (largest_op hI hz1 hz2)) h9)
  exact kn n hc cn Lf Bt Wd Hg FB HO CA SS SH lh Ce Lf' Bt' Wd' Hg' Th H locs ls hI hP hD hS hl
set_option maxHeartbeats 4000000 in
set_option maxRecDepth 100000 in
theorem la_best {p : Program} {l : Launch} {e : Env} {s : State} {m : MethodId} {below : List Frame} {meth : Method} {c : Code} {D : va_G} {b L : Nat} {xs : Nat → Int32} {ad bd : Nat → Nat} {dB dN dM dZ : ClassId} {Cw Rw : Int} (hL : L ≤ 258) (C0 : lw_At p s m meth c b L xs) (hK1 : va_K D vwCl (tX dB dN) s) (hK2 : va_K D vwCl (tM dM dZ) s) {i : Int} (hi : 2 ≤ i ∧ i + 4 ≤ (L : Int)) (kn : HdAt p l e s m below meth c D b ad bd dB dN dM dZ Cw Rw 354 i) : HdAt p l e s m below meth c D b ad bd dB dN dM dZ Cw Rw 295 i := by
  intro n hc cn Lf Bt Wd Hg FB HO CA SS SH lh Ce Lf' Bt' Wd' Hg' Th H locs ls hI hP hD hS hl
  obtain ⟨hx, hb, hr, hml, hown, hts0, hX, hbl, hlocks, hgv⟩ := C0
  have hts : ∀ w ∈ lw_all, w.before #[Value.ref b] s = true := fun w h => hts0 w (lw_all_tbl h)
  have hA : ∀ q : Nat, s.heap.size ≤ q → (fun q : Nat => s.heap.size ≤ q) q := fun _ h => h
  have hbA : ¬ (fun q : Nat => s.heap.size ≤ q) b := Nat.not_le.mpr hbl
  have hI0 := hI
  obtain ⟨hC, hR, ⟨⟨b1, b2, b3, b4⟩, -, hth, -⟩, iC, iF, iH⟩ := hI0
  have hce := InvC_ok iC
  have hP1 := hP.sub (ws' := XW ad dB dN Cw Rw n hc cn Lf Bt Wd Hg FB HO CA SS SH) [0, 1, 2, 3, 4, 5, 6, 7, 8, 9] rfl
  have hP2 := hP.sub (ws' := MW bd dM dZ Cw Rw Ce Lf' Bt' Wd' Hg' Th) [10, 11, 12, 13, 14, 15, 16] rfl
  refine lv_aload_n hx hb dL_law_295 rfl (lv_at hl 1 rfl) ?_
  refine lv_aload_n hx hb dL_law_296 rfl (lv_at hl 0 rfl) ?_
  refine lv_iload_n hx hb dL_law_297 rfl (lv_at hl 3 rfl) ?_
  refine ri_iconst hx hb dL_law_298 ?_
  refine ri_iadd hx hb dL_law_299 ?_
  refine la_sld hx hb hX hbl hbA hS hL (by omega) dL_law_300 ?_
  refine lv_aload_n hx hb dL_law_301 rfl (lv_at hl 0 rfl) ?_
  refine lv_iload_n hx hb dL_law_302 rfl (lv_at hl 3 rfl) ?_
  refine ri_iconst hx hb dL_law_303 ?_
  refine ri_iadd hx hb dL_law_304 ?_
  refine la_sld hx hb hX hbl hbA hS hL (by omega) dL_law_305 ?_
  refine ri_callR (rest := []) (ci := 0) (q0 := 0) (mx1_bestPlace l (xz xs (i + 1)) (xz xs (i + 2)) (xz_rng xs _) (xz_rng xs _) (inv_hc hI) (inv_ok hI)) hx hb hml hown hts (cwV 2 hts (lw_V q198 q199 q200 q31 q201) rfl rfl rfl (by decide +kernel) ⟨Nat.le_of_ble_eq_true rfl, Nat.le_of_ble_eq_true rfl⟩) hK1 hP1 rfl rfl rfl hl.1 rfl (Nat.le_of_ble_eq_true rfl) dL_law_306 ⟨Nat.le_refl _, Nat.le_refl _⟩ (fun z1 hz1 => ?_)
  refine lv_aload_n hx hb dL_law_309 rfl (lv_at hl 2 rfl) ?_
  refine lv_aload_n hx hb dL_law_310 rfl (lv_at hl 0 rfl) ?_
  refine lv_iload_n hx hb dL_law_311 rfl (lv_at hl 3 rfl) ?_
  refine ri_iconst hx hb dL_law_312 ?_
  refine ri_iadd hx hb dL_law_313 ?_
  refine la_sld hx hb hX hbl hbA hS hL (by omega) dL_law_314 ?_
  refine lv_aload_n hx hb dL_law_315 rfl (lv_at hl 0 rfl) ?_
  refine lv_iload_n hx hb dL_law_316 rfl (lv_at hl 3 rfl) ?_
  refine ri_iconst hx hb dL_law_317 ?_
  refine ri_iadd hx hb dL_law_318 ?_
  refine la_sld hx hb hX hbl hbA hS hL (by omega) dL_law_319 ?_
  refine ri_callR (rest := [.int (iI z1)]) (ci := 1) (q0 := 0) (mx2_bestPlace l (xz xs (i + 1)) (xz xs (i + 2)) (xz_rng xs _) (xz_rng xs _) hC hR hce) hx hb hml hown hts (cwV 2 hts (lw_V q310 q311 q312 q32 q313) rfl rfl rfl (by decide +kernel) ⟨Nat.le_of_ble_eq_true rfl, Nat.le_of_ble_eq_true rfl⟩) hK2 hP2 rfl rfl rfl hl.1 rfl (Nat.le_of_ble_eq_true rfl) dL_law_320 ⟨Nat.le_refl _, Nat.le_refl _⟩ (fun z2 hz2 => ?_)
  refine lv_icmp_eq (tgt := 354) hx hb dL_law_323 (by decide) (fun _ => ?_) (fun h9 => absurd (congrArg iI (best_op hI hz1 hz2)) h9)
  exact kn n hc cn Lf Bt Wd Hg FB HO CA SS SH lh Ce Lf' Bt' Wd' Hg' Th H locs ls hI hP hD hS hl
set_option maxHeartbeats 4000000 in
set_option maxRecDepth 100000 in
theorem la_fit {p : Program} {l : Launch} {e : Env} {s : State} {m : MethodId} {below : List Frame} {meth : Method} {c : Code} {D : va_G} {b L : Nat} {xs : Nat → Int32} {ad bd : Nat → Nat} {dB dN dM dZ : ClassId} {Cw Rw : Int} (hL : L ≤ 258) (C0 : lw_At p s m meth c b L xs) (hK1 : va_K D vwCl (tX dB dN) s) (hK2 : va_K D vwCl (tM dM dZ) s) {i : Int} (hi : 2 ≤ i ∧ i + 4 ≤ (L : Int)) (kn : HdAt p l e s m below meth c D b ad bd dB dN dM dZ Cw Rw 354 i) : HdAt p l e s m below meth c D b ad bd dB dN dM dZ Cw Rw 328 i := by
  intro n hc cn Lf Bt Wd Hg FB HO CA SS SH lh Ce Lf' Bt' Wd' Hg' Th H locs ls hI hP hD hS hl
  obtain ⟨hx, hb, hr, hml, hown, hts0, hX, hbl, hlocks, hgv⟩ := C0
  have hts : ∀ w ∈ lw_all, w.before #[Value.ref b] s = true := fun w h => hts0 w (lw_all_tbl h)
  have hA : ∀ q : Nat, s.heap.size ≤ q → (fun q : Nat => s.heap.size ≤ q) q := fun _ h => h
  have hbA : ¬ (fun q : Nat => s.heap.size ≤ q) b := Nat.not_le.mpr hbl
  have hI0 := hI
  obtain ⟨hC, hR, ⟨⟨b1, b2, b3, b4⟩, -, hth, -⟩, iC, iF, iH⟩ := hI0
  have hce := InvC_ok iC
  have hP1 := hP.sub (ws' := XW ad dB dN Cw Rw n hc cn Lf Bt Wd Hg FB HO CA SS SH) [0, 1, 2, 3, 4, 5, 6, 7, 8, 9] rfl
  have hP2 := hP.sub (ws' := MW bd dM dZ Cw Rw Ce Lf' Bt' Wd' Hg' Th) [10, 11, 12, 13, 14, 15, 16] rfl
  refine lv_aload_n hx hb dL_law_328 rfl (lv_at hl 1 rfl) ?_
  refine ri_callR (rest := []) (ci := 0) (q0 := 0) (mx1_fitting l (inv_hc hI) (inv_ok hI)) hx hb hml hown hts (cwV 0 hts (lw_V q202 q203 q204 q31 q205) rfl rfl rfl (by decide +kernel) ⟨Nat.le_of_ble_eq_true rfl, Nat.le_of_ble_eq_true rfl⟩) hK1 hP1 rfl rfl rfl hl.1 rfl (Nat.le_of_ble_eq_true rfl) dL_law_329 ⟨Nat.le_refl _, Nat.le_refl _⟩ (fun z1 hz1 => ?_)
  refine lv_aload_n hx hb dL_law_332 rfl (lv_at hl 2 rfl) ?_
  refine ri_callR (rest := [.int (iI z1)]) (ci := 1) (q0 := 0) (mx2_fitting l hC hR hce) hx hb hml hown hts (cwV 0 hts (lw_V q314 q315 q316 q32 q317) rfl rfl rfl (by decide +kernel) ⟨Nat.le_of_ble_eq_true rfl, Nat.le_of_ble_eq_true rfl⟩) hK2 hP2 rfl rfl rfl hl.1 rfl (Nat.le_of_ble_eq_true rfl) dL_law_333 ⟨Nat.le_refl _, Nat.le_refl _⟩ (fun z2 hz2 => ?_)
  refine lv_icmp_eq (tgt := 354) hx hb dL_law_336 (by decide) (fun _ => ?_) (fun h9 => absurd (congrArg iI (fit_op hI hz1 hz2)) h9)
  exact kn n hc cn Lf Bt Wd Hg FB HO CA SS SH lh Ce Lf' Bt' Wd' Hg' Th H locs ls hI hP hD hS hl
set_option maxHeartbeats 4000000 in
set_option maxRecDepth 100000 in
theorem la_remove {p : Program} {l : Launch} {e : Env} {s : State} {m : MethodId} {below : List Frame} {meth : Method} {c : Code} {D : va_G} {b L : Nat} {xs : Nat → Int32} {ad bd : Nat → Nat} {dB dN dM dZ : ClassId} {Cw Rw : Int} (hL : L ≤ 258) (C0 : lw_At p s m meth c b L xs) (hK1 : va_K D vwCl (tX dB dN) s) (hK2 : va_K D vwCl (tM dM dZ) s) {i : Int} (hi : 2 ≤ i ∧ i + 4 ≤ (L : Int)) (kn : HdAt p l e s m below meth c D b ad bd dB dN dM dZ Cw Rw 354 i) : HdAt p l e s m below meth c D b ad bd dB dN dM dZ Cw Rw 167 i := by
  intro n hc cn Lf Bt Wd Hg FB HO CA SS SH lh Ce Lf' Bt' Wd' Hg' Th H locs ls hI hP hD hS hl
  obtain ⟨hx, hb, hr, hml, hown, hts0, hX, hbl, hlocks, hgv⟩ := C0
  have hts : ∀ w ∈ lw_all, w.before #[Value.ref b] s = true := fun w h => hts0 w (lw_all_tbl h)
  have hA : ∀ q : Nat, s.heap.size ≤ q → (fun q : Nat => s.heap.size ≤ q) q := fun _ h => h
  have hbA : ¬ (fun q : Nat => s.heap.size ≤ q) b := Nat.not_le.mpr hbl
  have hI0 := hI
  obtain ⟨hC, hR, ⟨⟨b1, b2, b3, b4⟩, -, hth, -⟩, iC, iF, iH⟩ := hI0
  have hce := InvC_ok iC
  refine lv_aload_n hx hb dL_law_167 rfl (lv_at hl 1 rfl) ?_
  refine lv_aload_n hx hb dL_law_168 rfl (lv_at hl 0 rfl) ?_
  refine lv_iload_n hx hb dL_law_169 rfl (lv_at hl 3 rfl) ?_
  refine ri_iconst hx hb dL_law_170 ?_
  refine ri_iadd hx hb dL_law_171 ?_
  refine la_sld hx hb hX hbl hbA hS hL (by omega) dL_law_172 ?_
  refine la_callI (rest := []) (wr := (MW bd dM dZ Cw Rw Ce Lf' Bt' Wd' Hg' Th)) (ci := 0) (q0 := 0) (mx1_remove l (xz xs (i + 1)) hC hR (xz_rng xs _) iF.1 b3 (inv_rec hI) _) hx hb hml hown hts (cwV 1 hts (lw_V q154 q155 q156 q31 q157) rfl rfl rfl (by decide +kernel) ⟨Nat.le_of_ble_eq_true rfl, Nat.le_of_ble_eq_true rfl⟩) hK1 hP hD hS hA [0, 1, 2, 3, 4, 5, 6, 7, 8, 9] [10, 11, 12, 13, 14, 15, 16] rfl rfl rfl (by decide) (by decide) (by decide) rfl rfl rfl hl.1 rfl (Nat.le_of_ble_eq_true rfl) dL_law_173 ⟨Nat.le_refl _, Nat.le_refl _⟩ (fun z1 u H locs hz1 hP hD hS => ?_)
  obtain ⟨n1, hc1, W1, F1, B1, S1, S2⟩ := u
  replace hP : va_P D vwCl ((MW bd dM dZ Cw Rw Ce Lf' Bt' Wd' Hg' Th) ++ (XW ad dB dN Cw Rw n1 hc1 cn Lf Bt W1 Hg F1 B1 CA S1 S2)) H := hP
  replace hD : va_D (fun q : Nat => s.heap.size ≤ q) ((MW bd dM dZ Cw Rw Ce Lf' Bt' Wd' Hg' Th) ++ (XW ad dB dN Cw Rw n1 hc1 cn Lf Bt W1 Hg F1 B1 CA S1 S2)) := hD
  refine lv_aload_n hx hb dL_law_176 rfl (lv_at hl 2 rfl) ?_
  refine lv_aload_n hx hb dL_law_177 rfl (lv_at hl 0 rfl) ?_
  refine lv_iload_n hx hb dL_law_178 rfl (lv_at hl 3 rfl) ?_
  refine ri_iconst hx hb dL_law_179 ?_
  refine ri_iadd hx hb dL_law_180 ?_
  refine la_sld hx hb hX hbl hbA hS hL (by omega) dL_law_181 ?_
  refine la_callI (rest := [.int (iI z1)]) (wr := (XW ad dB dN Cw Rw n1 hc1 cn Lf Bt W1 Hg F1 B1 CA S1 S2)) (ci := 1) (q0 := 0) (mx2_remove l (xz xs (i + 1)) (xz_rng xs _) hth (inv_rec' hI) _) hx hb hml hown hts (cwV 1 hts (lw_V q270 q271 q272 q32 q273) rfl rfl rfl (by decide +kernel) ⟨Nat.le_of_ble_eq_true rfl, Nat.le_of_ble_eq_true rfl⟩) hK2 hP hD hS hA [0, 1, 2, 3, 4, 5, 6] [7, 8, 9, 10, 11, 12, 13, 14, 15, 16] rfl rfl rfl (by decide) (by decide) (by decide) rfl rfl rfl hl.1 rfl (Nat.le_of_ble_eq_true rfl) dL_law_182 ⟨Nat.le_refl _, Nat.le_refl _⟩ (fun z2 u H locs hz2 hP hD hS => ?_)
  obtain ⟨E2, T2⟩ := u
  replace hP : va_P D vwCl ((XW ad dB dN Cw Rw n1 hc1 cn Lf Bt W1 Hg F1 B1 CA S1 S2) ++ (MW bd dM dZ Cw Rw E2 Lf' Bt' Wd' Hg' T2)) H := hP
  replace hD : va_D (fun q : Nat => s.heap.size ≤ q) ((XW ad dB dN Cw Rw n1 hc1 cn Lf Bt W1 Hg F1 B1 CA S1 S2) ++ (MW bd dM dZ Cw Rw E2 Lf' Bt' Wd' Hg' T2)) := hD
  obtain ⟨ez, lh2, hI2⟩ := remove_op hI hz1 hz2
  refine lv_icmp_eq (tgt := 354) hx hb dL_law_185 (by decide) (fun _ => ?_) (fun h9 => absurd (congrArg iI (ez)) h9)
  exact kn n1 hc1 cn Lf Bt W1 Hg F1 B1 CA S1 S2 lh2 E2 Lf' Bt' Wd' Hg' T2 H locs ls hI2 hP hD hS hl
set_option maxHeartbeats 4000000 in
set_option maxRecDepth 100000 in
theorem la_clear {p : Program} {l : Launch} {e : Env} {s : State} {m : MethodId} {below : List Frame} {meth : Method} {c : Code} {D : va_G} {b L : Nat} {xs : Nat → Int32} {ad bd : Nat → Nat} {dB dN dM dZ : ClassId} {Cw Rw : Int} (hL : L ≤ 258) (C0 : lw_At p s m meth c b L xs) (hK1 : va_K D vwCl (tX dB dN) s) (hK2 : va_K D vwCl (tM dM dZ) s) {i : Int} (hi : 2 ≤ i ∧ i + 4 ≤ (L : Int)) (kn : HdAt p l e s m below meth c D b ad bd dB dN dM dZ Cw Rw 354 i) : HdAt p l e s m below meth c D b ad bd dB dN dM dZ Cw Rw 341 i := by
  intro n hc cn Lf Bt Wd Hg FB HO CA SS SH lh Ce Lf' Bt' Wd' Hg' Th H locs ls hI hP hD hS hl
  obtain ⟨hx, hb, hr, hml, hown, hts0, hX, hbl, hlocks, hgv⟩ := C0
  have hts : ∀ w ∈ lw_all, w.before #[Value.ref b] s = true := fun w h => hts0 w (lw_all_tbl h)
  have hA : ∀ q : Nat, s.heap.size ≤ q → (fun q : Nat => s.heap.size ≤ q) q := fun _ h => h
  have hbA : ¬ (fun q : Nat => s.heap.size ≤ q) b := Nat.not_le.mpr hbl
  have hI0 := hI
  obtain ⟨hC, hR, ⟨⟨b1, b2, b3, b4⟩, -, hth, -⟩, iC, iF, iH⟩ := hI0
  have hce := InvC_ok iC
  refine lv_aload_n hx hb dL_law_341 rfl (lv_at hl 1 rfl) ?_
  refine la_callI (rest := []) (wr := (MW bd dM dZ Cw Rw Ce Lf' Bt' Wd' Hg' Th)) (ci := 0) (q0 := 0) (mx1_clear l hC hR _) hx hb hml hown hts (cwV 0 hts (lw_V q206 q42 q43 q31 q44) rfl rfl rfl (by decide +kernel) ⟨Nat.le_of_ble_eq_true rfl, Nat.le_of_ble_eq_true rfl⟩) hK1 hP hD hS hA [0, 1, 2, 3, 4, 5, 6, 7, 8, 9] [10, 11, 12, 13, 14, 15, 16] rfl rfl rfl (by decide) (by decide) (by decide) rfl rfl rfl hl.1 rfl (Nat.le_of_ble_eq_true rfl) dL_law_342 ⟨Nat.le_refl _, Nat.le_refl _⟩ (fun z1 u H locs hz1 hP hD hS => ?_)
  obtain ⟨W1, F1, B1⟩ := u
  replace hP : va_P D vwCl ((MW bd dM dZ Cw Rw Ce Lf' Bt' Wd' Hg' Th) ++ (XW ad dB dN Cw Rw 0 1 cn Lf Bt W1 Hg F1 B1 CA SS SH)) H := hP
  replace hD : va_D (fun q : Nat => s.heap.size ≤ q) ((MW bd dM dZ Cw Rw Ce Lf' Bt' Wd' Hg' Th) ++ (XW ad dB dN Cw Rw 0 1 cn Lf Bt W1 Hg F1 B1 CA SS SH)) := hD
  refine lv_aload_n hx hb dL_law_345 rfl (lv_at hl 2 rfl) ?_
  refine la_callI (rest := [.int (iI z1)]) (wr := (XW ad dB dN Cw Rw 0 1 cn Lf Bt W1 Hg F1 B1 CA SS SH)) (ci := 1) (q0 := 0) (mx2_clear l hth _) hx hb hml hown hts (cwV 0 hts (lw_V q318 q319 q320 q32 q321) rfl rfl rfl (by decide +kernel) ⟨Nat.le_of_ble_eq_true rfl, Nat.le_of_ble_eq_true rfl⟩) hK2 hP hD hS hA [0, 1, 2, 3, 4, 5, 6] [7, 8, 9, 10, 11, 12, 13, 14, 15, 16] rfl rfl rfl (by decide) (by decide) (by decide) rfl rfl rfl hl.1 rfl (Nat.le_of_ble_eq_true rfl) dL_law_346 ⟨Nat.le_refl _, Nat.le_refl _⟩ (fun z2 u H locs hz2 hP hD hS => ?_)
  obtain ⟨E2, T2⟩ := u
  replace hP : va_P D vwCl ((XW ad dB dN Cw Rw 0 1 cn Lf Bt W1 Hg F1 B1 CA SS SH) ++ (MW bd dM dZ Cw Rw E2 Lf' Bt' Wd' Hg' T2)) H := hP
  replace hD : va_D (fun q : Nat => s.heap.size ≤ q) ((XW ad dB dN Cw Rw 0 1 cn Lf Bt W1 Hg F1 B1 CA SS SH) ++ (MW bd dM dZ Cw Rw E2 Lf' Bt' Wd' Hg' T2)) := hD
  obtain ⟨ez, lh2, hI2⟩ := clear_op hI hz1 hz2
  refine lv_icmp_eq (tgt := 354) hx hb dL_law_349 (by decide) (fun _ => ?_) (fun h9 => absurd (congrArg iI (ez)) h9)
  exact kn 0 1 cn Lf Bt W1 Hg F1 B1 CA SS SH lh2 E2 Lf' Bt' Wd' Hg' T2 H locs ls hI2 hP hD hS hl
set_option maxHeartbeats 4000000 in
set_option maxRecDepth 100000 in
theorem la_place {p : Program} {l : Launch} {e : Env} {s : State} {m : MethodId} {below : List Frame} {meth : Method} {c : Code} {D : va_G} {b L : Nat} {xs : Nat → Int32} {ad bd : Nat → Nat} {dB dN dM dZ : ClassId} {Cw Rw : Int} (hL : L ≤ 258) (C0 : lw_At p s m meth c b L xs) (hK1 : va_K D vwCl (tX dB dN) s) (hK2 : va_K D vwCl (tM dM dZ) s) {i : Int} (hi : 2 ≤ i ∧ i + 4 ≤ (L : Int)) (kn : HdAt p l e s m below meth c D b ad bd dB dN dM dZ Cw Rw 354 i) : HdAt p l e s m below meth c D b ad bd dB dN dM dZ Cw Rw 108 i := by
  intro n hc cn Lf Bt Wd Hg FB HO CA SS SH lh Ce Lf' Bt' Wd' Hg' Th H locs ls hI hP hD hS hl
  obtain ⟨hx, hb, hr, hml, hown, hts0, hX, hbl, hlocks, hgv⟩ := C0
  have hts : ∀ w ∈ lw_all, w.before #[Value.ref b] s = true := fun w h => hts0 w (lw_all_tbl h)
  have hA : ∀ q : Nat, s.heap.size ≤ q → (fun q : Nat => s.heap.size ≤ q) q := fun _ h => h
  have hbA : ¬ (fun q : Nat => s.heap.size ≤ q) b := Nat.not_le.mpr hbl
  have hI0 := hI
  obtain ⟨hC, hR, ⟨⟨b1, b2, b3, b4⟩, -, hth, -⟩, iC, iF, iH⟩ := hI0
  have hce := InvC_ok iC
  refine lv_aload_n hx hb dL_law_108 rfl (lv_at hl 1 rfl) ?_
  refine lv_aload_n hx hb dL_law_109 rfl (lv_at hl 0 rfl) ?_
  refine lv_iload_n hx hb dL_law_110 rfl (lv_at hl 3 rfl) ?_
  refine ri_iconst hx hb dL_law_111 ?_
  refine ri_iadd hx hb dL_law_112 ?_
  refine la_sld hx hb hX hbl hbA hS hL (by omega) dL_law_113 ?_
  refine lv_aload_n hx hb dL_law_114 rfl (lv_at hl 0 rfl) ?_
  refine lv_iload_n hx hb dL_law_115 rfl (lv_at hl 3 rfl) ?_
  refine ri_iconst hx hb dL_law_116 ?_
  refine ri_iadd hx hb dL_law_117 ?_
  refine la_sld hx hb hX hbl hbA hS hL (by omega) dL_law_118 ?_
  refine lv_aload_n hx hb dL_law_119 rfl (lv_at hl 0 rfl) ?_
  refine lv_iload_n hx hb dL_law_120 rfl (lv_at hl 3 rfl) ?_
  refine ri_iconst hx hb dL_law_121 ?_
  refine ri_iadd hx hb dL_law_122 ?_
  refine la_sld hx hb hX hbl hbA hS hL (by omega) dL_law_123 ?_
  refine ri_if_eq (tgt := 131) hx hb dL_law_124 (by decide) (xz_rng xs _) (fun c124 => ?_) (fun c124 => ?_)
  · refine ri_iconst hx hb dL_law_131 ?_
    refine la_callI (rest := []) (wr := (MW bd dM dZ Cw Rw Ce Lf' Bt' Wd' Hg' Th)) (ci := 0) (q0 := 0) (mx1_place l (xz xs (i + 1)) (xz xs (i + 2)) 0 hC hR (xz_rng xs _) (xz_rng xs _) (by omega) (inv_n hI) (inv_free hI) iF.1 b3 lh iH.1 iH.2.1 iH.2.2.2.1 (inv_box hI) (inv_fit hI) _) hx hb hml hown hts (cwV 3 hts (lw_V q94 q95 q96 q31 q97) rfl rfl rfl (by decide +kernel) ⟨Nat.le_of_ble_eq_true rfl, Nat.le_of_ble_eq_true rfl⟩) hK1 hP hD hS hA [0, 1, 2, 3, 4, 5, 6, 7, 8, 9] [10, 11, 12, 13, 14, 15, 16] rfl rfl rfl (by decide) (by decide) (by decide) rfl rfl rfl hl.1 rfl (Nat.le_of_ble_eq_true rfl) dL_law_132 ⟨Nat.le_refl _, Nat.le_refl _⟩ (fun z1 u H locs hz1 hP hD hS => ?_)
    obtain ⟨n1, hc1, cn1, L1, B1, W1, H1, F1, G1, A1⟩ := u
    replace hP : va_P D vwCl ((MW bd dM dZ Cw Rw Ce Lf' Bt' Wd' Hg' Th) ++ (XW ad dB dN Cw Rw n1 hc1 cn1 L1 B1 W1 H1 F1 G1 A1 SS SH)) H := hP
    replace hD : va_D (fun q : Nat => s.heap.size ≤ q) ((MW bd dM dZ Cw Rw Ce Lf' Bt' Wd' Hg' Th) ++ (XW ad dB dN Cw Rw n1 hc1 cn1 L1 B1 W1 H1 F1 G1 A1 SS SH)) := hD
    refine lv_aload_n hx hb dL_law_135 rfl (lv_at hl 2 rfl) ?_
    refine lv_aload_n hx hb dL_law_136 rfl (lv_at hl 0 rfl) ?_
    refine lv_iload_n hx hb dL_law_137 rfl (lv_at hl 3 rfl) ?_
    refine ri_iconst hx hb dL_law_138 ?_
    refine ri_iadd hx hb dL_law_139 ?_
    refine la_sld hx hb hX hbl hbA hS hL (by omega) dL_law_140 ?_
    refine lv_aload_n hx hb dL_law_141 rfl (lv_at hl 0 rfl) ?_
    refine lv_iload_n hx hb dL_law_142 rfl (lv_at hl 3 rfl) ?_
    refine ri_iconst hx hb dL_law_143 ?_
    refine ri_iadd hx hb dL_law_144 ?_
    refine la_sld hx hb hX hbl hbA hS hL (by omega) dL_law_145 ?_
    refine lv_aload_n hx hb dL_law_146 rfl (lv_at hl 0 rfl) ?_
    refine lv_iload_n hx hb dL_law_147 rfl (lv_at hl 3 rfl) ?_
    refine ri_iconst hx hb dL_law_148 ?_
    refine ri_iadd hx hb dL_law_149 ?_
    refine la_sld hx hb hX hbl hbA hS hL (by omega) dL_law_150 ?_
    refine ri_if_eq (tgt := 158) hx hb dL_law_151 (by decide) (xz_rng xs _) (fun c151 => ?_) (fun c151 => absurd c151 (by omega))
    refine ri_iconst hx hb dL_law_158 ?_
    refine la_callI (rest := [.int (iI z1)]) (wr := (XW ad dB dN Cw Rw n1 hc1 cn1 L1 B1 W1 H1 F1 G1 A1 SS SH)) (ci := 1) (q0 := 0) (mx2_place l (xz xs (i + 1)) (xz xs (i + 2)) 0 hC hR hce (xz_rng xs _) (xz_rng xs _) (by omega) hth _) hx hb hml hown hts (cwV 3 hts (lw_V q242 q243 q244 q32 q245) rfl rfl rfl (by decide +kernel) ⟨Nat.le_of_ble_eq_true rfl, Nat.le_of_ble_eq_true rfl⟩) hK2 hP hD hS hA [0, 1, 2, 3, 4, 5, 6] [7, 8, 9, 10, 11, 12, 13, 14, 15, 16] rfl rfl rfl (by decide) (by decide) (by decide) rfl rfl rfl hl.1 rfl (Nat.le_of_ble_eq_true rfl) dL_law_159 ⟨Nat.le_refl _, Nat.le_refl _⟩ (fun z2 u H locs hz2 hP hD hS => ?_)
    obtain ⟨E2, L2, B2, W2, H2, T2⟩ := u
    replace hP : va_P D vwCl ((XW ad dB dN Cw Rw n1 hc1 cn1 L1 B1 W1 H1 F1 G1 A1 SS SH) ++ (MW bd dM dZ Cw Rw E2 L2 B2 W2 H2 T2)) H := hP
    replace hD : va_D (fun q : Nat => s.heap.size ≤ q) ((XW ad dB dN Cw Rw n1 hc1 cn1 L1 B1 W1 H1 F1 G1 A1 SS SH) ++ (MW bd dM dZ Cw Rw E2 L2 B2 W2 H2 T2)) := hD
    obtain ⟨ez, lh2, hI2⟩ := place_op hI hz1 hz2
    refine lv_icmp_eq (tgt := 354) hx hb dL_law_162 (by decide) (fun _ => ?_) (fun h9 => absurd (congrArg iI (ez)) h9)
    exact kn n1 hc1 cn1 L1 B1 W1 H1 F1 G1 A1 SS SH lh2 E2 L2 B2 W2 H2 T2 H locs ls hI2 hP hD hS hl
  · refine ri_iconst hx hb dL_law_127 ?_
    refine lv_goto (tgt := 132) hx hb dL_law_128 (by decide) ?_
    refine la_callI (rest := []) (wr := (MW bd dM dZ Cw Rw Ce Lf' Bt' Wd' Hg' Th)) (ci := 0) (q0 := 0) (mx1_place l (xz xs (i + 1)) (xz xs (i + 2)) 1 hC hR (xz_rng xs _) (xz_rng xs _) (by omega) (inv_n hI) (inv_free hI) iF.1 b3 lh iH.1 iH.2.1 iH.2.2.2.1 (inv_box hI) (inv_fit hI) _) hx hb hml hown hts (cwV 3 hts (lw_V q94 q95 q96 q31 q97) rfl rfl rfl (by decide +kernel) ⟨Nat.le_of_ble_eq_true rfl, Nat.le_of_ble_eq_true rfl⟩) hK1 hP hD hS hA [0, 1, 2, 3, 4, 5, 6, 7, 8, 9] [10, 11, 12, 13, 14, 15, 16] rfl rfl rfl (by decide) (by decide) (by decide) rfl rfl rfl hl.1 rfl (Nat.le_of_ble_eq_true rfl) dL_law_132 ⟨Nat.le_refl _, Nat.le_refl _⟩ (fun z1 u H locs hz1 hP hD hS => ?_)
    obtain ⟨n1, hc1, cn1, L1, B1, W1, H1, F1, G1, A1⟩ := u
    replace hP : va_P D vwCl ((MW bd dM dZ Cw Rw Ce Lf' Bt' Wd' Hg' Th) ++ (XW ad dB dN Cw Rw n1 hc1 cn1 L1 B1 W1 H1 F1 G1 A1 SS SH)) H := hP
    replace hD : va_D (fun q : Nat => s.heap.size ≤ q) ((MW bd dM dZ Cw Rw Ce Lf' Bt' Wd' Hg' Th) ++ (XW ad dB dN Cw Rw n1 hc1 cn1 L1 B1 W1 H1 F1 G1 A1 SS SH)) := hD
    refine lv_aload_n hx hb dL_law_135 rfl (lv_at hl 2 rfl) ?_
    refine lv_aload_n hx hb dL_law_136 rfl (lv_at hl 0 rfl) ?_
    refine lv_iload_n hx hb dL_law_137 rfl (lv_at hl 3 rfl) ?_
    refine ri_iconst hx hb dL_law_138 ?_
    refine ri_iadd hx hb dL_law_139 ?_
    refine la_sld hx hb hX hbl hbA hS hL (by omega) dL_law_140 ?_
    refine lv_aload_n hx hb dL_law_141 rfl (lv_at hl 0 rfl) ?_
    refine lv_iload_n hx hb dL_law_142 rfl (lv_at hl 3 rfl) ?_
    refine ri_iconst hx hb dL_law_143 ?_
    refine ri_iadd hx hb dL_law_144 ?_
    refine la_sld hx hb hX hbl hbA hS hL (by omega) dL_law_145 ?_
    refine lv_aload_n hx hb dL_law_146 rfl (lv_at hl 0 rfl) ?_
    refine lv_iload_n hx hb dL_law_147 rfl (lv_at hl 3 rfl) ?_
    refine ri_iconst hx hb dL_law_148 ?_
    refine ri_iadd hx hb dL_law_149 ?_
    refine la_sld hx hb hX hbl hbA hS hL (by omega) dL_law_150 ?_
    refine ri_if_eq (tgt := 158) hx hb dL_law_151 (by decide) (xz_rng xs _) (fun c151 => absurd c151 (by omega)) (fun c151 => ?_)
    refine ri_iconst hx hb dL_law_154 ?_
    refine lv_goto (tgt := 159) hx hb dL_law_155 (by decide) ?_
    refine la_callI (rest := [.int (iI z1)]) (wr := (XW ad dB dN Cw Rw n1 hc1 cn1 L1 B1 W1 H1 F1 G1 A1 SS SH)) (ci := 1) (q0 := 0) (mx2_place l (xz xs (i + 1)) (xz xs (i + 2)) 1 hC hR hce (xz_rng xs _) (xz_rng xs _) (by omega) hth _) hx hb hml hown hts (cwV 3 hts (lw_V q242 q243 q244 q32 q245) rfl rfl rfl (by decide +kernel) ⟨Nat.le_of_ble_eq_true rfl, Nat.le_of_ble_eq_true rfl⟩) hK2 hP hD hS hA [0, 1, 2, 3, 4, 5, 6] [7, 8, 9, 10, 11, 12, 13, 14, 15, 16] rfl rfl rfl (by decide) (by decide) (by decide) rfl rfl rfl hl.1 rfl (Nat.le_of_ble_eq_true rfl) dL_law_159 ⟨Nat.le_refl _, Nat.le_refl _⟩ (fun z2 u H locs hz2 hP hD hS => ?_)
    obtain ⟨E2, L2, B2, W2, H2, T2⟩ := u
    replace hP : va_P D vwCl ((XW ad dB dN Cw Rw n1 hc1 cn1 L1 B1 W1 H1 F1 G1 A1 SS SH) ++ (MW bd dM dZ Cw Rw E2 L2 B2 W2 H2 T2)) H := hP
    replace hD : va_D (fun q : Nat => s.heap.size ≤ q) ((XW ad dB dN Cw Rw n1 hc1 cn1 L1 B1 W1 H1 F1 G1 A1 SS SH) ++ (MW bd dM dZ Cw Rw E2 L2 B2 W2 H2 T2)) := hD
    obtain ⟨ez, lh2, hI2⟩ := place_op hI hz1 hz2
    refine lv_icmp_eq (tgt := 354) hx hb dL_law_162 (by decide) (fun _ => ?_) (fun h9 => absurd (congrArg iI (ez)) h9)
    exact kn n1 hc1 cn1 L1 B1 W1 H1 F1 G1 A1 SS SH lh2 E2 L2 B2 W2 H2 T2 H locs ls hI2 hP hD hS hl
theorem la_tail {p : Program} {l : Launch} {e : Env} {s : State} {m : MethodId} {below : List Frame} {meth : Method} {c : Code} {D : va_G} {b L : Nat} {xs : Nat → Int32} {ad bd : Nat → Nat} {dB dN dM dZ : ClassId} {Cw Rw : Int} (hL : L ≤ 258) (C0 : lw_At p s m meth c b L xs) {i : Int} (kn : HdAt p l e s m below meth c D b ad bd dB dN dM dZ Cw Rw 38 (i + 4)) : HdAt p l e s m below meth c D b ad bd dB dN dM dZ Cw Rw 354 i := by
  intro n hc cn Lf Bt Wd Hg FB HO CA SS SH lh Ce Lf' Bt' Wd' Hg' Th H locs ls hI hP hD hS hl
  obtain ⟨hx, hb, hr, hml, hown, hts0, hX, hbl, hlocks, hgv⟩ := C0
  refine ri_iinc (k := 3) (lv' := [(3, .int (iI (i + 4))), (0, .ref b), (1, .ref (ad 0)), (2, .ref (bd 0))]) hx hb dL_law_354 hl rfl (by decide) rfl (fun ls hl => ?_)
  refine lv_goto (tgt := 38) hx hb dL_law_357 (by decide) ?_
  exact kn n hc cn Lf Bt Wd Hg FB HO CA SS SH lh Ce Lf' Bt' Wd' Hg' Th H locs ls hI hP hD hS (lv_sub hl [1, 2, 3, 0] rfl)
theorem la_head {p : Program} {l : Launch} {e : Env} {s : State} {m : MethodId} {below : List Frame} {meth : Method} {c : Code} {D : va_G} {b L : Nat} {xs : Nat → Int32} {ad bd : Nat → Nat} {dB dN dM dZ : ClassId} {Cw Rw : Int} (hL : L ≤ 258) (C0 : lw_At p s m meth c b L xs) {i : Int} (hi : 2 ≤ i ∧ i ≤ 1000) (kn : i + 4 ≤ (L : Int) → HdAt p l e s m below meth c D b ad bd dB dN dM dZ Cw Rw 46 i) : HdAt p l e s m below meth c D b ad bd dB dN dM dZ Cw Rw 38 i := by
  intro n hc cn Lf Bt Wd Hg FB HO CA SS SH lh Ce Lf' Bt' Wd' Hg' Th H locs ls hI hP hD hS hl
  obtain ⟨hx, hb, hr, hml, hown, hts0, hX, hbl, hlocks, hgv⟩ := C0
  have hbA : ¬ (fun q : Nat => s.heap.size ≤ q) b := Nat.not_le.mpr hbl
  refine lv_iload_n hx hb dL_law_38 rfl (lv_at hl 3 rfl) ?_
  refine lv_aload_n hx hb dL_law_39 rfl (lv_at hl 0 rfl) ?_
  refine la_slen hx hb hX hbl hbA hS dL_law_40 ?_
  refine ri_iconst hx hb dL_law_41 ?_
  refine ri_isub hx hb dL_law_42 ?_
  refine ri_icmp_gt (tgt := 360) hx hb dL_law_43 (by decide) (by omega) (by omega) (fun c1 => ?_) (fun c1 => ?_)
  · refine lv_iconst (v := 1) hx hb dL_law_360 (by decide) ?_
    refine va_forget (fun q hq => hS.2.2 q hq) ?_
    exact lw_ret hx hb hr hlocks dL_law_361
  · exact kn (by omega) n hc cn Lf Bt Wd Hg FB HO CA SS SH lh Ce Lf' Bt' Wd' Hg' Th H locs ls hI hP hD hS hl
set_option maxHeartbeats 4000000 in
set_option maxRecDepth 100000 in
theorem la_switch {p : Program} {l : Launch} {e : Env} {s : State} {m : MethodId} {below : List Frame} {meth : Method} {c : Code} {D : va_G} {b L : Nat} {xs : Nat → Int32} {ad bd : Nat → Nat} {dB dN dM dZ : ClassId} {Cw Rw : Int} (hL : L ≤ 258) (C0 : lw_At p s m meth c b L xs) (hK1 : va_K D vwCl (tX dB dN) s) (hK2 : va_K D vwCl (tM dM dZ) s) {i : Int} (hi : 2 ≤ i ∧ i + 4 ≤ (L : Int)) (kn : HdAt p l e s m below meth c D b ad bd dB dN dM dZ Cw Rw 354 i) : HdAt p l e s m below meth c D b ad bd dB dN dM dZ Cw Rw 46 i := by
  have C1 := C0
  intro n hc cn Lf Bt Wd Hg FB HO CA SS SH lh Ce Lf' Bt' Wd' Hg' Th H locs ls hI hP hD hS hl
  obtain ⟨hx, hb, hr, hml, hown, hts0, hX, hbl, hlocks, hgv⟩ := C0
  have hbA : ¬ (fun q : Nat => s.heap.size ≤ q) b := Nat.not_le.mpr hbl
  refine lv_aload_n hx hb dL_law_46 rfl (lv_at hl 0 rfl) ?_
  refine lv_iload_n hx hb dL_law_47 rfl (lv_at hl 3 rfl) ?_
  refine la_sld hx hb hX hbl hbA hS hL (by omega) dL_law_48 ?_
  refine ri_bipush hx hb dL_law_49 (by decide +kernel) ?_
  refine lv_iand hx hb dL_law_51 ?_
  obtain ⟨z, hz0, hz1, ez⟩ := sh_andx (iI (xz xs i)) 4 (iI 15) (by decide +kernel)
  refine ri_top ez ?_
  replace hz1 : z < 16 := hz1
  by_cases c0 : 9 < z
  · refine lv_tableOut (tgt := 354) hx hb dL_law_52 (Or.inr (by rw [iI_toInt (by omega)]; omega)) (by decide) ?_
    exact kn n hc cn Lf Bt Wd Hg FB HO CA SS SH lh Ce Lf' Bt' Wd' Hg' Th H locs ls hI hP hD hS hl
  rcases (show z = 0 ∨ z = 1 ∨ z = 2 ∨ z = 3 ∨ z = 4 ∨ z = 5 ∨ z = 6 ∨ z = 7 ∨ z = 8 ∨ z = 9 by omega) with rfl | rfl | rfl | rfl | rfl | rfl | rfl | rfl | rfl | rfl
  · refine lv_tableIn (off := 56) (tgt := 108) hx hb dL_law_52 (by decide +kernel) (by decide +kernel) (by decide +kernel) (by decide) ?_
    exact la_place hL C1 hK1 hK2 hi kn n hc cn Lf Bt Wd Hg FB HO CA SS SH lh Ce Lf' Bt' Wd' Hg' Th H locs ls hI hP hD hS hl
  · refine lv_tableIn (off := 115) (tgt := 167) hx hb dL_law_52 (by decide +kernel) (by decide +kernel) (by decide +kernel) (by decide) ?_
    exact la_remove hL C1 hK1 hK2 hi kn n hc cn Lf Bt Wd Hg FB HO CA SS SH lh Ce Lf' Bt' Wd' Hg' Th H locs ls hI hP hD hS hl
  · refine lv_tableIn (off := 138) (tgt := 190) hx hb dL_law_52 (by decide +kernel) (by decide +kernel) (by decide +kernel) (by decide) ?_
    exact la_look hL C1 hK1 hK2 hi kn n hc cn Lf Bt Wd Hg FB HO CA SS SH lh Ce Lf' Bt' Wd' Hg' Th H locs ls hI hP hD hS hl
  · refine lv_tableIn (off := 171) (tgt := 223) hx hb dL_law_52 (by decide +kernel) (by decide +kernel) (by decide +kernel) (by decide) ?_
    exact la_owner hL C1 hK1 hK2 hi kn n hc cn Lf Bt Wd Hg FB HO CA SS SH lh Ce Lf' Bt' Wd' Hg' Th H locs ls hI hP hD hS hl
  · refine lv_tableIn (off := 204) (tgt := 256) hx hb dL_law_52 (by decide +kernel) (by decide +kernel) (by decide +kernel) (by decide) ?_
    exact la_free hL C1 hK1 hK2 hi kn n hc cn Lf Bt Wd Hg FB HO CA SS SH lh Ce Lf' Bt' Wd' Hg' Th H locs ls hI hP hD hS hl
  · refine lv_tableIn (off := 217) (tgt := 269) hx hb dL_law_52 (by decide +kernel) (by decide +kernel) (by decide +kernel) (by decide) ?_
    exact la_holes hL C1 hK1 hK2 hi kn n hc cn Lf Bt Wd Hg FB HO CA SS SH lh Ce Lf' Bt' Wd' Hg' Th H locs ls hI hP hD hS hl
  · refine lv_tableIn (off := 230) (tgt := 282) hx hb dL_law_52 (by decide +kernel) (by decide +kernel) (by decide +kernel) (by decide) ?_
    exact la_largest hL C1 hK1 hK2 hi kn n hc cn Lf Bt Wd Hg FB HO CA SS SH lh Ce Lf' Bt' Wd' Hg' Th H locs ls hI hP hD hS hl
  · refine lv_tableIn (off := 243) (tgt := 295) hx hb dL_law_52 (by decide +kernel) (by decide +kernel) (by decide +kernel) (by decide) ?_
    exact la_best hL C1 hK1 hK2 hi kn n hc cn Lf Bt Wd Hg FB HO CA SS SH lh Ce Lf' Bt' Wd' Hg' Th H locs ls hI hP hD hS hl
  · refine lv_tableIn (off := 276) (tgt := 328) hx hb dL_law_52 (by decide +kernel) (by decide +kernel) (by decide +kernel) (by decide) ?_
    exact la_fit hL C1 hK1 hK2 hi kn n hc cn Lf Bt Wd Hg FB HO CA SS SH lh Ce Lf' Bt' Wd' Hg' Th H locs ls hI hP hD hS hl
  · refine lv_tableIn (off := 289) (tgt := 341) hx hb dL_law_52 (by decide +kernel) (by decide +kernel) (by decide +kernel) (by decide) ?_
    exact la_clear hL C1 hK1 hK2 hi kn n hc cn Lf Bt Wd Hg FB HO CA SS SH lh Ce Lf' Bt' Wd' Hg' Th H locs ls hI hP hD hS hl
theorem la_loop {p : Program} {l : Launch} {e : Env} {s : State} {m : MethodId} {below : List Frame} {meth : Method} {c : Code} {D : va_G} {b L : Nat} {xs : Nat → Int32} {ad bd : Nat → Nat} {dB dN dM dZ : ClassId} {Cw Rw : Int} (hL : L ≤ 258) (C0 : lw_At p s m meth c b L xs) (hK1 : va_K D vwCl (tX dB dN) s) (hK2 : va_K D vwCl (tM dM dZ) s) : ∀ (N : Nat) (i : Int), 2 ≤ i → i ≤ 600 → (L : Int) ≤ i + (N : Int) → HdAt p l e s m below meth c D b ad bd dB dN dM dZ Cw Rw 38 i := by
  intro N
  induction N with
  | zero =>
    intro i h1 h2 h3
    exact la_head hL C0 (by omega) (fun h => absurd h (by omega))
  | succ N ih =>
    intro i h1 h2 h3
    refine la_head hL C0 (by omega) (fun h => ?_)
    exact la_switch hL C0 hK1 hK2 ⟨h1, h⟩ (la_tail hL C0 (ih (i + 4) (by omega) (by omega) (by omega)))
end
section
set_option maxHeartbeats 4000000 in
set_option maxRecDepth 100000 in
/-- the law, from its entry -/
theorem whole_start {p : Program} {e : Env} {s : State} {m : MethodId} {below : List Frame} {meth : Method} {c : Code} (l : Launch) {b L : Nat} {xs : Nat → Int32} (hL : L ≤ 258) (C0 : lw_At p s m meth c b L xs) : W p l e room_1 s m #[Value.ref b] below meth c s.heap [] 0 0 (lw_Z below #[Value.ref b] s) (entryFrame m ([Value.ref b] : List Value).toArray 4) := by
  obtain ⟨hx, hb, hr, hml, hown, hts0, hX, hbl, hlocks, hgv⟩ := id C0
  have hts : ∀ w ∈ lw_all, w.before #[Value.ref b] s = true := fun w h => hts0 w (lw_all_tbl h)
  have hA : ∀ q : Nat, s.heap.size ≤ q → (fun q : Nat => s.heap.size ≤ q) q := fun _ h => h
  have hbA : ¬ (fun q : Nat => s.heap.size ≤ q) b := Nat.not_le.mpr hbl
  obtain ⟨c0, iS0, hKn0⟩ := u_known (C := RX1) (T := TX1) (N := 14) (n := 14) hts in_X1 (hts _ q34)
  obtain ⟨c1, iS1, hKn1⟩ := u_known (C := RX2) (T := TX2) (N := 8) (n := 8) hts in_X2 (hts _ q211)
  obtain ⟨D, hKc⟩ : ∃ D : va_G, ∀ (k : Nat) (q : vw_C), vwCl[k]? = some q → u_Kn s q.1 q.2.1 q.2.2 (D.1 k) (D.2 k) := by
    refine ⟨(fun k => if k = 0 then c0 else c1, fun k => if k = 0 then iS0 else iS1), ?_⟩
    intro k q hq
    match k, hq with
    | 0, hq => cases hq; exact hKn0
    | 1, hq => cases hq; exact hKn1
    | k + 2, hq => simp [vwCl] at hq
  have hS : va_S (fun q : Nat => s.heap.size ≤ q) s.heap s.heap [] := va_S.rf
  have hK : va_K D vwCl [] s := ⟨hKc, fun k q h => by simp at h⟩
  have hP : va_P D vwCl [] s.heap := fun k q h => by simp at h
  have hD : va_D (fun q : Nat => s.heap.size ≤ q) [] := ⟨fun i j p q h => by simp at h, fun k q h => by simp at h⟩
  have hl := lv_entry ([.ref b]) (n := 4) (Nat.le_of_ble_eq_true rfl)
  rw [lg_entry_eq]
  generalize (lg_sl ([.ref b]) ++ List.replicate (4 - (lg_sl ([.ref b])).length) Slot.unset).toArray = ls at hl ⊢
  have hl : lv_has ls 4 [(0, .ref b)] := hl
  refine va_new (ci := 0) (fs := [.int (iI 0), .int (iI 0), .int (iI 0), .null, .null, .null, .null, .null, .int (iI 0), .null, .int (iI 0), .null, .null, .null]) (C := RX1) (T := TX1) (N := 14) hx hb hts in_X1 tyX1 tyX1_ok hown (hts _ q33) (hts _ q34) (hts _ q31) hK hP hD hS hA rfl (fun j hj => by rcases (show j = 0 ∨ j = 1 ∨ j = 2 ∨ j = 3 ∨ j = 4 ∨ j = 5 ∨ j = 6 ∨ j = 7 ∨ j = 8 ∨ j = 9 ∨ j = 10 ∨ j = 11 ∨ j = 12 ∨ j = 13 by omega) with rfl | rfl | rfl | rfl | rfl | rfl | rfl | rfl | rfl | rfl | rfl | rfl | rfl | rfl <;> rfl) (Nat.le_of_ble_eq_true rfl) (Nat.le_of_ble_eq_true rfl) dL_law_0 (fun q0 H hP hD hS => ?_)
  replace hP : va_P D vwCl (x0W q0) H := hP
  replace hD : va_D (fun q : Nat => s.heap.size ≤ q) (x0W q0) := hD
  refine W.widen (k := 1) (n := 14) (by omega) (by omega) ?_
  refine lv_dup hx hb dL_law_3 rfl ?_
  refine lv_aload_n hx hb dL_law_4 rfl (lv_at hl 0 rfl) ?_
  refine ri_iconst hx hb dL_law_5 ?_
  refine la_cell hx hb hml hown hts hX hbl hbA hS hL (by omega) hl.1 (Nat.le_of_ble_eq_true rfl) dL_law_6 ⟨Nat.le_of_ble_eq_true rfl, Nat.le_of_ble_eq_true rfl⟩ ?_
  refine lv_aload_n hx hb dL_law_9 rfl (lv_at hl 0 rfl) ?_
  refine ri_iconst hx hb dL_law_10 ?_
  refine la_cell hx hb hml hown hts hX hbl hbA hS hL (by omega) hl.1 (Nat.le_of_ble_eq_true rfl) dL_law_11 ⟨Nat.le_of_ble_eq_true rfl, Nat.le_of_ble_eq_true rfl⟩ ?_
  have hPc := hP.sub (ws' := x0W q0) [0] rfl
  have hDc := hD.sub (ws' := x0W q0) [0] (by decide) rfl
  have hFc := va_free (wc := x0W q0) hD hS hA [0] rfl
  refine va_callv (va_runI (As := [.int (iI (cz xs L 0)), .int (iI (cz xs L 1))]) (rest := [.ref q0]) ⟨hx, hb, hml, hown, hts⟩ (mx1_init l (cz xs L 0) (cz xs L 1) (cz_rng xs L 0) (cz_rng xs L 1) H.size) (cwI 2 hts (lw_meth q37) rfl rfl rfl (hts _ q31) (hts _ q35) (hts _ q36) rfl (by decide +kernel) ⟨Nat.le_of_ble_eq_true rfl, Nat.le_of_ble_eq_true rfl⟩) ⟨blindW, fun U hU hW => ⟨rfl, by rw [hU], by rw [hU]; exact hPc, va_K.moved hW.alike hK, hDc.weaken (fun _ _ _ _ => trivial)⟩⟩ rfl rfl hl.1 rfl (lv_room (Nat.le_of_ble_eq_true rfl)) dL_law_14 ⟨Nat.le_of_ble_eq_true rfl, Nat.le_of_ble_eq_true rfl⟩) hS (fun q _ h => hFc q h) hFc (fun u t H1 locs ht hvm hw hB hz1 hk1 hS => ?_)
  obtain ⟨ad, dB, dN, W', F', B'⟩ := u
  obtain ⟨hP1, hK1, hD1⟩ := hB
  rw [ht] at hP1
  replace hK1 : va_K D vwCl (tX dB dN) s := va_K.moved hvm.symm hK1
  obtain ⟨hP9, hD9⟩ := va_join (wr := []) hP hD [0] [] rfl rfl (by decide) (by decide) hk1 hFc hP1 hD1
  obtain ⟨ea, hw1, hw2, hw3, hw4⟩ := hw
  subst ea
  clear hPc hDc hFc hP1 hD1 hk1 hz1 ht hvm
  replace hP : va_P D vwCl (XW ad dB dN (clampW (cz xs L 0)) (clampW (cz xs L 1)) 0 1 0 (fun _ => 0) (fun _ => 0) W' (fun _ => 0) F' B' (fun _ => 0) (fun _ => 0) (fun _ => 0)) H1 := hP9
  replace hD : va_D (fun q : Nat => s.heap.size ≤ q) (XW ad dB dN (clampW (cz xs L 0)) (clampW (cz xs L 1)) 0 1 0 (fun _ => 0) (fun _ => 0) W' (fun _ => 0) F' B' (fun _ => 0) (fun _ => 0) (fun _ => 0)) := hD9
  refine W.widen (k := 10) (n := 1424) (by omega) (by omega) ?_
  refine lv_astore_n (lv' := [(1, .ref (ad 0)), (0, .ref b)]) hx hb dL_law_17 rfl hl (by decide) rfl (fun ls hl => ?_)
  refine va_new (ci := 1) (fs := [.int (iI 0), .int (iI 0), .null, .null, .null, .null, .null, .null]) (C := RX2) (T := TX2) (N := 8) hx hb hts in_X2 tyX2 tyX2_ok hown (hts _ q210) (hts _ q211) (hts _ q32) hK hP hD hS hA rfl (fun j hj => by rcases (show j = 0 ∨ j = 1 ∨ j = 2 ∨ j = 3 ∨ j = 4 ∨ j = 5 ∨ j = 6 ∨ j = 7 by omega) with rfl | rfl | rfl | rfl | rfl | rfl | rfl | rfl <;> rfl) (Nat.le_of_ble_eq_true rfl) (Nat.le_of_ble_eq_true rfl) dL_law_18 (fun q1 H hP hD hS => ?_)
  replace hP : va_P D vwCl (XW ad dB dN (clampW (cz xs L 0)) (clampW (cz xs L 1)) 0 1 0 (fun _ => 0) (fun _ => 0) W' (fun _ => 0) F' B' (fun _ => 0) (fun _ => 0) (fun _ => 0) ++ m0W q1) H := hP
  replace hD : va_D (fun q : Nat => s.heap.size ≤ q) (XW ad dB dN (clampW (cz xs L 0)) (clampW (cz xs L 1)) 0 1 0 (fun _ => 0) (fun _ => 0) W' (fun _ => 0) F' B' (fun _ => 0) (fun _ => 0) (fun _ => 0) ++ m0W q1) := hD
  refine W.widen (k := 11) (n := 1432) (by omega) (by omega) ?_
  refine lv_dup hx hb dL_law_21 rfl ?_
  refine lv_aload_n hx hb dL_law_22 rfl (lv_at hl 1 rfl) ?_
  refine ri_iconst hx hb dL_law_23 ?_
  refine la_cell hx hb hml hown hts hX hbl hbA hS hL (by omega) hl.1 (Nat.le_of_ble_eq_true rfl) dL_law_24 ⟨Nat.le_of_ble_eq_true rfl, Nat.le_of_ble_eq_true rfl⟩ ?_
  refine lv_aload_n hx hb dL_law_27 rfl (lv_at hl 1 rfl) ?_
  refine ri_iconst hx hb dL_law_28 ?_
  refine la_cell hx hb hml hown hts hX hbl hbA hS hL (by omega) hl.1 (Nat.le_of_ble_eq_true rfl) dL_law_29 ⟨Nat.le_of_ble_eq_true rfl, Nat.le_of_ble_eq_true rfl⟩ ?_
  have hPc := hP.sub (ws' := m0W q1) [10] rfl
  have hDc := hD.sub (ws' := m0W q1) [10] (by decide) rfl
  have hFc := va_free (wc := m0W q1) hD hS hA [10] rfl
  refine va_callv (va_runI (As := [.int (iI (cz xs L 0)), .int (iI (cz xs L 1))]) (rest := [.ref q1]) ⟨hx, hb, hml, hown, hts⟩ (mx2_init l (cz xs L 0) (cz xs L 1) (cz_rng xs L 0) (cz_rng xs L 1) H.size) (cwI 2 hts (lw_meth q214) rfl rfl rfl (hts _ q32) (hts _ q212) (hts _ q213) rfl (by decide +kernel) ⟨Nat.le_of_ble_eq_true rfl, Nat.le_of_ble_eq_true rfl⟩) ⟨blindW, fun U hU hW => ⟨rfl, by rw [hU], by rw [hU]; exact hPc, va_K.moved hW.alike hK, hDc.weaken (fun _ _ _ _ => trivial)⟩⟩ rfl rfl hl.1 rfl (lv_room (Nat.le_of_ble_eq_true rfl)) dL_law_32 ⟨Nat.le_of_ble_eq_true rfl, Nat.le_of_ble_eq_true rfl⟩) hS (fun q _ h => hFc q h) hFc (fun u t H1 locs ht hvm hw hB hz1 hk1 hS => ?_)
  obtain ⟨bd, dM, dZ, E'⟩ := u
  obtain ⟨hP1, hK2, hD1⟩ := hB
  rw [ht] at hP1
  replace hK2 : va_K D vwCl (tM dM dZ) s := va_K.moved hvm.symm hK2
  obtain ⟨hP9, hD9⟩ := va_join (wr := XW ad dB dN (clampW (cz xs L 0)) (clampW (cz xs L 1)) 0 1 0 (fun _ => 0) (fun _ => 0) W' (fun _ => 0) F' B' (fun _ => 0) (fun _ => 0) (fun _ => 0)) hP hD [10] [0, 1, 2, 3, 4, 5, 6, 7, 8, 9] rfl rfl (by decide) (by decide) hk1 hFc hP1 hD1
  obtain ⟨eb, hm1⟩ := hw
  subst eb
  replace hP : va_P D vwCl (XW ad dB dN (clampW (cz xs L 0)) (clampW (cz xs L 1)) 0 1 0 (fun _ => 0) (fun _ => 0) W' (fun _ => 0) F' B' (fun _ => 0) (fun _ => 0) (fun _ => 0) ++ MW bd dM dZ (clampW (cz xs L 0)) (clampW (cz xs L 1)) E' (fun _ => 0) (fun _ => 0) (fun _ => 0) (fun _ => 0) (fun _ => 0)) H1 := hP9
  replace hD : va_D (fun q : Nat => s.heap.size ≤ q) (XW ad dB dN (clampW (cz xs L 0)) (clampW (cz xs L 1)) 0 1 0 (fun _ => 0) (fun _ => 0) W' (fun _ => 0) F' B' (fun _ => 0) (fun _ => 0) (fun _ => 0) ++ MW bd dM dZ (clampW (cz xs L 0)) (clampW (cz xs L 1)) E' (fun _ => 0) (fun _ => 0) (fun _ => 0) (fun _ => 0) (fun _ => 0)) := hD9
  refine W.widen (k := 600000) (n := 7290000) (Nat.le_of_ble_eq_true rfl) (Nat.le_of_ble_eq_true rfl) ?_
  refine lv_astore_n (lv' := [(2, .ref (bd 0)), (1, .ref (ad 0)), (0, .ref b)]) hx hb dL_law_35 rfl hl (by decide) rfl (fun ls hl => ?_)
  refine ri_iconst hx hb dL_law_36 ?_
  refine lv_istore_n (lv' := [(3, .int (iI 2)), (2, .ref (bd 0)), (1, .ref (ad 0)), (0, .ref b)]) hx hb dL_law_37 rfl hl (by decide) rfl (fun ls hl => ?_)
  have b0 : byt (fun _ => 0) := fun _ _ _ => show (0 : Int) ≤ 0 ∧ (0 : Int) < 128 from ⟨by decide, by decide⟩
  exact la_loop hL C0 hK1 hK2 L 2 (by omega) (by omega) (by omega) 0 1 0 (fun _ => 0) (fun _ => 0) W' (fun _ => 0) F' B' (fun _ => 0) (fun _ => 0) (fun _ => 0) [pk 0 0 (clampW (cz xs L 0)) (clampW (cz xs L 1))] E' (fun _ => 0) (fun _ => 0) (fun _ => 0) (fun _ => 0) (fun _ => 0) H1 locs ls (clear_inv (clampW_rng _) (clampW_rng _) b0 b0 b0 hw1 hw2 (fun j a _ => by rw [hw3 j a]; omega) hw4 hm1 (fun _ _ _ => rfl)) hP hD hS (lv_sub hl [3, 2, 1, 0] rfl)
set_option maxHeartbeats 4000000 in
theorem lw_walk (l : Launch) (b : Addr) (xs : List Int32) : MetFree l x (headSpec (Jvm.Cond.code x code maxLocals ret :: tables_1) room_1) (lw_P b xs) (fun _ _ _ _ _ => True) lw_Q := by
  refine MetFree.of_bodyS (code := code) (maxLocals := maxLocals) (ret := ret) (by decide) ?_ ?_
  · intro args s m h hn
    obtain ⟨meth, c, h1, h2, h3, h4, h5, h6, -, -⟩ := Cond.code_spec hn (atoms_spec (ws := Jvm.Cond.code x code maxLocals ret :: tables_1) h _ List.mem_cons_self)
    exact ⟨meth, c, h1, h2, h3, h4, h5, h6⟩
  · intro p e s m args below meth c s₁ B hml0 hP _
    obtain ⟨rfl, hx, hbd, hgv⟩ := hP
    obtain ⟨scr, harrAt, hlist, hof, hsmall⟩ := hx
    obtain ⟨hcb, hkn, -, -⟩ := State.arrayAt?_spec harrAt
    have hown : s.vm.findClass R_law = some m.cls := findClass_of_methodNamed B.named
    have hts0 : ∀ c ∈ (Jvm.Cond.code x code maxLocals ret :: tables_1), c.before #[Value.ref b] s = true := atoms_spec (ws := Jvm.Cond.code x code maxLocals ret :: tables_1) B.pre
    have hts : ∀ w ∈ lw_tbl, w.before #[Value.ref b] s = true := k2_hts_sels lw_privs (fun w hw => hts0 w (List.mem_cons_of_mem _ hw)) lw_privs_ok
    have hml : c.maxLocals = 4 := B.maxLocals_eq (hts0 _ List.mem_cons_self)
    have X₀ : Stand p l e room_1 s m #[Value.ref b] below meth c s₁ [] 0 0 := Stand.of_body B
    have hh0 : s₁.heap = s.heap := by rw [B.state]; rfl
    have hsz : scr.slots.size = xs.length := by rw [← Array.length_toList, hlist, List.length_map]
    have hval : ∀ j : Nat, j < xs.length → scr.slots[j]? = some (.int (xs.getD j 0)) := fun j hj => by
      rw [← Array.getElem?_toList, hlist]
      simp [hj]
    have hbl : b < s.heap.size := (Array.getElem?_eq_some_iff.mp hcb).1
    have hX : va_X b xs.length (fun j => xs.getD j 0) s s.heap := ⟨scr, hcb, hof, hkn, hsz, hval⟩
    have K : W p l e room_1 s m #[Value.ref b] below meth c s₁.heap [] 0 0 (lw_Z below #[Value.ref b] s) (entryFrame m ([Value.ref b] : List Value).toArray 4) := by
      rw [hh0]
      exact whole_start l hbd ⟨B.exec, B.bytes, B.returns, hml, hown, hts, hX, hbl, B.notSynchronized, hgv⟩
    obtain ⟨t, a1, o, b1, b2, b3⟩ := K s₁ rfl X₀
    exact ⟨t, o, a1, b1, b2, b3⟩
theorem lw_pre_spec {args : Array Value} {s : State} (h : (Jvm.Cond.and given_1 narrow_1).before args s = true) (hr : rest_1_c.before args s = true) : ∃ (b : Addr) (xs : List Int32), lw_P b xs args s := by
  have hs := flat_of_before _ h
  have hq := flat_of_before _ hr
  have hc : (Cond.count 1).before args s = true := hs _ (by decide +kernel)
  have harr : (Cond.arrayOf (.arg 0) .int).before args s = true := hs _ (by decide +kernel)
  have hle : (Cond.le (.length (.arg 0)) (.int 258)).before args s = true := hs _ (by decide +kernel)
  have hlen : (Cond.isInt (.length (.arg 0))).before args s = true := hq _ (by decide +kernel)
  have hall : (Cond.all (.arg 0) (.isInt (.elem (.arg 0) (.index 0)))).before args s = true := hq _ (by decide +kernel)
  obtain ⟨b, xs, hb, hx⟩ := State.ints_of_pre rfl harr hlen hall
  have hsm : xs.length < 2 ^ 31 := hx.choose_spec.2.2.2
  have hev : (Term.length (.arg 0)).eval args s none [] s = some (.int xs.length.toInt32) := hx.length_eval hb
  have hv := Cond.le_ints hev (show (Term.int 258).eval args s none [] s = some (.int 258) from rfl)
  have hd : xs.length.toInt32 ≤ 258 := by
    simpa [Cond.before, Cond.holds, hv] using hle
  have hN : xs.length ≤ 258 := (Int32.ofNat_le_ofNat hsm (by decide)).mp (show Int32.ofNat xs.length ≤ Int32.ofNat 258 from hd)
  exact ⟨b, xs, Cond.one_arg hc (show args[0]? = some (.ref b) from hb), hx, hN, h⟩
theorem lw_comes (l : Launch) : Comes l x (Jvm.Cond.code x code maxLocals ret :: tables_1) room_1 (fun tb e args s => Calls_1 tb e args s ∧ rest_1 tb e args s ∧ Pre_1 tb e args s)
    (fun _ _ args s o t => lw_Q args s o t) := by
  intro p e ha hc hk s m args below hf hfit hheap happ hpre
  obtain ⟨b, xs, hP⟩ := lw_pre_spec hpre.2.2 hpre.2.1
  obtain ⟨k, o, h1, h2, h3, hQ⟩ := lw_walk l b xs p e ha hc hk s m args below hf ((Spec.applies_iff_loose hf).mp happ).1 hP trivial
  exact ⟨k, o, h1, h2, h3, hQ⟩
theorem lw_frame {s t : State} {o : Outcome} {args : Array Value} (h : Framed s o t [] 600000 7290000) :
    Framed s o t (fieldLocs frame_1_writes args s ++ arrayLocs frame_1_arrays args s ++ staticLocs frame_1_statics s) 600000 7290000 := h
theorem lw_limb (L : Cond) (hL : ∀ (args : Array Value) (s t : State), L.after args s (.returned (some (.int 1))) t = true) :
    ArmFor flags0 classFile x code maxLocals ret World_1 tables_1 room_1 Calls_1 rest_1 Pre_1
      (fun tb e a s o t => postC L tb e a s o t ∧ Framed s o t (fieldLocs frame_1_writes a s ++ arrayLocs frame_1_arrays a s ++ staticLocs frame_1_statics s) 600000 7290000) := by
  intro l _ _ _ p e ha hc hk s m args below hf hfit hheap happ hpre
  obtain ⟨k, o, h1, h2, h3, rfl, hF⟩ := lw_comes l p e ha hc hk s m args below hf hfit hheap happ hpre
  exact ⟨k, _, h1, h2, h3, hL args s _, lw_frame hF⟩
theorem i_vc : Claimed_1_1 ∧ Claimed_1_2 := ⟨lw_limb limb_1_1 (fun args s t => by simp [limb_1_1, Cond.after, Cond.holds, Cond.value]), lw_limb limb_1_2 (fun args s t => Cond.after_iff.mpr (by
  first | (rw [show limb_1_2 = Cond.eq .result (.int 1) from rfl, Cond.eq_ints (x := 1) (y := 1) rfl rfl]; simp; done) | (simp [limb_1_2, Cond.value, Term.eval]; done)))⟩
end
